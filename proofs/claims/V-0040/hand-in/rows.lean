section
/-! pure rows to paste: stores, nI and lN arithmetic, masks, shifts, narrowing, branches by naturals (pk_le, pk_lt, pk_eq), loops (lp1 .. lp16: the measure of the state; rp1 ..: recursion), negatives. Take what you need -/
theorem pk_us {f : Nat → Int32} {k : Nat} {x : Int32} : upd f k x k = x := if_pos rfl
theorem pk_un {f : Nat → Int32} {k j : Nat} {x : Int32} (h : j ≠ k) : upd f k x j = f j := if_neg h
theorem pk_uLs {f : Nat → Int64} {k : Nat} {x : Int64} : vp_updL f k x k = x := if_pos rfl
theorem pk_uLn {f : Nat → Int64} {k j : Nat} {x : Int64} (h : j ≠ k) : vp_updL f k x j = f j := if_neg h
theorem pk_sub {a b : Nat} (h : b ≤ a) : nI a - nI b = nI (a - b) := by
  obtain ⟨c, rfl⟩ : ∃ c, a = c + b := ⟨a - b, by omega⟩
  rw [← nI_add, Int32.add_sub_cancel, Nat.add_sub_cancel]
theorem pk_m1 (n : Nat) : nI (n + 1) + (-1) = nI n := by
  rw [← nI_1, Int32.add_assoc, show (1 : Int32) + (-1) = 0 from rfl, Int32.add_zero]
theorem pk_mul (a b : Nat) : nI a * nI b = nI (a * b) := (Int32.ofNat_mul a b).symm
theorem pk_div {a d : Nat} (ha : a < 2 ^ 31) (h0 : 0 < d) (hd : d < 2 ^ 31) : nI a / nI d = nI (a / d) := by
  apply Int32.toInt_inj.mp
  rw [lg_idiv_nonneg (by rw [nI_toInt ha]; omega) (by rw [nI_toInt hd]; omega), nI_toInt ha, nI_toInt hd, nI_toInt (Nat.lt_of_le_of_lt (Nat.div_le_self a d) ha)]
  first | rfl | exact (Int.natCast_ediv _ _).symm
theorem pk_rem {a d : Nat} (ha : a < 2 ^ 31) (h0 : 0 < d) (hd : d < 2 ^ 31) : nI a - nI a / nI d * nI d = nI (a % d) := by
  rw [pk_div ha h0 hd, pk_mul, pk_sub (Nat.div_mul_le_self a d)]
  exact congrArg nI (by have := Nat.div_add_mod' a d; omega)
theorem pk_sub_toInt {a b : Nat} (ha : a < 2 ^ 30) (hb : b < 2 ^ 30) : (nI a - nI b).toInt = (a : Int) - b := by
  rw [Int32.toInt_sub, nI_toInt (by omega), nI_toInt (by omega)]
  exact Int.bmod_eq_of_le (by omega) (by omega)
theorem pk_sneg {a b : Nat} (hb : b < 2 ^ 30) (h : a < b) : nI a - nI b < 0 := by
  rw [Int32.lt_iff_toInt_lt, pk_sub_toInt (by omega) hb, show (0 : Int32).toInt = 0 from by decide]
  omega
theorem pk_ix (x : Int32) {n : Nat} (hn : n < 2 ^ 31) : x < 0 ∨ nI n ≤ x ∨ ∃ j : Nat, j < n ∧ x = nI j := by
  by_cases h : x < 0
  · exact Or.inl h
  · obtain ⟨j, hj, rfl⟩ := nI_of h
    by_cases h2 : j < n
    · exact Or.inr (Or.inr ⟨j, h2, rfl⟩)
    · exact Or.inr (Or.inl (nI_le (by omega) hj))
theorem pk_le {x y : Int32} {A B : Prop} (a b : Nat) (f : a ≤ b → A) (g : b < a → B) (hx : x = nI a := by rfl) (hy : y = nI b := by rfl) (ha : a < 2 ^ 31 := by omega) (hb : b < 2 ^ 31 := by omega) : (x ≤ y → A) ∧ (¬ x ≤ y → B) := by
  subst hx hy
  rw [nI_leI ha hb]
  exact ⟨f, fun z => g (by omega)⟩
theorem pk_lt {x y : Int32} {A B : Prop} (a b : Nat) (f : a < b → A) (g : b ≤ a → B) (hx : x = nI a := by rfl) (hy : y = nI b := by rfl) (ha : a < 2 ^ 31 := by omega) (hb : b < 2 ^ 31 := by omega) : (x < y → A) ∧ (¬ x < y → B) := by
  subst hx hy
  rw [nI_ltI ha hb]
  exact ⟨f, fun z => g (by omega)⟩
theorem pk_eq {x y : Int32} {A B : Prop} (a b : Nat) (f : a = b → A) (g : a ≠ b → B) (hx : x = nI a := by rfl) (hy : y = nI b := by rfl) (ha : a < 2 ^ 31 := by omega) (hb : b < 2 ^ 31 := by omega) : (x = y → A) ∧ (¬ x = y → B) := by
  subst hx hy
  rw [nI_eq ha hb]
  exact ⟨f, g⟩
theorem pk_in {x : Int32} (n N : Nat) (h : n < N) (hx : x = nI n := by rfl) (hN : N < 2 ^ 31 := by omega) : vp_in x N := by
  subst hx
  exact vp_in_nI h hN
theorem pk_cl {x : Int32} (n : Nat) (hx : x = nI n := by rfl) (h : n < 2 ^ 31 := by omega) : x.toNatClampNeg = n := by
  subst hx
  exact nI_clamp h
theorem pk_tn {n : Nat} (h : n < 2 ^ 32) : (nI n).toBitVec.toNat = n := Nat.mod_eq_of_lt h
theorem pk_and (x : Int32) {m : Int32} (k : Nat) (hm : m.toBitVec.toNat = 2 ^ k - 1) : x &&& m = nI (x.toBitVec.toNat % 2 ^ k) := by
  apply Int32.toBitVec_inj.mp
  apply BitVec.eq_of_toNat_eq
  rw [Int32.toBitVec_and, BitVec.toNat_and, hm, Nat.and_two_pow_sub_one_eq_mod]
  show _ = (BitVec.ofNat 32 _).toNat
  rw [BitVec.toNat_ofNat]
  exact (Nat.mod_eq_of_lt (Nat.lt_of_le_of_lt (Nat.mod_le _ _) x.toBitVec.isLt)).symm
theorem pk_andN {n : Nat} (h : n < 2 ^ 32) {m : Int32} (k : Nat) (hm : m.toBitVec.toNat = 2 ^ k - 1) : nI n &&& m = nI (n % 2 ^ k) := by
  rw [pk_and _ k hm, pk_tn h]
theorem pk_andE (x : Int32) {m : Int32} (k : Nat) (hm : m.toBitVec.toNat = 2 ^ k - 1) : ∃ j : Nat, j < 2 ^ k ∧ x &&& m = nI j := ⟨_, Nat.mod_lt _ (Nat.two_pow_pos k), pk_and x k hm⟩
theorem pk_andIn (x : Int32) {m : Int32} (k : Nat) (hm : m.toBitVec.toNat = 2 ^ k - 1) (hk : k ≤ 30) : vp_in (x &&& m) (2 ^ k) := by
  obtain ⟨j, hj, e⟩ := pk_andE x k hm
  rw [e]
  exact vp_in_nI hj (Nat.lt_of_le_of_lt (Nat.pow_le_pow_right (by decide) hk) (by decide))
theorem pk_shl (a s : Int32) (k : Nat) (hs : (s.toBitVec.smod 32).toNat = k) : (a <<< s).toBitVec.toNat = a.toBitVec.toNat * 2 ^ k % 2 ^ 32 := by
  show (a.toBitVec <<< (s.toBitVec.smod 32).toNat).toNat = _
  rw [hs, BitVec.toNat_shiftLeft, Nat.shiftLeft_eq]
theorem pk_shlN {n : Nat} (s : Int32) (k : Nat) (hs : (s.toBitVec.smod 32).toNat = k) (h : n * 2 ^ k < 2 ^ 32) : nI n <<< s = nI (n * 2 ^ k) := by
  apply Int32.toBitVec_inj.mp
  apply BitVec.eq_of_toNat_eq
  have hn : n < 2 ^ 32 := Nat.lt_of_le_of_lt (Nat.le_mul_of_pos_right n (Nat.two_pow_pos k)) h
  rw [pk_shl _ _ k hs, pk_tn hn, pk_tn h, Nat.mod_eq_of_lt h]
theorem pk_shr (a s : Int32) (k : Nat) (hs : (s.toBitVec.smod 32).toNat = k) : (a >>> s).toInt = a.toInt >>> k := by
  show (a.toBitVec.sshiftRight (s.toBitVec.smod 32).toNat).toInt = _
  rw [hs, BitVec.toInt_sshiftRight]
  rfl
theorem pk_shrN {n : Nat} (h : n < 2 ^ 31) (s : Int32) (k : Nat) (hs : (s.toBitVec.smod 32).toNat = k) : nI n >>> s = nI (n / 2 ^ k) := by
  apply Int32.toInt_inj.mp
  have h2 : n / 2 ^ k ≤ n := Nat.div_le_self _ _
  rw [pk_shr _ _ k hs, nI_toInt h, nI_toInt (by omega), Int.shiftRight_eq_div_pow]
  rfl
theorem pk_ushr (x s : Int32) (k : Nat) (hs : ((s.toUInt32 &&& Int32.toUInt32 31).toBitVec % 32).toNat = k) : (x.toUInt32 >>> (s.toUInt32 &&& Int32.toUInt32 31)).toInt32.toBitVec.toNat = x.toBitVec.toNat / 2 ^ k := by
  have e : (x.toUInt32 >>> (s.toUInt32 &&& Int32.toUInt32 31)).toInt32.toBitVec = x.toBitVec >>> k := by
    rw [← hs]
    exact UInt32.toBitVec_shiftRight _ _
  rw [e, BitVec.toNat_ushiftRight, Nat.shiftRight_eq_div_pow]
theorem pk_ushrN {n : Nat} (hn : n < 2 ^ 32) (s : Int32) (k : Nat) (hs : ((s.toUInt32 &&& Int32.toUInt32 31).toBitVec % 32).toNat = k) : ((nI n).toUInt32 >>> (s.toUInt32 &&& Int32.toUInt32 31)).toInt32 = nI (n / 2 ^ k) := by
  apply Int32.toBitVec_inj.mp
  apply BitVec.eq_of_toNat_eq
  rw [pk_ushr _ s k hs, pk_tn hn, pk_tn (Nat.lt_of_le_of_lt (Nat.div_le_self _ _) hn)]
theorem pk_nb (z : Int32) : narrow .byte (.int z.toInt8.toInt32) = .int z.toInt8.toInt32 := congrArg Value.int (by simp)
theorem pk_ns (z : Int32) : narrow .short (.int z.toInt16.toInt32) = .int z.toInt16.toInt32 := congrArg Value.int (by simp)
theorem pk_fb (r : Int32) : fits .byte (.int r.toInt8.toInt32) = true := by
  have ⟨a, b⟩ := lg_i2b_range r
  have h1 : (-128 : Int32).toInt = -128 := by decide
  have h2 : (127 : Int32).toInt = 127 := by decide
  simp only [fits, Bool.and_eq_true, decide_eq_true_eq, Int32.le_iff_toInt_le, h1, h2]
  omega
theorem pk_fs (r : Int32) : fits .short (.int r.toInt16.toInt32) = true := by
  have ⟨a, b⟩ := lg_i2s_range r
  have h1 : (-32768 : Int32).toInt = -32768 := by decide
  have h2 : (32767 : Int32).toInt = 32767 := by decide
  simp only [fits, Bool.and_eq_true, decide_eq_true_eq, Int32.le_iff_toInt_le, h1, h2]
  omega
theorem pk_charN {q : Nat} (hq : q < 65536) : narrow .char (.int (nI q)) = .int (nI q) ∧ fits .char (.int (nI q)) = true := by
  constructor
  · have e : (nI q).toUInt32.toUInt16.toUInt32.toInt32 = nI q := by
      apply Int32.toBitVec_inj.mp
      apply BitVec.eq_of_toNat_eq
      show (nI q).toUInt32.toUInt16.toUInt32.toNat = q % 2 ^ 32
      rw [UInt16.toNat_toUInt32, UInt32.toNat_toUInt16, show (nI q).toUInt32.toNat = q % 2 ^ 32 from rfl]
      omega
    exact congrArg Value.int e
  · have a : (0 : Int32) ≤ nI q := nI_pos' (by omega)
    have b : nI q ≤ 65535 := nI_le (b := 65535) (by omega) (by decide)
    show (decide ((0 : Int32) ≤ nI q) && decide (nI q ≤ 65535)) = true
    rw [decide_eq_true a, decide_eq_true b]
    rfl
theorem pk_char (x : Int32) : (x.toUInt32 % 65536).toInt32 = nI (x.toBitVec.toNat % 65536) := by
  apply Int32.toBitVec_inj.mp
  apply BitVec.eq_of_toNat_eq
  rw [pk_tn (by omega)]
  show (x.toUInt32 % 65536).toNat = _
  rw [UInt32.toNat_mod]
  rfl
theorem pk_nc (x : Int32) : narrow .char (.int (x.toUInt32 % 65536).toInt32) = .int (x.toUInt32 % 65536).toInt32 := by
  rw [pk_char]
  exact (pk_charN (Nat.mod_lt _ (by decide))).1
theorem pk_fc (x : Int32) : fits .char (.int (x.toUInt32 % 65536).toInt32) = true := by
  rw [pk_char]
  exact (pk_charN (Nat.mod_lt _ (by decide))).2
theorem pk_vb (z : Int32) : vp_nar .byte z.toInt8.toInt32 = z.toInt8.toInt32 := by rw [vp_nar_byte]; simp
theorem pk_vs (z : Int32) : vp_nar .short z.toInt16.toInt32 = z.toInt16.toInt32 := by rw [vp_nar_short]; simp
theorem pk_vc (z : Int32) : vp_nar .char (z.toUInt32 % 65536).toInt32 = (z.toUInt32 % 65536).toInt32 := Value.int.inj (pk_nc z)
theorem pk_lT {n : Nat} (h : n < 2 ^ 63) : (lN n).toInt = (n : Int) := lg_ofNat_toInt h
theorem pk_lLT {a b : Nat} (ha : a < 2 ^ 63) (hb : b < 2 ^ 63) : lN a < lN b ↔ a < b := by
  rw [Int64.lt_iff_toInt_lt, pk_lT ha, pk_lT hb]; omega
theorem pk_lLE {a b : Nat} (ha : a < 2 ^ 63) (hb : b < 2 ^ 63) : lN a ≤ lN b ↔ a ≤ b := by
  rw [Int64.le_iff_toInt_le, pk_lT ha, pk_lT hb]; omega
theorem pk_lEQ {a b : Nat} (ha : a < 2 ^ 63) (hb : b < 2 ^ 63) : lN a = lN b ↔ a = b := by
  rw [← Int64.toInt_inj, pk_lT ha, pk_lT hb]; omega
theorem pk_lOf {x : Int64} (h : ¬ x < 0) : ∃ k : Nat, k < 2 ^ 63 ∧ x = lN k := by
  rw [Int64.lt_iff_toInt_lt] at h
  have h0 : (0 : Int64).toInt = 0 := by decide
  have hx := Int64.toInt_lt x
  refine ⟨x.toInt.toNat, by omega, Int64.toInt_inj.mp ?_⟩
  rw [pk_lT (by omega)]
  omega
theorem pk_lDiv {a b : Nat} (ha : a < 2 ^ 63) (h0 : 0 < b) (hb : b < 2 ^ 63) : lN a / lN b = lN (a / b) := by
  apply Int64.toInt_inj.mp
  rw [lg_ldiv_nonneg (by rw [pk_lT ha]; omega) (by rw [pk_lT hb]; omega), pk_lT ha, pk_lT hb, pk_lT (Nat.lt_of_le_of_lt (Nat.div_le_self a b) ha)]
  rfl
theorem pk_lRem {a b : Nat} (ha : a < 2 ^ 63) (h0 : 0 < b) (hb : b < 2 ^ 63) : lN a - lN a / lN b * lN b = lN (a % b) := by
  rw [pk_lDiv ha h0 hb, lN_mul, lN_sub (Nat.div_mul_le_self a b)]
  exact congrArg lN (by have := Nat.div_add_mod' a b; omega)
theorem pk_loop {σ : Type} (W : Nat → Nat → σ → Prop) (I : Nat → σ → Prop) (e i0 : Nat) (s : σ) (hi : i0 ≤ e) (h0 : I i0 s) (hx : ∀ n s, I e s → W (n + 1) e s)
    (hs : ∀ n i s, i < e → I i s → (∀ s', I (i + 1) s' → W n (i + 1) s') → W (n + 1) i s) : ∃ n, W n i0 s :=
  ⟨e + 1, loop_i W I e hx hs (e + 1) i0 s hi (by omega) h0⟩
theorem pk_loopD {σ : Type} (W : Nat → Nat → σ → Prop) (I : Nat → σ → Prop) (hx : ∀ n s, I 0 s → W (n + 1) 0 s)
    (hs : ∀ n i s, I (i + 1) s → (∀ s', I i s' → W n i s') → W (n + 1) (i + 1) s) : ∀ (e : Nat) (s : σ), I e s → W (e + 1) e s := by
  intro e
  induction e with
  | zero => exact fun s h => hx 0 s h
  | succ e ih => exact fun s h => hs (e + 1) e s h (fun s' h' => ih s' h')
theorem lp1 {A1 : Type} (W : Nat → A1 → Prop) (I : A1 → Prop) (μ : A1 → Nat) (hs : ∀ (n : Nat) (a1 : A1), I a1 → (∀ (b1 : A1), I b1 → μ b1 < μ a1 → W n b1) → W (n + 1) a1) (a1 : A1) (h : I a1) : ∃ n, W n a1 :=
  loop_m (σ := A1) (fun n s => W n s) (fun s => I s) (fun s => μ s) (fun n s hI hk => hs n s hI (fun b1 h9 hm => hk b1 h9 hm)) a1 h
theorem lp2 {A1 A2 : Type} (W : Nat → A1 → A2 → Prop) (I : A1 → A2 → Prop) (μ : A1 → A2 → Nat) (hs : ∀ (n : Nat) (a1 : A1) (a2 : A2), I a1 a2 → (∀ (b1 : A1) (b2 : A2), I b1 b2 → μ b1 b2 < μ a1 a2 → W n b1 b2) → W (n + 1) a1 a2) (a1 : A1) (a2 : A2) (h : I a1 a2) : ∃ n, W n a1 a2 :=
  loop_m (σ := A1 × A2) (fun n s => W n s.1 s.2) (fun s => I s.1 s.2) (fun s => μ s.1 s.2) (fun n s hI hk => hs n s.1 s.2 hI (fun b1 b2 h9 hm => hk (b1, b2) h9 hm)) (a1, a2) h
theorem lp3 {A1 A2 A3 : Type} (W : Nat → A1 → A2 → A3 → Prop) (I : A1 → A2 → A3 → Prop) (μ : A1 → A2 → A3 → Nat) (hs : ∀ (n : Nat) (a1 : A1) (a2 : A2) (a3 : A3), I a1 a2 a3 → (∀ (b1 : A1) (b2 : A2) (b3 : A3), I b1 b2 b3 → μ b1 b2 b3 < μ a1 a2 a3 → W n b1 b2 b3) → W (n + 1) a1 a2 a3) (a1 : A1) (a2 : A2) (a3 : A3) (h : I a1 a2 a3) : ∃ n, W n a1 a2 a3 :=
  loop_m (σ := A1 × A2 × A3) (fun n s => W n s.1 s.2.1 s.2.2) (fun s => I s.1 s.2.1 s.2.2) (fun s => μ s.1 s.2.1 s.2.2) (fun n s hI hk => hs n s.1 s.2.1 s.2.2 hI (fun b1 b2 b3 h9 hm => hk (b1, b2, b3) h9 hm)) (a1, a2, a3) h
theorem lp4 {A1 A2 A3 A4 : Type} (W : Nat → A1 → A2 → A3 → A4 → Prop) (I : A1 → A2 → A3 → A4 → Prop) (μ : A1 → A2 → A3 → A4 → Nat) (hs : ∀ (n : Nat) (a1 : A1) (a2 : A2) (a3 : A3) (a4 : A4), I a1 a2 a3 a4 → (∀ (b1 : A1) (b2 : A2) (b3 : A3) (b4 : A4), I b1 b2 b3 b4 → μ b1 b2 b3 b4 < μ a1 a2 a3 a4 → W n b1 b2 b3 b4) → W (n + 1) a1 a2 a3 a4) (a1 : A1) (a2 : A2) (a3 : A3) (a4 : A4) (h : I a1 a2 a3 a4) : ∃ n, W n a1 a2 a3 a4 :=
  loop_m (σ := A1 × A2 × A3 × A4) (fun n s => W n s.1 s.2.1 s.2.2.1 s.2.2.2) (fun s => I s.1 s.2.1 s.2.2.1 s.2.2.2) (fun s => μ s.1 s.2.1 s.2.2.1 s.2.2.2) (fun n s hI hk => hs n s.1 s.2.1 s.2.2.1 s.2.2.2 hI (fun b1 b2 b3 b4 h9 hm => hk (b1, b2, b3, b4) h9 hm)) (a1, a2, a3, a4) h
theorem lp5 {A1 A2 A3 A4 A5 : Type} (W : Nat → A1 → A2 → A3 → A4 → A5 → Prop) (I : A1 → A2 → A3 → A4 → A5 → Prop) (μ : A1 → A2 → A3 → A4 → A5 → Nat) (hs : ∀ (n : Nat) (a1 : A1) (a2 : A2) (a3 : A3) (a4 : A4) (a5 : A5), I a1 a2 a3 a4 a5 → (∀ (b1 : A1) (b2 : A2) (b3 : A3) (b4 : A4) (b5 : A5), I b1 b2 b3 b4 b5 → μ b1 b2 b3 b4 b5 < μ a1 a2 a3 a4 a5 → W n b1 b2 b3 b4 b5) → W (n + 1) a1 a2 a3 a4 a5) (a1 : A1) (a2 : A2) (a3 : A3) (a4 : A4) (a5 : A5) (h : I a1 a2 a3 a4 a5) : ∃ n, W n a1 a2 a3 a4 a5 :=
  loop_m (σ := A1 × A2 × A3 × A4 × A5) (fun n s => W n s.1 s.2.1 s.2.2.1 s.2.2.2.1 s.2.2.2.2) (fun s => I s.1 s.2.1 s.2.2.1 s.2.2.2.1 s.2.2.2.2) (fun s => μ s.1 s.2.1 s.2.2.1 s.2.2.2.1 s.2.2.2.2) (fun n s hI hk => hs n s.1 s.2.1 s.2.2.1 s.2.2.2.1 s.2.2.2.2 hI (fun b1 b2 b3 b4 b5 h9 hm => hk (b1, b2, b3, b4, b5) h9 hm)) (a1, a2, a3, a4, a5) h
theorem lp6 {A1 A2 A3 A4 A5 A6 : Type} (W : Nat → A1 → A2 → A3 → A4 → A5 → A6 → Prop) (I : A1 → A2 → A3 → A4 → A5 → A6 → Prop) (μ : A1 → A2 → A3 → A4 → A5 → A6 → Nat) (hs : ∀ (n : Nat) (a1 : A1) (a2 : A2) (a3 : A3) (a4 : A4) (a5 : A5) (a6 : A6), I a1 a2 a3 a4 a5 a6 → (∀ (b1 : A1) (b2 : A2) (b3 : A3) (b4 : A4) (b5 : A5) (b6 : A6), I b1 b2 b3 b4 b5 b6 → μ b1 b2 b3 b4 b5 b6 < μ a1 a2 a3 a4 a5 a6 → W n b1 b2 b3 b4 b5 b6) → W (n + 1) a1 a2 a3 a4 a5 a6) (a1 : A1) (a2 : A2) (a3 : A3) (a4 : A4) (a5 : A5) (a6 : A6) (h : I a1 a2 a3 a4 a5 a6) : ∃ n, W n a1 a2 a3 a4 a5 a6 :=
  loop_m (σ := A1 × A2 × A3 × A4 × A5 × A6) (fun n s => W n s.1 s.2.1 s.2.2.1 s.2.2.2.1 s.2.2.2.2.1 s.2.2.2.2.2) (fun s => I s.1 s.2.1 s.2.2.1 s.2.2.2.1 s.2.2.2.2.1 s.2.2.2.2.2) (fun s => μ s.1 s.2.1 s.2.2.1 s.2.2.2.1 s.2.2.2.2.1 s.2.2.2.2.2) (fun n s hI hk => hs n s.1 s.2.1 s.2.2.1 s.2.2.2.1 s.2.2.2.2.1 s.2.2.2.2.2 hI (fun b1 b2 b3 b4 b5 b6 h9 hm => hk (b1, b2, b3, b4, b5, b6) h9 hm)) (a1, a2, a3, a4, a5, a6) h
theorem lp7 {A1 A2 A3 A4 A5 A6 A7 : Type} (W : Nat → A1 → A2 → A3 → A4 → A5 → A6 → A7 → Prop) (I : A1 → A2 → A3 → A4 → A5 → A6 → A7 → Prop) (μ : A1 → A2 → A3 → A4 → A5 → A6 → A7 → Nat) (hs : ∀ (n : Nat) (a1 : A1) (a2 : A2) (a3 : A3) (a4 : A4) (a5 : A5) (a6 : A6) (a7 : A7), I a1 a2 a3 a4 a5 a6 a7 → (∀ (b1 : A1) (b2 : A2) (b3 : A3) (b4 : A4) (b5 : A5) (b6 : A6) (b7 : A7), I b1 b2 b3 b4 b5 b6 b7 → μ b1 b2 b3 b4 b5 b6 b7 < μ a1 a2 a3 a4 a5 a6 a7 → W n b1 b2 b3 b4 b5 b6 b7) → W (n + 1) a1 a2 a3 a4 a5 a6 a7) (a1 : A1) (a2 : A2) (a3 : A3) (a4 : A4) (a5 : A5) (a6 : A6) (a7 : A7) (h : I a1 a2 a3 a4 a5 a6 a7) : ∃ n, W n a1 a2 a3 a4 a5 a6 a7 :=
  loop_m (σ := A1 × A2 × A3 × A4 × A5 × A6 × A7) (fun n s => W n s.1 s.2.1 s.2.2.1 s.2.2.2.1 s.2.2.2.2.1 s.2.2.2.2.2.1 s.2.2.2.2.2.2) (fun s => I s.1 s.2.1 s.2.2.1 s.2.2.2.1 s.2.2.2.2.1 s.2.2.2.2.2.1 s.2.2.2.2.2.2) (fun s => μ s.1 s.2.1 s.2.2.1 s.2.2.2.1 s.2.2.2.2.1 s.2.2.2.2.2.1 s.2.2.2.2.2.2) (fun n s hI hk => hs n s.1 s.2.1 s.2.2.1 s.2.2.2.1 s.2.2.2.2.1 s.2.2.2.2.2.1 s.2.2.2.2.2.2 hI (fun b1 b2 b3 b4 b5 b6 b7 h9 hm => hk (b1, b2, b3, b4, b5, b6, b7) h9 hm)) (a1, a2, a3, a4, a5, a6, a7) h
theorem lp8 {A1 A2 A3 A4 A5 A6 A7 A8 : Type} (W : Nat → A1 → A2 → A3 → A4 → A5 → A6 → A7 → A8 → Prop) (I : A1 → A2 → A3 → A4 → A5 → A6 → A7 → A8 → Prop) (μ : A1 → A2 → A3 → A4 → A5 → A6 → A7 → A8 → Nat) (hs : ∀ (n : Nat) (a1 : A1) (a2 : A2) (a3 : A3) (a4 : A4) (a5 : A5) (a6 : A6) (a7 : A7) (a8 : A8), I a1 a2 a3 a4 a5 a6 a7 a8 → (∀ (b1 : A1) (b2 : A2) (b3 : A3) (b4 : A4) (b5 : A5) (b6 : A6) (b7 : A7) (b8 : A8), I b1 b2 b3 b4 b5 b6 b7 b8 → μ b1 b2 b3 b4 b5 b6 b7 b8 < μ a1 a2 a3 a4 a5 a6 a7 a8 → W n b1 b2 b3 b4 b5 b6 b7 b8) → W (n + 1) a1 a2 a3 a4 a5 a6 a7 a8) (a1 : A1) (a2 : A2) (a3 : A3) (a4 : A4) (a5 : A5) (a6 : A6) (a7 : A7) (a8 : A8) (h : I a1 a2 a3 a4 a5 a6 a7 a8) : ∃ n, W n a1 a2 a3 a4 a5 a6 a7 a8 :=
  loop_m (σ := A1 × A2 × A3 × A4 × A5 × A6 × A7 × A8) (fun n s => W n s.1 s.2.1 s.2.2.1 s.2.2.2.1 s.2.2.2.2.1 s.2.2.2.2.2.1 s.2.2.2.2.2.2.1 s.2.2.2.2.2.2.2) (fun s => I s.1 s.2.1 s.2.2.1 s.2.2.2.1 s.2.2.2.2.1 s.2.2.2.2.2.1 s.2.2.2.2.2.2.1 s.2.2.2.2.2.2.2) (fun s => μ s.1 s.2.1 s.2.2.1 s.2.2.2.1 s.2.2.2.2.1 s.2.2.2.2.2.1 s.2.2.2.2.2.2.1 s.2.2.2.2.2.2.2) (fun n s hI hk => hs n s.1 s.2.1 s.2.2.1 s.2.2.2.1 s.2.2.2.2.1 s.2.2.2.2.2.1 s.2.2.2.2.2.2.1 s.2.2.2.2.2.2.2 hI (fun b1 b2 b3 b4 b5 b6 b7 b8 h9 hm => hk (b1, b2, b3, b4, b5, b6, b7, b8) h9 hm)) (a1, a2, a3, a4, a5, a6, a7, a8) h
theorem lp9 {A1 A2 A3 A4 A5 A6 A7 A8 A9 : Type} (W : Nat → A1 → A2 → A3 → A4 → A5 → A6 → A7 → A8 → A9 → Prop) (I : A1 → A2 → A3 → A4 → A5 → A6 → A7 → A8 → A9 → Prop) (μ : A1 → A2 → A3 → A4 → A5 → A6 → A7 → A8 → A9 → Nat) (hs : ∀ (n : Nat) (a1 : A1) (a2 : A2) (a3 : A3) (a4 : A4) (a5 : A5) (a6 : A6) (a7 : A7) (a8 : A8) (a9 : A9), I a1 a2 a3 a4 a5 a6 a7 a8 a9 → (∀ (b1 : A1) (b2 : A2) (b3 : A3) (b4 : A4) (b5 : A5) (b6 : A6) (b7 : A7) (b8 : A8) (b9 : A9), I b1 b2 b3 b4 b5 b6 b7 b8 b9 → μ b1 b2 b3 b4 b5 b6 b7 b8 b9 < μ a1 a2 a3 a4 a5 a6 a7 a8 a9 → W n b1 b2 b3 b4 b5 b6 b7 b8 b9) → W (n + 1) a1 a2 a3 a4 a5 a6 a7 a8 a9) (a1 : A1) (a2 : A2) (a3 : A3) (a4 : A4) (a5 : A5) (a6 : A6) (a7 : A7) (a8 : A8) (a9 : A9) (h : I a1 a2 a3 a4 a5 a6 a7 a8 a9) : ∃ n, W n a1 a2 a3 a4 a5 a6 a7 a8 a9 :=
  loop_m (σ := A1 × A2 × A3 × A4 × A5 × A6 × A7 × A8 × A9) (fun n s => W n s.1 s.2.1 s.2.2.1 s.2.2.2.1 s.2.2.2.2.1 s.2.2.2.2.2.1 s.2.2.2.2.2.2.1 s.2.2.2.2.2.2.2.1 s.2.2.2.2.2.2.2.2) (fun s => I s.1 s.2.1 s.2.2.1 s.2.2.2.1 s.2.2.2.2.1 s.2.2.2.2.2.1 s.2.2.2.2.2.2.1 s.2.2.2.2.2.2.2.1 s.2.2.2.2.2.2.2.2) (fun s => μ s.1 s.2.1 s.2.2.1 s.2.2.2.1 s.2.2.2.2.1 s.2.2.2.2.2.1 s.2.2.2.2.2.2.1 s.2.2.2.2.2.2.2.1 s.2.2.2.2.2.2.2.2) (fun n s hI hk => hs n s.1 s.2.1 s.2.2.1 s.2.2.2.1 s.2.2.2.2.1 s.2.2.2.2.2.1 s.2.2.2.2.2.2.1 s.2.2.2.2.2.2.2.1 s.2.2.2.2.2.2.2.2 hI (fun b1 b2 b3 b4 b5 b6 b7 b8 b9 h9 hm => hk (b1, b2, b3, b4, b5, b6, b7, b8, b9) h9 hm)) (a1, a2, a3, a4, a5, a6, a7, a8, a9) h
theorem lp10 {A1 A2 A3 A4 A5 A6 A7 A8 A9 A10 : Type} (W : Nat → A1 → A2 → A3 → A4 → A5 → A6 → A7 → A8 → A9 → A10 → Prop) (I : A1 → A2 → A3 → A4 → A5 → A6 → A7 → A8 → A9 → A10 → Prop) (μ : A1 → A2 → A3 → A4 → A5 → A6 → A7 → A8 → A9 → A10 → Nat) (hs : ∀ (n : Nat) (a1 : A1) (a2 : A2) (a3 : A3) (a4 : A4) (a5 : A5) (a6 : A6) (a7 : A7) (a8 : A8) (a9 : A9) (a10 : A10), I a1 a2 a3 a4 a5 a6 a7 a8 a9 a10 → (∀ (b1 : A1) (b2 : A2) (b3 : A3) (b4 : A4) (b5 : A5) (b6 : A6) (b7 : A7) (b8 : A8) (b9 : A9) (b10 : A10), I b1 b2 b3 b4 b5 b6 b7 b8 b9 b10 → μ b1 b2 b3 b4 b5 b6 b7 b8 b9 b10 < μ a1 a2 a3 a4 a5 a6 a7 a8 a9 a10 → W n b1 b2 b3 b4 b5 b6 b7 b8 b9 b10) → W (n + 1) a1 a2 a3 a4 a5 a6 a7 a8 a9 a10) (a1 : A1) (a2 : A2) (a3 : A3) (a4 : A4) (a5 : A5) (a6 : A6) (a7 : A7) (a8 : A8) (a9 : A9) (a10 : A10) (h : I a1 a2 a3 a4 a5 a6 a7 a8 a9 a10) : ∃ n, W n a1 a2 a3 a4 a5 a6 a7 a8 a9 a10 :=
  loop_m (σ := A1 × A2 × A3 × A4 × A5 × A6 × A7 × A8 × A9 × A10) (fun n s => W n s.1 s.2.1 s.2.2.1 s.2.2.2.1 s.2.2.2.2.1 s.2.2.2.2.2.1 s.2.2.2.2.2.2.1 s.2.2.2.2.2.2.2.1 s.2.2.2.2.2.2.2.2.1 s.2.2.2.2.2.2.2.2.2) (fun s => I s.1 s.2.1 s.2.2.1 s.2.2.2.1 s.2.2.2.2.1 s.2.2.2.2.2.1 s.2.2.2.2.2.2.1 s.2.2.2.2.2.2.2.1 s.2.2.2.2.2.2.2.2.1 s.2.2.2.2.2.2.2.2.2) (fun s => μ s.1 s.2.1 s.2.2.1 s.2.2.2.1 s.2.2.2.2.1 s.2.2.2.2.2.1 s.2.2.2.2.2.2.1 s.2.2.2.2.2.2.2.1 s.2.2.2.2.2.2.2.2.1 s.2.2.2.2.2.2.2.2.2) (fun n s hI hk => hs n s.1 s.2.1 s.2.2.1 s.2.2.2.1 s.2.2.2.2.1 s.2.2.2.2.2.1 s.2.2.2.2.2.2.1 s.2.2.2.2.2.2.2.1 s.2.2.2.2.2.2.2.2.1 s.2.2.2.2.2.2.2.2.2 hI (fun b1 b2 b3 b4 b5 b6 b7 b8 b9 b10 h9 hm => hk (b1, b2, b3, b4, b5, b6, b7, b8, b9, b10) h9 hm)) (a1, a2, a3, a4, a5, a6, a7, a8, a9, a10) h
theorem lp11 {A1 A2 A3 A4 A5 A6 A7 A8 A9 A10 A11 : Type} (W : Nat → A1 → A2 → A3 → A4 → A5 → A6 → A7 → A8 → A9 → A10 → A11 → Prop) (I : A1 → A2 → A3 → A4 → A5 → A6 → A7 → A8 → A9 → A10 → A11 → Prop) (μ : A1 → A2 → A3 → A4 → A5 → A6 → A7 → A8 → A9 → A10 → A11 → Nat) (hs : ∀ (n : Nat) (a1 : A1) (a2 : A2) (a3 : A3) (a4 : A4) (a5 : A5) (a6 : A6) (a7 : A7) (a8 : A8) (a9 : A9) (a10 : A10) (a11 : A11), I a1 a2 a3 a4 a5 a6 a7 a8 a9 a10 a11 → (∀ (b1 : A1) (b2 : A2) (b3 : A3) (b4 : A4) (b5 : A5) (b6 : A6) (b7 : A7) (b8 : A8) (b9 : A9) (b10 : A10) (b11 : A11), I b1 b2 b3 b4 b5 b6 b7 b8 b9 b10 b11 → μ b1 b2 b3 b4 b5 b6 b7 b8 b9 b10 b11 < μ a1 a2 a3 a4 a5 a6 a7 a8 a9 a10 a11 → W n b1 b2 b3 b4 b5 b6 b7 b8 b9 b10 b11) → W (n + 1) a1 a2 a3 a4 a5 a6 a7 a8 a9 a10 a11) (a1 : A1) (a2 : A2) (a3 : A3) (a4 : A4) (a5 : A5) (a6 : A6) (a7 : A7) (a8 : A8) (a9 : A9) (a10 : A10) (a11 : A11) (h : I a1 a2 a3 a4 a5 a6 a7 a8 a9 a10 a11) : ∃ n, W n a1 a2 a3 a4 a5 a6 a7 a8 a9 a10 a11 :=
  loop_m (σ := A1 × A2 × A3 × A4 × A5 × A6 × A7 × A8 × A9 × A10 × A11) (fun n s => W n s.1 s.2.1 s.2.2.1 s.2.2.2.1 s.2.2.2.2.1 s.2.2.2.2.2.1 s.2.2.2.2.2.2.1 s.2.2.2.2.2.2.2.1 s.2.2.2.2.2.2.2.2.1 s.2.2.2.2.2.2.2.2.2.1 s.2.2.2.2.2.2.2.2.2.2) (fun s => I s.1 s.2.1 s.2.2.1 s.2.2.2.1 s.2.2.2.2.1 s.2.2.2.2.2.1 s.2.2.2.2.2.2.1 s.2.2.2.2.2.2.2.1 s.2.2.2.2.2.2.2.2.1 s.2.2.2.2.2.2.2.2.2.1 s.2.2.2.2.2.2.2.2.2.2) (fun s => μ s.1 s.2.1 s.2.2.1 s.2.2.2.1 s.2.2.2.2.1 s.2.2.2.2.2.1 s.2.2.2.2.2.2.1 s.2.2.2.2.2.2.2.1 s.2.2.2.2.2.2.2.2.1 s.2.2.2.2.2.2.2.2.2.1 s.2.2.2.2.2.2.2.2.2.2) (fun n s hI hk => hs n s.1 s.2.1 s.2.2.1 s.2.2.2.1 s.2.2.2.2.1 s.2.2.2.2.2.1 s.2.2.2.2.2.2.1 s.2.2.2.2.2.2.2.1 s.2.2.2.2.2.2.2.2.1 s.2.2.2.2.2.2.2.2.2.1 s.2.2.2.2.2.2.2.2.2.2 hI (fun b1 b2 b3 b4 b5 b6 b7 b8 b9 b10 b11 h9 hm => hk (b1, b2, b3, b4, b5, b6, b7, b8, b9, b10, b11) h9 hm)) (a1, a2, a3, a4, a5, a6, a7, a8, a9, a10, a11) h
theorem lp12 {A1 A2 A3 A4 A5 A6 A7 A8 A9 A10 A11 A12 : Type} (W : Nat → A1 → A2 → A3 → A4 → A5 → A6 → A7 → A8 → A9 → A10 → A11 → A12 → Prop) (I : A1 → A2 → A3 → A4 → A5 → A6 → A7 → A8 → A9 → A10 → A11 → A12 → Prop) (μ : A1 → A2 → A3 → A4 → A5 → A6 → A7 → A8 → A9 → A10 → A11 → A12 → Nat) (hs : ∀ (n : Nat) (a1 : A1) (a2 : A2) (a3 : A3) (a4 : A4) (a5 : A5) (a6 : A6) (a7 : A7) (a8 : A8) (a9 : A9) (a10 : A10) (a11 : A11) (a12 : A12), I a1 a2 a3 a4 a5 a6 a7 a8 a9 a10 a11 a12 → (∀ (b1 : A1) (b2 : A2) (b3 : A3) (b4 : A4) (b5 : A5) (b6 : A6) (b7 : A7) (b8 : A8) (b9 : A9) (b10 : A10) (b11 : A11) (b12 : A12), I b1 b2 b3 b4 b5 b6 b7 b8 b9 b10 b11 b12 → μ b1 b2 b3 b4 b5 b6 b7 b8 b9 b10 b11 b12 < μ a1 a2 a3 a4 a5 a6 a7 a8 a9 a10 a11 a12 → W n b1 b2 b3 b4 b5 b6 b7 b8 b9 b10 b11 b12) → W (n + 1) a1 a2 a3 a4 a5 a6 a7 a8 a9 a10 a11 a12) (a1 : A1) (a2 : A2) (a3 : A3) (a4 : A4) (a5 : A5) (a6 : A6) (a7 : A7) (a8 : A8) (a9 : A9) (a10 : A10) (a11 : A11) (a12 : A12) (h : I a1 a2 a3 a4 a5 a6 a7 a8 a9 a10 a11 a12) : ∃ n, W n a1 a2 a3 a4 a5 a6 a7 a8 a9 a10 a11 a12 :=
  loop_m (σ := A1 × A2 × A3 × A4 × A5 × A6 × A7 × A8 × A9 × A10 × A11 × A12) (fun n s => W n s.1 s.2.1 s.2.2.1 s.2.2.2.1 s.2.2.2.2.1 s.2.2.2.2.2.1 s.2.2.2.2.2.2.1 s.2.2.2.2.2.2.2.1 s.2.2.2.2.2.2.2.2.1 s.2.2.2.2.2.2.2.2.2.1 s.2.2.2.2.2.2.2.2.2.2.1 s.2.2.2.2.2.2.2.2.2.2.2) (fun s => I s.1 s.2.1 s.2.2.1 s.2.2.2.1 s.2.2.2.2.1 s.2.2.2.2.2.1 s.2.2.2.2.2.2.1 s.2.2.2.2.2.2.2.1 s.2.2.2.2.2.2.2.2.1 s.2.2.2.2.2.2.2.2.2.1 s.2.2.2.2.2.2.2.2.2.2.1 s.2.2.2.2.2.2.2.2.2.2.2) (fun s => μ s.1 s.2.1 s.2.2.1 s.2.2.2.1 s.2.2.2.2.1 s.2.2.2.2.2.1 s.2.2.2.2.2.2.1 s.2.2.2.2.2.2.2.1 s.2.2.2.2.2.2.2.2.1 s.2.2.2.2.2.2.2.2.2.1 s.2.2.2.2.2.2.2.2.2.2.1 s.2.2.2.2.2.2.2.2.2.2.2) (fun n s hI hk => hs n s.1 s.2.1 s.2.2.1 s.2.2.2.1 s.2.2.2.2.1 s.2.2.2.2.2.1 s.2.2.2.2.2.2.1 s.2.2.2.2.2.2.2.1 s.2.2.2.2.2.2.2.2.1 s.2.2.2.2.2.2.2.2.2.1 s.2.2.2.2.2.2.2.2.2.2.1 s.2.2.2.2.2.2.2.2.2.2.2 hI (fun b1 b2 b3 b4 b5 b6 b7 b8 b9 b10 b11 b12 h9 hm => hk (b1, b2, b3, b4, b5, b6, b7, b8, b9, b10, b11, b12) h9 hm)) (a1, a2, a3, a4, a5, a6, a7, a8, a9, a10, a11, a12) h
theorem lp13 {A1 A2 A3 A4 A5 A6 A7 A8 A9 A10 A11 A12 A13 : Type} (W : Nat → A1 → A2 → A3 → A4 → A5 → A6 → A7 → A8 → A9 → A10 → A11 → A12 → A13 → Prop) (I : A1 → A2 → A3 → A4 → A5 → A6 → A7 → A8 → A9 → A10 → A11 → A12 → A13 → Prop) (μ : A1 → A2 → A3 → A4 → A5 → A6 → A7 → A8 → A9 → A10 → A11 → A12 → A13 → Nat) (hs : ∀ (n : Nat) (a1 : A1) (a2 : A2) (a3 : A3) (a4 : A4) (a5 : A5) (a6 : A6) (a7 : A7) (a8 : A8) (a9 : A9) (a10 : A10) (a11 : A11) (a12 : A12) (a13 : A13), I a1 a2 a3 a4 a5 a6 a7 a8 a9 a10 a11 a12 a13 → (∀ (b1 : A1) (b2 : A2) (b3 : A3) (b4 : A4) (b5 : A5) (b6 : A6) (b7 : A7) (b8 : A8) (b9 : A9) (b10 : A10) (b11 : A11) (b12 : A12) (b13 : A13), I b1 b2 b3 b4 b5 b6 b7 b8 b9 b10 b11 b12 b13 → μ b1 b2 b3 b4 b5 b6 b7 b8 b9 b10 b11 b12 b13 < μ a1 a2 a3 a4 a5 a6 a7 a8 a9 a10 a11 a12 a13 → W n b1 b2 b3 b4 b5 b6 b7 b8 b9 b10 b11 b12 b13) → W (n + 1) a1 a2 a3 a4 a5 a6 a7 a8 a9 a10 a11 a12 a13) (a1 : A1) (a2 : A2) (a3 : A3) (a4 : A4) (a5 : A5) (a6 : A6) (a7 : A7) (a8 : A8) (a9 : A9) (a10 : A10) (a11 : A11) (a12 : A12) (a13 : A13) (h : I a1 a2 a3 a4 a5 a6 a7 a8 a9 a10 a11 a12 a13) : ∃ n, W n a1 a2 a3 a4 a5 a6 a7 a8 a9 a10 a11 a12 a13 :=
  loop_m (σ := A1 × A2 × A3 × A4 × A5 × A6 × A7 × A8 × A9 × A10 × A11 × A12 × A13) (fun n s => W n s.1 s.2.1 s.2.2.1 s.2.2.2.1 s.2.2.2.2.1 s.2.2.2.2.2.1 s.2.2.2.2.2.2.1 s.2.2.2.2.2.2.2.1 s.2.2.2.2.2.2.2.2.1 s.2.2.2.2.2.2.2.2.2.1 s.2.2.2.2.2.2.2.2.2.2.1 s.2.2.2.2.2.2.2.2.2.2.2.1 s.2.2.2.2.2.2.2.2.2.2.2.2) (fun s => I s.1 s.2.1 s.2.2.1 s.2.2.2.1 s.2.2.2.2.1 s.2.2.2.2.2.1 s.2.2.2.2.2.2.1 s.2.2.2.2.2.2.2.1 s.2.2.2.2.2.2.2.2.1 s.2.2.2.2.2.2.2.2.2.1 s.2.2.2.2.2.2.2.2.2.2.1 s.2.2.2.2.2.2.2.2.2.2.2.1 s.2.2.2.2.2.2.2.2.2.2.2.2) (fun s => μ s.1 s.2.1 s.2.2.1 s.2.2.2.1 s.2.2.2.2.1 s.2.2.2.2.2.1 s.2.2.2.2.2.2.1 s.2.2.2.2.2.2.2.1 s.2.2.2.2.2.2.2.2.1 s.2.2.2.2.2.2.2.2.2.1 s.2.2.2.2.2.2.2.2.2.2.1 s.2.2.2.2.2.2.2.2.2.2.2.1 s.2.2.2.2.2.2.2.2.2.2.2.2) (fun n s hI hk => hs n s.1 s.2.1 s.2.2.1 s.2.2.2.1 s.2.2.2.2.1 s.2.2.2.2.2.1 s.2.2.2.2.2.2.1 s.2.2.2.2.2.2.2.1 s.2.2.2.2.2.2.2.2.1 s.2.2.2.2.2.2.2.2.2.1 s.2.2.2.2.2.2.2.2.2.2.1 s.2.2.2.2.2.2.2.2.2.2.2.1 s.2.2.2.2.2.2.2.2.2.2.2.2 hI (fun b1 b2 b3 b4 b5 b6 b7 b8 b9 b10 b11 b12 b13 h9 hm => hk (b1, b2, b3, b4, b5, b6, b7, b8, b9, b10, b11, b12, b13) h9 hm)) (a1, a2, a3, a4, a5, a6, a7, a8, a9, a10, a11, a12, a13) h
theorem lp14 {A1 A2 A3 A4 A5 A6 A7 A8 A9 A10 A11 A12 A13 A14 : Type} (W : Nat → A1 → A2 → A3 → A4 → A5 → A6 → A7 → A8 → A9 → A10 → A11 → A12 → A13 → A14 → Prop) (I : A1 → A2 → A3 → A4 → A5 → A6 → A7 → A8 → A9 → A10 → A11 → A12 → A13 → A14 → Prop) (μ : A1 → A2 → A3 → A4 → A5 → A6 → A7 → A8 → A9 → A10 → A11 → A12 → A13 → A14 → Nat) (hs : ∀ (n : Nat) (a1 : A1) (a2 : A2) (a3 : A3) (a4 : A4) (a5 : A5) (a6 : A6) (a7 : A7) (a8 : A8) (a9 : A9) (a10 : A10) (a11 : A11) (a12 : A12) (a13 : A13) (a14 : A14), I a1 a2 a3 a4 a5 a6 a7 a8 a9 a10 a11 a12 a13 a14 → (∀ (b1 : A1) (b2 : A2) (b3 : A3) (b4 : A4) (b5 : A5) (b6 : A6) (b7 : A7) (b8 : A8) (b9 : A9) (b10 : A10) (b11 : A11) (b12 : A12) (b13 : A13) (b14 : A14), I b1 b2 b3 b4 b5 b6 b7 b8 b9 b10 b11 b12 b13 b14 → μ b1 b2 b3 b4 b5 b6 b7 b8 b9 b10 b11 b12 b13 b14 < μ a1 a2 a3 a4 a5 a6 a7 a8 a9 a10 a11 a12 a13 a14 → W n b1 b2 b3 b4 b5 b6 b7 b8 b9 b10 b11 b12 b13 b14) → W (n + 1) a1 a2 a3 a4 a5 a6 a7 a8 a9 a10 a11 a12 a13 a14) (a1 : A1) (a2 : A2) (a3 : A3) (a4 : A4) (a5 : A5) (a6 : A6) (a7 : A7) (a8 : A8) (a9 : A9) (a10 : A10) (a11 : A11) (a12 : A12) (a13 : A13) (a14 : A14) (h : I a1 a2 a3 a4 a5 a6 a7 a8 a9 a10 a11 a12 a13 a14) : ∃ n, W n a1 a2 a3 a4 a5 a6 a7 a8 a9 a10 a11 a12 a13 a14 :=
  loop_m (σ := A1 × A2 × A3 × A4 × A5 × A6 × A7 × A8 × A9 × A10 × A11 × A12 × A13 × A14) (fun n s => W n s.1 s.2.1 s.2.2.1 s.2.2.2.1 s.2.2.2.2.1 s.2.2.2.2.2.1 s.2.2.2.2.2.2.1 s.2.2.2.2.2.2.2.1 s.2.2.2.2.2.2.2.2.1 s.2.2.2.2.2.2.2.2.2.1 s.2.2.2.2.2.2.2.2.2.2.1 s.2.2.2.2.2.2.2.2.2.2.2.1 s.2.2.2.2.2.2.2.2.2.2.2.2.1 s.2.2.2.2.2.2.2.2.2.2.2.2.2) (fun s => I s.1 s.2.1 s.2.2.1 s.2.2.2.1 s.2.2.2.2.1 s.2.2.2.2.2.1 s.2.2.2.2.2.2.1 s.2.2.2.2.2.2.2.1 s.2.2.2.2.2.2.2.2.1 s.2.2.2.2.2.2.2.2.2.1 s.2.2.2.2.2.2.2.2.2.2.1 s.2.2.2.2.2.2.2.2.2.2.2.1 s.2.2.2.2.2.2.2.2.2.2.2.2.1 s.2.2.2.2.2.2.2.2.2.2.2.2.2) (fun s => μ s.1 s.2.1 s.2.2.1 s.2.2.2.1 s.2.2.2.2.1 s.2.2.2.2.2.1 s.2.2.2.2.2.2.1 s.2.2.2.2.2.2.2.1 s.2.2.2.2.2.2.2.2.1 s.2.2.2.2.2.2.2.2.2.1 s.2.2.2.2.2.2.2.2.2.2.1 s.2.2.2.2.2.2.2.2.2.2.2.1 s.2.2.2.2.2.2.2.2.2.2.2.2.1 s.2.2.2.2.2.2.2.2.2.2.2.2.2) (fun n s hI hk => hs n s.1 s.2.1 s.2.2.1 s.2.2.2.1 s.2.2.2.2.1 s.2.2.2.2.2.1 s.2.2.2.2.2.2.1 s.2.2.2.2.2.2.2.1 s.2.2.2.2.2.2.2.2.1 s.2.2.2.2.2.2.2.2.2.1 s.2.2.2.2.2.2.2.2.2.2.1 s.2.2.2.2.2.2.2.2.2.2.2.1 s.2.2.2.2.2.2.2.2.2.2.2.2.1 s.2.2.2.2.2.2.2.2.2.2.2.2.2 hI (fun b1 b2 b3 b4 b5 b6 b7 b8 b9 b10 b11 b12 b13 b14 h9 hm => hk (b1, b2, b3, b4, b5, b6, b7, b8, b9, b10, b11, b12, b13, b14) h9 hm)) (a1, a2, a3, a4, a5, a6, a7, a8, a9, a10, a11, a12, a13, a14) h
theorem lp15 {A1 A2 A3 A4 A5 A6 A7 A8 A9 A10 A11 A12 A13 A14 A15 : Type} (W : Nat → A1 → A2 → A3 → A4 → A5 → A6 → A7 → A8 → A9 → A10 → A11 → A12 → A13 → A14 → A15 → Prop) (I : A1 → A2 → A3 → A4 → A5 → A6 → A7 → A8 → A9 → A10 → A11 → A12 → A13 → A14 → A15 → Prop) (μ : A1 → A2 → A3 → A4 → A5 → A6 → A7 → A8 → A9 → A10 → A11 → A12 → A13 → A14 → A15 → Nat) (hs : ∀ (n : Nat) (a1 : A1) (a2 : A2) (a3 : A3) (a4 : A4) (a5 : A5) (a6 : A6) (a7 : A7) (a8 : A8) (a9 : A9) (a10 : A10) (a11 : A11) (a12 : A12) (a13 : A13) (a14 : A14) (a15 : A15), I a1 a2 a3 a4 a5 a6 a7 a8 a9 a10 a11 a12 a13 a14 a15 → (∀ (b1 : A1) (b2 : A2) (b3 : A3) (b4 : A4) (b5 : A5) (b6 : A6) (b7 : A7) (b8 : A8) (b9 : A9) (b10 : A10) (b11 : A11) (b12 : A12) (b13 : A13) (b14 : A14) (b15 : A15), I b1 b2 b3 b4 b5 b6 b7 b8 b9 b10 b11 b12 b13 b14 b15 → μ b1 b2 b3 b4 b5 b6 b7 b8 b9 b10 b11 b12 b13 b14 b15 < μ a1 a2 a3 a4 a5 a6 a7 a8 a9 a10 a11 a12 a13 a14 a15 → W n b1 b2 b3 b4 b5 b6 b7 b8 b9 b10 b11 b12 b13 b14 b15) → W (n + 1) a1 a2 a3 a4 a5 a6 a7 a8 a9 a10 a11 a12 a13 a14 a15) (a1 : A1) (a2 : A2) (a3 : A3) (a4 : A4) (a5 : A5) (a6 : A6) (a7 : A7) (a8 : A8) (a9 : A9) (a10 : A10) (a11 : A11) (a12 : A12) (a13 : A13) (a14 : A14) (a15 : A15) (h : I a1 a2 a3 a4 a5 a6 a7 a8 a9 a10 a11 a12 a13 a14 a15) : ∃ n, W n a1 a2 a3 a4 a5 a6 a7 a8 a9 a10 a11 a12 a13 a14 a15 :=
  loop_m (σ := A1 × A2 × A3 × A4 × A5 × A6 × A7 × A8 × A9 × A10 × A11 × A12 × A13 × A14 × A15) (fun n s => W n s.1 s.2.1 s.2.2.1 s.2.2.2.1 s.2.2.2.2.1 s.2.2.2.2.2.1 s.2.2.2.2.2.2.1 s.2.2.2.2.2.2.2.1 s.2.2.2.2.2.2.2.2.1 s.2.2.2.2.2.2.2.2.2.1 s.2.2.2.2.2.2.2.2.2.2.1 s.2.2.2.2.2.2.2.2.2.2.2.1 s.2.2.2.2.2.2.2.2.2.2.2.2.1 s.2.2.2.2.2.2.2.2.2.2.2.2.2.1 s.2.2.2.2.2.2.2.2.2.2.2.2.2.2) (fun s => I s.1 s.2.1 s.2.2.1 s.2.2.2.1 s.2.2.2.2.1 s.2.2.2.2.2.1 s.2.2.2.2.2.2.1 s.2.2.2.2.2.2.2.1 s.2.2.2.2.2.2.2.2.1 s.2.2.2.2.2.2.2.2.2.1 s.2.2.2.2.2.2.2.2.2.2.1 s.2.2.2.2.2.2.2.2.2.2.2.1 s.2.2.2.2.2.2.2.2.2.2.2.2.1 s.2.2.2.2.2.2.2.2.2.2.2.2.2.1 s.2.2.2.2.2.2.2.2.2.2.2.2.2.2) (fun s => μ s.1 s.2.1 s.2.2.1 s.2.2.2.1 s.2.2.2.2.1 s.2.2.2.2.2.1 s.2.2.2.2.2.2.1 s.2.2.2.2.2.2.2.1 s.2.2.2.2.2.2.2.2.1 s.2.2.2.2.2.2.2.2.2.1 s.2.2.2.2.2.2.2.2.2.2.1 s.2.2.2.2.2.2.2.2.2.2.2.1 s.2.2.2.2.2.2.2.2.2.2.2.2.1 s.2.2.2.2.2.2.2.2.2.2.2.2.2.1 s.2.2.2.2.2.2.2.2.2.2.2.2.2.2) (fun n s hI hk => hs n s.1 s.2.1 s.2.2.1 s.2.2.2.1 s.2.2.2.2.1 s.2.2.2.2.2.1 s.2.2.2.2.2.2.1 s.2.2.2.2.2.2.2.1 s.2.2.2.2.2.2.2.2.1 s.2.2.2.2.2.2.2.2.2.1 s.2.2.2.2.2.2.2.2.2.2.1 s.2.2.2.2.2.2.2.2.2.2.2.1 s.2.2.2.2.2.2.2.2.2.2.2.2.1 s.2.2.2.2.2.2.2.2.2.2.2.2.2.1 s.2.2.2.2.2.2.2.2.2.2.2.2.2.2 hI (fun b1 b2 b3 b4 b5 b6 b7 b8 b9 b10 b11 b12 b13 b14 b15 h9 hm => hk (b1, b2, b3, b4, b5, b6, b7, b8, b9, b10, b11, b12, b13, b14, b15) h9 hm)) (a1, a2, a3, a4, a5, a6, a7, a8, a9, a10, a11, a12, a13, a14, a15) h
theorem lp16 {A1 A2 A3 A4 A5 A6 A7 A8 A9 A10 A11 A12 A13 A14 A15 A16 : Type} (W : Nat → A1 → A2 → A3 → A4 → A5 → A6 → A7 → A8 → A9 → A10 → A11 → A12 → A13 → A14 → A15 → A16 → Prop) (I : A1 → A2 → A3 → A4 → A5 → A6 → A7 → A8 → A9 → A10 → A11 → A12 → A13 → A14 → A15 → A16 → Prop) (μ : A1 → A2 → A3 → A4 → A5 → A6 → A7 → A8 → A9 → A10 → A11 → A12 → A13 → A14 → A15 → A16 → Nat) (hs : ∀ (n : Nat) (a1 : A1) (a2 : A2) (a3 : A3) (a4 : A4) (a5 : A5) (a6 : A6) (a7 : A7) (a8 : A8) (a9 : A9) (a10 : A10) (a11 : A11) (a12 : A12) (a13 : A13) (a14 : A14) (a15 : A15) (a16 : A16), I a1 a2 a3 a4 a5 a6 a7 a8 a9 a10 a11 a12 a13 a14 a15 a16 → (∀ (b1 : A1) (b2 : A2) (b3 : A3) (b4 : A4) (b5 : A5) (b6 : A6) (b7 : A7) (b8 : A8) (b9 : A9) (b10 : A10) (b11 : A11) (b12 : A12) (b13 : A13) (b14 : A14) (b15 : A15) (b16 : A16), I b1 b2 b3 b4 b5 b6 b7 b8 b9 b10 b11 b12 b13 b14 b15 b16 → μ b1 b2 b3 b4 b5 b6 b7 b8 b9 b10 b11 b12 b13 b14 b15 b16 < μ a1 a2 a3 a4 a5 a6 a7 a8 a9 a10 a11 a12 a13 a14 a15 a16 → W n b1 b2 b3 b4 b5 b6 b7 b8 b9 b10 b11 b12 b13 b14 b15 b16) → W (n + 1) a1 a2 a3 a4 a5 a6 a7 a8 a9 a10 a11 a12 a13 a14 a15 a16) (a1 : A1) (a2 : A2) (a3 : A3) (a4 : A4) (a5 : A5) (a6 : A6) (a7 : A7) (a8 : A8) (a9 : A9) (a10 : A10) (a11 : A11) (a12 : A12) (a13 : A13) (a14 : A14) (a15 : A15) (a16 : A16) (h : I a1 a2 a3 a4 a5 a6 a7 a8 a9 a10 a11 a12 a13 a14 a15 a16) : ∃ n, W n a1 a2 a3 a4 a5 a6 a7 a8 a9 a10 a11 a12 a13 a14 a15 a16 :=
  loop_m (σ := A1 × A2 × A3 × A4 × A5 × A6 × A7 × A8 × A9 × A10 × A11 × A12 × A13 × A14 × A15 × A16) (fun n s => W n s.1 s.2.1 s.2.2.1 s.2.2.2.1 s.2.2.2.2.1 s.2.2.2.2.2.1 s.2.2.2.2.2.2.1 s.2.2.2.2.2.2.2.1 s.2.2.2.2.2.2.2.2.1 s.2.2.2.2.2.2.2.2.2.1 s.2.2.2.2.2.2.2.2.2.2.1 s.2.2.2.2.2.2.2.2.2.2.2.1 s.2.2.2.2.2.2.2.2.2.2.2.2.1 s.2.2.2.2.2.2.2.2.2.2.2.2.2.1 s.2.2.2.2.2.2.2.2.2.2.2.2.2.2.1 s.2.2.2.2.2.2.2.2.2.2.2.2.2.2.2) (fun s => I s.1 s.2.1 s.2.2.1 s.2.2.2.1 s.2.2.2.2.1 s.2.2.2.2.2.1 s.2.2.2.2.2.2.1 s.2.2.2.2.2.2.2.1 s.2.2.2.2.2.2.2.2.1 s.2.2.2.2.2.2.2.2.2.1 s.2.2.2.2.2.2.2.2.2.2.1 s.2.2.2.2.2.2.2.2.2.2.2.1 s.2.2.2.2.2.2.2.2.2.2.2.2.1 s.2.2.2.2.2.2.2.2.2.2.2.2.2.1 s.2.2.2.2.2.2.2.2.2.2.2.2.2.2.1 s.2.2.2.2.2.2.2.2.2.2.2.2.2.2.2) (fun s => μ s.1 s.2.1 s.2.2.1 s.2.2.2.1 s.2.2.2.2.1 s.2.2.2.2.2.1 s.2.2.2.2.2.2.1 s.2.2.2.2.2.2.2.1 s.2.2.2.2.2.2.2.2.1 s.2.2.2.2.2.2.2.2.2.1 s.2.2.2.2.2.2.2.2.2.2.1 s.2.2.2.2.2.2.2.2.2.2.2.1 s.2.2.2.2.2.2.2.2.2.2.2.2.1 s.2.2.2.2.2.2.2.2.2.2.2.2.2.1 s.2.2.2.2.2.2.2.2.2.2.2.2.2.2.1 s.2.2.2.2.2.2.2.2.2.2.2.2.2.2.2) (fun n s hI hk => hs n s.1 s.2.1 s.2.2.1 s.2.2.2.1 s.2.2.2.2.1 s.2.2.2.2.2.1 s.2.2.2.2.2.2.1 s.2.2.2.2.2.2.2.1 s.2.2.2.2.2.2.2.2.1 s.2.2.2.2.2.2.2.2.2.1 s.2.2.2.2.2.2.2.2.2.2.1 s.2.2.2.2.2.2.2.2.2.2.2.1 s.2.2.2.2.2.2.2.2.2.2.2.2.1 s.2.2.2.2.2.2.2.2.2.2.2.2.2.1 s.2.2.2.2.2.2.2.2.2.2.2.2.2.2.1 s.2.2.2.2.2.2.2.2.2.2.2.2.2.2.2 hI (fun b1 b2 b3 b4 b5 b6 b7 b8 b9 b10 b11 b12 b13 b14 b15 b16 h9 hm => hk (b1, b2, b3, b4, b5, b6, b7, b8, b9, b10, b11, b12, b13, b14, b15, b16) h9 hm)) (a1, a2, a3, a4, a5, a6, a7, a8, a9, a10, a11, a12, a13, a14, a15, a16) h
theorem pk_least (P : Nat → Prop) (h : ∃ k, P k) : ∃ k, P k ∧ ∀ j, j < k → ¬ P j := by
  obtain ⟨k, hk⟩ := h
  induction k using Nat.strongRecOn with
  | ind k ih =>
    by_cases e : ∃ j, j < k ∧ P j
    · obtain ⟨j, hj, pj⟩ := e
      exact ih j hj pj
    · exact ⟨k, hk, fun j hj pj => e ⟨j, hj, pj⟩⟩
theorem rp1 {ρ A1 : Type} (W : Nat → (ρ → Prop) → A1 → Prop) (ok : A1 → Prop) (μ : A1 → Nat) (val : A1 → ρ)
    (hs : ∀ (d : Nat) (post : ρ → Prop) (a1 : A1), ok a1 → post (val a1) → (∀ (post' : ρ → Prop) (b1 : A1), ok b1 → μ b1 < μ a1 → post' (val b1) → W d post' b1) → W (d + 1) post a1) :
    ∀ (d : Nat) (post : ρ → Prop) (a1 : A1), ok a1 → μ a1 < d → post (val a1) → W d post a1 := by
  intro d
  induction d with
  | zero => intro post a1 _ h; omega
  | succ d ih =>
    intro post a1 ho hm hp
    exact hs d post a1 ho hp (fun post' b1 ho' hm' hp' => ih post' b1 ho' (by omega) hp')
theorem rp2 {ρ A1 A2 : Type} (W : Nat → (ρ → Prop) → A1 → A2 → Prop) (ok : A1 → A2 → Prop) (μ : A1 → A2 → Nat) (val : A1 → A2 → ρ)
    (hs : ∀ (d : Nat) (post : ρ → Prop) (a1 : A1) (a2 : A2), ok a1 a2 → post (val a1 a2) → (∀ (post' : ρ → Prop) (b1 : A1) (b2 : A2), ok b1 b2 → μ b1 b2 < μ a1 a2 → post' (val b1 b2) → W d post' b1 b2) → W (d + 1) post a1 a2) :
    ∀ (d : Nat) (post : ρ → Prop) (a1 : A1) (a2 : A2), ok a1 a2 → μ a1 a2 < d → post (val a1 a2) → W d post a1 a2 := by
  intro d
  induction d with
  | zero => intro post a1 a2 _ h; omega
  | succ d ih =>
    intro post a1 a2 ho hm hp
    exact hs d post a1 a2 ho hp (fun post' b1 b2 ho' hm' hp' => ih post' b1 b2 ho' (by omega) hp')
theorem rp3 {ρ A1 A2 A3 : Type} (W : Nat → (ρ → Prop) → A1 → A2 → A3 → Prop) (ok : A1 → A2 → A3 → Prop) (μ : A1 → A2 → A3 → Nat) (val : A1 → A2 → A3 → ρ)
    (hs : ∀ (d : Nat) (post : ρ → Prop) (a1 : A1) (a2 : A2) (a3 : A3), ok a1 a2 a3 → post (val a1 a2 a3) → (∀ (post' : ρ → Prop) (b1 : A1) (b2 : A2) (b3 : A3), ok b1 b2 b3 → μ b1 b2 b3 < μ a1 a2 a3 → post' (val b1 b2 b3) → W d post' b1 b2 b3) → W (d + 1) post a1 a2 a3) :
    ∀ (d : Nat) (post : ρ → Prop) (a1 : A1) (a2 : A2) (a3 : A3), ok a1 a2 a3 → μ a1 a2 a3 < d → post (val a1 a2 a3) → W d post a1 a2 a3 := by
  intro d
  induction d with
  | zero => intro post a1 a2 a3 _ h; omega
  | succ d ih =>
    intro post a1 a2 a3 ho hm hp
    exact hs d post a1 a2 a3 ho hp (fun post' b1 b2 b3 ho' hm' hp' => ih post' b1 b2 b3 ho' (by omega) hp')
theorem rp4 {ρ A1 A2 A3 A4 : Type} (W : Nat → (ρ → Prop) → A1 → A2 → A3 → A4 → Prop) (ok : A1 → A2 → A3 → A4 → Prop) (μ : A1 → A2 → A3 → A4 → Nat) (val : A1 → A2 → A3 → A4 → ρ)
    (hs : ∀ (d : Nat) (post : ρ → Prop) (a1 : A1) (a2 : A2) (a3 : A3) (a4 : A4), ok a1 a2 a3 a4 → post (val a1 a2 a3 a4) → (∀ (post' : ρ → Prop) (b1 : A1) (b2 : A2) (b3 : A3) (b4 : A4), ok b1 b2 b3 b4 → μ b1 b2 b3 b4 < μ a1 a2 a3 a4 → post' (val b1 b2 b3 b4) → W d post' b1 b2 b3 b4) → W (d + 1) post a1 a2 a3 a4) :
    ∀ (d : Nat) (post : ρ → Prop) (a1 : A1) (a2 : A2) (a3 : A3) (a4 : A4), ok a1 a2 a3 a4 → μ a1 a2 a3 a4 < d → post (val a1 a2 a3 a4) → W d post a1 a2 a3 a4 := by
  intro d
  induction d with
  | zero => intro post a1 a2 a3 a4 _ h; omega
  | succ d ih =>
    intro post a1 a2 a3 a4 ho hm hp
    exact hs d post a1 a2 a3 a4 ho hp (fun post' b1 b2 b3 b4 ho' hm' hp' => ih post' b1 b2 b3 b4 ho' (by omega) hp')
theorem rp5 {ρ A1 A2 A3 A4 A5 : Type} (W : Nat → (ρ → Prop) → A1 → A2 → A3 → A4 → A5 → Prop) (ok : A1 → A2 → A3 → A4 → A5 → Prop) (μ : A1 → A2 → A3 → A4 → A5 → Nat) (val : A1 → A2 → A3 → A4 → A5 → ρ)
    (hs : ∀ (d : Nat) (post : ρ → Prop) (a1 : A1) (a2 : A2) (a3 : A3) (a4 : A4) (a5 : A5), ok a1 a2 a3 a4 a5 → post (val a1 a2 a3 a4 a5) → (∀ (post' : ρ → Prop) (b1 : A1) (b2 : A2) (b3 : A3) (b4 : A4) (b5 : A5), ok b1 b2 b3 b4 b5 → μ b1 b2 b3 b4 b5 < μ a1 a2 a3 a4 a5 → post' (val b1 b2 b3 b4 b5) → W d post' b1 b2 b3 b4 b5) → W (d + 1) post a1 a2 a3 a4 a5) :
    ∀ (d : Nat) (post : ρ → Prop) (a1 : A1) (a2 : A2) (a3 : A3) (a4 : A4) (a5 : A5), ok a1 a2 a3 a4 a5 → μ a1 a2 a3 a4 a5 < d → post (val a1 a2 a3 a4 a5) → W d post a1 a2 a3 a4 a5 := by
  intro d
  induction d with
  | zero => intro post a1 a2 a3 a4 a5 _ h; omega
  | succ d ih =>
    intro post a1 a2 a3 a4 a5 ho hm hp
    exact hs d post a1 a2 a3 a4 a5 ho hp (fun post' b1 b2 b3 b4 b5 ho' hm' hp' => ih post' b1 b2 b3 b4 b5 ho' (by omega) hp')
theorem rp6 {ρ A1 A2 A3 A4 A5 A6 : Type} (W : Nat → (ρ → Prop) → A1 → A2 → A3 → A4 → A5 → A6 → Prop) (ok : A1 → A2 → A3 → A4 → A5 → A6 → Prop) (μ : A1 → A2 → A3 → A4 → A5 → A6 → Nat) (val : A1 → A2 → A3 → A4 → A5 → A6 → ρ)
    (hs : ∀ (d : Nat) (post : ρ → Prop) (a1 : A1) (a2 : A2) (a3 : A3) (a4 : A4) (a5 : A5) (a6 : A6), ok a1 a2 a3 a4 a5 a6 → post (val a1 a2 a3 a4 a5 a6) → (∀ (post' : ρ → Prop) (b1 : A1) (b2 : A2) (b3 : A3) (b4 : A4) (b5 : A5) (b6 : A6), ok b1 b2 b3 b4 b5 b6 → μ b1 b2 b3 b4 b5 b6 < μ a1 a2 a3 a4 a5 a6 → post' (val b1 b2 b3 b4 b5 b6) → W d post' b1 b2 b3 b4 b5 b6) → W (d + 1) post a1 a2 a3 a4 a5 a6) :
    ∀ (d : Nat) (post : ρ → Prop) (a1 : A1) (a2 : A2) (a3 : A3) (a4 : A4) (a5 : A5) (a6 : A6), ok a1 a2 a3 a4 a5 a6 → μ a1 a2 a3 a4 a5 a6 < d → post (val a1 a2 a3 a4 a5 a6) → W d post a1 a2 a3 a4 a5 a6 := by
  intro d
  induction d with
  | zero => intro post a1 a2 a3 a4 a5 a6 _ h; omega
  | succ d ih =>
    intro post a1 a2 a3 a4 a5 a6 ho hm hp
    exact hs d post a1 a2 a3 a4 a5 a6 ho hp (fun post' b1 b2 b3 b4 b5 b6 ho' hm' hp' => ih post' b1 b2 b3 b4 b5 b6 ho' (by omega) hp')
theorem rec_p {σ ρ : Type} (W : Nat → (ρ → Prop) → σ → Prop) (ok : σ → Prop) (μ : σ → Nat) (val : σ → ρ)
    (hs : ∀ d s post, ok s → post (val s) → (∀ s' post', ok s' → μ s' < μ s → post' (val s') → W d post' s') → W (d + 1) post s) :
    ∀ d s post, ok s → μ s < d → post (val s) → W d post s := by
  intro d
  induction d with
  | zero => intro s post _ h; omega
  | succ d ih =>
    intro s post ho hm hp
    exact hs d s post ho hp (fun s' post' ho' hm' hp' => ih s' post' ho' (by omega) hp')
theorem rec_q {σ ρ : Type} (W : Nat → (ρ → Prop) → σ → Prop) (ok : σ → Prop) (μ : σ → Nat) (Q : σ → ρ → Prop)
    (hs : ∀ d s post, ok s → (∀ r, Q s r → post r) → (∀ s' post', ok s' → μ s' < μ s → (∀ r, Q s' r → post' r) → W d post' s') → W (d + 1) post s) :
    ∀ d s post, ok s → μ s < d → (∀ r, Q s r → post r) → W d post s := by
  intro d
  induction d with
  | zero => intro s post _ h; omega
  | succ d ih =>
    intro s post ho hm hp
    exact hs d s post ho hp (fun s' post' ho' hm' hp' => ih s' post' ho' (by omega) hp')
def bx_sum (f : Nat → Int32) : Nat → Int32
  | 0 => 0
  | n + 1 => bx_sum f n + f n
theorem ek_u {A : Prop} {B : Nat → Prop} {k N : Nat} (hk : k < N) (h : B k) : (some k = none → A) ∧ (∀ y : Nat, some k = some y → (y < N ∧ B y)) :=
  ⟨fun z => absurd z (Option.some_ne_none k), fun _ e => (by cases e; exact ⟨hk, h⟩)⟩
theorem ek_nu {A : Prop} {B : Nat → Prop} (h : A) : ((none : Option Nat) = none → A) ∧ (∀ y : Nat, (none : Option Nat) = some y → B y) :=
  ⟨fun _ => h, fun _ e => (by cases e)⟩
theorem ek_if {c d A B : Prop} (e : c ↔ d) (f : d → A) (g : ¬ d → B) : (c → A) ∧ (¬ c → B) :=
  ⟨fun z => f (e.mp z), fun z => g (fun y => z (e.mpr y))⟩
theorem ek_v {α : Sort _} {P : α → Prop} {a b : α} (e : a = b) (h : P b) : P a := e ▸ h
theorem co_some {x : Option Nat} {A : Prop} {B : Nat → Prop} (i : Nat) (h : B i) (hx : x = some i := by rfl) : (x = none → A) ∧ (∀ y : Nat, x = some y → B y) := by
  subst hx
  exact ⟨fun e => (nomatch e), fun y e => Option.some.inj e ▸ h⟩
theorem co_none {x : Option Nat} {A : Prop} {B : Nat → Prop} (h : A) (hx : x = none := by rfl) : (x = none → A) ∧ (∀ y : Nat, x = some y → B y) := by
  subst hx
  exact ⟨fun _ => h, fun y e => (nomatch e)⟩
theorem co_any {x : Option Nat} {A : Prop} {B : Nat → Prop} (hn : x = none → A) (hs : ∀ i : Nat, x = some i → B i) : (x = none → A) ∧ (∀ y : Nat, x = some y → B y) := ⟨hn, hs⟩
theorem co_2 {P : Nat → Prop} (h0 : P 0) (h1 : P 1) {i : Nat} (hi : i < 2) : P i :=
  match i, hi with
  | 0, _ => h0
  | 1, _ => h1
theorem co_3 {P : Nat → Prop} (h0 : P 0) (h1 : P 1) (h2 : P 2) {i : Nat} (hi : i < 3) : P i :=
  match i, hi with
  | 0, _ => h0
  | 1, _ => h1
  | 2, _ => h2
theorem co_4 {P : Nat → Prop} (h0 : P 0) (h1 : P 1) (h2 : P 2) (h3 : P 3) {i : Nat} (hi : i < 4) : P i :=
  match i, hi with
  | 0, _ => h0
  | 1, _ => h1
  | 2, _ => h2
  | 3, _ => h3
theorem co_dec {N : Nat} {P : Nat → Prop} [DecidablePred P] (h : (List.range N).all (fun i => decide (P i)) = true) {i : Nat} (hi : i < N) : P i := by
  have := List.all_eq_true.mp h i (List.mem_range.mpr hi)
  exact of_decide_eq_true this
theorem co_tab {α : Type} {l : List α} {d : α} {P : α → Prop} (h : ∀ a, a ∈ l → P a) {i : Nat} (hi : i < l.length) : P (l.getD i d) := by
  rw [List.getD_eq_getElem?_getD, List.getElem?_eq_getElem hi]
  exact h _ (List.getElem_mem hi)
theorem pk_mu {x : Int32} {L : Nat} (h0 : ¬ x < 0) (h : ¬ nI L ≤ x) (hL : L < 2 ^ 31) : ∃ j : Nat, j < L ∧ x = nI j ∧ x + 1 = nI (j + 1) ∧ x.toNatClampNeg = j ∧ L - (x + 1).toNatClampNeg < L - x.toNatClampNeg := by
  obtain ⟨j, hj, rfl⟩ := nI_of h0
  have hl : j < L := Nat.not_le.mp fun q => h (nI_le q hj)
  refine ⟨j, hl, rfl, nI_1 j, nI_clamp hj, ?_⟩
  rw [nI_1, nI_clamp (by omega), nI_clamp hj]
  omega
theorem op_s {α : Type} {r : Option α} {A : Prop} {B : α → Prop} {y : α} (h : r = some y) (b : B y) : (r = none → A) ∧ ∀ z, r = some z → B z :=
  ⟨fun e => (by rw [h] at e; cases e), fun z e => (by rw [h] at e; cases e; exact b)⟩
def l_holds {α : Type} (a : Nat → Option Nat) (LP : List Nat) (p : Nat → α) (c : Nat) (b : Nat → α) : Prop :=
  ∀ j, j < c → ∃ y, a j = some y ∧ y ∈ LP ∧ p y = b j
theorem l_holds_0 {α : Type} {a : Nat → Option Nat} {LP : List Nat} {p b : Nat → α} : l_holds a LP p 0 b := fun j h => absurd h (Nat.not_lt_zero j)
theorem l_in_new (LP : List Nat) (q : Nat) : q ∈ LP ++ [q] := List.mem_append.mpr (Or.inr (List.mem_singleton.mpr rfl))
def l_sum (b : Nat → Int32) : Nat → Int32
  | 0 => 0
  | k + 1 => l_sum b k + b k
theorem sb_shr0 (x : Int32) : x >>> ((0 : Int32) &&& 31) = x := by
  rw [show ((0 : Int32) &&& 31) = 0 by decide]
  simp
theorem sb_shl0 (x : Int32) : x <<< ((0 : Int32) &&& 31) = x := by
  rw [show ((0 : Int32) &&& 31) = 0 by decide]
  simp
theorem sb_cl0 : (0 : Int32).toNatClampNeg = 0 := by decide
theorem sb_m1 {p : Nat} (h : 0 < p) : nI p + (-1) = nI (p - 1) := by
  obtain ⟨q, rfl⟩ : ∃ q, p = q + 1 := ⟨p - 1, by omega⟩
  exact pk_m1 q
def sb_b (c : Nat) : Int32 := (nI c).toInt8.toInt32
theorem sb_byte : ∀ c, c < 256 → sb_b c &&& 255 = nI c ∧ ((nI c).toUInt32 % 65536).toInt32 = nI c ∧ nI c ≤ 255 := by decide +kernel
def sb_Fit (a : Nat → Int32) : Prop := ∀ j, fits .byte (.int (a j)) = true
def sb_Lat (t : Nat → Nat) (n : Nat) (a : Nat → Int32) : Prop := ∀ j, j < n → t j < 256 ∧ a j = sb_b (t j)
theorem sb_fitB (c : Nat) : fits .byte (.int (sb_b c)) = true := pk_fb _
theorem sb_fit0 : sb_Fit (fun _ => 0) := fun _ => by
  show fits .byte (.int 0) = true
  decide
theorem sb_fitU {a : Nat → Int32} {k : Nat} {x : Int32} (h : sb_Fit a) (hx : fits .byte (.int x) = true) : sb_Fit (upd a k x) := by
  intro j
  by_cases e : j = k
  · subst e
    rw [pk_us]
    exact hx
  · rw [pk_un e]
    exact h j
def sb_cat (t : Nat → Nat) (n : Nat) (s : Nat → Nat) : Nat → Nat := fun j => if j < n then t j else s (j - n)
theorem sb_cat_lo {t s : Nat → Nat} {n j : Nat} (h : j < n) : sb_cat t n s j = t j := if_pos h
theorem sb_cat_hi {t s : Nat → Nat} {n j : Nat} : sb_cat t n s (n + j) = s j := by
  show (if n + j < n then t (n + j) else s (n + j - n)) = s j
  rw [if_neg (by omega), Nat.add_sub_cancel_left]
theorem sb_latPut {t s : Nat → Nat} {n w : Nat} {a a' : Nat → Int32} (h : sb_Lat t n a) (hk : ∀ j, j < n → a' j = a j) (hs : ∀ i, i < w → s i < 256 ∧ a' (n + i) = sb_b (s i)) : sb_Lat (sb_cat t n s) (n + w) a' := by
  intro j hj
  by_cases e : j < n
  · rw [sb_cat_lo e, hk j e]
    exact h j e
  · obtain ⟨i, rfl⟩ : ∃ i, j = n + i := ⟨j - n, by omega⟩
    rw [sb_cat_hi]
    exact hs i (by omega)
theorem sb_latKeep {t : Nat → Nat} {n : Nat} {a a' : Nat → Int32} (h : sb_Lat t n a) (hk : ∀ j, j < n → a' j = a j) : sb_Lat t n a' := fun j hj => by
  rw [hk j hj]
  exact h j hj
def sb_cap (q m : Nat) : Nat := if q ≤ m then m else if 2 * m + 2 < q then q else 2 * m + 2
def sb_Room (q m mc ms : Nat) : Prop := q ≤ m ∨ (1 ≤ mc ∧ sb_cap q m ≤ ms ∧ sb_cap q m ≤ 65536)
theorem sb_cap_ge (q m : Nat) : q ≤ sb_cap q m := by
  unfold sb_cap
  split
  · omega
  · split <;> omega
theorem sb_cap_gem (q m : Nat) : m ≤ sb_cap q m := by
  unfold sb_cap
  split
  · omega
  · split <;> omega
theorem sb_cap_le {q m mc ms : Nat} (hm : m ≤ 65536) (hr : sb_Room q m mc ms) : sb_cap q m ≤ 65536 := by
  rcases hr with h | h
  · rw [sb_cap, if_pos h]
    exact hm
  · exact h.2.2
theorem sb_at {P : Int32 → Prop} {x y : Int32} (e : x = y) (h : P y) : P x := e ▸ h
def sb_dg (w : Nat) : Nat := if w < 10 then 1 else if w < 100 then 2 else if w < 1000 then 3 else if w < 10000 then 4 else if w < 100000 then 5 else if w < 1000000 then 6 else if w < 10000000 then 7 else if w < 100000000 then 8 else if w < 1000000000 then 9 else 10
def sb_dec (v : Nat) : Nat → Nat := fun i => 48 + v / 10 ^ (sb_dg v - 1 - i) % 10
theorem sb_dg_in (w : Nat) : 1 ≤ sb_dg w ∧ sb_dg w ≤ 10 := by
  unfold sb_dg
  constructor <;> (repeat' split) <;> omega
theorem sb_dg100 {w : Nat} (h : 100 ≤ w) (hw : w < 2 ^ 31) : sb_dg w = sb_dg (w / 100) + 2 := by
  rw [sb_dg, sb_dg, if_neg (show ¬ w < 10 by omega), if_neg (show ¬ w < 100 by omega)]
  by_cases h3 : w < 1000
  · rw [if_pos h3, if_pos (show w / 100 < 10 by omega)]
  rw [if_neg h3, if_neg (show ¬ w / 100 < 10 by omega)]
  by_cases h4 : w < 10000
  · rw [if_pos h4, if_pos (show w / 100 < 100 by omega)]
  rw [if_neg h4, if_neg (show ¬ w / 100 < 100 by omega)]
  by_cases h5 : w < 100000
  · rw [if_pos h5, if_pos (show w / 100 < 1000 by omega)]
  rw [if_neg h5, if_neg (show ¬ w / 100 < 1000 by omega)]
  by_cases h6 : w < 1000000
  · rw [if_pos h6, if_pos (show w / 100 < 10000 by omega)]
  rw [if_neg h6, if_neg (show ¬ w / 100 < 10000 by omega)]
  by_cases h7 : w < 10000000
  · rw [if_pos h7, if_pos (show w / 100 < 100000 by omega)]
  rw [if_neg h7, if_neg (show ¬ w / 100 < 100000 by omega)]
  by_cases h8 : w < 100000000
  · rw [if_pos h8, if_pos (show w / 100 < 1000000 by omega)]
  rw [if_neg h8, if_neg (show ¬ w / 100 < 1000000 by omega)]
  by_cases h9 : w < 1000000000
  · rw [if_pos h9, if_pos (show w / 100 < 10000000 by omega)]
  rw [if_neg h9, if_neg (show ¬ w / 100 < 10000000 by omega)]
  rw [if_pos (show w / 100 < 100000000 by omega)]
theorem sb_negT {w : Nat} (h : w < 2 ^ 31) : (-nI w).toInt = -(w : Int) := by
  rw [Int32.toInt_neg, nI_toInt h]
  exact Int.bmod_eq_of_le (by omega) (by omega)
theorem sb_nle {a b : Nat} (ha : a < 2 ^ 31) (hb : b < 2 ^ 31) : -nI a ≤ -nI b ↔ b ≤ a := by
  rw [Int32.le_iff_toInt_le, sb_negT ha, sb_negT hb]
  omega
theorem sb_nlt {a b : Nat} (ha : a < 2 ^ 31) (hb : b < 2 ^ 31) : -nI a < -nI b ↔ b < a := by
  rw [Int32.lt_iff_toInt_lt, sb_negT ha, sb_negT hb]
  omega
theorem sb_cmp {A B : Prop} {x : Int32} (v c : Nat) (f : c ≤ v → A) (g : v < c → B) (hv : v < 2 ^ 31) (hx : x = -nI c := by rfl) (hc : c < 2 ^ 31 := by omega) : (-nI v ≤ x → A) ∧ (¬ -nI v ≤ x → B) := by
  subst hx
  rw [sb_nle hv hc]
  exact ⟨f, fun z => g (by omega)⟩
theorem sb_ndiv {w : Nat} (hw : w < 2 ^ 31) : (-nI w) / 100 = -nI (w / 100) := by
  apply Int32.toInt_inj.mp
  have h100 : (100 : Int32).toInt = 100 := by decide
  rw [Int32.toInt_div, sb_negT hw, h100, sb_negT (by omega), Int.neg_tdiv, Int.tdiv_eq_ediv_of_nonneg (by omega), Int.bmod_eq_of_le (by omega) (by omega)]
  omega
theorem sb_nrem {w : Nat} (hw : w < 2 ^ 31) : (-nI (w / 100)) * 100 - (-nI w) = nI (w % 100) := by
  have h := pk_rem (a := w) (d := 100) hw (by decide) (by decide)
  rw [pk_div hw (by decide) (by decide)] at h
  rw [← h]
  show (-nI (w / 100)) * nI 100 - (-nI w) = nI w - nI (w / 100) * nI 100
  rw [Int32.neg_mul, Int32.sub_neg, Int32.add_comm, ← Int32.sub_eq_add_neg]
end
section
/-! rows on bits, shifts and unsigned numbers, to paste: each family out of a closed proof of our own, whole with what it rests on; each by itself clean at Lean in its own claim (generation 39, form 5). Take a family whole -/
/-! ===== Int32 by its bits: bt x i ===== -/
def bt (x : Int32) (i : Nat) : Bool := x.toBitVec.getLsbD i
theorem b_ext {x y : Int32} (h : ∀ i, i < 32 → bt x i = bt y i) : x = y := Int32.toBitVec_inj.mp (BitVec.eq_of_getLsbD_eq (fun i hi => h i hi))
theorem b_or (x y : Int32) (i : Nat) : bt (x ||| y) i = (bt x i || bt y i) := by unfold bt; rw [Int32.toBitVec_or, BitVec.getLsbD_or]
theorem b_and (x y : Int32) (i : Nat) : bt (x &&& y) i = (bt x i && bt y i) := by unfold bt; rw [Int32.toBitVec_and, BitVec.getLsbD_and]
theorem b_xor (x y : Int32) (i : Nat) : bt (x ^^^ y) i = (bt x i ^^ bt y i) := by unfold bt; rw [Int32.toBitVec_xor, BitVec.getLsbD_xor]
theorem b_big {x : Int32} {i : Nat} (h : 32 ≤ i) : bt x i = false := BitVec.getLsbD_of_ge _ _ h
theorem b_255 (i : Nat) : bt 255 i = decide (i < 8) := by
  rcases Nat.lt_or_ge i 32 with h | h
  · exact (by decide +kernel : ∀ i, i < 32 → bt 255 i = decide (i < 8)) i h
  · rw [b_big h, decide_eq_false (by omega)]
theorem b_65535 (i : Nat) : bt 65535 i = decide (i < 16) := by
  rcases Nat.lt_or_ge i 32 with h | h
  · exact (by decide +kernel : ∀ i, i < 32 → bt 65535 i = decide (i < 16)) i h
  · rw [b_big h, decide_eq_false (by omega)]
theorem b_m1 : ∀ i, i < 32 → bt (-1) i = true := by decide +kernel
theorem b_0 (i : Nat) : bt 0 i = false := BitVec.getLsbD_zero
theorem s_l : ∀ n, n < 32 → ((nI n &&& 31).toBitVec.smod 32).toNat = n := by decide +kernel
theorem s_u : ∀ n, n < 32 → (((nI n).toUInt32 &&& Int32.toUInt32 31).toBitVec % 32).toNat = n := by decide +kernel
theorem b_shl (n : Nat) (hn : n < 32) (x : Int32) {i : Nat} (hi : i < 32) : bt (x <<< (nI n &&& 31)) i = (decide (n ≤ i) && bt x (i - n)) := by
  unfold bt
  rw [Int32.toBitVec_shiftLeft]
  show (x.toBitVec <<< ((nI n &&& 31).toBitVec.smod 32).toNat).getLsbD i = _
  rw [s_l n hn, BitVec.getLsbD_shiftLeft]
  rcases Nat.lt_or_ge i n with h | h
  · simp [h, Nat.not_le.mpr h]
  · simp [hi, h, Nat.not_lt.mpr h]
theorem b_ushr (n : Nat) (hn : n < 32) (x : Int32) (i : Nat) : bt ((x.toUInt32 >>> ((nI n).toUInt32 &&& Int32.toUInt32 31)).toInt32) i = bt x (n + i) := by
  show (x.toUInt32 >>> ((nI n).toUInt32 &&& Int32.toUInt32 31)).toBitVec.getLsbD i = x.toUInt32.toBitVec.getLsbD (n + i)
  rw [UInt32.toBitVec_shiftRight]
  show (x.toUInt32.toBitVec >>> (((nI n).toUInt32 &&& Int32.toUInt32 31).toBitVec % 32).toNat).getLsbD i = _
  rw [s_u n hn, BitVec.getLsbD_ushiftRight]
theorem b_sshr (n : Nat) (hn : n < 32) (x : Int32) {i : Nat} (hi : i < 32) : bt (x >>> (nI n &&& 31)) i = if n + i < 32 then bt x (n + i) else bt x 31 := by
  unfold bt
  rw [Int32.toBitVec_shiftRight]
  show (x.toBitVec.sshiftRight ((nI n &&& 31).toBitVec.smod 32).toNat).getLsbD i = _
  rw [s_l n hn, BitVec.getLsbD_sshiftRight, BitVec.msb_eq_getLsbD_last]
  simp [hi]
theorem b_shl8 (x : Int32) {i : Nat} (hi : i < 32) : bt (x <<< ((8 : Int32) &&& 31)) i = (decide (8 ≤ i) && bt x (i - 8)) := b_shl 8 (by omega) x hi
theorem b_shl16 (x : Int32) {i : Nat} (hi : i < 32) : bt (x <<< ((16 : Int32) &&& 31)) i = (decide (16 ≤ i) && bt x (i - 16)) := b_shl 16 (by omega) x hi
theorem b_shl24 (x : Int32) {i : Nat} (hi : i < 32) : bt (x <<< ((24 : Int32) &&& 31)) i = (decide (24 ≤ i) && bt x (i - 24)) := b_shl 24 (by omega) x hi
theorem b_sshr8 (x : Int32) {i : Nat} (hi : i < 32) : bt (x >>> ((8 : Int32) &&& 31)) i = if 8 + i < 32 then bt x (8 + i) else bt x 31 := b_sshr 8 (by omega) x hi
/-! ===== nI under and, xor, >>>, one bit, 65535 ===== -/
theorem nx_and (a b : Nat) : nI a &&& nI b = nI (a &&& b) := by
  apply Int32.toBitVec_inj.1
  show BitVec.ofNat 32 a &&& BitVec.ofNat 32 b = BitVec.ofNat 32 (a &&& b)
  apply BitVec.eq_of_getLsbD_eq
  intro i hi
  simp [hi]
theorem nx_xor (a b : Nat) : nI a ^^^ nI b = nI (a ^^^ b) := by
  apply Int32.toBitVec_inj.1
  show BitVec.ofNat 32 a ^^^ BitVec.ofNat 32 b = BitVec.ofNat 32 (a ^^^ b)
  apply BitVec.eq_of_getLsbD_eq
  intro i hi
  simp [hi]
theorem nx_cnt : ∀ j : Fin 32, (UInt32.ofNat j.val &&& Int32.toUInt32 31).toNat % 32 = j.val := by decide +kernel
theorem nx_ush {k j : Nat} (hk : k < 65536) (hj : j < 32) : ((nI k).toUInt32 >>> ((nI j).toUInt32 &&& Int32.toUInt32 31)).toInt32 = nI (k >>> j) := by
  have hs : k >>> j ≤ k := by
    rw [Nat.shiftRight_eq_div_pow]
    exact Nat.div_le_self _ _
  have e2 : UInt32.ofNat k >>> (UInt32.ofNat j &&& Int32.toUInt32 31) = UInt32.ofNat (k >>> j) := by
    apply UInt32.toNat_inj.1
    have h1 : (UInt32.ofNat k).toNat = k := Nat.mod_eq_of_lt (by omega)
    have h2 : (UInt32.ofNat (k >>> j)).toNat = k >>> j := Nat.mod_eq_of_lt (by omega)
    rw [UInt32.toNat_shiftRight, nx_cnt ⟨j, hj⟩, h1, h2]
  show (UInt32.ofNat k >>> (UInt32.ofNat j &&& Int32.toUInt32 31)).toInt32 = _
  rw [e2]
  rfl
theorem nx_bit {k j : Nat} (hk : k < 65536) (hj : j < 16) : (((nI k).toUInt32 >>> ((nI j).toUInt32 &&& Int32.toUInt32 31)).toInt32 &&& 1) = 0 ↔ k.testBit j = false := by
  rw [nx_ush hk (by omega)]
  show nI (k >>> j) &&& nI 1 = 0 ↔ _
  rw [nx_and, Nat.and_one_is_mod, ← nI_0, nI_eq (by omega) (by omega), Nat.testBit_eq_decide_div_mod_eq, Nat.shiftRight_eq_div_pow, decide_eq_false_iff_not]
  generalize k / 2 ^ j = z
  omega
theorem nx_mod (k : Nat) : nI k &&& 65535 = nI (k % 65536) := by
  show nI k &&& nI 65535 = _
  rw [nx_and, show (65535 : Nat) = 2 ^ 16 - 1 from rfl, Nat.and_two_pow_sub_one_eq_mod]
theorem nx_m16 {k : Nat} (h : k < 65536) : nI k &&& 65535 = nI k := by rw [nx_mod, Nat.mod_eq_of_lt h]
theorem nx_mask (x : Int32) : ∃ k, k < 65536 ∧ x &&& 65535 = nI k := by
  have e : x = nI x.toBitVec.toNat := by
    apply Int32.toBitVec_inj.1
    show x.toBitVec = BitVec.ofNat 32 x.toBitVec.toNat
    simp
  refine ⟨x.toBitVec.toNat % 65536, Nat.mod_lt _ (by omega), ?_⟩
  rw [← nx_mod, ← e]
/-! ===== Int32 as a set of bits: test, set ===== -/
def nf_M (m : Int32) : Nat := 4294967296 - m.toBitVec.toNat
theorem nf_sh : ∀ l, l < 32 → ((1 : Int32) <<< (nI l &&& 31)).toBitVec = BitVec.twoPow 32 l := by decide +kernel
theorem nf_sl : ∀ l, l < 32 → (((nI l).toUInt32 &&& Int32.toUInt32 31).toBitVec % 32).toNat = l := by decide +kernel
theorem nf_tp : ∀ l, l < 32 → BitVec.twoPow 32 l ≠ 0#32 := by decide +kernel
theorem nf_bit (m : Int32) (l : Nat) (hl : l < 32) : ((m.toUInt32 >>> ((nI l).toUInt32 &&& Int32.toUInt32 31)).toInt32 &&& 1) = 0 ↔ (m &&& ((1 : Int32) <<< (nI l &&& 31))) = 0 := by
  have e : ((m.toUInt32 >>> ((nI l).toUInt32 &&& Int32.toUInt32 31)).toInt32).toBitVec = m.toBitVec >>> l := by
    show m.toBitVec >>> (((nI l).toUInt32 &&& Int32.toUInt32 31).toBitVec % 32) = m.toBitVec >>> l
    rw [BitVec.ushiftRight_eq', nf_sl l hl]
  rw [← Int32.toBitVec_inj, ← Int32.toBitVec_inj, Int32.toBitVec_and, Int32.toBitVec_and, nf_sh l hl, e, BitVec.and_twoPow]
  show (m.toBitVec >>> l &&& 1#32) = 0#32 ↔ _ = 0#32
  rw [BitVec.and_one_eq_setWidth_ofBool_getLsbD, BitVec.getLsbD_ushiftRight, Nat.add_zero]
  cases hb : m.toBitVec.getLsbD l
  · exact ⟨fun _ => by simp, fun _ => by decide⟩
  · exact ⟨fun z => absurd z (by decide), fun z => absurd ((if_pos rfl).symm.trans z) (nf_tp l hl)⟩
theorem nf_gr (m k : Int32) (h : m &&& k = 0) (hk : k ≠ 0) : nf_M (m ||| k) < nf_M m := by
  have hm := m.toBitVec.isLt
  have hm' := (m ||| k).toBitVec.isLt
  have h1 : m.toBitVec.toNat ≤ (m ||| k).toBitVec.toNat := by
    rw [Int32.toBitVec_or, BitVec.toNat_or]
    exact Nat.left_le_or
  have h2 : m.toBitVec.toNat ≠ (m ||| k).toBitVec.toNat := by
    intro e
    have e2 : m = m ||| k := Int32.toBitVec_inj.mp (BitVec.eq_of_toNat_eq e)
    apply hk
    apply Int32.toBitVec_inj.mp
    show k.toBitVec = 0#32
    apply BitVec.eq_of_getLsbD_eq
    intro i hi
    have a : m.toBitVec.getLsbD i = (m.toBitVec.getLsbD i || k.toBitVec.getLsbD i) := by rw [← BitVec.getLsbD_or, ← Int32.toBitVec_or, ← e2]
    have b : (m.toBitVec.getLsbD i && k.toBitVec.getLsbD i) = false := by
      rw [← BitVec.getLsbD_and, ← Int32.toBitVec_and, h]
      exact BitVec.getLsbD_zero
    rw [BitVec.getLsbD_zero]
    revert a b
    cases m.toBitVec.getLsbD i <;> cases k.toBitVec.getLsbD i <;> simp
  unfold nf_M
  omega
/-! ===== a byte read unsigned ===== -/
theorem bp_b (x : Int32) : x.toInt8.toInt32 &&& 255 = x &&& 255 := by
  apply Int32.toBitVec_inj.mp
  rw [Int32.toBitVec_and, Int32.toBitVec_and, Int8.toBitVec_toInt32, Int32.toBitVec_toInt8]
  apply BitVec.eq_of_getLsbD_eq
  intro i hi
  rw [BitVec.getLsbD_and, BitVec.getLsbD_and]
  have hm : ∀ i < 32, 8 ≤ i → (255 : Int32).toBitVec.getLsbD i = false := by decide
  rcases Nat.lt_or_ge i 8 with z | z
  · rw [BitVec.getLsbD_signExtend, BitVec.getLsbD_signExtend, if_pos z, if_pos hi]
    simp only [z, hi, decide_true, Bool.true_and]
  · rw [hm i hi z]; simp
/-! ===== the char cast and 65535 ===== -/
theorem em_w (v : Int32) : ∃ w : Nat, w < 65536 ∧ (v.toUInt32 % 65536).toInt32 = nI w ∧ v &&& 65535 = nI w := by
  have hr := lw_u16_r v
  have h0 : (0 : Int32).toInt = 0 := by decide
  obtain ⟨w, h1, h2⟩ := nI_of (x := lw_u16 v) (by rw [Int32.lt_iff_toInt_lt]; omega)
  have h3 : (v.toUInt32 % 65536).toInt32 = nI w := h2
  rw [h2, nI_toInt h1] at hr
  exact ⟨w, by omega, h3, by rw [← lg_i2c_mask, ← lg_i2c_nf, h3]⟩
/-! ===== Int64 as a set of bits: test, set, clear ===== -/
theorem ts_nf {x : Bool} (h : ¬ x = false) : x = true := by cases x <;> first | rfl | exact absurd rfl h
theorem ts_nt {x : Bool} (h : ¬ x = true) : x = false := by cases x <;> first | rfl | exact absurd rfl h
theorem ts_bit {w : Int64} {s : UInt64} {j : Nat} (hj : j < 64) (hs : s.toNat = j) : ((w.toUInt64 >>> s).toInt64 &&& 1) = 0 ↔ w.toBitVec.getLsbD j = false := by
  have e : (w.toUInt64 >>> s).toInt64.toBitVec = w.toBitVec >>> j := by
    apply BitVec.eq_of_toNat_eq
    show (w.toUInt64 >>> s).toNat = _
    rw [UInt64.toNat_shiftRight, hs, Nat.mod_eq_of_lt hj, BitVec.toNat_ushiftRight]
    rfl
  rw [← Int64.toBitVec_inj, Int64.toBitVec_and, e]
  show w.toBitVec >>> j &&& 1#64 = 0#64 ↔ _
  constructor
  · intro h
    have t := congrArg (fun x => x.getLsbD 0) h
    simpa using t
  · intro h
    apply BitVec.eq_of_getLsbD_eq
    intro i hi
    cases i with
    | zero => simp [h]
    | succ i => simp
theorem ts_or {w m : Int64} {j : Nat} (hj : j < 64) (hm : m.toBitVec = BitVec.twoPow 64 j) : (w ||| m) = w ↔ w.toBitVec.getLsbD j = true := by
  rw [← Int64.toBitVec_inj, Int64.toBitVec_or, hm]
  constructor
  · intro h
    have t := congrArg (fun x => x.getLsbD j) h
    simp only [BitVec.getLsbD_or, BitVec.getLsbD_twoPow] at t
    simpa [hj] using t.symm
  · intro h
    apply BitVec.eq_of_getLsbD_eq
    intro i hi
    rw [BitVec.getLsbD_or, BitVec.getLsbD_twoPow]
    by_cases e : j = i
    · subst e; rw [h, Bool.true_or]
    · simp [e]
theorem ts_and {w m : Int64} {j : Nat} (hj : j < 64) (hm : m.toBitVec = BitVec.twoPow 64 j) : (w &&& (m ^^^ (-1))) = w ↔ w.toBitVec.getLsbD j = false := by
  have ha : (-1 : Int64).toBitVec = BitVec.allOnes 64 := by decide
  rw [← Int64.toBitVec_inj, Int64.toBitVec_and, Int64.toBitVec_xor, hm, ha]
  constructor
  · intro h
    have t := congrArg (fun x => x.getLsbD j) h
    simp only [BitVec.getLsbD_and, BitVec.getLsbD_xor, BitVec.getLsbD_twoPow, BitVec.getLsbD_allOnes] at t
    simpa [hj] using t.symm
  · intro h
    apply BitVec.eq_of_getLsbD_eq
    intro i hi
    rw [BitVec.getLsbD_and, BitVec.getLsbD_xor, BitVec.getLsbD_twoPow, BitVec.getLsbD_allOnes]
    by_cases e : j = i
    · subst e; rw [h, Bool.false_and]
    · simp [e, hi]
/-! ===== lN n to 2^64: shifts, and, or, masks, one bit ===== -/
theorem wb_tb (n : Nat) : (lN n).toBitVec = BitVec.ofNat 64 n := rfl
theorem wb_inj {a b : Int64} (h : a.toBitVec = b.toBitVec) : a = b := Int64.toBitVec_inj.mp h
theorem wb_tn {n : Nat} (h : n < 2 ^ 64) : (lN n).toBitVec.toNat = n := by rw [wb_tb, BitVec.toNat_ofNat, Nat.mod_eq_of_lt h]
theorem wb_of (x : Int64) : ∃ n, n < 2 ^ 64 ∧ x = lN n := ⟨x.toBitVec.toNat, x.toBitVec.isLt, wb_inj (by rw [wb_tb]; simp)⟩
theorem wb_of32 (x : Int32) : ∃ n, n < 2 ^ 32 ∧ x = nI n := ⟨x.toBitVec.toNat, x.toBitVec.isLt, Int32.toBitVec_inj.mp (by show _ = BitVec.ofNat 32 _; simp)⟩
theorem wb_c : ∀ k, k < 64 → ((nI k).toInt64 &&& 63) = lN k := by decide +kernel
theorem wb_cu : ∀ k, k < 64 → ((nI k).toInt64.toUInt64 &&& Int64.toUInt64 63) = UInt64.ofNat k := by decide +kernel
theorem wb_sm : ∀ k, k < 64 → (BitVec.ofNat 64 k).smod 64 = BitVec.ofNat 64 k := by decide +kernel
theorem wb_pw {a b : Nat} (h : a ≤ b) : 2 ^ b = 2 ^ a * 2 ^ (b - a) := by rw [← Nat.pow_add]; congr 1; omega
theorem wb_lt2 {a b : Nat} (h : a < b) : 2 ^ a < 2 ^ b := Nat.pow_lt_pow_right (by decide) h
theorem wb_mod (n : Nat) : lN n = lN (n % 2 ^ 64) := wb_inj (by rw [wb_tb, wb_tb]; apply BitVec.eq_of_toNat_eq; rw [BitVec.toNat_ofNat, BitVec.toNat_ofNat, Nat.mod_mod])
theorem wb_shr {n k : Nat} (hn : n < 2 ^ 64) (hk : k < 64) : ((lN n).toUInt64 >>> ((nI k).toInt64.toUInt64 &&& Int64.toUInt64 63)).toInt64 = lN (n / 2 ^ k) := by
  rw [wb_cu k hk]
  apply wb_inj
  apply BitVec.eq_of_toNat_eq
  show ((lN n).toUInt64 >>> UInt64.ofNat k).toNat = (BitVec.ofNat 64 _).toNat
  have h1 : (UInt64.ofNat k).toNat = k := by
    show (BitVec.ofNat 64 k).toNat = k
    rw [BitVec.toNat_ofNat, Nat.mod_eq_of_lt (by omega)]
  have h2 : (lN n).toUInt64.toNat = n := wb_tn hn
  rw [UInt64.toNat_shiftRight, h1, h2, Nat.mod_eq_of_lt hk, Nat.shiftRight_eq_div_pow, BitVec.toNat_ofNat, Nat.mod_eq_of_lt (Nat.lt_of_le_of_lt (Nat.div_le_self _ _) hn)]
theorem wb_shl (n : Nat) {k : Nat} (hk : k < 64) : lN n <<< ((nI k).toInt64 &&& 63) = lN (n * 2 ^ k) := by
  rw [wb_c k hk]
  apply wb_inj
  rw [Int64.toBitVec_shiftLeft, wb_tb, wb_tb, wb_tb, wb_sm k hk]
  apply BitVec.eq_of_toNat_eq
  rw [BitVec.shiftLeft_eq', BitVec.toNat_shiftLeft, BitVec.toNat_ofNat, BitVec.toNat_ofNat, BitVec.toNat_ofNat, Nat.mod_eq_of_lt (show k < 2 ^ 64 by omega), Nat.shiftLeft_eq, Nat.mul_mod, Nat.mod_mod, ← Nat.mul_mod]
theorem wb_and {a b : Nat} (ha : a < 2 ^ 64) (hb : b < 2 ^ 64) : lN a &&& lN b = lN (a &&& b) := by
  apply wb_inj
  rw [Int64.toBitVec_and, wb_tb, wb_tb, wb_tb]
  apply BitVec.eq_of_toNat_eq
  rw [BitVec.toNat_and, BitVec.toNat_ofNat, BitVec.toNat_ofNat, BitVec.toNat_ofNat, Nat.mod_eq_of_lt ha, Nat.mod_eq_of_lt hb, Nat.mod_eq_of_lt (Nat.and_lt_two_pow _ hb)]
theorem wb_or {a b : Nat} (ha : a < 2 ^ 64) (hb : b < 2 ^ 64) : lN a ||| lN b = lN (a ||| b) := by
  apply wb_inj
  rw [Int64.toBitVec_or, wb_tb, wb_tb, wb_tb]
  apply BitVec.eq_of_toNat_eq
  rw [BitVec.toNat_or, BitVec.toNat_ofNat, BitVec.toNat_ofNat, BitVec.toNat_ofNat, Nat.mod_eq_of_lt ha, Nat.mod_eq_of_lt hb, Nat.mod_eq_of_lt (Nat.or_lt_two_pow ha hb)]
theorem wb_mask {n k : Nat} (hn : n < 2 ^ 64) (hk : k < 64) : lN n &&& lN (2 ^ k - 1) = lN (n % 2 ^ k) := by
  rw [wb_and hn (by have := wb_lt2 hk; omega), Nat.and_two_pow_sub_one_eq_mod]
theorem wb_a1 {n : Nat} (hn : n < 2 ^ 64) : lN n &&& 1 = lN (n % 2) := wb_mask (k := 1) hn (by decide)
theorem wb_bit {n k : Nat} (hn : n < 2 ^ 64) (hk : k < 64) : ((lN n).toUInt64 >>> ((nI k).toInt64.toUInt64 &&& Int64.toUInt64 63)).toInt64 &&& 1 = lN (n / 2 ^ k % 2) := by
  rw [wb_shr hn hk, wb_a1 (Nat.lt_of_le_of_lt (Nat.div_le_self _ _) hn)]
theorem wb_xor {q k : Nat} (hk : k < 63) (h : 2 ^ k ≤ q) (h2 : q < 2 ^ (k + 1)) : lN q ^^^ lN (2 ^ k) = lN (q - 2 ^ k) := by
  obtain ⟨r, rfl⟩ : ∃ r, q = 2 ^ k + r := ⟨q - 2 ^ k, by omega⟩
  have hr : r < 2 ^ k := by rw [Nat.pow_succ] at h2; omega
  have hx : (2 ^ k + r) ^^^ 2 ^ k = r := by
    apply Nat.eq_of_testBit_eq
    intro i
    rw [Nat.testBit_xor, Nat.testBit_two_pow]
    rcases Nat.lt_trichotomy i k with h | h | h
    · rw [Nat.testBit_two_pow_add_gt h]
      simp [show ¬ k = i by omega]
    · subst h
      rw [Nat.testBit_two_pow_add_eq]
      simp
    · have a1 : 2 ^ (k + 1) ≤ 2 ^ i := Nat.pow_le_pow_right (by decide) h
      rw [Nat.testBit_lt_two_pow (show 2 ^ k + r < 2 ^ i by omega), Nat.testBit_lt_two_pow (show r < 2 ^ i by omega)]
      simp [show ¬ k = i by omega]
  have b1 := wb_lt2 (show k + 1 < 64 by omega)
  have b2 := wb_lt2 (show k < 64 by omega)
  apply wb_inj
  rw [Int64.toBitVec_xor, wb_tb, wb_tb, wb_tb]
  apply BitVec.eq_of_toNat_eq
  rw [BitVec.toNat_xor, BitVec.toNat_ofNat, BitVec.toNat_ofNat, BitVec.toNat_ofNat, Nat.mod_eq_of_lt (by omega : 2 ^ k + r < 2 ^ 64), Nat.mod_eq_of_lt b2, hx, Nat.add_sub_cancel_left, Nat.mod_eq_of_lt (by omega)]
/-! ===== lN: masks, 'or' of parts that don't overlap is a sum ===== -/
theorem u_tn {n : Nat} (h : n < 2 ^ 64) : (UInt64.ofNat n).toNat = n := Nat.mod_eq_of_lt h
theorem g_and {a b c : Nat} (ha : a < 2 ^ 64) (hb : b < 2 ^ 64) (hc : a &&& b = c) : lN a &&& lN b = lN c := by
  subst hc
  have h : UInt64.ofNat a &&& UInt64.ofNat b = UInt64.ofNat (a &&& b) := UInt64.toNat_inj.mp (by rw [UInt64.toNat_and, u_tn ha, u_tn hb, u_tn (Nat.and_lt_two_pow a hb)])
  have h2 := congrArg UInt64.toInt64 h
  exact h2
theorem g_and1 {a : Nat} (ha : a < 2 ^ 64) : lN a &&& 1 = lN (a % 2) := g_and (b := 1) ha (by decide) (Nat.and_two_pow_sub_one_eq_mod a 1)
theorem g_mask {a s p : Nat} (hp : 2 ^ s = p) (hs : s < 64) (ha : a < 2 ^ 64) : lN a &&& lN (p - 1) = lN (a % p) := by
  subst hp
  have := Nat.pow_lt_pow_right (show 1 < 2 by decide) hs
  exact g_and ha (by omega) (Nat.and_two_pow_sub_one_eq_mod a s)
theorem g_or {k p a b : Nat} (hp : 2 ^ k = p) (ha : a < p) (h : b * p + a < 2 ^ 64) : lN (b * p) ||| lN a = lN (b * p + a) := by
  subst hp
  have h1 : b * 2 ^ k ||| a = b * 2 ^ k + a := by rw [← Nat.shiftLeft_eq, Nat.shiftLeft_add_eq_or_of_lt ha]
  have h3 : UInt64.ofNat (b * 2 ^ k) ||| UInt64.ofNat a = UInt64.ofNat (b * 2 ^ k + a) := UInt64.toNat_inj.mp (by rw [UInt64.toNat_or, u_tn (by omega), u_tn (by omega), u_tn h, h1])
  have h2 := congrArg UInt64.toInt64 h3
  exact h2
theorem g_or' {k p a b : Nat} (hp : 2 ^ k = p) (ha : a < p) (h : a + b * p < 2 ^ 64) : lN a ||| lN (b * p) = lN (a + b * p) := by
  rw [Int64.or_comm, g_or hp ha (by omega), Nat.add_comm]
theorem g_ushr {a k p : Nat} {y : UInt64} (hy : y = UInt64.ofNat k) (hk : k < 64) (hp : 2 ^ k = p) (ha : a < 2 ^ 64) : ((lN a).toUInt64 >>> y).toInt64 = lN (a / p) := by
  subst hy hp
  have h : UInt64.ofNat a >>> UInt64.ofNat k = UInt64.ofNat (a / 2 ^ k) := UInt64.toNat_inj.mp (by rw [UInt64.toNat_shiftRight, u_tn ha, u_tn (by omega), u_tn (Nat.lt_of_le_of_lt (Nat.div_le_self _ _) ha), Nat.mod_eq_of_lt hk, Nat.shiftRight_eq_div_pow])
  have h2 := congrArg UInt64.toInt64 h
  exact h2
theorem g_shl {a k p : Nat} {y : Int64} (hy : y.toBitVec.smod 64 = BitVec.ofNat 64 k) (hk : k < 64) (hp : 2 ^ k = p) (ha : a < 2 ^ 64) : lN a <<< y = lN (a * p) := by
  subst hp
  apply Int64.toBitVec_inj.mp
  rw [Int64.toBitVec_shiftLeft, hy]
  apply BitVec.eq_of_toNat_eq
  have hb : (lN a).toBitVec.toNat = a := Nat.mod_eq_of_lt ha
  have hk' : (BitVec.ofNat 64 k).toNat = k := Nat.mod_eq_of_lt (by omega)
  have h : ((lN a).toBitVec <<< BitVec.ofNat 64 k).toNat = (a * 2 ^ k) % 2 ^ 64 := by simp only [BitVec.shiftLeft_eq', BitVec.toNat_shiftLeft, hb, hk', Nat.shiftLeft_eq]
  exact h
/-! ===== lN to 2^62 under >> and >>> ===== -/
theorem pf_lI {a : Nat} (h : a < 2 ^ 63) : (lN a).toInt = (a : Int) := lg_ofNat_toInt h
theorem pf_shr {a d : Nat} {D : Int64} (hD : (D.toBitVec.smod 64).toNat = d) (h : a < 2 ^ 62) : lN a >>> D = lN (a / 2 ^ d) := by
  have hd : a / 2 ^ d ≤ a := Nat.div_le_self _ _
  apply Int64.toInt_inj.mp
  have e : (lN a >>> D).toInt = (lN a).toInt >>> d := by
    rw [← hD]
    exact BitVec.toInt_sshiftRight ..
  rw [e, Int.shiftRight_eq_div_pow, pf_lI (by omega), pf_lI (by omega)]
  rfl
theorem pf_ushr {a d : Nat} {D : UInt64} (hD : D.toNat % 64 = d) (h : a < 2 ^ 62) : ((lN a).toUInt64 >>> D).toInt64 = lN (a / 2 ^ d) := by
  have hd : a / 2 ^ d ≤ a := Nat.div_le_self _ _
  have e : (lN a).toUInt64 >>> D = UInt64.ofNat (a / 2 ^ d) := UInt64.toNat_inj.mp (by
    rw [UInt64.toNat_shiftRight, hD, Nat.shiftRight_eq_div_pow, UInt64.toNat_ofNat']
    show (UInt64.ofNat a).toNat / 2 ^ d = _
    rw [UInt64.toNat_ofNat', Nat.mod_eq_of_lt (by omega), Nat.mod_eq_of_lt (by omega)])
  rw [e]
  rfl
theorem pf_andw (x : Int64) : ∃ m, m < 2 ^ 32 ∧ x &&& 4294967295 = lN m := ⟨x.toBitVec.toNat % 2 ^ 32, Nat.mod_lt _ (by decide), Int64.toBitVec_inj.mp (BitVec.eq_of_toNat_eq (by
  show (x.toBitVec &&& 4294967295#64).toNat = (BitVec.ofNat 64 (x.toBitVec.toNat % 2 ^ 32)).toNat
  rw [BitVec.toNat_and, show (4294967295#64).toNat = 2 ^ 32 - 1 from by decide, Nat.and_two_pow_sub_one_eq_mod, BitVec.toNat_ofNat]
  omega))⟩
/-! ===== Int64 as an unsigned number: uN x ===== -/
def uN (x : Int64) : Nat := x.toUInt64.toNat
theorem uN_lt (x : Int64) : uN x < 18446744073709551616 := x.toUInt64.toNat_lt
theorem uN_inj {x y : Int64} (h : uN x = uN y) : x = y := congrArg UInt64.toInt64 (UInt64.toNat_inj.mp h)
theorem uN_add (x y : Int64) : uN (x + y) = (uN x + uN y) % 18446744073709551616 := by
  show (x.toUInt64 + y.toUInt64).toNat = _
  exact UInt64.toNat_add _ _
theorem uN_mul (x y : Int64) : uN (x * y) = (uN x * uN y) % 18446744073709551616 := by
  show (x.toUInt64 * y.toUInt64).toNat = _
  exact UInt64.toNat_mul _ _
theorem uN_shl (x : Int64) : uN (x <<< ((1 : Int32).toInt64 &&& 63)) = (2 * uN x) % 18446744073709551616 := by
  have h : (((1 : Int32).toInt64 &&& 63).toBitVec.smod 64).toNat = 1 := by decide
  show (x.toBitVec <<< (((1 : Int32).toInt64 &&& 63).toBitVec.smod 64).toNat).toNat = _
  rw [h, BitVec.toNat_shiftLeft, Nat.shiftLeft_eq, Nat.mul_comm]
  rfl
theorem uN_shr (x : Int64) (s : UInt64) : uN (x.toUInt64 >>> s).toInt64 = uN x / 2 ^ (s.toNat % 64) := by
  show (x.toUInt64 >>> s).toNat = _
  rw [UInt64.toNat_shiftRight, Nat.shiftRight_eq_div_pow]
  rfl
theorem uN_s32 (x : Int64) : uN (x.toUInt64 >>> ((32 : Int32).toInt64.toUInt64 &&& Int64.toUInt64 63)).toInt64 = uN x / 4294967296 := by
  have h : ((32 : Int32).toInt64.toUInt64 &&& Int64.toUInt64 63).toNat % 64 = 32 := by decide
  rw [uN_shr, h]
theorem uN_s63 (x : Int64) : uN (x.toUInt64 >>> ((63 : Int32).toInt64.toUInt64 &&& Int64.toUInt64 63)).toInt64 = uN x / 9223372036854775808 := by
  have h : ((63 : Int32).toInt64.toUInt64 &&& Int64.toUInt64 63).toNat % 64 = 63 := by decide
  rw [uN_shr, h]
theorem uN_lo (x : Int64) : uN (x &&& 4294967295) = uN x % 4294967296 := by
  show (x.toUInt64 &&& Int64.toUInt64 4294967295).toNat = _
  rw [UInt64.toNat_and]
  exact Nat.and_two_pow_sub_one_eq_mod _ 32
theorem uN_bit (x : Int64) : (x &&& 1) = 0 ↔ uN x % 2 = 0 := by
  have h : uN (x &&& 1) = uN x % 2 := by
    show (x.toUInt64 &&& Int64.toUInt64 1).toNat = _
    rw [UInt64.toNat_and]
    exact Nat.and_two_pow_sub_one_eq_mod _ 1
  rw [← h]
  exact ⟨fun z => by rw [z]; rfl, fun z => uN_inj (z.trans rfl)⟩
theorem uN_or {x y : Int64} (hy : uN y < 2) : uN ((x <<< ((1 : Int32).toInt64 &&& 63)) ||| y) = (2 * uN x) % 18446744073709551616 + uN y := by
  have h1 : uN ((x <<< ((1 : Int32).toInt64 &&& 63)) ||| y) = uN (x <<< ((1 : Int32).toInt64 &&& 63)) ||| uN y := UInt64.toNat_or _ _
  have h2 : (2 * uN x) % 18446744073709551616 = 2 ^ 1 * (uN x % 9223372036854775808) := by omega
  rw [h1, uN_shl, h2]
  exact (Nat.two_pow_add_eq_or_of_lt (i := 1) hy _).symm
theorem nat_xor {a : Nat} (h : a < 18446744073709551616) : a ^^^ 2 ^ 63 = (a + 9223372036854775808) % 18446744073709551616 := by
  have h1 : (a ^^^ 2 ^ 63) % 2 ^ 63 = a % 2 ^ 63 := by rw [Nat.xor_mod_two_pow, Nat.mod_self, Nat.xor_zero]
  have h2 : (a ^^^ 2 ^ 63) / 2 ^ 63 = (a / 2 ^ 63) ^^^ 1 := by rw [Nat.xor_div_two_pow, Nat.div_self (Nat.two_pow_pos 63)]
  have h3 : a / 2 ^ 63 = 0 ∨ a / 2 ^ 63 = 1 := by omega
  generalize a ^^^ 2 ^ 63 = t at h1 h2
  rcases h3 with h3 | h3
  · rw [h3] at h2
    have h2 : t / 2 ^ 63 = 1 := h2
    omega
  · rw [h3] at h2
    have h2 : t / 2 ^ 63 = 0 := h2
    omega
theorem uN_xor (x : Int64) : uN (x ^^^ (-9223372036854775808)) = (uN x + 9223372036854775808) % 18446744073709551616 := by
  rw [← nat_xor (uN_lt x)]
  exact UInt64.toNat_xor _ _
theorem uN_int (x : Int64) : x.toInt = if 2 * uN x < 18446744073709551616 then (uN x : Int) else (uN x : Int) - 18446744073709551616 := BitVec.toInt_eq_toNat_cond _
theorem uN_le (x y : Int64) : (x ^^^ (-9223372036854775808)) ≤ (y ^^^ (-9223372036854775808)) ↔ uN x ≤ uN y := by
  have hx := uN_lt x
  have hy := uN_lt y
  rw [Int64.le_iff_toInt_le, uN_int, uN_int, uN_xor, uN_xor]
  omega
theorem uN_sk (x : Int64) {k : Nat} (hk : k < 64) : uN (x.toUInt64 >>> ((nI k).toInt64.toUInt64 &&& Int64.toUInt64 63)).toInt64 = uN x / 2 ^ k := by
  have h : ((nI k).toInt64.toUInt64 &&& Int64.toUInt64 63).toNat % 64 = k := by
    rw [nI_l (by omega), UInt64.toNat_and]
    have e : (lN k).toUInt64.toNat = k % 2 ^ 64 := rfl
    have e2 : (Int64.toUInt64 63).toNat = 2 ^ 6 - 1 := by decide
    rw [e, e2, Nat.and_two_pow_sub_one_eq_mod]
    omega
  rw [uN_shr, h]
/-! ===== unsigned comparison by xor with the least ===== -/
theorem lN_bv (n : Nat) : (lN n).toBitVec = BitVec.ofNat 64 n := rfl
theorem lN_nat {n : Nat} (h : n < 2 ^ 64) : (lN n).toBitVec.toNat = n := by rw [lN_bv, BitVec.toNat_ofNat]; exact Nat.mod_eq_of_lt h
theorem lN_xor (a b : Nat) : lN a ^^^ lN b = lN (a ^^^ b) := by
  apply Int64.toBitVec_inj.mp; rw [Int64.toBitVec_xor, lN_bv, lN_bv, lN_bv]; apply BitVec.eq_of_getLsbD_eq; intro i hi; simp [BitVec.getLsbD_ofNat, Nat.testBit_xor, hi]
theorem lN_ti {m : Nat} (h : m < 2 ^ 64) : (lN m).toInt = if m < 2 ^ 63 then (m : Int) else (m : Int) - 2 ^ 64 := by
  have c := BitVec.toInt_eq_toNat_cond (lN m).toBitVec
  rw [lN_nat h] at c
  show (lN m).toBitVec.toInt = _
  rw [c]
  split <;> split <;> omega
theorem xor63 {x : Nat} (h : x < 2 ^ 63) : x ^^^ 2 ^ 63 = 2 ^ 63 + x := by
  apply Nat.eq_of_testBit_eq
  intro i
  rw [Nat.testBit_xor, Nat.testBit_two_pow]
  rcases Nat.lt_trichotomy i 63 with z | z | z
  · rw [Nat.testBit_two_pow_add_gt z, decide_eq_false (by omega)]; simp
  · subst z; rw [Nat.testBit_two_pow_add_eq]; simp
  · have hp : 2 ^ 64 ≤ 2 ^ i := Nat.pow_le_pow_right (by decide) z
    rw [Nat.testBit_lt_two_pow (show x < 2 ^ i by omega), Nat.testBit_lt_two_pow (show 2 ^ 63 + x < 2 ^ i by omega), decide_eq_false (by omega)]; rfl
theorem xorS {a : Nat} (h : a < 2 ^ 64) : (lN a ^^^ (-9223372036854775808)).toInt = (a : Int) - 2 ^ 63 := by
  rw [show (-9223372036854775808 : Int64) = lN (2 ^ 63) from by decide +kernel, lN_xor]
  rcases Nat.lt_or_ge a (2 ^ 63) with z | z
  · rw [xor63 z, lN_ti (by omega), if_neg (by omega)]; omega
  · obtain ⟨x, rfl⟩ : ∃ x, a = 2 ^ 63 + x := ⟨a - 2 ^ 63, by omega⟩
    rw [← xor63 (by omega), Nat.xor_assoc, Nat.xor_self, Nat.xor_zero, lN_ti (by omega), if_pos (by omega), xor63 (by omega)]; omega
theorem ultL {a b : Nat} (ha : a < 2 ^ 64) (hb : b < 2 ^ 64) : ((lN b ^^^ (-9223372036854775808)) ≤ (lN a ^^^ (-9223372036854775808))) ↔ b ≤ a := by
  rw [Int64.le_iff_toInt_le, xorS ha, xorS hb]; omega
/-! ===== Int64 masks of n low bits ===== -/
theorem cr_bits (W U M : BitVec 64) : ((W &&& U) &&& (U &&& (M ^^^ BitVec.allOnes 64))) = 0#64 ↔ (W &&& U) &&& M = W &&& U := by
  constructor
  · intro h
    apply BitVec.eq_of_getLsbD_eq
    intro i hi
    have e := congrArg (fun x => BitVec.getLsbD x i) h
    simp only [BitVec.getLsbD_and, BitVec.getLsbD_xor, BitVec.getLsbD_allOnes, BitVec.getLsbD_zero, hi, decide_true] at e ⊢
    revert e
    cases W.getLsbD i <;> cases U.getLsbD i <;> cases M.getLsbD i <;> decide
  · intro h
    apply BitVec.eq_of_getLsbD_eq
    intro i hi
    have e := congrArg (fun x => BitVec.getLsbD x i) h
    simp only [BitVec.getLsbD_and, BitVec.getLsbD_xor, BitVec.getLsbD_allOnes, BitVec.getLsbD_zero, hi, decide_true] at e ⊢
    revert e
    cases W.getLsbD i <;> cases U.getLsbD i <;> cases M.getLsbD i <;> decide
theorem cr_mask (w U m : Int64) (n : Nat) (hm : m.toBitVec.toNat = 2 ^ n - 1) : ((w &&& U) &&& (U &&& (m ^^^ (-1)))) = 0 ↔ (w &&& U).toBitVec.toNat < 2 ^ n := by
  have e0 : (-1 : Int64).toBitVec = BitVec.allOnes 64 := by decide
  have z0 : (0 : Int64).toBitVec = 0#64 := by decide
  rw [← Int64.toBitVec_inj, z0, Int64.toBitVec_and, Int64.toBitVec_and, Int64.toBitVec_and, Int64.toBitVec_xor, e0, cr_bits]
  generalize w.toBitVec &&& U.toBitVec = T
  rw [← BitVec.toNat_inj, BitVec.toNat_and, hm, Nat.and_two_pow_sub_one_eq_mod]
  constructor
  · intro h
    have t := Nat.mod_lt T.toNat (Nat.two_pow_pos n)
    rw [h] at t
    exact t
  · exact Nat.mod_eq_of_lt
theorem cr_shr (t : Int64) (x : UInt64) (n : Nat) (hx : x.toNat % 64 = n) : (t.toUInt64 >>> x).toInt64 = 0 ↔ t.toBitVec.toNat < 2 ^ n := by
  rw [← Int64.toBitVec_inj, ← BitVec.toNat_inj]
  show (t.toUInt64 >>> x).toNat = 0 ↔ t.toUInt64.toNat < 2 ^ n
  rw [UInt64.toNat_shiftRight, hx, Nat.shiftRight_eq_div_pow]
  constructor
  · intro h
    have d : t.toUInt64.toNat / 2 ^ n < 1 := by
      rw [h]
      decide
    have e := (Nat.div_lt_iff_lt_mul (Nat.two_pow_pos n)).mp d
    rw [Nat.one_mul] at e
    exact e
  · exact Nat.div_eq_of_lt
theorem cr_amt (s : Int64) : ∃ n, n < 64 ∧ s &&& 63 = lN n ∧ (s.toUInt64 &&& Int64.toUInt64 63).toNat % 64 = n := by
  have e : (s.toUInt64 &&& Int64.toUInt64 63).toNat = s.toUInt64.toNat % 2 ^ 6 := by
    rw [UInt64.toNat_and, show (Int64.toUInt64 63).toNat = 2 ^ 6 - 1 from by decide, Nat.and_two_pow_sub_one_eq_mod]
  refine ⟨s.toUInt64.toNat % 2 ^ 6, by omega, ?_, by omega⟩
  rw [← Int64.toBitVec_inj, ← BitVec.toNat_inj]
  show (s.toUInt64 &&& Int64.toUInt64 63).toNat = (BitVec.ofNat 64 (s.toUInt64.toNat % 2 ^ 6)).toNat
  rw [e, BitVec.toNat_ofNat]
  omega
end
section
def qx_modelSize (u : SX) : Int32 := u.1
def qx_literalBase (u : SX) : Int32 := u.2.1
def qx_matchLengthBase (u : SX) : Int32 := u.2.2.1
def qx_repLengthBase (u : SX) : Int32 := u.2.2.2.1
def qx_slotTreeBase (u : SX) : Int32 := u.2.2.2.2.1
def qx_reverseBase (u : SX) : Int32 := u.2.2.2.2.2.1
def qx_alignBase (u : SX) : Int32 := u.2.2.2.2.2.2.1
def qx_figureCount (u : SX) : Int32 := u.2.2.2.2.2.2.2.1
def qx_endValue (u : SX) : Int32 := u.2.2.2.2.2.2.2.2.1
def qx_storeSize (u : SX) : Int32 := u.2.2.2.2.2.2.2.2.2.1
def qx_topRange (u : SX) : Int64 := u.2.2.2.2.2.2.2.2.2.2.1
def qx_fullRange (u : SX) : Int64 := u.2.2.2.2.2.2.2.2.2.2.2.1
def qx_capacity (u : SX) : Int32 := u.2.2.2.2.2.2.2.2.2.2.2.2.1
def qx_slots (u : SX) : Int32 := u.2.2.2.2.2.2.2.2.2.2.2.2.2.1
def qx_shift (u : SX) : Int32 := u.2.2.2.2.2.2.2.2.2.2.2.2.2.2.1
def qx_lazy (u : SX) : Int32 := u.2.2.2.2.2.2.2.2.2.2.2.2.2.2.2.1
def qx_sourceLength (u : SX) : Int32 := u.2.2.2.2.2.2.2.2.2.2.2.2.2.2.2.2.1
def qx_codedLength (u : SX) : Int32 := u.2.2.2.2.2.2.2.2.2.2.2.2.2.2.2.2.2.1
def qx_encLow (u : SX) : Int64 := u.2.2.2.2.2.2.2.2.2.2.2.2.2.2.2.2.2.2.1
def qx_encRange (u : SX) : Int64 := u.2.2.2.2.2.2.2.2.2.2.2.2.2.2.2.2.2.2.2.1
def qx_encCache (u : SX) : Int32 := u.2.2.2.2.2.2.2.2.2.2.2.2.2.2.2.2.2.2.2.2.1
def qx_encPending (u : SX) : Int32 := u.2.2.2.2.2.2.2.2.2.2.2.2.2.2.2.2.2.2.2.2.2.1
def qx_decSlot (u : SX) : Int32 := u.2.2.2.2.2.2.2.2.2.2.2.2.2.2.2.2.2.2.2.2.2.2.1
def qx_decEnded (u : SX) : Int32 := u.2.2.2.2.2.2.2.2.2.2.2.2.2.2.2.2.2.2.2.2.2.2.2.1
def qx_decAt (u : SX) : Int32 := u.2.2.2.2.2.2.2.2.2.2.2.2.2.2.2.2.2.2.2.2.2.2.2.2.1
def qx_decRange (u : SX) : Int64 := u.2.2.2.2.2.2.2.2.2.2.2.2.2.2.2.2.2.2.2.2.2.2.2.2.2.1
def qx_decCode (u : SX) : Int64 := u.2.2.2.2.2.2.2.2.2.2.2.2.2.2.2.2.2.2.2.2.2.2.2.2.2.2.1
def qx_model (u : SX) : Nat → Int32 := u.2.2.2.2.2.2.2.2.2.2.2.2.2.2.2.2.2.2.2.2.2.2.2.2.2.2.2.1
def qx_figures (u : SX) : Nat → Int32 := u.2.2.2.2.2.2.2.2.2.2.2.2.2.2.2.2.2.2.2.2.2.2.2.2.2.2.2.2.1
def qx_reps (u : SX) : Nat → Int32 := u.2.2.2.2.2.2.2.2.2.2.2.2.2.2.2.2.2.2.2.2.2.2.2.2.2.2.2.2.2.1
def qx_source (u : SX) : Nat → Int32 := u.2.2.2.2.2.2.2.2.2.2.2.2.2.2.2.2.2.2.2.2.2.2.2.2.2.2.2.2.2.2.1
def qx_coded (u : SX) : Nat → Int32 := u.2.2.2.2.2.2.2.2.2.2.2.2.2.2.2.2.2.2.2.2.2.2.2.2.2.2.2.2.2.2.2.1
def qx_store (u : SX) : Nat → Int32 := u.2.2.2.2.2.2.2.2.2.2.2.2.2.2.2.2.2.2.2.2.2.2.2.2.2.2.2.2.2.2.2.2.1
def qx_storeLength (u : SX) : Nat → Int32 := u.2.2.2.2.2.2.2.2.2.2.2.2.2.2.2.2.2.2.2.2.2.2.2.2.2.2.2.2.2.2.2.2.2.1
def qx_output (u : SX) : Nat → Int32 := u.2.2.2.2.2.2.2.2.2.2.2.2.2.2.2.2.2.2.2.2.2.2.2.2.2.2.2.2.2.2.2.2.2.2
def ux_decAt (e_decAt : Int32) (u : SX) : SX := (u.1, u.2.1, u.2.2.1, u.2.2.2.1, u.2.2.2.2.1, u.2.2.2.2.2.1, u.2.2.2.2.2.2.1, u.2.2.2.2.2.2.2.1, u.2.2.2.2.2.2.2.2.1, u.2.2.2.2.2.2.2.2.2.1, u.2.2.2.2.2.2.2.2.2.2.1, u.2.2.2.2.2.2.2.2.2.2.2.1, u.2.2.2.2.2.2.2.2.2.2.2.2.1, u.2.2.2.2.2.2.2.2.2.2.2.2.2.1, u.2.2.2.2.2.2.2.2.2.2.2.2.2.2.1, u.2.2.2.2.2.2.2.2.2.2.2.2.2.2.2.1, u.2.2.2.2.2.2.2.2.2.2.2.2.2.2.2.2.1, u.2.2.2.2.2.2.2.2.2.2.2.2.2.2.2.2.2.1, u.2.2.2.2.2.2.2.2.2.2.2.2.2.2.2.2.2.2.1, u.2.2.2.2.2.2.2.2.2.2.2.2.2.2.2.2.2.2.2.1, u.2.2.2.2.2.2.2.2.2.2.2.2.2.2.2.2.2.2.2.2.1, u.2.2.2.2.2.2.2.2.2.2.2.2.2.2.2.2.2.2.2.2.2.1, u.2.2.2.2.2.2.2.2.2.2.2.2.2.2.2.2.2.2.2.2.2.2.1, u.2.2.2.2.2.2.2.2.2.2.2.2.2.2.2.2.2.2.2.2.2.2.2.1, e_decAt, u.2.2.2.2.2.2.2.2.2.2.2.2.2.2.2.2.2.2.2.2.2.2.2.2.2.1, u.2.2.2.2.2.2.2.2.2.2.2.2.2.2.2.2.2.2.2.2.2.2.2.2.2.2.1, u.2.2.2.2.2.2.2.2.2.2.2.2.2.2.2.2.2.2.2.2.2.2.2.2.2.2.2.1, u.2.2.2.2.2.2.2.2.2.2.2.2.2.2.2.2.2.2.2.2.2.2.2.2.2.2.2.2.1, u.2.2.2.2.2.2.2.2.2.2.2.2.2.2.2.2.2.2.2.2.2.2.2.2.2.2.2.2.2.1, u.2.2.2.2.2.2.2.2.2.2.2.2.2.2.2.2.2.2.2.2.2.2.2.2.2.2.2.2.2.2.1, u.2.2.2.2.2.2.2.2.2.2.2.2.2.2.2.2.2.2.2.2.2.2.2.2.2.2.2.2.2.2.2.1, u.2.2.2.2.2.2.2.2.2.2.2.2.2.2.2.2.2.2.2.2.2.2.2.2.2.2.2.2.2.2.2.2.1, u.2.2.2.2.2.2.2.2.2.2.2.2.2.2.2.2.2.2.2.2.2.2.2.2.2.2.2.2.2.2.2.2.2.1, u.2.2.2.2.2.2.2.2.2.2.2.2.2.2.2.2.2.2.2.2.2.2.2.2.2.2.2.2.2.2.2.2.2.2)
theorem gx_decAt (e_decAt : Int32) (u : SX) : qx_modelSize (ux_decAt e_decAt u) = qx_modelSize u ∧ qx_literalBase (ux_decAt e_decAt u) = qx_literalBase u ∧ qx_matchLengthBase (ux_decAt e_decAt u) = qx_matchLengthBase u ∧ qx_repLengthBase (ux_decAt e_decAt u) = qx_repLengthBase u ∧ qx_slotTreeBase (ux_decAt e_decAt u) = qx_slotTreeBase u ∧ qx_reverseBase (ux_decAt e_decAt u) = qx_reverseBase u ∧ qx_alignBase (ux_decAt e_decAt u) = qx_alignBase u ∧ qx_figureCount (ux_decAt e_decAt u) = qx_figureCount u ∧ qx_endValue (ux_decAt e_decAt u) = qx_endValue u ∧ qx_storeSize (ux_decAt e_decAt u) = qx_storeSize u ∧ qx_topRange (ux_decAt e_decAt u) = qx_topRange u ∧ qx_fullRange (ux_decAt e_decAt u) = qx_fullRange u ∧ qx_capacity (ux_decAt e_decAt u) = qx_capacity u ∧ qx_slots (ux_decAt e_decAt u) = qx_slots u ∧ qx_shift (ux_decAt e_decAt u) = qx_shift u ∧ qx_lazy (ux_decAt e_decAt u) = qx_lazy u ∧ qx_sourceLength (ux_decAt e_decAt u) = qx_sourceLength u ∧ qx_codedLength (ux_decAt e_decAt u) = qx_codedLength u ∧ qx_encLow (ux_decAt e_decAt u) = qx_encLow u ∧ qx_encRange (ux_decAt e_decAt u) = qx_encRange u ∧ qx_encCache (ux_decAt e_decAt u) = qx_encCache u ∧ qx_encPending (ux_decAt e_decAt u) = qx_encPending u ∧ qx_decSlot (ux_decAt e_decAt u) = qx_decSlot u ∧ qx_decEnded (ux_decAt e_decAt u) = qx_decEnded u ∧ qx_decAt (ux_decAt e_decAt u) = e_decAt ∧ qx_decRange (ux_decAt e_decAt u) = qx_decRange u ∧ qx_decCode (ux_decAt e_decAt u) = qx_decCode u ∧ qx_model (ux_decAt e_decAt u) = qx_model u ∧ qx_figures (ux_decAt e_decAt u) = qx_figures u ∧ qx_reps (ux_decAt e_decAt u) = qx_reps u ∧ qx_source (ux_decAt e_decAt u) = qx_source u ∧ qx_coded (ux_decAt e_decAt u) = qx_coded u ∧ qx_store (ux_decAt e_decAt u) = qx_store u ∧ qx_storeLength (ux_decAt e_decAt u) = qx_storeLength u ∧ qx_output (ux_decAt e_decAt u) = qx_output u := ⟨rfl, rfl, rfl, rfl, rfl, rfl, rfl, rfl, rfl, rfl, rfl, rfl, rfl, rfl, rfl, rfl, rfl, rfl, rfl, rfl, rfl, rfl, rfl, rfl, rfl, rfl, rfl, rfl, rfl, rfl, rfl, rfl, rfl, rfl, rfl⟩
def ux_decCode (e_decCode : Int64) (u : SX) : SX := (u.1, u.2.1, u.2.2.1, u.2.2.2.1, u.2.2.2.2.1, u.2.2.2.2.2.1, u.2.2.2.2.2.2.1, u.2.2.2.2.2.2.2.1, u.2.2.2.2.2.2.2.2.1, u.2.2.2.2.2.2.2.2.2.1, u.2.2.2.2.2.2.2.2.2.2.1, u.2.2.2.2.2.2.2.2.2.2.2.1, u.2.2.2.2.2.2.2.2.2.2.2.2.1, u.2.2.2.2.2.2.2.2.2.2.2.2.2.1, u.2.2.2.2.2.2.2.2.2.2.2.2.2.2.1, u.2.2.2.2.2.2.2.2.2.2.2.2.2.2.2.1, u.2.2.2.2.2.2.2.2.2.2.2.2.2.2.2.2.1, u.2.2.2.2.2.2.2.2.2.2.2.2.2.2.2.2.2.1, u.2.2.2.2.2.2.2.2.2.2.2.2.2.2.2.2.2.2.1, u.2.2.2.2.2.2.2.2.2.2.2.2.2.2.2.2.2.2.2.1, u.2.2.2.2.2.2.2.2.2.2.2.2.2.2.2.2.2.2.2.2.1, u.2.2.2.2.2.2.2.2.2.2.2.2.2.2.2.2.2.2.2.2.2.1, u.2.2.2.2.2.2.2.2.2.2.2.2.2.2.2.2.2.2.2.2.2.2.1, u.2.2.2.2.2.2.2.2.2.2.2.2.2.2.2.2.2.2.2.2.2.2.2.1, u.2.2.2.2.2.2.2.2.2.2.2.2.2.2.2.2.2.2.2.2.2.2.2.2.1, u.2.2.2.2.2.2.2.2.2.2.2.2.2.2.2.2.2.2.2.2.2.2.2.2.2.1, e_decCode, u.2.2.2.2.2.2.2.2.2.2.2.2.2.2.2.2.2.2.2.2.2.2.2.2.2.2.2.1, u.2.2.2.2.2.2.2.2.2.2.2.2.2.2.2.2.2.2.2.2.2.2.2.2.2.2.2.2.1, u.2.2.2.2.2.2.2.2.2.2.2.2.2.2.2.2.2.2.2.2.2.2.2.2.2.2.2.2.2.1, u.2.2.2.2.2.2.2.2.2.2.2.2.2.2.2.2.2.2.2.2.2.2.2.2.2.2.2.2.2.2.1, u.2.2.2.2.2.2.2.2.2.2.2.2.2.2.2.2.2.2.2.2.2.2.2.2.2.2.2.2.2.2.2.1, u.2.2.2.2.2.2.2.2.2.2.2.2.2.2.2.2.2.2.2.2.2.2.2.2.2.2.2.2.2.2.2.2.1, u.2.2.2.2.2.2.2.2.2.2.2.2.2.2.2.2.2.2.2.2.2.2.2.2.2.2.2.2.2.2.2.2.2.1, u.2.2.2.2.2.2.2.2.2.2.2.2.2.2.2.2.2.2.2.2.2.2.2.2.2.2.2.2.2.2.2.2.2.2)
theorem gx_decCode (e_decCode : Int64) (u : SX) : qx_modelSize (ux_decCode e_decCode u) = qx_modelSize u ∧ qx_literalBase (ux_decCode e_decCode u) = qx_literalBase u ∧ qx_matchLengthBase (ux_decCode e_decCode u) = qx_matchLengthBase u ∧ qx_repLengthBase (ux_decCode e_decCode u) = qx_repLengthBase u ∧ qx_slotTreeBase (ux_decCode e_decCode u) = qx_slotTreeBase u ∧ qx_reverseBase (ux_decCode e_decCode u) = qx_reverseBase u ∧ qx_alignBase (ux_decCode e_decCode u) = qx_alignBase u ∧ qx_figureCount (ux_decCode e_decCode u) = qx_figureCount u ∧ qx_endValue (ux_decCode e_decCode u) = qx_endValue u ∧ qx_storeSize (ux_decCode e_decCode u) = qx_storeSize u ∧ qx_topRange (ux_decCode e_decCode u) = qx_topRange u ∧ qx_fullRange (ux_decCode e_decCode u) = qx_fullRange u ∧ qx_capacity (ux_decCode e_decCode u) = qx_capacity u ∧ qx_slots (ux_decCode e_decCode u) = qx_slots u ∧ qx_shift (ux_decCode e_decCode u) = qx_shift u ∧ qx_lazy (ux_decCode e_decCode u) = qx_lazy u ∧ qx_sourceLength (ux_decCode e_decCode u) = qx_sourceLength u ∧ qx_codedLength (ux_decCode e_decCode u) = qx_codedLength u ∧ qx_encLow (ux_decCode e_decCode u) = qx_encLow u ∧ qx_encRange (ux_decCode e_decCode u) = qx_encRange u ∧ qx_encCache (ux_decCode e_decCode u) = qx_encCache u ∧ qx_encPending (ux_decCode e_decCode u) = qx_encPending u ∧ qx_decSlot (ux_decCode e_decCode u) = qx_decSlot u ∧ qx_decEnded (ux_decCode e_decCode u) = qx_decEnded u ∧ qx_decAt (ux_decCode e_decCode u) = qx_decAt u ∧ qx_decRange (ux_decCode e_decCode u) = qx_decRange u ∧ qx_decCode (ux_decCode e_decCode u) = e_decCode ∧ qx_model (ux_decCode e_decCode u) = qx_model u ∧ qx_figures (ux_decCode e_decCode u) = qx_figures u ∧ qx_reps (ux_decCode e_decCode u) = qx_reps u ∧ qx_source (ux_decCode e_decCode u) = qx_source u ∧ qx_coded (ux_decCode e_decCode u) = qx_coded u ∧ qx_store (ux_decCode e_decCode u) = qx_store u ∧ qx_storeLength (ux_decCode e_decCode u) = qx_storeLength u ∧ qx_output (ux_decCode e_decCode u) = qx_output u := ⟨rfl, rfl, rfl, rfl, rfl, rfl, rfl, rfl, rfl, rfl, rfl, rfl, rfl, rfl, rfl, rfl, rfl, rfl, rfl, rfl, rfl, rfl, rfl, rfl, rfl, rfl, rfl, rfl, rfl, rfl, rfl, rfl, rfl, rfl, rfl⟩
def ux_decEnded (e_decEnded : Int32) (u : SX) : SX := (u.1, u.2.1, u.2.2.1, u.2.2.2.1, u.2.2.2.2.1, u.2.2.2.2.2.1, u.2.2.2.2.2.2.1, u.2.2.2.2.2.2.2.1, u.2.2.2.2.2.2.2.2.1, u.2.2.2.2.2.2.2.2.2.1, u.2.2.2.2.2.2.2.2.2.2.1, u.2.2.2.2.2.2.2.2.2.2.2.1, u.2.2.2.2.2.2.2.2.2.2.2.2.1, u.2.2.2.2.2.2.2.2.2.2.2.2.2.1, u.2.2.2.2.2.2.2.2.2.2.2.2.2.2.1, u.2.2.2.2.2.2.2.2.2.2.2.2.2.2.2.1, u.2.2.2.2.2.2.2.2.2.2.2.2.2.2.2.2.1, u.2.2.2.2.2.2.2.2.2.2.2.2.2.2.2.2.2.1, u.2.2.2.2.2.2.2.2.2.2.2.2.2.2.2.2.2.2.1, u.2.2.2.2.2.2.2.2.2.2.2.2.2.2.2.2.2.2.2.1, u.2.2.2.2.2.2.2.2.2.2.2.2.2.2.2.2.2.2.2.2.1, u.2.2.2.2.2.2.2.2.2.2.2.2.2.2.2.2.2.2.2.2.2.1, u.2.2.2.2.2.2.2.2.2.2.2.2.2.2.2.2.2.2.2.2.2.2.1, e_decEnded, u.2.2.2.2.2.2.2.2.2.2.2.2.2.2.2.2.2.2.2.2.2.2.2.2.1, u.2.2.2.2.2.2.2.2.2.2.2.2.2.2.2.2.2.2.2.2.2.2.2.2.2.1, u.2.2.2.2.2.2.2.2.2.2.2.2.2.2.2.2.2.2.2.2.2.2.2.2.2.2.1, u.2.2.2.2.2.2.2.2.2.2.2.2.2.2.2.2.2.2.2.2.2.2.2.2.2.2.2.1, u.2.2.2.2.2.2.2.2.2.2.2.2.2.2.2.2.2.2.2.2.2.2.2.2.2.2.2.2.1, u.2.2.2.2.2.2.2.2.2.2.2.2.2.2.2.2.2.2.2.2.2.2.2.2.2.2.2.2.2.1, u.2.2.2.2.2.2.2.2.2.2.2.2.2.2.2.2.2.2.2.2.2.2.2.2.2.2.2.2.2.2.1, u.2.2.2.2.2.2.2.2.2.2.2.2.2.2.2.2.2.2.2.2.2.2.2.2.2.2.2.2.2.2.2.1, u.2.2.2.2.2.2.2.2.2.2.2.2.2.2.2.2.2.2.2.2.2.2.2.2.2.2.2.2.2.2.2.2.1, u.2.2.2.2.2.2.2.2.2.2.2.2.2.2.2.2.2.2.2.2.2.2.2.2.2.2.2.2.2.2.2.2.2.1, u.2.2.2.2.2.2.2.2.2.2.2.2.2.2.2.2.2.2.2.2.2.2.2.2.2.2.2.2.2.2.2.2.2.2)
theorem gx_decEnded (e_decEnded : Int32) (u : SX) : qx_modelSize (ux_decEnded e_decEnded u) = qx_modelSize u ∧ qx_literalBase (ux_decEnded e_decEnded u) = qx_literalBase u ∧ qx_matchLengthBase (ux_decEnded e_decEnded u) = qx_matchLengthBase u ∧ qx_repLengthBase (ux_decEnded e_decEnded u) = qx_repLengthBase u ∧ qx_slotTreeBase (ux_decEnded e_decEnded u) = qx_slotTreeBase u ∧ qx_reverseBase (ux_decEnded e_decEnded u) = qx_reverseBase u ∧ qx_alignBase (ux_decEnded e_decEnded u) = qx_alignBase u ∧ qx_figureCount (ux_decEnded e_decEnded u) = qx_figureCount u ∧ qx_endValue (ux_decEnded e_decEnded u) = qx_endValue u ∧ qx_storeSize (ux_decEnded e_decEnded u) = qx_storeSize u ∧ qx_topRange (ux_decEnded e_decEnded u) = qx_topRange u ∧ qx_fullRange (ux_decEnded e_decEnded u) = qx_fullRange u ∧ qx_capacity (ux_decEnded e_decEnded u) = qx_capacity u ∧ qx_slots (ux_decEnded e_decEnded u) = qx_slots u ∧ qx_shift (ux_decEnded e_decEnded u) = qx_shift u ∧ qx_lazy (ux_decEnded e_decEnded u) = qx_lazy u ∧ qx_sourceLength (ux_decEnded e_decEnded u) = qx_sourceLength u ∧ qx_codedLength (ux_decEnded e_decEnded u) = qx_codedLength u ∧ qx_encLow (ux_decEnded e_decEnded u) = qx_encLow u ∧ qx_encRange (ux_decEnded e_decEnded u) = qx_encRange u ∧ qx_encCache (ux_decEnded e_decEnded u) = qx_encCache u ∧ qx_encPending (ux_decEnded e_decEnded u) = qx_encPending u ∧ qx_decSlot (ux_decEnded e_decEnded u) = qx_decSlot u ∧ qx_decEnded (ux_decEnded e_decEnded u) = e_decEnded ∧ qx_decAt (ux_decEnded e_decEnded u) = qx_decAt u ∧ qx_decRange (ux_decEnded e_decEnded u) = qx_decRange u ∧ qx_decCode (ux_decEnded e_decEnded u) = qx_decCode u ∧ qx_model (ux_decEnded e_decEnded u) = qx_model u ∧ qx_figures (ux_decEnded e_decEnded u) = qx_figures u ∧ qx_reps (ux_decEnded e_decEnded u) = qx_reps u ∧ qx_source (ux_decEnded e_decEnded u) = qx_source u ∧ qx_coded (ux_decEnded e_decEnded u) = qx_coded u ∧ qx_store (ux_decEnded e_decEnded u) = qx_store u ∧ qx_storeLength (ux_decEnded e_decEnded u) = qx_storeLength u ∧ qx_output (ux_decEnded e_decEnded u) = qx_output u := ⟨rfl, rfl, rfl, rfl, rfl, rfl, rfl, rfl, rfl, rfl, rfl, rfl, rfl, rfl, rfl, rfl, rfl, rfl, rfl, rfl, rfl, rfl, rfl, rfl, rfl, rfl, rfl, rfl, rfl, rfl, rfl, rfl, rfl, rfl, rfl⟩
def ux_decRange (e_decRange : Int64) (u : SX) : SX := (u.1, u.2.1, u.2.2.1, u.2.2.2.1, u.2.2.2.2.1, u.2.2.2.2.2.1, u.2.2.2.2.2.2.1, u.2.2.2.2.2.2.2.1, u.2.2.2.2.2.2.2.2.1, u.2.2.2.2.2.2.2.2.2.1, u.2.2.2.2.2.2.2.2.2.2.1, u.2.2.2.2.2.2.2.2.2.2.2.1, u.2.2.2.2.2.2.2.2.2.2.2.2.1, u.2.2.2.2.2.2.2.2.2.2.2.2.2.1, u.2.2.2.2.2.2.2.2.2.2.2.2.2.2.1, u.2.2.2.2.2.2.2.2.2.2.2.2.2.2.2.1, u.2.2.2.2.2.2.2.2.2.2.2.2.2.2.2.2.1, u.2.2.2.2.2.2.2.2.2.2.2.2.2.2.2.2.2.1, u.2.2.2.2.2.2.2.2.2.2.2.2.2.2.2.2.2.2.1, u.2.2.2.2.2.2.2.2.2.2.2.2.2.2.2.2.2.2.2.1, u.2.2.2.2.2.2.2.2.2.2.2.2.2.2.2.2.2.2.2.2.1, u.2.2.2.2.2.2.2.2.2.2.2.2.2.2.2.2.2.2.2.2.2.1, u.2.2.2.2.2.2.2.2.2.2.2.2.2.2.2.2.2.2.2.2.2.2.1, u.2.2.2.2.2.2.2.2.2.2.2.2.2.2.2.2.2.2.2.2.2.2.2.1, u.2.2.2.2.2.2.2.2.2.2.2.2.2.2.2.2.2.2.2.2.2.2.2.2.1, e_decRange, u.2.2.2.2.2.2.2.2.2.2.2.2.2.2.2.2.2.2.2.2.2.2.2.2.2.2.1, u.2.2.2.2.2.2.2.2.2.2.2.2.2.2.2.2.2.2.2.2.2.2.2.2.2.2.2.1, u.2.2.2.2.2.2.2.2.2.2.2.2.2.2.2.2.2.2.2.2.2.2.2.2.2.2.2.2.1, u.2.2.2.2.2.2.2.2.2.2.2.2.2.2.2.2.2.2.2.2.2.2.2.2.2.2.2.2.2.1, u.2.2.2.2.2.2.2.2.2.2.2.2.2.2.2.2.2.2.2.2.2.2.2.2.2.2.2.2.2.2.1, u.2.2.2.2.2.2.2.2.2.2.2.2.2.2.2.2.2.2.2.2.2.2.2.2.2.2.2.2.2.2.2.1, u.2.2.2.2.2.2.2.2.2.2.2.2.2.2.2.2.2.2.2.2.2.2.2.2.2.2.2.2.2.2.2.2.1, u.2.2.2.2.2.2.2.2.2.2.2.2.2.2.2.2.2.2.2.2.2.2.2.2.2.2.2.2.2.2.2.2.2.1, u.2.2.2.2.2.2.2.2.2.2.2.2.2.2.2.2.2.2.2.2.2.2.2.2.2.2.2.2.2.2.2.2.2.2)
theorem gx_decRange (e_decRange : Int64) (u : SX) : qx_modelSize (ux_decRange e_decRange u) = qx_modelSize u ∧ qx_literalBase (ux_decRange e_decRange u) = qx_literalBase u ∧ qx_matchLengthBase (ux_decRange e_decRange u) = qx_matchLengthBase u ∧ qx_repLengthBase (ux_decRange e_decRange u) = qx_repLengthBase u ∧ qx_slotTreeBase (ux_decRange e_decRange u) = qx_slotTreeBase u ∧ qx_reverseBase (ux_decRange e_decRange u) = qx_reverseBase u ∧ qx_alignBase (ux_decRange e_decRange u) = qx_alignBase u ∧ qx_figureCount (ux_decRange e_decRange u) = qx_figureCount u ∧ qx_endValue (ux_decRange e_decRange u) = qx_endValue u ∧ qx_storeSize (ux_decRange e_decRange u) = qx_storeSize u ∧ qx_topRange (ux_decRange e_decRange u) = qx_topRange u ∧ qx_fullRange (ux_decRange e_decRange u) = qx_fullRange u ∧ qx_capacity (ux_decRange e_decRange u) = qx_capacity u ∧ qx_slots (ux_decRange e_decRange u) = qx_slots u ∧ qx_shift (ux_decRange e_decRange u) = qx_shift u ∧ qx_lazy (ux_decRange e_decRange u) = qx_lazy u ∧ qx_sourceLength (ux_decRange e_decRange u) = qx_sourceLength u ∧ qx_codedLength (ux_decRange e_decRange u) = qx_codedLength u ∧ qx_encLow (ux_decRange e_decRange u) = qx_encLow u ∧ qx_encRange (ux_decRange e_decRange u) = qx_encRange u ∧ qx_encCache (ux_decRange e_decRange u) = qx_encCache u ∧ qx_encPending (ux_decRange e_decRange u) = qx_encPending u ∧ qx_decSlot (ux_decRange e_decRange u) = qx_decSlot u ∧ qx_decEnded (ux_decRange e_decRange u) = qx_decEnded u ∧ qx_decAt (ux_decRange e_decRange u) = qx_decAt u ∧ qx_decRange (ux_decRange e_decRange u) = e_decRange ∧ qx_decCode (ux_decRange e_decRange u) = qx_decCode u ∧ qx_model (ux_decRange e_decRange u) = qx_model u ∧ qx_figures (ux_decRange e_decRange u) = qx_figures u ∧ qx_reps (ux_decRange e_decRange u) = qx_reps u ∧ qx_source (ux_decRange e_decRange u) = qx_source u ∧ qx_coded (ux_decRange e_decRange u) = qx_coded u ∧ qx_store (ux_decRange e_decRange u) = qx_store u ∧ qx_storeLength (ux_decRange e_decRange u) = qx_storeLength u ∧ qx_output (ux_decRange e_decRange u) = qx_output u := ⟨rfl, rfl, rfl, rfl, rfl, rfl, rfl, rfl, rfl, rfl, rfl, rfl, rfl, rfl, rfl, rfl, rfl, rfl, rfl, rfl, rfl, rfl, rfl, rfl, rfl, rfl, rfl, rfl, rfl, rfl, rfl, rfl, rfl, rfl, rfl⟩
def ux_decSlot (e_decSlot : Int32) (u : SX) : SX := (u.1, u.2.1, u.2.2.1, u.2.2.2.1, u.2.2.2.2.1, u.2.2.2.2.2.1, u.2.2.2.2.2.2.1, u.2.2.2.2.2.2.2.1, u.2.2.2.2.2.2.2.2.1, u.2.2.2.2.2.2.2.2.2.1, u.2.2.2.2.2.2.2.2.2.2.1, u.2.2.2.2.2.2.2.2.2.2.2.1, u.2.2.2.2.2.2.2.2.2.2.2.2.1, u.2.2.2.2.2.2.2.2.2.2.2.2.2.1, u.2.2.2.2.2.2.2.2.2.2.2.2.2.2.1, u.2.2.2.2.2.2.2.2.2.2.2.2.2.2.2.1, u.2.2.2.2.2.2.2.2.2.2.2.2.2.2.2.2.1, u.2.2.2.2.2.2.2.2.2.2.2.2.2.2.2.2.2.1, u.2.2.2.2.2.2.2.2.2.2.2.2.2.2.2.2.2.2.1, u.2.2.2.2.2.2.2.2.2.2.2.2.2.2.2.2.2.2.2.1, u.2.2.2.2.2.2.2.2.2.2.2.2.2.2.2.2.2.2.2.2.1, u.2.2.2.2.2.2.2.2.2.2.2.2.2.2.2.2.2.2.2.2.2.1, e_decSlot, u.2.2.2.2.2.2.2.2.2.2.2.2.2.2.2.2.2.2.2.2.2.2.2.1, u.2.2.2.2.2.2.2.2.2.2.2.2.2.2.2.2.2.2.2.2.2.2.2.2.1, u.2.2.2.2.2.2.2.2.2.2.2.2.2.2.2.2.2.2.2.2.2.2.2.2.2.1, u.2.2.2.2.2.2.2.2.2.2.2.2.2.2.2.2.2.2.2.2.2.2.2.2.2.2.1, u.2.2.2.2.2.2.2.2.2.2.2.2.2.2.2.2.2.2.2.2.2.2.2.2.2.2.2.1, u.2.2.2.2.2.2.2.2.2.2.2.2.2.2.2.2.2.2.2.2.2.2.2.2.2.2.2.2.1, u.2.2.2.2.2.2.2.2.2.2.2.2.2.2.2.2.2.2.2.2.2.2.2.2.2.2.2.2.2.1, u.2.2.2.2.2.2.2.2.2.2.2.2.2.2.2.2.2.2.2.2.2.2.2.2.2.2.2.2.2.2.1, u.2.2.2.2.2.2.2.2.2.2.2.2.2.2.2.2.2.2.2.2.2.2.2.2.2.2.2.2.2.2.2.1, u.2.2.2.2.2.2.2.2.2.2.2.2.2.2.2.2.2.2.2.2.2.2.2.2.2.2.2.2.2.2.2.2.1, u.2.2.2.2.2.2.2.2.2.2.2.2.2.2.2.2.2.2.2.2.2.2.2.2.2.2.2.2.2.2.2.2.2.1, u.2.2.2.2.2.2.2.2.2.2.2.2.2.2.2.2.2.2.2.2.2.2.2.2.2.2.2.2.2.2.2.2.2.2)
theorem gx_decSlot (e_decSlot : Int32) (u : SX) : qx_modelSize (ux_decSlot e_decSlot u) = qx_modelSize u ∧ qx_literalBase (ux_decSlot e_decSlot u) = qx_literalBase u ∧ qx_matchLengthBase (ux_decSlot e_decSlot u) = qx_matchLengthBase u ∧ qx_repLengthBase (ux_decSlot e_decSlot u) = qx_repLengthBase u ∧ qx_slotTreeBase (ux_decSlot e_decSlot u) = qx_slotTreeBase u ∧ qx_reverseBase (ux_decSlot e_decSlot u) = qx_reverseBase u ∧ qx_alignBase (ux_decSlot e_decSlot u) = qx_alignBase u ∧ qx_figureCount (ux_decSlot e_decSlot u) = qx_figureCount u ∧ qx_endValue (ux_decSlot e_decSlot u) = qx_endValue u ∧ qx_storeSize (ux_decSlot e_decSlot u) = qx_storeSize u ∧ qx_topRange (ux_decSlot e_decSlot u) = qx_topRange u ∧ qx_fullRange (ux_decSlot e_decSlot u) = qx_fullRange u ∧ qx_capacity (ux_decSlot e_decSlot u) = qx_capacity u ∧ qx_slots (ux_decSlot e_decSlot u) = qx_slots u ∧ qx_shift (ux_decSlot e_decSlot u) = qx_shift u ∧ qx_lazy (ux_decSlot e_decSlot u) = qx_lazy u ∧ qx_sourceLength (ux_decSlot e_decSlot u) = qx_sourceLength u ∧ qx_codedLength (ux_decSlot e_decSlot u) = qx_codedLength u ∧ qx_encLow (ux_decSlot e_decSlot u) = qx_encLow u ∧ qx_encRange (ux_decSlot e_decSlot u) = qx_encRange u ∧ qx_encCache (ux_decSlot e_decSlot u) = qx_encCache u ∧ qx_encPending (ux_decSlot e_decSlot u) = qx_encPending u ∧ qx_decSlot (ux_decSlot e_decSlot u) = e_decSlot ∧ qx_decEnded (ux_decSlot e_decSlot u) = qx_decEnded u ∧ qx_decAt (ux_decSlot e_decSlot u) = qx_decAt u ∧ qx_decRange (ux_decSlot e_decSlot u) = qx_decRange u ∧ qx_decCode (ux_decSlot e_decSlot u) = qx_decCode u ∧ qx_model (ux_decSlot e_decSlot u) = qx_model u ∧ qx_figures (ux_decSlot e_decSlot u) = qx_figures u ∧ qx_reps (ux_decSlot e_decSlot u) = qx_reps u ∧ qx_source (ux_decSlot e_decSlot u) = qx_source u ∧ qx_coded (ux_decSlot e_decSlot u) = qx_coded u ∧ qx_store (ux_decSlot e_decSlot u) = qx_store u ∧ qx_storeLength (ux_decSlot e_decSlot u) = qx_storeLength u ∧ qx_output (ux_decSlot e_decSlot u) = qx_output u := ⟨rfl, rfl, rfl, rfl, rfl, rfl, rfl, rfl, rfl, rfl, rfl, rfl, rfl, rfl, rfl, rfl, rfl, rfl, rfl, rfl, rfl, rfl, rfl, rfl, rfl, rfl, rfl, rfl, rfl, rfl, rfl, rfl, rfl, rfl, rfl⟩
def ux_encRange (e_encRange : Int64) (u : SX) : SX := (u.1, u.2.1, u.2.2.1, u.2.2.2.1, u.2.2.2.2.1, u.2.2.2.2.2.1, u.2.2.2.2.2.2.1, u.2.2.2.2.2.2.2.1, u.2.2.2.2.2.2.2.2.1, u.2.2.2.2.2.2.2.2.2.1, u.2.2.2.2.2.2.2.2.2.2.1, u.2.2.2.2.2.2.2.2.2.2.2.1, u.2.2.2.2.2.2.2.2.2.2.2.2.1, u.2.2.2.2.2.2.2.2.2.2.2.2.2.1, u.2.2.2.2.2.2.2.2.2.2.2.2.2.2.1, u.2.2.2.2.2.2.2.2.2.2.2.2.2.2.2.1, u.2.2.2.2.2.2.2.2.2.2.2.2.2.2.2.2.1, u.2.2.2.2.2.2.2.2.2.2.2.2.2.2.2.2.2.1, u.2.2.2.2.2.2.2.2.2.2.2.2.2.2.2.2.2.2.1, e_encRange, u.2.2.2.2.2.2.2.2.2.2.2.2.2.2.2.2.2.2.2.2.1, u.2.2.2.2.2.2.2.2.2.2.2.2.2.2.2.2.2.2.2.2.2.1, u.2.2.2.2.2.2.2.2.2.2.2.2.2.2.2.2.2.2.2.2.2.2.1, u.2.2.2.2.2.2.2.2.2.2.2.2.2.2.2.2.2.2.2.2.2.2.2.1, u.2.2.2.2.2.2.2.2.2.2.2.2.2.2.2.2.2.2.2.2.2.2.2.2.1, u.2.2.2.2.2.2.2.2.2.2.2.2.2.2.2.2.2.2.2.2.2.2.2.2.2.1, u.2.2.2.2.2.2.2.2.2.2.2.2.2.2.2.2.2.2.2.2.2.2.2.2.2.2.1, u.2.2.2.2.2.2.2.2.2.2.2.2.2.2.2.2.2.2.2.2.2.2.2.2.2.2.2.1, u.2.2.2.2.2.2.2.2.2.2.2.2.2.2.2.2.2.2.2.2.2.2.2.2.2.2.2.2.1, u.2.2.2.2.2.2.2.2.2.2.2.2.2.2.2.2.2.2.2.2.2.2.2.2.2.2.2.2.2.1, u.2.2.2.2.2.2.2.2.2.2.2.2.2.2.2.2.2.2.2.2.2.2.2.2.2.2.2.2.2.2.1, u.2.2.2.2.2.2.2.2.2.2.2.2.2.2.2.2.2.2.2.2.2.2.2.2.2.2.2.2.2.2.2.1, u.2.2.2.2.2.2.2.2.2.2.2.2.2.2.2.2.2.2.2.2.2.2.2.2.2.2.2.2.2.2.2.2.1, u.2.2.2.2.2.2.2.2.2.2.2.2.2.2.2.2.2.2.2.2.2.2.2.2.2.2.2.2.2.2.2.2.2.1, u.2.2.2.2.2.2.2.2.2.2.2.2.2.2.2.2.2.2.2.2.2.2.2.2.2.2.2.2.2.2.2.2.2.2)
theorem gx_encRange (e_encRange : Int64) (u : SX) : qx_modelSize (ux_encRange e_encRange u) = qx_modelSize u ∧ qx_literalBase (ux_encRange e_encRange u) = qx_literalBase u ∧ qx_matchLengthBase (ux_encRange e_encRange u) = qx_matchLengthBase u ∧ qx_repLengthBase (ux_encRange e_encRange u) = qx_repLengthBase u ∧ qx_slotTreeBase (ux_encRange e_encRange u) = qx_slotTreeBase u ∧ qx_reverseBase (ux_encRange e_encRange u) = qx_reverseBase u ∧ qx_alignBase (ux_encRange e_encRange u) = qx_alignBase u ∧ qx_figureCount (ux_encRange e_encRange u) = qx_figureCount u ∧ qx_endValue (ux_encRange e_encRange u) = qx_endValue u ∧ qx_storeSize (ux_encRange e_encRange u) = qx_storeSize u ∧ qx_topRange (ux_encRange e_encRange u) = qx_topRange u ∧ qx_fullRange (ux_encRange e_encRange u) = qx_fullRange u ∧ qx_capacity (ux_encRange e_encRange u) = qx_capacity u ∧ qx_slots (ux_encRange e_encRange u) = qx_slots u ∧ qx_shift (ux_encRange e_encRange u) = qx_shift u ∧ qx_lazy (ux_encRange e_encRange u) = qx_lazy u ∧ qx_sourceLength (ux_encRange e_encRange u) = qx_sourceLength u ∧ qx_codedLength (ux_encRange e_encRange u) = qx_codedLength u ∧ qx_encLow (ux_encRange e_encRange u) = qx_encLow u ∧ qx_encRange (ux_encRange e_encRange u) = e_encRange ∧ qx_encCache (ux_encRange e_encRange u) = qx_encCache u ∧ qx_encPending (ux_encRange e_encRange u) = qx_encPending u ∧ qx_decSlot (ux_encRange e_encRange u) = qx_decSlot u ∧ qx_decEnded (ux_encRange e_encRange u) = qx_decEnded u ∧ qx_decAt (ux_encRange e_encRange u) = qx_decAt u ∧ qx_decRange (ux_encRange e_encRange u) = qx_decRange u ∧ qx_decCode (ux_encRange e_encRange u) = qx_decCode u ∧ qx_model (ux_encRange e_encRange u) = qx_model u ∧ qx_figures (ux_encRange e_encRange u) = qx_figures u ∧ qx_reps (ux_encRange e_encRange u) = qx_reps u ∧ qx_source (ux_encRange e_encRange u) = qx_source u ∧ qx_coded (ux_encRange e_encRange u) = qx_coded u ∧ qx_store (ux_encRange e_encRange u) = qx_store u ∧ qx_storeLength (ux_encRange e_encRange u) = qx_storeLength u ∧ qx_output (ux_encRange e_encRange u) = qx_output u := ⟨rfl, rfl, rfl, rfl, rfl, rfl, rfl, rfl, rfl, rfl, rfl, rfl, rfl, rfl, rfl, rfl, rfl, rfl, rfl, rfl, rfl, rfl, rfl, rfl, rfl, rfl, rfl, rfl, rfl, rfl, rfl, rfl, rfl, rfl, rfl⟩
def ux_figures (e_figures : Nat → Int32) (u : SX) : SX := (u.1, u.2.1, u.2.2.1, u.2.2.2.1, u.2.2.2.2.1, u.2.2.2.2.2.1, u.2.2.2.2.2.2.1, u.2.2.2.2.2.2.2.1, u.2.2.2.2.2.2.2.2.1, u.2.2.2.2.2.2.2.2.2.1, u.2.2.2.2.2.2.2.2.2.2.1, u.2.2.2.2.2.2.2.2.2.2.2.1, u.2.2.2.2.2.2.2.2.2.2.2.2.1, u.2.2.2.2.2.2.2.2.2.2.2.2.2.1, u.2.2.2.2.2.2.2.2.2.2.2.2.2.2.1, u.2.2.2.2.2.2.2.2.2.2.2.2.2.2.2.1, u.2.2.2.2.2.2.2.2.2.2.2.2.2.2.2.2.1, u.2.2.2.2.2.2.2.2.2.2.2.2.2.2.2.2.2.1, u.2.2.2.2.2.2.2.2.2.2.2.2.2.2.2.2.2.2.1, u.2.2.2.2.2.2.2.2.2.2.2.2.2.2.2.2.2.2.2.1, u.2.2.2.2.2.2.2.2.2.2.2.2.2.2.2.2.2.2.2.2.1, u.2.2.2.2.2.2.2.2.2.2.2.2.2.2.2.2.2.2.2.2.2.1, u.2.2.2.2.2.2.2.2.2.2.2.2.2.2.2.2.2.2.2.2.2.2.1, u.2.2.2.2.2.2.2.2.2.2.2.2.2.2.2.2.2.2.2.2.2.2.2.1, u.2.2.2.2.2.2.2.2.2.2.2.2.2.2.2.2.2.2.2.2.2.2.2.2.1, u.2.2.2.2.2.2.2.2.2.2.2.2.2.2.2.2.2.2.2.2.2.2.2.2.2.1, u.2.2.2.2.2.2.2.2.2.2.2.2.2.2.2.2.2.2.2.2.2.2.2.2.2.2.1, u.2.2.2.2.2.2.2.2.2.2.2.2.2.2.2.2.2.2.2.2.2.2.2.2.2.2.2.1, e_figures, u.2.2.2.2.2.2.2.2.2.2.2.2.2.2.2.2.2.2.2.2.2.2.2.2.2.2.2.2.2.1, u.2.2.2.2.2.2.2.2.2.2.2.2.2.2.2.2.2.2.2.2.2.2.2.2.2.2.2.2.2.2.1, u.2.2.2.2.2.2.2.2.2.2.2.2.2.2.2.2.2.2.2.2.2.2.2.2.2.2.2.2.2.2.2.1, u.2.2.2.2.2.2.2.2.2.2.2.2.2.2.2.2.2.2.2.2.2.2.2.2.2.2.2.2.2.2.2.2.1, u.2.2.2.2.2.2.2.2.2.2.2.2.2.2.2.2.2.2.2.2.2.2.2.2.2.2.2.2.2.2.2.2.2.1, u.2.2.2.2.2.2.2.2.2.2.2.2.2.2.2.2.2.2.2.2.2.2.2.2.2.2.2.2.2.2.2.2.2.2)
theorem gx_figures (e_figures : Nat → Int32) (u : SX) : qx_modelSize (ux_figures e_figures u) = qx_modelSize u ∧ qx_literalBase (ux_figures e_figures u) = qx_literalBase u ∧ qx_matchLengthBase (ux_figures e_figures u) = qx_matchLengthBase u ∧ qx_repLengthBase (ux_figures e_figures u) = qx_repLengthBase u ∧ qx_slotTreeBase (ux_figures e_figures u) = qx_slotTreeBase u ∧ qx_reverseBase (ux_figures e_figures u) = qx_reverseBase u ∧ qx_alignBase (ux_figures e_figures u) = qx_alignBase u ∧ qx_figureCount (ux_figures e_figures u) = qx_figureCount u ∧ qx_endValue (ux_figures e_figures u) = qx_endValue u ∧ qx_storeSize (ux_figures e_figures u) = qx_storeSize u ∧ qx_topRange (ux_figures e_figures u) = qx_topRange u ∧ qx_fullRange (ux_figures e_figures u) = qx_fullRange u ∧ qx_capacity (ux_figures e_figures u) = qx_capacity u ∧ qx_slots (ux_figures e_figures u) = qx_slots u ∧ qx_shift (ux_figures e_figures u) = qx_shift u ∧ qx_lazy (ux_figures e_figures u) = qx_lazy u ∧ qx_sourceLength (ux_figures e_figures u) = qx_sourceLength u ∧ qx_codedLength (ux_figures e_figures u) = qx_codedLength u ∧ qx_encLow (ux_figures e_figures u) = qx_encLow u ∧ qx_encRange (ux_figures e_figures u) = qx_encRange u ∧ qx_encCache (ux_figures e_figures u) = qx_encCache u ∧ qx_encPending (ux_figures e_figures u) = qx_encPending u ∧ qx_decSlot (ux_figures e_figures u) = qx_decSlot u ∧ qx_decEnded (ux_figures e_figures u) = qx_decEnded u ∧ qx_decAt (ux_figures e_figures u) = qx_decAt u ∧ qx_decRange (ux_figures e_figures u) = qx_decRange u ∧ qx_decCode (ux_figures e_figures u) = qx_decCode u ∧ qx_model (ux_figures e_figures u) = qx_model u ∧ qx_figures (ux_figures e_figures u) = e_figures ∧ qx_reps (ux_figures e_figures u) = qx_reps u ∧ qx_source (ux_figures e_figures u) = qx_source u ∧ qx_coded (ux_figures e_figures u) = qx_coded u ∧ qx_store (ux_figures e_figures u) = qx_store u ∧ qx_storeLength (ux_figures e_figures u) = qx_storeLength u ∧ qx_output (ux_figures e_figures u) = qx_output u := ⟨rfl, rfl, rfl, rfl, rfl, rfl, rfl, rfl, rfl, rfl, rfl, rfl, rfl, rfl, rfl, rfl, rfl, rfl, rfl, rfl, rfl, rfl, rfl, rfl, rfl, rfl, rfl, rfl, rfl, rfl, rfl, rfl, rfl, rfl, rfl⟩
theorem sx_figures (e_figures : Nat → Int32) (d_figures : Nat → Int32) (u : SX) : ux_figures e_figures (ux_figures d_figures u) = ux_figures e_figures u := rfl
def ux_model (e_model : Nat → Int32) (u : SX) : SX := (u.1, u.2.1, u.2.2.1, u.2.2.2.1, u.2.2.2.2.1, u.2.2.2.2.2.1, u.2.2.2.2.2.2.1, u.2.2.2.2.2.2.2.1, u.2.2.2.2.2.2.2.2.1, u.2.2.2.2.2.2.2.2.2.1, u.2.2.2.2.2.2.2.2.2.2.1, u.2.2.2.2.2.2.2.2.2.2.2.1, u.2.2.2.2.2.2.2.2.2.2.2.2.1, u.2.2.2.2.2.2.2.2.2.2.2.2.2.1, u.2.2.2.2.2.2.2.2.2.2.2.2.2.2.1, u.2.2.2.2.2.2.2.2.2.2.2.2.2.2.2.1, u.2.2.2.2.2.2.2.2.2.2.2.2.2.2.2.2.1, u.2.2.2.2.2.2.2.2.2.2.2.2.2.2.2.2.2.1, u.2.2.2.2.2.2.2.2.2.2.2.2.2.2.2.2.2.2.1, u.2.2.2.2.2.2.2.2.2.2.2.2.2.2.2.2.2.2.2.1, u.2.2.2.2.2.2.2.2.2.2.2.2.2.2.2.2.2.2.2.2.1, u.2.2.2.2.2.2.2.2.2.2.2.2.2.2.2.2.2.2.2.2.2.1, u.2.2.2.2.2.2.2.2.2.2.2.2.2.2.2.2.2.2.2.2.2.2.1, u.2.2.2.2.2.2.2.2.2.2.2.2.2.2.2.2.2.2.2.2.2.2.2.1, u.2.2.2.2.2.2.2.2.2.2.2.2.2.2.2.2.2.2.2.2.2.2.2.2.1, u.2.2.2.2.2.2.2.2.2.2.2.2.2.2.2.2.2.2.2.2.2.2.2.2.2.1, u.2.2.2.2.2.2.2.2.2.2.2.2.2.2.2.2.2.2.2.2.2.2.2.2.2.2.1, e_model, u.2.2.2.2.2.2.2.2.2.2.2.2.2.2.2.2.2.2.2.2.2.2.2.2.2.2.2.2.1, u.2.2.2.2.2.2.2.2.2.2.2.2.2.2.2.2.2.2.2.2.2.2.2.2.2.2.2.2.2.1, u.2.2.2.2.2.2.2.2.2.2.2.2.2.2.2.2.2.2.2.2.2.2.2.2.2.2.2.2.2.2.1, u.2.2.2.2.2.2.2.2.2.2.2.2.2.2.2.2.2.2.2.2.2.2.2.2.2.2.2.2.2.2.2.1, u.2.2.2.2.2.2.2.2.2.2.2.2.2.2.2.2.2.2.2.2.2.2.2.2.2.2.2.2.2.2.2.2.1, u.2.2.2.2.2.2.2.2.2.2.2.2.2.2.2.2.2.2.2.2.2.2.2.2.2.2.2.2.2.2.2.2.2.1, u.2.2.2.2.2.2.2.2.2.2.2.2.2.2.2.2.2.2.2.2.2.2.2.2.2.2.2.2.2.2.2.2.2.2)
theorem gx_model (e_model : Nat → Int32) (u : SX) : qx_modelSize (ux_model e_model u) = qx_modelSize u ∧ qx_literalBase (ux_model e_model u) = qx_literalBase u ∧ qx_matchLengthBase (ux_model e_model u) = qx_matchLengthBase u ∧ qx_repLengthBase (ux_model e_model u) = qx_repLengthBase u ∧ qx_slotTreeBase (ux_model e_model u) = qx_slotTreeBase u ∧ qx_reverseBase (ux_model e_model u) = qx_reverseBase u ∧ qx_alignBase (ux_model e_model u) = qx_alignBase u ∧ qx_figureCount (ux_model e_model u) = qx_figureCount u ∧ qx_endValue (ux_model e_model u) = qx_endValue u ∧ qx_storeSize (ux_model e_model u) = qx_storeSize u ∧ qx_topRange (ux_model e_model u) = qx_topRange u ∧ qx_fullRange (ux_model e_model u) = qx_fullRange u ∧ qx_capacity (ux_model e_model u) = qx_capacity u ∧ qx_slots (ux_model e_model u) = qx_slots u ∧ qx_shift (ux_model e_model u) = qx_shift u ∧ qx_lazy (ux_model e_model u) = qx_lazy u ∧ qx_sourceLength (ux_model e_model u) = qx_sourceLength u ∧ qx_codedLength (ux_model e_model u) = qx_codedLength u ∧ qx_encLow (ux_model e_model u) = qx_encLow u ∧ qx_encRange (ux_model e_model u) = qx_encRange u ∧ qx_encCache (ux_model e_model u) = qx_encCache u ∧ qx_encPending (ux_model e_model u) = qx_encPending u ∧ qx_decSlot (ux_model e_model u) = qx_decSlot u ∧ qx_decEnded (ux_model e_model u) = qx_decEnded u ∧ qx_decAt (ux_model e_model u) = qx_decAt u ∧ qx_decRange (ux_model e_model u) = qx_decRange u ∧ qx_decCode (ux_model e_model u) = qx_decCode u ∧ qx_model (ux_model e_model u) = e_model ∧ qx_figures (ux_model e_model u) = qx_figures u ∧ qx_reps (ux_model e_model u) = qx_reps u ∧ qx_source (ux_model e_model u) = qx_source u ∧ qx_coded (ux_model e_model u) = qx_coded u ∧ qx_store (ux_model e_model u) = qx_store u ∧ qx_storeLength (ux_model e_model u) = qx_storeLength u ∧ qx_output (ux_model e_model u) = qx_output u := ⟨rfl, rfl, rfl, rfl, rfl, rfl, rfl, rfl, rfl, rfl, rfl, rfl, rfl, rfl, rfl, rfl, rfl, rfl, rfl, rfl, rfl, rfl, rfl, rfl, rfl, rfl, rfl, rfl, rfl, rfl, rfl, rfl, rfl, rfl, rfl⟩
theorem sx_model (e_model : Nat → Int32) (d_model : Nat → Int32) (u : SX) : ux_model e_model (ux_model d_model u) = ux_model e_model u := rfl
def ux_output (e_output : Nat → Int32) (u : SX) : SX := (u.1, u.2.1, u.2.2.1, u.2.2.2.1, u.2.2.2.2.1, u.2.2.2.2.2.1, u.2.2.2.2.2.2.1, u.2.2.2.2.2.2.2.1, u.2.2.2.2.2.2.2.2.1, u.2.2.2.2.2.2.2.2.2.1, u.2.2.2.2.2.2.2.2.2.2.1, u.2.2.2.2.2.2.2.2.2.2.2.1, u.2.2.2.2.2.2.2.2.2.2.2.2.1, u.2.2.2.2.2.2.2.2.2.2.2.2.2.1, u.2.2.2.2.2.2.2.2.2.2.2.2.2.2.1, u.2.2.2.2.2.2.2.2.2.2.2.2.2.2.2.1, u.2.2.2.2.2.2.2.2.2.2.2.2.2.2.2.2.1, u.2.2.2.2.2.2.2.2.2.2.2.2.2.2.2.2.2.1, u.2.2.2.2.2.2.2.2.2.2.2.2.2.2.2.2.2.2.1, u.2.2.2.2.2.2.2.2.2.2.2.2.2.2.2.2.2.2.2.1, u.2.2.2.2.2.2.2.2.2.2.2.2.2.2.2.2.2.2.2.2.1, u.2.2.2.2.2.2.2.2.2.2.2.2.2.2.2.2.2.2.2.2.2.1, u.2.2.2.2.2.2.2.2.2.2.2.2.2.2.2.2.2.2.2.2.2.2.1, u.2.2.2.2.2.2.2.2.2.2.2.2.2.2.2.2.2.2.2.2.2.2.2.1, u.2.2.2.2.2.2.2.2.2.2.2.2.2.2.2.2.2.2.2.2.2.2.2.2.1, u.2.2.2.2.2.2.2.2.2.2.2.2.2.2.2.2.2.2.2.2.2.2.2.2.2.1, u.2.2.2.2.2.2.2.2.2.2.2.2.2.2.2.2.2.2.2.2.2.2.2.2.2.2.1, u.2.2.2.2.2.2.2.2.2.2.2.2.2.2.2.2.2.2.2.2.2.2.2.2.2.2.2.1, u.2.2.2.2.2.2.2.2.2.2.2.2.2.2.2.2.2.2.2.2.2.2.2.2.2.2.2.2.1, u.2.2.2.2.2.2.2.2.2.2.2.2.2.2.2.2.2.2.2.2.2.2.2.2.2.2.2.2.2.1, u.2.2.2.2.2.2.2.2.2.2.2.2.2.2.2.2.2.2.2.2.2.2.2.2.2.2.2.2.2.2.1, u.2.2.2.2.2.2.2.2.2.2.2.2.2.2.2.2.2.2.2.2.2.2.2.2.2.2.2.2.2.2.2.1, u.2.2.2.2.2.2.2.2.2.2.2.2.2.2.2.2.2.2.2.2.2.2.2.2.2.2.2.2.2.2.2.2.1, u.2.2.2.2.2.2.2.2.2.2.2.2.2.2.2.2.2.2.2.2.2.2.2.2.2.2.2.2.2.2.2.2.2.1, e_output)
theorem gx_output (e_output : Nat → Int32) (u : SX) : qx_modelSize (ux_output e_output u) = qx_modelSize u ∧ qx_literalBase (ux_output e_output u) = qx_literalBase u ∧ qx_matchLengthBase (ux_output e_output u) = qx_matchLengthBase u ∧ qx_repLengthBase (ux_output e_output u) = qx_repLengthBase u ∧ qx_slotTreeBase (ux_output e_output u) = qx_slotTreeBase u ∧ qx_reverseBase (ux_output e_output u) = qx_reverseBase u ∧ qx_alignBase (ux_output e_output u) = qx_alignBase u ∧ qx_figureCount (ux_output e_output u) = qx_figureCount u ∧ qx_endValue (ux_output e_output u) = qx_endValue u ∧ qx_storeSize (ux_output e_output u) = qx_storeSize u ∧ qx_topRange (ux_output e_output u) = qx_topRange u ∧ qx_fullRange (ux_output e_output u) = qx_fullRange u ∧ qx_capacity (ux_output e_output u) = qx_capacity u ∧ qx_slots (ux_output e_output u) = qx_slots u ∧ qx_shift (ux_output e_output u) = qx_shift u ∧ qx_lazy (ux_output e_output u) = qx_lazy u ∧ qx_sourceLength (ux_output e_output u) = qx_sourceLength u ∧ qx_codedLength (ux_output e_output u) = qx_codedLength u ∧ qx_encLow (ux_output e_output u) = qx_encLow u ∧ qx_encRange (ux_output e_output u) = qx_encRange u ∧ qx_encCache (ux_output e_output u) = qx_encCache u ∧ qx_encPending (ux_output e_output u) = qx_encPending u ∧ qx_decSlot (ux_output e_output u) = qx_decSlot u ∧ qx_decEnded (ux_output e_output u) = qx_decEnded u ∧ qx_decAt (ux_output e_output u) = qx_decAt u ∧ qx_decRange (ux_output e_output u) = qx_decRange u ∧ qx_decCode (ux_output e_output u) = qx_decCode u ∧ qx_model (ux_output e_output u) = qx_model u ∧ qx_figures (ux_output e_output u) = qx_figures u ∧ qx_reps (ux_output e_output u) = qx_reps u ∧ qx_source (ux_output e_output u) = qx_source u ∧ qx_coded (ux_output e_output u) = qx_coded u ∧ qx_store (ux_output e_output u) = qx_store u ∧ qx_storeLength (ux_output e_output u) = qx_storeLength u ∧ qx_output (ux_output e_output u) = e_output := ⟨rfl, rfl, rfl, rfl, rfl, rfl, rfl, rfl, rfl, rfl, rfl, rfl, rfl, rfl, rfl, rfl, rfl, rfl, rfl, rfl, rfl, rfl, rfl, rfl, rfl, rfl, rfl, rfl, rfl, rfl, rfl, rfl, rfl, rfl, rfl⟩
theorem sx_output (e_output : Nat → Int32) (d_output : Nat → Int32) (u : SX) : ux_output e_output (ux_output d_output u) = ux_output e_output u := rfl
def ux_reps (e_reps : Nat → Int32) (u : SX) : SX := (u.1, u.2.1, u.2.2.1, u.2.2.2.1, u.2.2.2.2.1, u.2.2.2.2.2.1, u.2.2.2.2.2.2.1, u.2.2.2.2.2.2.2.1, u.2.2.2.2.2.2.2.2.1, u.2.2.2.2.2.2.2.2.2.1, u.2.2.2.2.2.2.2.2.2.2.1, u.2.2.2.2.2.2.2.2.2.2.2.1, u.2.2.2.2.2.2.2.2.2.2.2.2.1, u.2.2.2.2.2.2.2.2.2.2.2.2.2.1, u.2.2.2.2.2.2.2.2.2.2.2.2.2.2.1, u.2.2.2.2.2.2.2.2.2.2.2.2.2.2.2.1, u.2.2.2.2.2.2.2.2.2.2.2.2.2.2.2.2.1, u.2.2.2.2.2.2.2.2.2.2.2.2.2.2.2.2.2.1, u.2.2.2.2.2.2.2.2.2.2.2.2.2.2.2.2.2.2.1, u.2.2.2.2.2.2.2.2.2.2.2.2.2.2.2.2.2.2.2.1, u.2.2.2.2.2.2.2.2.2.2.2.2.2.2.2.2.2.2.2.2.1, u.2.2.2.2.2.2.2.2.2.2.2.2.2.2.2.2.2.2.2.2.2.1, u.2.2.2.2.2.2.2.2.2.2.2.2.2.2.2.2.2.2.2.2.2.2.1, u.2.2.2.2.2.2.2.2.2.2.2.2.2.2.2.2.2.2.2.2.2.2.2.1, u.2.2.2.2.2.2.2.2.2.2.2.2.2.2.2.2.2.2.2.2.2.2.2.2.1, u.2.2.2.2.2.2.2.2.2.2.2.2.2.2.2.2.2.2.2.2.2.2.2.2.2.1, u.2.2.2.2.2.2.2.2.2.2.2.2.2.2.2.2.2.2.2.2.2.2.2.2.2.2.1, u.2.2.2.2.2.2.2.2.2.2.2.2.2.2.2.2.2.2.2.2.2.2.2.2.2.2.2.1, u.2.2.2.2.2.2.2.2.2.2.2.2.2.2.2.2.2.2.2.2.2.2.2.2.2.2.2.2.1, e_reps, u.2.2.2.2.2.2.2.2.2.2.2.2.2.2.2.2.2.2.2.2.2.2.2.2.2.2.2.2.2.2.1, u.2.2.2.2.2.2.2.2.2.2.2.2.2.2.2.2.2.2.2.2.2.2.2.2.2.2.2.2.2.2.2.1, u.2.2.2.2.2.2.2.2.2.2.2.2.2.2.2.2.2.2.2.2.2.2.2.2.2.2.2.2.2.2.2.2.1, u.2.2.2.2.2.2.2.2.2.2.2.2.2.2.2.2.2.2.2.2.2.2.2.2.2.2.2.2.2.2.2.2.2.1, u.2.2.2.2.2.2.2.2.2.2.2.2.2.2.2.2.2.2.2.2.2.2.2.2.2.2.2.2.2.2.2.2.2.2)
theorem gx_reps (e_reps : Nat → Int32) (u : SX) : qx_modelSize (ux_reps e_reps u) = qx_modelSize u ∧ qx_literalBase (ux_reps e_reps u) = qx_literalBase u ∧ qx_matchLengthBase (ux_reps e_reps u) = qx_matchLengthBase u ∧ qx_repLengthBase (ux_reps e_reps u) = qx_repLengthBase u ∧ qx_slotTreeBase (ux_reps e_reps u) = qx_slotTreeBase u ∧ qx_reverseBase (ux_reps e_reps u) = qx_reverseBase u ∧ qx_alignBase (ux_reps e_reps u) = qx_alignBase u ∧ qx_figureCount (ux_reps e_reps u) = qx_figureCount u ∧ qx_endValue (ux_reps e_reps u) = qx_endValue u ∧ qx_storeSize (ux_reps e_reps u) = qx_storeSize u ∧ qx_topRange (ux_reps e_reps u) = qx_topRange u ∧ qx_fullRange (ux_reps e_reps u) = qx_fullRange u ∧ qx_capacity (ux_reps e_reps u) = qx_capacity u ∧ qx_slots (ux_reps e_reps u) = qx_slots u ∧ qx_shift (ux_reps e_reps u) = qx_shift u ∧ qx_lazy (ux_reps e_reps u) = qx_lazy u ∧ qx_sourceLength (ux_reps e_reps u) = qx_sourceLength u ∧ qx_codedLength (ux_reps e_reps u) = qx_codedLength u ∧ qx_encLow (ux_reps e_reps u) = qx_encLow u ∧ qx_encRange (ux_reps e_reps u) = qx_encRange u ∧ qx_encCache (ux_reps e_reps u) = qx_encCache u ∧ qx_encPending (ux_reps e_reps u) = qx_encPending u ∧ qx_decSlot (ux_reps e_reps u) = qx_decSlot u ∧ qx_decEnded (ux_reps e_reps u) = qx_decEnded u ∧ qx_decAt (ux_reps e_reps u) = qx_decAt u ∧ qx_decRange (ux_reps e_reps u) = qx_decRange u ∧ qx_decCode (ux_reps e_reps u) = qx_decCode u ∧ qx_model (ux_reps e_reps u) = qx_model u ∧ qx_figures (ux_reps e_reps u) = qx_figures u ∧ qx_reps (ux_reps e_reps u) = e_reps ∧ qx_source (ux_reps e_reps u) = qx_source u ∧ qx_coded (ux_reps e_reps u) = qx_coded u ∧ qx_store (ux_reps e_reps u) = qx_store u ∧ qx_storeLength (ux_reps e_reps u) = qx_storeLength u ∧ qx_output (ux_reps e_reps u) = qx_output u := ⟨rfl, rfl, rfl, rfl, rfl, rfl, rfl, rfl, rfl, rfl, rfl, rfl, rfl, rfl, rfl, rfl, rfl, rfl, rfl, rfl, rfl, rfl, rfl, rfl, rfl, rfl, rfl, rfl, rfl, rfl, rfl, rfl, rfl, rfl, rfl⟩
theorem sx_reps (e_reps : Nat → Int32) (d_reps : Nat → Int32) (u : SX) : ux_reps e_reps (ux_reps d_reps u) = ux_reps e_reps u := rfl
def ux_store (e_store : Nat → Int32) (u : SX) : SX := (u.1, u.2.1, u.2.2.1, u.2.2.2.1, u.2.2.2.2.1, u.2.2.2.2.2.1, u.2.2.2.2.2.2.1, u.2.2.2.2.2.2.2.1, u.2.2.2.2.2.2.2.2.1, u.2.2.2.2.2.2.2.2.2.1, u.2.2.2.2.2.2.2.2.2.2.1, u.2.2.2.2.2.2.2.2.2.2.2.1, u.2.2.2.2.2.2.2.2.2.2.2.2.1, u.2.2.2.2.2.2.2.2.2.2.2.2.2.1, u.2.2.2.2.2.2.2.2.2.2.2.2.2.2.1, u.2.2.2.2.2.2.2.2.2.2.2.2.2.2.2.1, u.2.2.2.2.2.2.2.2.2.2.2.2.2.2.2.2.1, u.2.2.2.2.2.2.2.2.2.2.2.2.2.2.2.2.2.1, u.2.2.2.2.2.2.2.2.2.2.2.2.2.2.2.2.2.2.1, u.2.2.2.2.2.2.2.2.2.2.2.2.2.2.2.2.2.2.2.1, u.2.2.2.2.2.2.2.2.2.2.2.2.2.2.2.2.2.2.2.2.1, u.2.2.2.2.2.2.2.2.2.2.2.2.2.2.2.2.2.2.2.2.2.1, u.2.2.2.2.2.2.2.2.2.2.2.2.2.2.2.2.2.2.2.2.2.2.1, u.2.2.2.2.2.2.2.2.2.2.2.2.2.2.2.2.2.2.2.2.2.2.2.1, u.2.2.2.2.2.2.2.2.2.2.2.2.2.2.2.2.2.2.2.2.2.2.2.2.1, u.2.2.2.2.2.2.2.2.2.2.2.2.2.2.2.2.2.2.2.2.2.2.2.2.2.1, u.2.2.2.2.2.2.2.2.2.2.2.2.2.2.2.2.2.2.2.2.2.2.2.2.2.2.1, u.2.2.2.2.2.2.2.2.2.2.2.2.2.2.2.2.2.2.2.2.2.2.2.2.2.2.2.1, u.2.2.2.2.2.2.2.2.2.2.2.2.2.2.2.2.2.2.2.2.2.2.2.2.2.2.2.2.1, u.2.2.2.2.2.2.2.2.2.2.2.2.2.2.2.2.2.2.2.2.2.2.2.2.2.2.2.2.2.1, u.2.2.2.2.2.2.2.2.2.2.2.2.2.2.2.2.2.2.2.2.2.2.2.2.2.2.2.2.2.2.1, u.2.2.2.2.2.2.2.2.2.2.2.2.2.2.2.2.2.2.2.2.2.2.2.2.2.2.2.2.2.2.2.1, e_store, u.2.2.2.2.2.2.2.2.2.2.2.2.2.2.2.2.2.2.2.2.2.2.2.2.2.2.2.2.2.2.2.2.2.1, u.2.2.2.2.2.2.2.2.2.2.2.2.2.2.2.2.2.2.2.2.2.2.2.2.2.2.2.2.2.2.2.2.2.2)
theorem gx_store (e_store : Nat → Int32) (u : SX) : qx_modelSize (ux_store e_store u) = qx_modelSize u ∧ qx_literalBase (ux_store e_store u) = qx_literalBase u ∧ qx_matchLengthBase (ux_store e_store u) = qx_matchLengthBase u ∧ qx_repLengthBase (ux_store e_store u) = qx_repLengthBase u ∧ qx_slotTreeBase (ux_store e_store u) = qx_slotTreeBase u ∧ qx_reverseBase (ux_store e_store u) = qx_reverseBase u ∧ qx_alignBase (ux_store e_store u) = qx_alignBase u ∧ qx_figureCount (ux_store e_store u) = qx_figureCount u ∧ qx_endValue (ux_store e_store u) = qx_endValue u ∧ qx_storeSize (ux_store e_store u) = qx_storeSize u ∧ qx_topRange (ux_store e_store u) = qx_topRange u ∧ qx_fullRange (ux_store e_store u) = qx_fullRange u ∧ qx_capacity (ux_store e_store u) = qx_capacity u ∧ qx_slots (ux_store e_store u) = qx_slots u ∧ qx_shift (ux_store e_store u) = qx_shift u ∧ qx_lazy (ux_store e_store u) = qx_lazy u ∧ qx_sourceLength (ux_store e_store u) = qx_sourceLength u ∧ qx_codedLength (ux_store e_store u) = qx_codedLength u ∧ qx_encLow (ux_store e_store u) = qx_encLow u ∧ qx_encRange (ux_store e_store u) = qx_encRange u ∧ qx_encCache (ux_store e_store u) = qx_encCache u ∧ qx_encPending (ux_store e_store u) = qx_encPending u ∧ qx_decSlot (ux_store e_store u) = qx_decSlot u ∧ qx_decEnded (ux_store e_store u) = qx_decEnded u ∧ qx_decAt (ux_store e_store u) = qx_decAt u ∧ qx_decRange (ux_store e_store u) = qx_decRange u ∧ qx_decCode (ux_store e_store u) = qx_decCode u ∧ qx_model (ux_store e_store u) = qx_model u ∧ qx_figures (ux_store e_store u) = qx_figures u ∧ qx_reps (ux_store e_store u) = qx_reps u ∧ qx_source (ux_store e_store u) = qx_source u ∧ qx_coded (ux_store e_store u) = qx_coded u ∧ qx_store (ux_store e_store u) = e_store ∧ qx_storeLength (ux_store e_store u) = qx_storeLength u ∧ qx_output (ux_store e_store u) = qx_output u := ⟨rfl, rfl, rfl, rfl, rfl, rfl, rfl, rfl, rfl, rfl, rfl, rfl, rfl, rfl, rfl, rfl, rfl, rfl, rfl, rfl, rfl, rfl, rfl, rfl, rfl, rfl, rfl, rfl, rfl, rfl, rfl, rfl, rfl, rfl, rfl⟩
theorem sx_store (e_store : Nat → Int32) (d_store : Nat → Int32) (u : SX) : ux_store e_store (ux_store d_store u) = ux_store e_store u := rfl
def ux_storeLength (e_storeLength : Nat → Int32) (u : SX) : SX := (u.1, u.2.1, u.2.2.1, u.2.2.2.1, u.2.2.2.2.1, u.2.2.2.2.2.1, u.2.2.2.2.2.2.1, u.2.2.2.2.2.2.2.1, u.2.2.2.2.2.2.2.2.1, u.2.2.2.2.2.2.2.2.2.1, u.2.2.2.2.2.2.2.2.2.2.1, u.2.2.2.2.2.2.2.2.2.2.2.1, u.2.2.2.2.2.2.2.2.2.2.2.2.1, u.2.2.2.2.2.2.2.2.2.2.2.2.2.1, u.2.2.2.2.2.2.2.2.2.2.2.2.2.2.1, u.2.2.2.2.2.2.2.2.2.2.2.2.2.2.2.1, u.2.2.2.2.2.2.2.2.2.2.2.2.2.2.2.2.1, u.2.2.2.2.2.2.2.2.2.2.2.2.2.2.2.2.2.1, u.2.2.2.2.2.2.2.2.2.2.2.2.2.2.2.2.2.2.1, u.2.2.2.2.2.2.2.2.2.2.2.2.2.2.2.2.2.2.2.1, u.2.2.2.2.2.2.2.2.2.2.2.2.2.2.2.2.2.2.2.2.1, u.2.2.2.2.2.2.2.2.2.2.2.2.2.2.2.2.2.2.2.2.2.1, u.2.2.2.2.2.2.2.2.2.2.2.2.2.2.2.2.2.2.2.2.2.2.1, u.2.2.2.2.2.2.2.2.2.2.2.2.2.2.2.2.2.2.2.2.2.2.2.1, u.2.2.2.2.2.2.2.2.2.2.2.2.2.2.2.2.2.2.2.2.2.2.2.2.1, u.2.2.2.2.2.2.2.2.2.2.2.2.2.2.2.2.2.2.2.2.2.2.2.2.2.1, u.2.2.2.2.2.2.2.2.2.2.2.2.2.2.2.2.2.2.2.2.2.2.2.2.2.2.1, u.2.2.2.2.2.2.2.2.2.2.2.2.2.2.2.2.2.2.2.2.2.2.2.2.2.2.2.1, u.2.2.2.2.2.2.2.2.2.2.2.2.2.2.2.2.2.2.2.2.2.2.2.2.2.2.2.2.1, u.2.2.2.2.2.2.2.2.2.2.2.2.2.2.2.2.2.2.2.2.2.2.2.2.2.2.2.2.2.1, u.2.2.2.2.2.2.2.2.2.2.2.2.2.2.2.2.2.2.2.2.2.2.2.2.2.2.2.2.2.2.1, u.2.2.2.2.2.2.2.2.2.2.2.2.2.2.2.2.2.2.2.2.2.2.2.2.2.2.2.2.2.2.2.1, u.2.2.2.2.2.2.2.2.2.2.2.2.2.2.2.2.2.2.2.2.2.2.2.2.2.2.2.2.2.2.2.2.1, e_storeLength, u.2.2.2.2.2.2.2.2.2.2.2.2.2.2.2.2.2.2.2.2.2.2.2.2.2.2.2.2.2.2.2.2.2.2)
theorem gx_storeLength (e_storeLength : Nat → Int32) (u : SX) : qx_modelSize (ux_storeLength e_storeLength u) = qx_modelSize u ∧ qx_literalBase (ux_storeLength e_storeLength u) = qx_literalBase u ∧ qx_matchLengthBase (ux_storeLength e_storeLength u) = qx_matchLengthBase u ∧ qx_repLengthBase (ux_storeLength e_storeLength u) = qx_repLengthBase u ∧ qx_slotTreeBase (ux_storeLength e_storeLength u) = qx_slotTreeBase u ∧ qx_reverseBase (ux_storeLength e_storeLength u) = qx_reverseBase u ∧ qx_alignBase (ux_storeLength e_storeLength u) = qx_alignBase u ∧ qx_figureCount (ux_storeLength e_storeLength u) = qx_figureCount u ∧ qx_endValue (ux_storeLength e_storeLength u) = qx_endValue u ∧ qx_storeSize (ux_storeLength e_storeLength u) = qx_storeSize u ∧ qx_topRange (ux_storeLength e_storeLength u) = qx_topRange u ∧ qx_fullRange (ux_storeLength e_storeLength u) = qx_fullRange u ∧ qx_capacity (ux_storeLength e_storeLength u) = qx_capacity u ∧ qx_slots (ux_storeLength e_storeLength u) = qx_slots u ∧ qx_shift (ux_storeLength e_storeLength u) = qx_shift u ∧ qx_lazy (ux_storeLength e_storeLength u) = qx_lazy u ∧ qx_sourceLength (ux_storeLength e_storeLength u) = qx_sourceLength u ∧ qx_codedLength (ux_storeLength e_storeLength u) = qx_codedLength u ∧ qx_encLow (ux_storeLength e_storeLength u) = qx_encLow u ∧ qx_encRange (ux_storeLength e_storeLength u) = qx_encRange u ∧ qx_encCache (ux_storeLength e_storeLength u) = qx_encCache u ∧ qx_encPending (ux_storeLength e_storeLength u) = qx_encPending u ∧ qx_decSlot (ux_storeLength e_storeLength u) = qx_decSlot u ∧ qx_decEnded (ux_storeLength e_storeLength u) = qx_decEnded u ∧ qx_decAt (ux_storeLength e_storeLength u) = qx_decAt u ∧ qx_decRange (ux_storeLength e_storeLength u) = qx_decRange u ∧ qx_decCode (ux_storeLength e_storeLength u) = qx_decCode u ∧ qx_model (ux_storeLength e_storeLength u) = qx_model u ∧ qx_figures (ux_storeLength e_storeLength u) = qx_figures u ∧ qx_reps (ux_storeLength e_storeLength u) = qx_reps u ∧ qx_source (ux_storeLength e_storeLength u) = qx_source u ∧ qx_coded (ux_storeLength e_storeLength u) = qx_coded u ∧ qx_store (ux_storeLength e_storeLength u) = qx_store u ∧ qx_storeLength (ux_storeLength e_storeLength u) = e_storeLength ∧ qx_output (ux_storeLength e_storeLength u) = qx_output u := ⟨rfl, rfl, rfl, rfl, rfl, rfl, rfl, rfl, rfl, rfl, rfl, rfl, rfl, rfl, rfl, rfl, rfl, rfl, rfl, rfl, rfl, rfl, rfl, rfl, rfl, rfl, rfl, rfl, rfl, rfl, rfl, rfl, rfl, rfl, rfl⟩
def ux_codedLength_coded (e_codedLength : Int32) (e_coded : Nat → Int32) (u : SX) : SX := (u.1, u.2.1, u.2.2.1, u.2.2.2.1, u.2.2.2.2.1, u.2.2.2.2.2.1, u.2.2.2.2.2.2.1, u.2.2.2.2.2.2.2.1, u.2.2.2.2.2.2.2.2.1, u.2.2.2.2.2.2.2.2.2.1, u.2.2.2.2.2.2.2.2.2.2.1, u.2.2.2.2.2.2.2.2.2.2.2.1, u.2.2.2.2.2.2.2.2.2.2.2.2.1, u.2.2.2.2.2.2.2.2.2.2.2.2.2.1, u.2.2.2.2.2.2.2.2.2.2.2.2.2.2.1, u.2.2.2.2.2.2.2.2.2.2.2.2.2.2.2.1, u.2.2.2.2.2.2.2.2.2.2.2.2.2.2.2.2.1, e_codedLength, u.2.2.2.2.2.2.2.2.2.2.2.2.2.2.2.2.2.2.1, u.2.2.2.2.2.2.2.2.2.2.2.2.2.2.2.2.2.2.2.1, u.2.2.2.2.2.2.2.2.2.2.2.2.2.2.2.2.2.2.2.2.1, u.2.2.2.2.2.2.2.2.2.2.2.2.2.2.2.2.2.2.2.2.2.1, u.2.2.2.2.2.2.2.2.2.2.2.2.2.2.2.2.2.2.2.2.2.2.1, u.2.2.2.2.2.2.2.2.2.2.2.2.2.2.2.2.2.2.2.2.2.2.2.1, u.2.2.2.2.2.2.2.2.2.2.2.2.2.2.2.2.2.2.2.2.2.2.2.2.1, u.2.2.2.2.2.2.2.2.2.2.2.2.2.2.2.2.2.2.2.2.2.2.2.2.2.1, u.2.2.2.2.2.2.2.2.2.2.2.2.2.2.2.2.2.2.2.2.2.2.2.2.2.2.1, u.2.2.2.2.2.2.2.2.2.2.2.2.2.2.2.2.2.2.2.2.2.2.2.2.2.2.2.1, u.2.2.2.2.2.2.2.2.2.2.2.2.2.2.2.2.2.2.2.2.2.2.2.2.2.2.2.2.1, u.2.2.2.2.2.2.2.2.2.2.2.2.2.2.2.2.2.2.2.2.2.2.2.2.2.2.2.2.2.1, u.2.2.2.2.2.2.2.2.2.2.2.2.2.2.2.2.2.2.2.2.2.2.2.2.2.2.2.2.2.2.1, e_coded, u.2.2.2.2.2.2.2.2.2.2.2.2.2.2.2.2.2.2.2.2.2.2.2.2.2.2.2.2.2.2.2.2.1, u.2.2.2.2.2.2.2.2.2.2.2.2.2.2.2.2.2.2.2.2.2.2.2.2.2.2.2.2.2.2.2.2.2.1, u.2.2.2.2.2.2.2.2.2.2.2.2.2.2.2.2.2.2.2.2.2.2.2.2.2.2.2.2.2.2.2.2.2.2)
theorem gx_codedLength_coded (e_codedLength : Int32) (e_coded : Nat → Int32) (u : SX) : qx_modelSize (ux_codedLength_coded e_codedLength e_coded u) = qx_modelSize u ∧ qx_literalBase (ux_codedLength_coded e_codedLength e_coded u) = qx_literalBase u ∧ qx_matchLengthBase (ux_codedLength_coded e_codedLength e_coded u) = qx_matchLengthBase u ∧ qx_repLengthBase (ux_codedLength_coded e_codedLength e_coded u) = qx_repLengthBase u ∧ qx_slotTreeBase (ux_codedLength_coded e_codedLength e_coded u) = qx_slotTreeBase u ∧ qx_reverseBase (ux_codedLength_coded e_codedLength e_coded u) = qx_reverseBase u ∧ qx_alignBase (ux_codedLength_coded e_codedLength e_coded u) = qx_alignBase u ∧ qx_figureCount (ux_codedLength_coded e_codedLength e_coded u) = qx_figureCount u ∧ qx_endValue (ux_codedLength_coded e_codedLength e_coded u) = qx_endValue u ∧ qx_storeSize (ux_codedLength_coded e_codedLength e_coded u) = qx_storeSize u ∧ qx_topRange (ux_codedLength_coded e_codedLength e_coded u) = qx_topRange u ∧ qx_fullRange (ux_codedLength_coded e_codedLength e_coded u) = qx_fullRange u ∧ qx_capacity (ux_codedLength_coded e_codedLength e_coded u) = qx_capacity u ∧ qx_slots (ux_codedLength_coded e_codedLength e_coded u) = qx_slots u ∧ qx_shift (ux_codedLength_coded e_codedLength e_coded u) = qx_shift u ∧ qx_lazy (ux_codedLength_coded e_codedLength e_coded u) = qx_lazy u ∧ qx_sourceLength (ux_codedLength_coded e_codedLength e_coded u) = qx_sourceLength u ∧ qx_codedLength (ux_codedLength_coded e_codedLength e_coded u) = e_codedLength ∧ qx_encLow (ux_codedLength_coded e_codedLength e_coded u) = qx_encLow u ∧ qx_encRange (ux_codedLength_coded e_codedLength e_coded u) = qx_encRange u ∧ qx_encCache (ux_codedLength_coded e_codedLength e_coded u) = qx_encCache u ∧ qx_encPending (ux_codedLength_coded e_codedLength e_coded u) = qx_encPending u ∧ qx_decSlot (ux_codedLength_coded e_codedLength e_coded u) = qx_decSlot u ∧ qx_decEnded (ux_codedLength_coded e_codedLength e_coded u) = qx_decEnded u ∧ qx_decAt (ux_codedLength_coded e_codedLength e_coded u) = qx_decAt u ∧ qx_decRange (ux_codedLength_coded e_codedLength e_coded u) = qx_decRange u ∧ qx_decCode (ux_codedLength_coded e_codedLength e_coded u) = qx_decCode u ∧ qx_model (ux_codedLength_coded e_codedLength e_coded u) = qx_model u ∧ qx_figures (ux_codedLength_coded e_codedLength e_coded u) = qx_figures u ∧ qx_reps (ux_codedLength_coded e_codedLength e_coded u) = qx_reps u ∧ qx_source (ux_codedLength_coded e_codedLength e_coded u) = qx_source u ∧ qx_coded (ux_codedLength_coded e_codedLength e_coded u) = e_coded ∧ qx_store (ux_codedLength_coded e_codedLength e_coded u) = qx_store u ∧ qx_storeLength (ux_codedLength_coded e_codedLength e_coded u) = qx_storeLength u ∧ qx_output (ux_codedLength_coded e_codedLength e_coded u) = qx_output u := ⟨rfl, rfl, rfl, rfl, rfl, rfl, rfl, rfl, rfl, rfl, rfl, rfl, rfl, rfl, rfl, rfl, rfl, rfl, rfl, rfl, rfl, rfl, rfl, rfl, rfl, rfl, rfl, rfl, rfl, rfl, rfl, rfl, rfl, rfl, rfl⟩
theorem sx_codedLength_coded (e_codedLength : Int32) (e_coded : Nat → Int32) (d_codedLength : Int32) (d_coded : Nat → Int32) (u : SX) : ux_codedLength_coded e_codedLength e_coded (ux_codedLength_coded d_codedLength d_coded u) = ux_codedLength_coded e_codedLength e_coded u := rfl
def ux_decRange_decCode (e_decRange : Int64) (e_decCode : Int64) (u : SX) : SX := (u.1, u.2.1, u.2.2.1, u.2.2.2.1, u.2.2.2.2.1, u.2.2.2.2.2.1, u.2.2.2.2.2.2.1, u.2.2.2.2.2.2.2.1, u.2.2.2.2.2.2.2.2.1, u.2.2.2.2.2.2.2.2.2.1, u.2.2.2.2.2.2.2.2.2.2.1, u.2.2.2.2.2.2.2.2.2.2.2.1, u.2.2.2.2.2.2.2.2.2.2.2.2.1, u.2.2.2.2.2.2.2.2.2.2.2.2.2.1, u.2.2.2.2.2.2.2.2.2.2.2.2.2.2.1, u.2.2.2.2.2.2.2.2.2.2.2.2.2.2.2.1, u.2.2.2.2.2.2.2.2.2.2.2.2.2.2.2.2.1, u.2.2.2.2.2.2.2.2.2.2.2.2.2.2.2.2.2.1, u.2.2.2.2.2.2.2.2.2.2.2.2.2.2.2.2.2.2.1, u.2.2.2.2.2.2.2.2.2.2.2.2.2.2.2.2.2.2.2.1, u.2.2.2.2.2.2.2.2.2.2.2.2.2.2.2.2.2.2.2.2.1, u.2.2.2.2.2.2.2.2.2.2.2.2.2.2.2.2.2.2.2.2.2.1, u.2.2.2.2.2.2.2.2.2.2.2.2.2.2.2.2.2.2.2.2.2.2.1, u.2.2.2.2.2.2.2.2.2.2.2.2.2.2.2.2.2.2.2.2.2.2.2.1, u.2.2.2.2.2.2.2.2.2.2.2.2.2.2.2.2.2.2.2.2.2.2.2.2.1, e_decRange, e_decCode, u.2.2.2.2.2.2.2.2.2.2.2.2.2.2.2.2.2.2.2.2.2.2.2.2.2.2.2.1, u.2.2.2.2.2.2.2.2.2.2.2.2.2.2.2.2.2.2.2.2.2.2.2.2.2.2.2.2.1, u.2.2.2.2.2.2.2.2.2.2.2.2.2.2.2.2.2.2.2.2.2.2.2.2.2.2.2.2.2.1, u.2.2.2.2.2.2.2.2.2.2.2.2.2.2.2.2.2.2.2.2.2.2.2.2.2.2.2.2.2.2.1, u.2.2.2.2.2.2.2.2.2.2.2.2.2.2.2.2.2.2.2.2.2.2.2.2.2.2.2.2.2.2.2.1, u.2.2.2.2.2.2.2.2.2.2.2.2.2.2.2.2.2.2.2.2.2.2.2.2.2.2.2.2.2.2.2.2.1, u.2.2.2.2.2.2.2.2.2.2.2.2.2.2.2.2.2.2.2.2.2.2.2.2.2.2.2.2.2.2.2.2.2.1, u.2.2.2.2.2.2.2.2.2.2.2.2.2.2.2.2.2.2.2.2.2.2.2.2.2.2.2.2.2.2.2.2.2.2)
theorem gx_decRange_decCode (e_decRange : Int64) (e_decCode : Int64) (u : SX) : qx_modelSize (ux_decRange_decCode e_decRange e_decCode u) = qx_modelSize u ∧ qx_literalBase (ux_decRange_decCode e_decRange e_decCode u) = qx_literalBase u ∧ qx_matchLengthBase (ux_decRange_decCode e_decRange e_decCode u) = qx_matchLengthBase u ∧ qx_repLengthBase (ux_decRange_decCode e_decRange e_decCode u) = qx_repLengthBase u ∧ qx_slotTreeBase (ux_decRange_decCode e_decRange e_decCode u) = qx_slotTreeBase u ∧ qx_reverseBase (ux_decRange_decCode e_decRange e_decCode u) = qx_reverseBase u ∧ qx_alignBase (ux_decRange_decCode e_decRange e_decCode u) = qx_alignBase u ∧ qx_figureCount (ux_decRange_decCode e_decRange e_decCode u) = qx_figureCount u ∧ qx_endValue (ux_decRange_decCode e_decRange e_decCode u) = qx_endValue u ∧ qx_storeSize (ux_decRange_decCode e_decRange e_decCode u) = qx_storeSize u ∧ qx_topRange (ux_decRange_decCode e_decRange e_decCode u) = qx_topRange u ∧ qx_fullRange (ux_decRange_decCode e_decRange e_decCode u) = qx_fullRange u ∧ qx_capacity (ux_decRange_decCode e_decRange e_decCode u) = qx_capacity u ∧ qx_slots (ux_decRange_decCode e_decRange e_decCode u) = qx_slots u ∧ qx_shift (ux_decRange_decCode e_decRange e_decCode u) = qx_shift u ∧ qx_lazy (ux_decRange_decCode e_decRange e_decCode u) = qx_lazy u ∧ qx_sourceLength (ux_decRange_decCode e_decRange e_decCode u) = qx_sourceLength u ∧ qx_codedLength (ux_decRange_decCode e_decRange e_decCode u) = qx_codedLength u ∧ qx_encLow (ux_decRange_decCode e_decRange e_decCode u) = qx_encLow u ∧ qx_encRange (ux_decRange_decCode e_decRange e_decCode u) = qx_encRange u ∧ qx_encCache (ux_decRange_decCode e_decRange e_decCode u) = qx_encCache u ∧ qx_encPending (ux_decRange_decCode e_decRange e_decCode u) = qx_encPending u ∧ qx_decSlot (ux_decRange_decCode e_decRange e_decCode u) = qx_decSlot u ∧ qx_decEnded (ux_decRange_decCode e_decRange e_decCode u) = qx_decEnded u ∧ qx_decAt (ux_decRange_decCode e_decRange e_decCode u) = qx_decAt u ∧ qx_decRange (ux_decRange_decCode e_decRange e_decCode u) = e_decRange ∧ qx_decCode (ux_decRange_decCode e_decRange e_decCode u) = e_decCode ∧ qx_model (ux_decRange_decCode e_decRange e_decCode u) = qx_model u ∧ qx_figures (ux_decRange_decCode e_decRange e_decCode u) = qx_figures u ∧ qx_reps (ux_decRange_decCode e_decRange e_decCode u) = qx_reps u ∧ qx_source (ux_decRange_decCode e_decRange e_decCode u) = qx_source u ∧ qx_coded (ux_decRange_decCode e_decRange e_decCode u) = qx_coded u ∧ qx_store (ux_decRange_decCode e_decRange e_decCode u) = qx_store u ∧ qx_storeLength (ux_decRange_decCode e_decRange e_decCode u) = qx_storeLength u ∧ qx_output (ux_decRange_decCode e_decRange e_decCode u) = qx_output u := ⟨rfl, rfl, rfl, rfl, rfl, rfl, rfl, rfl, rfl, rfl, rfl, rfl, rfl, rfl, rfl, rfl, rfl, rfl, rfl, rfl, rfl, rfl, rfl, rfl, rfl, rfl, rfl, rfl, rfl, rfl, rfl, rfl, rfl, rfl, rfl⟩
def ux_encCache_encPending (e_encCache : Int32) (e_encPending : Int32) (u : SX) : SX := (u.1, u.2.1, u.2.2.1, u.2.2.2.1, u.2.2.2.2.1, u.2.2.2.2.2.1, u.2.2.2.2.2.2.1, u.2.2.2.2.2.2.2.1, u.2.2.2.2.2.2.2.2.1, u.2.2.2.2.2.2.2.2.2.1, u.2.2.2.2.2.2.2.2.2.2.1, u.2.2.2.2.2.2.2.2.2.2.2.1, u.2.2.2.2.2.2.2.2.2.2.2.2.1, u.2.2.2.2.2.2.2.2.2.2.2.2.2.1, u.2.2.2.2.2.2.2.2.2.2.2.2.2.2.1, u.2.2.2.2.2.2.2.2.2.2.2.2.2.2.2.1, u.2.2.2.2.2.2.2.2.2.2.2.2.2.2.2.2.1, u.2.2.2.2.2.2.2.2.2.2.2.2.2.2.2.2.2.1, u.2.2.2.2.2.2.2.2.2.2.2.2.2.2.2.2.2.2.1, u.2.2.2.2.2.2.2.2.2.2.2.2.2.2.2.2.2.2.2.1, e_encCache, e_encPending, u.2.2.2.2.2.2.2.2.2.2.2.2.2.2.2.2.2.2.2.2.2.2.1, u.2.2.2.2.2.2.2.2.2.2.2.2.2.2.2.2.2.2.2.2.2.2.2.1, u.2.2.2.2.2.2.2.2.2.2.2.2.2.2.2.2.2.2.2.2.2.2.2.2.1, u.2.2.2.2.2.2.2.2.2.2.2.2.2.2.2.2.2.2.2.2.2.2.2.2.2.1, u.2.2.2.2.2.2.2.2.2.2.2.2.2.2.2.2.2.2.2.2.2.2.2.2.2.2.1, u.2.2.2.2.2.2.2.2.2.2.2.2.2.2.2.2.2.2.2.2.2.2.2.2.2.2.2.1, u.2.2.2.2.2.2.2.2.2.2.2.2.2.2.2.2.2.2.2.2.2.2.2.2.2.2.2.2.1, u.2.2.2.2.2.2.2.2.2.2.2.2.2.2.2.2.2.2.2.2.2.2.2.2.2.2.2.2.2.1, u.2.2.2.2.2.2.2.2.2.2.2.2.2.2.2.2.2.2.2.2.2.2.2.2.2.2.2.2.2.2.1, u.2.2.2.2.2.2.2.2.2.2.2.2.2.2.2.2.2.2.2.2.2.2.2.2.2.2.2.2.2.2.2.1, u.2.2.2.2.2.2.2.2.2.2.2.2.2.2.2.2.2.2.2.2.2.2.2.2.2.2.2.2.2.2.2.2.1, u.2.2.2.2.2.2.2.2.2.2.2.2.2.2.2.2.2.2.2.2.2.2.2.2.2.2.2.2.2.2.2.2.2.1, u.2.2.2.2.2.2.2.2.2.2.2.2.2.2.2.2.2.2.2.2.2.2.2.2.2.2.2.2.2.2.2.2.2.2)
theorem gx_encCache_encPending (e_encCache : Int32) (e_encPending : Int32) (u : SX) : qx_modelSize (ux_encCache_encPending e_encCache e_encPending u) = qx_modelSize u ∧ qx_literalBase (ux_encCache_encPending e_encCache e_encPending u) = qx_literalBase u ∧ qx_matchLengthBase (ux_encCache_encPending e_encCache e_encPending u) = qx_matchLengthBase u ∧ qx_repLengthBase (ux_encCache_encPending e_encCache e_encPending u) = qx_repLengthBase u ∧ qx_slotTreeBase (ux_encCache_encPending e_encCache e_encPending u) = qx_slotTreeBase u ∧ qx_reverseBase (ux_encCache_encPending e_encCache e_encPending u) = qx_reverseBase u ∧ qx_alignBase (ux_encCache_encPending e_encCache e_encPending u) = qx_alignBase u ∧ qx_figureCount (ux_encCache_encPending e_encCache e_encPending u) = qx_figureCount u ∧ qx_endValue (ux_encCache_encPending e_encCache e_encPending u) = qx_endValue u ∧ qx_storeSize (ux_encCache_encPending e_encCache e_encPending u) = qx_storeSize u ∧ qx_topRange (ux_encCache_encPending e_encCache e_encPending u) = qx_topRange u ∧ qx_fullRange (ux_encCache_encPending e_encCache e_encPending u) = qx_fullRange u ∧ qx_capacity (ux_encCache_encPending e_encCache e_encPending u) = qx_capacity u ∧ qx_slots (ux_encCache_encPending e_encCache e_encPending u) = qx_slots u ∧ qx_shift (ux_encCache_encPending e_encCache e_encPending u) = qx_shift u ∧ qx_lazy (ux_encCache_encPending e_encCache e_encPending u) = qx_lazy u ∧ qx_sourceLength (ux_encCache_encPending e_encCache e_encPending u) = qx_sourceLength u ∧ qx_codedLength (ux_encCache_encPending e_encCache e_encPending u) = qx_codedLength u ∧ qx_encLow (ux_encCache_encPending e_encCache e_encPending u) = qx_encLow u ∧ qx_encRange (ux_encCache_encPending e_encCache e_encPending u) = qx_encRange u ∧ qx_encCache (ux_encCache_encPending e_encCache e_encPending u) = e_encCache ∧ qx_encPending (ux_encCache_encPending e_encCache e_encPending u) = e_encPending ∧ qx_decSlot (ux_encCache_encPending e_encCache e_encPending u) = qx_decSlot u ∧ qx_decEnded (ux_encCache_encPending e_encCache e_encPending u) = qx_decEnded u ∧ qx_decAt (ux_encCache_encPending e_encCache e_encPending u) = qx_decAt u ∧ qx_decRange (ux_encCache_encPending e_encCache e_encPending u) = qx_decRange u ∧ qx_decCode (ux_encCache_encPending e_encCache e_encPending u) = qx_decCode u ∧ qx_model (ux_encCache_encPending e_encCache e_encPending u) = qx_model u ∧ qx_figures (ux_encCache_encPending e_encCache e_encPending u) = qx_figures u ∧ qx_reps (ux_encCache_encPending e_encCache e_encPending u) = qx_reps u ∧ qx_source (ux_encCache_encPending e_encCache e_encPending u) = qx_source u ∧ qx_coded (ux_encCache_encPending e_encCache e_encPending u) = qx_coded u ∧ qx_store (ux_encCache_encPending e_encCache e_encPending u) = qx_store u ∧ qx_storeLength (ux_encCache_encPending e_encCache e_encPending u) = qx_storeLength u ∧ qx_output (ux_encCache_encPending e_encCache e_encPending u) = qx_output u := ⟨rfl, rfl, rfl, rfl, rfl, rfl, rfl, rfl, rfl, rfl, rfl, rfl, rfl, rfl, rfl, rfl, rfl, rfl, rfl, rfl, rfl, rfl, rfl, rfl, rfl, rfl, rfl, rfl, rfl, rfl, rfl, rfl, rfl, rfl, rfl⟩
def ux_encLow_encPending (e_encLow : Int64) (e_encPending : Int32) (u : SX) : SX := (u.1, u.2.1, u.2.2.1, u.2.2.2.1, u.2.2.2.2.1, u.2.2.2.2.2.1, u.2.2.2.2.2.2.1, u.2.2.2.2.2.2.2.1, u.2.2.2.2.2.2.2.2.1, u.2.2.2.2.2.2.2.2.2.1, u.2.2.2.2.2.2.2.2.2.2.1, u.2.2.2.2.2.2.2.2.2.2.2.1, u.2.2.2.2.2.2.2.2.2.2.2.2.1, u.2.2.2.2.2.2.2.2.2.2.2.2.2.1, u.2.2.2.2.2.2.2.2.2.2.2.2.2.2.1, u.2.2.2.2.2.2.2.2.2.2.2.2.2.2.2.1, u.2.2.2.2.2.2.2.2.2.2.2.2.2.2.2.2.1, u.2.2.2.2.2.2.2.2.2.2.2.2.2.2.2.2.2.1, e_encLow, u.2.2.2.2.2.2.2.2.2.2.2.2.2.2.2.2.2.2.2.1, u.2.2.2.2.2.2.2.2.2.2.2.2.2.2.2.2.2.2.2.2.1, e_encPending, u.2.2.2.2.2.2.2.2.2.2.2.2.2.2.2.2.2.2.2.2.2.2.1, u.2.2.2.2.2.2.2.2.2.2.2.2.2.2.2.2.2.2.2.2.2.2.2.1, u.2.2.2.2.2.2.2.2.2.2.2.2.2.2.2.2.2.2.2.2.2.2.2.2.1, u.2.2.2.2.2.2.2.2.2.2.2.2.2.2.2.2.2.2.2.2.2.2.2.2.2.1, u.2.2.2.2.2.2.2.2.2.2.2.2.2.2.2.2.2.2.2.2.2.2.2.2.2.2.1, u.2.2.2.2.2.2.2.2.2.2.2.2.2.2.2.2.2.2.2.2.2.2.2.2.2.2.2.1, u.2.2.2.2.2.2.2.2.2.2.2.2.2.2.2.2.2.2.2.2.2.2.2.2.2.2.2.2.1, u.2.2.2.2.2.2.2.2.2.2.2.2.2.2.2.2.2.2.2.2.2.2.2.2.2.2.2.2.2.1, u.2.2.2.2.2.2.2.2.2.2.2.2.2.2.2.2.2.2.2.2.2.2.2.2.2.2.2.2.2.2.1, u.2.2.2.2.2.2.2.2.2.2.2.2.2.2.2.2.2.2.2.2.2.2.2.2.2.2.2.2.2.2.2.1, u.2.2.2.2.2.2.2.2.2.2.2.2.2.2.2.2.2.2.2.2.2.2.2.2.2.2.2.2.2.2.2.2.1, u.2.2.2.2.2.2.2.2.2.2.2.2.2.2.2.2.2.2.2.2.2.2.2.2.2.2.2.2.2.2.2.2.2.1, u.2.2.2.2.2.2.2.2.2.2.2.2.2.2.2.2.2.2.2.2.2.2.2.2.2.2.2.2.2.2.2.2.2.2)
theorem gx_encLow_encPending (e_encLow : Int64) (e_encPending : Int32) (u : SX) : qx_modelSize (ux_encLow_encPending e_encLow e_encPending u) = qx_modelSize u ∧ qx_literalBase (ux_encLow_encPending e_encLow e_encPending u) = qx_literalBase u ∧ qx_matchLengthBase (ux_encLow_encPending e_encLow e_encPending u) = qx_matchLengthBase u ∧ qx_repLengthBase (ux_encLow_encPending e_encLow e_encPending u) = qx_repLengthBase u ∧ qx_slotTreeBase (ux_encLow_encPending e_encLow e_encPending u) = qx_slotTreeBase u ∧ qx_reverseBase (ux_encLow_encPending e_encLow e_encPending u) = qx_reverseBase u ∧ qx_alignBase (ux_encLow_encPending e_encLow e_encPending u) = qx_alignBase u ∧ qx_figureCount (ux_encLow_encPending e_encLow e_encPending u) = qx_figureCount u ∧ qx_endValue (ux_encLow_encPending e_encLow e_encPending u) = qx_endValue u ∧ qx_storeSize (ux_encLow_encPending e_encLow e_encPending u) = qx_storeSize u ∧ qx_topRange (ux_encLow_encPending e_encLow e_encPending u) = qx_topRange u ∧ qx_fullRange (ux_encLow_encPending e_encLow e_encPending u) = qx_fullRange u ∧ qx_capacity (ux_encLow_encPending e_encLow e_encPending u) = qx_capacity u ∧ qx_slots (ux_encLow_encPending e_encLow e_encPending u) = qx_slots u ∧ qx_shift (ux_encLow_encPending e_encLow e_encPending u) = qx_shift u ∧ qx_lazy (ux_encLow_encPending e_encLow e_encPending u) = qx_lazy u ∧ qx_sourceLength (ux_encLow_encPending e_encLow e_encPending u) = qx_sourceLength u ∧ qx_codedLength (ux_encLow_encPending e_encLow e_encPending u) = qx_codedLength u ∧ qx_encLow (ux_encLow_encPending e_encLow e_encPending u) = e_encLow ∧ qx_encRange (ux_encLow_encPending e_encLow e_encPending u) = qx_encRange u ∧ qx_encCache (ux_encLow_encPending e_encLow e_encPending u) = qx_encCache u ∧ qx_encPending (ux_encLow_encPending e_encLow e_encPending u) = e_encPending ∧ qx_decSlot (ux_encLow_encPending e_encLow e_encPending u) = qx_decSlot u ∧ qx_decEnded (ux_encLow_encPending e_encLow e_encPending u) = qx_decEnded u ∧ qx_decAt (ux_encLow_encPending e_encLow e_encPending u) = qx_decAt u ∧ qx_decRange (ux_encLow_encPending e_encLow e_encPending u) = qx_decRange u ∧ qx_decCode (ux_encLow_encPending e_encLow e_encPending u) = qx_decCode u ∧ qx_model (ux_encLow_encPending e_encLow e_encPending u) = qx_model u ∧ qx_figures (ux_encLow_encPending e_encLow e_encPending u) = qx_figures u ∧ qx_reps (ux_encLow_encPending e_encLow e_encPending u) = qx_reps u ∧ qx_source (ux_encLow_encPending e_encLow e_encPending u) = qx_source u ∧ qx_coded (ux_encLow_encPending e_encLow e_encPending u) = qx_coded u ∧ qx_store (ux_encLow_encPending e_encLow e_encPending u) = qx_store u ∧ qx_storeLength (ux_encLow_encPending e_encLow e_encPending u) = qx_storeLength u ∧ qx_output (ux_encLow_encPending e_encLow e_encPending u) = qx_output u := ⟨rfl, rfl, rfl, rfl, rfl, rfl, rfl, rfl, rfl, rfl, rfl, rfl, rfl, rfl, rfl, rfl, rfl, rfl, rfl, rfl, rfl, rfl, rfl, rfl, rfl, rfl, rfl, rfl, rfl, rfl, rfl, rfl, rfl, rfl, rfl⟩
def ux_encLow_encRange (e_encLow : Int64) (e_encRange : Int64) (u : SX) : SX := (u.1, u.2.1, u.2.2.1, u.2.2.2.1, u.2.2.2.2.1, u.2.2.2.2.2.1, u.2.2.2.2.2.2.1, u.2.2.2.2.2.2.2.1, u.2.2.2.2.2.2.2.2.1, u.2.2.2.2.2.2.2.2.2.1, u.2.2.2.2.2.2.2.2.2.2.1, u.2.2.2.2.2.2.2.2.2.2.2.1, u.2.2.2.2.2.2.2.2.2.2.2.2.1, u.2.2.2.2.2.2.2.2.2.2.2.2.2.1, u.2.2.2.2.2.2.2.2.2.2.2.2.2.2.1, u.2.2.2.2.2.2.2.2.2.2.2.2.2.2.2.1, u.2.2.2.2.2.2.2.2.2.2.2.2.2.2.2.2.1, u.2.2.2.2.2.2.2.2.2.2.2.2.2.2.2.2.2.1, e_encLow, e_encRange, u.2.2.2.2.2.2.2.2.2.2.2.2.2.2.2.2.2.2.2.2.1, u.2.2.2.2.2.2.2.2.2.2.2.2.2.2.2.2.2.2.2.2.2.1, u.2.2.2.2.2.2.2.2.2.2.2.2.2.2.2.2.2.2.2.2.2.2.1, u.2.2.2.2.2.2.2.2.2.2.2.2.2.2.2.2.2.2.2.2.2.2.2.1, u.2.2.2.2.2.2.2.2.2.2.2.2.2.2.2.2.2.2.2.2.2.2.2.2.1, u.2.2.2.2.2.2.2.2.2.2.2.2.2.2.2.2.2.2.2.2.2.2.2.2.2.1, u.2.2.2.2.2.2.2.2.2.2.2.2.2.2.2.2.2.2.2.2.2.2.2.2.2.2.1, u.2.2.2.2.2.2.2.2.2.2.2.2.2.2.2.2.2.2.2.2.2.2.2.2.2.2.2.1, u.2.2.2.2.2.2.2.2.2.2.2.2.2.2.2.2.2.2.2.2.2.2.2.2.2.2.2.2.1, u.2.2.2.2.2.2.2.2.2.2.2.2.2.2.2.2.2.2.2.2.2.2.2.2.2.2.2.2.2.1, u.2.2.2.2.2.2.2.2.2.2.2.2.2.2.2.2.2.2.2.2.2.2.2.2.2.2.2.2.2.2.1, u.2.2.2.2.2.2.2.2.2.2.2.2.2.2.2.2.2.2.2.2.2.2.2.2.2.2.2.2.2.2.2.1, u.2.2.2.2.2.2.2.2.2.2.2.2.2.2.2.2.2.2.2.2.2.2.2.2.2.2.2.2.2.2.2.2.1, u.2.2.2.2.2.2.2.2.2.2.2.2.2.2.2.2.2.2.2.2.2.2.2.2.2.2.2.2.2.2.2.2.2.1, u.2.2.2.2.2.2.2.2.2.2.2.2.2.2.2.2.2.2.2.2.2.2.2.2.2.2.2.2.2.2.2.2.2.2)
theorem gx_encLow_encRange (e_encLow : Int64) (e_encRange : Int64) (u : SX) : qx_modelSize (ux_encLow_encRange e_encLow e_encRange u) = qx_modelSize u ∧ qx_literalBase (ux_encLow_encRange e_encLow e_encRange u) = qx_literalBase u ∧ qx_matchLengthBase (ux_encLow_encRange e_encLow e_encRange u) = qx_matchLengthBase u ∧ qx_repLengthBase (ux_encLow_encRange e_encLow e_encRange u) = qx_repLengthBase u ∧ qx_slotTreeBase (ux_encLow_encRange e_encLow e_encRange u) = qx_slotTreeBase u ∧ qx_reverseBase (ux_encLow_encRange e_encLow e_encRange u) = qx_reverseBase u ∧ qx_alignBase (ux_encLow_encRange e_encLow e_encRange u) = qx_alignBase u ∧ qx_figureCount (ux_encLow_encRange e_encLow e_encRange u) = qx_figureCount u ∧ qx_endValue (ux_encLow_encRange e_encLow e_encRange u) = qx_endValue u ∧ qx_storeSize (ux_encLow_encRange e_encLow e_encRange u) = qx_storeSize u ∧ qx_topRange (ux_encLow_encRange e_encLow e_encRange u) = qx_topRange u ∧ qx_fullRange (ux_encLow_encRange e_encLow e_encRange u) = qx_fullRange u ∧ qx_capacity (ux_encLow_encRange e_encLow e_encRange u) = qx_capacity u ∧ qx_slots (ux_encLow_encRange e_encLow e_encRange u) = qx_slots u ∧ qx_shift (ux_encLow_encRange e_encLow e_encRange u) = qx_shift u ∧ qx_lazy (ux_encLow_encRange e_encLow e_encRange u) = qx_lazy u ∧ qx_sourceLength (ux_encLow_encRange e_encLow e_encRange u) = qx_sourceLength u ∧ qx_codedLength (ux_encLow_encRange e_encLow e_encRange u) = qx_codedLength u ∧ qx_encLow (ux_encLow_encRange e_encLow e_encRange u) = e_encLow ∧ qx_encRange (ux_encLow_encRange e_encLow e_encRange u) = e_encRange ∧ qx_encCache (ux_encLow_encRange e_encLow e_encRange u) = qx_encCache u ∧ qx_encPending (ux_encLow_encRange e_encLow e_encRange u) = qx_encPending u ∧ qx_decSlot (ux_encLow_encRange e_encLow e_encRange u) = qx_decSlot u ∧ qx_decEnded (ux_encLow_encRange e_encLow e_encRange u) = qx_decEnded u ∧ qx_decAt (ux_encLow_encRange e_encLow e_encRange u) = qx_decAt u ∧ qx_decRange (ux_encLow_encRange e_encLow e_encRange u) = qx_decRange u ∧ qx_decCode (ux_encLow_encRange e_encLow e_encRange u) = qx_decCode u ∧ qx_model (ux_encLow_encRange e_encLow e_encRange u) = qx_model u ∧ qx_figures (ux_encLow_encRange e_encLow e_encRange u) = qx_figures u ∧ qx_reps (ux_encLow_encRange e_encLow e_encRange u) = qx_reps u ∧ qx_source (ux_encLow_encRange e_encLow e_encRange u) = qx_source u ∧ qx_coded (ux_encLow_encRange e_encLow e_encRange u) = qx_coded u ∧ qx_store (ux_encLow_encRange e_encLow e_encRange u) = qx_store u ∧ qx_storeLength (ux_encLow_encRange e_encLow e_encRange u) = qx_storeLength u ∧ qx_output (ux_encLow_encRange e_encLow e_encRange u) = qx_output u := ⟨rfl, rfl, rfl, rfl, rfl, rfl, rfl, rfl, rfl, rfl, rfl, rfl, rfl, rfl, rfl, rfl, rfl, rfl, rfl, rfl, rfl, rfl, rfl, rfl, rfl, rfl, rfl, rfl, rfl, rfl, rfl, rfl, rfl, rfl, rfl⟩
def ux_sourceLength_source (e_sourceLength : Int32) (e_source : Nat → Int32) (u : SX) : SX := (u.1, u.2.1, u.2.2.1, u.2.2.2.1, u.2.2.2.2.1, u.2.2.2.2.2.1, u.2.2.2.2.2.2.1, u.2.2.2.2.2.2.2.1, u.2.2.2.2.2.2.2.2.1, u.2.2.2.2.2.2.2.2.2.1, u.2.2.2.2.2.2.2.2.2.2.1, u.2.2.2.2.2.2.2.2.2.2.2.1, u.2.2.2.2.2.2.2.2.2.2.2.2.1, u.2.2.2.2.2.2.2.2.2.2.2.2.2.1, u.2.2.2.2.2.2.2.2.2.2.2.2.2.2.1, u.2.2.2.2.2.2.2.2.2.2.2.2.2.2.2.1, e_sourceLength, u.2.2.2.2.2.2.2.2.2.2.2.2.2.2.2.2.2.1, u.2.2.2.2.2.2.2.2.2.2.2.2.2.2.2.2.2.2.1, u.2.2.2.2.2.2.2.2.2.2.2.2.2.2.2.2.2.2.2.1, u.2.2.2.2.2.2.2.2.2.2.2.2.2.2.2.2.2.2.2.2.1, u.2.2.2.2.2.2.2.2.2.2.2.2.2.2.2.2.2.2.2.2.2.1, u.2.2.2.2.2.2.2.2.2.2.2.2.2.2.2.2.2.2.2.2.2.2.1, u.2.2.2.2.2.2.2.2.2.2.2.2.2.2.2.2.2.2.2.2.2.2.2.1, u.2.2.2.2.2.2.2.2.2.2.2.2.2.2.2.2.2.2.2.2.2.2.2.2.1, u.2.2.2.2.2.2.2.2.2.2.2.2.2.2.2.2.2.2.2.2.2.2.2.2.2.1, u.2.2.2.2.2.2.2.2.2.2.2.2.2.2.2.2.2.2.2.2.2.2.2.2.2.2.1, u.2.2.2.2.2.2.2.2.2.2.2.2.2.2.2.2.2.2.2.2.2.2.2.2.2.2.2.1, u.2.2.2.2.2.2.2.2.2.2.2.2.2.2.2.2.2.2.2.2.2.2.2.2.2.2.2.2.1, u.2.2.2.2.2.2.2.2.2.2.2.2.2.2.2.2.2.2.2.2.2.2.2.2.2.2.2.2.2.1, e_source, u.2.2.2.2.2.2.2.2.2.2.2.2.2.2.2.2.2.2.2.2.2.2.2.2.2.2.2.2.2.2.2.1, u.2.2.2.2.2.2.2.2.2.2.2.2.2.2.2.2.2.2.2.2.2.2.2.2.2.2.2.2.2.2.2.2.1, u.2.2.2.2.2.2.2.2.2.2.2.2.2.2.2.2.2.2.2.2.2.2.2.2.2.2.2.2.2.2.2.2.2.1, u.2.2.2.2.2.2.2.2.2.2.2.2.2.2.2.2.2.2.2.2.2.2.2.2.2.2.2.2.2.2.2.2.2.2)
theorem gx_sourceLength_source (e_sourceLength : Int32) (e_source : Nat → Int32) (u : SX) : qx_modelSize (ux_sourceLength_source e_sourceLength e_source u) = qx_modelSize u ∧ qx_literalBase (ux_sourceLength_source e_sourceLength e_source u) = qx_literalBase u ∧ qx_matchLengthBase (ux_sourceLength_source e_sourceLength e_source u) = qx_matchLengthBase u ∧ qx_repLengthBase (ux_sourceLength_source e_sourceLength e_source u) = qx_repLengthBase u ∧ qx_slotTreeBase (ux_sourceLength_source e_sourceLength e_source u) = qx_slotTreeBase u ∧ qx_reverseBase (ux_sourceLength_source e_sourceLength e_source u) = qx_reverseBase u ∧ qx_alignBase (ux_sourceLength_source e_sourceLength e_source u) = qx_alignBase u ∧ qx_figureCount (ux_sourceLength_source e_sourceLength e_source u) = qx_figureCount u ∧ qx_endValue (ux_sourceLength_source e_sourceLength e_source u) = qx_endValue u ∧ qx_storeSize (ux_sourceLength_source e_sourceLength e_source u) = qx_storeSize u ∧ qx_topRange (ux_sourceLength_source e_sourceLength e_source u) = qx_topRange u ∧ qx_fullRange (ux_sourceLength_source e_sourceLength e_source u) = qx_fullRange u ∧ qx_capacity (ux_sourceLength_source e_sourceLength e_source u) = qx_capacity u ∧ qx_slots (ux_sourceLength_source e_sourceLength e_source u) = qx_slots u ∧ qx_shift (ux_sourceLength_source e_sourceLength e_source u) = qx_shift u ∧ qx_lazy (ux_sourceLength_source e_sourceLength e_source u) = qx_lazy u ∧ qx_sourceLength (ux_sourceLength_source e_sourceLength e_source u) = e_sourceLength ∧ qx_codedLength (ux_sourceLength_source e_sourceLength e_source u) = qx_codedLength u ∧ qx_encLow (ux_sourceLength_source e_sourceLength e_source u) = qx_encLow u ∧ qx_encRange (ux_sourceLength_source e_sourceLength e_source u) = qx_encRange u ∧ qx_encCache (ux_sourceLength_source e_sourceLength e_source u) = qx_encCache u ∧ qx_encPending (ux_sourceLength_source e_sourceLength e_source u) = qx_encPending u ∧ qx_decSlot (ux_sourceLength_source e_sourceLength e_source u) = qx_decSlot u ∧ qx_decEnded (ux_sourceLength_source e_sourceLength e_source u) = qx_decEnded u ∧ qx_decAt (ux_sourceLength_source e_sourceLength e_source u) = qx_decAt u ∧ qx_decRange (ux_sourceLength_source e_sourceLength e_source u) = qx_decRange u ∧ qx_decCode (ux_sourceLength_source e_sourceLength e_source u) = qx_decCode u ∧ qx_model (ux_sourceLength_source e_sourceLength e_source u) = qx_model u ∧ qx_figures (ux_sourceLength_source e_sourceLength e_source u) = qx_figures u ∧ qx_reps (ux_sourceLength_source e_sourceLength e_source u) = qx_reps u ∧ qx_source (ux_sourceLength_source e_sourceLength e_source u) = e_source ∧ qx_coded (ux_sourceLength_source e_sourceLength e_source u) = qx_coded u ∧ qx_store (ux_sourceLength_source e_sourceLength e_source u) = qx_store u ∧ qx_storeLength (ux_sourceLength_source e_sourceLength e_source u) = qx_storeLength u ∧ qx_output (ux_sourceLength_source e_sourceLength e_source u) = qx_output u := ⟨rfl, rfl, rfl, rfl, rfl, rfl, rfl, rfl, rfl, rfl, rfl, rfl, rfl, rfl, rfl, rfl, rfl, rfl, rfl, rfl, rfl, rfl, rfl, rfl, rfl, rfl, rfl, rfl, rfl, rfl, rfl, rfl, rfl, rfl, rfl⟩
def ux_decSlot_decEnded_decAt_decRange_decCode (e_decSlot : Int32) (e_decEnded : Int32) (e_decAt : Int32) (e_decRange : Int64) (e_decCode : Int64) (u : SX) : SX := (u.1, u.2.1, u.2.2.1, u.2.2.2.1, u.2.2.2.2.1, u.2.2.2.2.2.1, u.2.2.2.2.2.2.1, u.2.2.2.2.2.2.2.1, u.2.2.2.2.2.2.2.2.1, u.2.2.2.2.2.2.2.2.2.1, u.2.2.2.2.2.2.2.2.2.2.1, u.2.2.2.2.2.2.2.2.2.2.2.1, u.2.2.2.2.2.2.2.2.2.2.2.2.1, u.2.2.2.2.2.2.2.2.2.2.2.2.2.1, u.2.2.2.2.2.2.2.2.2.2.2.2.2.2.1, u.2.2.2.2.2.2.2.2.2.2.2.2.2.2.2.1, u.2.2.2.2.2.2.2.2.2.2.2.2.2.2.2.2.1, u.2.2.2.2.2.2.2.2.2.2.2.2.2.2.2.2.2.1, u.2.2.2.2.2.2.2.2.2.2.2.2.2.2.2.2.2.2.1, u.2.2.2.2.2.2.2.2.2.2.2.2.2.2.2.2.2.2.2.1, u.2.2.2.2.2.2.2.2.2.2.2.2.2.2.2.2.2.2.2.2.1, u.2.2.2.2.2.2.2.2.2.2.2.2.2.2.2.2.2.2.2.2.2.1, e_decSlot, e_decEnded, e_decAt, e_decRange, e_decCode, u.2.2.2.2.2.2.2.2.2.2.2.2.2.2.2.2.2.2.2.2.2.2.2.2.2.2.2.1, u.2.2.2.2.2.2.2.2.2.2.2.2.2.2.2.2.2.2.2.2.2.2.2.2.2.2.2.2.1, u.2.2.2.2.2.2.2.2.2.2.2.2.2.2.2.2.2.2.2.2.2.2.2.2.2.2.2.2.2.1, u.2.2.2.2.2.2.2.2.2.2.2.2.2.2.2.2.2.2.2.2.2.2.2.2.2.2.2.2.2.2.1, u.2.2.2.2.2.2.2.2.2.2.2.2.2.2.2.2.2.2.2.2.2.2.2.2.2.2.2.2.2.2.2.1, u.2.2.2.2.2.2.2.2.2.2.2.2.2.2.2.2.2.2.2.2.2.2.2.2.2.2.2.2.2.2.2.2.1, u.2.2.2.2.2.2.2.2.2.2.2.2.2.2.2.2.2.2.2.2.2.2.2.2.2.2.2.2.2.2.2.2.2.1, u.2.2.2.2.2.2.2.2.2.2.2.2.2.2.2.2.2.2.2.2.2.2.2.2.2.2.2.2.2.2.2.2.2.2)
theorem gx_decSlot_decEnded_decAt_decRange_decCode (e_decSlot : Int32) (e_decEnded : Int32) (e_decAt : Int32) (e_decRange : Int64) (e_decCode : Int64) (u : SX) : qx_modelSize (ux_decSlot_decEnded_decAt_decRange_decCode e_decSlot e_decEnded e_decAt e_decRange e_decCode u) = qx_modelSize u ∧ qx_literalBase (ux_decSlot_decEnded_decAt_decRange_decCode e_decSlot e_decEnded e_decAt e_decRange e_decCode u) = qx_literalBase u ∧ qx_matchLengthBase (ux_decSlot_decEnded_decAt_decRange_decCode e_decSlot e_decEnded e_decAt e_decRange e_decCode u) = qx_matchLengthBase u ∧ qx_repLengthBase (ux_decSlot_decEnded_decAt_decRange_decCode e_decSlot e_decEnded e_decAt e_decRange e_decCode u) = qx_repLengthBase u ∧ qx_slotTreeBase (ux_decSlot_decEnded_decAt_decRange_decCode e_decSlot e_decEnded e_decAt e_decRange e_decCode u) = qx_slotTreeBase u ∧ qx_reverseBase (ux_decSlot_decEnded_decAt_decRange_decCode e_decSlot e_decEnded e_decAt e_decRange e_decCode u) = qx_reverseBase u ∧ qx_alignBase (ux_decSlot_decEnded_decAt_decRange_decCode e_decSlot e_decEnded e_decAt e_decRange e_decCode u) = qx_alignBase u ∧ qx_figureCount (ux_decSlot_decEnded_decAt_decRange_decCode e_decSlot e_decEnded e_decAt e_decRange e_decCode u) = qx_figureCount u ∧ qx_endValue (ux_decSlot_decEnded_decAt_decRange_decCode e_decSlot e_decEnded e_decAt e_decRange e_decCode u) = qx_endValue u ∧ qx_storeSize (ux_decSlot_decEnded_decAt_decRange_decCode e_decSlot e_decEnded e_decAt e_decRange e_decCode u) = qx_storeSize u ∧ qx_topRange (ux_decSlot_decEnded_decAt_decRange_decCode e_decSlot e_decEnded e_decAt e_decRange e_decCode u) = qx_topRange u ∧ qx_fullRange (ux_decSlot_decEnded_decAt_decRange_decCode e_decSlot e_decEnded e_decAt e_decRange e_decCode u) = qx_fullRange u ∧ qx_capacity (ux_decSlot_decEnded_decAt_decRange_decCode e_decSlot e_decEnded e_decAt e_decRange e_decCode u) = qx_capacity u ∧ qx_slots (ux_decSlot_decEnded_decAt_decRange_decCode e_decSlot e_decEnded e_decAt e_decRange e_decCode u) = qx_slots u ∧ qx_shift (ux_decSlot_decEnded_decAt_decRange_decCode e_decSlot e_decEnded e_decAt e_decRange e_decCode u) = qx_shift u ∧ qx_lazy (ux_decSlot_decEnded_decAt_decRange_decCode e_decSlot e_decEnded e_decAt e_decRange e_decCode u) = qx_lazy u ∧ qx_sourceLength (ux_decSlot_decEnded_decAt_decRange_decCode e_decSlot e_decEnded e_decAt e_decRange e_decCode u) = qx_sourceLength u ∧ qx_codedLength (ux_decSlot_decEnded_decAt_decRange_decCode e_decSlot e_decEnded e_decAt e_decRange e_decCode u) = qx_codedLength u ∧ qx_encLow (ux_decSlot_decEnded_decAt_decRange_decCode e_decSlot e_decEnded e_decAt e_decRange e_decCode u) = qx_encLow u ∧ qx_encRange (ux_decSlot_decEnded_decAt_decRange_decCode e_decSlot e_decEnded e_decAt e_decRange e_decCode u) = qx_encRange u ∧ qx_encCache (ux_decSlot_decEnded_decAt_decRange_decCode e_decSlot e_decEnded e_decAt e_decRange e_decCode u) = qx_encCache u ∧ qx_encPending (ux_decSlot_decEnded_decAt_decRange_decCode e_decSlot e_decEnded e_decAt e_decRange e_decCode u) = qx_encPending u ∧ qx_decSlot (ux_decSlot_decEnded_decAt_decRange_decCode e_decSlot e_decEnded e_decAt e_decRange e_decCode u) = e_decSlot ∧ qx_decEnded (ux_decSlot_decEnded_decAt_decRange_decCode e_decSlot e_decEnded e_decAt e_decRange e_decCode u) = e_decEnded ∧ qx_decAt (ux_decSlot_decEnded_decAt_decRange_decCode e_decSlot e_decEnded e_decAt e_decRange e_decCode u) = e_decAt ∧ qx_decRange (ux_decSlot_decEnded_decAt_decRange_decCode e_decSlot e_decEnded e_decAt e_decRange e_decCode u) = e_decRange ∧ qx_decCode (ux_decSlot_decEnded_decAt_decRange_decCode e_decSlot e_decEnded e_decAt e_decRange e_decCode u) = e_decCode ∧ qx_model (ux_decSlot_decEnded_decAt_decRange_decCode e_decSlot e_decEnded e_decAt e_decRange e_decCode u) = qx_model u ∧ qx_figures (ux_decSlot_decEnded_decAt_decRange_decCode e_decSlot e_decEnded e_decAt e_decRange e_decCode u) = qx_figures u ∧ qx_reps (ux_decSlot_decEnded_decAt_decRange_decCode e_decSlot e_decEnded e_decAt e_decRange e_decCode u) = qx_reps u ∧ qx_source (ux_decSlot_decEnded_decAt_decRange_decCode e_decSlot e_decEnded e_decAt e_decRange e_decCode u) = qx_source u ∧ qx_coded (ux_decSlot_decEnded_decAt_decRange_decCode e_decSlot e_decEnded e_decAt e_decRange e_decCode u) = qx_coded u ∧ qx_store (ux_decSlot_decEnded_decAt_decRange_decCode e_decSlot e_decEnded e_decAt e_decRange e_decCode u) = qx_store u ∧ qx_storeLength (ux_decSlot_decEnded_decAt_decRange_decCode e_decSlot e_decEnded e_decAt e_decRange e_decCode u) = qx_storeLength u ∧ qx_output (ux_decSlot_decEnded_decAt_decRange_decCode e_decSlot e_decEnded e_decAt e_decRange e_decCode u) = qx_output u := ⟨rfl, rfl, rfl, rfl, rfl, rfl, rfl, rfl, rfl, rfl, rfl, rfl, rfl, rfl, rfl, rfl, rfl, rfl, rfl, rfl, rfl, rfl, rfl, rfl, rfl, rfl, rfl, rfl, rfl, rfl, rfl, rfl, rfl, rfl, rfl⟩
def ux_sourceLength_codedLength_encLow_encRange_encCache_encPending (e_sourceLength : Int32) (e_codedLength : Int32) (e_encLow : Int64) (e_encRange : Int64) (e_encCache : Int32) (e_encPending : Int32) (u : SX) : SX := (u.1, u.2.1, u.2.2.1, u.2.2.2.1, u.2.2.2.2.1, u.2.2.2.2.2.1, u.2.2.2.2.2.2.1, u.2.2.2.2.2.2.2.1, u.2.2.2.2.2.2.2.2.1, u.2.2.2.2.2.2.2.2.2.1, u.2.2.2.2.2.2.2.2.2.2.1, u.2.2.2.2.2.2.2.2.2.2.2.1, u.2.2.2.2.2.2.2.2.2.2.2.2.1, u.2.2.2.2.2.2.2.2.2.2.2.2.2.1, u.2.2.2.2.2.2.2.2.2.2.2.2.2.2.1, u.2.2.2.2.2.2.2.2.2.2.2.2.2.2.2.1, e_sourceLength, e_codedLength, e_encLow, e_encRange, e_encCache, e_encPending, u.2.2.2.2.2.2.2.2.2.2.2.2.2.2.2.2.2.2.2.2.2.2.1, u.2.2.2.2.2.2.2.2.2.2.2.2.2.2.2.2.2.2.2.2.2.2.2.1, u.2.2.2.2.2.2.2.2.2.2.2.2.2.2.2.2.2.2.2.2.2.2.2.2.1, u.2.2.2.2.2.2.2.2.2.2.2.2.2.2.2.2.2.2.2.2.2.2.2.2.2.1, u.2.2.2.2.2.2.2.2.2.2.2.2.2.2.2.2.2.2.2.2.2.2.2.2.2.2.1, u.2.2.2.2.2.2.2.2.2.2.2.2.2.2.2.2.2.2.2.2.2.2.2.2.2.2.2.1, u.2.2.2.2.2.2.2.2.2.2.2.2.2.2.2.2.2.2.2.2.2.2.2.2.2.2.2.2.1, u.2.2.2.2.2.2.2.2.2.2.2.2.2.2.2.2.2.2.2.2.2.2.2.2.2.2.2.2.2.1, u.2.2.2.2.2.2.2.2.2.2.2.2.2.2.2.2.2.2.2.2.2.2.2.2.2.2.2.2.2.2.1, u.2.2.2.2.2.2.2.2.2.2.2.2.2.2.2.2.2.2.2.2.2.2.2.2.2.2.2.2.2.2.2.1, u.2.2.2.2.2.2.2.2.2.2.2.2.2.2.2.2.2.2.2.2.2.2.2.2.2.2.2.2.2.2.2.2.1, u.2.2.2.2.2.2.2.2.2.2.2.2.2.2.2.2.2.2.2.2.2.2.2.2.2.2.2.2.2.2.2.2.2.1, u.2.2.2.2.2.2.2.2.2.2.2.2.2.2.2.2.2.2.2.2.2.2.2.2.2.2.2.2.2.2.2.2.2.2)
theorem gx_sourceLength_codedLength_encLow_encRange_encCache_encPending (e_sourceLength : Int32) (e_codedLength : Int32) (e_encLow : Int64) (e_encRange : Int64) (e_encCache : Int32) (e_encPending : Int32) (u : SX) : qx_modelSize (ux_sourceLength_codedLength_encLow_encRange_encCache_encPending e_sourceLength e_codedLength e_encLow e_encRange e_encCache e_encPending u) = qx_modelSize u ∧ qx_literalBase (ux_sourceLength_codedLength_encLow_encRange_encCache_encPending e_sourceLength e_codedLength e_encLow e_encRange e_encCache e_encPending u) = qx_literalBase u ∧ qx_matchLengthBase (ux_sourceLength_codedLength_encLow_encRange_encCache_encPending e_sourceLength e_codedLength e_encLow e_encRange e_encCache e_encPending u) = qx_matchLengthBase u ∧ qx_repLengthBase (ux_sourceLength_codedLength_encLow_encRange_encCache_encPending e_sourceLength e_codedLength e_encLow e_encRange e_encCache e_encPending u) = qx_repLengthBase u ∧ qx_slotTreeBase (ux_sourceLength_codedLength_encLow_encRange_encCache_encPending e_sourceLength e_codedLength e_encLow e_encRange e_encCache e_encPending u) = qx_slotTreeBase u ∧ qx_reverseBase (ux_sourceLength_codedLength_encLow_encRange_encCache_encPending e_sourceLength e_codedLength e_encLow e_encRange e_encCache e_encPending u) = qx_reverseBase u ∧ qx_alignBase (ux_sourceLength_codedLength_encLow_encRange_encCache_encPending e_sourceLength e_codedLength e_encLow e_encRange e_encCache e_encPending u) = qx_alignBase u ∧ qx_figureCount (ux_sourceLength_codedLength_encLow_encRange_encCache_encPending e_sourceLength e_codedLength e_encLow e_encRange e_encCache e_encPending u) = qx_figureCount u ∧ qx_endValue (ux_sourceLength_codedLength_encLow_encRange_encCache_encPending e_sourceLength e_codedLength e_encLow e_encRange e_encCache e_encPending u) = qx_endValue u ∧ qx_storeSize (ux_sourceLength_codedLength_encLow_encRange_encCache_encPending e_sourceLength e_codedLength e_encLow e_encRange e_encCache e_encPending u) = qx_storeSize u ∧ qx_topRange (ux_sourceLength_codedLength_encLow_encRange_encCache_encPending e_sourceLength e_codedLength e_encLow e_encRange e_encCache e_encPending u) = qx_topRange u ∧ qx_fullRange (ux_sourceLength_codedLength_encLow_encRange_encCache_encPending e_sourceLength e_codedLength e_encLow e_encRange e_encCache e_encPending u) = qx_fullRange u ∧ qx_capacity (ux_sourceLength_codedLength_encLow_encRange_encCache_encPending e_sourceLength e_codedLength e_encLow e_encRange e_encCache e_encPending u) = qx_capacity u ∧ qx_slots (ux_sourceLength_codedLength_encLow_encRange_encCache_encPending e_sourceLength e_codedLength e_encLow e_encRange e_encCache e_encPending u) = qx_slots u ∧ qx_shift (ux_sourceLength_codedLength_encLow_encRange_encCache_encPending e_sourceLength e_codedLength e_encLow e_encRange e_encCache e_encPending u) = qx_shift u ∧ qx_lazy (ux_sourceLength_codedLength_encLow_encRange_encCache_encPending e_sourceLength e_codedLength e_encLow e_encRange e_encCache e_encPending u) = qx_lazy u ∧ qx_sourceLength (ux_sourceLength_codedLength_encLow_encRange_encCache_encPending e_sourceLength e_codedLength e_encLow e_encRange e_encCache e_encPending u) = e_sourceLength ∧ qx_codedLength (ux_sourceLength_codedLength_encLow_encRange_encCache_encPending e_sourceLength e_codedLength e_encLow e_encRange e_encCache e_encPending u) = e_codedLength ∧ qx_encLow (ux_sourceLength_codedLength_encLow_encRange_encCache_encPending e_sourceLength e_codedLength e_encLow e_encRange e_encCache e_encPending u) = e_encLow ∧ qx_encRange (ux_sourceLength_codedLength_encLow_encRange_encCache_encPending e_sourceLength e_codedLength e_encLow e_encRange e_encCache e_encPending u) = e_encRange ∧ qx_encCache (ux_sourceLength_codedLength_encLow_encRange_encCache_encPending e_sourceLength e_codedLength e_encLow e_encRange e_encCache e_encPending u) = e_encCache ∧ qx_encPending (ux_sourceLength_codedLength_encLow_encRange_encCache_encPending e_sourceLength e_codedLength e_encLow e_encRange e_encCache e_encPending u) = e_encPending ∧ qx_decSlot (ux_sourceLength_codedLength_encLow_encRange_encCache_encPending e_sourceLength e_codedLength e_encLow e_encRange e_encCache e_encPending u) = qx_decSlot u ∧ qx_decEnded (ux_sourceLength_codedLength_encLow_encRange_encCache_encPending e_sourceLength e_codedLength e_encLow e_encRange e_encCache e_encPending u) = qx_decEnded u ∧ qx_decAt (ux_sourceLength_codedLength_encLow_encRange_encCache_encPending e_sourceLength e_codedLength e_encLow e_encRange e_encCache e_encPending u) = qx_decAt u ∧ qx_decRange (ux_sourceLength_codedLength_encLow_encRange_encCache_encPending e_sourceLength e_codedLength e_encLow e_encRange e_encCache e_encPending u) = qx_decRange u ∧ qx_decCode (ux_sourceLength_codedLength_encLow_encRange_encCache_encPending e_sourceLength e_codedLength e_encLow e_encRange e_encCache e_encPending u) = qx_decCode u ∧ qx_model (ux_sourceLength_codedLength_encLow_encRange_encCache_encPending e_sourceLength e_codedLength e_encLow e_encRange e_encCache e_encPending u) = qx_model u ∧ qx_figures (ux_sourceLength_codedLength_encLow_encRange_encCache_encPending e_sourceLength e_codedLength e_encLow e_encRange e_encCache e_encPending u) = qx_figures u ∧ qx_reps (ux_sourceLength_codedLength_encLow_encRange_encCache_encPending e_sourceLength e_codedLength e_encLow e_encRange e_encCache e_encPending u) = qx_reps u ∧ qx_source (ux_sourceLength_codedLength_encLow_encRange_encCache_encPending e_sourceLength e_codedLength e_encLow e_encRange e_encCache e_encPending u) = qx_source u ∧ qx_coded (ux_sourceLength_codedLength_encLow_encRange_encCache_encPending e_sourceLength e_codedLength e_encLow e_encRange e_encCache e_encPending u) = qx_coded u ∧ qx_store (ux_sourceLength_codedLength_encLow_encRange_encCache_encPending e_sourceLength e_codedLength e_encLow e_encRange e_encCache e_encPending u) = qx_store u ∧ qx_storeLength (ux_sourceLength_codedLength_encLow_encRange_encCache_encPending e_sourceLength e_codedLength e_encLow e_encRange e_encCache e_encPending u) = qx_storeLength u ∧ qx_output (ux_sourceLength_codedLength_encLow_encRange_encCache_encPending e_sourceLength e_codedLength e_encLow e_encRange e_encCache e_encPending u) = qx_output u := ⟨rfl, rfl, rfl, rfl, rfl, rfl, rfl, rfl, rfl, rfl, rfl, rfl, rfl, rfl, rfl, rfl, rfl, rfl, rfl, rfl, rfl, rfl, rfl, rfl, rfl, rfl, rfl, rfl, rfl, rfl, rfl, rfl, rfl, rfl, rfl⟩
def qy_cap (u : SY) : Int32 := u.1
def qy_slots (u : SY) : Int32 := u.2.1
def qy_shift (u : SY) : Int32 := u.2.2.1
def qy_lazy (u : SY) : Int32 := u.2.2.2.1
def qy_n (u : SY) : Int32 := u.2.2.2.2.1
def qy_openSlot (u : SY) : Int32 := u.2.2.2.2.2.1
def qy_taken (u : SY) : Int32 := u.2.2.2.2.2.2.1
def qy_ended (u : SY) : Int32 := u.2.2.2.2.2.2.2.1
def qy_pos (u : SY) : Int32 := u.2.2.2.2.2.2.2.2.1
def qy_count (u : SY) : Int32 := u.2.2.2.2.2.2.2.2.2.1
def qy_state (u : SY) : Int32 := u.2.2.2.2.2.2.2.2.2.2.1
def qy_lastKind (u : SY) : Int32 := u.2.2.2.2.2.2.2.2.2.2.2.1
def qy_lastLength (u : SY) : Int32 := u.2.2.2.2.2.2.2.2.2.2.2.2.1
def qy_lastDistance (u : SY) : Int32 := u.2.2.2.2.2.2.2.2.2.2.2.2.2.1
def qy_source (u : SY) : Nat → Int32 := u.2.2.2.2.2.2.2.2.2.2.2.2.2.2.1
def qy_tokens (u : SY) : Nat → Int32 := u.2.2.2.2.2.2.2.2.2.2.2.2.2.2.2.1
def qy_tokenKind (u : SY) : Nat → Int32 := u.2.2.2.2.2.2.2.2.2.2.2.2.2.2.2.2.1
def qy_tokenLength (u : SY) : Nat → Int32 := u.2.2.2.2.2.2.2.2.2.2.2.2.2.2.2.2.2.1
def qy_tokenDistance (u : SY) : Nat → Int32 := u.2.2.2.2.2.2.2.2.2.2.2.2.2.2.2.2.2.2.1
def qy_tokenByte (u : SY) : Nat → Int32 := u.2.2.2.2.2.2.2.2.2.2.2.2.2.2.2.2.2.2.2.1
def qy_holds (u : SY) : Nat → Int32 := u.2.2.2.2.2.2.2.2.2.2.2.2.2.2.2.2.2.2.2.2.1
def qy_out (u : SY) : Nat → Int32 := u.2.2.2.2.2.2.2.2.2.2.2.2.2.2.2.2.2.2.2.2.2.1
def qy_r (u : SY) : Nat → Int32 := u.2.2.2.2.2.2.2.2.2.2.2.2.2.2.2.2.2.2.2.2.2.2.1
def qy_flags (u : SY) : Nat → Int32 := u.2.2.2.2.2.2.2.2.2.2.2.2.2.2.2.2.2.2.2.2.2.2.2.1
def qy_literals (u : SY) : Nat → Int32 := u.2.2.2.2.2.2.2.2.2.2.2.2.2.2.2.2.2.2.2.2.2.2.2.2
def uy_ended (e_ended : Int32) (u : SY) : SY := (u.1, u.2.1, u.2.2.1, u.2.2.2.1, u.2.2.2.2.1, u.2.2.2.2.2.1, u.2.2.2.2.2.2.1, e_ended, u.2.2.2.2.2.2.2.2.1, u.2.2.2.2.2.2.2.2.2.1, u.2.2.2.2.2.2.2.2.2.2.1, u.2.2.2.2.2.2.2.2.2.2.2.1, u.2.2.2.2.2.2.2.2.2.2.2.2.1, u.2.2.2.2.2.2.2.2.2.2.2.2.2.1, u.2.2.2.2.2.2.2.2.2.2.2.2.2.2.1, u.2.2.2.2.2.2.2.2.2.2.2.2.2.2.2.1, u.2.2.2.2.2.2.2.2.2.2.2.2.2.2.2.2.1, u.2.2.2.2.2.2.2.2.2.2.2.2.2.2.2.2.2.1, u.2.2.2.2.2.2.2.2.2.2.2.2.2.2.2.2.2.2.1, u.2.2.2.2.2.2.2.2.2.2.2.2.2.2.2.2.2.2.2.1, u.2.2.2.2.2.2.2.2.2.2.2.2.2.2.2.2.2.2.2.2.1, u.2.2.2.2.2.2.2.2.2.2.2.2.2.2.2.2.2.2.2.2.2.1, u.2.2.2.2.2.2.2.2.2.2.2.2.2.2.2.2.2.2.2.2.2.2.1, u.2.2.2.2.2.2.2.2.2.2.2.2.2.2.2.2.2.2.2.2.2.2.2.1, u.2.2.2.2.2.2.2.2.2.2.2.2.2.2.2.2.2.2.2.2.2.2.2.2)
theorem gy_ended (e_ended : Int32) (u : SY) : qy_cap (uy_ended e_ended u) = qy_cap u ∧ qy_slots (uy_ended e_ended u) = qy_slots u ∧ qy_shift (uy_ended e_ended u) = qy_shift u ∧ qy_lazy (uy_ended e_ended u) = qy_lazy u ∧ qy_n (uy_ended e_ended u) = qy_n u ∧ qy_openSlot (uy_ended e_ended u) = qy_openSlot u ∧ qy_taken (uy_ended e_ended u) = qy_taken u ∧ qy_ended (uy_ended e_ended u) = e_ended ∧ qy_pos (uy_ended e_ended u) = qy_pos u ∧ qy_count (uy_ended e_ended u) = qy_count u ∧ qy_state (uy_ended e_ended u) = qy_state u ∧ qy_lastKind (uy_ended e_ended u) = qy_lastKind u ∧ qy_lastLength (uy_ended e_ended u) = qy_lastLength u ∧ qy_lastDistance (uy_ended e_ended u) = qy_lastDistance u ∧ qy_source (uy_ended e_ended u) = qy_source u ∧ qy_tokens (uy_ended e_ended u) = qy_tokens u ∧ qy_tokenKind (uy_ended e_ended u) = qy_tokenKind u ∧ qy_tokenLength (uy_ended e_ended u) = qy_tokenLength u ∧ qy_tokenDistance (uy_ended e_ended u) = qy_tokenDistance u ∧ qy_tokenByte (uy_ended e_ended u) = qy_tokenByte u ∧ qy_holds (uy_ended e_ended u) = qy_holds u ∧ qy_out (uy_ended e_ended u) = qy_out u ∧ qy_r (uy_ended e_ended u) = qy_r u ∧ qy_flags (uy_ended e_ended u) = qy_flags u ∧ qy_literals (uy_ended e_ended u) = qy_literals u := ⟨rfl, rfl, rfl, rfl, rfl, rfl, rfl, rfl, rfl, rfl, rfl, rfl, rfl, rfl, rfl, rfl, rfl, rfl, rfl, rfl, rfl, rfl, rfl, rfl, rfl⟩
def uy_flags (e_flags : Nat → Int32) (u : SY) : SY := (u.1, u.2.1, u.2.2.1, u.2.2.2.1, u.2.2.2.2.1, u.2.2.2.2.2.1, u.2.2.2.2.2.2.1, u.2.2.2.2.2.2.2.1, u.2.2.2.2.2.2.2.2.1, u.2.2.2.2.2.2.2.2.2.1, u.2.2.2.2.2.2.2.2.2.2.1, u.2.2.2.2.2.2.2.2.2.2.2.1, u.2.2.2.2.2.2.2.2.2.2.2.2.1, u.2.2.2.2.2.2.2.2.2.2.2.2.2.1, u.2.2.2.2.2.2.2.2.2.2.2.2.2.2.1, u.2.2.2.2.2.2.2.2.2.2.2.2.2.2.2.1, u.2.2.2.2.2.2.2.2.2.2.2.2.2.2.2.2.1, u.2.2.2.2.2.2.2.2.2.2.2.2.2.2.2.2.2.1, u.2.2.2.2.2.2.2.2.2.2.2.2.2.2.2.2.2.2.1, u.2.2.2.2.2.2.2.2.2.2.2.2.2.2.2.2.2.2.2.1, u.2.2.2.2.2.2.2.2.2.2.2.2.2.2.2.2.2.2.2.2.1, u.2.2.2.2.2.2.2.2.2.2.2.2.2.2.2.2.2.2.2.2.2.1, u.2.2.2.2.2.2.2.2.2.2.2.2.2.2.2.2.2.2.2.2.2.2.1, e_flags, u.2.2.2.2.2.2.2.2.2.2.2.2.2.2.2.2.2.2.2.2.2.2.2.2)
theorem gy_flags (e_flags : Nat → Int32) (u : SY) : qy_cap (uy_flags e_flags u) = qy_cap u ∧ qy_slots (uy_flags e_flags u) = qy_slots u ∧ qy_shift (uy_flags e_flags u) = qy_shift u ∧ qy_lazy (uy_flags e_flags u) = qy_lazy u ∧ qy_n (uy_flags e_flags u) = qy_n u ∧ qy_openSlot (uy_flags e_flags u) = qy_openSlot u ∧ qy_taken (uy_flags e_flags u) = qy_taken u ∧ qy_ended (uy_flags e_flags u) = qy_ended u ∧ qy_pos (uy_flags e_flags u) = qy_pos u ∧ qy_count (uy_flags e_flags u) = qy_count u ∧ qy_state (uy_flags e_flags u) = qy_state u ∧ qy_lastKind (uy_flags e_flags u) = qy_lastKind u ∧ qy_lastLength (uy_flags e_flags u) = qy_lastLength u ∧ qy_lastDistance (uy_flags e_flags u) = qy_lastDistance u ∧ qy_source (uy_flags e_flags u) = qy_source u ∧ qy_tokens (uy_flags e_flags u) = qy_tokens u ∧ qy_tokenKind (uy_flags e_flags u) = qy_tokenKind u ∧ qy_tokenLength (uy_flags e_flags u) = qy_tokenLength u ∧ qy_tokenDistance (uy_flags e_flags u) = qy_tokenDistance u ∧ qy_tokenByte (uy_flags e_flags u) = qy_tokenByte u ∧ qy_holds (uy_flags e_flags u) = qy_holds u ∧ qy_out (uy_flags e_flags u) = qy_out u ∧ qy_r (uy_flags e_flags u) = qy_r u ∧ qy_flags (uy_flags e_flags u) = e_flags ∧ qy_literals (uy_flags e_flags u) = qy_literals u := ⟨rfl, rfl, rfl, rfl, rfl, rfl, rfl, rfl, rfl, rfl, rfl, rfl, rfl, rfl, rfl, rfl, rfl, rfl, rfl, rfl, rfl, rfl, rfl, rfl, rfl⟩
theorem sy_flags (e_flags : Nat → Int32) (d_flags : Nat → Int32) (u : SY) : uy_flags e_flags (uy_flags d_flags u) = uy_flags e_flags u := rfl
def uy_literals (e_literals : Nat → Int32) (u : SY) : SY := (u.1, u.2.1, u.2.2.1, u.2.2.2.1, u.2.2.2.2.1, u.2.2.2.2.2.1, u.2.2.2.2.2.2.1, u.2.2.2.2.2.2.2.1, u.2.2.2.2.2.2.2.2.1, u.2.2.2.2.2.2.2.2.2.1, u.2.2.2.2.2.2.2.2.2.2.1, u.2.2.2.2.2.2.2.2.2.2.2.1, u.2.2.2.2.2.2.2.2.2.2.2.2.1, u.2.2.2.2.2.2.2.2.2.2.2.2.2.1, u.2.2.2.2.2.2.2.2.2.2.2.2.2.2.1, u.2.2.2.2.2.2.2.2.2.2.2.2.2.2.2.1, u.2.2.2.2.2.2.2.2.2.2.2.2.2.2.2.2.1, u.2.2.2.2.2.2.2.2.2.2.2.2.2.2.2.2.2.1, u.2.2.2.2.2.2.2.2.2.2.2.2.2.2.2.2.2.2.1, u.2.2.2.2.2.2.2.2.2.2.2.2.2.2.2.2.2.2.2.1, u.2.2.2.2.2.2.2.2.2.2.2.2.2.2.2.2.2.2.2.2.1, u.2.2.2.2.2.2.2.2.2.2.2.2.2.2.2.2.2.2.2.2.2.1, u.2.2.2.2.2.2.2.2.2.2.2.2.2.2.2.2.2.2.2.2.2.2.1, u.2.2.2.2.2.2.2.2.2.2.2.2.2.2.2.2.2.2.2.2.2.2.2.1, e_literals)
theorem gy_literals (e_literals : Nat → Int32) (u : SY) : qy_cap (uy_literals e_literals u) = qy_cap u ∧ qy_slots (uy_literals e_literals u) = qy_slots u ∧ qy_shift (uy_literals e_literals u) = qy_shift u ∧ qy_lazy (uy_literals e_literals u) = qy_lazy u ∧ qy_n (uy_literals e_literals u) = qy_n u ∧ qy_openSlot (uy_literals e_literals u) = qy_openSlot u ∧ qy_taken (uy_literals e_literals u) = qy_taken u ∧ qy_ended (uy_literals e_literals u) = qy_ended u ∧ qy_pos (uy_literals e_literals u) = qy_pos u ∧ qy_count (uy_literals e_literals u) = qy_count u ∧ qy_state (uy_literals e_literals u) = qy_state u ∧ qy_lastKind (uy_literals e_literals u) = qy_lastKind u ∧ qy_lastLength (uy_literals e_literals u) = qy_lastLength u ∧ qy_lastDistance (uy_literals e_literals u) = qy_lastDistance u ∧ qy_source (uy_literals e_literals u) = qy_source u ∧ qy_tokens (uy_literals e_literals u) = qy_tokens u ∧ qy_tokenKind (uy_literals e_literals u) = qy_tokenKind u ∧ qy_tokenLength (uy_literals e_literals u) = qy_tokenLength u ∧ qy_tokenDistance (uy_literals e_literals u) = qy_tokenDistance u ∧ qy_tokenByte (uy_literals e_literals u) = qy_tokenByte u ∧ qy_holds (uy_literals e_literals u) = qy_holds u ∧ qy_out (uy_literals e_literals u) = qy_out u ∧ qy_r (uy_literals e_literals u) = qy_r u ∧ qy_flags (uy_literals e_literals u) = qy_flags u ∧ qy_literals (uy_literals e_literals u) = e_literals := ⟨rfl, rfl, rfl, rfl, rfl, rfl, rfl, rfl, rfl, rfl, rfl, rfl, rfl, rfl, rfl, rfl, rfl, rfl, rfl, rfl, rfl, rfl, rfl, rfl, rfl⟩
theorem sy_literals (e_literals : Nat → Int32) (d_literals : Nat → Int32) (u : SY) : uy_literals e_literals (uy_literals d_literals u) = uy_literals e_literals u := rfl
def uy_r (e_r : Nat → Int32) (u : SY) : SY := (u.1, u.2.1, u.2.2.1, u.2.2.2.1, u.2.2.2.2.1, u.2.2.2.2.2.1, u.2.2.2.2.2.2.1, u.2.2.2.2.2.2.2.1, u.2.2.2.2.2.2.2.2.1, u.2.2.2.2.2.2.2.2.2.1, u.2.2.2.2.2.2.2.2.2.2.1, u.2.2.2.2.2.2.2.2.2.2.2.1, u.2.2.2.2.2.2.2.2.2.2.2.2.1, u.2.2.2.2.2.2.2.2.2.2.2.2.2.1, u.2.2.2.2.2.2.2.2.2.2.2.2.2.2.1, u.2.2.2.2.2.2.2.2.2.2.2.2.2.2.2.1, u.2.2.2.2.2.2.2.2.2.2.2.2.2.2.2.2.1, u.2.2.2.2.2.2.2.2.2.2.2.2.2.2.2.2.2.1, u.2.2.2.2.2.2.2.2.2.2.2.2.2.2.2.2.2.2.1, u.2.2.2.2.2.2.2.2.2.2.2.2.2.2.2.2.2.2.2.1, u.2.2.2.2.2.2.2.2.2.2.2.2.2.2.2.2.2.2.2.2.1, u.2.2.2.2.2.2.2.2.2.2.2.2.2.2.2.2.2.2.2.2.2.1, e_r, u.2.2.2.2.2.2.2.2.2.2.2.2.2.2.2.2.2.2.2.2.2.2.2.1, u.2.2.2.2.2.2.2.2.2.2.2.2.2.2.2.2.2.2.2.2.2.2.2.2)
theorem gy_r (e_r : Nat → Int32) (u : SY) : qy_cap (uy_r e_r u) = qy_cap u ∧ qy_slots (uy_r e_r u) = qy_slots u ∧ qy_shift (uy_r e_r u) = qy_shift u ∧ qy_lazy (uy_r e_r u) = qy_lazy u ∧ qy_n (uy_r e_r u) = qy_n u ∧ qy_openSlot (uy_r e_r u) = qy_openSlot u ∧ qy_taken (uy_r e_r u) = qy_taken u ∧ qy_ended (uy_r e_r u) = qy_ended u ∧ qy_pos (uy_r e_r u) = qy_pos u ∧ qy_count (uy_r e_r u) = qy_count u ∧ qy_state (uy_r e_r u) = qy_state u ∧ qy_lastKind (uy_r e_r u) = qy_lastKind u ∧ qy_lastLength (uy_r e_r u) = qy_lastLength u ∧ qy_lastDistance (uy_r e_r u) = qy_lastDistance u ∧ qy_source (uy_r e_r u) = qy_source u ∧ qy_tokens (uy_r e_r u) = qy_tokens u ∧ qy_tokenKind (uy_r e_r u) = qy_tokenKind u ∧ qy_tokenLength (uy_r e_r u) = qy_tokenLength u ∧ qy_tokenDistance (uy_r e_r u) = qy_tokenDistance u ∧ qy_tokenByte (uy_r e_r u) = qy_tokenByte u ∧ qy_holds (uy_r e_r u) = qy_holds u ∧ qy_out (uy_r e_r u) = qy_out u ∧ qy_r (uy_r e_r u) = e_r ∧ qy_flags (uy_r e_r u) = qy_flags u ∧ qy_literals (uy_r e_r u) = qy_literals u := ⟨rfl, rfl, rfl, rfl, rfl, rfl, rfl, rfl, rfl, rfl, rfl, rfl, rfl, rfl, rfl, rfl, rfl, rfl, rfl, rfl, rfl, rfl, rfl, rfl, rfl⟩
theorem sy_r (e_r : Nat → Int32) (d_r : Nat → Int32) (u : SY) : uy_r e_r (uy_r d_r u) = uy_r e_r u := rfl
def uy_state (e_state : Int32) (u : SY) : SY := (u.1, u.2.1, u.2.2.1, u.2.2.2.1, u.2.2.2.2.1, u.2.2.2.2.2.1, u.2.2.2.2.2.2.1, u.2.2.2.2.2.2.2.1, u.2.2.2.2.2.2.2.2.1, u.2.2.2.2.2.2.2.2.2.1, e_state, u.2.2.2.2.2.2.2.2.2.2.2.1, u.2.2.2.2.2.2.2.2.2.2.2.2.1, u.2.2.2.2.2.2.2.2.2.2.2.2.2.1, u.2.2.2.2.2.2.2.2.2.2.2.2.2.2.1, u.2.2.2.2.2.2.2.2.2.2.2.2.2.2.2.1, u.2.2.2.2.2.2.2.2.2.2.2.2.2.2.2.2.1, u.2.2.2.2.2.2.2.2.2.2.2.2.2.2.2.2.2.1, u.2.2.2.2.2.2.2.2.2.2.2.2.2.2.2.2.2.2.1, u.2.2.2.2.2.2.2.2.2.2.2.2.2.2.2.2.2.2.2.1, u.2.2.2.2.2.2.2.2.2.2.2.2.2.2.2.2.2.2.2.2.1, u.2.2.2.2.2.2.2.2.2.2.2.2.2.2.2.2.2.2.2.2.2.1, u.2.2.2.2.2.2.2.2.2.2.2.2.2.2.2.2.2.2.2.2.2.2.1, u.2.2.2.2.2.2.2.2.2.2.2.2.2.2.2.2.2.2.2.2.2.2.2.1, u.2.2.2.2.2.2.2.2.2.2.2.2.2.2.2.2.2.2.2.2.2.2.2.2)
theorem gy_state (e_state : Int32) (u : SY) : qy_cap (uy_state e_state u) = qy_cap u ∧ qy_slots (uy_state e_state u) = qy_slots u ∧ qy_shift (uy_state e_state u) = qy_shift u ∧ qy_lazy (uy_state e_state u) = qy_lazy u ∧ qy_n (uy_state e_state u) = qy_n u ∧ qy_openSlot (uy_state e_state u) = qy_openSlot u ∧ qy_taken (uy_state e_state u) = qy_taken u ∧ qy_ended (uy_state e_state u) = qy_ended u ∧ qy_pos (uy_state e_state u) = qy_pos u ∧ qy_count (uy_state e_state u) = qy_count u ∧ qy_state (uy_state e_state u) = e_state ∧ qy_lastKind (uy_state e_state u) = qy_lastKind u ∧ qy_lastLength (uy_state e_state u) = qy_lastLength u ∧ qy_lastDistance (uy_state e_state u) = qy_lastDistance u ∧ qy_source (uy_state e_state u) = qy_source u ∧ qy_tokens (uy_state e_state u) = qy_tokens u ∧ qy_tokenKind (uy_state e_state u) = qy_tokenKind u ∧ qy_tokenLength (uy_state e_state u) = qy_tokenLength u ∧ qy_tokenDistance (uy_state e_state u) = qy_tokenDistance u ∧ qy_tokenByte (uy_state e_state u) = qy_tokenByte u ∧ qy_holds (uy_state e_state u) = qy_holds u ∧ qy_out (uy_state e_state u) = qy_out u ∧ qy_r (uy_state e_state u) = qy_r u ∧ qy_flags (uy_state e_state u) = qy_flags u ∧ qy_literals (uy_state e_state u) = qy_literals u := ⟨rfl, rfl, rfl, rfl, rfl, rfl, rfl, rfl, rfl, rfl, rfl, rfl, rfl, rfl, rfl, rfl, rfl, rfl, rfl, rfl, rfl, rfl, rfl, rfl, rfl⟩
def uy_taken (e_taken : Int32) (u : SY) : SY := (u.1, u.2.1, u.2.2.1, u.2.2.2.1, u.2.2.2.2.1, u.2.2.2.2.2.1, e_taken, u.2.2.2.2.2.2.2.1, u.2.2.2.2.2.2.2.2.1, u.2.2.2.2.2.2.2.2.2.1, u.2.2.2.2.2.2.2.2.2.2.1, u.2.2.2.2.2.2.2.2.2.2.2.1, u.2.2.2.2.2.2.2.2.2.2.2.2.1, u.2.2.2.2.2.2.2.2.2.2.2.2.2.1, u.2.2.2.2.2.2.2.2.2.2.2.2.2.2.1, u.2.2.2.2.2.2.2.2.2.2.2.2.2.2.2.1, u.2.2.2.2.2.2.2.2.2.2.2.2.2.2.2.2.1, u.2.2.2.2.2.2.2.2.2.2.2.2.2.2.2.2.2.1, u.2.2.2.2.2.2.2.2.2.2.2.2.2.2.2.2.2.2.1, u.2.2.2.2.2.2.2.2.2.2.2.2.2.2.2.2.2.2.2.1, u.2.2.2.2.2.2.2.2.2.2.2.2.2.2.2.2.2.2.2.2.1, u.2.2.2.2.2.2.2.2.2.2.2.2.2.2.2.2.2.2.2.2.2.1, u.2.2.2.2.2.2.2.2.2.2.2.2.2.2.2.2.2.2.2.2.2.2.1, u.2.2.2.2.2.2.2.2.2.2.2.2.2.2.2.2.2.2.2.2.2.2.2.1, u.2.2.2.2.2.2.2.2.2.2.2.2.2.2.2.2.2.2.2.2.2.2.2.2)
theorem gy_taken (e_taken : Int32) (u : SY) : qy_cap (uy_taken e_taken u) = qy_cap u ∧ qy_slots (uy_taken e_taken u) = qy_slots u ∧ qy_shift (uy_taken e_taken u) = qy_shift u ∧ qy_lazy (uy_taken e_taken u) = qy_lazy u ∧ qy_n (uy_taken e_taken u) = qy_n u ∧ qy_openSlot (uy_taken e_taken u) = qy_openSlot u ∧ qy_taken (uy_taken e_taken u) = e_taken ∧ qy_ended (uy_taken e_taken u) = qy_ended u ∧ qy_pos (uy_taken e_taken u) = qy_pos u ∧ qy_count (uy_taken e_taken u) = qy_count u ∧ qy_state (uy_taken e_taken u) = qy_state u ∧ qy_lastKind (uy_taken e_taken u) = qy_lastKind u ∧ qy_lastLength (uy_taken e_taken u) = qy_lastLength u ∧ qy_lastDistance (uy_taken e_taken u) = qy_lastDistance u ∧ qy_source (uy_taken e_taken u) = qy_source u ∧ qy_tokens (uy_taken e_taken u) = qy_tokens u ∧ qy_tokenKind (uy_taken e_taken u) = qy_tokenKind u ∧ qy_tokenLength (uy_taken e_taken u) = qy_tokenLength u ∧ qy_tokenDistance (uy_taken e_taken u) = qy_tokenDistance u ∧ qy_tokenByte (uy_taken e_taken u) = qy_tokenByte u ∧ qy_holds (uy_taken e_taken u) = qy_holds u ∧ qy_out (uy_taken e_taken u) = qy_out u ∧ qy_r (uy_taken e_taken u) = qy_r u ∧ qy_flags (uy_taken e_taken u) = qy_flags u ∧ qy_literals (uy_taken e_taken u) = qy_literals u := ⟨rfl, rfl, rfl, rfl, rfl, rfl, rfl, rfl, rfl, rfl, rfl, rfl, rfl, rfl, rfl, rfl, rfl, rfl, rfl, rfl, rfl, rfl, rfl, rfl, rfl⟩
def uy_n_source (e_n : Int32) (e_source : Nat → Int32) (u : SY) : SY := (u.1, u.2.1, u.2.2.1, u.2.2.2.1, e_n, u.2.2.2.2.2.1, u.2.2.2.2.2.2.1, u.2.2.2.2.2.2.2.1, u.2.2.2.2.2.2.2.2.1, u.2.2.2.2.2.2.2.2.2.1, u.2.2.2.2.2.2.2.2.2.2.1, u.2.2.2.2.2.2.2.2.2.2.2.1, u.2.2.2.2.2.2.2.2.2.2.2.2.1, u.2.2.2.2.2.2.2.2.2.2.2.2.2.1, e_source, u.2.2.2.2.2.2.2.2.2.2.2.2.2.2.2.1, u.2.2.2.2.2.2.2.2.2.2.2.2.2.2.2.2.1, u.2.2.2.2.2.2.2.2.2.2.2.2.2.2.2.2.2.1, u.2.2.2.2.2.2.2.2.2.2.2.2.2.2.2.2.2.2.1, u.2.2.2.2.2.2.2.2.2.2.2.2.2.2.2.2.2.2.2.1, u.2.2.2.2.2.2.2.2.2.2.2.2.2.2.2.2.2.2.2.2.1, u.2.2.2.2.2.2.2.2.2.2.2.2.2.2.2.2.2.2.2.2.2.1, u.2.2.2.2.2.2.2.2.2.2.2.2.2.2.2.2.2.2.2.2.2.2.1, u.2.2.2.2.2.2.2.2.2.2.2.2.2.2.2.2.2.2.2.2.2.2.2.1, u.2.2.2.2.2.2.2.2.2.2.2.2.2.2.2.2.2.2.2.2.2.2.2.2)
theorem gy_n_source (e_n : Int32) (e_source : Nat → Int32) (u : SY) : qy_cap (uy_n_source e_n e_source u) = qy_cap u ∧ qy_slots (uy_n_source e_n e_source u) = qy_slots u ∧ qy_shift (uy_n_source e_n e_source u) = qy_shift u ∧ qy_lazy (uy_n_source e_n e_source u) = qy_lazy u ∧ qy_n (uy_n_source e_n e_source u) = e_n ∧ qy_openSlot (uy_n_source e_n e_source u) = qy_openSlot u ∧ qy_taken (uy_n_source e_n e_source u) = qy_taken u ∧ qy_ended (uy_n_source e_n e_source u) = qy_ended u ∧ qy_pos (uy_n_source e_n e_source u) = qy_pos u ∧ qy_count (uy_n_source e_n e_source u) = qy_count u ∧ qy_state (uy_n_source e_n e_source u) = qy_state u ∧ qy_lastKind (uy_n_source e_n e_source u) = qy_lastKind u ∧ qy_lastLength (uy_n_source e_n e_source u) = qy_lastLength u ∧ qy_lastDistance (uy_n_source e_n e_source u) = qy_lastDistance u ∧ qy_source (uy_n_source e_n e_source u) = e_source ∧ qy_tokens (uy_n_source e_n e_source u) = qy_tokens u ∧ qy_tokenKind (uy_n_source e_n e_source u) = qy_tokenKind u ∧ qy_tokenLength (uy_n_source e_n e_source u) = qy_tokenLength u ∧ qy_tokenDistance (uy_n_source e_n e_source u) = qy_tokenDistance u ∧ qy_tokenByte (uy_n_source e_n e_source u) = qy_tokenByte u ∧ qy_holds (uy_n_source e_n e_source u) = qy_holds u ∧ qy_out (uy_n_source e_n e_source u) = qy_out u ∧ qy_r (uy_n_source e_n e_source u) = qy_r u ∧ qy_flags (uy_n_source e_n e_source u) = qy_flags u ∧ qy_literals (uy_n_source e_n e_source u) = qy_literals u := ⟨rfl, rfl, rfl, rfl, rfl, rfl, rfl, rfl, rfl, rfl, rfl, rfl, rfl, rfl, rfl, rfl, rfl, rfl, rfl, rfl, rfl, rfl, rfl, rfl, rfl⟩
def uy_n_tokens (e_n : Int32) (e_tokens : Nat → Int32) (u : SY) : SY := (u.1, u.2.1, u.2.2.1, u.2.2.2.1, e_n, u.2.2.2.2.2.1, u.2.2.2.2.2.2.1, u.2.2.2.2.2.2.2.1, u.2.2.2.2.2.2.2.2.1, u.2.2.2.2.2.2.2.2.2.1, u.2.2.2.2.2.2.2.2.2.2.1, u.2.2.2.2.2.2.2.2.2.2.2.1, u.2.2.2.2.2.2.2.2.2.2.2.2.1, u.2.2.2.2.2.2.2.2.2.2.2.2.2.1, u.2.2.2.2.2.2.2.2.2.2.2.2.2.2.1, e_tokens, u.2.2.2.2.2.2.2.2.2.2.2.2.2.2.2.2.1, u.2.2.2.2.2.2.2.2.2.2.2.2.2.2.2.2.2.1, u.2.2.2.2.2.2.2.2.2.2.2.2.2.2.2.2.2.2.1, u.2.2.2.2.2.2.2.2.2.2.2.2.2.2.2.2.2.2.2.1, u.2.2.2.2.2.2.2.2.2.2.2.2.2.2.2.2.2.2.2.2.1, u.2.2.2.2.2.2.2.2.2.2.2.2.2.2.2.2.2.2.2.2.2.1, u.2.2.2.2.2.2.2.2.2.2.2.2.2.2.2.2.2.2.2.2.2.2.1, u.2.2.2.2.2.2.2.2.2.2.2.2.2.2.2.2.2.2.2.2.2.2.2.1, u.2.2.2.2.2.2.2.2.2.2.2.2.2.2.2.2.2.2.2.2.2.2.2.2)
theorem gy_n_tokens (e_n : Int32) (e_tokens : Nat → Int32) (u : SY) : qy_cap (uy_n_tokens e_n e_tokens u) = qy_cap u ∧ qy_slots (uy_n_tokens e_n e_tokens u) = qy_slots u ∧ qy_shift (uy_n_tokens e_n e_tokens u) = qy_shift u ∧ qy_lazy (uy_n_tokens e_n e_tokens u) = qy_lazy u ∧ qy_n (uy_n_tokens e_n e_tokens u) = e_n ∧ qy_openSlot (uy_n_tokens e_n e_tokens u) = qy_openSlot u ∧ qy_taken (uy_n_tokens e_n e_tokens u) = qy_taken u ∧ qy_ended (uy_n_tokens e_n e_tokens u) = qy_ended u ∧ qy_pos (uy_n_tokens e_n e_tokens u) = qy_pos u ∧ qy_count (uy_n_tokens e_n e_tokens u) = qy_count u ∧ qy_state (uy_n_tokens e_n e_tokens u) = qy_state u ∧ qy_lastKind (uy_n_tokens e_n e_tokens u) = qy_lastKind u ∧ qy_lastLength (uy_n_tokens e_n e_tokens u) = qy_lastLength u ∧ qy_lastDistance (uy_n_tokens e_n e_tokens u) = qy_lastDistance u ∧ qy_source (uy_n_tokens e_n e_tokens u) = qy_source u ∧ qy_tokens (uy_n_tokens e_n e_tokens u) = e_tokens ∧ qy_tokenKind (uy_n_tokens e_n e_tokens u) = qy_tokenKind u ∧ qy_tokenLength (uy_n_tokens e_n e_tokens u) = qy_tokenLength u ∧ qy_tokenDistance (uy_n_tokens e_n e_tokens u) = qy_tokenDistance u ∧ qy_tokenByte (uy_n_tokens e_n e_tokens u) = qy_tokenByte u ∧ qy_holds (uy_n_tokens e_n e_tokens u) = qy_holds u ∧ qy_out (uy_n_tokens e_n e_tokens u) = qy_out u ∧ qy_r (uy_n_tokens e_n e_tokens u) = qy_r u ∧ qy_flags (uy_n_tokens e_n e_tokens u) = qy_flags u ∧ qy_literals (uy_n_tokens e_n e_tokens u) = qy_literals u := ⟨rfl, rfl, rfl, rfl, rfl, rfl, rfl, rfl, rfl, rfl, rfl, rfl, rfl, rfl, rfl, rfl, rfl, rfl, rfl, rfl, rfl, rfl, rfl, rfl, rfl⟩
def uy_pos_out (e_pos : Int32) (e_out : Nat → Int32) (u : SY) : SY := (u.1, u.2.1, u.2.2.1, u.2.2.2.1, u.2.2.2.2.1, u.2.2.2.2.2.1, u.2.2.2.2.2.2.1, u.2.2.2.2.2.2.2.1, e_pos, u.2.2.2.2.2.2.2.2.2.1, u.2.2.2.2.2.2.2.2.2.2.1, u.2.2.2.2.2.2.2.2.2.2.2.1, u.2.2.2.2.2.2.2.2.2.2.2.2.1, u.2.2.2.2.2.2.2.2.2.2.2.2.2.1, u.2.2.2.2.2.2.2.2.2.2.2.2.2.2.1, u.2.2.2.2.2.2.2.2.2.2.2.2.2.2.2.1, u.2.2.2.2.2.2.2.2.2.2.2.2.2.2.2.2.1, u.2.2.2.2.2.2.2.2.2.2.2.2.2.2.2.2.2.1, u.2.2.2.2.2.2.2.2.2.2.2.2.2.2.2.2.2.2.1, u.2.2.2.2.2.2.2.2.2.2.2.2.2.2.2.2.2.2.2.1, u.2.2.2.2.2.2.2.2.2.2.2.2.2.2.2.2.2.2.2.2.1, e_out, u.2.2.2.2.2.2.2.2.2.2.2.2.2.2.2.2.2.2.2.2.2.2.1, u.2.2.2.2.2.2.2.2.2.2.2.2.2.2.2.2.2.2.2.2.2.2.2.1, u.2.2.2.2.2.2.2.2.2.2.2.2.2.2.2.2.2.2.2.2.2.2.2.2)
theorem gy_pos_out (e_pos : Int32) (e_out : Nat → Int32) (u : SY) : qy_cap (uy_pos_out e_pos e_out u) = qy_cap u ∧ qy_slots (uy_pos_out e_pos e_out u) = qy_slots u ∧ qy_shift (uy_pos_out e_pos e_out u) = qy_shift u ∧ qy_lazy (uy_pos_out e_pos e_out u) = qy_lazy u ∧ qy_n (uy_pos_out e_pos e_out u) = qy_n u ∧ qy_openSlot (uy_pos_out e_pos e_out u) = qy_openSlot u ∧ qy_taken (uy_pos_out e_pos e_out u) = qy_taken u ∧ qy_ended (uy_pos_out e_pos e_out u) = qy_ended u ∧ qy_pos (uy_pos_out e_pos e_out u) = e_pos ∧ qy_count (uy_pos_out e_pos e_out u) = qy_count u ∧ qy_state (uy_pos_out e_pos e_out u) = qy_state u ∧ qy_lastKind (uy_pos_out e_pos e_out u) = qy_lastKind u ∧ qy_lastLength (uy_pos_out e_pos e_out u) = qy_lastLength u ∧ qy_lastDistance (uy_pos_out e_pos e_out u) = qy_lastDistance u ∧ qy_source (uy_pos_out e_pos e_out u) = qy_source u ∧ qy_tokens (uy_pos_out e_pos e_out u) = qy_tokens u ∧ qy_tokenKind (uy_pos_out e_pos e_out u) = qy_tokenKind u ∧ qy_tokenLength (uy_pos_out e_pos e_out u) = qy_tokenLength u ∧ qy_tokenDistance (uy_pos_out e_pos e_out u) = qy_tokenDistance u ∧ qy_tokenByte (uy_pos_out e_pos e_out u) = qy_tokenByte u ∧ qy_holds (uy_pos_out e_pos e_out u) = qy_holds u ∧ qy_out (uy_pos_out e_pos e_out u) = e_out ∧ qy_r (uy_pos_out e_pos e_out u) = qy_r u ∧ qy_flags (uy_pos_out e_pos e_out u) = qy_flags u ∧ qy_literals (uy_pos_out e_pos e_out u) = qy_literals u := ⟨rfl, rfl, rfl, rfl, rfl, rfl, rfl, rfl, rfl, rfl, rfl, rfl, rfl, rfl, rfl, rfl, rfl, rfl, rfl, rfl, rfl, rfl, rfl, rfl, rfl⟩
theorem sy_pos_out (e_pos : Int32) (e_out : Nat → Int32) (d_pos : Int32) (d_out : Nat → Int32) (u : SY) : uy_pos_out e_pos e_out (uy_pos_out d_pos d_out u) = uy_pos_out e_pos e_out u := rfl
def uy_tokens_holds (e_tokens : Nat → Int32) (e_holds : Nat → Int32) (u : SY) : SY := (u.1, u.2.1, u.2.2.1, u.2.2.2.1, u.2.2.2.2.1, u.2.2.2.2.2.1, u.2.2.2.2.2.2.1, u.2.2.2.2.2.2.2.1, u.2.2.2.2.2.2.2.2.1, u.2.2.2.2.2.2.2.2.2.1, u.2.2.2.2.2.2.2.2.2.2.1, u.2.2.2.2.2.2.2.2.2.2.2.1, u.2.2.2.2.2.2.2.2.2.2.2.2.1, u.2.2.2.2.2.2.2.2.2.2.2.2.2.1, u.2.2.2.2.2.2.2.2.2.2.2.2.2.2.1, e_tokens, u.2.2.2.2.2.2.2.2.2.2.2.2.2.2.2.2.1, u.2.2.2.2.2.2.2.2.2.2.2.2.2.2.2.2.2.1, u.2.2.2.2.2.2.2.2.2.2.2.2.2.2.2.2.2.2.1, u.2.2.2.2.2.2.2.2.2.2.2.2.2.2.2.2.2.2.2.1, e_holds, u.2.2.2.2.2.2.2.2.2.2.2.2.2.2.2.2.2.2.2.2.2.1, u.2.2.2.2.2.2.2.2.2.2.2.2.2.2.2.2.2.2.2.2.2.2.1, u.2.2.2.2.2.2.2.2.2.2.2.2.2.2.2.2.2.2.2.2.2.2.2.1, u.2.2.2.2.2.2.2.2.2.2.2.2.2.2.2.2.2.2.2.2.2.2.2.2)
theorem gy_tokens_holds (e_tokens : Nat → Int32) (e_holds : Nat → Int32) (u : SY) : qy_cap (uy_tokens_holds e_tokens e_holds u) = qy_cap u ∧ qy_slots (uy_tokens_holds e_tokens e_holds u) = qy_slots u ∧ qy_shift (uy_tokens_holds e_tokens e_holds u) = qy_shift u ∧ qy_lazy (uy_tokens_holds e_tokens e_holds u) = qy_lazy u ∧ qy_n (uy_tokens_holds e_tokens e_holds u) = qy_n u ∧ qy_openSlot (uy_tokens_holds e_tokens e_holds u) = qy_openSlot u ∧ qy_taken (uy_tokens_holds e_tokens e_holds u) = qy_taken u ∧ qy_ended (uy_tokens_holds e_tokens e_holds u) = qy_ended u ∧ qy_pos (uy_tokens_holds e_tokens e_holds u) = qy_pos u ∧ qy_count (uy_tokens_holds e_tokens e_holds u) = qy_count u ∧ qy_state (uy_tokens_holds e_tokens e_holds u) = qy_state u ∧ qy_lastKind (uy_tokens_holds e_tokens e_holds u) = qy_lastKind u ∧ qy_lastLength (uy_tokens_holds e_tokens e_holds u) = qy_lastLength u ∧ qy_lastDistance (uy_tokens_holds e_tokens e_holds u) = qy_lastDistance u ∧ qy_source (uy_tokens_holds e_tokens e_holds u) = qy_source u ∧ qy_tokens (uy_tokens_holds e_tokens e_holds u) = e_tokens ∧ qy_tokenKind (uy_tokens_holds e_tokens e_holds u) = qy_tokenKind u ∧ qy_tokenLength (uy_tokens_holds e_tokens e_holds u) = qy_tokenLength u ∧ qy_tokenDistance (uy_tokens_holds e_tokens e_holds u) = qy_tokenDistance u ∧ qy_tokenByte (uy_tokens_holds e_tokens e_holds u) = qy_tokenByte u ∧ qy_holds (uy_tokens_holds e_tokens e_holds u) = e_holds ∧ qy_out (uy_tokens_holds e_tokens e_holds u) = qy_out u ∧ qy_r (uy_tokens_holds e_tokens e_holds u) = qy_r u ∧ qy_flags (uy_tokens_holds e_tokens e_holds u) = qy_flags u ∧ qy_literals (uy_tokens_holds e_tokens e_holds u) = qy_literals u := ⟨rfl, rfl, rfl, rfl, rfl, rfl, rfl, rfl, rfl, rfl, rfl, rfl, rfl, rfl, rfl, rfl, rfl, rfl, rfl, rfl, rfl, rfl, rfl, rfl, rfl⟩
def uy_openSlot_taken_ended (e_openSlot : Int32) (e_taken : Int32) (e_ended : Int32) (u : SY) : SY := (u.1, u.2.1, u.2.2.1, u.2.2.2.1, u.2.2.2.2.1, e_openSlot, e_taken, e_ended, u.2.2.2.2.2.2.2.2.1, u.2.2.2.2.2.2.2.2.2.1, u.2.2.2.2.2.2.2.2.2.2.1, u.2.2.2.2.2.2.2.2.2.2.2.1, u.2.2.2.2.2.2.2.2.2.2.2.2.1, u.2.2.2.2.2.2.2.2.2.2.2.2.2.1, u.2.2.2.2.2.2.2.2.2.2.2.2.2.2.1, u.2.2.2.2.2.2.2.2.2.2.2.2.2.2.2.1, u.2.2.2.2.2.2.2.2.2.2.2.2.2.2.2.2.1, u.2.2.2.2.2.2.2.2.2.2.2.2.2.2.2.2.2.1, u.2.2.2.2.2.2.2.2.2.2.2.2.2.2.2.2.2.2.1, u.2.2.2.2.2.2.2.2.2.2.2.2.2.2.2.2.2.2.2.1, u.2.2.2.2.2.2.2.2.2.2.2.2.2.2.2.2.2.2.2.2.1, u.2.2.2.2.2.2.2.2.2.2.2.2.2.2.2.2.2.2.2.2.2.1, u.2.2.2.2.2.2.2.2.2.2.2.2.2.2.2.2.2.2.2.2.2.2.1, u.2.2.2.2.2.2.2.2.2.2.2.2.2.2.2.2.2.2.2.2.2.2.2.1, u.2.2.2.2.2.2.2.2.2.2.2.2.2.2.2.2.2.2.2.2.2.2.2.2)
theorem gy_openSlot_taken_ended (e_openSlot : Int32) (e_taken : Int32) (e_ended : Int32) (u : SY) : qy_cap (uy_openSlot_taken_ended e_openSlot e_taken e_ended u) = qy_cap u ∧ qy_slots (uy_openSlot_taken_ended e_openSlot e_taken e_ended u) = qy_slots u ∧ qy_shift (uy_openSlot_taken_ended e_openSlot e_taken e_ended u) = qy_shift u ∧ qy_lazy (uy_openSlot_taken_ended e_openSlot e_taken e_ended u) = qy_lazy u ∧ qy_n (uy_openSlot_taken_ended e_openSlot e_taken e_ended u) = qy_n u ∧ qy_openSlot (uy_openSlot_taken_ended e_openSlot e_taken e_ended u) = e_openSlot ∧ qy_taken (uy_openSlot_taken_ended e_openSlot e_taken e_ended u) = e_taken ∧ qy_ended (uy_openSlot_taken_ended e_openSlot e_taken e_ended u) = e_ended ∧ qy_pos (uy_openSlot_taken_ended e_openSlot e_taken e_ended u) = qy_pos u ∧ qy_count (uy_openSlot_taken_ended e_openSlot e_taken e_ended u) = qy_count u ∧ qy_state (uy_openSlot_taken_ended e_openSlot e_taken e_ended u) = qy_state u ∧ qy_lastKind (uy_openSlot_taken_ended e_openSlot e_taken e_ended u) = qy_lastKind u ∧ qy_lastLength (uy_openSlot_taken_ended e_openSlot e_taken e_ended u) = qy_lastLength u ∧ qy_lastDistance (uy_openSlot_taken_ended e_openSlot e_taken e_ended u) = qy_lastDistance u ∧ qy_source (uy_openSlot_taken_ended e_openSlot e_taken e_ended u) = qy_source u ∧ qy_tokens (uy_openSlot_taken_ended e_openSlot e_taken e_ended u) = qy_tokens u ∧ qy_tokenKind (uy_openSlot_taken_ended e_openSlot e_taken e_ended u) = qy_tokenKind u ∧ qy_tokenLength (uy_openSlot_taken_ended e_openSlot e_taken e_ended u) = qy_tokenLength u ∧ qy_tokenDistance (uy_openSlot_taken_ended e_openSlot e_taken e_ended u) = qy_tokenDistance u ∧ qy_tokenByte (uy_openSlot_taken_ended e_openSlot e_taken e_ended u) = qy_tokenByte u ∧ qy_holds (uy_openSlot_taken_ended e_openSlot e_taken e_ended u) = qy_holds u ∧ qy_out (uy_openSlot_taken_ended e_openSlot e_taken e_ended u) = qy_out u ∧ qy_r (uy_openSlot_taken_ended e_openSlot e_taken e_ended u) = qy_r u ∧ qy_flags (uy_openSlot_taken_ended e_openSlot e_taken e_ended u) = qy_flags u ∧ qy_literals (uy_openSlot_taken_ended e_openSlot e_taken e_ended u) = qy_literals u := ⟨rfl, rfl, rfl, rfl, rfl, rfl, rfl, rfl, rfl, rfl, rfl, rfl, rfl, rfl, rfl, rfl, rfl, rfl, rfl, rfl, rfl, rfl, rfl, rfl, rfl⟩
def uy_count_lastKind_lastLength_lastDistance (e_count : Int32) (e_lastKind : Int32) (e_lastLength : Int32) (e_lastDistance : Int32) (u : SY) : SY := (u.1, u.2.1, u.2.2.1, u.2.2.2.1, u.2.2.2.2.1, u.2.2.2.2.2.1, u.2.2.2.2.2.2.1, u.2.2.2.2.2.2.2.1, u.2.2.2.2.2.2.2.2.1, e_count, u.2.2.2.2.2.2.2.2.2.2.1, e_lastKind, e_lastLength, e_lastDistance, u.2.2.2.2.2.2.2.2.2.2.2.2.2.2.1, u.2.2.2.2.2.2.2.2.2.2.2.2.2.2.2.1, u.2.2.2.2.2.2.2.2.2.2.2.2.2.2.2.2.1, u.2.2.2.2.2.2.2.2.2.2.2.2.2.2.2.2.2.1, u.2.2.2.2.2.2.2.2.2.2.2.2.2.2.2.2.2.2.1, u.2.2.2.2.2.2.2.2.2.2.2.2.2.2.2.2.2.2.2.1, u.2.2.2.2.2.2.2.2.2.2.2.2.2.2.2.2.2.2.2.2.1, u.2.2.2.2.2.2.2.2.2.2.2.2.2.2.2.2.2.2.2.2.2.1, u.2.2.2.2.2.2.2.2.2.2.2.2.2.2.2.2.2.2.2.2.2.2.1, u.2.2.2.2.2.2.2.2.2.2.2.2.2.2.2.2.2.2.2.2.2.2.2.1, u.2.2.2.2.2.2.2.2.2.2.2.2.2.2.2.2.2.2.2.2.2.2.2.2)
theorem gy_count_lastKind_lastLength_lastDistance (e_count : Int32) (e_lastKind : Int32) (e_lastLength : Int32) (e_lastDistance : Int32) (u : SY) : qy_cap (uy_count_lastKind_lastLength_lastDistance e_count e_lastKind e_lastLength e_lastDistance u) = qy_cap u ∧ qy_slots (uy_count_lastKind_lastLength_lastDistance e_count e_lastKind e_lastLength e_lastDistance u) = qy_slots u ∧ qy_shift (uy_count_lastKind_lastLength_lastDistance e_count e_lastKind e_lastLength e_lastDistance u) = qy_shift u ∧ qy_lazy (uy_count_lastKind_lastLength_lastDistance e_count e_lastKind e_lastLength e_lastDistance u) = qy_lazy u ∧ qy_n (uy_count_lastKind_lastLength_lastDistance e_count e_lastKind e_lastLength e_lastDistance u) = qy_n u ∧ qy_openSlot (uy_count_lastKind_lastLength_lastDistance e_count e_lastKind e_lastLength e_lastDistance u) = qy_openSlot u ∧ qy_taken (uy_count_lastKind_lastLength_lastDistance e_count e_lastKind e_lastLength e_lastDistance u) = qy_taken u ∧ qy_ended (uy_count_lastKind_lastLength_lastDistance e_count e_lastKind e_lastLength e_lastDistance u) = qy_ended u ∧ qy_pos (uy_count_lastKind_lastLength_lastDistance e_count e_lastKind e_lastLength e_lastDistance u) = qy_pos u ∧ qy_count (uy_count_lastKind_lastLength_lastDistance e_count e_lastKind e_lastLength e_lastDistance u) = e_count ∧ qy_state (uy_count_lastKind_lastLength_lastDistance e_count e_lastKind e_lastLength e_lastDistance u) = qy_state u ∧ qy_lastKind (uy_count_lastKind_lastLength_lastDistance e_count e_lastKind e_lastLength e_lastDistance u) = e_lastKind ∧ qy_lastLength (uy_count_lastKind_lastLength_lastDistance e_count e_lastKind e_lastLength e_lastDistance u) = e_lastLength ∧ qy_lastDistance (uy_count_lastKind_lastLength_lastDistance e_count e_lastKind e_lastLength e_lastDistance u) = e_lastDistance ∧ qy_source (uy_count_lastKind_lastLength_lastDistance e_count e_lastKind e_lastLength e_lastDistance u) = qy_source u ∧ qy_tokens (uy_count_lastKind_lastLength_lastDistance e_count e_lastKind e_lastLength e_lastDistance u) = qy_tokens u ∧ qy_tokenKind (uy_count_lastKind_lastLength_lastDistance e_count e_lastKind e_lastLength e_lastDistance u) = qy_tokenKind u ∧ qy_tokenLength (uy_count_lastKind_lastLength_lastDistance e_count e_lastKind e_lastLength e_lastDistance u) = qy_tokenLength u ∧ qy_tokenDistance (uy_count_lastKind_lastLength_lastDistance e_count e_lastKind e_lastLength e_lastDistance u) = qy_tokenDistance u ∧ qy_tokenByte (uy_count_lastKind_lastLength_lastDistance e_count e_lastKind e_lastLength e_lastDistance u) = qy_tokenByte u ∧ qy_holds (uy_count_lastKind_lastLength_lastDistance e_count e_lastKind e_lastLength e_lastDistance u) = qy_holds u ∧ qy_out (uy_count_lastKind_lastLength_lastDistance e_count e_lastKind e_lastLength e_lastDistance u) = qy_out u ∧ qy_r (uy_count_lastKind_lastLength_lastDistance e_count e_lastKind e_lastLength e_lastDistance u) = qy_r u ∧ qy_flags (uy_count_lastKind_lastLength_lastDistance e_count e_lastKind e_lastLength e_lastDistance u) = qy_flags u ∧ qy_literals (uy_count_lastKind_lastLength_lastDistance e_count e_lastKind e_lastLength e_lastDistance u) = qy_literals u := ⟨rfl, rfl, rfl, rfl, rfl, rfl, rfl, rfl, rfl, rfl, rfl, rfl, rfl, rfl, rfl, rfl, rfl, rfl, rfl, rfl, rfl, rfl, rfl, rfl, rfl⟩
def uy_tokenKind_tokenLength_tokenDistance_tokenByte (e_tokenKind : Nat → Int32) (e_tokenLength : Nat → Int32) (e_tokenDistance : Nat → Int32) (e_tokenByte : Nat → Int32) (u : SY) : SY := (u.1, u.2.1, u.2.2.1, u.2.2.2.1, u.2.2.2.2.1, u.2.2.2.2.2.1, u.2.2.2.2.2.2.1, u.2.2.2.2.2.2.2.1, u.2.2.2.2.2.2.2.2.1, u.2.2.2.2.2.2.2.2.2.1, u.2.2.2.2.2.2.2.2.2.2.1, u.2.2.2.2.2.2.2.2.2.2.2.1, u.2.2.2.2.2.2.2.2.2.2.2.2.1, u.2.2.2.2.2.2.2.2.2.2.2.2.2.1, u.2.2.2.2.2.2.2.2.2.2.2.2.2.2.1, u.2.2.2.2.2.2.2.2.2.2.2.2.2.2.2.1, e_tokenKind, e_tokenLength, e_tokenDistance, e_tokenByte, u.2.2.2.2.2.2.2.2.2.2.2.2.2.2.2.2.2.2.2.2.1, u.2.2.2.2.2.2.2.2.2.2.2.2.2.2.2.2.2.2.2.2.2.1, u.2.2.2.2.2.2.2.2.2.2.2.2.2.2.2.2.2.2.2.2.2.2.1, u.2.2.2.2.2.2.2.2.2.2.2.2.2.2.2.2.2.2.2.2.2.2.2.1, u.2.2.2.2.2.2.2.2.2.2.2.2.2.2.2.2.2.2.2.2.2.2.2.2)
theorem gy_tokenKind_tokenLength_tokenDistance_tokenByte (e_tokenKind : Nat → Int32) (e_tokenLength : Nat → Int32) (e_tokenDistance : Nat → Int32) (e_tokenByte : Nat → Int32) (u : SY) : qy_cap (uy_tokenKind_tokenLength_tokenDistance_tokenByte e_tokenKind e_tokenLength e_tokenDistance e_tokenByte u) = qy_cap u ∧ qy_slots (uy_tokenKind_tokenLength_tokenDistance_tokenByte e_tokenKind e_tokenLength e_tokenDistance e_tokenByte u) = qy_slots u ∧ qy_shift (uy_tokenKind_tokenLength_tokenDistance_tokenByte e_tokenKind e_tokenLength e_tokenDistance e_tokenByte u) = qy_shift u ∧ qy_lazy (uy_tokenKind_tokenLength_tokenDistance_tokenByte e_tokenKind e_tokenLength e_tokenDistance e_tokenByte u) = qy_lazy u ∧ qy_n (uy_tokenKind_tokenLength_tokenDistance_tokenByte e_tokenKind e_tokenLength e_tokenDistance e_tokenByte u) = qy_n u ∧ qy_openSlot (uy_tokenKind_tokenLength_tokenDistance_tokenByte e_tokenKind e_tokenLength e_tokenDistance e_tokenByte u) = qy_openSlot u ∧ qy_taken (uy_tokenKind_tokenLength_tokenDistance_tokenByte e_tokenKind e_tokenLength e_tokenDistance e_tokenByte u) = qy_taken u ∧ qy_ended (uy_tokenKind_tokenLength_tokenDistance_tokenByte e_tokenKind e_tokenLength e_tokenDistance e_tokenByte u) = qy_ended u ∧ qy_pos (uy_tokenKind_tokenLength_tokenDistance_tokenByte e_tokenKind e_tokenLength e_tokenDistance e_tokenByte u) = qy_pos u ∧ qy_count (uy_tokenKind_tokenLength_tokenDistance_tokenByte e_tokenKind e_tokenLength e_tokenDistance e_tokenByte u) = qy_count u ∧ qy_state (uy_tokenKind_tokenLength_tokenDistance_tokenByte e_tokenKind e_tokenLength e_tokenDistance e_tokenByte u) = qy_state u ∧ qy_lastKind (uy_tokenKind_tokenLength_tokenDistance_tokenByte e_tokenKind e_tokenLength e_tokenDistance e_tokenByte u) = qy_lastKind u ∧ qy_lastLength (uy_tokenKind_tokenLength_tokenDistance_tokenByte e_tokenKind e_tokenLength e_tokenDistance e_tokenByte u) = qy_lastLength u ∧ qy_lastDistance (uy_tokenKind_tokenLength_tokenDistance_tokenByte e_tokenKind e_tokenLength e_tokenDistance e_tokenByte u) = qy_lastDistance u ∧ qy_source (uy_tokenKind_tokenLength_tokenDistance_tokenByte e_tokenKind e_tokenLength e_tokenDistance e_tokenByte u) = qy_source u ∧ qy_tokens (uy_tokenKind_tokenLength_tokenDistance_tokenByte e_tokenKind e_tokenLength e_tokenDistance e_tokenByte u) = qy_tokens u ∧ qy_tokenKind (uy_tokenKind_tokenLength_tokenDistance_tokenByte e_tokenKind e_tokenLength e_tokenDistance e_tokenByte u) = e_tokenKind ∧ qy_tokenLength (uy_tokenKind_tokenLength_tokenDistance_tokenByte e_tokenKind e_tokenLength e_tokenDistance e_tokenByte u) = e_tokenLength ∧ qy_tokenDistance (uy_tokenKind_tokenLength_tokenDistance_tokenByte e_tokenKind e_tokenLength e_tokenDistance e_tokenByte u) = e_tokenDistance ∧ qy_tokenByte (uy_tokenKind_tokenLength_tokenDistance_tokenByte e_tokenKind e_tokenLength e_tokenDistance e_tokenByte u) = e_tokenByte ∧ qy_holds (uy_tokenKind_tokenLength_tokenDistance_tokenByte e_tokenKind e_tokenLength e_tokenDistance e_tokenByte u) = qy_holds u ∧ qy_out (uy_tokenKind_tokenLength_tokenDistance_tokenByte e_tokenKind e_tokenLength e_tokenDistance e_tokenByte u) = qy_out u ∧ qy_r (uy_tokenKind_tokenLength_tokenDistance_tokenByte e_tokenKind e_tokenLength e_tokenDistance e_tokenByte u) = qy_r u ∧ qy_flags (uy_tokenKind_tokenLength_tokenDistance_tokenByte e_tokenKind e_tokenLength e_tokenDistance e_tokenByte u) = qy_flags u ∧ qy_literals (uy_tokenKind_tokenLength_tokenDistance_tokenByte e_tokenKind e_tokenLength e_tokenDistance e_tokenByte u) = qy_literals u := ⟨rfl, rfl, rfl, rfl, rfl, rfl, rfl, rfl, rfl, rfl, rfl, rfl, rfl, rfl, rfl, rfl, rfl, rfl, rfl, rfl, rfl, rfl, rfl, rfl, rfl⟩
theorem sy_tokenKind_tokenLength_tokenDistance_tokenByte (e_tokenKind : Nat → Int32) (e_tokenLength : Nat → Int32) (e_tokenDistance : Nat → Int32) (e_tokenByte : Nat → Int32) (d_tokenKind : Nat → Int32) (d_tokenLength : Nat → Int32) (d_tokenDistance : Nat → Int32) (d_tokenByte : Nat → Int32) (u : SY) : uy_tokenKind_tokenLength_tokenDistance_tokenByte e_tokenKind e_tokenLength e_tokenDistance e_tokenByte (uy_tokenKind_tokenLength_tokenDistance_tokenByte d_tokenKind d_tokenLength d_tokenDistance d_tokenByte u) = uy_tokenKind_tokenLength_tokenDistance_tokenByte e_tokenKind e_tokenLength e_tokenDistance e_tokenByte u := rfl
def uy_tokens_tokenKind_tokenLength_tokenDistance_tokenByte (e_tokens : Nat → Int32) (e_tokenKind : Nat → Int32) (e_tokenLength : Nat → Int32) (e_tokenDistance : Nat → Int32) (e_tokenByte : Nat → Int32) (u : SY) : SY := (u.1, u.2.1, u.2.2.1, u.2.2.2.1, u.2.2.2.2.1, u.2.2.2.2.2.1, u.2.2.2.2.2.2.1, u.2.2.2.2.2.2.2.1, u.2.2.2.2.2.2.2.2.1, u.2.2.2.2.2.2.2.2.2.1, u.2.2.2.2.2.2.2.2.2.2.1, u.2.2.2.2.2.2.2.2.2.2.2.1, u.2.2.2.2.2.2.2.2.2.2.2.2.1, u.2.2.2.2.2.2.2.2.2.2.2.2.2.1, u.2.2.2.2.2.2.2.2.2.2.2.2.2.2.1, e_tokens, e_tokenKind, e_tokenLength, e_tokenDistance, e_tokenByte, u.2.2.2.2.2.2.2.2.2.2.2.2.2.2.2.2.2.2.2.2.1, u.2.2.2.2.2.2.2.2.2.2.2.2.2.2.2.2.2.2.2.2.2.1, u.2.2.2.2.2.2.2.2.2.2.2.2.2.2.2.2.2.2.2.2.2.2.1, u.2.2.2.2.2.2.2.2.2.2.2.2.2.2.2.2.2.2.2.2.2.2.2.1, u.2.2.2.2.2.2.2.2.2.2.2.2.2.2.2.2.2.2.2.2.2.2.2.2)
theorem gy_tokens_tokenKind_tokenLength_tokenDistance_tokenByte (e_tokens : Nat → Int32) (e_tokenKind : Nat → Int32) (e_tokenLength : Nat → Int32) (e_tokenDistance : Nat → Int32) (e_tokenByte : Nat → Int32) (u : SY) : qy_cap (uy_tokens_tokenKind_tokenLength_tokenDistance_tokenByte e_tokens e_tokenKind e_tokenLength e_tokenDistance e_tokenByte u) = qy_cap u ∧ qy_slots (uy_tokens_tokenKind_tokenLength_tokenDistance_tokenByte e_tokens e_tokenKind e_tokenLength e_tokenDistance e_tokenByte u) = qy_slots u ∧ qy_shift (uy_tokens_tokenKind_tokenLength_tokenDistance_tokenByte e_tokens e_tokenKind e_tokenLength e_tokenDistance e_tokenByte u) = qy_shift u ∧ qy_lazy (uy_tokens_tokenKind_tokenLength_tokenDistance_tokenByte e_tokens e_tokenKind e_tokenLength e_tokenDistance e_tokenByte u) = qy_lazy u ∧ qy_n (uy_tokens_tokenKind_tokenLength_tokenDistance_tokenByte e_tokens e_tokenKind e_tokenLength e_tokenDistance e_tokenByte u) = qy_n u ∧ qy_openSlot (uy_tokens_tokenKind_tokenLength_tokenDistance_tokenByte e_tokens e_tokenKind e_tokenLength e_tokenDistance e_tokenByte u) = qy_openSlot u ∧ qy_taken (uy_tokens_tokenKind_tokenLength_tokenDistance_tokenByte e_tokens e_tokenKind e_tokenLength e_tokenDistance e_tokenByte u) = qy_taken u ∧ qy_ended (uy_tokens_tokenKind_tokenLength_tokenDistance_tokenByte e_tokens e_tokenKind e_tokenLength e_tokenDistance e_tokenByte u) = qy_ended u ∧ qy_pos (uy_tokens_tokenKind_tokenLength_tokenDistance_tokenByte e_tokens e_tokenKind e_tokenLength e_tokenDistance e_tokenByte u) = qy_pos u ∧ qy_count (uy_tokens_tokenKind_tokenLength_tokenDistance_tokenByte e_tokens e_tokenKind e_tokenLength e_tokenDistance e_tokenByte u) = qy_count u ∧ qy_state (uy_tokens_tokenKind_tokenLength_tokenDistance_tokenByte e_tokens e_tokenKind e_tokenLength e_tokenDistance e_tokenByte u) = qy_state u ∧ qy_lastKind (uy_tokens_tokenKind_tokenLength_tokenDistance_tokenByte e_tokens e_tokenKind e_tokenLength e_tokenDistance e_tokenByte u) = qy_lastKind u ∧ qy_lastLength (uy_tokens_tokenKind_tokenLength_tokenDistance_tokenByte e_tokens e_tokenKind e_tokenLength e_tokenDistance e_tokenByte u) = qy_lastLength u ∧ qy_lastDistance (uy_tokens_tokenKind_tokenLength_tokenDistance_tokenByte e_tokens e_tokenKind e_tokenLength e_tokenDistance e_tokenByte u) = qy_lastDistance u ∧ qy_source (uy_tokens_tokenKind_tokenLength_tokenDistance_tokenByte e_tokens e_tokenKind e_tokenLength e_tokenDistance e_tokenByte u) = qy_source u ∧ qy_tokens (uy_tokens_tokenKind_tokenLength_tokenDistance_tokenByte e_tokens e_tokenKind e_tokenLength e_tokenDistance e_tokenByte u) = e_tokens ∧ qy_tokenKind (uy_tokens_tokenKind_tokenLength_tokenDistance_tokenByte e_tokens e_tokenKind e_tokenLength e_tokenDistance e_tokenByte u) = e_tokenKind ∧ qy_tokenLength (uy_tokens_tokenKind_tokenLength_tokenDistance_tokenByte e_tokens e_tokenKind e_tokenLength e_tokenDistance e_tokenByte u) = e_tokenLength ∧ qy_tokenDistance (uy_tokens_tokenKind_tokenLength_tokenDistance_tokenByte e_tokens e_tokenKind e_tokenLength e_tokenDistance e_tokenByte u) = e_tokenDistance ∧ qy_tokenByte (uy_tokens_tokenKind_tokenLength_tokenDistance_tokenByte e_tokens e_tokenKind e_tokenLength e_tokenDistance e_tokenByte u) = e_tokenByte ∧ qy_holds (uy_tokens_tokenKind_tokenLength_tokenDistance_tokenByte e_tokens e_tokenKind e_tokenLength e_tokenDistance e_tokenByte u) = qy_holds u ∧ qy_out (uy_tokens_tokenKind_tokenLength_tokenDistance_tokenByte e_tokens e_tokenKind e_tokenLength e_tokenDistance e_tokenByte u) = qy_out u ∧ qy_r (uy_tokens_tokenKind_tokenLength_tokenDistance_tokenByte e_tokens e_tokenKind e_tokenLength e_tokenDistance e_tokenByte u) = qy_r u ∧ qy_flags (uy_tokens_tokenKind_tokenLength_tokenDistance_tokenByte e_tokens e_tokenKind e_tokenLength e_tokenDistance e_tokenByte u) = qy_flags u ∧ qy_literals (uy_tokens_tokenKind_tokenLength_tokenDistance_tokenByte e_tokens e_tokenKind e_tokenLength e_tokenDistance e_tokenByte u) = qy_literals u := ⟨rfl, rfl, rfl, rfl, rfl, rfl, rfl, rfl, rfl, rfl, rfl, rfl, rfl, rfl, rfl, rfl, rfl, rfl, rfl, rfl, rfl, rfl, rfl, rfl, rfl⟩
def uy_pos_count_state_lastKind_lastLength_lastDistance (e_pos : Int32) (e_count : Int32) (e_state : Int32) (e_lastKind : Int32) (e_lastLength : Int32) (e_lastDistance : Int32) (u : SY) : SY := (u.1, u.2.1, u.2.2.1, u.2.2.2.1, u.2.2.2.2.1, u.2.2.2.2.2.1, u.2.2.2.2.2.2.1, u.2.2.2.2.2.2.2.1, e_pos, e_count, e_state, e_lastKind, e_lastLength, e_lastDistance, u.2.2.2.2.2.2.2.2.2.2.2.2.2.2.1, u.2.2.2.2.2.2.2.2.2.2.2.2.2.2.2.1, u.2.2.2.2.2.2.2.2.2.2.2.2.2.2.2.2.1, u.2.2.2.2.2.2.2.2.2.2.2.2.2.2.2.2.2.1, u.2.2.2.2.2.2.2.2.2.2.2.2.2.2.2.2.2.2.1, u.2.2.2.2.2.2.2.2.2.2.2.2.2.2.2.2.2.2.2.1, u.2.2.2.2.2.2.2.2.2.2.2.2.2.2.2.2.2.2.2.2.1, u.2.2.2.2.2.2.2.2.2.2.2.2.2.2.2.2.2.2.2.2.2.1, u.2.2.2.2.2.2.2.2.2.2.2.2.2.2.2.2.2.2.2.2.2.2.1, u.2.2.2.2.2.2.2.2.2.2.2.2.2.2.2.2.2.2.2.2.2.2.2.1, u.2.2.2.2.2.2.2.2.2.2.2.2.2.2.2.2.2.2.2.2.2.2.2.2)
theorem gy_pos_count_state_lastKind_lastLength_lastDistance (e_pos : Int32) (e_count : Int32) (e_state : Int32) (e_lastKind : Int32) (e_lastLength : Int32) (e_lastDistance : Int32) (u : SY) : qy_cap (uy_pos_count_state_lastKind_lastLength_lastDistance e_pos e_count e_state e_lastKind e_lastLength e_lastDistance u) = qy_cap u ∧ qy_slots (uy_pos_count_state_lastKind_lastLength_lastDistance e_pos e_count e_state e_lastKind e_lastLength e_lastDistance u) = qy_slots u ∧ qy_shift (uy_pos_count_state_lastKind_lastLength_lastDistance e_pos e_count e_state e_lastKind e_lastLength e_lastDistance u) = qy_shift u ∧ qy_lazy (uy_pos_count_state_lastKind_lastLength_lastDistance e_pos e_count e_state e_lastKind e_lastLength e_lastDistance u) = qy_lazy u ∧ qy_n (uy_pos_count_state_lastKind_lastLength_lastDistance e_pos e_count e_state e_lastKind e_lastLength e_lastDistance u) = qy_n u ∧ qy_openSlot (uy_pos_count_state_lastKind_lastLength_lastDistance e_pos e_count e_state e_lastKind e_lastLength e_lastDistance u) = qy_openSlot u ∧ qy_taken (uy_pos_count_state_lastKind_lastLength_lastDistance e_pos e_count e_state e_lastKind e_lastLength e_lastDistance u) = qy_taken u ∧ qy_ended (uy_pos_count_state_lastKind_lastLength_lastDistance e_pos e_count e_state e_lastKind e_lastLength e_lastDistance u) = qy_ended u ∧ qy_pos (uy_pos_count_state_lastKind_lastLength_lastDistance e_pos e_count e_state e_lastKind e_lastLength e_lastDistance u) = e_pos ∧ qy_count (uy_pos_count_state_lastKind_lastLength_lastDistance e_pos e_count e_state e_lastKind e_lastLength e_lastDistance u) = e_count ∧ qy_state (uy_pos_count_state_lastKind_lastLength_lastDistance e_pos e_count e_state e_lastKind e_lastLength e_lastDistance u) = e_state ∧ qy_lastKind (uy_pos_count_state_lastKind_lastLength_lastDistance e_pos e_count e_state e_lastKind e_lastLength e_lastDistance u) = e_lastKind ∧ qy_lastLength (uy_pos_count_state_lastKind_lastLength_lastDistance e_pos e_count e_state e_lastKind e_lastLength e_lastDistance u) = e_lastLength ∧ qy_lastDistance (uy_pos_count_state_lastKind_lastLength_lastDistance e_pos e_count e_state e_lastKind e_lastLength e_lastDistance u) = e_lastDistance ∧ qy_source (uy_pos_count_state_lastKind_lastLength_lastDistance e_pos e_count e_state e_lastKind e_lastLength e_lastDistance u) = qy_source u ∧ qy_tokens (uy_pos_count_state_lastKind_lastLength_lastDistance e_pos e_count e_state e_lastKind e_lastLength e_lastDistance u) = qy_tokens u ∧ qy_tokenKind (uy_pos_count_state_lastKind_lastLength_lastDistance e_pos e_count e_state e_lastKind e_lastLength e_lastDistance u) = qy_tokenKind u ∧ qy_tokenLength (uy_pos_count_state_lastKind_lastLength_lastDistance e_pos e_count e_state e_lastKind e_lastLength e_lastDistance u) = qy_tokenLength u ∧ qy_tokenDistance (uy_pos_count_state_lastKind_lastLength_lastDistance e_pos e_count e_state e_lastKind e_lastLength e_lastDistance u) = qy_tokenDistance u ∧ qy_tokenByte (uy_pos_count_state_lastKind_lastLength_lastDistance e_pos e_count e_state e_lastKind e_lastLength e_lastDistance u) = qy_tokenByte u ∧ qy_holds (uy_pos_count_state_lastKind_lastLength_lastDistance e_pos e_count e_state e_lastKind e_lastLength e_lastDistance u) = qy_holds u ∧ qy_out (uy_pos_count_state_lastKind_lastLength_lastDistance e_pos e_count e_state e_lastKind e_lastLength e_lastDistance u) = qy_out u ∧ qy_r (uy_pos_count_state_lastKind_lastLength_lastDistance e_pos e_count e_state e_lastKind e_lastLength e_lastDistance u) = qy_r u ∧ qy_flags (uy_pos_count_state_lastKind_lastLength_lastDistance e_pos e_count e_state e_lastKind e_lastLength e_lastDistance u) = qy_flags u ∧ qy_literals (uy_pos_count_state_lastKind_lastLength_lastDistance e_pos e_count e_state e_lastKind e_lastLength e_lastDistance u) = qy_literals u := ⟨rfl, rfl, rfl, rfl, rfl, rfl, rfl, rfl, rfl, rfl, rfl, rfl, rfl, rfl, rfl, rfl, rfl, rfl, rfl, rfl, rfl, rfl, rfl, rfl, rfl⟩
end
section
theorem ex_clamp (post : Int32 → Prop) (u : SX) (p0 : Int32) (p1 : Int32) (p2 : Int32) : wpX_clamp post u p0 p1 p2 = (((p1 ≤ p0 → ((p0 ≤ p2 → (post p0)) ∧ (¬ p0 ≤ p2 → (post p2)))) ∧ (¬ p1 ≤ p0 → (post p1)))) := rfl
def zx_resetSide_60 (post : SX → Prop) (x1 : Int32) (n : Nat) (x3 : Int32) (u : SX) : Prop := wX_resetSide_60 post x1 (qx_modelSize u) (qx_literalBase u) (qx_matchLengthBase u) (qx_repLengthBase u) (qx_slotTreeBase u) (qx_reverseBase u) (qx_alignBase u) (qx_figureCount u) (qx_endValue u) (qx_storeSize u) (qx_topRange u) (qx_fullRange u) (qx_capacity u) (qx_slots u) (qx_shift u) (qx_lazy u) (qx_sourceLength u) (qx_codedLength u) (qx_encLow u) (qx_encRange u) (qx_encCache u) (qx_encPending u) (qx_decSlot u) (qx_decEnded u) (qx_decAt u) (qx_decRange u) (qx_decCode u) n x3 (qx_model u) (qx_figures u) (qx_reps u) (qx_source u) (qx_coded u) (qx_store u) (qx_storeLength u) (qx_output u)
theorem ex_resetSide_60 (post : SX → Prop) (x1 : Int32) (n : Nat) (x3 : Int32) (u : SX) : zx_resetSide_60 post x1 (n + 1) x3 u = (((4 ≤ x3 → (post u)) ∧ (¬ 4 ≤ x3 → (vp_in ((x1 * 4) + x3) 8 ∧ ∀ a_reps_6 : Nat → Int32, a_reps_6 = upd (qx_reps u) ((x1 * 4) + x3).toNatClampNeg 1 → (∀ x3_7 : Int32, x3_7 = x3 + 1 → (zx_resetSide_60 post x1 n x3_7 (ux_reps a_reps_6 u))))))) := rfl
def zx_resetSide_34 (post : SX → Prop) (x1 : Int32) (n : Nat) (x3 : Int32) (u : SX) : Prop := wX_resetSide_34 post x1 (qx_modelSize u) (qx_literalBase u) (qx_matchLengthBase u) (qx_repLengthBase u) (qx_slotTreeBase u) (qx_reverseBase u) (qx_alignBase u) (qx_figureCount u) (qx_endValue u) (qx_storeSize u) (qx_topRange u) (qx_fullRange u) (qx_capacity u) (qx_slots u) (qx_shift u) (qx_lazy u) (qx_sourceLength u) (qx_codedLength u) (qx_encLow u) (qx_encRange u) (qx_encCache u) (qx_encPending u) (qx_decSlot u) (qx_decEnded u) (qx_decAt u) (qx_decRange u) (qx_decCode u) n x3 (qx_model u) (qx_figures u) (qx_reps u) (qx_source u) (qx_coded u) (qx_store u) (qx_storeLength u) (qx_output u)
theorem ex_resetSide_34 (post : SX → Prop) (x1 : Int32) (n : Nat) (x3 : Int32) (u : SX) : zx_resetSide_34 post x1 (n + 1) x3 u = (((6 ≤ x3 → (∃ n60 : Nat, zx_resetSide_60 post x1 n60 0 u)) ∧ (¬ 6 ≤ x3 → (vp_in ((x1 * 6) + x3) 12 ∧ ∀ a_figures_9 : Nat → Int32, a_figures_9 = upd (qx_figures u) ((x1 * 6) + x3).toNatClampNeg 0 → (∀ x3_10 : Int32, x3_10 = x3 + 1 → (zx_resetSide_34 post x1 n x3_10 (ux_figures a_figures_9 u))))))) := rfl
def zx_resetSide_8 (post : SX → Prop) (x1 : Int32) (x2 : Int32) (n : Nat) (x3 : Int32) (u : SX) : Prop := wX_resetSide_8 post x1 x2 (qx_modelSize u) (qx_literalBase u) (qx_matchLengthBase u) (qx_repLengthBase u) (qx_slotTreeBase u) (qx_reverseBase u) (qx_alignBase u) (qx_figureCount u) (qx_endValue u) (qx_storeSize u) (qx_topRange u) (qx_fullRange u) (qx_capacity u) (qx_slots u) (qx_shift u) (qx_lazy u) (qx_sourceLength u) (qx_codedLength u) (qx_encLow u) (qx_encRange u) (qx_encCache u) (qx_encPending u) (qx_decSlot u) (qx_decEnded u) (qx_decAt u) (qx_decRange u) (qx_decCode u) n x3 (qx_model u) (qx_figures u) (qx_reps u) (qx_source u) (qx_coded u) (qx_store u) (qx_storeLength u) (qx_output u)
theorem ex_resetSide_8 (post : SX → Prop) (x1 : Int32) (x2 : Int32) (n : Nat) (x3 : Int32) (u : SX) : zx_resetSide_8 post x1 x2 (n + 1) x3 u = (((512 ≤ x3 → (∃ n34 : Nat, zx_resetSide_34 post x1 n34 0 u)) ∧ (¬ 512 ≤ x3 → (vp_in (x2 + x3) 1024 ∧ ∀ a_model_12 : Nat → Int32, a_model_12 = upd (qx_model u) (x2 + x3).toNatClampNeg 1024 → (∀ x3_13 : Int32, x3_13 = x3 + 1 → (zx_resetSide_8 post x1 x2 n x3_13 (ux_model a_model_12 u))))))) := rfl
theorem ex_resetSide (post : SX → Prop) (u : SX) (p0 : Int32) : wpX_resetSide post u p0 = (∀ x2_1 : Int32, x2_1 = p0 * 512 → (∃ n8 : Nat, zx_resetSide_8 post p0 x2_1 n8 0 u)) := rfl
theorem ex_resetEncoder (post : SX → Prop) (u : SX) : wpX_resetEncoder post u = (wpX_resetSide (fun (u2 : SX) => (post (ux_sourceLength_codedLength_encLow_encRange_encCache_encPending 0 0 0 4294967295 0 1 u2))) u 0) := rfl
theorem ex_resetDecoder (post : SX → Prop) (u : SX) : wpX_resetDecoder post u = (wpX_resetSide (fun (u2 : SX) => (post (ux_decSlot_decEnded_decAt_decRange_decCode (-1) 0 0 4294967295 0 u2))) u 1) := rfl
theorem ex_append (post : SX → Prop) (u : SX) (p0 : Int32) : wpX_append post u p0 = ((((qx_capacity u) ≤ (qx_sourceLength u) → (post u)) ∧ (¬ (qx_capacity u) ≤ (qx_sourceLength u) → (vp_in (qx_sourceLength u) 64 ∧ ∀ a_source_3 : Nat → Int32, a_source_3 = upd (qx_source u) (qx_sourceLength u).toNatClampNeg (p0 &&& 255) → (∀ f_sourceLength_4 : Int32, f_sourceLength_4 = (qx_sourceLength u) + 1 → (post (ux_sourceLength_source f_sourceLength_4 a_source_3 u))))))) := rfl
theorem ex_put (post : Int32 → SX → Prop) (u : SX) (p0 : Int32) : wpX_put post u p0 = ((((qx_sourceLength u) < (qx_capacity u) → (wpX_append (fun (u3 : SX) => (post (qx_sourceLength u3) u3)) u p0)) ∧ (¬ (qx_sourceLength u) < (qx_capacity u) → (post (-1) u)))) := rfl
def zx_putWord_18 (post : Int32 → SX → Prop) (x1 : Int32) (n : Nat) (x2 : Int32) (u : SX) : Prop := wX_putWord_18 post x1 n x2 (qx_modelSize u) (qx_literalBase u) (qx_matchLengthBase u) (qx_repLengthBase u) (qx_slotTreeBase u) (qx_reverseBase u) (qx_alignBase u) (qx_figureCount u) (qx_endValue u) (qx_storeSize u) (qx_topRange u) (qx_fullRange u) (qx_capacity u) (qx_slots u) (qx_shift u) (qx_lazy u) (qx_sourceLength u) (qx_codedLength u) (qx_encLow u) (qx_encRange u) (qx_encCache u) (qx_encPending u) (qx_decSlot u) (qx_decEnded u) (qx_decAt u) (qx_decRange u) (qx_decCode u) (qx_model u) (qx_figures u) (qx_reps u) (qx_source u) (qx_coded u) (qx_store u) (qx_storeLength u) (qx_output u)
theorem ex_putWord_18 (post : Int32 → SX → Prop) (x1 : Int32) (n : Nat) (x2 : Int32) (u : SX) : zx_putWord_18 post x1 (n + 1) x2 u = (((x2 < 0 → (post (qx_sourceLength u) u)) ∧ (¬ x2 < 0 → (wpX_append (fun (u4 : SX) => (∀ x2_39 : Int32, x2_39 = x2 + (-8) → (zx_putWord_18 post x1 n x2_39 u4))) u ((x1.toUInt32 >>> (x2.toUInt32 &&& Int32.toUInt32 31)).toInt32))))) := rfl
theorem ex_putWord (post : Int32 → SX → Prop) (u : SX) (p0 : Int32) : wpX_putWord post u p0 = (((4 ≤ ((qx_capacity u) - (qx_sourceLength u)) → (∃ n18 : Nat, zx_putWord_18 post p0 n18 24 u)) ∧ (¬ 4 ≤ ((qx_capacity u) - (qx_sourceLength u)) → (post (-1) u)))) := rfl
def zx_putCopy_41 (post : Int32 → SX → Prop) (x1 : Int32) (x2 : Int32) (n : Nat) (x3 : Int32) (u : SX) : Prop := wX_putCopy_41 post x1 x2 n x3 (qx_modelSize u) (qx_literalBase u) (qx_matchLengthBase u) (qx_repLengthBase u) (qx_slotTreeBase u) (qx_reverseBase u) (qx_alignBase u) (qx_figureCount u) (qx_endValue u) (qx_storeSize u) (qx_topRange u) (qx_fullRange u) (qx_capacity u) (qx_slots u) (qx_shift u) (qx_lazy u) (qx_sourceLength u) (qx_codedLength u) (qx_encLow u) (qx_encRange u) (qx_encCache u) (qx_encPending u) (qx_decSlot u) (qx_decEnded u) (qx_decAt u) (qx_decRange u) (qx_decCode u) (qx_model u) (qx_figures u) (qx_reps u) (qx_source u) (qx_coded u) (qx_store u) (qx_storeLength u) (qx_output u)
theorem ex_putCopy_41 (post : Int32 → SX → Prop) (x1 : Int32) (x2 : Int32) (n : Nat) (x3 : Int32) (u : SX) : zx_putCopy_41 post x1 x2 (n + 1) x3 u = (((x2 ≤ x3 → (post (qx_sourceLength u) u)) ∧ (¬ x2 ≤ x3 → (vp_in ((qx_sourceLength u) - x1) 64 ∧ (wpX_append (fun (u8 : SX) => (∀ x3_43 : Int32, x3_43 = x3 + 1 → (zx_putCopy_41 post x1 x2 n x3_43 u8))) u ((qx_source u) ((qx_sourceLength u) - x1).toNatClampNeg)))))) := rfl
theorem ex_putCopy (post : Int32 → SX → Prop) (u : SX) (p0 : Int32) (p1 : Int32) : wpX_putCopy post u p0 p1 = (((p0 < 1 → (post (-3) u)) ∧ (¬ p0 < 1 → ((p0 ≤ (qx_sourceLength u) → ((1 ≤ p1 → ((p1 ≤ ((qx_capacity u) - (qx_sourceLength u)) → (∃ n41 : Nat, zx_putCopy_41 post p0 p1 n41 0 u)) ∧ (¬ p1 ≤ ((qx_capacity u) - (qx_sourceLength u)) → (post (-1) u)))) ∧ (¬ 1 ≤ p1 → (post (-3) u)))) ∧ (¬ p0 ≤ (qx_sourceLength u) → (post (-3) u)))))) := rfl
theorem ex_updateChance (post : SX → Prop) (u : SX) (p0 : Int32) (p1 : Int32) : wpX_updateChance post u p0 p1 = (vp_in p0 1024 ∧ (∀ x3_2 : Int32, x3_2 = (qx_model u) p0.toNatClampNeg → ((p1 = 0 → (vp_in p0 1024 ∧ ∀ a_model_7 : Nat → Int32, a_model_7 = upd (qx_model u) p0.toNatClampNeg (x3_2 + ((2048 - x3_2) >>> ((qx_shift u) &&& 31))) → (post (ux_model a_model_7 u)))) ∧ (¬ p1 = 0 → (vp_in p0 1024 ∧ ∀ a_model_5 : Nat → Int32, a_model_5 = upd (qx_model u) p0.toNatClampNeg (x3_2 - (x3_2 >>> ((qx_shift u) &&& 31))) → (post (ux_model a_model_5 u))))))) := rfl
theorem ex_emit (post : SX → Prop) (u : SX) (p0 : Int32) : wpX_emit post u p0 = (((1024 ≤ (qx_codedLength u) → (post u)) ∧ (¬ 1024 ≤ (qx_codedLength u) → (vp_in (qx_codedLength u) 1024 ∧ ∀ a_coded_3 : Nat → Int32, a_coded_3 = upd (qx_coded u) (qx_codedLength u).toNatClampNeg (vp_nar .byte p0.toInt8.toInt32) → (∀ f_codedLength_4 : Int32, f_codedLength_4 = (qx_codedLength u) + 1 → (post (ux_codedLength_coded f_codedLength_4 a_coded_3 u))))))) := rfl
def zx_shiftLow_91 (post : SX → Prop) (u : SX) : Prop := wX_shiftLow_91 post (qx_modelSize u) (qx_literalBase u) (qx_matchLengthBase u) (qx_repLengthBase u) (qx_slotTreeBase u) (qx_reverseBase u) (qx_alignBase u) (qx_figureCount u) (qx_endValue u) (qx_storeSize u) (qx_topRange u) (qx_fullRange u) (qx_capacity u) (qx_slots u) (qx_shift u) (qx_lazy u) (qx_sourceLength u) (qx_codedLength u) (qx_encLow u) (qx_encRange u) (qx_encCache u) (qx_encPending u) (qx_decSlot u) (qx_decEnded u) (qx_decAt u) (qx_decRange u) (qx_decCode u) (qx_model u) (qx_figures u) (qx_reps u) (qx_source u) (qx_coded u) (qx_store u) (qx_storeLength u) (qx_output u)
theorem ex_shiftLow_91 (post : SX → Prop) (u : SX) : zx_shiftLow_91 post u = (∀ f_encPending_42 : Int32, f_encPending_42 = (qx_encPending u) + 1 → (∀ f_encLow_43 : Int64, f_encLow_43 = ((qx_encLow u) &&& 16777215) <<< ((8 : Int32).toInt64 &&& 63) → (post (ux_encLow_encPending f_encLow_43 f_encPending_42 u)))) := rfl
def zx_shiftLow_50 (post : SX → Prop) (x1 : Int32) (x2 : Int32) (n : Nat) (x3 : Int32) (u : SX) : Prop := wX_shiftLow_50 post x1 x2 n x3 (qx_modelSize u) (qx_literalBase u) (qx_matchLengthBase u) (qx_repLengthBase u) (qx_slotTreeBase u) (qx_reverseBase u) (qx_alignBase u) (qx_figureCount u) (qx_endValue u) (qx_storeSize u) (qx_topRange u) (qx_fullRange u) (qx_capacity u) (qx_slots u) (qx_shift u) (qx_lazy u) (qx_sourceLength u) (qx_codedLength u) (qx_encLow u) (qx_encRange u) (qx_encCache u) (qx_encPending u) (qx_decSlot u) (qx_decEnded u) (qx_decAt u) (qx_decRange u) (qx_decCode u) (qx_model u) (qx_figures u) (qx_reps u) (qx_source u) (qx_coded u) (qx_store u) (qx_storeLength u) (qx_output u)
theorem ex_shiftLow_50 (post : SX → Prop) (x1 : Int32) (x2 : Int32) (n : Nat) (x3 : Int32) (u : SX) : zx_shiftLow_50 post x1 x2 (n + 1) x3 u = (((x2 ≤ x3 → (∀ f_encCache_41 : Int32, f_encCache_41 = ((((qx_encLow u).toUInt64 >>> ((24 : Int32).toInt64.toUInt64 &&& Int64.toUInt64 63)).toInt64).toInt32) &&& 255 → (zx_shiftLow_91 post (ux_encCache_encPending f_encCache_41 0 u)))) ∧ (¬ x2 ≤ x3 → (wpX_emit (fun (u45 : SX) => (∀ x3_80 : Int32, x3_80 = x3 + 1 → (zx_shiftLow_50 post x1 x2 n x3_80 u45))) u (255 + x1))))) := rfl
def zx_shiftLow_22 (post : SX → Prop) (u : SX) : Prop := wX_shiftLow_22 post (qx_modelSize u) (qx_literalBase u) (qx_matchLengthBase u) (qx_repLengthBase u) (qx_slotTreeBase u) (qx_reverseBase u) (qx_alignBase u) (qx_figureCount u) (qx_endValue u) (qx_storeSize u) (qx_topRange u) (qx_fullRange u) (qx_capacity u) (qx_slots u) (qx_shift u) (qx_lazy u) (qx_sourceLength u) (qx_codedLength u) (qx_encLow u) (qx_encRange u) (qx_encCache u) (qx_encPending u) (qx_decSlot u) (qx_decEnded u) (qx_decAt u) (qx_decRange u) (qx_decCode u) (qx_model u) (qx_figures u) (qx_reps u) (qx_source u) (qx_coded u) (qx_store u) (qx_storeLength u) (qx_output u)
theorem ex_shiftLow_22 (post : SX → Prop) (u : SX) : zx_shiftLow_22 post u = (∀ x1_2 : Int32, x1_2 = (((qx_encLow u).toUInt64 >>> ((32 : Int32).toInt64.toUInt64 &&& Int64.toUInt64 63)).toInt64).toInt32 → (wpX_emit (fun (u4 : SX) => (∀ x2_39 : Int32, x2_39 = (qx_encPending u4) - 1 → (∃ n50 : Nat, zx_shiftLow_50 post x1_2 x2_39 n50 0 u4))) u ((qx_encCache u) + x1_2))) := rfl
theorem ex_shiftLow (post : SX → Prop) (u : SX) : wpX_shiftLow post u = ((((qx_encLow u) < 4278190080 → (zx_shiftLow_22 post u)) ∧ (¬ (qx_encLow u) < 4278190080 → (((qx_encLow u) ≤ 4294967295 → (zx_shiftLow_91 post u)) ∧ (¬ (qx_encLow u) ≤ 4294967295 → (zx_shiftLow_22 post u)))))) := rfl
theorem ex_normaliseEncoder (post : SX → Prop) (u : SX) : wpX_normaliseEncoder post u = (((16777216 ≤ (qx_encRange u) → (post u)) ∧ (¬ 16777216 ≤ (qx_encRange u) → (∀ f_encRange_2 : Int64, f_encRange_2 = (qx_encRange u) <<< ((8 : Int32).toInt64 &&& 63) → (wpX_shiftLow post (ux_encRange f_encRange_2 u)))))) := rfl
def zx_writeBit_48 (post : SX → Prop) (x1 : Int32) (x2 : Int32) (u : SX) : Prop := wX_writeBit_48 post x1 x2 (qx_modelSize u) (qx_literalBase u) (qx_matchLengthBase u) (qx_repLengthBase u) (qx_slotTreeBase u) (qx_reverseBase u) (qx_alignBase u) (qx_figureCount u) (qx_endValue u) (qx_storeSize u) (qx_topRange u) (qx_fullRange u) (qx_capacity u) (qx_slots u) (qx_shift u) (qx_lazy u) (qx_sourceLength u) (qx_codedLength u) (qx_encLow u) (qx_encRange u) (qx_encCache u) (qx_encPending u) (qx_decSlot u) (qx_decEnded u) (qx_decAt u) (qx_decRange u) (qx_decCode u) (qx_model u) (qx_figures u) (qx_reps u) (qx_source u) (qx_coded u) (qx_store u) (qx_storeLength u) (qx_output u)
theorem ex_writeBit_48 (post : SX → Prop) (x1 : Int32) (x2 : Int32) (u : SX) : zx_writeBit_48 post x1 x2 u = (wpX_updateChance (fun (u7 : SX) => (wpX_normaliseEncoder post u7)) u x1 x2) := rfl
theorem ex_writeBit (post : SX → Prop) (u : SX) (p0 : Int32) (p1 : Int32) : wpX_writeBit post u p0 p1 = (vp_in p0 1024 ∧ (∀ x3_2 : Int64, x3_2 = (((qx_encRange u).toUInt64 >>> ((11 : Int32).toInt64.toUInt64 &&& Int64.toUInt64 63)).toInt64) * (((qx_model u) p0.toNatClampNeg).toInt64) → ((p1 = 0 → (zx_writeBit_48 post p0 p1 (ux_encRange x3_2 u))) ∧ (¬ p1 = 0 → (∀ f_encLow_4 : Int64, f_encLow_4 = (qx_encLow u) + x3_2 → (∀ f_encRange_5 : Int64, f_encRange_5 = (qx_encRange u) - x3_2 → (zx_writeBit_48 post p0 p1 (ux_encLow_encRange f_encLow_4 f_encRange_5 u)))))))) := rfl
theorem ex_writeFlag (post : SX → Prop) (u : SX) (p0 : Int32) (p1 : Int32) : wpX_writeFlag post u p0 p1 = (wpX_writeBit post u ((p0 * 12) + ((qx_figures u) 2)) p1) := rfl
def zx_writeKind_64 (post : SX → Prop) (z0 : Int32) (z1 : Int32) (u : SX) : Prop := wX_writeKind_64 post z0 z1 (qx_modelSize u) (qx_literalBase u) (qx_matchLengthBase u) (qx_repLengthBase u) (qx_slotTreeBase u) (qx_reverseBase u) (qx_alignBase u) (qx_figureCount u) (qx_endValue u) (qx_storeSize u) (qx_topRange u) (qx_fullRange u) (qx_capacity u) (qx_slots u) (qx_shift u) (qx_lazy u) (qx_sourceLength u) (qx_codedLength u) (qx_encLow u) (qx_encRange u) (qx_encCache u) (qx_encPending u) (qx_decSlot u) (qx_decEnded u) (qx_decAt u) (qx_decRange u) (qx_decCode u) (qx_model u) (qx_figures u) (qx_reps u) (qx_source u) (qx_coded u) (qx_store u) (qx_storeLength u) (qx_output u)
theorem ex_writeKind_64 (post : SX → Prop) (z0 : Int32) (z1 : Int32) (u : SX) : zx_writeKind_64 post z0 z1 u = (wpX_writeFlag post u z1 z0) := rfl
def zx_writeKind_46 (post : SX → Prop) (x1 : Int32) (u : SX) : Prop := wX_writeKind_46 post x1 (qx_modelSize u) (qx_literalBase u) (qx_matchLengthBase u) (qx_repLengthBase u) (qx_slotTreeBase u) (qx_reverseBase u) (qx_alignBase u) (qx_figureCount u) (qx_endValue u) (qx_storeSize u) (qx_topRange u) (qx_fullRange u) (qx_capacity u) (qx_slots u) (qx_shift u) (qx_lazy u) (qx_sourceLength u) (qx_codedLength u) (qx_encLow u) (qx_encRange u) (qx_encCache u) (qx_encPending u) (qx_decSlot u) (qx_decEnded u) (qx_decAt u) (qx_decRange u) (qx_decCode u) (qx_model u) (qx_figures u) (qx_reps u) (qx_source u) (qx_coded u) (qx_store u) (qx_storeLength u) (qx_output u)
theorem ex_writeKind_46 (post : SX → Prop) (x1 : Int32) (u : SX) : zx_writeKind_46 post x1 u = (wpX_writeFlag (fun (u77 : SX) => ((x1 = 4 → (zx_writeKind_64 post 1 5 u77)) ∧ (¬ x1 = 4 → (zx_writeKind_64 post 0 5 u77)))) u 2 0) := rfl
def zx_writeKind_105 (post : SX → Prop) (z0 : Int32) (z1 : Int32) (u : SX) : Prop := wX_writeKind_105 post z0 z1 (qx_modelSize u) (qx_literalBase u) (qx_matchLengthBase u) (qx_repLengthBase u) (qx_slotTreeBase u) (qx_reverseBase u) (qx_alignBase u) (qx_figureCount u) (qx_endValue u) (qx_storeSize u) (qx_topRange u) (qx_fullRange u) (qx_capacity u) (qx_slots u) (qx_shift u) (qx_lazy u) (qx_sourceLength u) (qx_codedLength u) (qx_encLow u) (qx_encRange u) (qx_encCache u) (qx_encPending u) (qx_decSlot u) (qx_decEnded u) (qx_decAt u) (qx_decRange u) (qx_decCode u) (qx_model u) (qx_figures u) (qx_reps u) (qx_source u) (qx_coded u) (qx_store u) (qx_storeLength u) (qx_output u)
theorem ex_writeKind_105 (post : SX → Prop) (z0 : Int32) (z1 : Int32) (u : SX) : zx_writeKind_105 post z0 z1 u = (wpX_writeFlag post u z1 z0) := rfl
theorem ex_writeKind (post : SX → Prop) (u : SX) (p0 : Int32) : wpX_writeKind post u p0 = (((p0 = 1 → (wpX_writeFlag post u 0 0)) ∧ (¬ p0 = 1 → (wpX_writeFlag (fun (u3 : SX) => ((p0 = 2 → (wpX_writeFlag post u3 1 0)) ∧ (¬ p0 = 2 → (wpX_writeFlag (fun (u40 : SX) => ((p0 = 3 → (zx_writeKind_46 post p0 u40)) ∧ (¬ p0 = 3 → ((p0 = 4 → (zx_writeKind_46 post p0 u40)) ∧ (¬ p0 = 4 → (wpX_writeFlag (fun (u151 : SX) => ((p0 = 5 → (wpX_writeFlag post u151 3 0)) ∧ (¬ p0 = 5 → (wpX_writeFlag (fun (u188 : SX) => ((p0 = 7 → (zx_writeKind_105 post 1 4 u188)) ∧ (¬ p0 = 7 → (zx_writeKind_105 post 0 4 u188)))) u151 3 1)))) u40 2 1)))))) u3 1 1)))) u 0 1)))) := rfl
def zx_writeTree_8 (post : SX → Prop) (x1 : Int32) (x3 : Int32) (n : Nat) (x4 : Int32) (x5 : Int32) (u : SX) : Prop := wX_writeTree_8 post x1 x3 n x4 x5 (qx_modelSize u) (qx_literalBase u) (qx_matchLengthBase u) (qx_repLengthBase u) (qx_slotTreeBase u) (qx_reverseBase u) (qx_alignBase u) (qx_figureCount u) (qx_endValue u) (qx_storeSize u) (qx_topRange u) (qx_fullRange u) (qx_capacity u) (qx_slots u) (qx_shift u) (qx_lazy u) (qx_sourceLength u) (qx_codedLength u) (qx_encLow u) (qx_encRange u) (qx_encCache u) (qx_encPending u) (qx_decSlot u) (qx_decEnded u) (qx_decAt u) (qx_decRange u) (qx_decCode u) (qx_model u) (qx_figures u) (qx_reps u) (qx_source u) (qx_coded u) (qx_store u) (qx_storeLength u) (qx_output u)
theorem ex_writeTree_8 (post : SX → Prop) (x1 : Int32) (x3 : Int32) (n : Nat) (x4 : Int32) (x5 : Int32) (u : SX) : zx_writeTree_8 post x1 x3 (n + 1) x4 x5 u = (((x5 < 0 → (post u)) ∧ (¬ x5 < 0 → (∀ x6_3 : Int32, x6_3 = (x3 >>> (x5 &&& 31)) &&& 1 → (wpX_writeBit (fun (u5 : SX) => (∀ x4_40 : Int32, x4_40 = (2 * x4) + x6_3 → (∀ x5_41 : Int32, x5_41 = x5 + (-1) → (zx_writeTree_8 post x1 x3 n x4_40 x5_41 u5)))) u (x1 + x4) x6_3))))) := rfl
theorem ex_writeTree (post : SX → Prop) (u : SX) (p0 : Int32) (p1 : Int32) (p2 : Int32) : wpX_writeTree post u p0 p1 p2 = (∀ x5_1 : Int32, x5_1 = p1 - 1 → (∃ n8 : Nat, zx_writeTree_8 post p0 p2 n8 1 x5_1 u)) := rfl
theorem ex_writeLength (post : SX → Prop) (u : SX) (p0 : Int32) (p1 : Int32) : wpX_writeLength post u p0 p1 = (∀ x3_1 : Int32, x3_1 = p1 - 2 → (∀ x4_2 : Int32, x4_2 = (x3_1 >>> ((3 : Int32) &&& 31)) &&& 1 → (wpX_writeBit (fun (u4 : SX) => (wpX_writeTree post u4 (p0 + (8 * x4_2)) 3 (x3_1 &&& 7))) u p0 x4_2))) := rfl
def zx_slotOf_11 (post : Int32 → Prop) (x1 : Int32) (n : Nat) (x2 : Int32) (x3 : Int32) (u : SX) : Prop := wX_slotOf_11 post x1 (qx_modelSize u) (qx_literalBase u) (qx_matchLengthBase u) (qx_repLengthBase u) (qx_slotTreeBase u) (qx_reverseBase u) (qx_alignBase u) (qx_figureCount u) (qx_endValue u) (qx_storeSize u) (qx_topRange u) (qx_fullRange u) (qx_capacity u) (qx_slots u) (qx_shift u) (qx_lazy u) (qx_sourceLength u) (qx_codedLength u) (qx_encLow u) (qx_encRange u) (qx_encCache u) (qx_encPending u) (qx_decSlot u) (qx_decEnded u) (qx_decAt u) (qx_decRange u) (qx_decCode u) (qx_model u) (qx_figures u) (qx_reps u) (qx_source u) (qx_coded u) (qx_store u) (qx_storeLength u) (qx_output u) n x2 x3
theorem ex_slotOf_11 (post : Int32 → Prop) (x1 : Int32) (n : Nat) (x2 : Int32) (x3 : Int32) (u : SX) : zx_slotOf_11 post x1 (n + 1) x2 x3 u = (((8 ≤ x3 → (post ((2 * x2) + ((x1 >>> ((x2 - 1) &&& 31)) &&& 1)))) ∧ (¬ 8 ≤ x3 → (((x1 >>> (x3 &&& 31)) = 0 → (∀ x3_4 : Int32, x3_4 = x3 + 1 → (zx_slotOf_11 post x1 n x2 x3_4 u))) ∧ (¬ (x1 >>> (x3 &&& 31)) = 0 → (∀ x3_5 : Int32, x3_5 = x3 + 1 → (zx_slotOf_11 post x1 n x3 x3_5 u))))))) := rfl
theorem ex_slotOf (post : Int32 → Prop) (u : SX) (p0 : Int32) : wpX_slotOf post u p0 = (((4 ≤ p0 → (∃ n11 : Nat, zx_slotOf_11 post p0 n11 2 3 u)) ∧ (¬ 4 ≤ p0 → (post p0)))) := rfl
theorem ex_slotTreeFor (post : Int32 → Prop) (u : SX) (p0 : Int32) : wpX_slotTreeFor post u p0 = (∀ x2_1 : Int32, x2_1 = p0 - 2 → ((x2_1 ≤ 3 → (post (360 + (x2_1 * 16)))) ∧ (¬ x2_1 ≤ 3 → (post (360 + ((3 : Int32) * 16)))))) := rfl
def zx_writeReverse_6 (post : SX → Prop) (x1 : Int32) (x2 : Int32) (x3 : Int32) (n : Nat) (x4 : Int32) (x5 : Int32) (u : SX) : Prop := wX_writeReverse_6 post x1 x2 x3 n x4 x5 (qx_modelSize u) (qx_literalBase u) (qx_matchLengthBase u) (qx_repLengthBase u) (qx_slotTreeBase u) (qx_reverseBase u) (qx_alignBase u) (qx_figureCount u) (qx_endValue u) (qx_storeSize u) (qx_topRange u) (qx_fullRange u) (qx_capacity u) (qx_slots u) (qx_shift u) (qx_lazy u) (qx_sourceLength u) (qx_codedLength u) (qx_encLow u) (qx_encRange u) (qx_encCache u) (qx_encPending u) (qx_decSlot u) (qx_decEnded u) (qx_decAt u) (qx_decRange u) (qx_decCode u) (qx_model u) (qx_figures u) (qx_reps u) (qx_source u) (qx_coded u) (qx_store u) (qx_storeLength u) (qx_output u)
theorem ex_writeReverse_6 (post : SX → Prop) (x1 : Int32) (x2 : Int32) (x3 : Int32) (n : Nat) (x4 : Int32) (x5 : Int32) (u : SX) : zx_writeReverse_6 post x1 x2 x3 (n + 1) x4 x5 u = (((x2 ≤ x5 → (post u)) ∧ (¬ x2 ≤ x5 → (∀ x6_2 : Int32, x6_2 = (x3 >>> (x5 &&& 31)) &&& 1 → (wpX_writeBit (fun (u4 : SX) => (∀ x4_39 : Int32, x4_39 = (2 * x4) + x6_2 → (∀ x5_40 : Int32, x5_40 = x5 + 1 → (zx_writeReverse_6 post x1 x2 x3 n x4_39 x5_40 u4)))) u (x1 + x4) x6_2))))) := rfl
theorem ex_writeReverse (post : SX → Prop) (u : SX) (p0 : Int32) (p1 : Int32) (p2 : Int32) : wpX_writeReverse post u p0 p1 p2 = (∃ n6 : Nat, zx_writeReverse_6 post p0 p1 p2 n6 1 0 u) := rfl
def zx_writeDirect_4 (post : SX → Prop) (x2 : Int32) (n : Nat) (x3 : Int32) (u : SX) : Prop := wX_writeDirect_4 post x2 n x3 (qx_modelSize u) (qx_literalBase u) (qx_matchLengthBase u) (qx_repLengthBase u) (qx_slotTreeBase u) (qx_reverseBase u) (qx_alignBase u) (qx_figureCount u) (qx_endValue u) (qx_storeSize u) (qx_topRange u) (qx_fullRange u) (qx_capacity u) (qx_slots u) (qx_shift u) (qx_lazy u) (qx_sourceLength u) (qx_codedLength u) (qx_encLow u) (qx_encRange u) (qx_encCache u) (qx_encPending u) (qx_decSlot u) (qx_decEnded u) (qx_decAt u) (qx_decRange u) (qx_decCode u) (qx_model u) (qx_figures u) (qx_reps u) (qx_source u) (qx_coded u) (qx_store u) (qx_storeLength u) (qx_output u)
theorem ex_writeDirect_4 (post : SX → Prop) (x2 : Int32) (n : Nat) (x3 : Int32) (u : SX) : zx_writeDirect_4 post x2 (n + 1) x3 u = (((x3 < 0 → (post u)) ∧ (¬ x3 < 0 → (∀ f_encRange_3 : Int64, f_encRange_3 = ((qx_encRange u).toUInt64 >>> ((1 : Int32).toInt64.toUInt64 &&& Int64.toUInt64 63)).toInt64 → ((((x2 >>> (x3 &&& 31)) &&& 1) = 1 → (∀ f_encLow_42 : Int64, f_encLow_42 = (qx_encLow u) + f_encRange_3 → (wpX_normaliseEncoder (fun (u6 : SX) => (∀ x3_41 : Int32, x3_41 = x3 + (-1) → (zx_writeDirect_4 post x2 n x3_41 u6))) (ux_encLow_encRange f_encLow_42 f_encRange_3 u)))) ∧ (¬ ((x2 >>> (x3 &&& 31)) &&& 1) = 1 → (wpX_normaliseEncoder (fun (u6 : SX) => (∀ x3_41 : Int32, x3_41 = x3 + (-1) → (zx_writeDirect_4 post x2 n x3_41 u6))) (ux_encRange f_encRange_3 u)))))))) := rfl
theorem ex_writeDirect (post : SX → Prop) (u : SX) (p0 : Int32) (p1 : Int32) : wpX_writeDirect post u p0 p1 = (∀ x3_1 : Int32, x3_1 = p0 - 1 → (∃ n4 : Nat, zx_writeDirect_4 post p1 n4 x3_1 u)) := rfl
theorem ex_writeDistance (post : SX → Prop) (u : SX) (p0 : Int32) (p1 : Int32) : wpX_writeDistance post u p0 p1 = (wpX_slotOf (fun r_1 => (wpX_slotTreeFor (fun r_37 => (wpX_writeTree (fun (u74 : SX) => ((4 ≤ r_1 → (∀ x5_110 : Int32, x5_110 = (r_1 >>> ((1 : Int32) &&& 31)) - 1 → (∀ x6_111 : Int32, x6_111 = p0 - ((2 ||| (r_1 &&& 1)) <<< (x5_110 &&& 31)) → ((10 ≤ r_1 → (wpX_writeDirect (fun (u114 : SX) => (wpX_writeReverse post u114 472 2 (x6_111 &&& 3))) u74 (x5_110 - 2) (x6_111 >>> ((2 : Int32) &&& 31)))) ∧ (¬ 10 ≤ r_1 → (wpX_writeReverse post u74 (424 + ((r_1 - 4) * 8)) x5_110 x6_111)))))) ∧ (¬ 4 ≤ r_1 → (post u74)))) u r_37 4 r_1)) u p1)) u p0) := rfl
def zx_moveToFront_8 (post : SX → Prop) (x3 : Int32) (x4 : Int32) (n : Nat) (x5 : Int32) (u : SX) : Prop := wX_moveToFront_8 post x3 x4 (qx_modelSize u) (qx_literalBase u) (qx_matchLengthBase u) (qx_repLengthBase u) (qx_slotTreeBase u) (qx_reverseBase u) (qx_alignBase u) (qx_figureCount u) (qx_endValue u) (qx_storeSize u) (qx_topRange u) (qx_fullRange u) (qx_capacity u) (qx_slots u) (qx_shift u) (qx_lazy u) (qx_sourceLength u) (qx_codedLength u) (qx_encLow u) (qx_encRange u) (qx_encCache u) (qx_encPending u) (qx_decSlot u) (qx_decEnded u) (qx_decAt u) (qx_decRange u) (qx_decCode u) n x5 (qx_model u) (qx_figures u) (qx_reps u) (qx_source u) (qx_coded u) (qx_store u) (qx_storeLength u) (qx_output u)
theorem ex_moveToFront_8 (post : SX → Prop) (x3 : Int32) (x4 : Int32) (n : Nat) (x5 : Int32) (u : SX) : zx_moveToFront_8 post x3 x4 (n + 1) x5 u = (((x5 ≤ 0 → (vp_in x4 8 ∧ ∀ a_reps_4 : Nat → Int32, a_reps_4 = upd (qx_reps u) x4.toNatClampNeg x3 → (post (ux_reps a_reps_4 u)))) ∧ (¬ x5 ≤ 0 → (vp_in ((x4 + x5) - 1) 8 ∧ (vp_in (x4 + x5) 8 ∧ ∀ a_reps_7 : Nat → Int32, a_reps_7 = upd (qx_reps u) (x4 + x5).toNatClampNeg ((qx_reps u) ((x4 + x5) - 1).toNatClampNeg) → (∀ x5_8 : Int32, x5_8 = x5 + (-1) → (zx_moveToFront_8 post x3 x4 n x5_8 (ux_reps a_reps_7 u)))))))) := rfl
theorem ex_moveToFront (post : SX → Prop) (u : SX) (p0 : Int32) (p1 : Int32) (p2 : Int32) : wpX_moveToFront post u p0 p1 p2 = (∀ x4_1 : Int32, x4_1 = p0 * 4 → (∃ n8 : Nat, zx_moveToFront_8 post p2 x4_1 n8 p1 u)) := rfl
theorem ex_nextState (post : Int32 → Prop) (u : SX) (p0 : Int32) (p1 : Int32) : wpX_nextState post u p0 p1 = (((p1 = 1 → ((4 ≤ p0 → ((10 ≤ p0 → (post (p0 - 6))) ∧ (¬ 10 ≤ p0 → (post (p0 - 3))))) ∧ (¬ 4 ≤ p0 → (post 0)))) ∧ (¬ p1 = 1 → ((p1 = 2 → ((7 ≤ p0 → (post 10)) ∧ (¬ 7 ≤ p0 → (post 7)))) ∧ (¬ p1 = 2 → ((p1 = 3 → ((7 ≤ p0 → (post 11)) ∧ (¬ 7 ≤ p0 → (post 9)))) ∧ (¬ p1 = 3 → ((7 ≤ p0 → (post 11)) ∧ (¬ 7 ≤ p0 → (post 8)))))))))) := rfl
def zx_applyToken_94 (post : SX → Prop) (x2 : Int32) (x5 : Int32) (u : SX) : Prop := wX_applyToken_94 post x2 x5 (qx_modelSize u) (qx_literalBase u) (qx_matchLengthBase u) (qx_repLengthBase u) (qx_slotTreeBase u) (qx_reverseBase u) (qx_alignBase u) (qx_figureCount u) (qx_endValue u) (qx_storeSize u) (qx_topRange u) (qx_fullRange u) (qx_capacity u) (qx_slots u) (qx_shift u) (qx_lazy u) (qx_sourceLength u) (qx_codedLength u) (qx_encLow u) (qx_encRange u) (qx_encCache u) (qx_encPending u) (qx_decSlot u) (qx_decEnded u) (qx_decAt u) (qx_decRange u) (qx_decCode u) (qx_model u) (qx_figures u) (qx_reps u) (qx_source u) (qx_coded u) (qx_store u) (qx_storeLength u) (qx_output u)
theorem ex_applyToken_94 (post : SX → Prop) (x2 : Int32) (x5 : Int32) (u : SX) : zx_applyToken_94 post x2 x5 u = (vp_in (x5 + 2) 12 ∧ (wpX_nextState (fun r_17 => (vp_in (x5 + 2) 12 ∧ ∀ a_figures_54 : Nat → Int32, a_figures_54 = upd (qx_figures u) (x5 + 2).toNatClampNeg r_17 → (post (ux_figures a_figures_54 u)))) u ((qx_figures u) (x5 + 2).toNatClampNeg) x2)) := rfl
theorem ex_applyToken (post : SX → Prop) (u : SX) (p0 : Int32) (p1 : Int32) (p2 : Int32) (p3 : Int32) : wpX_applyToken post u p0 p1 p2 p3 = (∀ x5_1 : Int32, x5_1 = p0 * 6 → (vp_in (x5_1 + 0) 12 ∧ (vp_in (x5_1 + 0) 12 ∧ ∀ a_figures_4 : Nat → Int32, a_figures_4 = upd (qx_figures u) (x5_1 + 0).toNatClampNeg (((qx_figures u) (x5_1 + 0).toNatClampNeg) + p2) → (vp_in (x5_1 + 1) 12 ∧ (vp_in (x5_1 + 1) 12 ∧ ∀ a_figures_7 : Nat → Int32, a_figures_7 = upd a_figures_4 (x5_1 + 1).toNatClampNeg ((a_figures_4 (x5_1 + 1).toNatClampNeg) + 1) → (vp_in (x5_1 + 3) 12 ∧ ∀ a_figures_9 : Nat → Int32, a_figures_9 = upd a_figures_7 (x5_1 + 3).toNatClampNeg p1 → (vp_in (x5_1 + 4) 12 ∧ ∀ a_figures_11 : Nat → Int32, a_figures_11 = upd a_figures_9 (x5_1 + 4).toNatClampNeg p2 → (vp_in (x5_1 + 5) 12 ∧ ∀ a_figures_13 : Nat → Int32, a_figures_13 = upd a_figures_11 (x5_1 + 5).toNatClampNeg p3 → ((p1 = 2 → (wpX_moveToFront (fun (u92 : SX) => (zx_applyToken_94 post p1 x5_1 u92)) (ux_figures a_figures_13 u) p0 3 p3)) ∧ (¬ p1 = 2 → ((p1 < 4 → (zx_applyToken_94 post p1 x5_1 (ux_figures a_figures_13 u))) ∧ (¬ p1 < 4 → (wpX_moveToFront (fun (u56 : SX) => (zx_applyToken_94 post p1 x5_1 u56)) (ux_figures a_figures_13 u) p0 (p1 - 4) p3))))))))))))) := rfl
def zx_writeToken_69 (post : Int32 → SX → Prop) (x1 : Int32) (x2 : Int32) (x3 : Int32) (u : SX) : Prop := wX_writeToken_69 post x1 x2 x3 (qx_modelSize u) (qx_literalBase u) (qx_matchLengthBase u) (qx_repLengthBase u) (qx_slotTreeBase u) (qx_reverseBase u) (qx_alignBase u) (qx_figureCount u) (qx_endValue u) (qx_storeSize u) (qx_topRange u) (qx_fullRange u) (qx_capacity u) (qx_slots u) (qx_shift u) (qx_lazy u) (qx_sourceLength u) (qx_codedLength u) (qx_encLow u) (qx_encRange u) (qx_encCache u) (qx_encPending u) (qx_decSlot u) (qx_decEnded u) (qx_decAt u) (qx_decRange u) (qx_decCode u) (qx_model u) (qx_figures u) (qx_reps u) (qx_source u) (qx_coded u) (qx_store u) (qx_storeLength u) (qx_output u)
theorem ex_writeToken_69 (post : Int32 → SX → Prop) (x1 : Int32) (x2 : Int32) (x3 : Int32) (u : SX) : zx_writeToken_69 post x1 x2 x3 u = (wpX_applyToken (fun (u41 : SX) => (post x1 u41)) u 0 x1 x2 x3) := rfl
theorem ex_writeToken (post : Int32 → SX → Prop) (u : SX) (p0 : Int32) (p1 : Int32) (p2 : Int32) : wpX_writeToken post u p0 p1 p2 = (wpX_writeKind (fun (u2 : SX) => ((p0 = 1 → (vp_in ((qx_figures u2) 0) 64 ∧ (wpX_writeTree (fun (u186 : SX) => (zx_writeToken_69 post p0 p1 p2 u186)) u2 72 8 ((qx_source u2) ((qx_figures u2) 0).toNatClampNeg)))) ∧ (¬ p0 = 1 → ((p0 = 2 → (wpX_writeLength (fun (u113 : SX) => (wpX_writeDistance (fun (u149 : SX) => (zx_writeToken_69 post p0 p1 p2 u149)) u113 (p2 - 1) p1)) u2 328 p1)) ∧ (¬ p0 = 2 → ((p0 < 4 → (zx_writeToken_69 post p0 p1 p2 u2)) ∧ (¬ p0 < 4 → (wpX_writeLength (fun (u77 : SX) => (zx_writeToken_69 post p0 p1 p2 u77)) u2 344 p1)))))))) u p0) := rfl
theorem ex_encodeLiteral (post : Int32 → SX → Prop) (u : SX) : wpX_encodeLiteral post u = (((((qx_figures u) 0) < (qx_sourceLength u) → (wpX_writeToken post u 1 1 0)) ∧ (¬ ((qx_figures u) 0) < (qx_sourceLength u) → (post (-2) u)))) := rfl
def zx_run_31 (post : Int32 → Prop) (x1 : Int32) (x2 : Int32) (x3 : Int32) (n : Nat) (x4 : Int32) (u : SX) : Prop := wX_run_31 post x1 x2 x3 (qx_modelSize u) (qx_literalBase u) (qx_matchLengthBase u) (qx_repLengthBase u) (qx_slotTreeBase u) (qx_reverseBase u) (qx_alignBase u) (qx_figureCount u) (qx_endValue u) (qx_storeSize u) (qx_topRange u) (qx_fullRange u) (qx_capacity u) (qx_slots u) (qx_shift u) (qx_lazy u) (qx_sourceLength u) (qx_codedLength u) (qx_encLow u) (qx_encRange u) (qx_encCache u) (qx_encPending u) (qx_decSlot u) (qx_decEnded u) (qx_decAt u) (qx_decRange u) (qx_decCode u) (qx_model u) (qx_figures u) (qx_reps u) (qx_source u) (qx_coded u) (qx_store u) (qx_storeLength u) (qx_output u) n x4
theorem ex_run_31 (post : Int32 → Prop) (x1 : Int32) (x2 : Int32) (x3 : Int32) (n : Nat) (x4 : Int32) (u : SX) : zx_run_31 post x1 x2 x3 (n + 1) x4 u = (((x3 ≤ x4 → (post x4)) ∧ (¬ x3 ≤ x4 → (vp_in (x1 + x4) 64 ∧ (vp_in ((x1 + x4) - x2) 64 ∧ ((((qx_source u) (x1 + x4).toNatClampNeg) = ((qx_source u) ((x1 + x4) - x2).toNatClampNeg) → (∀ x4_9 : Int32, x4_9 = x4 + 1 → (zx_run_31 post x1 x2 x3 n x4_9 u))) ∧ (¬ ((qx_source u) (x1 + x4).toNatClampNeg) = ((qx_source u) ((x1 + x4) - x2).toNatClampNeg) → (post x4)))))))) := rfl
theorem ex_run (post : Int32 → Prop) (u : SX) (p0 : Int32) (p1 : Int32) : wpX_run post u p0 p1 = (((p1 < 1 → (post 0)) ∧ (¬ p1 < 1 → ((p1 ≤ p0 → (∀ x3_3 : Int32, x3_3 = (qx_sourceLength u) - p0 → ((x3_3 ≤ 17 → (∃ n31 : Nat, zx_run_31 post p0 p1 x3_3 n31 0 u)) ∧ (¬ x3_3 ≤ 17 → (∃ n31 : Nat, zx_run_31 post p0 p1 17 n31 0 u))))) ∧ (¬ p1 ≤ p0 → (post 0)))))) := rfl
theorem ex_encodeMatch (post : Int32 → SX → Prop) (u : SX) (p0 : Int32) (p1 : Int32) : wpX_encodeMatch post u p0 p1 = (∀ x3_1 : Int32, x3_1 = (qx_figures u) 0 → ((x3_1 < (qx_sourceLength u) → ((p1 < 2 → (post (-3) u)) ∧ (¬ p1 < 2 → ((p1 ≤ 17 → ((p0 < 1 → (post (-3) u)) ∧ (¬ p0 < 1 → ((p0 ≤ x3_1 → ((p1 ≤ ((qx_sourceLength u) - x3_1) → (wpX_run (fun r_8 => ((p1 ≤ r_8 → (wpX_writeToken post u 2 p1 p0)) ∧ (¬ p1 ≤ r_8 → (post (-4) u)))) u x3_1 p0)) ∧ (¬ p1 ≤ ((qx_sourceLength u) - x3_1) → (post (-9) u)))) ∧ (¬ p0 ≤ x3_1 → (post (-3) u)))))) ∧ (¬ p1 ≤ 17 → (post (-3) u)))))) ∧ (¬ x3_1 < (qx_sourceLength u) → (post (-2) u)))) := rfl
def zx_encodeRep_113 (post : Int32 → SX → Prop) (x2 : Int32) (x4 : Int32) (x5 : Int32) (u : SX) : Prop := wX_encodeRep_113 post x2 x4 x5 (qx_modelSize u) (qx_literalBase u) (qx_matchLengthBase u) (qx_repLengthBase u) (qx_slotTreeBase u) (qx_reverseBase u) (qx_alignBase u) (qx_figureCount u) (qx_endValue u) (qx_storeSize u) (qx_topRange u) (qx_fullRange u) (qx_capacity u) (qx_slots u) (qx_shift u) (qx_lazy u) (qx_sourceLength u) (qx_codedLength u) (qx_encLow u) (qx_encRange u) (qx_encCache u) (qx_encPending u) (qx_decSlot u) (qx_decEnded u) (qx_decAt u) (qx_decRange u) (qx_decCode u) (qx_model u) (qx_figures u) (qx_reps u) (qx_source u) (qx_coded u) (qx_store u) (qx_storeLength u) (qx_output u)
theorem ex_encodeRep_113 (post : Int32 → SX → Prop) (x2 : Int32) (x4 : Int32) (x5 : Int32) (u : SX) : zx_encodeRep_113 post x2 x4 x5 u = (wpX_writeToken post u x5 x2 x4) := rfl
def zx_encodeRep_56 (post : Int32 → SX → Prop) (x1 : Int32) (x2 : Int32) (x3 : Int32) (u : SX) : Prop := wX_encodeRep_56 post x1 x2 x3 (qx_modelSize u) (qx_literalBase u) (qx_matchLengthBase u) (qx_repLengthBase u) (qx_slotTreeBase u) (qx_reverseBase u) (qx_alignBase u) (qx_figureCount u) (qx_endValue u) (qx_storeSize u) (qx_topRange u) (qx_fullRange u) (qx_capacity u) (qx_slots u) (qx_shift u) (qx_lazy u) (qx_sourceLength u) (qx_codedLength u) (qx_encLow u) (qx_encRange u) (qx_encCache u) (qx_encPending u) (qx_decSlot u) (qx_decEnded u) (qx_decAt u) (qx_decRange u) (qx_decCode u) (qx_model u) (qx_figures u) (qx_reps u) (qx_source u) (qx_coded u) (qx_store u) (qx_storeLength u) (qx_output u)
theorem ex_encodeRep_56 (post : Int32 → SX → Prop) (x1 : Int32) (x2 : Int32) (x3 : Int32) (u : SX) : zx_encodeRep_56 post x1 x2 x3 u = (vp_in x1 8 ∧ (∀ x4_9 : Int32, x4_9 = (qx_reps u) x1.toNatClampNeg → ((x4_9 ≤ x3 → ((x2 ≤ ((qx_sourceLength u) - x3) → (wpX_run (fun r_12 => ((x2 ≤ r_12 → (∀ x5_49 : Int32, x5_49 = 4 + x1 → ((x2 = 1 → (zx_encodeRep_113 post x2 x4_9 3 u)) ∧ (¬ x2 = 1 → (zx_encodeRep_113 post x2 x4_9 x5_49 u))))) ∧ (¬ x2 ≤ r_12 → (post (-4) u)))) u x3 x4_9)) ∧ (¬ x2 ≤ ((qx_sourceLength u) - x3) → (post (-9) u)))) ∧ (¬ x4_9 ≤ x3 → (post (-3) u))))) := rfl
end
section
theorem ex_encodeRep (post : Int32 → SX → Prop) (u : SX) (p0 : Int32) (p1 : Int32) : wpX_encodeRep post u p0 p1 = (∀ x3_1 : Int32, x3_1 = (qx_figures u) 0 → ((x3_1 < (qx_sourceLength u) → ((p0 < 0 → (post (-3) u)) ∧ (¬ p0 < 0 → ((p0 ≤ 3 → ((p1 < 1 → (post (-3) u)) ∧ (¬ p1 < 1 → ((p1 ≤ 17 → ((p1 = 1 → ((p0 = 0 → (zx_encodeRep_56 post p0 p1 x3_1 u)) ∧ (¬ p0 = 0 → (post (-3) u)))) ∧ (¬ p1 = 1 → (zx_encodeRep_56 post p0 p1 x3_1 u)))) ∧ (¬ p1 ≤ 17 → (post (-3) u)))))) ∧ (¬ p0 ≤ 3 → (post (-3) u)))))) ∧ (¬ x3_1 < (qx_sourceLength u) → (post (-2) u)))) := rfl
def zx_greatestRun_4 (post : Int32 → Prop) (x1 : Int32) (n : Nat) (x2 : Int32) (x3 : Int32) (u : SX) : Prop := wX_greatestRun_4 post x1 (qx_modelSize u) (qx_literalBase u) (qx_matchLengthBase u) (qx_repLengthBase u) (qx_slotTreeBase u) (qx_reverseBase u) (qx_alignBase u) (qx_figureCount u) (qx_endValue u) (qx_storeSize u) (qx_topRange u) (qx_fullRange u) (qx_capacity u) (qx_slots u) (qx_shift u) (qx_lazy u) (qx_sourceLength u) (qx_codedLength u) (qx_encLow u) (qx_encRange u) (qx_encCache u) (qx_encPending u) (qx_decSlot u) (qx_decEnded u) (qx_decAt u) (qx_decRange u) (qx_decCode u) (qx_model u) (qx_figures u) (qx_reps u) (qx_source u) (qx_coded u) (qx_store u) (qx_storeLength u) (qx_output u) n x2 x3
theorem ex_greatestRun_4 (post : Int32 → Prop) (x1 : Int32) (n : Nat) (x2 : Int32) (x3 : Int32) (u : SX) : zx_greatestRun_4 post x1 (n + 1) x2 x3 u = (((x1 < x3 → (post x2)) ∧ (¬ x1 < x3 → (wpX_run (fun r_2 => ((r_2 ≤ x2 → (∀ x3_39 : Int32, x3_39 = x3 + 1 → (zx_greatestRun_4 post x1 n x2 x3_39 u))) ∧ (¬ r_2 ≤ x2 → (∀ x3_40 : Int32, x3_40 = x3 + 1 → (zx_greatestRun_4 post x1 n r_2 x3_40 u))))) u x1 x3)))) := rfl
theorem ex_greatestRun (post : Int32 → Prop) (u : SX) (p0 : Int32) : wpX_greatestRun post u p0 = (∃ n4 : Nat, zx_greatestRun_4 post p0 n4 0 1 u) := rfl
def zx_bestRepIndex_17 (post : Int32 → Prop) (x1 : Int32) (n : Nat) (x2 : Int32) (x3 : Int32) (x4 : Int32) (u : SX) : Prop := wX_bestRepIndex_17 post x1 (qx_modelSize u) (qx_literalBase u) (qx_matchLengthBase u) (qx_repLengthBase u) (qx_slotTreeBase u) (qx_reverseBase u) (qx_alignBase u) (qx_figureCount u) (qx_endValue u) (qx_storeSize u) (qx_topRange u) (qx_fullRange u) (qx_capacity u) (qx_slots u) (qx_shift u) (qx_lazy u) (qx_sourceLength u) (qx_codedLength u) (qx_encLow u) (qx_encRange u) (qx_encCache u) (qx_encPending u) (qx_decSlot u) (qx_decEnded u) (qx_decAt u) (qx_decRange u) (qx_decCode u) (qx_model u) (qx_figures u) (qx_reps u) (qx_source u) (qx_coded u) (qx_store u) (qx_storeLength u) (qx_output u) n x2 x3 x4
theorem ex_bestRepIndex_17 (post : Int32 → Prop) (x1 : Int32) (n : Nat) (x2 : Int32) (x3 : Int32) (x4 : Int32) (u : SX) : zx_bestRepIndex_17 post x1 (n + 1) x2 x3 x4 u = (((4 ≤ x4 → (post x2)) ∧ (¬ 4 ≤ x4 → (vp_in x4 8 ∧ (wpX_run (fun r_39 => ((r_39 ≤ x3 → (∀ x4_76 : Int32, x4_76 = x4 + 1 → (zx_bestRepIndex_17 post x1 n x2 x3 x4_76 u))) ∧ (¬ r_39 ≤ x3 → (∀ x4_77 : Int32, x4_77 = x4 + 1 → (zx_bestRepIndex_17 post x1 n x4 r_39 x4_77 u))))) u x1 ((qx_reps u) x4.toNatClampNeg)))))) := rfl
theorem ex_bestRepIndex (post : Int32 → Prop) (u : SX) (p0 : Int32) : wpX_bestRepIndex post u p0 = (wpX_run (fun r_1 => (∃ n17 : Nat, zx_bestRepIndex_17 post p0 n17 0 r_1 1 u)) u p0 ((qx_reps u) 0)) := rfl
theorem ex_waitingIsBetter (post : Int32 → Prop) (u : SX) (p0 : Int32) (p1 : Int32) : wpX_waitingIsBetter post u p0 p1 = ((((qx_lazy u) = 1 → (((p0 + 1) < (qx_sourceLength u) → (wpX_greatestRun (fun r_3 => ((r_3 ≤ p1 → (post 0)) ∧ (¬ r_3 ≤ p1 → (post 1)))) u (p0 + 1))) ∧ (¬ (p0 + 1) < (qx_sourceLength u) → (post 0)))) ∧ (¬ (qx_lazy u) = 1 → (post 0)))) := rfl
def zx_smallestDistance_2 (post : Int32 → Prop) (x1 : Int32) (x2 : Int32) (n : Nat) (x3 : Int32) (u : SX) : Prop := wX_smallestDistance_2 post x1 x2 (qx_modelSize u) (qx_literalBase u) (qx_matchLengthBase u) (qx_repLengthBase u) (qx_slotTreeBase u) (qx_reverseBase u) (qx_alignBase u) (qx_figureCount u) (qx_endValue u) (qx_storeSize u) (qx_topRange u) (qx_fullRange u) (qx_capacity u) (qx_slots u) (qx_shift u) (qx_lazy u) (qx_sourceLength u) (qx_codedLength u) (qx_encLow u) (qx_encRange u) (qx_encCache u) (qx_encPending u) (qx_decSlot u) (qx_decEnded u) (qx_decAt u) (qx_decRange u) (qx_decCode u) (qx_model u) (qx_figures u) (qx_reps u) (qx_source u) (qx_coded u) (qx_store u) (qx_storeLength u) (qx_output u) n x3
theorem ex_smallestDistance_2 (post : Int32 → Prop) (x1 : Int32) (x2 : Int32) (n : Nat) (x3 : Int32) (u : SX) : zx_smallestDistance_2 post x1 x2 (n + 1) x3 u = (((x1 ≤ x3 → (post x1)) ∧ (¬ x1 ≤ x3 → (wpX_run (fun r_2 => ((r_2 < x2 → (∀ x3_39 : Int32, x3_39 = x3 + 1 → (zx_smallestDistance_2 post x1 x2 n x3_39 u))) ∧ (¬ r_2 < x2 → (post x3)))) u x1 x3)))) := rfl
theorem ex_smallestDistance (post : Int32 → Prop) (u : SX) (p0 : Int32) (p1 : Int32) : wpX_smallestDistance post u p0 p1 = (∃ n2 : Nat, zx_smallestDistance_2 post p0 p1 n2 1 u) := rfl
def zx_encodeOne_73 (post : Int32 → SX → Prop) (x1 : Int32) (x2 : Int32) (u : SX) : Prop := wX_encodeOne_73 post x1 x2 (qx_modelSize u) (qx_literalBase u) (qx_matchLengthBase u) (qx_repLengthBase u) (qx_slotTreeBase u) (qx_reverseBase u) (qx_alignBase u) (qx_figureCount u) (qx_endValue u) (qx_storeSize u) (qx_topRange u) (qx_fullRange u) (qx_capacity u) (qx_slots u) (qx_shift u) (qx_lazy u) (qx_sourceLength u) (qx_codedLength u) (qx_encLow u) (qx_encRange u) (qx_encCache u) (qx_encPending u) (qx_decSlot u) (qx_decEnded u) (qx_decAt u) (qx_decRange u) (qx_decCode u) (qx_model u) (qx_figures u) (qx_reps u) (qx_source u) (qx_coded u) (qx_store u) (qx_storeLength u) (qx_output u)
theorem ex_encodeOne_73 (post : Int32 → SX → Prop) (x1 : Int32) (x2 : Int32) (u : SX) : zx_encodeOne_73 post x1 x2 u = (((x2 < 2 → (wpX_run (fun r_114 => ((r_114 = 1 → (wpX_writeToken post u 3 1 ((qx_reps u) 0))) ∧ (¬ r_114 = 1 → (wpX_writeToken post u 1 1 0)))) u x1 ((qx_reps u) 0))) ∧ (¬ x2 < 2 → (wpX_waitingIsBetter (fun r_223 => ((r_223 = 0 → (wpX_smallestDistance (fun r_260 => (wpX_writeToken post u 2 x2 r_260)) u x1 x2)) ∧ (¬ r_223 = 0 → (wpX_writeToken post u 1 1 0)))) u x1 x2)))) := rfl
theorem ex_encodeOne (post : Int32 → SX → Prop) (u : SX) : wpX_encodeOne post u = (∀ x1_1 : Int32, x1_1 = (qx_figures u) 0 → ((x1_1 < (qx_sourceLength u) → (wpX_greatestRun (fun r_3 => (wpX_bestRepIndex (fun r_39 => (vp_in r_39 8 ∧ (wpX_run (fun r_76 => ((r_76 < 2 → (zx_encodeOne_73 post x1_1 r_3 u)) ∧ (¬ r_76 < 2 → (((r_76 + 1) < r_3 → (zx_encodeOne_73 post x1_1 r_3 u)) ∧ (¬ (r_76 + 1) < r_3 → (vp_in r_39 8 ∧ (wpX_writeToken post u (4 + r_39) r_76 ((qx_reps u) r_39.toNatClampNeg)))))))) u x1_1 ((qx_reps u) r_39.toNatClampNeg)))) u x1_1)) u x1_1)) ∧ (¬ x1_1 < (qx_sourceLength u) → (post (-2) u)))) := rfl
def zx_encodeAll_4 (post : Int32 → SX → Prop) (n : Nat) (x1 : Int32) (x2 : Int32) (u : SX) : Prop := wX_encodeAll_4 post n x1 x2 (qx_modelSize u) (qx_literalBase u) (qx_matchLengthBase u) (qx_repLengthBase u) (qx_slotTreeBase u) (qx_reverseBase u) (qx_alignBase u) (qx_figureCount u) (qx_endValue u) (qx_storeSize u) (qx_topRange u) (qx_fullRange u) (qx_capacity u) (qx_slots u) (qx_shift u) (qx_lazy u) (qx_sourceLength u) (qx_codedLength u) (qx_encLow u) (qx_encRange u) (qx_encCache u) (qx_encPending u) (qx_decSlot u) (qx_decEnded u) (qx_decAt u) (qx_decRange u) (qx_decCode u) (qx_model u) (qx_figures u) (qx_reps u) (qx_source u) (qx_coded u) (qx_store u) (qx_storeLength u) (qx_output u)
theorem ex_encodeAll_4 (post : Int32 → SX → Prop) (n : Nat) (x1 : Int32) (x2 : Int32) (u : SX) : zx_encodeAll_4 post (n + 1) x1 x2 u = (((64 ≤ x2 → (post x1 u)) ∧ (¬ 64 ≤ x2 → (((qx_sourceLength u) ≤ ((qx_figures u) 0) → (post x1 u)) ∧ (¬ (qx_sourceLength u) ≤ ((qx_figures u) 0) → (wpX_encodeOne (fun r_3 (u4 : SX) => (∀ x1_39 : Int32, x1_39 = x1 + 1 → (∀ x2_40 : Int32, x2_40 = x2 + 1 → (zx_encodeAll_4 post n x1_39 x2_40 u4)))) u)))))) := rfl
theorem ex_encodeAll (post : Int32 → SX → Prop) (u : SX) : wpX_encodeAll post u = (∃ n4 : Nat, zx_encodeAll_4 post n4 0 0 u) := rfl
theorem ex_writeEndMarker (post : SX → Prop) (u : SX) : wpX_writeEndMarker post u = (wpX_writeKind (fun (u2 : SX) => (wpX_writeLength (fun (u38 : SX) => (wpX_writeDistance post u38 255 2)) u2 328 2)) u 2) := rfl
def zx_flushCoder_2 (post : SX → Prop) (n : Nat) (x1 : Int32) (u : SX) : Prop := wX_flushCoder_2 post n x1 (qx_modelSize u) (qx_literalBase u) (qx_matchLengthBase u) (qx_repLengthBase u) (qx_slotTreeBase u) (qx_reverseBase u) (qx_alignBase u) (qx_figureCount u) (qx_endValue u) (qx_storeSize u) (qx_topRange u) (qx_fullRange u) (qx_capacity u) (qx_slots u) (qx_shift u) (qx_lazy u) (qx_sourceLength u) (qx_codedLength u) (qx_encLow u) (qx_encRange u) (qx_encCache u) (qx_encPending u) (qx_decSlot u) (qx_decEnded u) (qx_decAt u) (qx_decRange u) (qx_decCode u) (qx_model u) (qx_figures u) (qx_reps u) (qx_source u) (qx_coded u) (qx_store u) (qx_storeLength u) (qx_output u)
theorem ex_flushCoder_2 (post : SX → Prop) (n : Nat) (x1 : Int32) (u : SX) : zx_flushCoder_2 post (n + 1) x1 u = (((5 ≤ x1 → (post u)) ∧ (¬ 5 ≤ x1 → (wpX_shiftLow (fun (u3 : SX) => (∀ x1_38 : Int32, x1_38 = x1 + 1 → (zx_flushCoder_2 post n x1_38 u3))) u)))) := rfl
theorem ex_flushCoder (post : SX → Prop) (u : SX) : wpX_flushCoder post u = (∃ n2 : Nat, zx_flushCoder_2 post n2 0 u) := rfl
def zx_seal_93 (post : Int32 → SX → Prop) (x1 : Int32) (u : SX) : Prop := wX_seal_93 post x1 (qx_modelSize u) (qx_literalBase u) (qx_matchLengthBase u) (qx_repLengthBase u) (qx_slotTreeBase u) (qx_reverseBase u) (qx_alignBase u) (qx_figureCount u) (qx_endValue u) (qx_storeSize u) (qx_topRange u) (qx_fullRange u) (qx_capacity u) (qx_slots u) (qx_shift u) (qx_lazy u) (qx_sourceLength u) (qx_codedLength u) (qx_encLow u) (qx_encRange u) (qx_encCache u) (qx_encPending u) (qx_decSlot u) (qx_decEnded u) (qx_decAt u) (qx_decRange u) (qx_decCode u) (qx_model u) (qx_figures u) (qx_reps u) (qx_source u) (qx_coded u) (qx_store u) (qx_storeLength u) (qx_output u)
theorem ex_seal_93 (post : Int32 → SX → Prop) (x1 : Int32) (u : SX) : zx_seal_93 post x1 u = (vp_in x1 2 ∧ ∀ a_storeLength_80 : Nat → Int32, a_storeLength_80 = upd (qx_storeLength u) x1.toNatClampNeg (qx_codedLength u) → (wpX_resetEncoder (fun (u82 : SX) => (post 0 u82)) (ux_storeLength a_storeLength_80 u))) := rfl
def zx_seal_58 (post : Int32 → SX → Prop) (x1 : Int32) (x2 : Int32) (n : Nat) (x3 : Int32) (u : SX) : Prop := wX_seal_58 post x1 x2 (qx_modelSize u) (qx_literalBase u) (qx_matchLengthBase u) (qx_repLengthBase u) (qx_slotTreeBase u) (qx_reverseBase u) (qx_alignBase u) (qx_figureCount u) (qx_endValue u) (qx_storeSize u) (qx_topRange u) (qx_fullRange u) (qx_capacity u) (qx_slots u) (qx_shift u) (qx_lazy u) (qx_sourceLength u) (qx_codedLength u) (qx_encLow u) (qx_encRange u) (qx_encCache u) (qx_encPending u) (qx_decSlot u) (qx_decEnded u) (qx_decAt u) (qx_decRange u) (qx_decCode u) n x3 (qx_model u) (qx_figures u) (qx_reps u) (qx_source u) (qx_coded u) (qx_store u) (qx_storeLength u) (qx_output u)
theorem ex_seal_58 (post : Int32 → SX → Prop) (x1 : Int32) (x2 : Int32) (n : Nat) (x3 : Int32) (u : SX) : zx_seal_58 post x1 x2 (n + 1) x3 u = ((((qx_codedLength u) ≤ x3 → (zx_seal_93 post x1 u)) ∧ (¬ (qx_codedLength u) ≤ x3 → ((1024 ≤ x3 → (zx_seal_93 post x1 u)) ∧ (¬ 1024 ≤ x3 → (vp_in x3 1024 ∧ (vp_in (x2 + x3) 2048 ∧ ∀ a_store_120 : Nat → Int32, a_store_120 = upd (qx_store u) (x2 + x3).toNatClampNeg (vp_nar .byte ((qx_coded u) x3.toNatClampNeg)) → (∀ x3_121 : Int32, x3_121 = x3 + 1 → (zx_seal_58 post x1 x2 n x3_121 (ux_store a_store_120 u)))))))))) := rfl
theorem ex_seal (post : Int32 → SX → Prop) (u : SX) (p0 : Int32) : wpX_seal post u p0 = (((p0 < 0 → (post (-3) u)) ∧ (¬ p0 < 0 → ((p0 < (qx_slots u) → (((qx_sourceLength u) ≤ ((qx_figures u) 0) → (((qx_decSlot u) = p0 → (post (-8) u)) ∧ (¬ (qx_decSlot u) = p0 → (wpX_writeEndMarker (fun (u6 : SX) => (wpX_flushCoder (fun (u42 : SX) => (∀ x2_77 : Int32, x2_77 = p0 * 1024 → (∃ n58 : Nat, zx_seal_58 post p0 x2_77 n58 0 u42))) u6)) u)))) ∧ (¬ (qx_sourceLength u) ≤ ((qx_figures u) 0) → (post (-5) u)))) ∧ (¬ p0 < (qx_slots u) → (post (-3) u)))))) := rfl
theorem ex_restart (post : SX → Prop) (u : SX) : wpX_restart post u = (wpX_resetEncoder post u) := rfl
def zx_pullByte_79 (post : SX → Prop) (x1 : Int32) (u : SX) : Prop := wX_pullByte_79 post x1 (qx_modelSize u) (qx_literalBase u) (qx_matchLengthBase u) (qx_repLengthBase u) (qx_slotTreeBase u) (qx_reverseBase u) (qx_alignBase u) (qx_figureCount u) (qx_endValue u) (qx_storeSize u) (qx_topRange u) (qx_fullRange u) (qx_capacity u) (qx_slots u) (qx_shift u) (qx_lazy u) (qx_sourceLength u) (qx_codedLength u) (qx_encLow u) (qx_encRange u) (qx_encCache u) (qx_encPending u) (qx_decSlot u) (qx_decEnded u) (qx_decAt u) (qx_decRange u) (qx_decCode u) (qx_model u) (qx_figures u) (qx_reps u) (qx_source u) (qx_coded u) (qx_store u) (qx_storeLength u) (qx_output u)
theorem ex_pullByte_79 (post : SX → Prop) (x1 : Int32) (u : SX) : zx_pullByte_79 post x1 u = (∀ f_decCode_2 : Int64, f_decCode_2 = (((qx_decCode u) <<< ((8 : Int32).toInt64 &&& 63)) ||| x1.toInt64) &&& 4294967295 → (post (ux_decCode f_decCode_2 u))) := rfl
theorem ex_pullByte (post : SX → Prop) (u : SX) : wpX_pullByte post u = ((((qx_decSlot u) < 0 → (zx_pullByte_79 post 0 u)) ∧ (¬ (qx_decSlot u) < 0 → (((qx_slots u) ≤ (qx_decSlot u) → (zx_pullByte_79 post 0 u)) ∧ (¬ (qx_slots u) ≤ (qx_decSlot u) → (vp_in (qx_decSlot u) 2 ∧ ((((qx_storeLength u) (qx_decSlot u).toNatClampNeg) ≤ (qx_decAt u) → (zx_pullByte_79 post 0 u)) ∧ (¬ ((qx_storeLength u) (qx_decSlot u).toNatClampNeg) ≤ (qx_decAt u) → ((1024 ≤ (qx_decAt u) → (zx_pullByte_79 post 0 u)) ∧ (¬ 1024 ≤ (qx_decAt u) → (vp_in (((qx_decSlot u) * 1024) + (qx_decAt u)) 2048 ∧ (∀ x1_8 : Int32, x1_8 = ((qx_store u) (((qx_decSlot u) * 1024) + (qx_decAt u)).toNatClampNeg) &&& 255 → (∀ f_decAt_9 : Int32, f_decAt_9 = (qx_decAt u) + 1 → (zx_pullByte_79 post x1_8 (ux_decAt f_decAt_9 u))))))))))))))) := rfl
def zx_open_38 (post : Int32 → SX → Prop) (n : Nat) (x2 : Int32) (u : SX) : Prop := wX_open_38 post n x2 (qx_modelSize u) (qx_literalBase u) (qx_matchLengthBase u) (qx_repLengthBase u) (qx_slotTreeBase u) (qx_reverseBase u) (qx_alignBase u) (qx_figureCount u) (qx_endValue u) (qx_storeSize u) (qx_topRange u) (qx_fullRange u) (qx_capacity u) (qx_slots u) (qx_shift u) (qx_lazy u) (qx_sourceLength u) (qx_codedLength u) (qx_encLow u) (qx_encRange u) (qx_encCache u) (qx_encPending u) (qx_decSlot u) (qx_decEnded u) (qx_decAt u) (qx_decRange u) (qx_decCode u) (qx_model u) (qx_figures u) (qx_reps u) (qx_source u) (qx_coded u) (qx_store u) (qx_storeLength u) (qx_output u)
theorem ex_open_38 (post : Int32 → SX → Prop) (n : Nat) (x2 : Int32) (u : SX) : zx_open_38 post (n + 1) x2 u = (((5 ≤ x2 → (post 0 u)) ∧ (¬ 5 ≤ x2 → (wpX_pullByte (fun (u43 : SX) => (∀ x2_78 : Int32, x2_78 = x2 + 1 → (zx_open_38 post n x2_78 u43))) u)))) := rfl
theorem ex_open (post : Int32 → SX → Prop) (u : SX) (p0 : Int32) : wpX_open post u p0 = (((p0 < 0 → (post (-3) u)) ∧ (¬ p0 < 0 → ((p0 < (qx_slots u) → (vp_in p0 2 ∧ ((((qx_storeLength u) p0.toNatClampNeg) = 0 → (post (-7) u)) ∧ (¬ ((qx_storeLength u) p0.toNatClampNeg) = 0 → (wpX_resetDecoder (fun (u6 : SX) => (∃ n38 : Nat, zx_open_38 post n38 0 (ux_decSlot p0 u6))) u))))) ∧ (¬ p0 < (qx_slots u) → (post (-3) u)))))) := rfl
theorem ex_normaliseDecoder (post : SX → Prop) (u : SX) : wpX_normaliseDecoder post u = (((16777216 ≤ (qx_decRange u) → (post u)) ∧ (¬ 16777216 ≤ (qx_decRange u) → (∀ f_decRange_2 : Int64, f_decRange_2 = (qx_decRange u) <<< ((8 : Int32).toInt64 &&& 63) → (wpX_pullByte post (ux_decRange f_decRange_2 u)))))) := rfl
def zx_readBit_65 (post : Int32 → SX → Prop) (x2 : Int32) (x5 : Int32) (u : SX) : Prop := wX_readBit_65 post x2 x5 (qx_modelSize u) (qx_literalBase u) (qx_matchLengthBase u) (qx_repLengthBase u) (qx_slotTreeBase u) (qx_reverseBase u) (qx_alignBase u) (qx_figureCount u) (qx_endValue u) (qx_storeSize u) (qx_topRange u) (qx_fullRange u) (qx_capacity u) (qx_slots u) (qx_shift u) (qx_lazy u) (qx_sourceLength u) (qx_codedLength u) (qx_encLow u) (qx_encRange u) (qx_encCache u) (qx_encPending u) (qx_decSlot u) (qx_decEnded u) (qx_decAt u) (qx_decRange u) (qx_decCode u) (qx_model u) (qx_figures u) (qx_reps u) (qx_source u) (qx_coded u) (qx_store u) (qx_storeLength u) (qx_output u)
theorem ex_readBit_65 (post : Int32 → SX → Prop) (x2 : Int32) (x5 : Int32) (u : SX) : zx_readBit_65 post x2 x5 u = (wpX_updateChance (fun (u8 : SX) => (wpX_normaliseDecoder (fun (u44 : SX) => (post x5 u44)) u8)) u x2 x5) := rfl
theorem ex_readBit (post : Int32 → SX → Prop) (u : SX) (p0 : Int32) : wpX_readBit post u p0 = (∀ x2_1 : Int32, x2_1 = 512 + p0 → (vp_in x2_1 1024 ∧ (∀ x3_3 : Int64, x3_3 = (((qx_decRange u).toUInt64 >>> ((11 : Int32).toInt64.toUInt64 &&& Int64.toUInt64 63)).toInt64) * (((qx_model u) x2_1.toNatClampNeg).toInt64) → ((x3_3 ≤ (qx_decCode u) → (∀ f_decCode_5 : Int64, f_decCode_5 = (qx_decCode u) - x3_3 → (∀ f_decRange_6 : Int64, f_decRange_6 = (qx_decRange u) - x3_3 → (zx_readBit_65 post x2_1 1 (ux_decRange_decCode f_decRange_6 f_decCode_5 u))))) ∧ (¬ x3_3 ≤ (qx_decCode u) → (zx_readBit_65 post x2_1 0 (ux_decRange x3_3 u))))))) := rfl
theorem ex_readFlag (post : Int32 → SX → Prop) (u : SX) (p0 : Int32) : wpX_readFlag post u p0 = (wpX_readBit post u ((p0 * 12) + ((qx_figures u) 8))) := rfl
theorem ex_readKind (post : Int32 → SX → Prop) (u : SX) : wpX_readKind post u = (wpX_readFlag (fun r_1 (u2 : SX) => ((r_1 = 0 → (post 1 u2)) ∧ (¬ r_1 = 0 → (wpX_readFlag (fun r_38 (u39 : SX) => ((r_38 = 0 → (post 2 u39)) ∧ (¬ r_38 = 0 → (wpX_readFlag (fun r_75 (u76 : SX) => ((r_75 = 0 → (wpX_readFlag (fun r_186 (u187 : SX) => ((r_186 = 1 → (post 4 u187)) ∧ (¬ r_186 = 1 → (post 3 u187)))) u76 5)) ∧ (¬ r_75 = 0 → (wpX_readFlag (fun r_112 (u113 : SX) => ((r_112 = 0 → (post 5 u113)) ∧ (¬ r_112 = 0 → (wpX_readFlag (fun r_149 (u150 : SX) => ((r_149 = 1 → (post 7 u150)) ∧ (¬ r_149 = 1 → (post 6 u150)))) u113 4)))) u76 3)))) u39 2)))) u2 1)))) u 0) := rfl
def zx_readTree_5 (post : Int32 → SX → Prop) (x1 : Int32) (x2 : Int32) (n : Nat) (x3 : Int32) (x4 : Int32) (u : SX) : Prop := wX_readTree_5 post x1 x2 n x3 x4 (qx_modelSize u) (qx_literalBase u) (qx_matchLengthBase u) (qx_repLengthBase u) (qx_slotTreeBase u) (qx_reverseBase u) (qx_alignBase u) (qx_figureCount u) (qx_endValue u) (qx_storeSize u) (qx_topRange u) (qx_fullRange u) (qx_capacity u) (qx_slots u) (qx_shift u) (qx_lazy u) (qx_sourceLength u) (qx_codedLength u) (qx_encLow u) (qx_encRange u) (qx_encCache u) (qx_encPending u) (qx_decSlot u) (qx_decEnded u) (qx_decAt u) (qx_decRange u) (qx_decCode u) (qx_model u) (qx_figures u) (qx_reps u) (qx_source u) (qx_coded u) (qx_store u) (qx_storeLength u) (qx_output u)
theorem ex_readTree_5 (post : Int32 → SX → Prop) (x1 : Int32) (x2 : Int32) (n : Nat) (x3 : Int32) (x4 : Int32) (u : SX) : zx_readTree_5 post x1 x2 (n + 1) x3 x4 u = (((x2 ≤ x4 → (post (x3 - ((1 : Int32) <<< (x2 &&& 31))) u)) ∧ (¬ x2 ≤ x4 → (wpX_readBit (fun r_2 (u3 : SX) => (∀ x3_38 : Int32, x3_38 = (2 * x3) + r_2 → (∀ x4_39 : Int32, x4_39 = x4 + 1 → (zx_readTree_5 post x1 x2 n x3_38 x4_39 u3)))) u (x1 + x3))))) := rfl
theorem ex_readTree (post : Int32 → SX → Prop) (u : SX) (p0 : Int32) (p1 : Int32) : wpX_readTree post u p0 p1 = (∃ n5 : Nat, zx_readTree_5 post p0 p1 n5 1 0 u) := rfl
theorem ex_setOutput (post : SX → Prop) (u : SX) (p0 : Int32) (p1 : Int32) : wpX_setOutput post u p0 p1 = (∀ x3_1 : Int32, x3_1 = ((qx_figures u) 6) + p0 → ((x3_1 < 0 → (post u)) ∧ (¬ x3_1 < 0 → ((64 ≤ x3_1 → (post u)) ∧ (¬ 64 ≤ x3_1 → (vp_in x3_1 64 ∧ ∀ a_output_5 : Nat → Int32, a_output_5 = upd (qx_output u) x3_1.toNatClampNeg p1 → (post (ux_output a_output_5 u)))))))) := rfl
theorem ex_readLength (post : Int32 → SX → Prop) (u : SX) (p0 : Int32) : wpX_readLength post u p0 = (wpX_readBit (fun r_1 (u2 : SX) => (wpX_readTree (fun r_37 (u38 : SX) => (post ((2 + (8 * r_1)) + r_37) u38)) u2 (p0 + (8 * r_1)) 3)) u p0) := rfl
def zx_readReverse_8 (post : Int32 → SX → Prop) (x1 : Int32) (x2 : Int32) (n : Nat) (x3 : Int32) (x4 : Int32) (x5 : Int32) (u : SX) : Prop := wX_readReverse_8 post x1 x2 n x3 x4 x5 (qx_modelSize u) (qx_literalBase u) (qx_matchLengthBase u) (qx_repLengthBase u) (qx_slotTreeBase u) (qx_reverseBase u) (qx_alignBase u) (qx_figureCount u) (qx_endValue u) (qx_storeSize u) (qx_topRange u) (qx_fullRange u) (qx_capacity u) (qx_slots u) (qx_shift u) (qx_lazy u) (qx_sourceLength u) (qx_codedLength u) (qx_encLow u) (qx_encRange u) (qx_encCache u) (qx_encPending u) (qx_decSlot u) (qx_decEnded u) (qx_decAt u) (qx_decRange u) (qx_decCode u) (qx_model u) (qx_figures u) (qx_reps u) (qx_source u) (qx_coded u) (qx_store u) (qx_storeLength u) (qx_output u)
theorem ex_readReverse_8 (post : Int32 → SX → Prop) (x1 : Int32) (x2 : Int32) (n : Nat) (x3 : Int32) (x4 : Int32) (x5 : Int32) (u : SX) : zx_readReverse_8 post x1 x2 (n + 1) x3 x4 x5 u = (((x2 ≤ x5 → (post x4 u)) ∧ (¬ x2 ≤ x5 → (wpX_readBit (fun r_2 (u3 : SX) => (∀ x3_38 : Int32, x3_38 = (2 * x3) + r_2 → (∀ x4_39 : Int32, x4_39 = x4 ||| (r_2 <<< (x5 &&& 31)) → (∀ x5_40 : Int32, x5_40 = x5 + 1 → (zx_readReverse_8 post x1 x2 n x3_38 x4_39 x5_40 u3))))) u (x1 + x3))))) := rfl
theorem ex_readReverse (post : Int32 → SX → Prop) (u : SX) (p0 : Int32) (p1 : Int32) : wpX_readReverse post u p0 p1 = (∃ n8 : Nat, zx_readReverse_8 post p0 p1 n8 1 0 0 u) := rfl
def zx_readDirect_4 (post : Int32 → SX → Prop) (x1 : Int32) (n : Nat) (x2 : Int32) (x3 : Int32) (u : SX) : Prop := wX_readDirect_4 post x1 n x2 x3 (qx_modelSize u) (qx_literalBase u) (qx_matchLengthBase u) (qx_repLengthBase u) (qx_slotTreeBase u) (qx_reverseBase u) (qx_alignBase u) (qx_figureCount u) (qx_endValue u) (qx_storeSize u) (qx_topRange u) (qx_fullRange u) (qx_capacity u) (qx_slots u) (qx_shift u) (qx_lazy u) (qx_sourceLength u) (qx_codedLength u) (qx_encLow u) (qx_encRange u) (qx_encCache u) (qx_encPending u) (qx_decSlot u) (qx_decEnded u) (qx_decAt u) (qx_decRange u) (qx_decCode u) (qx_model u) (qx_figures u) (qx_reps u) (qx_source u) (qx_coded u) (qx_store u) (qx_storeLength u) (qx_output u)
theorem ex_readDirect_4 (post : Int32 → SX → Prop) (x1 : Int32) (n : Nat) (x2 : Int32) (x3 : Int32) (u : SX) : zx_readDirect_4 post x1 (n + 1) x2 x3 u = (((x1 ≤ x3 → (post x2 u)) ∧ (¬ x1 ≤ x3 → (∀ f_decRange_2 : Int64, f_decRange_2 = ((qx_decRange u).toUInt64 >>> ((1 : Int32).toInt64.toUInt64 &&& Int64.toUInt64 63)).toInt64 → (((qx_decCode u) < f_decRange_2 → (∀ x2_4 : Int32, x2_4 = (2 * x2) + 0 → (wpX_normaliseDecoder (fun (u6 : SX) => (∀ x3_41 : Int32, x3_41 = x3 + 1 → (zx_readDirect_4 post x1 n x2_4 x3_41 u6))) (ux_decRange f_decRange_2 u)))) ∧ (¬ (qx_decCode u) < f_decRange_2 → (∀ f_decCode_42 : Int64, f_decCode_42 = (qx_decCode u) - f_decRange_2 → (∀ x2_4 : Int32, x2_4 = (2 * x2) + 1 → (wpX_normaliseDecoder (fun (u6 : SX) => (∀ x3_41 : Int32, x3_41 = x3 + 1 → (zx_readDirect_4 post x1 n x2_4 x3_41 u6))) (ux_decRange_decCode f_decRange_2 f_decCode_42 u)))))))))) := rfl
theorem ex_readDirect (post : Int32 → SX → Prop) (u : SX) (p0 : Int32) : wpX_readDirect post u p0 = (∃ n4 : Nat, zx_readDirect_4 post p0 n4 0 0 u) := rfl
theorem ex_readDistance (post : Int32 → SX → Prop) (u : SX) (p0 : Int32) : wpX_readDistance post u p0 = (wpX_slotTreeFor (fun r_1 => (wpX_readTree (fun r_37 (u38 : SX) => ((4 ≤ r_37 → (∀ x4_74 : Int32, x4_74 = (r_37 >>> ((1 : Int32) &&& 31)) - 1 → (∀ x5_75 : Int32, x5_75 = (2 ||| (r_37 &&& 1)) <<< (x4_74 &&& 31) → ((10 ≤ r_37 → (wpX_readDirect (fun r_77 (u78 : SX) => (wpX_readReverse (fun r_113 (u114 : SX) => (post ((x5_75 + (r_77 <<< ((2 : Int32) &&& 31))) + r_113) u114)) u78 472 2)) u38 (x4_74 - 2))) ∧ (¬ 10 ≤ r_37 → (wpX_readReverse (fun r_149 (u150 : SX) => (post (x5_75 + r_149) u150)) u38 (424 + ((r_37 - 4) * 8)) x4_74)))))) ∧ (¬ 4 ≤ r_37 → (post r_37 u38)))) u r_1 4)) u p0) := rfl
def zx_copyOutput_11 (post : SX → Prop) (x1 : Int32) (x2 : Int32) (x3 : Int32) (n : Nat) (x4 : Int32) (u : SX) : Prop := wX_copyOutput_11 post x1 x2 x3 n x4 (qx_modelSize u) (qx_literalBase u) (qx_matchLengthBase u) (qx_repLengthBase u) (qx_slotTreeBase u) (qx_reverseBase u) (qx_alignBase u) (qx_figureCount u) (qx_endValue u) (qx_storeSize u) (qx_topRange u) (qx_fullRange u) (qx_capacity u) (qx_slots u) (qx_shift u) (qx_lazy u) (qx_sourceLength u) (qx_codedLength u) (qx_encLow u) (qx_encRange u) (qx_encCache u) (qx_encPending u) (qx_decSlot u) (qx_decEnded u) (qx_decAt u) (qx_decRange u) (qx_decCode u) (qx_model u) (qx_figures u) (qx_reps u) (qx_source u) (qx_coded u) (qx_store u) (qx_storeLength u) (qx_output u)
theorem ex_copyOutput_11 (post : SX → Prop) (x1 : Int32) (x2 : Int32) (x3 : Int32) (n : Nat) (x4 : Int32) (u : SX) : zx_copyOutput_11 post x1 x2 x3 (n + 1) x4 u = (((x2 ≤ x4 → (post u)) ∧ (¬ x2 ≤ x4 → (∀ x5_3 : Int32, x5_3 = (x3 + x4) - x1 → ((x5_3 < 0 → (∀ x4_5 : Int32, x4_5 = x4 + 1 → (zx_copyOutput_11 post x1 x2 x3 n x4_5 u))) ∧ (¬ x5_3 < 0 → ((64 ≤ x5_3 → (∀ x4_7 : Int32, x4_7 = x4 + 1 → (zx_copyOutput_11 post x1 x2 x3 n x4_7 u))) ∧ (¬ 64 ≤ x5_3 → (vp_in x5_3 64 ∧ (wpX_setOutput (fun (u10 : SX) => (∀ x4_45 : Int32, x4_45 = x4 + 1 → (zx_copyOutput_11 post x1 x2 x3 n x4_45 u10))) u x4 ((qx_output u) x5_3.toNatClampNeg))))))))))) := rfl
theorem ex_copyOutput (post : SX → Prop) (u : SX) (p0 : Int32) (p1 : Int32) : wpX_copyOutput post u p0 p1 = (∀ x3_1 : Int32, x3_1 = (qx_figures u) 6 → (∃ n11 : Nat, zx_copyOutput_11 post p0 p1 x3_1 n11 0 u)) := rfl
def zx_readItem_123 (post : Int32 → SX → Prop) (x1 : Int32) (x2 : Int32) (x3 : Int32) (u : SX) : Prop := wX_readItem_123 post x1 x2 x3 (qx_modelSize u) (qx_literalBase u) (qx_matchLengthBase u) (qx_repLengthBase u) (qx_slotTreeBase u) (qx_reverseBase u) (qx_alignBase u) (qx_figureCount u) (qx_endValue u) (qx_storeSize u) (qx_topRange u) (qx_fullRange u) (qx_capacity u) (qx_slots u) (qx_shift u) (qx_lazy u) (qx_sourceLength u) (qx_codedLength u) (qx_encLow u) (qx_encRange u) (qx_encCache u) (qx_encPending u) (qx_decSlot u) (qx_decEnded u) (qx_decAt u) (qx_decRange u) (qx_decCode u) (qx_model u) (qx_figures u) (qx_reps u) (qx_source u) (qx_coded u) (qx_store u) (qx_storeLength u) (qx_output u)
theorem ex_readItem_123 (post : Int32 → SX → Prop) (x1 : Int32) (x2 : Int32) (x3 : Int32) (u : SX) : zx_readItem_123 post x1 x2 x3 u = (wpX_applyToken (fun (u80 : SX) => (post x1 u80)) u 1 x1 x2 x3) := rfl
def zx_readItem_112 (post : Int32 → SX → Prop) (x1 : Int32) (x2 : Int32) (x3 : Int32) (u : SX) : Prop := wX_readItem_112 post x1 x2 x3 (qx_modelSize u) (qx_literalBase u) (qx_matchLengthBase u) (qx_repLengthBase u) (qx_slotTreeBase u) (qx_reverseBase u) (qx_alignBase u) (qx_figureCount u) (qx_endValue u) (qx_storeSize u) (qx_topRange u) (qx_fullRange u) (qx_capacity u) (qx_slots u) (qx_shift u) (qx_lazy u) (qx_sourceLength u) (qx_codedLength u) (qx_encLow u) (qx_encRange u) (qx_encCache u) (qx_encPending u) (qx_decSlot u) (qx_decEnded u) (qx_decAt u) (qx_decRange u) (qx_decCode u) (qx_model u) (qx_figures u) (qx_reps u) (qx_source u) (qx_coded u) (qx_store u) (qx_storeLength u) (qx_output u)
theorem ex_readItem_112 (post : Int32 → SX → Prop) (x1 : Int32) (x2 : Int32) (x3 : Int32) (u : SX) : zx_readItem_112 post x1 x2 x3 u = (((x1 = 1 → (zx_readItem_123 post x1 x2 x3 u)) ∧ (¬ x1 = 1 → (wpX_copyOutput (fun (u116 : SX) => (zx_readItem_123 post x1 x2 x3 u116)) u x3 x2)))) := rfl
theorem ex_readItem (post : Int32 → SX → Prop) (u : SX) : wpX_readItem post u = (wpX_readKind (fun r_1 (u2 : SX) => ((r_1 = 1 → (wpX_readTree (fun r_226 (u227 : SX) => (wpX_setOutput (fun (u263 : SX) => (zx_readItem_112 post r_1 1 0 u263)) u227 0 r_226)) u2 72 8)) ∧ (¬ r_1 = 1 → ((r_1 = 2 → (wpX_readLength (fun r_152 (u153 : SX) => (wpX_readDistance (fun r_188 (u189 : SX) => ((r_188 = 255 → (post 8 (ux_decEnded 1 u189))) ∧ (¬ r_188 = 255 → (∀ x3_225 : Int32, x3_225 = r_188 + 1 → (zx_readItem_112 post r_1 r_152 x3_225 u189))))) u153 r_152)) u2 328)) ∧ (¬ r_1 = 2 → ((r_1 = 3 → (∀ x3_151 : Int32, x3_151 = (qx_reps u2) 4 → (zx_readItem_112 post r_1 1 x3_151 u2))) ∧ (¬ r_1 = 3 → (wpX_readLength (fun r_40 (u41 : SX) => (vp_in ((4 + r_1) - 4) 8 ∧ (∀ x3_77 : Int32, x3_77 = (qx_reps u41) ((4 + r_1) - 4).toNatClampNeg → (zx_readItem_112 post r_1 r_40 x3_77 u41)))) u2 344)))))))) u) := rfl
theorem ex_decodeOne (post : Int32 → SX → Prop) (u : SX) : wpX_decodeOne post u = (((0 ≤ (qx_decSlot u) → (((qx_decEnded u) = 0 → (wpX_readItem post u)) ∧ (¬ (qx_decEnded u) = 0 → (post 8 u)))) ∧ (¬ 0 ≤ (qx_decSlot u) → (post (-6) u)))) := rfl
def zx_decodeAll_20 (post : Int32 → SX → Prop) (x1 : Int32) (n : Nat) (x2 : Int32) (u : SX) : Prop := wX_decodeAll_20 post x1 n x2 (qx_modelSize u) (qx_literalBase u) (qx_matchLengthBase u) (qx_repLengthBase u) (qx_slotTreeBase u) (qx_reverseBase u) (qx_alignBase u) (qx_figureCount u) (qx_endValue u) (qx_storeSize u) (qx_topRange u) (qx_fullRange u) (qx_capacity u) (qx_slots u) (qx_shift u) (qx_lazy u) (qx_sourceLength u) (qx_codedLength u) (qx_encLow u) (qx_encRange u) (qx_encCache u) (qx_encPending u) (qx_decSlot u) (qx_decEnded u) (qx_decAt u) (qx_decRange u) (qx_decCode u) (qx_model u) (qx_figures u) (qx_reps u) (qx_source u) (qx_coded u) (qx_store u) (qx_storeLength u) (qx_output u)
theorem ex_decodeAll_20 (post : Int32 → SX → Prop) (x1 : Int32) (n : Nat) (x2 : Int32) (u : SX) : zx_decodeAll_20 post x1 (n + 1) x2 u = (((65 ≤ x2 → (post (((qx_figures u) 7) - x1) u)) ∧ (¬ 65 ≤ x2 → (((qx_decEnded u) = 0 → (wpX_readItem (fun r_5 (u6 : SX) => (∀ x2_41 : Int32, x2_41 = x2 + 1 → (zx_decodeAll_20 post x1 n x2_41 u6))) u)) ∧ (¬ (qx_decEnded u) = 0 → (post (((qx_figures u) 7) - x1) u)))))) := rfl
theorem ex_decodeAll (post : Int32 → SX → Prop) (u : SX) : wpX_decodeAll post u = (((0 ≤ (qx_decSlot u) → (∀ x1_2 : Int32, x1_2 = (qx_figures u) 7 → (∃ n20 : Nat, zx_decodeAll_20 post x1_2 n20 0 u))) ∧ (¬ 0 ≤ (qx_decSlot u) → (post (-6) u)))) := rfl
theorem ex_close (post : Int32 → SX → Prop) (u : SX) : wpX_close post u = (((0 ≤ (qx_decSlot u) → (wpX_resetDecoder (fun (u3 : SX) => (post 0 u3)) u)) ∧ (¬ 0 ≤ (qx_decSlot u) → (post (-6) u)))) := rfl
theorem ex_decoderStatus (post : Int32 → Prop) (u : SX) : wpX_decoderStatus post u = (((0 ≤ (qx_decSlot u) → (∀ x1_2 : Int32, x1_2 = 2 * (qx_decSlot u) → (((qx_decEnded u) = 0 → (post x1_2)) ∧ (¬ (qx_decEnded u) = 0 → (∀ x1_4 : Int32, x1_4 = x1_2 + 1 → (post x1_4)))))) ∧ (¬ 0 ≤ (qx_decSlot u) → (post (-6))))) := rfl
theorem ex_held (post : Int32 → Prop) (u : SX) (p0 : Int32) : wpX_held post u p0 = (((p0 < 0 → (post 0)) ∧ (¬ p0 < 0 → (((qx_slots u) ≤ p0 → (post 0)) ∧ (¬ (qx_slots u) ≤ p0 → (vp_in p0 2 ∧ ((((qx_storeLength u) p0.toNatClampNeg) ≤ 0 → (post 0)) ∧ (¬ ((qx_storeLength u) p0.toNatClampNeg) ≤ 0 → (post 1))))))))) := rfl
theorem ex_size (post : Int32 → Prop) (u : SX) : wpX_size post u = (post (qx_sourceLength u)) := rfl
theorem ex_figure (post : Int32 → Prop) (u : SX) (p0 : Int32) (p1 : Int32) : wpX_figure post u p0 p1 = (((p0 < 0 → (post (-3))) ∧ (¬ p0 < 0 → ((p0 ≤ 1 → ((p1 < 0 → (post (-3))) ∧ (¬ p1 < 0 → ((p1 ≤ 5 → (vp_in ((p0 * 6) + p1) 12 ∧ (post ((qx_figures u) ((p0 * 6) + p1).toNatClampNeg)))) ∧ (¬ p1 ≤ 5 → (post (-3))))))) ∧ (¬ p0 ≤ 1 → (post (-3))))))) := rfl
theorem ex_distance (post : Int32 → Prop) (u : SX) (p0 : Int32) (p1 : Int32) : wpX_distance post u p0 p1 = (((p0 < 0 → (post (-3))) ∧ (¬ p0 < 0 → ((p0 ≤ 1 → ((p1 < 0 → (post (-3))) ∧ (¬ p1 < 0 → ((p1 ≤ 3 → (vp_in ((p0 * 4) + p1) 8 ∧ (post ((qx_reps u) ((p0 * 4) + p1).toNatClampNeg)))) ∧ (¬ p1 ≤ 3 → (post (-3))))))) ∧ (¬ p0 ≤ 1 → (post (-3))))))) := rfl
def zx_byteAt_26 (post : Int32 → Prop) (x1 : Int32) (x2 : Int32) (u : SX) : Prop := wX_byteAt_26 post x1 x2 (qx_modelSize u) (qx_literalBase u) (qx_matchLengthBase u) (qx_repLengthBase u) (qx_slotTreeBase u) (qx_reverseBase u) (qx_alignBase u) (qx_figureCount u) (qx_endValue u) (qx_storeSize u) (qx_topRange u) (qx_fullRange u) (qx_capacity u) (qx_slots u) (qx_shift u) (qx_lazy u) (qx_sourceLength u) (qx_codedLength u) (qx_encLow u) (qx_encRange u) (qx_encCache u) (qx_encPending u) (qx_decSlot u) (qx_decEnded u) (qx_decAt u) (qx_decRange u) (qx_decCode u) (qx_model u) (qx_figures u) (qx_reps u) (qx_source u) (qx_coded u) (qx_store u) (qx_storeLength u) (qx_output u)
theorem ex_byteAt_26 (post : Int32 → Prop) (x1 : Int32) (x2 : Int32) (u : SX) : zx_byteAt_26 post x1 x2 u = (((x1 = 1 → ((((qx_figures u) 6) ≤ x2 → (post (-3))) ∧ (¬ ((qx_figures u) 6) ≤ x2 → (vp_in x2 64 ∧ (post ((qx_output u) x2.toNatClampNeg)))))) ∧ (¬ x1 = 1 → (post (-3))))) := rfl
theorem ex_byteAt (post : Int32 → Prop) (u : SX) (p0 : Int32) (p1 : Int32) : wpX_byteAt post u p0 p1 = (((0 ≤ p1 → ((p0 = 0 → (((qx_sourceLength u) ≤ p1 → (zx_byteAt_26 post p0 p1 u)) ∧ (¬ (qx_sourceLength u) ≤ p1 → (vp_in p1 64 ∧ (post ((qx_source u) p1.toNatClampNeg)))))) ∧ (¬ p0 = 0 → (zx_byteAt_26 post p0 p1 u)))) ∧ (¬ 0 ≤ p1 → (post (-3))))) := rfl
theorem ex_chance (post : Int32 → Prop) (u : SX) (p0 : Int32) (p1 : Int32) (p2 : Int32) : wpX_chance post u p0 p1 p2 = (((p0 < 0 → (post (-3))) ∧ (¬ p0 < 0 → ((p0 ≤ 1 → ((p1 < 0 → (post (-3))) ∧ (¬ p1 < 0 → ((p1 ≤ 5 → ((p2 < 0 → (post (-3))) ∧ (¬ p2 < 0 → ((p2 ≤ 11 → (vp_in (((p0 * 512) + (p1 * 12)) + p2) 1024 ∧ (post ((qx_model u) (((p0 * 512) + (p1 * 12)) + p2).toNatClampNeg)))) ∧ (¬ p2 ≤ 11 → (post (-3))))))) ∧ (¬ p1 ≤ 5 → (post (-3))))))) ∧ (¬ p0 ≤ 1 → (post (-3))))))) := rfl
theorem ex_literalChance (post : Int32 → Prop) (u : SX) (p0 : Int32) (p1 : Int32) : wpX_literalChance post u p0 p1 = (((p0 < 0 → (post (-3))) ∧ (¬ p0 < 0 → ((p0 ≤ 1 → ((p1 < 1 → (post (-3))) ∧ (¬ p1 < 1 → ((p1 ≤ 255 → (vp_in (((p0 * 512) + 72) + p1) 1024 ∧ (post ((qx_model u) (((p0 * 512) + 72) + p1).toNatClampNeg)))) ∧ (¬ p1 ≤ 255 → (post (-3))))))) ∧ (¬ p0 ≤ 1 → (post (-3))))))) := rfl
end
section
theorem ey_clamp (post : Int32 → Prop) (u : SY) (p0 : Int32) (p1 : Int32) (p2 : Int32) : wpY_clamp post u p0 p1 p2 = (((p1 ≤ p0 → ((p0 ≤ p2 → (post p0)) ∧ (¬ p0 ≤ p2 → (post p2)))) ∧ (¬ p1 ≤ p0 → (post p1)))) := rfl
theorem ey_moved (post : Int32 → Prop) (u : SY) (p0 : Int32) (p1 : Int32) : wpY_moved post u p0 p1 = (((p1 = 0 → (post (p0 + ((2048 - p0) >>> ((qy_shift u) &&& 31))))) ∧ (¬ p1 = 0 → (post (p0 - (p0 >>> ((qy_shift u) &&& 31))))))) := rfl
theorem ey_flag (post : SY → Prop) (u : SY) (p0 : Int32) (p1 : Int32) (p2 : Int32) : wpY_flag post u p0 p1 p2 = (∀ x4_1 : Int32, x4_1 = (p0 * 12) + p1 → (vp_in x4_1 72 ∧ (wpY_moved (fun r_3 => (vp_in x4_1 72 ∧ ∀ a_flags_30 : Nat → Int32, a_flags_30 = upd (qy_flags u) x4_1.toNatClampNeg r_3 → (post (uy_flags a_flags_30 u)))) u ((qy_flags u) x4_1.toNatClampNeg) p2))) := rfl
def zy_play_408 (post : SY → Prop) (x2 : Int32) (x3 : Int32) (u : SY) : Prop := wY_play_408 post x2 x3 (qy_cap u) (qy_slots u) (qy_shift u) (qy_lazy u) (qy_n u) (qy_openSlot u) (qy_taken u) (qy_ended u) (qy_pos u) (qy_count u) (qy_state u) (qy_lastKind u) (qy_lastLength u) (qy_lastDistance u) (qy_source u) (qy_tokens u) (qy_tokenKind u) (qy_tokenLength u) (qy_tokenDistance u) (qy_tokenByte u) (qy_holds u) (qy_out u) (qy_r u) (qy_flags u) (qy_literals u)
theorem ey_play_408 (post : SY → Prop) (x2 : Int32) (x3 : Int32) (u : SY) : zy_play_408 post x2 x3 u = (((x3 = 1 → ((4 ≤ x2 → ((9 < x2 → (∀ f_state_63 : Int32, f_state_63 = x2 - 6 → (post (uy_state f_state_63 u)))) ∧ (¬ 9 < x2 → (∀ f_state_64 : Int32, f_state_64 = x2 - 3 → (post (uy_state f_state_64 u)))))) ∧ (¬ 4 ≤ x2 → (post (uy_state 0 u))))) ∧ (¬ x3 = 1 → ((x3 = 2 → ((7 ≤ x2 → (post (uy_state 10 u))) ∧ (¬ 7 ≤ x2 → (post (uy_state 7 u))))) ∧ (¬ x3 = 2 → ((x3 = 3 → ((7 ≤ x2 → (post (uy_state 11 u))) ∧ (¬ 7 ≤ x2 → (post (uy_state 9 u))))) ∧ (¬ x3 = 3 → ((7 ≤ x2 → (post (uy_state 11 u))) ∧ (¬ 7 ≤ x2 → (post (uy_state 8 u))))))))))) := rfl
def zy_play_388 (post : SY → Prop) (x2 : Int32) (x3 : Int32) (x4 : Int32) (u : SY) : Prop := wY_play_388 post x2 x3 x4 (qy_cap u) (qy_slots u) (qy_shift u) (qy_lazy u) (qy_n u) (qy_openSlot u) (qy_taken u) (qy_ended u) (qy_pos u) (qy_count u) (qy_state u) (qy_lastKind u) (qy_lastLength u) (qy_lastDistance u) (qy_source u) (qy_tokens u) (qy_tokenKind u) (qy_tokenLength u) (qy_tokenDistance u) (qy_tokenByte u) (qy_holds u) (qy_out u) (qy_r u) (qy_flags u) (qy_literals u)
theorem ey_play_388 (post : SY → Prop) (x2 : Int32) (x3 : Int32) (x4 : Int32) (u : SY) : zy_play_388 post x2 x3 x4 u = (∀ a_r_52 : Nat → Int32, a_r_52 = upd (qy_r u) 1 ((qy_r u) 0) → (∀ a_r_54 : Nat → Int32, a_r_54 = upd a_r_52 0 x4 → (zy_play_408 post x2 x3 (uy_r a_r_54 u)))) := rfl
def zy_play_366 (post : SY → Prop) (x2 : Int32) (x3 : Int32) (x4 : Int32) (u : SY) : Prop := wY_play_366 post x2 x3 x4 (qy_cap u) (qy_slots u) (qy_shift u) (qy_lazy u) (qy_n u) (qy_openSlot u) (qy_taken u) (qy_ended u) (qy_pos u) (qy_count u) (qy_state u) (qy_lastKind u) (qy_lastLength u) (qy_lastDistance u) (qy_source u) (qy_tokens u) (qy_tokenKind u) (qy_tokenLength u) (qy_tokenDistance u) (qy_tokenByte u) (qy_holds u) (qy_out u) (qy_r u) (qy_flags u) (qy_literals u)
theorem ey_play_366 (post : SY → Prop) (x2 : Int32) (x3 : Int32) (x4 : Int32) (u : SY) : zy_play_366 post x2 x3 x4 u = (((x3 = 2 → (zy_play_388 post x2 x3 x4 u)) ∧ (¬ x3 = 2 → ((x3 = 7 → (zy_play_388 post x2 x3 x4 u)) ∧ (¬ x3 = 7 → ((x3 = 6 → (zy_play_388 post x2 x3 x4 u)) ∧ (¬ x3 = 6 → ((x3 = 5 → (zy_play_388 post x2 x3 x4 u)) ∧ (¬ x3 = 5 → (zy_play_408 post x2 x3 u)))))))))) := rfl
def zy_play_354 (post : SY → Prop) (x2 : Int32) (x3 : Int32) (x4 : Int32) (u : SY) : Prop := wY_play_354 post x2 x3 x4 (qy_cap u) (qy_slots u) (qy_shift u) (qy_lazy u) (qy_n u) (qy_openSlot u) (qy_taken u) (qy_ended u) (qy_pos u) (qy_count u) (qy_state u) (qy_lastKind u) (qy_lastLength u) (qy_lastDistance u) (qy_source u) (qy_tokens u) (qy_tokenKind u) (qy_tokenLength u) (qy_tokenDistance u) (qy_tokenByte u) (qy_holds u) (qy_out u) (qy_r u) (qy_flags u) (qy_literals u)
theorem ey_play_354 (post : SY → Prop) (x2 : Int32) (x3 : Int32) (x4 : Int32) (u : SY) : zy_play_354 post x2 x3 x4 u = (∀ a_r_49 : Nat → Int32, a_r_49 = upd (qy_r u) 2 ((qy_r u) 1) → (zy_play_366 post x2 x3 x4 (uy_r a_r_49 u))) := rfl
def zy_play_337 (post : SY → Prop) (x2 : Int32) (x3 : Int32) (x4 : Int32) (u : SY) : Prop := wY_play_337 post x2 x3 x4 (qy_cap u) (qy_slots u) (qy_shift u) (qy_lazy u) (qy_n u) (qy_openSlot u) (qy_taken u) (qy_ended u) (qy_pos u) (qy_count u) (qy_state u) (qy_lastKind u) (qy_lastLength u) (qy_lastDistance u) (qy_source u) (qy_tokens u) (qy_tokenKind u) (qy_tokenLength u) (qy_tokenDistance u) (qy_tokenByte u) (qy_holds u) (qy_out u) (qy_r u) (qy_flags u) (qy_literals u)
theorem ey_play_337 (post : SY → Prop) (x2 : Int32) (x3 : Int32) (x4 : Int32) (u : SY) : zy_play_337 post x2 x3 x4 u = (((x3 = 2 → (zy_play_354 post x2 x3 x4 u)) ∧ (¬ x3 = 2 → ((x3 = 7 → (zy_play_354 post x2 x3 x4 u)) ∧ (¬ x3 = 7 → ((x3 = 6 → (zy_play_354 post x2 x3 x4 u)) ∧ (¬ x3 = 6 → (zy_play_366 post x2 x3 x4 u)))))))) := rfl
def zy_play_325 (post : SY → Prop) (x2 : Int32) (x3 : Int32) (x4 : Int32) (u : SY) : Prop := wY_play_325 post x2 x3 x4 (qy_cap u) (qy_slots u) (qy_shift u) (qy_lazy u) (qy_n u) (qy_openSlot u) (qy_taken u) (qy_ended u) (qy_pos u) (qy_count u) (qy_state u) (qy_lastKind u) (qy_lastLength u) (qy_lastDistance u) (qy_source u) (qy_tokens u) (qy_tokenKind u) (qy_tokenLength u) (qy_tokenDistance u) (qy_tokenByte u) (qy_holds u) (qy_out u) (qy_r u) (qy_flags u) (qy_literals u)
theorem ey_play_325 (post : SY → Prop) (x2 : Int32) (x3 : Int32) (x4 : Int32) (u : SY) : zy_play_325 post x2 x3 x4 u = (∀ a_r_46 : Nat → Int32, a_r_46 = upd (qy_r u) 3 ((qy_r u) 2) → (zy_play_337 post x2 x3 x4 (uy_r a_r_46 u))) := rfl
def zy_play_212 (post : SY → Prop) (x1 : Int32) (x2 : Int32) (x3 : Int32) (x4 : Int32) (n : Nat) (x5 : Int32) (u : SY) : Prop := wY_play_212 post x1 x2 x3 x4 (qy_cap u) (qy_slots u) (qy_shift u) (qy_lazy u) (qy_n u) (qy_openSlot u) (qy_taken u) (qy_ended u) (qy_count u) (qy_state u) (qy_lastKind u) (qy_lastLength u) (qy_lastDistance u) n x5 (qy_pos u) (qy_source u) (qy_tokens u) (qy_tokenKind u) (qy_tokenLength u) (qy_tokenDistance u) (qy_tokenByte u) (qy_holds u) (qy_out u) (qy_r u) (qy_flags u) (qy_literals u)
theorem ey_play_212 (post : SY → Prop) (x1 : Int32) (x2 : Int32) (x3 : Int32) (x4 : Int32) (n : Nat) (x5 : Int32) (u : SY) : zy_play_212 post x1 x2 x3 x4 (n + 1) x5 u = (vp_in x1 192 ∧ ((((qy_tokenLength u) x1.toNatClampNeg) ≤ x5 → (∀ f_count_41 : Int32, f_count_41 = (qy_count u) + 1 → (vp_in x1 192 ∧ (∀ f_lastLength_43 : Int32, f_lastLength_43 = (qy_tokenLength u) x1.toNatClampNeg → ((x3 = 2 → (zy_play_325 post x2 x3 x4 (uy_count_lastKind_lastLength_lastDistance f_count_41 x3 f_lastLength_43 x4 u))) ∧ (¬ x3 = 2 → ((x3 = 7 → (zy_play_325 post x2 x3 x4 (uy_count_lastKind_lastLength_lastDistance f_count_41 x3 f_lastLength_43 x4 u))) ∧ (¬ x3 = 7 → (zy_play_337 post x2 x3 x4 (uy_count_lastKind_lastLength_lastDistance f_count_41 x3 f_lastLength_43 x4 u)))))))))) ∧ (¬ ((qy_tokenLength u) x1.toNatClampNeg) ≤ x5 → ((x3 = 1 → (vp_in x1 192 ∧ (vp_in (qy_pos u) 64 ∧ ∀ a_out_79 : Nat → Int32, a_out_79 = upd (qy_out u) (qy_pos u).toNatClampNeg ((qy_tokenByte u) x1.toNatClampNeg) → (∀ f_pos_75 : Int32, f_pos_75 = (qy_pos u) + 1 → (∀ x5_76 : Int32, x5_76 = x5 + 1 → (zy_play_212 post x1 x2 x3 x4 n x5_76 (uy_pos_out f_pos_75 a_out_79 u))))))) ∧ (¬ x3 = 1 → (vp_in ((qy_pos u) - x4) 64 ∧ (vp_in (qy_pos u) 64 ∧ ∀ a_out_74 : Nat → Int32, a_out_74 = upd (qy_out u) (qy_pos u).toNatClampNeg ((qy_out u) ((qy_pos u) - x4).toNatClampNeg) → (∀ f_pos_75 : Int32, f_pos_75 = (qy_pos u) + 1 → (∀ x5_76 : Int32, x5_76 = x5 + 1 → (zy_play_212 post x1 x2 x3 x4 n x5_76 (uy_pos_out f_pos_75 a_out_74 u))))))))))) := rfl
def zy_play_156 (post : SY → Prop) (x1 : Int32) (x2 : Int32) (x3 : Int32) (x4 : Int32) (n : Nat) (x5 : Int32) (x6 : Int32) (u : SY) : Prop := wY_play_156 post x1 x2 x3 x4 (qy_cap u) (qy_slots u) (qy_shift u) (qy_lazy u) (qy_n u) (qy_openSlot u) (qy_taken u) (qy_ended u) (qy_pos u) (qy_count u) (qy_state u) (qy_lastKind u) (qy_lastLength u) (qy_lastDistance u) n x5 x6 (qy_source u) (qy_tokens u) (qy_tokenKind u) (qy_tokenLength u) (qy_tokenDistance u) (qy_tokenByte u) (qy_holds u) (qy_out u) (qy_r u) (qy_flags u) (qy_literals u)
theorem ey_play_156 (post : SY → Prop) (x1 : Int32) (x2 : Int32) (x3 : Int32) (x4 : Int32) (n : Nat) (x5 : Int32) (x6 : Int32) (u : SY) : zy_play_156 post x1 x2 x3 x4 (n + 1) x5 x6 u = (((x6 < 0 → (∃ n212 : Nat, zy_play_212 post x1 x2 x3 x4 n212 0 u)) ∧ (¬ x6 < 0 → (vp_in x1 192 ∧ (∀ x7_82 : Int32, x7_82 = (((qy_tokenByte u) x1.toNatClampNeg) >>> (x6 &&& 31)) &&& 1 → (vp_in x5 256 ∧ (wpY_moved (fun r_84 => (vp_in x5 256 ∧ ∀ a_literals_111 : Nat → Int32, a_literals_111 = upd (qy_literals u) x5.toNatClampNeg r_84 → (∀ x5_112 : Int32, x5_112 = (2 * x5) + x7_82 → (∀ x6_113 : Int32, x6_113 = x6 + (-1) → (zy_play_156 post x1 x2 x3 x4 n x5_112 x6_113 (uy_literals a_literals_111 u)))))) u ((qy_literals u) x5.toNatClampNeg) x7_82))))))) := rfl
def zy_play_144 (post : SY → Prop) (x1 : Int32) (x2 : Int32) (x3 : Int32) (x4 : Int32) (u : SY) : Prop := wY_play_144 post x1 x2 x3 x4 (qy_cap u) (qy_slots u) (qy_shift u) (qy_lazy u) (qy_n u) (qy_openSlot u) (qy_taken u) (qy_ended u) (qy_pos u) (qy_count u) (qy_state u) (qy_lastKind u) (qy_lastLength u) (qy_lastDistance u) (qy_source u) (qy_tokens u) (qy_tokenKind u) (qy_tokenLength u) (qy_tokenDistance u) (qy_tokenByte u) (qy_holds u) (qy_out u) (qy_r u) (qy_flags u) (qy_literals u)
theorem ey_play_144 (post : SY → Prop) (x1 : Int32) (x2 : Int32) (x3 : Int32) (x4 : Int32) (u : SY) : zy_play_144 post x1 x2 x3 x4 u = (((x3 = 1 → (∃ n156 : Nat, zy_play_156 post x1 x2 x3 x4 n156 1 7 u)) ∧ (¬ x3 = 1 → (∃ n212 : Nat, zy_play_212 post x1 x2 x3 x4 n212 0 u)))) := rfl
def zy_play_141 (post : SY → Prop) (x1 : Int32) (x2 : Int32) (x3 : Int32) (x4 : Int32) (z0 : Int32) (z1 : Int32) (z2 : Int32) (u : SY) : Prop := wY_play_141 post x1 x2 x3 x4 z0 z1 z2 (qy_cap u) (qy_slots u) (qy_shift u) (qy_lazy u) (qy_n u) (qy_openSlot u) (qy_taken u) (qy_ended u) (qy_pos u) (qy_count u) (qy_state u) (qy_lastKind u) (qy_lastLength u) (qy_lastDistance u) (qy_source u) (qy_tokens u) (qy_tokenKind u) (qy_tokenLength u) (qy_tokenDistance u) (qy_tokenByte u) (qy_holds u) (qy_out u) (qy_r u) (qy_flags u) (qy_literals u)
theorem ey_play_141 (post : SY → Prop) (x1 : Int32) (x2 : Int32) (x3 : Int32) (x4 : Int32) (z0 : Int32) (z1 : Int32) (z2 : Int32) (u : SY) : zy_play_141 post x1 x2 x3 x4 z0 z1 z2 u = (wpY_flag (fun (u116 : SY) => (zy_play_144 post x1 x2 x3 x4 u116)) u z2 z1 z0) := rfl
def zy_play_121 (post : SY → Prop) (x1 : Int32) (x2 : Int32) (x3 : Int32) (x4 : Int32) (u : SY) : Prop := wY_play_121 post x1 x2 x3 x4 (qy_cap u) (qy_slots u) (qy_shift u) (qy_lazy u) (qy_n u) (qy_openSlot u) (qy_taken u) (qy_ended u) (qy_pos u) (qy_count u) (qy_state u) (qy_lastKind u) (qy_lastLength u) (qy_lastDistance u) (qy_source u) (qy_tokens u) (qy_tokenKind u) (qy_tokenLength u) (qy_tokenDistance u) (qy_tokenByte u) (qy_holds u) (qy_out u) (qy_r u) (qy_flags u) (qy_literals u)
theorem ey_play_121 (post : SY → Prop) (x1 : Int32) (x2 : Int32) (x3 : Int32) (x4 : Int32) (u : SY) : zy_play_121 post x1 x2 x3 x4 u = (((x3 < 6 → (zy_play_144 post x1 x2 x3 x4 u)) ∧ (¬ x3 < 6 → ((x3 = 6 → (zy_play_141 post x1 x2 x3 x4 0 x2 4 u)) ∧ (¬ x3 = 6 → (zy_play_141 post x1 x2 x3 x4 1 x2 4 u)))))) := rfl
def zy_play_118 (post : SY → Prop) (x1 : Int32) (x2 : Int32) (x3 : Int32) (x4 : Int32) (z0 : Int32) (z1 : Int32) (z2 : Int32) (u : SY) : Prop := wY_play_118 post x1 x2 x3 x4 z0 z1 z2 (qy_cap u) (qy_slots u) (qy_shift u) (qy_lazy u) (qy_n u) (qy_openSlot u) (qy_taken u) (qy_ended u) (qy_pos u) (qy_count u) (qy_state u) (qy_lastKind u) (qy_lastLength u) (qy_lastDistance u) (qy_source u) (qy_tokens u) (qy_tokenKind u) (qy_tokenLength u) (qy_tokenDistance u) (qy_tokenByte u) (qy_holds u) (qy_out u) (qy_r u) (qy_flags u) (qy_literals u)
theorem ey_play_118 (post : SY → Prop) (x1 : Int32) (x2 : Int32) (x3 : Int32) (x4 : Int32) (z0 : Int32) (z1 : Int32) (z2 : Int32) (u : SY) : zy_play_118 post x1 x2 x3 x4 z0 z1 z2 u = (wpY_flag (fun (u143 : SY) => (zy_play_121 post x1 x2 x3 x4 u143)) u z2 z1 z0) := rfl
def zy_play_100 (post : SY → Prop) (x1 : Int32) (x2 : Int32) (x3 : Int32) (x4 : Int32) (u : SY) : Prop := wY_play_100 post x1 x2 x3 x4 (qy_cap u) (qy_slots u) (qy_shift u) (qy_lazy u) (qy_n u) (qy_openSlot u) (qy_taken u) (qy_ended u) (qy_pos u) (qy_count u) (qy_state u) (qy_lastKind u) (qy_lastLength u) (qy_lastDistance u) (qy_source u) (qy_tokens u) (qy_tokenKind u) (qy_tokenLength u) (qy_tokenDistance u) (qy_tokenByte u) (qy_holds u) (qy_out u) (qy_r u) (qy_flags u) (qy_literals u)
theorem ey_play_100 (post : SY → Prop) (x1 : Int32) (x2 : Int32) (x3 : Int32) (x4 : Int32) (u : SY) : zy_play_100 post x1 x2 x3 x4 u = (((x3 < 5 → (zy_play_121 post x1 x2 x3 x4 u)) ∧ (¬ x3 < 5 → ((x3 = 5 → (zy_play_118 post x1 x2 x3 x4 0 x2 3 u)) ∧ (¬ x3 = 5 → (zy_play_118 post x1 x2 x3 x4 1 x2 3 u)))))) := rfl
def zy_play_88 (post : SY → Prop) (x1 : Int32) (x2 : Int32) (x3 : Int32) (x4 : Int32) (u : SY) : Prop := wY_play_88 post x1 x2 x3 x4 (qy_cap u) (qy_slots u) (qy_shift u) (qy_lazy u) (qy_n u) (qy_openSlot u) (qy_taken u) (qy_ended u) (qy_pos u) (qy_count u) (qy_state u) (qy_lastKind u) (qy_lastLength u) (qy_lastDistance u) (qy_source u) (qy_tokens u) (qy_tokenKind u) (qy_tokenLength u) (qy_tokenDistance u) (qy_tokenByte u) (qy_holds u) (qy_out u) (qy_r u) (qy_flags u) (qy_literals u)
theorem ey_play_88 (post : SY → Prop) (x1 : Int32) (x2 : Int32) (x3 : Int32) (x4 : Int32) (u : SY) : zy_play_88 post x1 x2 x3 x4 u = (((x3 = 4 → (wpY_flag (fun (u169 : SY) => (zy_play_100 post x1 x2 x3 x4 u169)) u 5 x2 1)) ∧ (¬ x3 = 4 → (zy_play_100 post x1 x2 x3 x4 u)))) := rfl
def zy_play_76 (post : SY → Prop) (x1 : Int32) (x2 : Int32) (x3 : Int32) (x4 : Int32) (u : SY) : Prop := wY_play_76 post x1 x2 x3 x4 (qy_cap u) (qy_slots u) (qy_shift u) (qy_lazy u) (qy_n u) (qy_openSlot u) (qy_taken u) (qy_ended u) (qy_pos u) (qy_count u) (qy_state u) (qy_lastKind u) (qy_lastLength u) (qy_lastDistance u) (qy_source u) (qy_tokens u) (qy_tokenKind u) (qy_tokenLength u) (qy_tokenDistance u) (qy_tokenByte u) (qy_holds u) (qy_out u) (qy_r u) (qy_flags u) (qy_literals u)
theorem ey_play_76 (post : SY → Prop) (x1 : Int32) (x2 : Int32) (x3 : Int32) (x4 : Int32) (u : SY) : zy_play_76 post x1 x2 x3 x4 u = (((x3 = 3 → (wpY_flag (fun (u195 : SY) => (zy_play_88 post x1 x2 x3 x4 u195)) u 5 x2 0)) ∧ (¬ x3 = 3 → (zy_play_88 post x1 x2 x3 x4 u)))) := rfl
def zy_play_73 (post : SY → Prop) (x1 : Int32) (x2 : Int32) (x3 : Int32) (x4 : Int32) (z0 : Int32) (z1 : Int32) (z2 : Int32) (u : SY) : Prop := wY_play_73 post x1 x2 x3 x4 z0 z1 z2 (qy_cap u) (qy_slots u) (qy_shift u) (qy_lazy u) (qy_n u) (qy_openSlot u) (qy_taken u) (qy_ended u) (qy_pos u) (qy_count u) (qy_state u) (qy_lastKind u) (qy_lastLength u) (qy_lastDistance u) (qy_source u) (qy_tokens u) (qy_tokenKind u) (qy_tokenLength u) (qy_tokenDistance u) (qy_tokenByte u) (qy_holds u) (qy_out u) (qy_r u) (qy_flags u) (qy_literals u)
theorem ey_play_73 (post : SY → Prop) (x1 : Int32) (x2 : Int32) (x3 : Int32) (x4 : Int32) (z0 : Int32) (z1 : Int32) (z2 : Int32) (u : SY) : zy_play_73 post x1 x2 x3 x4 z0 z1 z2 u = (wpY_flag (fun (u248 : SY) => (zy_play_76 post x1 x2 x3 x4 u248)) u z2 z1 z0) := rfl
def zy_play_48 (post : SY → Prop) (x1 : Int32) (x2 : Int32) (x3 : Int32) (x4 : Int32) (u : SY) : Prop := wY_play_48 post x1 x2 x3 x4 (qy_cap u) (qy_slots u) (qy_shift u) (qy_lazy u) (qy_n u) (qy_openSlot u) (qy_taken u) (qy_ended u) (qy_pos u) (qy_count u) (qy_state u) (qy_lastKind u) (qy_lastLength u) (qy_lastDistance u) (qy_source u) (qy_tokens u) (qy_tokenKind u) (qy_tokenLength u) (qy_tokenDistance u) (qy_tokenByte u) (qy_holds u) (qy_out u) (qy_r u) (qy_flags u) (qy_literals u)
theorem ey_play_48 (post : SY → Prop) (x1 : Int32) (x2 : Int32) (x3 : Int32) (x4 : Int32) (u : SY) : zy_play_48 post x1 x2 x3 x4 u = (((x3 < 3 → (zy_play_76 post x1 x2 x3 x4 u)) ∧ (¬ x3 < 3 → (wpY_flag (fun (u221 : SY) => ((x3 < 5 → (zy_play_73 post x1 x2 x3 x4 0 x2 2 u221)) ∧ (¬ x3 < 5 → (zy_play_73 post x1 x2 x3 x4 1 x2 2 u221)))) u 1 x2 1)))) := rfl
def zy_play_33 (post : SY → Prop) (x1 : Int32) (x2 : Int32) (x3 : Int32) (x4 : Int32) (z0 : Int32) (z1 : Int32) (z2 : Int32) (u : SY) : Prop := wY_play_33 post x1 x2 x3 x4 z0 z1 z2 (qy_cap u) (qy_slots u) (qy_shift u) (qy_lazy u) (qy_n u) (qy_openSlot u) (qy_taken u) (qy_ended u) (qy_pos u) (qy_count u) (qy_state u) (qy_lastKind u) (qy_lastLength u) (qy_lastDistance u) (qy_source u) (qy_tokens u) (qy_tokenKind u) (qy_tokenLength u) (qy_tokenDistance u) (qy_tokenByte u) (qy_holds u) (qy_out u) (qy_r u) (qy_flags u) (qy_literals u)
theorem ey_play_33 (post : SY → Prop) (x1 : Int32) (x2 : Int32) (x3 : Int32) (x4 : Int32) (z0 : Int32) (z1 : Int32) (z2 : Int32) (u : SY) : zy_play_33 post x1 x2 x3 x4 z0 z1 z2 u = (wpY_flag (fun (u7 : SY) => ((x3 = 2 → (wpY_flag (fun (u274 : SY) => (zy_play_48 post x1 x2 x3 x4 u274)) u7 1 x2 0)) ∧ (¬ x3 = 2 → (zy_play_48 post x1 x2 x3 x4 u7)))) u z2 z1 z0) := rfl
theorem ey_play (post : SY → Prop) (u : SY) (p0 : Int32) : wpY_play post u p0 = (vp_in p0 192 ∧ (∀ x3_2 : Int32, x3_2 = (qy_tokenKind u) p0.toNatClampNeg → (vp_in p0 192 ∧ (∀ x4_4 : Int32, x4_4 = (qy_tokenDistance u) p0.toNatClampNeg → ((x3_2 = 1 → (zy_play_33 post p0 (qy_state u) x3_2 x4_4 0 (qy_state u) 0 u)) ∧ (¬ x3_2 = 1 → (zy_play_33 post p0 (qy_state u) x3_2 x4_4 1 (qy_state u) 0 u))))))) := rfl
def zy_replay_156 (post : SY → Prop) (x1 : Int32) (u : SY) : Prop := wY_replay_156 post x1 (qy_cap u) (qy_slots u) (qy_shift u) (qy_lazy u) (qy_n u) (qy_openSlot u) (qy_taken u) (qy_ended u) (qy_pos u) (qy_count u) (qy_state u) (qy_lastKind u) (qy_lastLength u) (qy_lastDistance u) (qy_source u) (qy_tokens u) (qy_tokenKind u) (qy_tokenLength u) (qy_tokenDistance u) (qy_tokenByte u) (qy_holds u) (qy_out u) (qy_r u) (qy_flags u) (qy_literals u)
theorem ey_replay_156 (post : SY → Prop) (x1 : Int32) (u : SY) : zy_replay_156 post x1 u = (((x1 = 1 → (((qy_ended u) = 0 → (post u)) ∧ (¬ (qy_ended u) = 0 → (wpY_flag (fun (u10 : SY) => (wpY_flag post u10 1 (qy_state u10) 0)) u 0 (qy_state u) 1)))) ∧ (¬ x1 = 1 → (post u)))) := rfl
def zy_replay_126 (post : SY → Prop) (x1 : Int32) (x2 : Int32) (x3 : Int32) (n : Nat) (x4 : Int32) (u : SY) : Prop := wY_replay_126 post x1 x2 x3 n x4 (qy_cap u) (qy_slots u) (qy_shift u) (qy_lazy u) (qy_n u) (qy_openSlot u) (qy_taken u) (qy_ended u) (qy_pos u) (qy_count u) (qy_state u) (qy_lastKind u) (qy_lastLength u) (qy_lastDistance u) (qy_source u) (qy_tokens u) (qy_tokenKind u) (qy_tokenLength u) (qy_tokenDistance u) (qy_tokenByte u) (qy_holds u) (qy_out u) (qy_r u) (qy_flags u) (qy_literals u)
theorem ey_replay_126 (post : SY → Prop) (x1 : Int32) (x2 : Int32) (x3 : Int32) (n : Nat) (x4 : Int32) (u : SY) : zy_replay_126 post x1 x2 x3 (n + 1) x4 u = (((x3 ≤ x4 → (zy_replay_156 post x1 u)) ∧ (¬ x3 ≤ x4 → ((64 ≤ x4 → (zy_replay_156 post x1 u)) ∧ (¬ 64 ≤ x4 → (wpY_play (fun (u63 : SY) => (∀ x4_88 : Int32, x4_88 = x4 + 1 → (zy_replay_126 post x1 x2 x3 n x4_88 u63))) u ((x2 * 64) + x4))))))) := rfl
def zy_replay_75 (post : SY → Prop) (x1 : Int32) (n : Nat) (x2 : Int32) (u : SY) : Prop := wY_replay_75 post x1 (qy_cap u) (qy_slots u) (qy_shift u) (qy_lazy u) (qy_n u) (qy_openSlot u) (qy_taken u) (qy_ended u) (qy_pos u) (qy_count u) (qy_state u) (qy_lastKind u) (qy_lastLength u) (qy_lastDistance u) n x2 (qy_source u) (qy_tokens u) (qy_tokenKind u) (qy_tokenLength u) (qy_tokenDistance u) (qy_tokenByte u) (qy_holds u) (qy_out u) (qy_r u) (qy_flags u) (qy_literals u)
theorem ey_replay_75 (post : SY → Prop) (x1 : Int32) (n : Nat) (x2 : Int32) (u : SY) : zy_replay_75 post x1 (n + 1) x2 u = (((256 ≤ x2 → (∀ x3_4 : Int32, x3_4 = (qy_tokens u) 0 → ((x1 = 1 → (∀ x2_89 : Int32, x2_89 = (qy_openSlot u) + 1 → (∃ n126 : Nat, zy_replay_126 post x1 x2_89 (qy_taken u) n126 0 u))) ∧ (¬ x1 = 1 → (∃ n126 : Nat, zy_replay_126 post x1 0 x3_4 n126 0 u))))) ∧ (¬ 256 ≤ x2 → (vp_in x2 256 ∧ ∀ a_literals_91 : Nat → Int32, a_literals_91 = upd (qy_literals u) x2.toNatClampNeg 1024 → (∀ x2_92 : Int32, x2_92 = x2 + 1 → (zy_replay_75 post x1 n x2_92 (uy_literals a_literals_91 u))))))) := rfl
def zy_replay_52 (post : SY → Prop) (x1 : Int32) (n : Nat) (x2 : Int32) (u : SY) : Prop := wY_replay_52 post x1 (qy_cap u) (qy_slots u) (qy_shift u) (qy_lazy u) (qy_n u) (qy_openSlot u) (qy_taken u) (qy_ended u) (qy_pos u) (qy_count u) (qy_state u) (qy_lastKind u) (qy_lastLength u) (qy_lastDistance u) n x2 (qy_source u) (qy_tokens u) (qy_tokenKind u) (qy_tokenLength u) (qy_tokenDistance u) (qy_tokenByte u) (qy_holds u) (qy_out u) (qy_r u) (qy_flags u) (qy_literals u)
theorem ey_replay_52 (post : SY → Prop) (x1 : Int32) (n : Nat) (x2 : Int32) (u : SY) : zy_replay_52 post x1 (n + 1) x2 u = (((72 ≤ x2 → (∃ n75 : Nat, zy_replay_75 post x1 n75 0 u)) ∧ (¬ 72 ≤ x2 → (vp_in x2 72 ∧ ∀ a_flags_94 : Nat → Int32, a_flags_94 = upd (qy_flags u) x2.toNatClampNeg 1024 → (∀ x2_95 : Int32, x2_95 = x2 + 1 → (zy_replay_52 post x1 n x2_95 (uy_flags a_flags_94 u))))))) := rfl
def zy_replay_32 (post : SY → Prop) (x1 : Int32) (n : Nat) (x2 : Int32) (u : SY) : Prop := wY_replay_32 post x1 (qy_cap u) (qy_slots u) (qy_shift u) (qy_lazy u) (qy_n u) (qy_openSlot u) (qy_taken u) (qy_ended u) (qy_pos u) (qy_count u) (qy_state u) (qy_lastKind u) (qy_lastLength u) (qy_lastDistance u) n x2 (qy_source u) (qy_tokens u) (qy_tokenKind u) (qy_tokenLength u) (qy_tokenDistance u) (qy_tokenByte u) (qy_holds u) (qy_out u) (qy_r u) (qy_flags u) (qy_literals u)
theorem ey_replay_32 (post : SY → Prop) (x1 : Int32) (n : Nat) (x2 : Int32) (u : SY) : zy_replay_32 post x1 (n + 1) x2 u = (((4 ≤ x2 → (∃ n52 : Nat, zy_replay_52 post x1 n52 0 u)) ∧ (¬ 4 ≤ x2 → (vp_in x2 4 ∧ ∀ a_r_97 : Nat → Int32, a_r_97 = upd (qy_r u) x2.toNatClampNeg 1 → (∀ x2_98 : Int32, x2_98 = x2 + 1 → (zy_replay_32 post x1 n x2_98 (uy_r a_r_97 u))))))) := rfl
theorem ey_replay (post : SY → Prop) (u : SY) (p0 : Int32) : wpY_replay post u p0 = (∃ n32 : Nat, zy_replay_32 post p0 n32 0 (uy_pos_count_state_lastKind_lastLength_lastDistance 0 0 0 0 0 0 u)) := rfl
theorem ey_put (post : Int32 → SY → Prop) (u : SY) (p0 : Int32) : wpY_put post u p0 = ((((qy_n u) = (qy_cap u) → (post (-1) u)) ∧ (¬ (qy_n u) = (qy_cap u) → (vp_in (qy_n u) 64 ∧ ∀ a_source_3 : Nat → Int32, a_source_3 = upd (qy_source u) (qy_n u).toNatClampNeg (p0 &&& 255) → (∀ f_n_4 : Int32, f_n_4 = (qy_n u) + 1 → (post f_n_4 (uy_n_source f_n_4 a_source_3 u))))))) := rfl
def zy_putWord_18 (post : Int32 → SY → Prop) (x1 : Int32) (n : Nat) (x2 : Int32) (u : SY) : Prop := wY_putWord_18 post x1 n x2 (qy_cap u) (qy_slots u) (qy_shift u) (qy_lazy u) (qy_n u) (qy_openSlot u) (qy_taken u) (qy_ended u) (qy_pos u) (qy_count u) (qy_state u) (qy_lastKind u) (qy_lastLength u) (qy_lastDistance u) (qy_source u) (qy_tokens u) (qy_tokenKind u) (qy_tokenLength u) (qy_tokenDistance u) (qy_tokenByte u) (qy_holds u) (qy_out u) (qy_r u) (qy_flags u) (qy_literals u)
theorem ey_putWord_18 (post : Int32 → SY → Prop) (x1 : Int32) (n : Nat) (x2 : Int32) (u : SY) : zy_putWord_18 post x1 (n + 1) x2 u = (((x2 < 0 → (post (qy_n u) u)) ∧ (¬ x2 < 0 → (wpY_put (fun r_3 (u4 : SY) => (∀ x2_29 : Int32, x2_29 = x2 + (-8) → (zy_putWord_18 post x1 n x2_29 u4))) u (x1 >>> (x2 &&& 31)))))) := rfl
theorem ey_putWord (post : Int32 → SY → Prop) (u : SY) (p0 : Int32) : wpY_putWord post u p0 = (((4 ≤ ((qy_cap u) - (qy_n u)) → (∃ n18 : Nat, zy_putWord_18 post p0 n18 24 u)) ∧ (¬ 4 ≤ ((qy_cap u) - (qy_n u)) → (post (-1) u)))) := rfl
def zy_putCopy_41 (post : Int32 → SY → Prop) (x1 : Int32) (x2 : Int32) (n : Nat) (x3 : Int32) (u : SY) : Prop := wY_putCopy_41 post x1 x2 n x3 (qy_cap u) (qy_slots u) (qy_shift u) (qy_lazy u) (qy_n u) (qy_openSlot u) (qy_taken u) (qy_ended u) (qy_pos u) (qy_count u) (qy_state u) (qy_lastKind u) (qy_lastLength u) (qy_lastDistance u) (qy_source u) (qy_tokens u) (qy_tokenKind u) (qy_tokenLength u) (qy_tokenDistance u) (qy_tokenByte u) (qy_holds u) (qy_out u) (qy_r u) (qy_flags u) (qy_literals u)
theorem ey_putCopy_41 (post : Int32 → SY → Prop) (x1 : Int32) (x2 : Int32) (n : Nat) (x3 : Int32) (u : SY) : zy_putCopy_41 post x1 x2 (n + 1) x3 u = (((x2 ≤ x3 → (post (qy_n u) u)) ∧ (¬ x2 ≤ x3 → (vp_in ((qy_n u) - x1) 64 ∧ (wpY_put (fun r_7 (u8 : SY) => (∀ x3_33 : Int32, x3_33 = x3 + 1 → (zy_putCopy_41 post x1 x2 n x3_33 u8))) u ((qy_source u) ((qy_n u) - x1).toNatClampNeg)))))) := rfl
theorem ey_putCopy (post : Int32 → SY → Prop) (u : SY) (p0 : Int32) (p1 : Int32) : wpY_putCopy post u p0 p1 = (((p0 < 1 → (post (-3) u)) ∧ (¬ p0 < 1 → ((p0 ≤ (qy_n u) → ((1 ≤ p1 → ((p1 ≤ ((qy_cap u) - (qy_n u)) → (∃ n41 : Nat, zy_putCopy_41 post p0 p1 n41 0 u)) ∧ (¬ p1 ≤ ((qy_cap u) - (qy_n u)) → (post (-1) u)))) ∧ (¬ 1 ≤ p1 → (post (-3) u)))) ∧ (¬ p0 ≤ (qy_n u) → (post (-3) u)))))) := rfl
theorem ey_note (post : Int32 → SY → Prop) (u : SY) (p0 : Int32) (p1 : Int32) (p2 : Int32) : wpY_note post u p0 p1 p2 = (∀ x4_1 : Int32, x4_1 = (qy_tokens u) 0 → (vp_in x4_1 192 ∧ ∀ a_tokenKind_3 : Nat → Int32, a_tokenKind_3 = upd (qy_tokenKind u) x4_1.toNatClampNeg p0 → (vp_in x4_1 192 ∧ ∀ a_tokenLength_5 : Nat → Int32, a_tokenLength_5 = upd (qy_tokenLength u) x4_1.toNatClampNeg p1 → (vp_in x4_1 192 ∧ ∀ a_tokenDistance_7 : Nat → Int32, a_tokenDistance_7 = upd (qy_tokenDistance u) x4_1.toNatClampNeg p2 → (vp_in (qy_pos u) 64 ∧ (vp_in x4_1 192 ∧ ∀ a_tokenByte_10 : Nat → Int32, a_tokenByte_10 = upd (qy_tokenByte u) x4_1.toNatClampNeg ((qy_source u) (qy_pos u).toNatClampNeg) → (∀ a_tokens_12 : Nat → Int32, a_tokens_12 = upd (qy_tokens u) 0 (x4_1 + 1) → (post p0 (uy_tokens_tokenKind_tokenLength_tokenDistance_tokenByte a_tokens_12 a_tokenKind_3 a_tokenLength_5 a_tokenDistance_7 a_tokenByte_10 u))))))))) := rfl
def zy_same_3 (post : Int32 → Prop) (x1 : Int32) (x2 : Int32) (x3 : Int32) (n : Nat) (x4 : Int32) (u : SY) : Prop := wY_same_3 post x1 x2 x3 (qy_cap u) (qy_slots u) (qy_shift u) (qy_lazy u) (qy_n u) (qy_openSlot u) (qy_taken u) (qy_ended u) (qy_pos u) (qy_count u) (qy_state u) (qy_lastKind u) (qy_lastLength u) (qy_lastDistance u) (qy_source u) (qy_tokens u) (qy_tokenKind u) (qy_tokenLength u) (qy_tokenDistance u) (qy_tokenByte u) (qy_holds u) (qy_out u) (qy_r u) (qy_flags u) (qy_literals u) n x4
theorem ey_same_3 (post : Int32 → Prop) (x1 : Int32) (x2 : Int32) (x3 : Int32) (n : Nat) (x4 : Int32) (u : SY) : zy_same_3 post x1 x2 x3 (n + 1) x4 u = (((x3 ≤ x4 → (post 1)) ∧ (¬ x3 ≤ x4 → (vp_in (x1 + x4) 64 ∧ (vp_in ((x1 + x4) - x2) 64 ∧ ((((qy_source u) (x1 + x4).toNatClampNeg) = ((qy_source u) ((x1 + x4) - x2).toNatClampNeg) → (∀ x4_5 : Int32, x4_5 = x4 + 1 → (zy_same_3 post x1 x2 x3 n x4_5 u))) ∧ (¬ ((qy_source u) (x1 + x4).toNatClampNeg) = ((qy_source u) ((x1 + x4) - x2).toNatClampNeg) → (post 0)))))))) := rfl
theorem ey_same (post : Int32 → Prop) (u : SY) (p0 : Int32) (p1 : Int32) (p2 : Int32) : wpY_same post u p0 p1 p2 = (∃ n3 : Nat, zy_same_3 post p0 p1 p2 n3 0 u) := rfl
def zy_run_33 (post : Int32 → Prop) (x1 : Int32) (x2 : Int32) (n : Nat) (x4 : Int32) (u : SY) : Prop := wY_run_33 post x1 x2 (qy_cap u) (qy_slots u) (qy_shift u) (qy_lazy u) (qy_n u) (qy_openSlot u) (qy_taken u) (qy_ended u) (qy_pos u) (qy_count u) (qy_state u) (qy_lastKind u) (qy_lastLength u) (qy_lastDistance u) (qy_source u) (qy_tokens u) (qy_tokenKind u) (qy_tokenLength u) (qy_tokenDistance u) (qy_tokenByte u) (qy_holds u) (qy_out u) (qy_r u) (qy_flags u) (qy_literals u) n x4
theorem ey_run_33 (post : Int32 → Prop) (x1 : Int32) (x2 : Int32) (n : Nat) (x4 : Int32) (u : SY) : zy_run_33 post x1 x2 (n + 1) x4 u = (((x4 ≤ 0 → (post 0)) ∧ (¬ x4 ≤ 0 → (wpY_same (fun r_4 => ((r_4 = 0 → (∀ x4_31 : Int32, x4_31 = x4 + (-1) → (zy_run_33 post x1 x2 n x4_31 u))) ∧ (¬ r_4 = 0 → (post x4)))) u x1 x2 x4)))) := rfl
theorem ey_run (post : Int32 → Prop) (u : SY) (p0 : Int32) (p1 : Int32) : wpY_run post u p0 p1 = (((p1 ≤ p0 → ((17 ≤ ((qy_n u) - p0) → (∃ n33 : Nat, zy_run_33 post p0 p1 n33 17 u)) ∧ (¬ 17 ≤ ((qy_n u) - p0) → (∀ x3_32 : Int32, x3_32 = (qy_n u) - p0 → (∃ n33 : Nat, zy_run_33 post p0 p1 n33 x3_32 u))))) ∧ (¬ p1 ≤ p0 → (post 0)))) := rfl
def zy_longest_4 (post : Int32 → Prop) (x1 : Int32) (n : Nat) (x2 : Int32) (x3 : Int32) (u : SY) : Prop := wY_longest_4 post x1 (qy_cap u) (qy_slots u) (qy_shift u) (qy_lazy u) (qy_n u) (qy_openSlot u) (qy_taken u) (qy_ended u) (qy_pos u) (qy_count u) (qy_state u) (qy_lastKind u) (qy_lastLength u) (qy_lastDistance u) (qy_source u) (qy_tokens u) (qy_tokenKind u) (qy_tokenLength u) (qy_tokenDistance u) (qy_tokenByte u) (qy_holds u) (qy_out u) (qy_r u) (qy_flags u) (qy_literals u) n x2 x3
theorem ey_longest_4 (post : Int32 → Prop) (x1 : Int32) (n : Nat) (x2 : Int32) (x3 : Int32) (u : SY) : zy_longest_4 post x1 (n + 1) x2 x3 u = (((x1 < x3 → (post x2)) ∧ (¬ x1 < x3 → (wpY_run (fun r_2 => ((r_2 ≤ x2 → (∀ x3_29 : Int32, x3_29 = x3 + 1 → (zy_longest_4 post x1 n x2 x3_29 u))) ∧ (¬ r_2 ≤ x2 → (∀ x3_30 : Int32, x3_30 = x3 + 1 → (zy_longest_4 post x1 n r_2 x3_30 u))))) u x1 x3)))) := rfl
theorem ey_longest (post : Int32 → Prop) (u : SY) (p0 : Int32) : wpY_longest post u p0 = (∃ n4 : Nat, zy_longest_4 post p0 n4 0 1 u) := rfl
theorem ey_encodeLiteral (post : Int32 → SY → Prop) (u : SY) : wpY_encodeLiteral post u = (wpY_replay (fun (u2 : SY) => (((qy_pos u2) = (qy_n u2) → (post (-2) u2)) ∧ (¬ (qy_pos u2) = (qy_n u2) → (wpY_note post u2 1 1 0)))) u 0) := rfl
theorem ey_encodeMatch (post : Int32 → SY → Prop) (u : SY) (p0 : Int32) (p1 : Int32) : wpY_encodeMatch post u p0 p1 = (wpY_replay (fun (u2 : SY) => (((qy_pos u2) = (qy_n u2) → (post (-2) u2)) ∧ (¬ (qy_pos u2) = (qy_n u2) → ((p1 < 2 → (post (-3) u2)) ∧ (¬ p1 < 2 → ((p1 ≤ 17 → ((p0 < 1 → (post (-3) u2)) ∧ (¬ p0 < 1 → ((p0 ≤ (qy_pos u2) → ((p1 ≤ ((qy_n u2) - (qy_pos u2)) → (wpY_same (fun r_33 => ((r_33 = 0 → (post (-4) u2)) ∧ (¬ r_33 = 0 → (wpY_note post u2 2 p1 p0)))) u2 (qy_pos u2) p0 p1)) ∧ (¬ p1 ≤ ((qy_n u2) - (qy_pos u2)) → (post (-9) u2)))) ∧ (¬ p0 ≤ (qy_pos u2) → (post (-3) u2)))))) ∧ (¬ p1 ≤ 17 → (post (-3) u2)))))))) u 0) := rfl
def zy_encodeRep_120 (post : Int32 → SY → Prop) (x2 : Int32) (x3 : Int32) (z0 : Int32) (u : SY) : Prop := wY_encodeRep_120 post x2 x3 z0 (qy_cap u) (qy_slots u) (qy_shift u) (qy_lazy u) (qy_n u) (qy_openSlot u) (qy_taken u) (qy_ended u) (qy_pos u) (qy_count u) (qy_state u) (qy_lastKind u) (qy_lastLength u) (qy_lastDistance u) (qy_source u) (qy_tokens u) (qy_tokenKind u) (qy_tokenLength u) (qy_tokenDistance u) (qy_tokenByte u) (qy_holds u) (qy_out u) (qy_r u) (qy_flags u) (qy_literals u)
theorem ey_encodeRep_120 (post : Int32 → SY → Prop) (x2 : Int32) (x3 : Int32) (z0 : Int32) (u : SY) : zy_encodeRep_120 post x2 x3 z0 u = (wpY_note post u z0 x2 x3) := rfl
def zy_encodeRep_57 (post : Int32 → SY → Prop) (x1 : Int32) (x2 : Int32) (u : SY) : Prop := wY_encodeRep_57 post x1 x2 (qy_cap u) (qy_slots u) (qy_shift u) (qy_lazy u) (qy_n u) (qy_openSlot u) (qy_taken u) (qy_ended u) (qy_pos u) (qy_count u) (qy_state u) (qy_lastKind u) (qy_lastLength u) (qy_lastDistance u) (qy_source u) (qy_tokens u) (qy_tokenKind u) (qy_tokenLength u) (qy_tokenDistance u) (qy_tokenByte u) (qy_holds u) (qy_out u) (qy_r u) (qy_flags u) (qy_literals u)
theorem ey_encodeRep_57 (post : Int32 → SY → Prop) (x1 : Int32) (x2 : Int32) (u : SY) : zy_encodeRep_57 post x1 x2 u = (vp_in x1 4 ∧ (∀ x3_34 : Int32, x3_34 = (qy_r u) x1.toNatClampNeg → ((x3_34 ≤ (qy_pos u) → ((x2 ≤ ((qy_n u) - (qy_pos u)) → (wpY_same (fun r_37 => ((r_37 = 0 → (post (-4) u)) ∧ (¬ r_37 = 0 → ((x2 = 1 → (zy_encodeRep_120 post x2 x3_34 3 u)) ∧ (¬ x2 = 1 → (zy_encodeRep_120 post x2 x3_34 (4 + x1) u)))))) u (qy_pos u) x3_34 x2)) ∧ (¬ x2 ≤ ((qy_n u) - (qy_pos u)) → (post (-9) u)))) ∧ (¬ x3_34 ≤ (qy_pos u) → (post (-3) u))))) := rfl
theorem ey_encodeRep (post : Int32 → SY → Prop) (u : SY) (p0 : Int32) (p1 : Int32) : wpY_encodeRep post u p0 p1 = (wpY_replay (fun (u2 : SY) => (((qy_pos u2) = (qy_n u2) → (post (-2) u2)) ∧ (¬ (qy_pos u2) = (qy_n u2) → ((p0 < 0 → (post (-3) u2)) ∧ (¬ p0 < 0 → ((p0 ≤ 3 → ((p1 < 1 → (post (-3) u2)) ∧ (¬ p1 < 1 → ((p1 ≤ 17 → ((p1 = 1 → ((p0 = 0 → (zy_encodeRep_57 post p0 p1 u2)) ∧ (¬ p0 = 0 → (post (-3) u2)))) ∧ (¬ p1 = 1 → (zy_encodeRep_57 post p0 p1 u2)))) ∧ (¬ p1 ≤ 17 → (post (-3) u2)))))) ∧ (¬ p0 ≤ 3 → (post (-3) u2)))))))) u 0) := rfl
def zy_encodeOne_188 (post : Int32 → SY → Prop) (x1 : Int32) (x2 : Int32) (u : SY) : Prop := wY_encodeOne_188 post x1 x2 (qy_cap u) (qy_slots u) (qy_shift u) (qy_lazy u) (qy_n u) (qy_openSlot u) (qy_taken u) (qy_ended u) (qy_pos u) (qy_count u) (qy_state u) (qy_lastKind u) (qy_lastLength u) (qy_lastDistance u) (qy_source u) (qy_tokens u) (qy_tokenKind u) (qy_tokenLength u) (qy_tokenDistance u) (qy_tokenByte u) (qy_holds u) (qy_out u) (qy_r u) (qy_flags u) (qy_literals u)
theorem ey_encodeOne_188 (post : Int32 → SY → Prop) (x1 : Int32) (x2 : Int32) (u : SY) : zy_encodeOne_188 post x1 x2 u = (((x1 < 2 → (wpY_run (fun r_59 => ((r_59 = 1 → (wpY_note post u 3 1 ((qy_r u) 0))) ∧ (¬ r_59 = 1 → (wpY_note post u 1 1 0)))) u (qy_pos u) ((qy_r u) 0))) ∧ (¬ x1 < 2 → (wpY_note post u 2 x1 x2)))) := rfl
def zy_encodeOne_140 (post : Int32 → SY → Prop) (x1 : Int32) (x2 : Int32) (u : SY) : Prop := wY_encodeOne_140 post x1 x2 (qy_cap u) (qy_slots u) (qy_shift u) (qy_lazy u) (qy_n u) (qy_openSlot u) (qy_taken u) (qy_ended u) (qy_pos u) (qy_count u) (qy_state u) (qy_lastKind u) (qy_lastLength u) (qy_lastDistance u) (qy_source u) (qy_tokens u) (qy_tokenKind u) (qy_tokenLength u) (qy_tokenDistance u) (qy_tokenByte u) (qy_holds u) (qy_out u) (qy_r u) (qy_flags u) (qy_literals u)
theorem ey_encodeOne_140 (post : Int32 → SY → Prop) (x1 : Int32) (x2 : Int32) (u : SY) : zy_encodeOne_140 post x1 x2 u = (((x1 < 2 → (zy_encodeOne_188 post x1 x2 u)) ∧ (¬ x1 < 2 → (((qy_lazy u) = 1 → (((qy_n u) ≤ ((qy_pos u) + 1) → (zy_encodeOne_188 post x1 x2 u)) ∧ (¬ (qy_n u) ≤ ((qy_pos u) + 1) → (wpY_longest (fun r_166 => ((r_166 ≤ x1 → (zy_encodeOne_188 post x1 x2 u)) ∧ (¬ r_166 ≤ x1 → (wpY_note post u 1 1 0)))) u ((qy_pos u) + 1))))) ∧ (¬ (qy_lazy u) = 1 → (zy_encodeOne_188 post x1 x2 u)))))) := rfl
def zy_encodeOne_69 (post : Int32 → SY → Prop) (x1 : Int32) (x2 : Int32) (n : Nat) (x3 : Int32) (x4 : Int32) (x5 : Int32) (u : SY) : Prop := wY_encodeOne_69 post x1 x2 (qy_cap u) (qy_slots u) (qy_shift u) (qy_lazy u) (qy_n u) (qy_openSlot u) (qy_taken u) (qy_ended u) (qy_pos u) (qy_count u) (qy_state u) (qy_lastKind u) (qy_lastLength u) (qy_lastDistance u) (qy_source u) (qy_tokens u) (qy_tokenKind u) (qy_tokenLength u) (qy_tokenDistance u) (qy_tokenByte u) (qy_holds u) (qy_out u) (qy_r u) (qy_flags u) (qy_literals u) n x3 x4 x5
theorem ey_encodeOne_69 (post : Int32 → SY → Prop) (x1 : Int32) (x2 : Int32) (n : Nat) (x3 : Int32) (x4 : Int32) (x5 : Int32) (u : SY) : zy_encodeOne_69 post x1 x2 (n + 1) x3 x4 x5 u = (((4 ≤ x5 → ((x3 < 2 → (zy_encodeOne_140 post x1 x2 u)) ∧ (¬ x3 < 2 → (((x3 + 1) < x1 → (zy_encodeOne_140 post x1 x2 u)) ∧ (¬ (x3 + 1) < x1 → (vp_in x4 4 ∧ (wpY_note post u (4 + x4) x3 ((qy_r u) x4.toNatClampNeg)))))))) ∧ (¬ 4 ≤ x5 → (vp_in x5 4 ∧ (wpY_run (fun r_248 => ((r_248 ≤ x3 → (∀ x5_275 : Int32, x5_275 = x5 + 1 → (zy_encodeOne_69 post x1 x2 n x3 x4 x5_275 u))) ∧ (¬ r_248 ≤ x3 → (∀ x5_276 : Int32, x5_276 = x5 + 1 → (zy_encodeOne_69 post x1 x2 n r_248 x5 x5_276 u))))) u (qy_pos u) ((qy_r u) x5.toNatClampNeg)))))) := rfl
def zy_encodeOne_35 (post : Int32 → SY → Prop) (x1 : Int32) (n : Nat) (x2 : Int32) (x3 : Int32) (u : SY) : Prop := wY_encodeOne_35 post x1 (qy_cap u) (qy_slots u) (qy_shift u) (qy_lazy u) (qy_n u) (qy_openSlot u) (qy_taken u) (qy_ended u) (qy_pos u) (qy_count u) (qy_state u) (qy_lastKind u) (qy_lastLength u) (qy_lastDistance u) (qy_source u) (qy_tokens u) (qy_tokenKind u) (qy_tokenLength u) (qy_tokenDistance u) (qy_tokenByte u) (qy_holds u) (qy_out u) (qy_r u) (qy_flags u) (qy_literals u) n x2 x3
theorem ey_encodeOne_35 (post : Int32 → SY → Prop) (x1 : Int32) (n : Nat) (x2 : Int32) (x3 : Int32) (u : SY) : zy_encodeOne_35 post x1 (n + 1) x2 x3 u = (((x3 < 1 → (∃ n69 : Nat, zy_encodeOne_69 post x1 x2 n69 (-1) 0 0 u)) ∧ (¬ x3 < 1 → (wpY_run (fun r_277 => ((r_277 = x1 → (∀ x3_305 : Int32, x3_305 = x3 + (-1) → (zy_encodeOne_35 post x1 n x3 x3_305 u))) ∧ (¬ r_277 = x1 → (∀ x3_304 : Int32, x3_304 = x3 + (-1) → (zy_encodeOne_35 post x1 n x2 x3_304 u))))) u (qy_pos u) x3)))) := rfl
theorem ey_encodeOne (post : Int32 → SY → Prop) (u : SY) : wpY_encodeOne post u = (wpY_replay (fun (u2 : SY) => (((qy_pos u2) = (qy_n u2) → (post (-2) u2)) ∧ (¬ (qy_pos u2) = (qy_n u2) → (wpY_longest (fun r_28 => (∃ n35 : Nat, zy_encodeOne_35 post r_28 n35 0 (qy_pos u2) u2)) u2 (qy_pos u2))))) u 0) := rfl
def zy_encodeAll_9 (post : Int32 → SY → Prop) (x1 : Int32) (n : Nat) (x2 : Int32) (u : SY) : Prop := wY_encodeAll_9 post x1 n x2 (qy_cap u) (qy_slots u) (qy_shift u) (qy_lazy u) (qy_n u) (qy_openSlot u) (qy_taken u) (qy_ended u) (qy_pos u) (qy_count u) (qy_state u) (qy_lastKind u) (qy_lastLength u) (qy_lastDistance u) (qy_source u) (qy_tokens u) (qy_tokenKind u) (qy_tokenLength u) (qy_tokenDistance u) (qy_tokenByte u) (qy_holds u) (qy_out u) (qy_r u) (qy_flags u) (qy_literals u)
theorem ey_encodeAll_9 (post : Int32 → SY → Prop) (x1 : Int32) (n : Nat) (x2 : Int32) (u : SY) : zy_encodeAll_9 post x1 (n + 1) x2 u = (((64 ≤ x2 → (post (((qy_tokens u) 0) - x1) u)) ∧ (¬ 64 ≤ x2 → (wpY_encodeOne (fun r_3 (u4 : SY) => (∀ x2_29 : Int32, x2_29 = x2 + 1 → (zy_encodeAll_9 post x1 n x2_29 u4))) u)))) := rfl
theorem ey_encodeAll (post : Int32 → SY → Prop) (u : SY) : wpY_encodeAll post u = (∀ x1_1 : Int32, x1_1 = (qy_tokens u) 0 → (∃ n9 : Nat, zy_encodeAll_9 post x1_1 n9 0 u)) := rfl
theorem ey_restart (post : SY → Prop) (u : SY) : wpY_restart post u = (∀ a_tokens_2 : Nat → Int32, a_tokens_2 = upd (qy_tokens u) 0 0 → (post (uy_n_tokens 0 a_tokens_2 u))) := rfl
def zy_seal_54 (post : Int32 → SY → Prop) (x1 : Int32) (x2 : Int32) (n : Nat) (x3 : Int32) (u : SY) : Prop := wY_seal_54 post x1 x2 (qy_cap u) (qy_slots u) (qy_shift u) (qy_lazy u) (qy_n u) (qy_openSlot u) (qy_taken u) (qy_ended u) (qy_pos u) (qy_count u) (qy_state u) (qy_lastKind u) (qy_lastLength u) (qy_lastDistance u) n x3 (qy_source u) (qy_tokens u) (qy_tokenKind u) (qy_tokenLength u) (qy_tokenDistance u) (qy_tokenByte u) (qy_holds u) (qy_out u) (qy_r u) (qy_flags u) (qy_literals u)
theorem ey_seal_54 (post : Int32 → SY → Prop) (x1 : Int32) (x2 : Int32) (n : Nat) (x3 : Int32) (u : SY) : zy_seal_54 post x1 x2 (n + 1) x3 u = (((64 ≤ x3 → (vp_in (x1 + 1) 3 ∧ ∀ a_tokens_34 : Nat → Int32, a_tokens_34 = upd (qy_tokens u) (x1 + 1).toNatClampNeg ((qy_tokens u) 0) → (vp_in x1 2 ∧ ∀ a_holds_36 : Nat → Int32, a_holds_36 = upd (qy_holds u) x1.toNatClampNeg (vp_nar .boolean 1) → (wpY_restart (fun (u38 : SY) => (post 0 u38)) (uy_tokens_holds a_tokens_34 a_holds_36 u))))) ∧ (¬ 64 ≤ x3 → (vp_in x3 192 ∧ (vp_in (x2 + x3) 192 ∧ ∀ a_tokenKind_65 : Nat → Int32, a_tokenKind_65 = upd (qy_tokenKind u) (x2 + x3).toNatClampNeg ((qy_tokenKind u) x3.toNatClampNeg) → (vp_in x3 192 ∧ (vp_in (x2 + x3) 192 ∧ ∀ a_tokenLength_68 : Nat → Int32, a_tokenLength_68 = upd (qy_tokenLength u) (x2 + x3).toNatClampNeg ((qy_tokenLength u) x3.toNatClampNeg) → (vp_in x3 192 ∧ (vp_in (x2 + x3) 192 ∧ ∀ a_tokenDistance_71 : Nat → Int32, a_tokenDistance_71 = upd (qy_tokenDistance u) (x2 + x3).toNatClampNeg ((qy_tokenDistance u) x3.toNatClampNeg) → (vp_in x3 192 ∧ (vp_in (x2 + x3) 192 ∧ ∀ a_tokenByte_74 : Nat → Int32, a_tokenByte_74 = upd (qy_tokenByte u) (x2 + x3).toNatClampNeg ((qy_tokenByte u) x3.toNatClampNeg) → (∀ x3_75 : Int32, x3_75 = x3 + 1 → (zy_seal_54 post x1 x2 n x3_75 (uy_tokenKind_tokenLength_tokenDistance_tokenByte a_tokenKind_65 a_tokenLength_68 a_tokenDistance_71 a_tokenByte_74 u)))))))))))))) := rfl
theorem ey_seal (post : Int32 → SY → Prop) (u : SY) (p0 : Int32) : wpY_seal post u p0 = (((p0 < 0 → (post (-3) u)) ∧ (¬ p0 < 0 → ((p0 < (qy_slots u) → (wpY_replay (fun (u4 : SY) => (((qy_n u4) ≤ (qy_pos u4) → (((qy_openSlot u4) = p0 → (post (-8) u4)) ∧ (¬ (qy_openSlot u4) = p0 → (∀ x2_31 : Int32, x2_31 = (p0 + 1) * 64 → (∃ n54 : Nat, zy_seal_54 post p0 x2_31 n54 0 u4))))) ∧ (¬ (qy_n u4) ≤ (qy_pos u4) → (post (-5) u4)))) u 0)) ∧ (¬ p0 < (qy_slots u) → (post (-3) u)))))) := rfl
theorem ey_open (post : Int32 → SY → Prop) (u : SY) (p0 : Int32) : wpY_open post u p0 = (((p0 < 0 → (post (-3) u)) ∧ (¬ p0 < 0 → ((p0 < (qy_slots u) → (vp_in p0 2 ∧ ((((qy_holds u) p0.toNatClampNeg) = 0 → (post (-7) u)) ∧ (¬ ((qy_holds u) p0.toNatClampNeg) = 0 → (post 0 (uy_openSlot_taken_ended p0 0 0 u)))))) ∧ (¬ p0 < (qy_slots u) → (post (-3) u)))))) := rfl
theorem ey_decodeOne (post : Int32 → SY → Prop) (u : SY) : wpY_decodeOne post u = (((0 ≤ (qy_openSlot u) → (((qy_ended u) = 0 → (vp_in ((qy_openSlot u) + 1) 3 ∧ (((qy_taken u) = ((qy_tokens u) ((qy_openSlot u) + 1).toNatClampNeg) → (post 8 (uy_ended 1 u))) ∧ (¬ (qy_taken u) = ((qy_tokens u) ((qy_openSlot u) + 1).toNatClampNeg) → (∀ f_taken_5 : Int32, f_taken_5 = (qy_taken u) + 1 → (vp_in (((((qy_openSlot u) + 1) * 64) + f_taken_5) - 1) 192 ∧ (post ((qy_tokenKind u) (((((qy_openSlot u) + 1) * 64) + f_taken_5) - 1).toNatClampNeg) (uy_taken f_taken_5 u)))))))) ∧ (¬ (qy_ended u) = 0 → (post 8 u)))) ∧ (¬ 0 ≤ (qy_openSlot u) → (post (-6) u)))) := rfl
def zy_decodeAll_17 (post : Int32 → SY → Prop) (x1 : Int32) (n : Nat) (x2 : Int32) (u : SY) : Prop := wY_decodeAll_17 post x1 n x2 (qy_cap u) (qy_slots u) (qy_shift u) (qy_lazy u) (qy_n u) (qy_openSlot u) (qy_taken u) (qy_ended u) (qy_pos u) (qy_count u) (qy_state u) (qy_lastKind u) (qy_lastLength u) (qy_lastDistance u) (qy_source u) (qy_tokens u) (qy_tokenKind u) (qy_tokenLength u) (qy_tokenDistance u) (qy_tokenByte u) (qy_holds u) (qy_out u) (qy_r u) (qy_flags u) (qy_literals u)
theorem ey_decodeAll_17 (post : Int32 → SY → Prop) (x1 : Int32) (n : Nat) (x2 : Int32) (u : SY) : zy_decodeAll_17 post x1 (n + 1) x2 u = (((65 ≤ x2 → (post ((qy_taken u) - x1) u)) ∧ (¬ 65 ≤ x2 → (wpY_decodeOne (fun r_3 (u4 : SY) => (∀ x2_29 : Int32, x2_29 = x2 + 1 → (zy_decodeAll_17 post x1 n x2_29 u4))) u)))) := rfl
theorem ey_decodeAll (post : Int32 → SY → Prop) (u : SY) : wpY_decodeAll post u = (((0 ≤ (qy_openSlot u) → (∃ n17 : Nat, zy_decodeAll_17 post (qy_taken u) n17 0 u)) ∧ (¬ 0 ≤ (qy_openSlot u) → (post (-6) u)))) := rfl
theorem ey_close (post : Int32 → SY → Prop) (u : SY) : wpY_close post u = (((0 ≤ (qy_openSlot u) → (post 0 (uy_openSlot_taken_ended (-1) 0 0 u))) ∧ (¬ 0 ≤ (qy_openSlot u) → (post (-6) u)))) := rfl
theorem ey_decoderStatus (post : Int32 → Prop) (u : SY) : wpY_decoderStatus post u = (((0 ≤ (qy_openSlot u) → (((qy_ended u) = 0 → (post ((2 * (qy_openSlot u)) + 0))) ∧ (¬ (qy_ended u) = 0 → (post ((2 * (qy_openSlot u)) + 1))))) ∧ (¬ 0 ≤ (qy_openSlot u) → (post (-6))))) := rfl
theorem ey_held (post : Int32 → Prop) (u : SY) (p0 : Int32) : wpY_held post u p0 = (((p0 < 0 → (post 0)) ∧ (¬ p0 < 0 → (((qy_slots u) ≤ p0 → (post 0)) ∧ (¬ (qy_slots u) ≤ p0 → (vp_in p0 2 ∧ ((((qy_holds u) p0.toNatClampNeg) = 0 → (post 0)) ∧ (¬ ((qy_holds u) p0.toNatClampNeg) = 0 → (post 1))))))))) := rfl
theorem ey_size (post : Int32 → Prop) (u : SY) : wpY_size post u = (post (qy_n u)) := rfl
def zy_figure_12 (post : Int32 → SY → Prop) (x1 : Int32) (x2 : Int32) (u : SY) : Prop := wY_figure_12 post x1 x2 (qy_cap u) (qy_slots u) (qy_shift u) (qy_lazy u) (qy_n u) (qy_openSlot u) (qy_taken u) (qy_ended u) (qy_pos u) (qy_count u) (qy_state u) (qy_lastKind u) (qy_lastLength u) (qy_lastDistance u) (qy_source u) (qy_tokens u) (qy_tokenKind u) (qy_tokenLength u) (qy_tokenDistance u) (qy_tokenByte u) (qy_holds u) (qy_out u) (qy_r u) (qy_flags u) (qy_literals u)
theorem ey_figure_12 (post : Int32 → SY → Prop) (x1 : Int32) (x2 : Int32) (u : SY) : zy_figure_12 post x1 x2 u = (wpY_replay (fun (u3 : SY) => ((x2 = 0 → (post (qy_pos u3) u3)) ∧ (¬ x2 = 0 → ((x2 = 1 → (post (qy_count u3) u3)) ∧ (¬ x2 = 1 → ((x2 = 2 → (post (qy_state u3) u3)) ∧ (¬ x2 = 2 → ((x2 = 3 → (post (qy_lastKind u3) u3)) ∧ (¬ x2 = 3 → ((x2 = 4 → (post (qy_lastLength u3) u3)) ∧ (¬ x2 = 4 → ((x2 = 5 → (post (qy_lastDistance u3) u3)) ∧ (¬ x2 = 5 → (post (-3) u3)))))))))))))) u x1) := rfl
theorem ey_figure (post : Int32 → SY → Prop) (u : SY) (p0 : Int32) (p1 : Int32) : wpY_figure post u p0 p1 = (((p0 = 0 → (zy_figure_12 post p0 p1 u)) ∧ (¬ p0 = 0 → ((p0 = 1 → (zy_figure_12 post p0 p1 u)) ∧ (¬ p0 = 1 → (post (-3) u)))))) := rfl
def zy_distance_12 (post : Int32 → SY → Prop) (x1 : Int32) (x2 : Int32) (u : SY) : Prop := wY_distance_12 post x1 x2 (qy_cap u) (qy_slots u) (qy_shift u) (qy_lazy u) (qy_n u) (qy_openSlot u) (qy_taken u) (qy_ended u) (qy_pos u) (qy_count u) (qy_state u) (qy_lastKind u) (qy_lastLength u) (qy_lastDistance u) (qy_source u) (qy_tokens u) (qy_tokenKind u) (qy_tokenLength u) (qy_tokenDistance u) (qy_tokenByte u) (qy_holds u) (qy_out u) (qy_r u) (qy_flags u) (qy_literals u)
theorem ey_distance_12 (post : Int32 → SY → Prop) (x1 : Int32) (x2 : Int32) (u : SY) : zy_distance_12 post x1 x2 u = (((x2 < 0 → (post (-3) u)) ∧ (¬ x2 < 0 → ((x2 ≤ 3 → (wpY_replay (fun (u5 : SY) => (vp_in x2 4 ∧ (post ((qy_r u5) x2.toNatClampNeg) u5))) u x1)) ∧ (¬ x2 ≤ 3 → (post (-3) u)))))) := rfl
theorem ey_distance (post : Int32 → SY → Prop) (u : SY) (p0 : Int32) (p1 : Int32) : wpY_distance post u p0 p1 = (((p0 = 0 → (zy_distance_12 post p0 p1 u)) ∧ (¬ p0 = 0 → ((p0 = 1 → (zy_distance_12 post p0 p1 u)) ∧ (¬ p0 = 1 → (post (-3) u)))))) := rfl
def zy_byteAt_40 (post : Int32 → SY → Prop) (x1 : Int32) (x2 : Int32) (u : SY) : Prop := wY_byteAt_40 post x1 x2 (qy_cap u) (qy_slots u) (qy_shift u) (qy_lazy u) (qy_n u) (qy_openSlot u) (qy_taken u) (qy_ended u) (qy_pos u) (qy_count u) (qy_state u) (qy_lastKind u) (qy_lastLength u) (qy_lastDistance u) (qy_source u) (qy_tokens u) (qy_tokenKind u) (qy_tokenLength u) (qy_tokenDistance u) (qy_tokenByte u) (qy_holds u) (qy_out u) (qy_r u) (qy_flags u) (qy_literals u)
theorem ey_byteAt_40 (post : Int32 → SY → Prop) (x1 : Int32) (x2 : Int32) (u : SY) : zy_byteAt_40 post x1 x2 u = (((x1 = 1 → ((x2 < 0 → (post (-3) u)) ∧ (¬ x2 < 0 → (((qy_pos u) ≤ x2 → (post (-3) u)) ∧ (¬ (qy_pos u) ≤ x2 → (vp_in x2 64 ∧ (post ((qy_out u) x2.toNatClampNeg) u))))))) ∧ (¬ x1 = 1 → (post (-3) u)))) := rfl
def zy_byteAt_12 (post : Int32 → SY → Prop) (x1 : Int32) (x2 : Int32) (u : SY) : Prop := wY_byteAt_12 post x1 x2 (qy_cap u) (qy_slots u) (qy_shift u) (qy_lazy u) (qy_n u) (qy_openSlot u) (qy_taken u) (qy_ended u) (qy_pos u) (qy_count u) (qy_state u) (qy_lastKind u) (qy_lastLength u) (qy_lastDistance u) (qy_source u) (qy_tokens u) (qy_tokenKind u) (qy_tokenLength u) (qy_tokenDistance u) (qy_tokenByte u) (qy_holds u) (qy_out u) (qy_r u) (qy_flags u) (qy_literals u)
theorem ey_byteAt_12 (post : Int32 → SY → Prop) (x1 : Int32) (x2 : Int32) (u : SY) : zy_byteAt_12 post x1 x2 u = (wpY_replay (fun (u3 : SY) => ((x1 = 0 → ((x2 < 0 → (zy_byteAt_40 post x1 x2 u3)) ∧ (¬ x2 < 0 → (((qy_n u3) ≤ x2 → (zy_byteAt_40 post x1 x2 u3)) ∧ (¬ (qy_n u3) ≤ x2 → (vp_in x2 64 ∧ (post ((qy_source u3) x2.toNatClampNeg) u3))))))) ∧ (¬ x1 = 0 → (zy_byteAt_40 post x1 x2 u3)))) u x1) := rfl
theorem ey_byteAt (post : Int32 → SY → Prop) (u : SY) (p0 : Int32) (p1 : Int32) : wpY_byteAt post u p0 p1 = (((p0 = 0 → (zy_byteAt_12 post p0 p1 u)) ∧ (¬ p0 = 0 → ((p0 = 1 → (zy_byteAt_12 post p0 p1 u)) ∧ (¬ p0 = 1 → (post (-3) u)))))) := rfl
def zy_chance_12 (post : Int32 → SY → Prop) (x1 : Int32) (x2 : Int32) (x3 : Int32) (u : SY) : Prop := wY_chance_12 post x1 x2 x3 (qy_cap u) (qy_slots u) (qy_shift u) (qy_lazy u) (qy_n u) (qy_openSlot u) (qy_taken u) (qy_ended u) (qy_pos u) (qy_count u) (qy_state u) (qy_lastKind u) (qy_lastLength u) (qy_lastDistance u) (qy_source u) (qy_tokens u) (qy_tokenKind u) (qy_tokenLength u) (qy_tokenDistance u) (qy_tokenByte u) (qy_holds u) (qy_out u) (qy_r u) (qy_flags u) (qy_literals u)
theorem ey_chance_12 (post : Int32 → SY → Prop) (x1 : Int32) (x2 : Int32) (x3 : Int32) (u : SY) : zy_chance_12 post x1 x2 x3 u = (((x2 < 0 → (post (-3) u)) ∧ (¬ x2 < 0 → ((x2 ≤ 5 → ((x3 < 0 → (post (-3) u)) ∧ (¬ x3 < 0 → ((x3 ≤ 11 → (wpY_replay (fun (u7 : SY) => (vp_in ((x2 * 12) + x3) 72 ∧ (post ((qy_flags u7) ((x2 * 12) + x3).toNatClampNeg) u7))) u x1)) ∧ (¬ x3 ≤ 11 → (post (-3) u)))))) ∧ (¬ x2 ≤ 5 → (post (-3) u)))))) := rfl
theorem ey_chance (post : Int32 → SY → Prop) (u : SY) (p0 : Int32) (p1 : Int32) (p2 : Int32) : wpY_chance post u p0 p1 p2 = (((p0 = 0 → (zy_chance_12 post p0 p1 p2 u)) ∧ (¬ p0 = 0 → ((p0 = 1 → (zy_chance_12 post p0 p1 p2 u)) ∧ (¬ p0 = 1 → (post (-3) u)))))) := rfl
def zy_literalChance_12 (post : Int32 → SY → Prop) (x1 : Int32) (x2 : Int32) (u : SY) : Prop := wY_literalChance_12 post x1 x2 (qy_cap u) (qy_slots u) (qy_shift u) (qy_lazy u) (qy_n u) (qy_openSlot u) (qy_taken u) (qy_ended u) (qy_pos u) (qy_count u) (qy_state u) (qy_lastKind u) (qy_lastLength u) (qy_lastDistance u) (qy_source u) (qy_tokens u) (qy_tokenKind u) (qy_tokenLength u) (qy_tokenDistance u) (qy_tokenByte u) (qy_holds u) (qy_out u) (qy_r u) (qy_flags u) (qy_literals u)
theorem ey_literalChance_12 (post : Int32 → SY → Prop) (x1 : Int32) (x2 : Int32) (u : SY) : zy_literalChance_12 post x1 x2 u = (((x2 < 1 → (post (-3) u)) ∧ (¬ x2 < 1 → ((x2 ≤ 255 → (wpY_replay (fun (u5 : SY) => (vp_in x2 256 ∧ (post ((qy_literals u5) x2.toNatClampNeg) u5))) u x1)) ∧ (¬ x2 ≤ 255 → (post (-3) u)))))) := rfl
theorem ey_literalChance (post : Int32 → SY → Prop) (u : SY) (p0 : Int32) (p1 : Int32) : wpY_literalChance post u p0 p1 = (((p0 = 0 → (zy_literalChance_12 post p0 p1 u)) ∧ (¬ p0 = 0 → ((p0 = 1 → (zy_literalChance_12 post p0 p1 u)) ∧ (¬ p0 = 1 → (post (-3) u)))))) := rfl
end
section
def fr_S (u : SX) : Int32 × Int32 × Int32 × Int32 × Int32 × Int64 × Int32 × Int32 × Int32 × Int64 × Int64 × (Nat → Int32) × (Nat → Int32) × (Nat → Int32) × (Nat → Int32) × (Nat → Int32) × (Nat → Int32) × (Nat → Int32) := (qx_capacity u, qx_slots u, qx_shift u, qx_lazy u, qx_sourceLength u, qx_encRange u, qx_decSlot u, qx_decEnded u, qx_decAt u, qx_decRange u, qx_decCode u, qx_model u, qx_figures u, qx_reps u, qx_source u, qx_store u, qx_storeLength u, qx_output u)
theorem fr_S_capacity {u u' : SX} (h : fr_S u' = fr_S u) : qx_capacity u' = qx_capacity u := congrArg (fun z => z.1) h
theorem fr_S_slots {u u' : SX} (h : fr_S u' = fr_S u) : qx_slots u' = qx_slots u := congrArg (fun z => z.2.1) h
theorem fr_S_shift {u u' : SX} (h : fr_S u' = fr_S u) : qx_shift u' = qx_shift u := congrArg (fun z => z.2.2.1) h
theorem fr_S_lazy {u u' : SX} (h : fr_S u' = fr_S u) : qx_lazy u' = qx_lazy u := congrArg (fun z => z.2.2.2.1) h
theorem fr_S_sourceLength {u u' : SX} (h : fr_S u' = fr_S u) : qx_sourceLength u' = qx_sourceLength u := congrArg (fun z => z.2.2.2.2.1) h
theorem fr_S_encRange {u u' : SX} (h : fr_S u' = fr_S u) : qx_encRange u' = qx_encRange u := congrArg (fun z => z.2.2.2.2.2.1) h
theorem fr_S_decSlot {u u' : SX} (h : fr_S u' = fr_S u) : qx_decSlot u' = qx_decSlot u := congrArg (fun z => z.2.2.2.2.2.2.1) h
theorem fr_S_decEnded {u u' : SX} (h : fr_S u' = fr_S u) : qx_decEnded u' = qx_decEnded u := congrArg (fun z => z.2.2.2.2.2.2.2.1) h
theorem fr_S_decAt {u u' : SX} (h : fr_S u' = fr_S u) : qx_decAt u' = qx_decAt u := congrArg (fun z => z.2.2.2.2.2.2.2.2.1) h
theorem fr_S_decRange {u u' : SX} (h : fr_S u' = fr_S u) : qx_decRange u' = qx_decRange u := congrArg (fun z => z.2.2.2.2.2.2.2.2.2.1) h
theorem fr_S_decCode {u u' : SX} (h : fr_S u' = fr_S u) : qx_decCode u' = qx_decCode u := congrArg (fun z => z.2.2.2.2.2.2.2.2.2.2.1) h
theorem fr_S_model {u u' : SX} (h : fr_S u' = fr_S u) : qx_model u' = qx_model u := congrArg (fun z => z.2.2.2.2.2.2.2.2.2.2.2.1) h
theorem fr_S_figures {u u' : SX} (h : fr_S u' = fr_S u) : qx_figures u' = qx_figures u := congrArg (fun z => z.2.2.2.2.2.2.2.2.2.2.2.2.1) h
theorem fr_S_reps {u u' : SX} (h : fr_S u' = fr_S u) : qx_reps u' = qx_reps u := congrArg (fun z => z.2.2.2.2.2.2.2.2.2.2.2.2.2.1) h
theorem fr_S_source {u u' : SX} (h : fr_S u' = fr_S u) : qx_source u' = qx_source u := congrArg (fun z => z.2.2.2.2.2.2.2.2.2.2.2.2.2.2.1) h
theorem fr_S_store {u u' : SX} (h : fr_S u' = fr_S u) : qx_store u' = qx_store u := congrArg (fun z => z.2.2.2.2.2.2.2.2.2.2.2.2.2.2.2.1) h
theorem fr_S_storeLength {u u' : SX} (h : fr_S u' = fr_S u) : qx_storeLength u' = qx_storeLength u := congrArg (fun z => z.2.2.2.2.2.2.2.2.2.2.2.2.2.2.2.2.1) h
theorem fr_S_output {u u' : SX} (h : fr_S u' = fr_S u) : qx_output u' = qx_output u := congrArg (fun z => z.2.2.2.2.2.2.2.2.2.2.2.2.2.2.2.2.2) h
def fr_E (u : SX) : Int32 × Int32 × Int32 × Int32 × Int32 × Int32 × Int32 × Int32 × Int64 × Int64 × (Nat → Int32) × (Nat → Int32) × (Nat → Int32) × (Nat → Int32) × (Nat → Int32) × (Nat → Int32) := (qx_capacity u, qx_slots u, qx_shift u, qx_lazy u, qx_sourceLength u, qx_decSlot u, qx_decEnded u, qx_decAt u, qx_decRange u, qx_decCode u, qx_figures u, qx_reps u, qx_source u, qx_store u, qx_storeLength u, qx_output u)
theorem fr_E_capacity {u u' : SX} (h : fr_E u' = fr_E u) : qx_capacity u' = qx_capacity u := congrArg (fun z => z.1) h
theorem fr_E_slots {u u' : SX} (h : fr_E u' = fr_E u) : qx_slots u' = qx_slots u := congrArg (fun z => z.2.1) h
theorem fr_E_shift {u u' : SX} (h : fr_E u' = fr_E u) : qx_shift u' = qx_shift u := congrArg (fun z => z.2.2.1) h
theorem fr_E_lazy {u u' : SX} (h : fr_E u' = fr_E u) : qx_lazy u' = qx_lazy u := congrArg (fun z => z.2.2.2.1) h
theorem fr_E_sourceLength {u u' : SX} (h : fr_E u' = fr_E u) : qx_sourceLength u' = qx_sourceLength u := congrArg (fun z => z.2.2.2.2.1) h
theorem fr_E_decSlot {u u' : SX} (h : fr_E u' = fr_E u) : qx_decSlot u' = qx_decSlot u := congrArg (fun z => z.2.2.2.2.2.1) h
theorem fr_E_decEnded {u u' : SX} (h : fr_E u' = fr_E u) : qx_decEnded u' = qx_decEnded u := congrArg (fun z => z.2.2.2.2.2.2.1) h
theorem fr_E_decAt {u u' : SX} (h : fr_E u' = fr_E u) : qx_decAt u' = qx_decAt u := congrArg (fun z => z.2.2.2.2.2.2.2.1) h
theorem fr_E_decRange {u u' : SX} (h : fr_E u' = fr_E u) : qx_decRange u' = qx_decRange u := congrArg (fun z => z.2.2.2.2.2.2.2.2.1) h
theorem fr_E_decCode {u u' : SX} (h : fr_E u' = fr_E u) : qx_decCode u' = qx_decCode u := congrArg (fun z => z.2.2.2.2.2.2.2.2.2.1) h
theorem fr_E_figures {u u' : SX} (h : fr_E u' = fr_E u) : qx_figures u' = qx_figures u := congrArg (fun z => z.2.2.2.2.2.2.2.2.2.2.1) h
theorem fr_E_reps {u u' : SX} (h : fr_E u' = fr_E u) : qx_reps u' = qx_reps u := congrArg (fun z => z.2.2.2.2.2.2.2.2.2.2.2.1) h
theorem fr_E_source {u u' : SX} (h : fr_E u' = fr_E u) : qx_source u' = qx_source u := congrArg (fun z => z.2.2.2.2.2.2.2.2.2.2.2.2.1) h
theorem fr_E_store {u u' : SX} (h : fr_E u' = fr_E u) : qx_store u' = qx_store u := congrArg (fun z => z.2.2.2.2.2.2.2.2.2.2.2.2.2.1) h
theorem fr_E_storeLength {u u' : SX} (h : fr_E u' = fr_E u) : qx_storeLength u' = qx_storeLength u := congrArg (fun z => z.2.2.2.2.2.2.2.2.2.2.2.2.2.2.1) h
theorem fr_E_output {u u' : SX} (h : fr_E u' = fr_E u) : qx_output u' = qx_output u := congrArg (fun z => z.2.2.2.2.2.2.2.2.2.2.2.2.2.2.2) h
def fr_T (u : SX) : Int32 × Int32 × Int32 × Int32 × Int32 × Int32 × Int32 × Int32 × Int64 × Int64 × (Nat → Int32) × (Nat → Int32) × (Nat → Int32) × (Nat → Int32) := (qx_capacity u, qx_slots u, qx_shift u, qx_lazy u, qx_sourceLength u, qx_decSlot u, qx_decEnded u, qx_decAt u, qx_decRange u, qx_decCode u, qx_source u, qx_store u, qx_storeLength u, qx_output u)
theorem fr_T_capacity {u u' : SX} (h : fr_T u' = fr_T u) : qx_capacity u' = qx_capacity u := congrArg (fun z => z.1) h
theorem fr_T_slots {u u' : SX} (h : fr_T u' = fr_T u) : qx_slots u' = qx_slots u := congrArg (fun z => z.2.1) h
theorem fr_T_shift {u u' : SX} (h : fr_T u' = fr_T u) : qx_shift u' = qx_shift u := congrArg (fun z => z.2.2.1) h
theorem fr_T_lazy {u u' : SX} (h : fr_T u' = fr_T u) : qx_lazy u' = qx_lazy u := congrArg (fun z => z.2.2.2.1) h
theorem fr_T_sourceLength {u u' : SX} (h : fr_T u' = fr_T u) : qx_sourceLength u' = qx_sourceLength u := congrArg (fun z => z.2.2.2.2.1) h
theorem fr_T_decSlot {u u' : SX} (h : fr_T u' = fr_T u) : qx_decSlot u' = qx_decSlot u := congrArg (fun z => z.2.2.2.2.2.1) h
theorem fr_T_decEnded {u u' : SX} (h : fr_T u' = fr_T u) : qx_decEnded u' = qx_decEnded u := congrArg (fun z => z.2.2.2.2.2.2.1) h
theorem fr_T_decAt {u u' : SX} (h : fr_T u' = fr_T u) : qx_decAt u' = qx_decAt u := congrArg (fun z => z.2.2.2.2.2.2.2.1) h
theorem fr_T_decRange {u u' : SX} (h : fr_T u' = fr_T u) : qx_decRange u' = qx_decRange u := congrArg (fun z => z.2.2.2.2.2.2.2.2.1) h
theorem fr_T_decCode {u u' : SX} (h : fr_T u' = fr_T u) : qx_decCode u' = qx_decCode u := congrArg (fun z => z.2.2.2.2.2.2.2.2.2.1) h
theorem fr_T_source {u u' : SX} (h : fr_T u' = fr_T u) : qx_source u' = qx_source u := congrArg (fun z => z.2.2.2.2.2.2.2.2.2.2.1) h
theorem fr_T_store {u u' : SX} (h : fr_T u' = fr_T u) : qx_store u' = qx_store u := congrArg (fun z => z.2.2.2.2.2.2.2.2.2.2.2.1) h
theorem fr_T_storeLength {u u' : SX} (h : fr_T u' = fr_T u) : qx_storeLength u' = qx_storeLength u := congrArg (fun z => z.2.2.2.2.2.2.2.2.2.2.2.2.1) h
theorem fr_T_output {u u' : SX} (h : fr_T u' = fr_T u) : qx_output u' = qx_output u := congrArg (fun z => z.2.2.2.2.2.2.2.2.2.2.2.2.2) h
def fr_H (u : SX) : Int32 × Int32 × Int32 × Int32 × Int32 × Int32 × Int64 × Int64 × Int32 × Int32 × Int32 × Int32 × Int32 × Int64 × Int64 × (Nat → Int32) × (Nat → Int32) × (Nat → Int32) × (Nat → Int32) × (Nat → Int32) × (Nat → Int32) := (qx_capacity u, qx_slots u, qx_shift u, qx_lazy u, qx_sourceLength u, qx_codedLength u, qx_encLow u, qx_encRange u, qx_encCache u, qx_encPending u, qx_decSlot u, qx_decEnded u, qx_decAt u, qx_decRange u, qx_decCode u, qx_model u, qx_source u, qx_coded u, qx_store u, qx_storeLength u, qx_output u)
theorem fr_H_capacity {u u' : SX} (h : fr_H u' = fr_H u) : qx_capacity u' = qx_capacity u := congrArg (fun z => z.1) h
theorem fr_H_slots {u u' : SX} (h : fr_H u' = fr_H u) : qx_slots u' = qx_slots u := congrArg (fun z => z.2.1) h
theorem fr_H_shift {u u' : SX} (h : fr_H u' = fr_H u) : qx_shift u' = qx_shift u := congrArg (fun z => z.2.2.1) h
theorem fr_H_lazy {u u' : SX} (h : fr_H u' = fr_H u) : qx_lazy u' = qx_lazy u := congrArg (fun z => z.2.2.2.1) h
theorem fr_H_sourceLength {u u' : SX} (h : fr_H u' = fr_H u) : qx_sourceLength u' = qx_sourceLength u := congrArg (fun z => z.2.2.2.2.1) h
theorem fr_H_codedLength {u u' : SX} (h : fr_H u' = fr_H u) : qx_codedLength u' = qx_codedLength u := congrArg (fun z => z.2.2.2.2.2.1) h
theorem fr_H_encLow {u u' : SX} (h : fr_H u' = fr_H u) : qx_encLow u' = qx_encLow u := congrArg (fun z => z.2.2.2.2.2.2.1) h
theorem fr_H_encRange {u u' : SX} (h : fr_H u' = fr_H u) : qx_encRange u' = qx_encRange u := congrArg (fun z => z.2.2.2.2.2.2.2.1) h
theorem fr_H_encCache {u u' : SX} (h : fr_H u' = fr_H u) : qx_encCache u' = qx_encCache u := congrArg (fun z => z.2.2.2.2.2.2.2.2.1) h
theorem fr_H_encPending {u u' : SX} (h : fr_H u' = fr_H u) : qx_encPending u' = qx_encPending u := congrArg (fun z => z.2.2.2.2.2.2.2.2.2.1) h
theorem fr_H_decSlot {u u' : SX} (h : fr_H u' = fr_H u) : qx_decSlot u' = qx_decSlot u := congrArg (fun z => z.2.2.2.2.2.2.2.2.2.2.1) h
theorem fr_H_decEnded {u u' : SX} (h : fr_H u' = fr_H u) : qx_decEnded u' = qx_decEnded u := congrArg (fun z => z.2.2.2.2.2.2.2.2.2.2.2.1) h
theorem fr_H_decAt {u u' : SX} (h : fr_H u' = fr_H u) : qx_decAt u' = qx_decAt u := congrArg (fun z => z.2.2.2.2.2.2.2.2.2.2.2.2.1) h
theorem fr_H_decRange {u u' : SX} (h : fr_H u' = fr_H u) : qx_decRange u' = qx_decRange u := congrArg (fun z => z.2.2.2.2.2.2.2.2.2.2.2.2.2.1) h
theorem fr_H_decCode {u u' : SX} (h : fr_H u' = fr_H u) : qx_decCode u' = qx_decCode u := congrArg (fun z => z.2.2.2.2.2.2.2.2.2.2.2.2.2.2.1) h
theorem fr_H_model {u u' : SX} (h : fr_H u' = fr_H u) : qx_model u' = qx_model u := congrArg (fun z => z.2.2.2.2.2.2.2.2.2.2.2.2.2.2.2.1) h
theorem fr_H_source {u u' : SX} (h : fr_H u' = fr_H u) : qx_source u' = qx_source u := congrArg (fun z => z.2.2.2.2.2.2.2.2.2.2.2.2.2.2.2.2.1) h
theorem fr_H_coded {u u' : SX} (h : fr_H u' = fr_H u) : qx_coded u' = qx_coded u := congrArg (fun z => z.2.2.2.2.2.2.2.2.2.2.2.2.2.2.2.2.2.1) h
theorem fr_H_store {u u' : SX} (h : fr_H u' = fr_H u) : qx_store u' = qx_store u := congrArg (fun z => z.2.2.2.2.2.2.2.2.2.2.2.2.2.2.2.2.2.2.1) h
theorem fr_H_storeLength {u u' : SX} (h : fr_H u' = fr_H u) : qx_storeLength u' = qx_storeLength u := congrArg (fun z => z.2.2.2.2.2.2.2.2.2.2.2.2.2.2.2.2.2.2.2.1) h
theorem fr_H_output {u u' : SX} (h : fr_H u' = fr_H u) : qx_output u' = qx_output u := congrArg (fun z => z.2.2.2.2.2.2.2.2.2.2.2.2.2.2.2.2.2.2.2.2) h
def fr_D (u : SX) : Int32 × Int32 × Int32 × Int32 × Int32 × Int32 × Int64 × Int64 × Int32 × Int32 × Int32 × Int32 × (Nat → Int32) × (Nat → Int32) × (Nat → Int32) × (Nat → Int32) × (Nat → Int32) × (Nat → Int32) × (Nat → Int32) := (qx_capacity u, qx_slots u, qx_shift u, qx_lazy u, qx_sourceLength u, qx_codedLength u, qx_encLow u, qx_encRange u, qx_encCache u, qx_encPending u, qx_decSlot u, qx_decEnded u, qx_figures u, qx_reps u, qx_source u, qx_coded u, qx_store u, qx_storeLength u, qx_output u)
theorem fr_D_capacity {u u' : SX} (h : fr_D u' = fr_D u) : qx_capacity u' = qx_capacity u := congrArg (fun z => z.1) h
theorem fr_D_slots {u u' : SX} (h : fr_D u' = fr_D u) : qx_slots u' = qx_slots u := congrArg (fun z => z.2.1) h
theorem fr_D_shift {u u' : SX} (h : fr_D u' = fr_D u) : qx_shift u' = qx_shift u := congrArg (fun z => z.2.2.1) h
theorem fr_D_lazy {u u' : SX} (h : fr_D u' = fr_D u) : qx_lazy u' = qx_lazy u := congrArg (fun z => z.2.2.2.1) h
theorem fr_D_sourceLength {u u' : SX} (h : fr_D u' = fr_D u) : qx_sourceLength u' = qx_sourceLength u := congrArg (fun z => z.2.2.2.2.1) h
theorem fr_D_codedLength {u u' : SX} (h : fr_D u' = fr_D u) : qx_codedLength u' = qx_codedLength u := congrArg (fun z => z.2.2.2.2.2.1) h
theorem fr_D_encLow {u u' : SX} (h : fr_D u' = fr_D u) : qx_encLow u' = qx_encLow u := congrArg (fun z => z.2.2.2.2.2.2.1) h
theorem fr_D_encRange {u u' : SX} (h : fr_D u' = fr_D u) : qx_encRange u' = qx_encRange u := congrArg (fun z => z.2.2.2.2.2.2.2.1) h
theorem fr_D_encCache {u u' : SX} (h : fr_D u' = fr_D u) : qx_encCache u' = qx_encCache u := congrArg (fun z => z.2.2.2.2.2.2.2.2.1) h
theorem fr_D_encPending {u u' : SX} (h : fr_D u' = fr_D u) : qx_encPending u' = qx_encPending u := congrArg (fun z => z.2.2.2.2.2.2.2.2.2.1) h
theorem fr_D_decSlot {u u' : SX} (h : fr_D u' = fr_D u) : qx_decSlot u' = qx_decSlot u := congrArg (fun z => z.2.2.2.2.2.2.2.2.2.2.1) h
theorem fr_D_decEnded {u u' : SX} (h : fr_D u' = fr_D u) : qx_decEnded u' = qx_decEnded u := congrArg (fun z => z.2.2.2.2.2.2.2.2.2.2.2.1) h
theorem fr_D_figures {u u' : SX} (h : fr_D u' = fr_D u) : qx_figures u' = qx_figures u := congrArg (fun z => z.2.2.2.2.2.2.2.2.2.2.2.2.1) h
theorem fr_D_reps {u u' : SX} (h : fr_D u' = fr_D u) : qx_reps u' = qx_reps u := congrArg (fun z => z.2.2.2.2.2.2.2.2.2.2.2.2.2.1) h
theorem fr_D_source {u u' : SX} (h : fr_D u' = fr_D u) : qx_source u' = qx_source u := congrArg (fun z => z.2.2.2.2.2.2.2.2.2.2.2.2.2.2.1) h
theorem fr_D_coded {u u' : SX} (h : fr_D u' = fr_D u) : qx_coded u' = qx_coded u := congrArg (fun z => z.2.2.2.2.2.2.2.2.2.2.2.2.2.2.2.1) h
theorem fr_D_store {u u' : SX} (h : fr_D u' = fr_D u) : qx_store u' = qx_store u := congrArg (fun z => z.2.2.2.2.2.2.2.2.2.2.2.2.2.2.2.2.1) h
theorem fr_D_storeLength {u u' : SX} (h : fr_D u' = fr_D u) : qx_storeLength u' = qx_storeLength u := congrArg (fun z => z.2.2.2.2.2.2.2.2.2.2.2.2.2.2.2.2.2.1) h
theorem fr_D_output {u u' : SX} (h : fr_D u' = fr_D u) : qx_output u' = qx_output u := congrArg (fun z => z.2.2.2.2.2.2.2.2.2.2.2.2.2.2.2.2.2.2) h
def fr_O (u : SX) : Int32 × Int32 × Int32 × Int32 × Int32 × Int32 × Int64 × Int64 × Int32 × Int32 × Int32 × (Nat → Int32) × (Nat → Int32) × (Nat → Int32) × (Nat → Int32) := (qx_capacity u, qx_slots u, qx_shift u, qx_lazy u, qx_sourceLength u, qx_codedLength u, qx_encLow u, qx_encRange u, qx_encCache u, qx_encPending u, qx_decSlot u, qx_source u, qx_coded u, qx_store u, qx_storeLength u)
theorem fr_O_capacity {u u' : SX} (h : fr_O u' = fr_O u) : qx_capacity u' = qx_capacity u := congrArg (fun z => z.1) h
theorem fr_O_slots {u u' : SX} (h : fr_O u' = fr_O u) : qx_slots u' = qx_slots u := congrArg (fun z => z.2.1) h
theorem fr_O_shift {u u' : SX} (h : fr_O u' = fr_O u) : qx_shift u' = qx_shift u := congrArg (fun z => z.2.2.1) h
theorem fr_O_lazy {u u' : SX} (h : fr_O u' = fr_O u) : qx_lazy u' = qx_lazy u := congrArg (fun z => z.2.2.2.1) h
theorem fr_O_sourceLength {u u' : SX} (h : fr_O u' = fr_O u) : qx_sourceLength u' = qx_sourceLength u := congrArg (fun z => z.2.2.2.2.1) h
theorem fr_O_codedLength {u u' : SX} (h : fr_O u' = fr_O u) : qx_codedLength u' = qx_codedLength u := congrArg (fun z => z.2.2.2.2.2.1) h
theorem fr_O_encLow {u u' : SX} (h : fr_O u' = fr_O u) : qx_encLow u' = qx_encLow u := congrArg (fun z => z.2.2.2.2.2.2.1) h
theorem fr_O_encRange {u u' : SX} (h : fr_O u' = fr_O u) : qx_encRange u' = qx_encRange u := congrArg (fun z => z.2.2.2.2.2.2.2.1) h
theorem fr_O_encCache {u u' : SX} (h : fr_O u' = fr_O u) : qx_encCache u' = qx_encCache u := congrArg (fun z => z.2.2.2.2.2.2.2.2.1) h
theorem fr_O_encPending {u u' : SX} (h : fr_O u' = fr_O u) : qx_encPending u' = qx_encPending u := congrArg (fun z => z.2.2.2.2.2.2.2.2.2.1) h
theorem fr_O_decSlot {u u' : SX} (h : fr_O u' = fr_O u) : qx_decSlot u' = qx_decSlot u := congrArg (fun z => z.2.2.2.2.2.2.2.2.2.2.1) h
theorem fr_O_source {u u' : SX} (h : fr_O u' = fr_O u) : qx_source u' = qx_source u := congrArg (fun z => z.2.2.2.2.2.2.2.2.2.2.2.1) h
theorem fr_O_coded {u u' : SX} (h : fr_O u' = fr_O u) : qx_coded u' = qx_coded u := congrArg (fun z => z.2.2.2.2.2.2.2.2.2.2.2.2.1) h
theorem fr_O_store {u u' : SX} (h : fr_O u' = fr_O u) : qx_store u' = qx_store u := congrArg (fun z => z.2.2.2.2.2.2.2.2.2.2.2.2.2.1) h
theorem fr_O_storeLength {u u' : SX} (h : fr_O u' = fr_O u) : qx_storeLength u' = qx_storeLength u := congrArg (fun z => z.2.2.2.2.2.2.2.2.2.2.2.2.2.2) h
theorem fr_SE {u u' : SX} (h : fr_S u' = fr_S u) : fr_E u' = fr_E u := congrArg (fun z => (z.1, z.2.1, z.2.2.1, z.2.2.2.1, z.2.2.2.2.1, z.2.2.2.2.2.2.1, z.2.2.2.2.2.2.2.1, z.2.2.2.2.2.2.2.2.1, z.2.2.2.2.2.2.2.2.2.1, z.2.2.2.2.2.2.2.2.2.2.1, z.2.2.2.2.2.2.2.2.2.2.2.2.1, z.2.2.2.2.2.2.2.2.2.2.2.2.2.1, z.2.2.2.2.2.2.2.2.2.2.2.2.2.2.1, z.2.2.2.2.2.2.2.2.2.2.2.2.2.2.2.1, z.2.2.2.2.2.2.2.2.2.2.2.2.2.2.2.2.1, z.2.2.2.2.2.2.2.2.2.2.2.2.2.2.2.2.2)) h
theorem fr_ET {u u' : SX} (h : fr_E u' = fr_E u) : fr_T u' = fr_T u := congrArg (fun z => (z.1, z.2.1, z.2.2.1, z.2.2.2.1, z.2.2.2.2.1, z.2.2.2.2.2.1, z.2.2.2.2.2.2.1, z.2.2.2.2.2.2.2.1, z.2.2.2.2.2.2.2.2.1, z.2.2.2.2.2.2.2.2.2.1, z.2.2.2.2.2.2.2.2.2.2.2.2.1, z.2.2.2.2.2.2.2.2.2.2.2.2.2.1, z.2.2.2.2.2.2.2.2.2.2.2.2.2.2.1, z.2.2.2.2.2.2.2.2.2.2.2.2.2.2.2)) h
theorem fr_DO {u u' : SX} (h : fr_D u' = fr_D u) : fr_O u' = fr_O u := congrArg (fun z => (z.1, z.2.1, z.2.2.1, z.2.2.2.1, z.2.2.2.2.1, z.2.2.2.2.2.1, z.2.2.2.2.2.2.1, z.2.2.2.2.2.2.2.1, z.2.2.2.2.2.2.2.2.1, z.2.2.2.2.2.2.2.2.2.1, z.2.2.2.2.2.2.2.2.2.2.1, z.2.2.2.2.2.2.2.2.2.2.2.2.2.2.1, z.2.2.2.2.2.2.2.2.2.2.2.2.2.2.2.1, z.2.2.2.2.2.2.2.2.2.2.2.2.2.2.2.2.1, z.2.2.2.2.2.2.2.2.2.2.2.2.2.2.2.2.2.1)) h
theorem fr_HT {u u' : SX} (h : fr_H u' = fr_H u) : fr_T u' = fr_T u := congrArg (fun z => (z.1, z.2.1, z.2.2.1, z.2.2.2.1, z.2.2.2.2.1, z.2.2.2.2.2.2.2.2.2.2.1, z.2.2.2.2.2.2.2.2.2.2.2.1, z.2.2.2.2.2.2.2.2.2.2.2.2.1, z.2.2.2.2.2.2.2.2.2.2.2.2.2.1, z.2.2.2.2.2.2.2.2.2.2.2.2.2.2.1, z.2.2.2.2.2.2.2.2.2.2.2.2.2.2.2.2.1, z.2.2.2.2.2.2.2.2.2.2.2.2.2.2.2.2.2.2.1, z.2.2.2.2.2.2.2.2.2.2.2.2.2.2.2.2.2.2.2.1, z.2.2.2.2.2.2.2.2.2.2.2.2.2.2.2.2.2.2.2.2)) h
theorem fr_HO {u u' : SX} (h : fr_H u' = fr_H u) : fr_O u' = fr_O u := congrArg (fun z => (z.1, z.2.1, z.2.2.1, z.2.2.2.1, z.2.2.2.2.1, z.2.2.2.2.2.1, z.2.2.2.2.2.2.1, z.2.2.2.2.2.2.2.1, z.2.2.2.2.2.2.2.2.1, z.2.2.2.2.2.2.2.2.2.1, z.2.2.2.2.2.2.2.2.2.2.1, z.2.2.2.2.2.2.2.2.2.2.2.2.2.2.2.2.1, z.2.2.2.2.2.2.2.2.2.2.2.2.2.2.2.2.2.1, z.2.2.2.2.2.2.2.2.2.2.2.2.2.2.2.2.2.2.1, z.2.2.2.2.2.2.2.2.2.2.2.2.2.2.2.2.2.2.2.1)) h
theorem fz_S_codedLength_coded (e_codedLength : Int32) (e_coded : Nat → Int32) (u : SX) : fr_S (ux_codedLength_coded e_codedLength e_coded u) = fr_S u := rfl
theorem fz_S_encCache_encPending (e_encCache : Int32) (e_encPending : Int32) (u : SX) : fr_S (ux_encCache_encPending e_encCache e_encPending u) = fr_S u := rfl
theorem fz_S_encLow_encPending (e_encLow : Int64) (e_encPending : Int32) (u : SX) : fr_S (ux_encLow_encPending e_encLow e_encPending u) = fr_S u := rfl
theorem fz_E_codedLength_coded (e_codedLength : Int32) (e_coded : Nat → Int32) (u : SX) : fr_E (ux_codedLength_coded e_codedLength e_coded u) = fr_E u := rfl
theorem fz_E_encCache_encPending (e_encCache : Int32) (e_encPending : Int32) (u : SX) : fr_E (ux_encCache_encPending e_encCache e_encPending u) = fr_E u := rfl
theorem fz_E_encLow_encPending (e_encLow : Int64) (e_encPending : Int32) (u : SX) : fr_E (ux_encLow_encPending e_encLow e_encPending u) = fr_E u := rfl
theorem fz_E_encLow_encRange (e_encLow : Int64) (e_encRange : Int64) (u : SX) : fr_E (ux_encLow_encRange e_encLow e_encRange u) = fr_E u := rfl
theorem fz_E_encRange (e_encRange : Int64) (u : SX) : fr_E (ux_encRange e_encRange u) = fr_E u := rfl
theorem fz_E_model (e_model : Nat → Int32) (u : SX) : fr_E (ux_model e_model u) = fr_E u := rfl
theorem fz_T_codedLength_coded (e_codedLength : Int32) (e_coded : Nat → Int32) (u : SX) : fr_T (ux_codedLength_coded e_codedLength e_coded u) = fr_T u := rfl
theorem fz_T_encCache_encPending (e_encCache : Int32) (e_encPending : Int32) (u : SX) : fr_T (ux_encCache_encPending e_encCache e_encPending u) = fr_T u := rfl
theorem fz_T_encLow_encPending (e_encLow : Int64) (e_encPending : Int32) (u : SX) : fr_T (ux_encLow_encPending e_encLow e_encPending u) = fr_T u := rfl
theorem fz_T_encLow_encRange (e_encLow : Int64) (e_encRange : Int64) (u : SX) : fr_T (ux_encLow_encRange e_encLow e_encRange u) = fr_T u := rfl
theorem fz_T_encRange (e_encRange : Int64) (u : SX) : fr_T (ux_encRange e_encRange u) = fr_T u := rfl
theorem fz_T_figures (e_figures : Nat → Int32) (u : SX) : fr_T (ux_figures e_figures u) = fr_T u := rfl
theorem fz_T_model (e_model : Nat → Int32) (u : SX) : fr_T (ux_model e_model u) = fr_T u := rfl
theorem fz_T_reps (e_reps : Nat → Int32) (u : SX) : fr_T (ux_reps e_reps u) = fr_T u := rfl
theorem fz_H_figures (e_figures : Nat → Int32) (u : SX) : fr_H (ux_figures e_figures u) = fr_H u := rfl
theorem fz_H_reps (e_reps : Nat → Int32) (u : SX) : fr_H (ux_reps e_reps u) = fr_H u := rfl
theorem fz_D_decAt (e_decAt : Int32) (u : SX) : fr_D (ux_decAt e_decAt u) = fr_D u := rfl
theorem fz_D_decCode (e_decCode : Int64) (u : SX) : fr_D (ux_decCode e_decCode u) = fr_D u := rfl
theorem fz_D_decRange (e_decRange : Int64) (u : SX) : fr_D (ux_decRange e_decRange u) = fr_D u := rfl
theorem fz_D_decRange_decCode (e_decRange : Int64) (e_decCode : Int64) (u : SX) : fr_D (ux_decRange_decCode e_decRange e_decCode u) = fr_D u := rfl
theorem fz_D_model (e_model : Nat → Int32) (u : SX) : fr_D (ux_model e_model u) = fr_D u := rfl
theorem fz_O_decAt (e_decAt : Int32) (u : SX) : fr_O (ux_decAt e_decAt u) = fr_O u := rfl
theorem fz_O_decCode (e_decCode : Int64) (u : SX) : fr_O (ux_decCode e_decCode u) = fr_O u := rfl
theorem fz_O_decEnded (e_decEnded : Int32) (u : SX) : fr_O (ux_decEnded e_decEnded u) = fr_O u := rfl
theorem fz_O_decRange (e_decRange : Int64) (u : SX) : fr_O (ux_decRange e_decRange u) = fr_O u := rfl
theorem fz_O_decRange_decCode (e_decRange : Int64) (e_decCode : Int64) (u : SX) : fr_O (ux_decRange_decCode e_decRange e_decCode u) = fr_O u := rfl
theorem fz_O_figures (e_figures : Nat → Int32) (u : SX) : fr_O (ux_figures e_figures u) = fr_O u := rfl
theorem fz_O_model (e_model : Nat → Int32) (u : SX) : fr_O (ux_model e_model u) = fr_O u := rfl
theorem fz_O_output (e_output : Nat → Int32) (u : SX) : fr_O (ux_output e_output u) = fr_O u := rfl
theorem fz_O_reps (e_reps : Nat → Int32) (u : SX) : fr_O (ux_reps e_reps u) = fr_O u := rfl
def fr_Y (u : SY) : Int32 × Int32 × Int32 × Int32 × Int32 × Int32 × Int32 × Int32 × (Nat → Int32) × (Nat → Int32) × (Nat → Int32) × (Nat → Int32) × (Nat → Int32) × (Nat → Int32) × (Nat → Int32) := (qy_cap u, qy_slots u, qy_shift u, qy_lazy u, qy_n u, qy_openSlot u, qy_taken u, qy_ended u, qy_source u, qy_tokens u, qy_tokenKind u, qy_tokenLength u, qy_tokenDistance u, qy_tokenByte u, qy_holds u)
theorem fr_Y_cap {u u' : SY} (h : fr_Y u' = fr_Y u) : qy_cap u' = qy_cap u := congrArg (fun z => z.1) h
theorem fr_Y_slots {u u' : SY} (h : fr_Y u' = fr_Y u) : qy_slots u' = qy_slots u := congrArg (fun z => z.2.1) h
theorem fr_Y_shift {u u' : SY} (h : fr_Y u' = fr_Y u) : qy_shift u' = qy_shift u := congrArg (fun z => z.2.2.1) h
theorem fr_Y_lazy {u u' : SY} (h : fr_Y u' = fr_Y u) : qy_lazy u' = qy_lazy u := congrArg (fun z => z.2.2.2.1) h
theorem fr_Y_n {u u' : SY} (h : fr_Y u' = fr_Y u) : qy_n u' = qy_n u := congrArg (fun z => z.2.2.2.2.1) h
theorem fr_Y_openSlot {u u' : SY} (h : fr_Y u' = fr_Y u) : qy_openSlot u' = qy_openSlot u := congrArg (fun z => z.2.2.2.2.2.1) h
theorem fr_Y_taken {u u' : SY} (h : fr_Y u' = fr_Y u) : qy_taken u' = qy_taken u := congrArg (fun z => z.2.2.2.2.2.2.1) h
theorem fr_Y_ended {u u' : SY} (h : fr_Y u' = fr_Y u) : qy_ended u' = qy_ended u := congrArg (fun z => z.2.2.2.2.2.2.2.1) h
theorem fr_Y_source {u u' : SY} (h : fr_Y u' = fr_Y u) : qy_source u' = qy_source u := congrArg (fun z => z.2.2.2.2.2.2.2.2.1) h
theorem fr_Y_tokens {u u' : SY} (h : fr_Y u' = fr_Y u) : qy_tokens u' = qy_tokens u := congrArg (fun z => z.2.2.2.2.2.2.2.2.2.1) h
theorem fr_Y_tokenKind {u u' : SY} (h : fr_Y u' = fr_Y u) : qy_tokenKind u' = qy_tokenKind u := congrArg (fun z => z.2.2.2.2.2.2.2.2.2.2.1) h
theorem fr_Y_tokenLength {u u' : SY} (h : fr_Y u' = fr_Y u) : qy_tokenLength u' = qy_tokenLength u := congrArg (fun z => z.2.2.2.2.2.2.2.2.2.2.2.1) h
theorem fr_Y_tokenDistance {u u' : SY} (h : fr_Y u' = fr_Y u) : qy_tokenDistance u' = qy_tokenDistance u := congrArg (fun z => z.2.2.2.2.2.2.2.2.2.2.2.2.1) h
theorem fr_Y_tokenByte {u u' : SY} (h : fr_Y u' = fr_Y u) : qy_tokenByte u' = qy_tokenByte u := congrArg (fun z => z.2.2.2.2.2.2.2.2.2.2.2.2.2.1) h
theorem fr_Y_holds {u u' : SY} (h : fr_Y u' = fr_Y u) : qy_holds u' = qy_holds u := congrArg (fun z => z.2.2.2.2.2.2.2.2.2.2.2.2.2.2) h
def fr_P (u : SY) : Int32 × Int32 × Int32 × Int32 × Int32 × Int32 × Int32 × Int32 × Int32 × Int32 × Int32 × Int32 × Int32 × Int32 × (Nat → Int32) × (Nat → Int32) × (Nat → Int32) × (Nat → Int32) × (Nat → Int32) × (Nat → Int32) × (Nat → Int32) × (Nat → Int32) × (Nat → Int32) := (qy_cap u, qy_slots u, qy_shift u, qy_lazy u, qy_n u, qy_openSlot u, qy_taken u, qy_ended u, qy_pos u, qy_count u, qy_state u, qy_lastKind u, qy_lastLength u, qy_lastDistance u, qy_source u, qy_tokens u, qy_tokenKind u, qy_tokenLength u, qy_tokenDistance u, qy_tokenByte u, qy_holds u, qy_out u, qy_r u)
theorem fr_P_cap {u u' : SY} (h : fr_P u' = fr_P u) : qy_cap u' = qy_cap u := congrArg (fun z => z.1) h
theorem fr_P_slots {u u' : SY} (h : fr_P u' = fr_P u) : qy_slots u' = qy_slots u := congrArg (fun z => z.2.1) h
theorem fr_P_shift {u u' : SY} (h : fr_P u' = fr_P u) : qy_shift u' = qy_shift u := congrArg (fun z => z.2.2.1) h
theorem fr_P_lazy {u u' : SY} (h : fr_P u' = fr_P u) : qy_lazy u' = qy_lazy u := congrArg (fun z => z.2.2.2.1) h
theorem fr_P_n {u u' : SY} (h : fr_P u' = fr_P u) : qy_n u' = qy_n u := congrArg (fun z => z.2.2.2.2.1) h
theorem fr_P_openSlot {u u' : SY} (h : fr_P u' = fr_P u) : qy_openSlot u' = qy_openSlot u := congrArg (fun z => z.2.2.2.2.2.1) h
theorem fr_P_taken {u u' : SY} (h : fr_P u' = fr_P u) : qy_taken u' = qy_taken u := congrArg (fun z => z.2.2.2.2.2.2.1) h
theorem fr_P_ended {u u' : SY} (h : fr_P u' = fr_P u) : qy_ended u' = qy_ended u := congrArg (fun z => z.2.2.2.2.2.2.2.1) h
theorem fr_P_pos {u u' : SY} (h : fr_P u' = fr_P u) : qy_pos u' = qy_pos u := congrArg (fun z => z.2.2.2.2.2.2.2.2.1) h
theorem fr_P_count {u u' : SY} (h : fr_P u' = fr_P u) : qy_count u' = qy_count u := congrArg (fun z => z.2.2.2.2.2.2.2.2.2.1) h
theorem fr_P_state {u u' : SY} (h : fr_P u' = fr_P u) : qy_state u' = qy_state u := congrArg (fun z => z.2.2.2.2.2.2.2.2.2.2.1) h
theorem fr_P_lastKind {u u' : SY} (h : fr_P u' = fr_P u) : qy_lastKind u' = qy_lastKind u := congrArg (fun z => z.2.2.2.2.2.2.2.2.2.2.2.1) h
theorem fr_P_lastLength {u u' : SY} (h : fr_P u' = fr_P u) : qy_lastLength u' = qy_lastLength u := congrArg (fun z => z.2.2.2.2.2.2.2.2.2.2.2.2.1) h
theorem fr_P_lastDistance {u u' : SY} (h : fr_P u' = fr_P u) : qy_lastDistance u' = qy_lastDistance u := congrArg (fun z => z.2.2.2.2.2.2.2.2.2.2.2.2.2.1) h
theorem fr_P_source {u u' : SY} (h : fr_P u' = fr_P u) : qy_source u' = qy_source u := congrArg (fun z => z.2.2.2.2.2.2.2.2.2.2.2.2.2.2.1) h
theorem fr_P_tokens {u u' : SY} (h : fr_P u' = fr_P u) : qy_tokens u' = qy_tokens u := congrArg (fun z => z.2.2.2.2.2.2.2.2.2.2.2.2.2.2.2.1) h
theorem fr_P_tokenKind {u u' : SY} (h : fr_P u' = fr_P u) : qy_tokenKind u' = qy_tokenKind u := congrArg (fun z => z.2.2.2.2.2.2.2.2.2.2.2.2.2.2.2.2.1) h
theorem fr_P_tokenLength {u u' : SY} (h : fr_P u' = fr_P u) : qy_tokenLength u' = qy_tokenLength u := congrArg (fun z => z.2.2.2.2.2.2.2.2.2.2.2.2.2.2.2.2.2.1) h
theorem fr_P_tokenDistance {u u' : SY} (h : fr_P u' = fr_P u) : qy_tokenDistance u' = qy_tokenDistance u := congrArg (fun z => z.2.2.2.2.2.2.2.2.2.2.2.2.2.2.2.2.2.2.1) h
theorem fr_P_tokenByte {u u' : SY} (h : fr_P u' = fr_P u) : qy_tokenByte u' = qy_tokenByte u := congrArg (fun z => z.2.2.2.2.2.2.2.2.2.2.2.2.2.2.2.2.2.2.2.1) h
theorem fr_P_holds {u u' : SY} (h : fr_P u' = fr_P u) : qy_holds u' = qy_holds u := congrArg (fun z => z.2.2.2.2.2.2.2.2.2.2.2.2.2.2.2.2.2.2.2.2.1) h
theorem fr_P_out {u u' : SY} (h : fr_P u' = fr_P u) : qy_out u' = qy_out u := congrArg (fun z => z.2.2.2.2.2.2.2.2.2.2.2.2.2.2.2.2.2.2.2.2.2.1) h
theorem fr_P_r {u u' : SY} (h : fr_P u' = fr_P u) : qy_r u' = qy_r u := congrArg (fun z => z.2.2.2.2.2.2.2.2.2.2.2.2.2.2.2.2.2.2.2.2.2.2) h
def fr_Q (u : SY) : Int32 × Int32 × Int32 × Int32 × Int32 × Int32 × Int32 × Int32 × Int32 × Int32 × Int32 × Int32 × Int32 × (Nat → Int32) × (Nat → Int32) × (Nat → Int32) × (Nat → Int32) × (Nat → Int32) × (Nat → Int32) × (Nat → Int32) × (Nat → Int32) × (Nat → Int32) × (Nat → Int32) := (qy_cap u, qy_slots u, qy_shift u, qy_lazy u, qy_n u, qy_openSlot u, qy_taken u, qy_ended u, qy_count u, qy_state u, qy_lastKind u, qy_lastLength u, qy_lastDistance u, qy_source u, qy_tokens u, qy_tokenKind u, qy_tokenLength u, qy_tokenDistance u, qy_tokenByte u, qy_holds u, qy_r u, qy_flags u, qy_literals u)
theorem fr_Q_cap {u u' : SY} (h : fr_Q u' = fr_Q u) : qy_cap u' = qy_cap u := congrArg (fun z => z.1) h
theorem fr_Q_slots {u u' : SY} (h : fr_Q u' = fr_Q u) : qy_slots u' = qy_slots u := congrArg (fun z => z.2.1) h
theorem fr_Q_shift {u u' : SY} (h : fr_Q u' = fr_Q u) : qy_shift u' = qy_shift u := congrArg (fun z => z.2.2.1) h
theorem fr_Q_lazy {u u' : SY} (h : fr_Q u' = fr_Q u) : qy_lazy u' = qy_lazy u := congrArg (fun z => z.2.2.2.1) h
theorem fr_Q_n {u u' : SY} (h : fr_Q u' = fr_Q u) : qy_n u' = qy_n u := congrArg (fun z => z.2.2.2.2.1) h
theorem fr_Q_openSlot {u u' : SY} (h : fr_Q u' = fr_Q u) : qy_openSlot u' = qy_openSlot u := congrArg (fun z => z.2.2.2.2.2.1) h
theorem fr_Q_taken {u u' : SY} (h : fr_Q u' = fr_Q u) : qy_taken u' = qy_taken u := congrArg (fun z => z.2.2.2.2.2.2.1) h
theorem fr_Q_ended {u u' : SY} (h : fr_Q u' = fr_Q u) : qy_ended u' = qy_ended u := congrArg (fun z => z.2.2.2.2.2.2.2.1) h
theorem fr_Q_count {u u' : SY} (h : fr_Q u' = fr_Q u) : qy_count u' = qy_count u := congrArg (fun z => z.2.2.2.2.2.2.2.2.1) h
theorem fr_Q_state {u u' : SY} (h : fr_Q u' = fr_Q u) : qy_state u' = qy_state u := congrArg (fun z => z.2.2.2.2.2.2.2.2.2.1) h
theorem fr_Q_lastKind {u u' : SY} (h : fr_Q u' = fr_Q u) : qy_lastKind u' = qy_lastKind u := congrArg (fun z => z.2.2.2.2.2.2.2.2.2.2.1) h
theorem fr_Q_lastLength {u u' : SY} (h : fr_Q u' = fr_Q u) : qy_lastLength u' = qy_lastLength u := congrArg (fun z => z.2.2.2.2.2.2.2.2.2.2.2.1) h
theorem fr_Q_lastDistance {u u' : SY} (h : fr_Q u' = fr_Q u) : qy_lastDistance u' = qy_lastDistance u := congrArg (fun z => z.2.2.2.2.2.2.2.2.2.2.2.2.1) h
theorem fr_Q_source {u u' : SY} (h : fr_Q u' = fr_Q u) : qy_source u' = qy_source u := congrArg (fun z => z.2.2.2.2.2.2.2.2.2.2.2.2.2.1) h
theorem fr_Q_tokens {u u' : SY} (h : fr_Q u' = fr_Q u) : qy_tokens u' = qy_tokens u := congrArg (fun z => z.2.2.2.2.2.2.2.2.2.2.2.2.2.2.1) h
theorem fr_Q_tokenKind {u u' : SY} (h : fr_Q u' = fr_Q u) : qy_tokenKind u' = qy_tokenKind u := congrArg (fun z => z.2.2.2.2.2.2.2.2.2.2.2.2.2.2.2.1) h
theorem fr_Q_tokenLength {u u' : SY} (h : fr_Q u' = fr_Q u) : qy_tokenLength u' = qy_tokenLength u := congrArg (fun z => z.2.2.2.2.2.2.2.2.2.2.2.2.2.2.2.2.1) h
theorem fr_Q_tokenDistance {u u' : SY} (h : fr_Q u' = fr_Q u) : qy_tokenDistance u' = qy_tokenDistance u := congrArg (fun z => z.2.2.2.2.2.2.2.2.2.2.2.2.2.2.2.2.2.1) h
theorem fr_Q_tokenByte {u u' : SY} (h : fr_Q u' = fr_Q u) : qy_tokenByte u' = qy_tokenByte u := congrArg (fun z => z.2.2.2.2.2.2.2.2.2.2.2.2.2.2.2.2.2.2.1) h
theorem fr_Q_holds {u u' : SY} (h : fr_Q u' = fr_Q u) : qy_holds u' = qy_holds u := congrArg (fun z => z.2.2.2.2.2.2.2.2.2.2.2.2.2.2.2.2.2.2.2.1) h
theorem fr_Q_r {u u' : SY} (h : fr_Q u' = fr_Q u) : qy_r u' = qy_r u := congrArg (fun z => z.2.2.2.2.2.2.2.2.2.2.2.2.2.2.2.2.2.2.2.2.1) h
theorem fr_Q_flags {u u' : SY} (h : fr_Q u' = fr_Q u) : qy_flags u' = qy_flags u := congrArg (fun z => z.2.2.2.2.2.2.2.2.2.2.2.2.2.2.2.2.2.2.2.2.2.1) h
theorem fr_Q_literals {u u' : SY} (h : fr_Q u' = fr_Q u) : qy_literals u' = qy_literals u := congrArg (fun z => z.2.2.2.2.2.2.2.2.2.2.2.2.2.2.2.2.2.2.2.2.2.2) h
theorem fr_PY {u u' : SY} (h : fr_P u' = fr_P u) : fr_Y u' = fr_Y u := congrArg (fun z => (z.1, z.2.1, z.2.2.1, z.2.2.2.1, z.2.2.2.2.1, z.2.2.2.2.2.1, z.2.2.2.2.2.2.1, z.2.2.2.2.2.2.2.1, z.2.2.2.2.2.2.2.2.2.2.2.2.2.2.1, z.2.2.2.2.2.2.2.2.2.2.2.2.2.2.2.1, z.2.2.2.2.2.2.2.2.2.2.2.2.2.2.2.2.1, z.2.2.2.2.2.2.2.2.2.2.2.2.2.2.2.2.2.1, z.2.2.2.2.2.2.2.2.2.2.2.2.2.2.2.2.2.2.1, z.2.2.2.2.2.2.2.2.2.2.2.2.2.2.2.2.2.2.2.1, z.2.2.2.2.2.2.2.2.2.2.2.2.2.2.2.2.2.2.2.2.1)) h
theorem fr_QY {u u' : SY} (h : fr_Q u' = fr_Q u) : fr_Y u' = fr_Y u := congrArg (fun z => (z.1, z.2.1, z.2.2.1, z.2.2.2.1, z.2.2.2.2.1, z.2.2.2.2.2.1, z.2.2.2.2.2.2.1, z.2.2.2.2.2.2.2.1, z.2.2.2.2.2.2.2.2.2.2.2.2.2.1, z.2.2.2.2.2.2.2.2.2.2.2.2.2.2.1, z.2.2.2.2.2.2.2.2.2.2.2.2.2.2.2.1, z.2.2.2.2.2.2.2.2.2.2.2.2.2.2.2.2.1, z.2.2.2.2.2.2.2.2.2.2.2.2.2.2.2.2.2.1, z.2.2.2.2.2.2.2.2.2.2.2.2.2.2.2.2.2.2.1, z.2.2.2.2.2.2.2.2.2.2.2.2.2.2.2.2.2.2.2.1)) h
theorem fz_Y_count_lastKind_lastLength_lastDistance (e_count : Int32) (e_lastKind : Int32) (e_lastLength : Int32) (e_lastDistance : Int32) (u : SY) : fr_Y (uy_count_lastKind_lastLength_lastDistance e_count e_lastKind e_lastLength e_lastDistance u) = fr_Y u := rfl
theorem fz_Y_flags (e_flags : Nat → Int32) (u : SY) : fr_Y (uy_flags e_flags u) = fr_Y u := rfl
theorem fz_Y_literals (e_literals : Nat → Int32) (u : SY) : fr_Y (uy_literals e_literals u) = fr_Y u := rfl
theorem fz_Y_pos_count_state_lastKind_lastLength_lastDistance (e_pos : Int32) (e_count : Int32) (e_state : Int32) (e_lastKind : Int32) (e_lastLength : Int32) (e_lastDistance : Int32) (u : SY) : fr_Y (uy_pos_count_state_lastKind_lastLength_lastDistance e_pos e_count e_state e_lastKind e_lastLength e_lastDistance u) = fr_Y u := rfl
theorem fz_Y_pos_out (e_pos : Int32) (e_out : Nat → Int32) (u : SY) : fr_Y (uy_pos_out e_pos e_out u) = fr_Y u := rfl
theorem fz_Y_r (e_r : Nat → Int32) (u : SY) : fr_Y (uy_r e_r u) = fr_Y u := rfl
theorem fz_Y_state (e_state : Int32) (u : SY) : fr_Y (uy_state e_state u) = fr_Y u := rfl
theorem fz_P_flags (e_flags : Nat → Int32) (u : SY) : fr_P (uy_flags e_flags u) = fr_P u := rfl
theorem fz_P_literals (e_literals : Nat → Int32) (u : SY) : fr_P (uy_literals e_literals u) = fr_P u := rfl
theorem fz_Q_pos_out (e_pos : Int32) (e_out : Nat → Int32) (u : SY) : fr_Q (uy_pos_out e_pos e_out u) = fr_Q u := rfl
end
section
/-! ===== the abstract coder: chances m, low L (a great number), range R, shifts s ===== -/
abbrev CA : Type := (Nat → Nat) × Nat × Nat × Nat
def cm_u (f : Nat → Nat) (k x : Nat) : Nat → Nat := fun j => if j = k then x else f j
theorem cm_us {f : Nat → Nat} {k x : Nat} : cm_u f k x k = x := if_pos rfl
theorem cm_un {f : Nat → Nat} {k x j : Nat} (h : j ≠ k) : cm_u f k x j = f j := if_neg h
def cm_mv (k c b : Nat) : Nat := if b = 0 then c + (2048 - c) / 2 ^ k else c - c / 2 ^ k
theorem cm_mv_ok {k c b : Nat} (hk : 4 ≤ k) (hk6 : k ≤ 6) (h1 : 15 ≤ c) (h2 : c ≤ 2033) : 15 ≤ cm_mv k c b ∧ cm_mv k c b ≤ 2033 := by
  unfold cm_mv
  have hk' : k = 4 ∨ k = 5 ∨ k = 6 := by omega
  rcases hk' with rfl | rfl | rfl <;> split <;> omega
def ca_norm (m : Nat → Nat) (L R s : Nat) : CA := if R < 16777216 then (m, L * 256, R * 256, s + 1) else (m, L, R, s)
theorem ca_norm_t {m : Nat → Nat} {L R s : Nat} (h : R < 16777216) : ca_norm m L R s = (m, L * 256, R * 256, s + 1) := if_pos h
theorem ca_norm_f {m : Nat → Nat} {L R s : Nat} (h : ¬ R < 16777216) : ca_norm m L R s = (m, L, R, s) := if_neg h
def ca_B (k a b : Nat) (A : CA) : CA := ca_norm (cm_u A.1 a (cm_mv k (A.1 a) b)) (if b = 0 then A.2.1 else A.2.1 + A.2.2.1 / 2048 * A.1 a) (if b = 0 then A.2.2.1 / 2048 * A.1 a else A.2.2.1 - A.2.2.1 / 2048 * A.1 a) A.2.2.2
def ca_D (b : Nat) (A : CA) : CA := ca_norm A.1 (if b = 0 then A.2.1 else A.2.1 + A.2.2.1 / 2) (A.2.2.1 / 2) A.2.2.2
def ca_ch (m : Nat → Nat) : Prop := ∀ i, 15 ≤ m i ∧ m i ≤ 2033
def ca_ok (A : CA) : Prop := ca_ch A.1 ∧ 16777216 ≤ A.2.2.1 ∧ A.2.2.1 < 4294967296 ∧ A.2.1 + A.2.2.1 ≤ 4294967295 * 256 ^ A.2.2.2
def ca_ne (A B : CA) : Prop := A.2.2.2 ≤ B.2.2.2 ∧ A.2.1 * 256 ^ (B.2.2.2 - A.2.2.2) ≤ B.2.1 ∧ B.2.1 + B.2.2.1 ≤ (A.2.1 + A.2.2.1) * 256 ^ (B.2.2.2 - A.2.2.2)
theorem ca_ne_refl (A : CA) : ca_ne A A := by
  refine ⟨Nat.le_refl _, ?_, ?_⟩ <;> rw [Nat.sub_self, Nat.pow_zero, Nat.mul_one] <;> exact Nat.le_refl _
theorem ca_ne_trans {A B C : CA} (h : ca_ne A B) (g : ca_ne B C) : ca_ne A C := by
  obtain ⟨h1, h2, h3⟩ := h
  obtain ⟨g1, g2, g3⟩ := g
  have e : C.2.2.2 - A.2.2.2 = (B.2.2.2 - A.2.2.2) + (C.2.2.2 - B.2.2.2) := by omega
  refine ⟨Nat.le_trans h1 g1, ?_, ?_⟩
  · rw [e, Nat.pow_add, ← Nat.mul_assoc]
    exact Nat.le_trans (Nat.mul_le_mul_right _ h2) g2
  · rw [e, Nat.pow_add, ← Nat.mul_assoc]
    exact Nat.le_trans g3 (Nat.mul_le_mul_right _ h3)
theorem ca_norm_m (m : Nat → Nat) (L R s : Nat) : (ca_norm m L R s).1 = m := by
  unfold ca_norm; split <;> rfl
theorem ca_norm_s (m : Nat → Nat) (L R s : Nat) : (ca_norm m L R s).2.2.2 ≤ s + 1 ∧ s ≤ (ca_norm m L R s).2.2.2 := by
  unfold ca_norm; split
  · exact ⟨Nat.le_refl _, Nat.le_succ _⟩
  · exact ⟨Nat.le_succ _, Nat.le_refl _⟩
theorem ca_norm_ne (m m' : Nat → Nat) {L R s L' R' : Nat} (h1 : L ≤ L') (h2 : L' + R' ≤ L + R) : ca_ne (m, L, R, s) (ca_norm m' L' R' s) := by
  unfold ca_norm
  split
  · refine ⟨Nat.le_succ _, ?_, ?_⟩
    · show L * 256 ^ (s + 1 - s) ≤ L' * 256
      rw [Nat.add_sub_cancel_left, Nat.pow_one]; omega
    · show L' * 256 + R' * 256 ≤ (L + R) * 256 ^ (s + 1 - s)
      rw [Nat.add_sub_cancel_left, Nat.pow_one]; omega
  · refine ⟨Nat.le_refl _, ?_, ?_⟩
    · show L * 256 ^ (s - s) ≤ L'
      rw [Nat.sub_self, Nat.pow_zero]; omega
    · show L' + R' ≤ (L + R) * 256 ^ (s - s)
      rw [Nat.sub_self, Nat.pow_zero]; omega
theorem ca_norm_ok {m : Nat → Nat} {L R s : Nat} (hm : ca_ch m) (h1 : 65536 ≤ R) (h2 : R < 4294967296) (h3 : L + R ≤ 4294967295 * 256 ^ s) : ca_ok (ca_norm m L R s) := by
  unfold ca_norm
  split
  · refine ⟨hm, ?_, ?_, ?_⟩
    · show 16777216 ≤ R * 256
      omega
    · show R * 256 < 4294967296
      omega
    · show L * 256 + R * 256 ≤ 4294967295 * 256 ^ (s + 1)
      rw [Nat.pow_succ, ← Nat.mul_assoc, ← Nat.add_mul]
      exact Nat.mul_le_mul_right _ h3
  · exact ⟨hm, by show 16777216 ≤ R; omega, h2, h3⟩
/-- what one decision leaves: between 65536 and what there was -/
theorem ca_d {R c : Nat} (h1 : 16777216 ≤ R) (c1 : 15 ≤ c) (c2 : c ≤ 2033) : 65536 ≤ R / 2048 * c ∧ R / 2048 * c + 65536 ≤ R := by
  have q1 : 8192 ≤ R / 2048 := by omega
  have q2 : R / 2048 * 2048 ≤ R := Nat.div_mul_le_self _ _
  have a1 : R / 2048 * 15 ≤ R / 2048 * c := Nat.mul_le_mul_left _ c1
  have a2 : R / 2048 * c ≤ R / 2048 * 2033 := Nat.mul_le_mul_left _ c2
  generalize R / 2048 * c = d at *
  generalize R / 2048 = q at *
  omega
theorem cm_u_ch {m : Nat → Nat} {a x : Nat} (h : ca_ch m) (hx : 15 ≤ x ∧ x ≤ 2033) : ca_ch (cm_u m a x) := by
  intro i
  by_cases e : i = a
  · rw [e, cm_us]; exact hx
  · rw [cm_un e]; exact h i
/-- B is reached from A in at most c decisions -/
def ca_go (c : Nat) (A B : CA) : Prop := ca_ok A → ca_ok B ∧ ca_ne A B ∧ B.2.2.2 ≤ A.2.2.2 + c
theorem ca_go_refl (A : CA) : ca_go 0 A A := fun h => ⟨h, ca_ne_refl A, Nat.le_refl _⟩
theorem ca_go_trans {c d : Nat} {A B C : CA} (h : ca_go c A B) (g : ca_go d B C) : ca_go (c + d) A C := by
  intro ok
  obtain ⟨o1, n1, s1⟩ := h ok
  obtain ⟨o2, n2, s2⟩ := g o1
  exact ⟨o2, ca_ne_trans n1 n2, by omega⟩
theorem ca_go_le {c d : Nat} {A B : CA} (h : ca_go c A B) (e : c ≤ d) : ca_go d A B := fun ok => ⟨(h ok).1, (h ok).2.1, by have := (h ok).2.2; omega⟩
theorem ca_B_go {k a b : Nat} (hk : 4 ≤ k) (hk6 : k ≤ 6) (A : CA) : ca_go 1 A (ca_B k a b A) := by
  obtain ⟨m, L, R, s⟩ := A
  intro ok
  obtain ⟨h1, h2, h3, h4⟩ := ok
  have hd := ca_d h2 (h1 a).1 (h1 a).2
  have hm := cm_u_ch (a := a) h1 (cm_mv_ok (b := b) hk hk6 (h1 a).1 (h1 a).2)
  unfold ca_B
  dsimp only at *
  by_cases hb : b = 0
  · rw [if_pos hb, if_pos hb]
    exact ⟨ca_norm_ok hm hd.1 (by omega) (by omega), ca_norm_ne _ _ (Nat.le_refl _) (by omega), (ca_norm_s _ _ _ _).1⟩
  · rw [if_neg hb, if_neg hb]
    exact ⟨ca_norm_ok hm (by omega) (by omega) (by omega), ca_norm_ne _ _ (by omega) (by omega), (ca_norm_s _ _ _ _).1⟩
theorem ca_D_go (b : Nat) (A : CA) : ca_go 1 A (ca_D b A) := by
  obtain ⟨m, L, R, s⟩ := A
  intro ok
  obtain ⟨h1, h2, h3, h4⟩ := ok
  unfold ca_D
  dsimp only at *
  by_cases hb : b = 0
  · rw [if_pos hb]
    exact ⟨ca_norm_ok h1 (by omega) (by omega) (by omega), ca_norm_ne _ _ (Nat.le_refl _) (by omega), (ca_norm_s _ _ _ _).1⟩
  · rw [if_neg hb]
    exact ⟨ca_norm_ok h1 (by omega) (by omega) (by omega), ca_norm_ne _ _ (by omega) (by omega), (ca_norm_s _ _ _ _).1⟩
/-! trees -/
def ca_T (k base v : Nat) : Nat → Nat → CA → CA
  | 0, _, A => A
  | n + 1, m, A => ca_T k base v n (2 * m + v / 2 ^ n % 2) (ca_B k (base + m) (v / 2 ^ n % 2) A)
def ca_V (k base v : Nat) : Nat → Nat → Nat → CA → CA
  | 0, _, _, A => A
  | n + 1, j, m, A => ca_V k base v n (j + 1) (2 * m + v / 2 ^ j % 2) (ca_B k (base + m) (v / 2 ^ j % 2) A)
def ca_X (v : Nat) : Nat → CA → CA
  | 0, A => A
  | n + 1, A => ca_X v n (ca_D (v / 2 ^ n % 2) A)
theorem ca_T_go {k base v : Nat} (hk : 4 ≤ k) (hk6 : k ≤ 6) : ∀ (n m : Nat) (A : CA), ca_go n A (ca_T k base v n m A) := by
  intro n
  induction n with
  | zero => intro m A; exact ca_go_refl A
  | succ n ih => intro m A; exact ca_go_le (ca_go_trans (ca_B_go hk hk6 A) (ih _ _)) (by omega)
theorem ca_V_go {k base v : Nat} (hk : 4 ≤ k) (hk6 : k ≤ 6) : ∀ (n j m : Nat) (A : CA), ca_go n A (ca_V k base v n j m A) := by
  intro n
  induction n with
  | zero => intro j m A; exact ca_go_refl A
  | succ n ih => intro j m A; exact ca_go_le (ca_go_trans (ca_B_go hk hk6 A) (ih _ _ _)) (by omega)
theorem ca_X_go (v : Nat) : ∀ (n : Nat) (A : CA), ca_go n A (ca_X v n A) := by
  intro n
  induction n with
  | zero => intro A; exact ca_go_refl A
  | succ n ih => intro A; exact ca_go_le (ca_go_trans (ca_D_go _ A) (ih _)) (by omega)
/-! flags, lengths, distances, tokens -/
def ca_F (k t b st : Nat) (A : CA) : CA := ca_B k (t * 12 + st) b A
def ca_K (k kind st : Nat) (A : CA) : CA :=
  if kind = 1 then ca_F k 0 0 st A else
  if kind = 2 then ca_F k 1 0 st (ca_F k 0 1 st A) else
  if kind = 3 then ca_F k 5 0 st (ca_F k 2 0 st (ca_F k 1 1 st (ca_F k 0 1 st A))) else
  if kind = 4 then ca_F k 5 1 st (ca_F k 2 0 st (ca_F k 1 1 st (ca_F k 0 1 st A))) else
  if kind = 5 then ca_F k 3 0 st (ca_F k 2 1 st (ca_F k 1 1 st (ca_F k 0 1 st A))) else
  if kind = 6 then ca_F k 4 0 st (ca_F k 3 1 st (ca_F k 2 1 st (ca_F k 1 1 st (ca_F k 0 1 st A)))) else
  ca_F k 4 1 st (ca_F k 3 1 st (ca_F k 2 1 st (ca_F k 1 1 st (ca_F k 0 1 st A))))
def ca_N (k base len : Nat) (A : CA) : CA := ca_T k (base + 8 * ((len - 2) / 8 % 2)) ((len - 2) % 8) 3 1 (ca_B k base ((len - 2) / 8 % 2) A)
def sl_top (v : Nat) : Nat := if 128 ≤ v then 7 else if 64 ≤ v then 6 else if 32 ≤ v then 5 else if 16 ≤ v then 4 else if 8 ≤ v then 3 else 2
def sl_of (v : Nat) : Nat := if v < 4 then v else 2 * sl_top v + v / 2 ^ (sl_top v - 1) % 2
def sl_bits (s : Nat) : Nat := s / 2 - 1
def sl_start (s : Nat) : Nat := (2 + s % 2) * 2 ^ (s / 2 - 1)
def sl_tree (len : Nat) : Nat := 360 + 16 * (if len - 2 ≤ 3 then len - 2 else 3)
def ca_S (k v len : Nat) (A : CA) : CA :=
  if sl_of v < 4 then ca_T k (sl_tree len) (sl_of v) 4 1 A else
  if sl_of v < 10 then ca_V k (424 + (sl_of v - 4) * 8) (v - sl_start (sl_of v)) (sl_bits (sl_of v)) 0 1 (ca_T k (sl_tree len) (sl_of v) 4 1 A) else
  ca_V k 472 ((v - sl_start (sl_of v)) % 4) 2 0 1 (ca_X ((v - sl_start (sl_of v)) / 4) (sl_bits (sl_of v) - 2) (ca_T k (sl_tree len) (sl_of v) 4 1 A))
abbrev TK : Type := Nat × Nat × Nat × Nat
def ca_tok (k : Nat) (t : TK) (st : Nat) (A : CA) : CA :=
  if t.1 = 1 then ca_T k 72 t.2.2.2 8 1 (ca_K k t.1 st A) else
  if t.1 = 2 then ca_S k (t.2.2.1 - 1) t.2.1 (ca_N k 328 t.2.1 (ca_K k t.1 st A)) else
  if t.1 = 3 then ca_K k t.1 st A else ca_N k 344 t.2.1 (ca_K k t.1 st A)
def ca_end (k st : Nat) (A : CA) : CA := ca_S k 255 2 (ca_N k 328 2 (ca_K k 2 st A))
theorem sl_facts : ∀ v, v < 256 → sl_of v < 16 ∧ (4 ≤ sl_of v → sl_start (sl_of v) ≤ v ∧ v - sl_start (sl_of v) < 2 ^ sl_bits (sl_of v) ∧ 1 ≤ sl_bits (sl_of v) ∧ sl_bits (sl_of v) ≤ 6 ∧ (10 ≤ sl_of v → 2 ≤ sl_bits (sl_of v)) ∧ (sl_of v < 10 → sl_bits (sl_of v) ≤ 3)) ∧ (sl_of v < 4 → sl_of v = v) := by
  decide +kernel
section
variable {k : Nat} (hk : 4 ≤ k) (hk6 : k ≤ 6)
theorem ca_F_go (hk : 4 ≤ k) (hk6 : k ≤ 6) (t b st : Nat) (A : CA) : ca_go 1 A (ca_F k t b st A) := ca_B_go hk hk6 A
theorem ca_K1_go (hk : 4 ≤ k) (hk6 : k ≤ 6) (st : Nat) (A : CA) : ca_go 1 A (ca_K k 1 st A) := ca_F_go hk hk6 _ _ _ _
theorem ca_K2_go (hk : 4 ≤ k) (hk6 : k ≤ 6) (st : Nat) (A : CA) : ca_go 2 A (ca_K k 2 st A) := ca_go_trans (ca_F_go hk hk6 _ _ _ _) (ca_F_go hk hk6 _ _ _ _)
theorem ca_F4_go (hk : 4 ≤ k) (hk6 : k ≤ 6) (a b c d e f g h st : Nat) (A : CA) : ca_go 4 A (ca_F k a b st (ca_F k c d st (ca_F k e f st (ca_F k g h st A)))) :=
  ca_go_trans (ca_go_trans (ca_go_trans (ca_F_go hk hk6 _ _ _ _) (ca_F_go hk hk6 _ _ _ _)) (ca_F_go hk hk6 _ _ _ _)) (ca_F_go hk hk6 _ _ _ _)
theorem ca_K_go (hk : 4 ≤ k) (hk6 : k ≤ 6) (kind st : Nat) (A : CA) : ca_go 5 A (ca_K k kind st A) := by
  unfold ca_K
  split
  · exact ca_go_le (ca_F_go hk hk6 _ _ _ _) (by omega)
  split
  · exact ca_go_le (ca_go_trans (ca_F_go hk hk6 _ _ _ _) (ca_F_go hk hk6 _ _ _ _)) (by omega)
  split
  · exact ca_go_le (ca_F4_go hk hk6 _ _ _ _ _ _ _ _ _ _) (by omega)
  split
  · exact ca_go_le (ca_F4_go hk hk6 _ _ _ _ _ _ _ _ _ _) (by omega)
  split
  · exact ca_go_le (ca_F4_go hk hk6 _ _ _ _ _ _ _ _ _ _) (by omega)
  split
  · exact ca_go_trans (ca_F4_go hk hk6 _ _ _ _ _ _ _ _ _ _) (ca_F_go hk hk6 _ _ _ _)
  · exact ca_go_trans (ca_F4_go hk hk6 _ _ _ _ _ _ _ _ _ _) (ca_F_go hk hk6 _ _ _ _)
theorem ca_N_go (hk : 4 ≤ k) (hk6 : k ≤ 6) (base len : Nat) (A : CA) : ca_go 4 A (ca_N k base len A) := ca_go_trans (ca_B_go hk hk6 A) (ca_T_go hk hk6 3 _ _)
theorem ca_S_go (hk : 4 ≤ k) (hk6 : k ≤ 6) {v : Nat} (hv : v < 256) (len : Nat) (A : CA) : ca_go 10 A (ca_S k v len A) := by
  unfold ca_S
  have f := sl_facts v hv
  split
  · exact ca_go_le (ca_T_go hk hk6 4 _ _) (by omega)
  have f2 := f.2.1 (by omega)
  split
  · exact ca_go_le (ca_go_trans (ca_T_go hk hk6 4 _ _) (ca_V_go hk hk6 _ _ _ _)) (by omega)
  · exact ca_go_le (ca_go_trans (ca_go_trans (ca_T_go hk hk6 4 _ _) (ca_X_go _ _ _)) (ca_V_go hk hk6 2 _ _ _)) (by have := f2.2.2.2.2.1 (by omega); omega)
theorem ca_end_go (hk : 4 ≤ k) (hk6 : k ≤ 6) (st : Nat) (A : CA) : ca_go 16 A (ca_end k st A) :=
  ca_go_trans (ca_go_trans (ca_K2_go hk hk6 st A) (ca_N_go hk hk6 328 2 _)) (ca_S_go hk hk6 (by omega) 2 _)
/-- a token of length len costs at most 9 * len decisions -/
theorem ca_tok_go (hk : 4 ≤ k) (hk6 : k ≤ 6) {t : TK} (h1 : 1 ≤ t.1) (h7 : t.1 ≤ 7) (hl : 1 ≤ t.2.1) (h2 : t.1 ≠ 1 → t.1 ≠ 3 → 2 ≤ t.2.1) (hd : t.2.2.1 ≤ 256) (st : Nat) (A : CA) : ca_go (9 * t.2.1) A (ca_tok k t st A) := by
  unfold ca_tok
  split
  · rename_i e
    rw [e]
    exact ca_go_le (ca_go_trans (ca_K1_go hk hk6 st A) (ca_T_go hk hk6 8 _ _)) (by omega)
  split
  · rename_i e
    rw [e]
    exact ca_go_le (ca_go_trans (ca_go_trans (ca_K2_go hk hk6 st A) (ca_N_go hk hk6 328 _ _)) (ca_S_go hk hk6 (by omega) _ _)) (by have := h2 (by omega) (by omega); omega)
  split
  · exact ca_go_le (ca_K_go hk hk6 _ st A) (by omega)
  · exact ca_go_le (ca_go_trans (ca_K_go hk hk6 _ st A) (ca_N_go hk hk6 344 _ _)) (by have := h2 (by omega) (by omega); omega)
end
/-! chances below 'lo' that a step leaves alone -/
def ca_fr (lo : Nat) (A B : CA) : Prop := ∀ i, i < lo → B.1 i = A.1 i
theorem ca_fr_trans {lo : Nat} {A B C : CA} (h : ca_fr lo A B) (g : ca_fr lo B C) : ca_fr lo A C := fun i hi => (g i hi).trans (h i hi)
theorem ca_B_m (k a b : Nat) (A : CA) : (ca_B k a b A).1 = cm_u A.1 a (cm_mv k (A.1 a) b) := ca_norm_m _ _ _ _
theorem ca_D_m (b : Nat) (A : CA) : (ca_D b A).1 = A.1 := ca_norm_m _ _ _ _
theorem ca_B_fr {lo k a b : Nat} (h : lo ≤ a) (A : CA) : ca_fr lo A (ca_B k a b A) := by
  intro i hi
  rw [ca_B_m, cm_un (by omega)]
theorem ca_T_fr {lo k base v : Nat} (h : lo ≤ base) : ∀ (n m : Nat) (A : CA), ca_fr lo A (ca_T k base v n m A) := by
  intro n
  induction n with
  | zero => intro m A i hi; rfl
  | succ n ih => intro m A; exact ca_fr_trans (ca_B_fr (by omega) A) (ih _ _)
theorem ca_V_fr {lo k base v : Nat} (h : lo ≤ base) : ∀ (n j m : Nat) (A : CA), ca_fr lo A (ca_V k base v n j m A) := by
  intro n
  induction n with
  | zero => intro j m A i hi; rfl
  | succ n ih => intro j m A; exact ca_fr_trans (ca_B_fr (by omega) A) (ih _ _ _)
theorem ca_X_fr {lo v : Nat} : ∀ (n : Nat) (A : CA), ca_fr lo A (ca_X v n A) := by
  intro n
  induction n with
  | zero => intro A i hi; rfl
  | succ n ih => intro A; exact ca_fr_trans (fun i hi => by rw [ca_D_m]) (ih _)
theorem ca_N_fr {lo k base len : Nat} (h : lo ≤ base) (A : CA) : ca_fr lo A (ca_N k base len A) := ca_fr_trans (ca_B_fr h A) (ca_T_fr (by omega) _ _ _)
theorem ca_S_fr {lo k v len : Nat} (h : lo ≤ 360) (A : CA) : ca_fr lo A (ca_S k v len A) := by
  unfold ca_S
  have t : ca_fr lo A (ca_T k (sl_tree len) (sl_of v) 4 1 A) := ca_T_fr (by unfold sl_tree; omega) _ _ _
  split
  · exact t
  split
  · exact ca_fr_trans t (ca_V_fr (by omega) _ _ _ _)
  · exact ca_fr_trans (ca_fr_trans t (ca_X_fr _ _)) (ca_V_fr (by omega) _ _ _ _)
/-! ===== bytes read as a number ===== -/
def vl (f : Nat → Nat) : Nat → Nat
  | 0 => 0
  | n + 1 => vl f n * 256 + f n
theorem vl_congr {f g : Nat → Nat} : ∀ n, (∀ i, i < n → f i = g i) → vl f n = vl g n := by
  intro n
  induction n with
  | zero => intro _; rfl
  | succ n ih => intro h; show vl f n * 256 + f n = vl g n * 256 + g n; rw [ih (fun i hi => h i (by omega)), h n (by omega)]
theorem vl_div {f : Nat → Nat} {n : Nat} : ∀ j, (∀ i, i < n + j → f i < 256) → vl f (n + j) / 256 ^ j = vl f n := by
  intro j
  induction j with
  | zero => intro _; show vl f n / 256 ^ 0 = _; rw [Nat.pow_zero, Nat.div_one]
  | succ j ih =>
    intro h
    show (vl f (n + j) * 256 + f (n + j)) / 256 ^ (j + 1) = vl f n
    have hb := h (n + j) (by omega)
    rw [Nat.pow_succ, Nat.mul_comm (256 ^ j) 256, ← Nat.div_div_eq_div_mul]
    rw [show (vl f (n + j) * 256 + f (n + j)) / 256 = vl f (n + j) by omega]
    exact ih (fun i hi => h i (by omega))
/-- the number of the bytes bs (S + 5 of them) lies in A's interval -/
def ca_in (bs : Nat → Nat) (S : Nat) (A : CA) : Prop := A.2.2.2 ≤ S ∧ A.2.1 * 256 ^ (S - A.2.2.2) ≤ vl bs (S + 5) ∧ vl bs (S + 5) < (A.2.1 + A.2.2.1) * 256 ^ (S - A.2.2.2)
theorem ca_in_ne {bs : Nat → Nat} {S : Nat} {A B : CA} (h : ca_ne A B) (g : ca_in bs S B) : ca_in bs S A := by
  obtain ⟨h1, h2, h3⟩ := h
  obtain ⟨g1, g2, g3⟩ := g
  have e : S - A.2.2.2 = (B.2.2.2 - A.2.2.2) + (S - B.2.2.2) := by omega
  refine ⟨Nat.le_trans h1 g1, ?_, ?_⟩
  · rw [e, Nat.pow_add, ← Nat.mul_assoc]
    exact Nat.le_trans (Nat.mul_le_mul_right _ h2) g2
  · rw [e, Nat.pow_add, ← Nat.mul_assoc]
    exact Nat.lt_of_lt_of_le g3 (Nat.mul_le_mul_right _ h3)
theorem ca_in_pre {bs : Nat → Nat} {S : Nat} {A : CA} (hb : ∀ i, i < S + 5 → bs i < 256) (h : ca_in bs S A) : A.2.1 ≤ vl bs (A.2.2.2 + 5) ∧ vl bs (A.2.2.2 + 5) < A.2.1 + A.2.2.1 := by
  obtain ⟨h1, h2, h3⟩ := h
  have p : 0 < 256 ^ (S - A.2.2.2) := Nat.pow_pos (by omega)
  have e : S + 5 = (A.2.2.2 + 5) + (S - A.2.2.2) := by omega
  have d : vl bs (S + 5) / 256 ^ (S - A.2.2.2) = vl bs (A.2.2.2 + 5) := by
    rw [e]; exact vl_div _ (fun i hi => hb i (by omega))
  rw [← d]
  exact ⟨(Nat.le_div_iff_mul_le p).mpr h2, (Nat.div_lt_iff_lt_mul p).mpr h3⟩
end
section
/-! ===== numbers: longs by naturals, bytes, moved chances ===== -/
theorem pl_lt {x y : Int64} {P Q : Prop} (a b : Nat) (hx : x = lN a) (hy : y = lN b) (ha : a < 2 ^ 63) (hb : b < 2 ^ 63) (f : a < b → P) (g : b ≤ a → Q) : (x < y → P) ∧ (¬ x < y → Q) := by
  subst hx hy
  rw [pk_lLT ha hb]
  exact ⟨f, fun z => g (by omega)⟩
theorem pl_le {x y : Int64} {P Q : Prop} (a b : Nat) (hx : x = lN a) (hy : y = lN b) (ha : a < 2 ^ 63) (hb : b < 2 ^ 63) (f : a ≤ b → P) (g : b < a → Q) : (x ≤ y → P) ∧ (¬ x ≤ y → Q) := by
  subst hx hy
  rw [pk_lLE ha hb]
  exact ⟨f, fun z => g (by omega)⟩
def by_v (x : Int32) : Nat := (x &&& 255).toNatClampNeg
theorem by_and (x : Int32) : x &&& 255 = nI (by_v x) := by
  have e : x &&& 255 = nI (x.toBitVec.toNat % 2 ^ 8) := pk_and x 8 (by decide)
  have l : x.toBitVec.toNat % 2 ^ 8 < 2 ^ 8 := Nat.mod_lt _ (by decide)
  unfold by_v
  rw [e, nI_clamp (by omega)]
theorem by_lt (x : Int32) : by_v x < 256 := by
  have e : x &&& 255 = nI (x.toBitVec.toNat % 2 ^ 8) := pk_and x 8 (by decide)
  have l : x.toBitVec.toNat % 2 ^ 8 < 2 ^ 8 := Nat.mod_lt _ (by decide)
  unfold by_v
  rw [e, nI_clamp (by omega)]
  exact l
theorem by_nI {e : Nat} (h : e < 2 ^ 32) : by_v (nI e) = e % 256 := by
  have l : e % 2 ^ 8 < 2 ^ 8 := Nat.mod_lt _ (by decide)
  unfold by_v
  rw [pk_andN h (m := 255) 8 (by decide), nI_clamp (by omega)]
theorem by_nar (x : Int32) : by_v (vp_nar .byte x) = by_v x := by
  unfold by_v
  rw [vp_nar_byte, bp_b]
theorem by_emit {e : Nat} (h : e < 2 ^ 31) : by_v (vp_nar .byte (nI e).toInt8.toInt32) = e % 256 := by
  rw [by_nar]
  unfold by_v
  rw [bp_b]
  exact by_nI (by omega)
theorem cm_x0 {k c : Nat} (hk : k < 32) (hc : c ≤ 2048) : nI c + ((2048 - nI c) >>> (nI k &&& 31)) = nI (cm_mv k c 0) := by
  show nI c + ((nI 2048 - nI c) >>> (nI k &&& 31)) = _
  rw [pk_sub hc, pk_shrN (by omega) _ k (s_l k hk), nI_add]
  rfl
theorem cm_x1 {k c b : Nat} (hk : k < 32) (hc : c ≤ 2048) (hb : b ≠ 0) : nI c - (nI c >>> (nI k &&& 31)) = nI (cm_mv k c b) := by
  rw [pk_shrN (by omega) _ k (s_l k hk), pk_sub (Nat.div_le_self _ _)]
  unfold cm_mv
  rw [if_neg hb]
/-! ===== X: updateChance, emit, shiftLow ===== -/
theorem xw_updateChance {post : SX → Prop} {u : SX} {k a b c : Nat} (hs : qx_shift u = nI k) (hk : k < 32) (ha : a < 1024) (hb : b < 2) (hc : qx_model u a = nI c) (h1 : c ≤ 2048) (K : post (ux_model (upd (qx_model u) a (nI (cm_mv k c b))) u)) : wpX_updateChance post u (nI a) (nI b) := by
  rw [ex_updateChance, nI_clamp (show a < 2 ^ 31 by omega), hc, hs]
  refine ⟨vp_in_nI ha (by omega), nm_e ?_⟩
  refine pk_eq b 0 (fun z => ⟨vp_in_nI ha (by omega), nm_e ?_⟩) (fun z => ⟨vp_in_nI ha (by omega), nm_e ?_⟩)
  · rw [cm_x0 hk h1, ← z]; exact K
  · rw [cm_x1 hk h1 z]; exact K
theorem xw_emit {post : SX → Prop} {u : SX} {n e : Nat} (hn : qx_codedLength u = nI n) (h : n < 1024) (he : e < 2 ^ 31) (K : ∀ a : Nat → Int32, (∀ i, i < n → a i = qx_coded u i) → by_v (a n) = e % 256 → post (ux_codedLength_coded (nI (n + 1)) a u)) : wpX_emit post u (nI e) := by
  rw [ex_emit, hn, nI_clamp (show n < 2 ^ 31 by omega)]
  refine pk_le 1024 n (fun z => absurd h (by omega)) (fun _ => ⟨vp_in_nI h (by omega), nm_e (nm_r (nI_1 n) ?_)⟩)
  exact K _ (fun i hi => pk_un (by omega)) (by rw [pk_us]; exact by_emit he)
def xe_b (a : Nat → Int32) : Nat → Nat := fun i => by_v (a i)
theorem xe_vl1 {a a' : Nat → Int32} {n e : Nat} (h : ∀ i, i < n → a' i = a i) (he : by_v (a' n) = e) : vl (xe_b a') (n + 1) = vl (xe_b a) n * 256 + e := by
  have e2 : vl (xe_b a') n = vl (xe_b a) n := vl_congr n (fun i hi => by show by_v (a' i) = by_v (a i); rw [h i hi])
  show vl (xe_b a') n * 256 + by_v (a' n) = _
  rw [he, e2]
/-- j times byte e behind V -/
def xe_ap (e : Nat) : Nat → Nat → Nat
  | 0, V => V
  | j + 1, V => xe_ap e j (V * 256 + e)
theorem xe_ap0 : ∀ j V, xe_ap 0 j V = V * 256 ^ j := by
  intro j
  induction j with
  | zero => intro V; show V = V * 256 ^ 0; rw [Nat.pow_zero, Nat.mul_one]
  | succ j ih => intro V; show xe_ap 0 j (V * 256 + 0) = _; rw [ih, Nat.add_zero, Nat.mul_assoc, Nat.pow_succ, Nat.mul_comm 256]
theorem xe_ap255 : ∀ j V, xe_ap 255 j V = V * 256 ^ j + (256 ^ j - 1) := by
  intro j
  induction j with
  | zero => intro V; show V = V * 256 ^ 0 + (256 ^ 0 - 1); rw [Nat.pow_zero, Nat.mul_one]; rfl
  | succ j ih =>
    intro V
    show xe_ap 255 j (V * 256 + 255) = _
    have p : 0 < 256 ^ j := Nat.pow_pos (by omega)
    rw [ih, Nat.pow_succ, Nat.add_mul, Nat.mul_assoc, Nat.mul_comm 256, ← Nat.mul_assoc]
    rw [Nat.mul_assoc V]
    generalize V * (256 ^ j * 256) = W
    generalize 256 ^ j = q at *
    omega
theorem xw_emits {post : SX → Prop} {u : SX} {x1 e w : Nat} (hx : (255 + x1) % 256 = e) (hx1 : x1 < 2) (hw : w < 2000) : ∀ (j i n f : Nat) (a : Nat → Int32), i + j = w → j < f → n + j ≤ 1024 →
    (∀ a' : Nat → Int32, vl (xe_b a') (n + j) = xe_ap e j (vl (xe_b a) n) → ∀ y : Int32, y = ((((qx_encLow u).toUInt64 >>> ((24 : Int32).toInt64.toUInt64 &&& Int64.toUInt64 63)).toInt64).toInt32) &&& 255 → zx_shiftLow_91 post (ux_encCache_encPending y 0 (ux_codedLength_coded (nI (n + j)) a' u))) →
    zx_shiftLow_50 post (nI x1) (nI w) f (nI i) (ux_codedLength_coded (nI n) a u) := by
  intro j
  induction j with
  | zero =>
    intro i n f a hi hf hn K
    obtain ⟨f, rfl⟩ : ∃ g, f = g + 1 := ⟨f - 1, by omega⟩
    rw [ex_shiftLow_50]
    exact br_t (nI_le (by omega) (by omega)) (fun y ey => K a rfl y ey)
  | succ j ih =>
    intro i n f a hi hf hn K
    obtain ⟨f, rfl⟩ : ∃ g, f = g + 1 := ⟨f - 1, by omega⟩
    rw [ex_shiftLow_50]
    refine br_f (nI_ge (by omega) (by omega)) ?_
    rw [show (255 : Int32) + nI x1 = nI (255 + x1) from nI_add 255 x1]
    refine xw_emit (n := n) rfl (by omega) (by omega) ?_
    intro a' h1 h2
    rw [sx_codedLength_coded]
    refine nm_r (nI_1 i) ?_
    refine ih (i + 1) (n + 1) f a' (by omega) (by omega) (by omega) ?_
    intro a'' h3
    rw [xe_vl1 h1 (h2.trans hx)] at h3
    rw [show n + 1 + j = n + (j + 1) by omega] at h3 ⊢
    exact K a'' h3
/-! the registers: n bytes of number V, cache c, p - 1 pending 255s, low lo -/
def xe_N (L R s n p c lo V : Nat) : Prop := 1 ≤ p ∧ n + p = s + 1 ∧ c < 256 ∧ 1 ≤ R ∧ lo + R ≤ 8589934592 ∧ (c ≤ 254 ∨ lo + R ≤ 4294967296) ∧ L = ((V * 256 + c) * 256 ^ (p - 1) + (256 ^ (p - 1) - 1)) * 4294967296 + lo
def xe_R (L R s : Nat) (u : SX) : Prop := ∃ n p c lo : Nat, qx_codedLength u = nI n ∧ qx_encPending u = nI p ∧ qx_encCache u = nI c ∧ qx_encLow u = lN lo ∧ xe_N L R s n p c lo (vl (xe_b (qx_coded u)) n)
theorem xe_pend {L R s n p c lo V : Nat} (h : xe_N L R s n p c lo V) (hR : R < 16777216) (h1 : 4278190080 ≤ lo) (h2 : lo ≤ 4294967295) : xe_N (L * 256) (R * 256) (s + 1) n (p + 1) c (lo % 16777216 * 256) V := by
  obtain ⟨a1, a2, a3, a4, a5, a6, a7⟩ := h
  refine ⟨by omega, by omega, a3, by omega, by omega, by omega, ?_⟩
  have p1 : 0 < 256 ^ (p - 1) := Nat.pow_pos (by omega)
  have e : p + 1 - 1 = (p - 1) + 1 := by omega
  rw [e, Nat.pow_succ, ← Nat.mul_assoc]
  generalize (V * 256 + c) * 256 ^ (p - 1) = Z at *
  generalize 256 ^ (p - 1) = Q at *
  omega
theorem xe_out0 {L R s n p c lo V : Nat} (h : xe_N L R s n p c lo V) (hR : R < 16777216) (h1 : lo < 4278190080) : xe_N (L * 256) (R * 256) (s + 1) (n + p) 1 (lo / 16777216) (lo % 16777216 * 256) (xe_ap 255 (p - 1) (V * 256 + c)) := by
  obtain ⟨a1, a2, a3, a4, a5, a6, a7⟩ := h
  refine ⟨by omega, by omega, by omega, by omega, by omega, by omega, ?_⟩
  rw [xe_ap255]
  have p1 : 0 < 256 ^ (p - 1) := Nat.pow_pos (by omega)
  generalize (V * 256 + c) * 256 ^ (p - 1) = Z at *
  generalize 256 ^ (p - 1) = Q at *
  show _ = ((_ * 256 + lo / 16777216) * 256 ^ 0 + (256 ^ 0 - 1)) * 4294967296 + _
  rw [Nat.pow_zero, Nat.mul_one]
  omega
theorem xe_out1 {L R s n p c lo V : Nat} (h : xe_N L R s n p c lo V) (hR : R < 16777216) (h1 : 4294967295 < lo) : c + 1 < 256 ∧ lo / 4294967296 = 1 ∧ xe_N (L * 256) (R * 256) (s + 1) (n + p) 1 (lo / 16777216 % 256) (lo % 16777216 * 256) (xe_ap 0 (p - 1) (V * 256 + (c + 1))) := by
  obtain ⟨a1, a2, a3, a4, a5, a6, a7⟩ := h
  refine ⟨by omega, by omega, by omega, by omega, by omega, by omega, by omega, by omega, ?_⟩
  rw [xe_ap0]
  have p1 : 0 < 256 ^ (p - 1) := Nat.pow_pos (by omega)
  rw [← Nat.add_assoc, Nat.add_mul (V * 256 + c) 1, Nat.one_mul]
  generalize (V * 256 + c) * 256 ^ (p - 1) = Z at *
  generalize 256 ^ (p - 1) = Q at *
  show _ = ((_ * 256 + lo / 16777216 % 256) * 256 ^ 0 + (256 ^ 0 - 1)) * 4294967296 + _
  rw [Nat.pow_zero, Nat.mul_one]
  omega
theorem xe_low {lo : Nat} (h : lo < 2 ^ 64) : (lN lo &&& 16777215) <<< ((8 : Int32).toInt64 &&& 63) = lN (lo % 16777216 * 256) := by
  rw [show (16777215 : Int64) = lN (2 ^ 24 - 1) from rfl, wb_mask h (by omega)]
  exact wb_shl _ (k := 8) (by omega)
theorem xe_c24 {lo : Nat} (h : lo < 2 ^ 40) : ((((lN lo).toUInt64 >>> ((24 : Int32).toInt64.toUInt64 &&& Int64.toUInt64 63)).toInt64).toInt32) &&& 255 = nI (lo / 16777216 % 256) := by
  rw [show ((lN lo).toUInt64 >>> ((24 : Int32).toInt64.toUInt64 &&& Int64.toUInt64 63)).toInt64 = lN (lo / 2 ^ 24) from wb_shr (k := 24) (by omega) (by omega), lN_i]
  exact pk_andN (m := 255) (by omega) 8 (by decide)
theorem xe_c32 {lo : Nat} (h : lo < 2 ^ 40) : (((lN lo).toUInt64 >>> ((32 : Int32).toInt64.toUInt64 &&& Int64.toUInt64 63)).toInt64).toInt32 = nI (lo / 4294967296) := by
  rw [show ((lN lo).toUInt64 >>> ((32 : Int32).toInt64.toUInt64 &&& Int64.toUInt64 63)).toInt64 = lN (lo / 2 ^ 32) from wb_shr (k := 32) (by omega) (by omega), lN_i]
/-- shiftLow's emitting arm: x1 the carry -/
theorem xw_out {post : SX → Prop} {u : SX} {s n p c lo x1 e c' V' : Nat} (h1 : qx_codedLength u = nI n) (h2 : qx_encPending u = nI p) (h3 : qx_encCache u = nI c) (h4 : qx_encLow u = lN lo) (hp : 1 ≤ p) (hn : n + p = s + 1) (hs : s ≤ 1000) (hlo : lo < 2 ^ 40) (hx : (255 + x1) % 256 = e) (hx1 : x1 < 2) (hc : c + x1 < 256) (hl : lo / 4294967296 = x1) (hc' : lo / 16777216 % 256 = c') (hV : xe_ap e (p - 1) (vl (xe_b (qx_coded u)) n * 256 + (c + x1)) = V')
    (K : ∀ a : Nat → Int32, vl (xe_b a) (n + p) = V' → post (ux_encLow_encPending (lN (lo % 16777216 * 256)) (nI 1) (ux_encCache_encPending (nI c') 0 (ux_codedLength_coded (nI (n + p)) a u)))) : zx_shiftLow_22 post u := by
  rw [ex_shiftLow_22, h3, h4, xe_c32 hlo, hl]
  refine nm_e ?_
  rw [nI_add]
  refine xw_emit h1 (by omega) (by omega) ?_
  intro a g1 g2
  show ∀ y : Int32, y = qx_encPending u - 1 → _
  rw [h2]
  refine nm_r (e' := nI (p - 1)) (by rw [show p = (p - 1) + 1 by omega, nI_pred]; rfl) ?_
  refine ⟨p, ?_⟩
  refine xw_emits (e := e) hx hx1 (by omega) (p - 1) 0 (n + 1) p a (by omega) (by omega) (by omega) ?_
  intro a' g3
  rw [xe_vl1 g1 g2, Nat.mod_eq_of_lt hc, hV] at g3
  rw [h4, xe_c24 hlo, hc']
  refine nm_e ?_
  rw [ex_shiftLow_91]
  rw [show n + 1 + (p - 1) = n + p by omega] at g3 ⊢
  refine nm_r (e' := nI 1) (show (0 : Int32) + 1 = nI 1 by decide) (nm_r (e' := lN (lo % 16777216 * 256)) ?_ (K a' g3))
  show (qx_encLow u &&& 16777215) <<< ((8 : Int32).toInt64 &&& 63) = _
  rw [h4]
  exact xe_low (by omega)
/-- the same with p and lo in sight -/
def xe_Q (p lo L R s : Nat) (u : SX) : Prop := ∃ n c : Nat, qx_codedLength u = nI n ∧ qx_encPending u = nI p ∧ qx_encCache u = nI c ∧ qx_encLow u = lN lo ∧ xe_N L R s n p c lo (vl (xe_b (qx_coded u)) n)
theorem xw_shiftLowQ {post : SX → Prop} {u : SX} {p lo L R s : Nat} (h : xe_Q p lo L R s u) (hR : R < 16777216) (hs : s ≤ 1000) (K : ∀ (u' : SX) (p' : Nat), xe_Q p' (lo % 16777216 * 256) (L * 256) (R * 256) (s + 1) u' → (lo < 4278190080 → p' = 1) → fr_S u' = fr_S u → post u') : wpX_shiftLow post u := by
  obtain ⟨n, c, h1, h2, h3, h4, h5⟩ := h
  have b := h5
  obtain ⟨a1, a2, a3, a4, a5, a6, a7⟩ := b
  rw [ex_shiftLow]
  refine pl_lt lo 4278190080 h4 rfl (by omega) (by omega) (fun z => ?_) (fun z => pl_le lo 4294967295 h4 rfl (by omega) (by omega) (fun y => ?_) (fun y => ?_))
  · refine xw_out (x1 := 0) (e := 255) h1 h2 h3 h4 a1 a2 hs (by omega) rfl (by omega) (by omega) (by omega) (c' := lo / 16777216) (by omega) rfl ?_
    intro a g
    refine K _ 1 ⟨n + p, lo / 16777216, rfl, rfl, rfl, rfl, ?_⟩ (fun _ => rfl) (by unfold fr_S; simp only [gx_encLow_encPending, gx_encCache_encPending, gx_codedLength_coded])
    show xe_N _ _ _ _ _ _ _ (vl (xe_b a) (n + p))
    rw [g]
    exact xe_out0 h5 hR z
  · rw [ex_shiftLow_91, h2, h4]
    refine nm_r (nI_1 p) (nm_r (xe_low (by omega)) (K _ (p + 1) ⟨n, c, h1, rfl, h3, rfl, ?_⟩ (fun z' => absurd z' (by omega)) rfl))
    exact xe_pend h5 hR z y
  · obtain ⟨o1, o2, o3⟩ := xe_out1 h5 hR y
    refine xw_out (x1 := 1) (e := 0) h1 h2 h3 h4 a1 a2 hs (by omega) rfl (by omega) (by omega) o2 rfl rfl ?_
    intro a g
    refine K _ 1 ⟨n + p, lo / 16777216 % 256, rfl, rfl, rfl, rfl, ?_⟩ (fun _ => rfl) (by unfold fr_S; simp only [gx_encLow_encPending, gx_encCache_encPending, gx_codedLength_coded])
    show xe_N _ _ _ _ _ _ _ (vl (xe_b a) (n + p))
    rw [g]
    exact o3
theorem xw_shiftLow {post : SX → Prop} {u : SX} {L R s : Nat} (h : xe_R L R s u) (hR : R < 16777216) (hs : s ≤ 1000) (K : ∀ u' : SX, xe_R (L * 256) (R * 256) (s + 1) u' → fr_S u' = fr_S u → post u') : wpX_shiftLow post u := by
  obtain ⟨n, p, c, lo, h1, h2, h3, h4, h5⟩ := h
  refine xw_shiftLowQ (p := p) (lo := lo) ⟨n, c, h1, h2, h3, h4, h5⟩ hR hs ?_
  intro u' p' g _ f
  obtain ⟨n', c', g1, g2, g3, g4, g5⟩ := g
  exact K u' ⟨n', p', c', _, g1, g2, g3, g4, g5⟩ f
/-- five flushing shifts -/
theorem xe_Q_1 {p lo L R s : Nat} {u : SX} (h : xe_Q p lo L R s u) : xe_Q p lo L 1 s u := by
  obtain ⟨n, c, g1, g2, g3, g4, a1, a2, a3, a4, a5, a6, a7⟩ := h
  exact ⟨n, c, g1, g2, g3, g4, a1, a2, a3, by omega, by omega, by omega, a7⟩
theorem xw_flush {post : SX → Prop} {u : SX} {L R s : Nat} (h : xe_R L R s u) (hs : s ≤ 900) (K : ∀ u' : SX, qx_codedLength u' = nI (s + 5) → vl (xe_b (qx_coded u')) (s + 5) = L → fr_S u' = fr_S u → post u') : wpX_flushCoder post u := by
  obtain ⟨n, p, c, lo, h1, h2, h3, h4, h5⟩ := h
  have q0 : xe_Q p lo L 1 s u := xe_Q_1 ⟨n, c, h1, h2, h3, h4, h5⟩
  rw [ex_flushCoder]
  refine ⟨6, ?_⟩
  rw [ex_flushCoder_2]
  refine br_f (by decide) (xw_shiftLowQ q0 (by omega) (by omega) (fun u1 p1 q1 _ f1 => nm_e ?_))
  rw [ex_flushCoder_2]
  refine br_f (by decide) (xw_shiftLowQ (xe_Q_1 q1) (by omega) (by omega) (fun u2 p2 q2 _ f2 => nm_e ?_))
  rw [ex_flushCoder_2]
  refine br_f (by decide) (xw_shiftLowQ (xe_Q_1 q2) (by omega) (by omega) (fun u3 p3 q3 _ f3 => nm_e ?_))
  rw [ex_flushCoder_2]
  refine br_f (by decide) (xw_shiftLowQ (xe_Q_1 q3) (by omega) (by omega) (fun u4 p4 q4 _ f4 => nm_e ?_))
  rw [ex_flushCoder_2]
  refine br_f (by decide) (xw_shiftLowQ (xe_Q_1 q4) (by omega) (by omega) (fun u5 p5 q5 e5 f5 => nm_e ?_))
  rw [ex_flushCoder_2]
  refine br_t (by decide) ?_
  obtain ⟨n5, c5, g1, g2, g3, g4, a1, a2, a3, a4, a5, a6, a7⟩ := q5
  have e := e5 (by omega)
  subst e
  have hn5 : n5 = s + 5 := by omega
  subst hn5
  rw [show 1 - 1 = 0 from rfl, Nat.pow_zero, Nat.mul_one] at a7
  refine K u5 g1 ?_ (f5.trans (f4.trans (f3.trans (f2.trans f1))))
  generalize vl (xe_b (qx_coded u5)) (s + 5) = V at *
  omega
end
section
/-! ===== X: normaliseEncoder, writeBit, writeDirect ===== -/
theorem xe_R_le {L R R' s : Nat} {u : SX} (h : xe_R L R s u) (h1 : 1 ≤ R') (h2 : R' ≤ R) : xe_R L R' s u := by
  obtain ⟨n, p, c, lo, g1, g2, g3, g4, a1, a2, a3, a4, a5, a6, a7⟩ := h
  exact ⟨n, p, c, lo, g1, g2, g3, g4, a1, a2, a3, h1, by omega, by omega, a7⟩
theorem xe_R_add {L R d s : Nat} {u u' : SX} (h : xe_R L R s u) (h1 : d + 1 ≤ R) (e1 : qx_codedLength u' = qx_codedLength u) (e2 : qx_encPending u' = qx_encPending u) (e3 : qx_encCache u' = qx_encCache u) (e4 : qx_encLow u' = qx_encLow u + lN d) (e5 : qx_coded u' = qx_coded u) : xe_R (L + d) (R - d) s u' := by
  obtain ⟨n, p, c, lo, g1, g2, g3, g4, a1, a2, a3, a4, a5, a6, a7⟩ := h
  refine ⟨n, p, c, lo + d, e1.trans g1, e2.trans g2, e3.trans g3, ?_, a1, a2, a3, by omega, by omega, by omega, ?_⟩
  · rw [e4, g4, lN_add]
  · rw [a7, e5, Nat.add_assoc]
theorem xe_R_same {L R s : Nat} {u u' : SX} (h : xe_R L R s u) (e1 : qx_codedLength u' = qx_codedLength u) (e2 : qx_encPending u' = qx_encPending u) (e3 : qx_encCache u' = qx_encCache u) (e4 : qx_encLow u' = qx_encLow u) (e5 : qx_coded u' = qx_coded u) : xe_R L R s u' := by
  unfold xe_R at *
  rw [e1, e2, e3, e4, e5]
  exact h
def fe_ (u u' : SX) : Prop := fr_E u' = fr_E u ∧ ∀ i, 512 ≤ i → qx_model u' i = qx_model u i
theorem fe_refl (u : SX) : fe_ u u := ⟨rfl, fun _ _ => rfl⟩
theorem fe_trans {u v w : SX} (h : fe_ u v) (g : fe_ v w) : fe_ u w := ⟨g.1.trans h.1, fun i hi => (g.2 i hi).trans (h.2 i hi)⟩
def xe_A (k : Nat) (A : CA) (u : SX) : Prop := ca_ok A ∧ 4 ≤ k ∧ k ≤ 6 ∧ qx_shift u = nI k ∧ qx_encRange u = lN A.2.2.1 ∧ (∀ i, i < 512 → qx_model u i = nI (A.1 i)) ∧ xe_R A.2.1 A.2.2.1 A.2.2.2 u
theorem xw_norm {post : SX → Prop} {u : SX} {L R s : Nat} (m : Nat → Nat) (hr : qx_encRange u = lN R) (h : xe_R L R s u) (hs : s ≤ 1000) (h2 : R < 4294967296)
    (K : ∀ u' : SX, qx_encRange u' = lN (ca_norm m L R s).2.2.1 → xe_R (ca_norm m L R s).2.1 (ca_norm m L R s).2.2.1 (ca_norm m L R s).2.2.2 u' → fr_E u' = fr_E u → qx_model u' = qx_model u → post u') : wpX_normaliseEncoder post u := by
  rw [ex_normaliseEncoder, hr]
  refine pl_le 16777216 R rfl rfl (by omega) (by omega) (fun z => ?_) (fun z => ?_)
  · rw [ca_norm_f (show ¬ R < 16777216 by omega)] at K
    exact K u hr h rfl rfl
  · rw [ca_norm_t z] at K
    refine nm_r (e' := lN (R * 256)) (wb_shl R (k := 8) (by omega)) ?_
    refine xw_shiftLow (u := ux_encRange (lN (R * 256)) u) (L := L) (R := R) (s := s) (xe_R_same h (by simp only [gx_encRange]) (by simp only [gx_encRange]) (by simp only [gx_encRange]) (by simp only [gx_encRange]) (by simp only [gx_encRange])) z hs ?_
    intro u' h1 h2
    have q1 := fr_S_encRange h2
    have q2 := fr_S_model h2
    simp only [gx_encRange] at q1 q2
    exact K u' q1 h1 ((fr_SE h2).trans (fz_E_encRange _ _)) q2
theorem xe_bound {R c : Nat} (hR : R < 4294967296) (hc : c < 2 ^ 31) : (((lN R).toUInt64 >>> ((11 : Int32).toInt64.toUInt64 &&& Int64.toUInt64 63)).toInt64) * ((nI c).toInt64) = lN (R / 2048 * c) := by
  rw [show ((lN R).toUInt64 >>> ((11 : Int32).toInt64.toUInt64 &&& Int64.toUInt64 63)).toInt64 = lN (R / 2 ^ 11) from wb_shr (k := 11) (by omega) (by omega), nI_l hc, lN_mul]
theorem xe_half {R : Nat} (hR : R < 4294967296) : ((lN R).toUInt64 >>> ((1 : Int32).toInt64.toUInt64 &&& Int64.toUInt64 63)).toInt64 = lN (R / 2) :=
  wb_shr (k := 1) (by omega) (by omega)
theorem xw_writeBit {post : SX → Prop} {u : SX} {k a b : Nat} {A : CA} (h : xe_A k A u) (ha : a < 512) (hb : b < 2) (hs : A.2.2.2 ≤ 1000) (K : ∀ u' : SX, xe_A k (ca_B k a b A) u' → fe_ u u' → post u') : wpX_writeBit post u (nI a) (nI b) := by
  obtain ⟨m, L, R, s⟩ := A
  obtain ⟨ok, k4, k6, sh, rg, md, rr⟩ := h
  have go := (ca_B_go (k := k) (a := a) (b := b) k4 k6 (m, L, R, s) ok).1
  obtain ⟨o1, o2, o3, o4⟩ := ok
  dsimp only at *
  have hd := ca_d o2 (o1 a).1 (o1 a).2
  have hc : m a < 2 ^ 31 := by have := (o1 a).2; omega
  have fin : ∀ (v u' : SX), fr_E v = fr_E u → qx_model v = upd (qx_model u) a (nI (cm_mv k (m a) b)) → qx_encRange u' = lN (ca_B k a b (m, L, R, s)).2.2.1 → xe_R (ca_B k a b (m, L, R, s)).2.1 (ca_B k a b (m, L, R, s)).2.2.1 (ca_B k a b (m, L, R, s)).2.2.2 u' → fr_E u' = fr_E v → qx_model u' = qx_model v → post u' := by
    intro v u' f0 mv e1 e2 f1 m1
    have f := f1.trans f0
    refine K u' ⟨go, k4, k6, (fr_E_shift f).trans sh, e1, ?_, e2⟩ ⟨f, ?_⟩
    · intro i hi
      rw [m1, mv, ca_B_m]
      by_cases e : i = a
      · rw [e, pk_us, cm_us]
      · rw [pk_un e, cm_un e]; exact md i hi
    · intro i hi
      rw [m1, mv, pk_un (by omega)]
  rw [ex_writeBit, nI_clamp (show a < 2 ^ 31 by omega), rg, md a ha]
  refine ⟨vp_in_nI (by omega) (by omega), nm_r (xe_bound o3 hc) ?_⟩
  refine pk_eq b 0 (fun z => ?_) (fun z => ?_)
  · rw [ex_writeBit_48]
    refine xw_updateChance (c := m a) sh (by omega) (by omega) hb (md a ha) (by have := (o1 a).2; omega) ?_
    refine xw_norm (L := L) (R := R / 2048 * m a) (s := s) (cm_u m a (cm_mv k (m a) b)) rfl ?_ hs (by omega) ?_
    · exact xe_R_same (xe_R_le (u := u) rr (by omega) (by omega)) (by simp only [gx_model, gx_encRange]) (by simp only [gx_model, gx_encRange]) (by simp only [gx_model, gx_encRange]) (by simp only [gx_model, gx_encRange]) (by simp only [gx_model, gx_encRange])
    · intro u' e1 e2 f1 m1
      refine fin _ u' ?_ rfl ?_ ?_ f1 m1
      · unfold fr_E; simp only [gx_model, gx_encRange]
      · unfold ca_B; dsimp only; rw [if_pos z, if_pos z]; exact e1
      · unfold ca_B; dsimp only; rw [if_pos z, if_pos z]; exact e2
  · refine nm_e (nm_r (lN_sub (by omega)) ?_)
    rw [ex_writeBit_48]
    refine xw_updateChance (c := m a) sh (by omega) (by omega) hb (md a ha) (by have := (o1 a).2; omega) ?_
    refine xw_norm (L := L + R / 2048 * m a) (R := R - R / 2048 * m a) (s := s) (cm_u m a (cm_mv k (m a) b)) rfl ?_ hs (by omega) ?_
    · exact xe_R_add (u := u) rr (by omega) (by simp only [gx_model, gx_encLow_encRange]) (by simp only [gx_model, gx_encLow_encRange]) (by simp only [gx_model, gx_encLow_encRange]) (by simp only [gx_model, gx_encLow_encRange]) (by simp only [gx_model, gx_encLow_encRange])
    · intro u' e1 e2 f1 m1
      refine fin _ u' ?_ rfl ?_ ?_ f1 m1
      · unfold fr_E; simp only [gx_model, gx_encLow_encRange]
      · unfold ca_B; dsimp only; rw [if_neg z, if_neg z]; exact e1
      · unfold ca_B; dsimp only; rw [if_neg z, if_neg z]; exact e2
/-! bits of naturals as ints -/
theorem xe_bit {v j : Nat} (hv : v < 2 ^ 31) (hj : j < 32) : (nI v >>> (nI j &&& 31)) &&& 1 = nI (v / 2 ^ j % 2) := by
  rw [pk_shrN hv _ j (s_l j hj)]
  have : v / 2 ^ j ≤ v := Nat.div_le_self _ _
  exact pk_andN (m := 1) (by omega) 1 (by decide)
theorem xe_2m (m b : Nat) : (2 : Int32) * nI m + nI b = nI (2 * m + b) := by
  show nI 2 * nI m + nI b = _
  rw [pk_mul, nI_add]
theorem xw_direct {post : SX → Prop} {v k : Nat} (hv : v < 2 ^ 31) : ∀ (n f : Nat) (u : SX) (A : CA), n < f → n < 32 → xe_A k A u → A.2.2.2 + n ≤ 1000 → (∀ u' : SX, xe_A k (ca_X v n A) u' → fe_ u u' → post u') → zx_writeDirect_4 post (nI v) f (nI n - 1) u := by
  intro n
  induction n with
  | zero =>
    intro f u A hf hn h hs K
    obtain ⟨f, rfl⟩ : ∃ g, f = g + 1 := ⟨f - 1, by omega⟩
    rw [ex_writeDirect_4]
    exact br_t (by decide) (K u h (fe_refl u))
  | succ n ih =>
    intro f u A hf hn h hs K
    obtain ⟨f, rfl⟩ : ∃ g, f = g + 1 := ⟨f - 1, by omega⟩
    obtain ⟨m, L, R, s⟩ := A
    have h0 := h
    obtain ⟨ok, k4, k6, sh, rg, md, rr⟩ := h
    have go := ca_D_go (v / 2 ^ n % 2) (m, L, R, s) ok
    obtain ⟨o1, o2, o3, o4⟩ := ok
    dsimp only at *
    have hb2 : v / 2 ^ n % 2 < 2 := Nat.mod_lt _ (by omega)
    have fin : ∀ (w u' : SX), fr_E w = fr_E u → qx_model w = qx_model u → qx_encRange u' = lN (ca_D (v / 2 ^ n % 2) (m, L, R, s)).2.2.1 → xe_R (ca_D (v / 2 ^ n % 2) (m, L, R, s)).2.1 (ca_D (v / 2 ^ n % 2) (m, L, R, s)).2.2.1 (ca_D (v / 2 ^ n % 2) (m, L, R, s)).2.2.2 u' → fr_E u' = fr_E w → qx_model u' = qx_model w → ∀ x : Int32, x = nI n + (-1) → zx_writeDirect_4 post (nI v) f x u' := by
      intro w u' f0 m0 e1 e2 f1 m1
      have g := f1.trans f0
      have mm := m1.trans m0
      refine nm_r (e' := nI n - 1) (by rw [Int32.sub_eq_add_neg]) ?_
      refine ih f u' (ca_D (v / 2 ^ n % 2) (m, L, R, s)) (by omega) (by omega) ⟨go.1, k4, k6, (fr_E_shift g).trans sh, e1, ?_, e2⟩ (by have := go.2.2; omega) ?_
      · intro i hi
        rw [mm, ca_D_m]; exact md i hi
      · intro u'' h1 h2
        exact K u'' h1 (fe_trans ⟨g, fun i _ => by rw [mm]⟩ h2)
    rw [ex_writeDirect_4, rg]
    rw [nI_pred]
    refine br_f (nI_pos (by omega)) (nm_r (xe_half o3) ?_)
    rw [xe_bit hv (by omega)]
    refine pk_eq (v / 2 ^ n % 2) 1 (fun z => ?_) (fun z => ?_)
    · refine nm_e ?_
      refine xw_norm (L := L + R / 2) (R := R / 2) (s := s) m rfl ?_ (by omega) (by omega) ?_
      · exact xe_R_le (xe_R_add (u := u) (d := R / 2) rr (by omega) (by simp only [gx_encLow_encRange]) (by simp only [gx_encLow_encRange]) (by simp only [gx_encLow_encRange]) (by simp only [gx_encLow_encRange]) (by simp only [gx_encLow_encRange])) (by omega) (by omega)
      · intro u' e1 e2 f1 m1
        refine fin _ u' (fz_E_encLow_encRange _ _ _) (by simp only [gx_encLow_encRange]) ?_ ?_ f1 m1
        · unfold ca_D; dsimp only; rw [if_neg (by omega)]; exact e1
        · unfold ca_D; dsimp only; rw [if_neg (by omega)]; exact e2
    · refine xw_norm (L := L) (R := R / 2) (s := s) m rfl ?_ (by omega) (by omega) ?_
      · exact xe_R_same (xe_R_le (u := u) rr (by omega) (by omega)) (by simp only [gx_encRange]) (by simp only [gx_encRange]) (by simp only [gx_encRange]) (by simp only [gx_encRange]) (by simp only [gx_encRange])
      · intro u' e1 e2 f1 m1
        refine fin _ u' (fz_E_encRange _ _) (by simp only [gx_encRange]) ?_ ?_ f1 m1
        · unfold ca_D; dsimp only; rw [if_pos (by omega)]; exact e1
        · unfold ca_D; dsimp only; rw [if_pos (by omega)]; exact e2
theorem xw_writeDirect {post : SX → Prop} {u : SX} {v k n : Nat} {A : CA} (hv : v < 2 ^ 31) (hn : n < 32) (h : xe_A k A u) (hs : A.2.2.2 + n ≤ 1000) (K : ∀ u' : SX, xe_A k (ca_X v n A) u' → fe_ u u' → post u') : wpX_writeDirect post u (nI n) (nI v) := by
  rw [ex_writeDirect]
  exact nm_e ⟨n + 1, xw_direct hv n (n + 1) u A (by omega) hn h hs K⟩
end
section
/-! ===== X: trees, flags, kinds, lengths, distances ===== -/
def xe_C (k c : Nat) (A : CA) (u : SX) : Prop := xe_A k A u ∧ A.2.2.2 + c ≤ 1000
theorem xe_C_le {k c d : Nat} {A : CA} {u : SX} (h : xe_C k c A u) (e : d ≤ c) : xe_C k d A u := ⟨h.1, by have := h.2; omega⟩
theorem xe_C_go {k c d : Nat} {A B : CA} {u u' : SX} (h : xe_C k (c + d) A u) (g : ca_go d A B) (h' : xe_A k B u') : xe_C k c B u' := ⟨h', by have := (g h.1.1).2.2; have := h.2; omega⟩
theorem xc_writeBit {post : SX → Prop} {u : SX} {k c a b : Nat} {A : CA} (h : xe_C k (c + 1) A u) (ha : a < 512) (hb : b < 2) (K : ∀ u' : SX, xe_C k c (ca_B k a b A) u' → fe_ u u' → post u') : wpX_writeBit post u (nI a) (nI b) :=
  xw_writeBit h.1 ha hb (by have := h.2; omega) (fun u' h1 h2 => K u' (xe_C_go h (ca_B_go h.1.2.1 h.1.2.2.1 A) h1) h2)
theorem xe_pow1 {m n M : Nat} (h : (m + 1) * 2 ^ (n + 1) ≤ 2 * M) : m + 1 ≤ M := by
  have p : 0 < 2 ^ n := Nat.pow_pos (by omega)
  rw [Nat.pow_succ, ← Nat.mul_assoc] at h
  have := Nat.le_mul_of_pos_right (m + 1) p
  omega
theorem xe_pow2 {m n M b : Nat} (h : (m + 1) * 2 ^ (n + 1) ≤ 2 * M) (hb : b < 2) : (2 * m + b + 1) * 2 ^ n ≤ 2 * M := by
  rw [Nat.pow_succ, Nat.mul_comm (2 ^ n), ← Nat.mul_assoc] at h
  exact Nat.le_trans (Nat.mul_le_mul_right _ (by omega)) h
theorem xe_m1 (n : Nat) : nI n + (-1) = nI n - 1 := by rw [Int32.sub_eq_add_neg]
theorem xw_tree {post : SX → Prop} {k c base v M : Nat} (hv : v < 2 ^ 31) (hM : base + M ≤ 512) : ∀ (n f m : Nat) (u : SX) (A : CA), n < f → n < 32 → (m + 1) * 2 ^ n ≤ 2 * M → xe_C k (c + n) A u → (∀ u' : SX, xe_C k c (ca_T k base v n m A) u' → fe_ u u' → post u') → zx_writeTree_8 post (nI base) (nI v) f (nI m) (nI n - 1) u := by
  intro n
  induction n with
  | zero =>
    intro f m u A hf hn hm h K
    obtain ⟨f, rfl⟩ : ∃ g, f = g + 1 := ⟨f - 1, by omega⟩
    rw [ex_writeTree_8]
    exact br_t (by decide) (K u h (fe_refl u))
  | succ n ih =>
    intro f m u A hf hn hm h K
    obtain ⟨f, rfl⟩ : ∃ g, f = g + 1 := ⟨f - 1, by omega⟩
    have hb2 : v / 2 ^ n % 2 < 2 := Nat.mod_lt _ (by omega)
    have hm1 := xe_pow1 hm
    rw [ex_writeTree_8, nI_pred, xe_bit hv (by omega), nI_add]
    refine br_f (nI_pos (by omega)) (nm_e ?_)
    refine xc_writeBit (c := c + n) h (by omega) hb2 ?_
    intro u1 h1 f1
    rw [xe_2m, xe_m1]
    refine nm_e (nm_e ?_)
    exact ih f _ u1 _ (by omega) (by omega) (xe_pow2 hm hb2) h1 (fun u' h2 f2 => K u' h2 (fe_trans f1 f2))
theorem xw_writeTree {post : SX → Prop} {u : SX} {k c base v n : Nat} {A : CA} (hv : v < 2 ^ 31) (hn : n < 32) (hM : base + 2 ^ n ≤ 512) (h : xe_C k (c + n) A u) (K : ∀ u' : SX, xe_C k c (ca_T k base v n 1 A) u' → fe_ u u' → post u') : wpX_writeTree post u (nI base) (nI n) (nI v) := by
  rw [ex_writeTree]
  exact nm_e ⟨n + 1, xw_tree (M := 2 ^ n) hv hM n (n + 1) 1 u A (by omega) hn (Nat.le_refl _) h K⟩
theorem xw_rev {post : SX → Prop} {k c base v M N : Nat} (hv : v < 2 ^ 31) (hM : base + M ≤ 512) (hN : N < 32) : ∀ (n f j m : Nat) (u : SX) (A : CA), n < f → j + n = N → (m + 1) * 2 ^ n ≤ 2 * M → xe_C k (c + n) A u → (∀ u' : SX, xe_C k c (ca_V k base v n j m A) u' → fe_ u u' → post u') → zx_writeReverse_6 post (nI base) (nI N) (nI v) f (nI m) (nI j) u := by
  intro n
  induction n with
  | zero =>
    intro f j m u A hf hn hm h K
    obtain ⟨f, rfl⟩ : ∃ g, f = g + 1 := ⟨f - 1, by omega⟩
    rw [ex_writeReverse_6]
    exact br_t (nI_le (by omega) (by omega)) (K u h (fe_refl u))
  | succ n ih =>
    intro f j m u A hf hn hm h K
    obtain ⟨f, rfl⟩ : ∃ g, f = g + 1 := ⟨f - 1, by omega⟩
    have hb2 : v / 2 ^ j % 2 < 2 := Nat.mod_lt _ (by omega)
    have hm1 := xe_pow1 hm
    rw [ex_writeReverse_6, xe_bit hv (by omega), nI_add]
    refine br_f (nI_ge (by omega) (by omega)) (nm_e ?_)
    refine xc_writeBit (c := c + n) h (by omega) hb2 ?_
    intro u1 h1 f1
    rw [xe_2m]
    refine nm_e (nm_r (nI_1 j) ?_)
    exact ih f (j + 1) _ u1 _ (by omega) (by omega) (xe_pow2 hm hb2) h1 (fun u' h2 f2 => K u' h2 (fe_trans f1 f2))
theorem xw_writeReverse {post : SX → Prop} {u : SX} {k c base v n : Nat} {A : CA} (hv : v < 2 ^ 31) (hn : n < 32) (hM : base + 2 ^ n ≤ 512) (h : xe_C k (c + n) A u) (K : ∀ u' : SX, xe_C k c (ca_V k base v n 0 1 A) u' → fe_ u u' → post u') : wpX_writeReverse post u (nI base) (nI n) (nI v) := by
  rw [ex_writeReverse]
  exact ⟨n + 1, xw_rev (M := 2 ^ n) hv hM hn n (n + 1) 0 1 u A (by omega) (by omega) (Nat.le_refl _) h K⟩
theorem xc_writeDirect {post : SX → Prop} {u : SX} {v k c n : Nat} {A : CA} (hv : v < 2 ^ 31) (hn : n < 32) (h : xe_C k (c + n) A u) (K : ∀ u' : SX, xe_C k c (ca_X v n A) u' → fe_ u u' → post u') : wpX_writeDirect post u (nI n) (nI v) :=
  xw_writeDirect hv hn h.1 (by have := h.2; omega) (fun u' h1 h2 => K u' (xe_C_go h (ca_X_go v n A) h1) h2)
theorem xw_flag {post : SX → Prop} {u : SX} {k c st : Nat} (t b : Nat) {A : CA} (h : xe_C k (c + 1) A u) (hst : qx_figures u 2 = nI st) (h12 : st < 12) (ht : t < 6) (hb : b < 2) (K : ∀ u' : SX, xe_C k c (ca_F k t b st A) u' → qx_figures u' 2 = nI st → fe_ u u' → post u') : wpX_writeFlag post u (nI t) (nI b) := by
  rw [ex_writeFlag, hst]
  rw [show nI t * 12 + nI st = nI (t * 12 + st) by rw [show (12 : Int32) = nI 12 from rfl, pk_mul, nI_add]]
  exact xc_writeBit h (by omega) hb (fun u' h1 f1 => K u' h1 (by rw [fr_E_figures f1.1]; exact hst) f1)
theorem ca_Ke1 (k st : Nat) (A : CA) : ca_K k 1 st A = ca_F k 0 0 st A := by
  unfold ca_K; rw [if_pos rfl]
theorem ca_Ke2 (k st : Nat) (A : CA) : ca_K k 2 st A = ca_F k 1 0 st (ca_F k 0 1 st A) := by
  unfold ca_K; rw [if_neg (show ¬ (2 : Nat) = 1 by decide), if_pos rfl]
theorem ca_Ke3 (k st : Nat) (A : CA) : ca_K k 3 st A = ca_F k 5 0 st (ca_F k 2 0 st (ca_F k 1 1 st (ca_F k 0 1 st A))) := by
  unfold ca_K; rw [if_neg (show ¬ (3 : Nat) = 1 by decide), if_neg (show ¬ (3 : Nat) = 2 by decide), if_pos rfl]
theorem ca_Ke4 (k st : Nat) (A : CA) : ca_K k 4 st A = ca_F k 5 1 st (ca_F k 2 0 st (ca_F k 1 1 st (ca_F k 0 1 st A))) := by
  unfold ca_K; rw [if_neg (show ¬ (4 : Nat) = 1 by decide), if_neg (show ¬ (4 : Nat) = 2 by decide), if_neg (show ¬ (4 : Nat) = 3 by decide), if_pos rfl]
theorem ca_Ke5 (k st : Nat) (A : CA) : ca_K k 5 st A = ca_F k 3 0 st (ca_F k 2 1 st (ca_F k 1 1 st (ca_F k 0 1 st A))) := by
  unfold ca_K; rw [if_neg (show ¬ (5 : Nat) = 1 by decide), if_neg (show ¬ (5 : Nat) = 2 by decide), if_neg (show ¬ (5 : Nat) = 3 by decide), if_neg (show ¬ (5 : Nat) = 4 by decide), if_pos rfl]
theorem ca_Ke6 (k st : Nat) (A : CA) : ca_K k 6 st A = ca_F k 4 0 st (ca_F k 3 1 st (ca_F k 2 1 st (ca_F k 1 1 st (ca_F k 0 1 st A)))) := by
  unfold ca_K; rw [if_neg (show ¬ (6 : Nat) = 1 by decide), if_neg (show ¬ (6 : Nat) = 2 by decide), if_neg (show ¬ (6 : Nat) = 3 by decide), if_neg (show ¬ (6 : Nat) = 4 by decide), if_neg (show ¬ (6 : Nat) = 5 by decide), if_pos rfl]
theorem ca_Ke7 (k st : Nat) (A : CA) : ca_K k 7 st A = ca_F k 4 1 st (ca_F k 3 1 st (ca_F k 2 1 st (ca_F k 1 1 st (ca_F k 0 1 st A)))) := by
  unfold ca_K; rw [if_neg (show ¬ (7 : Nat) = 1 by decide), if_neg (show ¬ (7 : Nat) = 2 by decide), if_neg (show ¬ (7 : Nat) = 3 by decide), if_neg (show ¬ (7 : Nat) = 4 by decide), if_neg (show ¬ (7 : Nat) = 5 by decide), if_neg (show ¬ (7 : Nat) = 6 by decide)]
section
variable {post : SX → Prop} {u : SX} {k c st : Nat} {A : CA}
theorem xw_K1 (h : xe_C k (c + 5) A u) (hst : qx_figures u 2 = nI st) (h12 : st < 12) (K : ∀ u' : SX, xe_C k (c + 4) (ca_K k 1 st A) u' → fe_ u u' → post u') : wpX_writeKind post u 1 := by
  rw [ca_Ke1] at K
  rw [ex_writeKind]
  exact br_t (by decide) (xw_flag 0 0 h hst h12 (by decide) (by decide) (fun u1 h1 _ f1 => K u1 h1 f1))
theorem xw_K2 (h : xe_C k (c + 5) A u) (hst : qx_figures u 2 = nI st) (h12 : st < 12) (K : ∀ u' : SX, xe_C k (c + 3) (ca_K k 2 st A) u' → fe_ u u' → post u') : wpX_writeKind post u 2 := by
  rw [ca_Ke2] at K
  rw [ex_writeKind]
  exact br_f (by decide) (xw_flag 0 1 h hst h12 (by decide) (by decide) (fun u1 h1 s1 f1 => br_t (by decide) (xw_flag 1 0 h1 s1 h12 (by decide) (by decide) (fun u2 h2 _ f2 => K u2 h2 (fe_trans f1 f2)))))
theorem xw_K3 (h : xe_C k (c + 5) A u) (hst : qx_figures u 2 = nI st) (h12 : st < 12) (K : ∀ u' : SX, xe_C k (c + 1) (ca_K k 3 st A) u' → fe_ u u' → post u') : wpX_writeKind post u 3 := by
  rw [ca_Ke3] at K
  rw [ex_writeKind]
  refine br_f (by decide) (xw_flag 0 1 h hst h12 (by decide) (by decide) (fun u1 h1 s1 f1 => br_f (by decide) (xw_flag 1 1 h1 s1 h12 (by decide) (by decide) (fun u2 h2 s2 f2 => br_t (by decide) ?_))))
  rw [ex_writeKind_46]
  refine xw_flag 2 0 h2 s2 h12 (by decide) (by decide) (fun u3 h3 s3 f3 => br_f (by decide) ?_)
  rw [ex_writeKind_64]
  exact xw_flag 5 0 h3 s3 h12 (by decide) (by decide) (fun u4 h4 _ f4 => K u4 h4 (fe_trans f1 (fe_trans f2 (fe_trans f3 f4))))
theorem xw_K4 (h : xe_C k (c + 5) A u) (hst : qx_figures u 2 = nI st) (h12 : st < 12) (K : ∀ u' : SX, xe_C k (c + 1) (ca_K k 4 st A) u' → fe_ u u' → post u') : wpX_writeKind post u 4 := by
  rw [ca_Ke4] at K
  rw [ex_writeKind]
  refine br_f (by decide) (xw_flag 0 1 h hst h12 (by decide) (by decide) (fun u1 h1 s1 f1 => br_f (by decide) (xw_flag 1 1 h1 s1 h12 (by decide) (by decide) (fun u2 h2 s2 f2 => br_f (by decide) (br_t (by decide) ?_)))))
  rw [ex_writeKind_46]
  refine xw_flag 2 0 h2 s2 h12 (by decide) (by decide) (fun u3 h3 s3 f3 => br_t (by decide) ?_)
  rw [ex_writeKind_64]
  exact xw_flag 5 1 h3 s3 h12 (by decide) (by decide) (fun u4 h4 _ f4 => K u4 h4 (fe_trans f1 (fe_trans f2 (fe_trans f3 f4))))
theorem xw_K5 (h : xe_C k (c + 5) A u) (hst : qx_figures u 2 = nI st) (h12 : st < 12) (K : ∀ u' : SX, xe_C k (c + 1) (ca_K k 5 st A) u' → fe_ u u' → post u') : wpX_writeKind post u 5 := by
  rw [ca_Ke5] at K
  rw [ex_writeKind]
  refine br_f (by decide) (xw_flag 0 1 h hst h12 (by decide) (by decide) (fun u1 h1 s1 f1 => br_f (by decide) (xw_flag 1 1 h1 s1 h12 (by decide) (by decide) (fun u2 h2 s2 f2 => br_f (by decide) (br_f (by decide) (xw_flag 2 1 h2 s2 h12 (by decide) (by decide) (fun u3 h3 s3 f3 => br_t (by decide) ?_)))))))
  exact xw_flag 3 0 h3 s3 h12 (by decide) (by decide) (fun u4 h4 _ f4 => K u4 h4 (fe_trans f1 (fe_trans f2 (fe_trans f3 f4))))
theorem xw_K6 (h : xe_C k (c + 5) A u) (hst : qx_figures u 2 = nI st) (h12 : st < 12) (K : ∀ u' : SX, xe_C k c (ca_K k 6 st A) u' → fe_ u u' → post u') : wpX_writeKind post u 6 := by
  rw [ca_Ke6] at K
  rw [ex_writeKind]
  refine br_f (by decide) (xw_flag 0 1 h hst h12 (by decide) (by decide) (fun u1 h1 s1 f1 => br_f (by decide) (xw_flag 1 1 h1 s1 h12 (by decide) (by decide) (fun u2 h2 s2 f2 => br_f (by decide) (br_f (by decide) (xw_flag 2 1 h2 s2 h12 (by decide) (by decide) (fun u3 h3 s3 f3 => br_f (by decide) (xw_flag 3 1 h3 s3 h12 (by decide) (by decide) (fun u4 h4 s4 f4 => br_f (by decide) ?_)))))))))
  rw [ex_writeKind_105]
  exact xw_flag 4 0 h4 s4 h12 (by decide) (by decide) (fun u5 h5 _ f5 => K u5 h5 (fe_trans f1 (fe_trans f2 (fe_trans f3 (fe_trans f4 f5)))))
theorem xw_K7 (h : xe_C k (c + 5) A u) (hst : qx_figures u 2 = nI st) (h12 : st < 12) (K : ∀ u' : SX, xe_C k c (ca_K k 7 st A) u' → fe_ u u' → post u') : wpX_writeKind post u 7 := by
  rw [ca_Ke7] at K
  rw [ex_writeKind]
  refine br_f (by decide) (xw_flag 0 1 h hst h12 (by decide) (by decide) (fun u1 h1 s1 f1 => br_f (by decide) (xw_flag 1 1 h1 s1 h12 (by decide) (by decide) (fun u2 h2 s2 f2 => br_f (by decide) (br_f (by decide) (xw_flag 2 1 h2 s2 h12 (by decide) (by decide) (fun u3 h3 s3 f3 => br_f (by decide) (xw_flag 3 1 h3 s3 h12 (by decide) (by decide) (fun u4 h4 s4 f4 => br_t (by decide) ?_)))))))))
  rw [ex_writeKind_105]
  exact xw_flag 4 1 h4 s4 h12 (by decide) (by decide) (fun u5 h5 _ f5 => K u5 h5 (fe_trans f1 (fe_trans f2 (fe_trans f3 (fe_trans f4 f5)))))
end
theorem xw_len {post : SX → Prop} {u : SX} {k c base len : Nat} {A : CA} (h2 : 2 ≤ len) (h17 : len ≤ 17) (hb : base + 16 ≤ 512) (h : xe_C k (c + 4) A u) (K : ∀ u' : SX, xe_C k c (ca_N k base len A) u' → fe_ u u' → post u') : wpX_writeLength post u (nI base) (nI len) := by
  rw [ex_writeLength]
  have hb2 : (len - 2) / 8 % 2 < 2 := Nat.mod_lt _ (by omega)
  refine nm_r (e' := nI (len - 2)) (by exact pk_sub (a := len) (b := 2) h2) (nm_r (e' := nI ((len - 2) / 8 % 2)) (by exact xe_bit (v := len - 2) (j := 3) (by omega) (by omega)) ?_)
  refine xc_writeBit (c := c + 3) h (by omega) hb2 ?_
  intro u1 h1 f1
  rw [show (8 : Int32) = nI 8 from rfl, pk_mul, nI_add, show nI (len - 2) &&& 7 = nI ((len - 2) % 8) from pk_andN (m := 7) (by omega) 3 (by decide)]
  exact xw_writeTree (n := 3) (by omega) (by omega) (by omega) h1 (fun u' h2 f2 => K u' h2 (fe_trans f1 f2))
/-! slotOf, slotTreeFor -/
def sl_tp (v : Nat) : Nat → Nat → Nat → Nat
  | 0, _, t => t
  | j + 1, i, t => sl_tp v j (i + 1) (if v / 2 ^ i = 0 then t else i)
theorem sl_tp_top : ∀ v, v < 256 → sl_tp v 5 3 2 = sl_top v := by decide +kernel
theorem sl_tp_r : ∀ (j v i t : Nat), i + j = 8 → 2 ≤ t → t < 8 → 2 ≤ i → 2 ≤ sl_tp v j i t ∧ sl_tp v j i t < 8 := by
  intro j
  induction j with
  | zero => intro v i t _ h2 h8 _; exact ⟨h2, h8⟩
  | succ j ih => intro v i t hi h2 h8 hi2; exact ih v (i + 1) _ (by omega) (by split <;> omega) (by split <;> omega) (by omega)
theorem xw_slot_l {post : Int32 → Prop} {v : Nat} {u : SX} (hv : v < 256) : ∀ (j f i t : Nat), j < f → i + j = 8 → 2 ≤ i → 2 ≤ t → t < 8 → post (nI (2 * sl_tp v j i t + v / 2 ^ (sl_tp v j i t - 1) % 2)) → zx_slotOf_11 post (nI v) f (nI t) (nI i) u := by
  intro j
  induction j with
  | zero =>
    intro f i t hf hi hi2 h2 h8 K
    obtain ⟨f, rfl⟩ : ∃ g, f = g + 1 := ⟨f - 1, by omega⟩
    rw [ex_slotOf_11]
    refine br_t (nI_le (a := 8) (by omega) (by omega)) ?_
    rw [show nI t - 1 = nI (t - 1) from pk_sub (a := t) (b := 1) (by omega), xe_bit (by omega) (by omega), xe_2m]
    exact K
  | succ j ih =>
    intro f i t hf hi hi2 h2 h8 K
    obtain ⟨f, rfl⟩ : ∃ g, f = g + 1 := ⟨f - 1, by omega⟩
    rw [ex_slotOf_11]
    refine br_f (nI_ge (b := 8) (by omega) (by omega)) ?_
    rw [pk_shrN (by omega) _ i (s_l i (by omega))]
    have hle : v / 2 ^ i ≤ v := Nat.div_le_self _ _
    have K' : post (nI (2 * sl_tp v j (i + 1) (if v / 2 ^ i = 0 then t else i) + v / 2 ^ (sl_tp v j (i + 1) (if v / 2 ^ i = 0 then t else i) - 1) % 2)) := K
    refine pk_eq (v / 2 ^ i) 0 (fun z => nm_r (nI_1 i) ?_) (fun z => nm_r (nI_1 i) ?_)
    · rw [if_pos z] at K'
      exact ih f (i + 1) t (by omega) (by omega) (by omega) h2 h8 K'
    · rw [if_neg z] at K'
      exact ih f (i + 1) i (by omega) (by omega) (by omega) hi2 (by omega) K'
theorem xw_slotOf {post : Int32 → Prop} {v : Nat} {u : SX} (hv : v < 256) (K : post (nI (sl_of v))) : wpX_slotOf post u (nI v) := by
  rw [ex_slotOf]
  unfold sl_of at K
  refine pk_le 4 v (fun z => ⟨6, ?_⟩) (fun z => ?_)
  · refine xw_slot_l hv 5 6 3 2 (by omega) (by omega) (by omega) (by omega) (by omega) ?_
    rw [sl_tp_top v hv]
    rw [if_neg (by omega)] at K
    exact K
  · rw [if_pos z] at K
    exact K
theorem xw_slotTree {post : Int32 → Prop} {len : Nat} {u : SX} (h2 : 2 ≤ len) (h17 : len ≤ 17) (K : post (nI (sl_tree len))) : wpX_slotTreeFor post u (nI len) := by
  rw [ex_slotTreeFor]
  unfold sl_tree at K
  refine nm_r (e' := nI (len - 2)) (by exact pk_sub (a := len) (b := 2) h2) ?_
  refine pk_le (len - 2) 3 (fun z => ?_) (fun z => ?_)
  · rw [if_pos z] at K
    rw [show (16 : Int32) = nI 16 from rfl, show (360 : Int32) = nI 360 from rfl, pk_mul, nI_add, Nat.mul_comm]
    exact K
  · rw [if_neg (by omega)] at K
    exact K
theorem sl_or {s : Nat} (hs : s < 16) : (2 : Int32) ||| (nI s &&& 1) = nI (2 + s % 2) := by
  have h : ∀ s, s < 16 → (2 : Int32) ||| (nI s &&& 1) = nI (2 + s % 2) := by decide +kernel
  exact h s hs
theorem sl_st {s : Nat} (hs : s < 16) (h4 : 4 ≤ s) : ((2 : Int32) ||| (nI s &&& 1)) <<< (nI (sl_bits s) &&& 31) = nI (sl_start s) := by
  have h : ∀ s, s < 16 → 4 ≤ s → ((2 : Int32) ||| (nI s &&& 1)) <<< (nI (sl_bits s) &&& 31) = nI (sl_start s) := by decide +kernel
  exact h s hs h4
theorem sl_b {s : Nat} (hs : s < 16) (h4 : 4 ≤ s) : (nI s >>> ((1 : Int32) &&& 31)) - 1 = nI (sl_bits s) := by
  have h : ∀ s, s < 16 → 4 ≤ s → (nI s >>> ((1 : Int32) &&& 31)) - 1 = nI (sl_bits s) := by decide +kernel
  exact h s hs h4
theorem sl_rb {s : Nat} (hs : s < 16) (h4 : 4 ≤ s) : (424 : Int32) + ((nI s - 4) * 8) = nI (424 + (s - 4) * 8) := by
  have h : ∀ s, s < 16 → 4 ≤ s → (424 : Int32) + ((nI s - 4) * 8) = nI (424 + (s - 4) * 8) := by decide +kernel
  exact h s hs h4
theorem xw_dist {post : SX → Prop} {u : SX} {k c v len : Nat} {A : CA} (hv : v < 256) (h2 : 2 ≤ len) (h17 : len ≤ 17) (h : xe_C k (c + 10) A u) (K : ∀ u' : SX, xe_C k c (ca_S k v len A) u' → fe_ u u' → post u') : wpX_writeDistance post u (nI v) (nI len) := by
  rw [ex_writeDistance]
  have F := sl_facts v hv
  refine xw_slotOf hv (xw_slotTree h2 h17 ?_)
  refine xw_writeTree (n := 4) (c := c + 6) (by omega) (by omega) (by unfold sl_tree; split <;> omega) h ?_
  intro u1 h1 f1
  unfold ca_S at K
  refine pk_le 4 (sl_of v) (fun z => ?_) (fun z => ?_) rfl rfl (by omega) (by omega)
  · rw [if_neg (by omega)] at K
    have G := F.2.1 z
    rw [sl_b F.1 z]
    refine nm_e ?_
    rw [sl_st F.1 z, pk_sub G.1]
    refine nm_e ?_
    refine pk_le 10 (sl_of v) (fun y => ?_) (fun y => ?_) rfl rfl (by omega) (by omega)
    · rw [if_neg (by omega)] at K
      have b2 := G.2.2.2.2.1 y
      rw [show nI (sl_bits (sl_of v)) - 2 = nI (sl_bits (sl_of v) - 2) from pk_sub (b := 2) b2]
      rw [show nI (v - sl_start (sl_of v)) >>> ((2 : Int32) &&& 31) = nI ((v - sl_start (sl_of v)) / 4) from pk_shrN (by omega) _ 2 (by decide)]
      refine xc_writeDirect (c := c + 2) (by omega) (by omega) (xe_C_le h1 (by omega)) ?_
      intro u2 h2 f2
      rw [show nI (v - sl_start (sl_of v)) &&& 3 = nI ((v - sl_start (sl_of v)) % 4) from pk_andN (m := 3) (by omega) 2 (by decide)]
      exact xw_writeReverse (base := 472) (n := 2) (by omega) (by omega) (by omega) h2 (fun u' h3 f3 => K u' h3 (fe_trans f1 (fe_trans f2 f3)))
    · rw [if_pos y] at K
      rw [sl_rb F.1 z]
      have b3 := G.2.2.2.2.2 y
      have p8 : 2 ^ sl_bits (sl_of v) ≤ 2 ^ 3 := Nat.pow_le_pow_right (by omega) b3
      exact xw_writeReverse (by omega) (by omega) (by omega) (xe_C_le h1 (by omega)) (fun u' h3 f3 => K u' h3 (fe_trans f1 f3))
  · rw [if_pos z] at K
    exact K u1 (xe_C_le h1 (by omega)) f1
end
section
/-! ===== histories ===== -/
abbrev HH : Type := Nat × Nat × Nat × Nat × Nat × Nat × (Nat → Nat)
def hs_n (s kind : Nat) : Nat :=
  if kind = 1 then (if s < 4 then 0 else if s < 10 then s - 3 else s - 6) else
  if kind = 2 then (if s < 7 then 7 else 10) else
  if kind = 3 then (if s < 7 then 9 else 11) else (if s < 7 then 8 else 11)
def hs_m (last d : Nat) (r : Nat → Nat) : Nat → Nat := fun j => if j = 0 then d else if j ≤ last then r (j - 1) else r j
def hs_r (kind d : Nat) (r : Nat → Nat) : Nat → Nat := if kind = 2 then hs_m 3 d r else if kind < 4 then r else hs_m (kind - 4) d r
def hs_0 : HH := (0, 0, 0, 0, 0, 0, fun _ => 1)
def hs_t (t : TK) (h : HH) : HH := (h.1 + t.2.1, h.2.1 + 1, hs_n h.2.2.1 t.1, t.1, t.2.1, t.2.2.1, hs_r t.1 t.2.2.1 h.2.2.2.2.2.2)
/-- the token t is possible at history h -/
def tk_ok (t : TK) (h : HH) : Prop :=
  1 ≤ t.1 ∧ t.1 ≤ 7 ∧ 1 ≤ t.2.1 ∧ t.2.1 ≤ 17 ∧ h.1 + t.2.1 ≤ 64 ∧ t.2.2.2 < 256 ∧
  (t.1 = 1 → t.2.1 = 1 ∧ t.2.2.1 = 0) ∧
  (t.1 ≠ 1 → 1 ≤ t.2.2.1 ∧ t.2.2.1 ≤ h.1) ∧
  (t.1 = 3 → t.2.1 = 1 ∧ t.2.2.1 = h.2.2.2.2.2.2 0) ∧
  (t.1 ≠ 1 → t.1 ≠ 3 → 2 ≤ t.2.1) ∧
  (4 ≤ t.1 → t.2.2.1 = h.2.2.2.2.2.2 (t.1 - 4))
def hs_ok (h : HH) : Prop := h.1 ≤ 64 ∧ h.2.1 ≤ h.1 ∧ h.2.2.1 < 12 ∧ h.2.2.2.1 ≤ 7 ∧ h.2.2.2.2.1 ≤ 17 ∧ h.2.2.2.2.2.1 ≤ 64 ∧ ∀ j, 1 ≤ h.2.2.2.2.2.2 j ∧ h.2.2.2.2.2.2 j ≤ 64
theorem hs_0_ok : hs_ok hs_0 := ⟨by decide, by decide, by decide, by decide, by decide, by decide, fun _ => ⟨show 1 ≤ 1 by decide, show 1 ≤ 64 by decide⟩⟩
theorem hs_n_lt {s : Nat} (h : s < 12) (kind : Nat) : hs_n s kind < 12 := by
  unfold hs_n
  repeat' split
  all_goals omega
theorem hs_m_ok {last d : Nat} {r : Nat → Nat} (h : ∀ j, 1 ≤ r j ∧ r j ≤ 64) (hd : 1 ≤ d ∧ d ≤ 64) : ∀ j, 1 ≤ hs_m last d r j ∧ hs_m last d r j ≤ 64 := by
  intro j
  unfold hs_m
  split
  · exact hd
  split
  · exact h _
  · exact h _
theorem hs_t_ok {t : TK} {h : HH} (ok : hs_ok h) (g : tk_ok t h) : hs_ok (hs_t t h) := by
  obtain ⟨a1, a2, a3, a4, a5, a6, a7⟩ := ok
  obtain ⟨g1, g2, g3, g4, g5, g6, g7, g8, g9, g10, g11⟩ := g
  have hd : t.2.2.1 ≤ 64 := by
    by_cases e : t.1 = 1
    · have := (g7 e).2; omega
    · have := (g8 e).2; omega
  refine ⟨g5, ?_, hs_n_lt a3 _, g2, g4, hd, ?_⟩
  · show h.2.1 + 1 ≤ h.1 + t.2.1
    omega
  · show ∀ j, 1 ≤ hs_r t.1 t.2.2.1 h.2.2.2.2.2.2 j ∧ hs_r t.1 t.2.2.1 h.2.2.2.2.2.2 j ≤ 64
    unfold hs_r
    by_cases e2 : t.1 = 2
    · rw [if_pos e2]; exact hs_m_ok a7 ⟨(g8 (by omega)).1, hd⟩
    · rw [if_neg e2]
      by_cases e4 : t.1 < 4
      · rw [if_pos e4]; exact a7
      · rw [if_neg e4]; exact hs_m_ok a7 ⟨(g8 (by omega)).1, hd⟩
/-! ===== X: moveToFront, nextState, applyToken ===== -/
theorem xw_mtf {post : SX → Prop} {d B : Nat} (hB : B + 4 ≤ 8) : ∀ (i f : Nat) (g : Nat → Int32) (u : SX), i < f → i ≤ 3 → (∀ g' : Nat → Int32, (∀ x, g' x = if x = B then nI d else if B < x ∧ x ≤ B + i then g (x - 1) else g x) → post (ux_reps g' u)) → zx_moveToFront_8 post (nI d) (nI B) f (nI i) (ux_reps g u) := by
  intro i
  induction i with
  | zero =>
    intro f g u hf hi K
    obtain ⟨f, rfl⟩ : ∃ g, f = g + 1 := ⟨f - 1, by omega⟩
    rw [ex_moveToFront_8, nI_clamp (show B < 2 ^ 31 by omega)]
    refine br_t (by decide) ⟨vp_in_nI (by omega) (by omega), nm_e ?_⟩
    rw [sx_reps]
    refine K _ ?_
    intro x
    by_cases e : x = B
    · rw [if_pos e, e]; exact pk_us
    · rw [if_neg e, if_neg (by omega)]; exact pk_un e
  | succ i ih =>
    intro f g u hf hi K
    obtain ⟨f, rfl⟩ : ∃ g, f = g + 1 := ⟨f - 1, by omega⟩
    rw [ex_moveToFront_8, nI_add, show nI (B + (i + 1)) - 1 = nI (B + i) from nI_pred (B + i), nI_clamp (show B + (i + 1) < 2 ^ 31 by omega), nI_clamp (show B + i < 2 ^ 31 by omega)]
    refine br_f (nI_nle (by omega) (by omega)) ⟨vp_in_nI (by omega) (by omega), vp_in_nI (by omega) (by omega), nm_e (nm_r (pk_m1 i) ?_)⟩
    rw [sx_reps]
    refine ih f (upd g (B + (i + 1)) (g (B + i))) u (by omega) (by omega) ?_
    intro g' hg
    refine K g' ?_
    intro x
    rw [hg x]
    by_cases e : x = B
    · rw [if_pos e, if_pos e]
    · rw [if_neg e, if_neg e]
      by_cases e1 : B < x ∧ x ≤ B + i
      · rw [if_pos e1, if_pos (by omega), pk_un (by omega)]
      · rw [if_neg e1]
        by_cases e2 : x = B + (i + 1)
        · rw [if_pos (by omega), e2, pk_us]
          rfl
        · rw [if_neg (by omega), pk_un e2]
theorem xw_moveToFront {post : SX → Prop} {u : SX} {sd last d : Nat} (hsd : sd < 2) (hl : last ≤ 3) (K : ∀ g' : Nat → Int32, (∀ x, g' x = if x = 4 * sd then nI d else if 4 * sd < x ∧ x ≤ 4 * sd + last then qx_reps u (x - 1) else qx_reps u x) → post (ux_reps g' u)) : wpX_moveToFront post u (nI sd) (nI last) (nI d) := by
  rw [ex_moveToFront]
  refine nm_r (e' := nI (4 * sd)) (by rw [show (4 : Int32) = nI 4 from rfl, pk_mul, Nat.mul_comm]) ⟨last + 1, ?_⟩
  exact xw_mtf (B := 4 * sd) (by omega) last (last + 1) (qx_reps u) u (by omega) hl K
theorem xw_nextState {post : Int32 → Prop} {u : SX} {s kind : Nat} (hs : s < 12) (hk : kind ≤ 7) (K : post (nI (hs_n s kind))) : wpX_nextState post u (nI s) (nI kind) := by
  rw [ex_nextState]
  unfold hs_n at K
  refine pk_eq kind 1 (fun e1 => ?_) (fun e1 => ?_)
  · rw [if_pos e1] at K
    refine pk_le 4 s (fun z => ?_) (fun z => ?_)
    · rw [if_neg (by omega)] at K
      refine pk_le 10 s (fun y => ?_) (fun y => ?_)
      · rw [if_neg (by omega)] at K
        rw [show nI s - 6 = nI (s - 6) from pk_sub (b := 6) (by omega)]; exact K
      · rw [if_pos (by omega)] at K
        rw [show nI s - 3 = nI (s - 3) from pk_sub (b := 3) (by omega)]; exact K
    · rw [if_pos (by omega)] at K; exact K
  rw [if_neg e1] at K
  refine pk_eq kind 2 (fun e2 => ?_) (fun e2 => ?_)
  · rw [if_pos e2] at K
    refine pk_le 7 s (fun z => ?_) (fun z => ?_)
    · rw [if_neg (by omega)] at K; exact K
    · rw [if_pos (by omega)] at K; exact K
  rw [if_neg e2] at K
  refine pk_eq kind 3 (fun e3 => ?_) (fun e3 => ?_)
  · rw [if_pos e3] at K
    refine pk_le 7 s (fun z => ?_) (fun z => ?_)
    · rw [if_neg (by omega)] at K; exact K
    · rw [if_pos (by omega)] at K; exact K
  rw [if_neg e3] at K
  refine pk_le 7 s (fun z => ?_) (fun z => ?_)
  · rw [if_neg (by omega)] at K; exact K
  · rw [if_pos (by omega)] at K; exact K
/-- side sd of the object holds history h -/
def xh_ (sd : Nat) (h : HH) (u : SX) : Prop :=
  qx_figures u (6 * sd) = nI h.1 ∧ qx_figures u (6 * sd + 1) = nI h.2.1 ∧ qx_figures u (6 * sd + 2) = nI h.2.2.1 ∧ qx_figures u (6 * sd + 3) = nI h.2.2.2.1 ∧ qx_figures u (6 * sd + 4) = nI h.2.2.2.2.1 ∧ qx_figures u (6 * sd + 5) = nI h.2.2.2.2.2.1 ∧ ∀ j, j < 4 → qx_reps u (4 * sd + j) = nI (h.2.2.2.2.2.2 j)
/-- only figures and reps of side sd have changed -/
def fh_ (sd : Nat) (u u' : SX) : Prop := fr_H u' = fr_H u ∧ (∀ i, (i < 6 * sd ∨ 6 * sd + 6 ≤ i) → qx_figures u' i = qx_figures u i) ∧ (∀ i, (i < 4 * sd ∨ 4 * sd + 4 ≤ i) → qx_reps u' i = qx_reps u i)
theorem xw_app94 {post : SX → Prop} {u : SX} {sd kind s : Nat} (hsd : sd < 2) (hs : s < 12) (hk : kind ≤ 7) (h : qx_figures u (6 * sd + 2) = nI s) (K : post (ux_figures (upd (qx_figures u) (6 * sd + 2) (nI (hs_n s kind))) u)) : zx_applyToken_94 post (nI kind) (nI (6 * sd)) u := by
  rw [ex_applyToken_94, show nI (6 * sd) + 2 = nI (6 * sd + 2) from nI_add _ 2, nI_clamp (show 6 * sd + 2 < 2 ^ 31 by omega), h]
  exact ⟨vp_in_nI (by omega) (by omega), xw_nextState hs hk ⟨vp_in_nI (by omega) (by omega), nm_e K⟩⟩
theorem xw_applyToken {post : SX → Prop} {u : SX} {sd : Nat} {t : TK} {h : HH} (hsd : sd < 2) (hh : xh_ sd h u) (ok : hs_ok h) (g : tk_ok t h) (K : ∀ u' : SX, xh_ sd (hs_t t h) u' → fh_ sd u u' → post u') : wpX_applyToken post u (nI sd) (nI t.1) (nI t.2.1) (nI t.2.2.1) := by
  obtain ⟨kd, ln, ds, by_⟩ := t
  obtain ⟨po, co, st, lk, ll, ld, r⟩ := h
  obtain ⟨b1, b2, b3, b4, b5, b6, b7⟩ := hh
  obtain ⟨a1, a2, a3, a4, a5, a6, a7⟩ := ok
  obtain ⟨g1, g2, g3, g4, g5, g6, g7, g8, g9, g10, g11⟩ := g
  dsimp only at *
  rw [ex_applyToken]
  refine nm_r (e' := nI (6 * sd)) (by rw [show (6 : Int32) = nI 6 from rfl, pk_mul, Nat.mul_comm]) ?_
  rw [show nI (6 * sd) + 0 = nI (6 * sd) from nI_add _ 0, show nI (6 * sd) + 1 = nI (6 * sd + 1) from nI_add _ 1, show nI (6 * sd) + 3 = nI (6 * sd + 3) from nI_add _ 3, show nI (6 * sd) + 4 = nI (6 * sd + 4) from nI_add _ 4, show nI (6 * sd) + 5 = nI (6 * sd + 5) from nI_add _ 5]
  rw [nI_clamp (show 6 * sd < 2 ^ 31 by omega), nI_clamp (show 6 * sd + 1 < 2 ^ 31 by omega), nI_clamp (show 6 * sd + 3 < 2 ^ 31 by omega), nI_clamp (show 6 * sd + 4 < 2 ^ 31 by omega), nI_clamp (show 6 * sd + 5 < 2 ^ 31 by omega), b1, nI_add]
  have i0 : vp_in (nI (6 * sd)) 12 := vp_in_nI (by omega) (by omega)
  have i1 : vp_in (nI (6 * sd + 1)) 12 := vp_in_nI (by omega) (by omega)
  have i3 : vp_in (nI (6 * sd + 3)) 12 := vp_in_nI (by omega) (by omega)
  have i4 : vp_in (nI (6 * sd + 4)) 12 := vp_in_nI (by omega) (by omega)
  have i5 : vp_in (nI (6 * sd + 5)) 12 := vp_in_nI (by omega) (by omega)
  refine ⟨i0, i0, nm_e ⟨i1, i1, ?_⟩⟩
  rw [pk_un (show 6 * sd + 1 ≠ 6 * sd by omega), b2, nI_1]
  refine nm_e ⟨i3, nm_e ⟨i4, nm_e ⟨i5, nm_e ?_⟩⟩⟩
  generalize hF : upd (upd (upd (upd (upd (qx_figures u) (6 * sd) (nI (po + ln))) (6 * sd + 1) (nI (co + 1))) (6 * sd + 3) (nI kd)) (6 * sd + 4) (nI ln)) (6 * sd + 5) (nI ds) = F
  have F2 : F (6 * sd + 2) = nI st := by
    rw [← hF, pk_un (by omega), pk_un (by omega), pk_un (by omega), pk_un (by omega), pk_un (by omega)]; exact b3
  have fin : ∀ w : SX, fr_H w = fr_H u → qx_figures w = F → (∀ j, j < 4 → qx_reps w (4 * sd + j) = nI (hs_r kd ds r j)) → (∀ i, (i < 4 * sd ∨ 4 * sd + 4 ≤ i) → qx_reps w i = qx_reps u i) → post (ux_figures (upd (qx_figures w) (6 * sd + 2) (nI (hs_n st kd))) w) := by
    intro w fw wF q1 q2
    rw [wF]
    refine K _ ?_ ⟨?_, ?_, q2⟩
    · refine ⟨?_, ?_, ?_, ?_, ?_, ?_, q1⟩
      · show upd F (6 * sd + 2) (nI (hs_n st kd)) (6 * sd) = nI (po + ln)
        rw [pk_un (by omega), ← hF, pk_un (by omega), pk_un (by omega), pk_un (by omega), pk_un (by omega), pk_us]
      · show upd F (6 * sd + 2) (nI (hs_n st kd)) (6 * sd + 1) = nI (co + 1)
        rw [pk_un (by omega), ← hF, pk_un (by omega), pk_un (by omega), pk_un (by omega), pk_us]
      · show upd F (6 * sd + 2) (nI (hs_n st kd)) (6 * sd + 2) = nI (hs_n st kd)
        rw [pk_us]
      · show upd F (6 * sd + 2) (nI (hs_n st kd)) (6 * sd + 3) = nI kd
        rw [pk_un (by omega), ← hF, pk_un (by omega), pk_un (by omega), pk_us]
      · show upd F (6 * sd + 2) (nI (hs_n st kd)) (6 * sd + 4) = nI ln
        rw [pk_un (by omega), ← hF, pk_un (by omega), pk_us]
      · show upd F (6 * sd + 2) (nI (hs_n st kd)) (6 * sd + 5) = nI ds
        rw [pk_un (by omega), ← hF, pk_us]
    · rw [← fw]; rfl
    · intro i hi
      show upd F (6 * sd + 2) (nI (hs_n st kd)) i = _
      rw [pk_un (by omega), ← hF, pk_un (by omega), pk_un (by omega), pk_un (by omega), pk_un (by omega), pk_un (by omega)]
  have mtf : ∀ last, last ≤ 3 → hs_r kd ds r = hs_m last ds r → ∀ q : Nat → Int32, (∀ x, q x = if x = 4 * sd then nI ds else if 4 * sd < x ∧ x ≤ 4 * sd + last then qx_reps u (x - 1) else qx_reps u x) → (∀ j, j < 4 → q (4 * sd + j) = nI (hs_r kd ds r j)) ∧ (∀ i, (i < 4 * sd ∨ 4 * sd + 4 ≤ i) → q i = qx_reps u i) := by
    intro last hl e q hq
    constructor
    · intro j hj
      rw [hq, e]
      unfold hs_m
      by_cases j0 : j = 0
      · rw [if_pos (by omega), if_pos j0]
      · rw [if_neg (by omega), if_neg j0]
        by_cases jl : j ≤ last
        · rw [if_pos (by omega), if_pos jl, show 4 * sd + j - 1 = 4 * sd + (j - 1) by omega]
          exact b7 _ (by omega)
        · rw [if_neg (by omega), if_neg jl]
          exact b7 _ hj
    · intro i hi
      rw [hq, if_neg (by omega), if_neg (by omega)]
  refine pk_eq kd 2 (fun e2 => ?_) (fun e2 => ?_)
  · refine xw_moveToFront (u := ux_figures F u) (last := 3) hsd (by omega) ?_
    intro q hq
    have m := mtf 3 (by omega) (by unfold hs_r; rw [if_pos e2]) q hq
    exact xw_app94 (u := ux_reps q (ux_figures F u)) hsd a3 g2 F2 (fin _ (by unfold fr_H; simp only [gx_reps, gx_figures]) rfl m.1 m.2)
  · refine pk_lt kd 4 (fun e4 => ?_) (fun e4 => ?_)
    · refine xw_app94 (u := ux_figures F u) hsd a3 g2 F2 ?_
      refine fin (ux_figures F u) rfl rfl ?_ (fun i _ => rfl)
      intro j hj
      unfold hs_r
      rw [if_neg e2, if_pos e4]
      exact b7 j hj
    · rw [show nI kd - 4 = nI (kd - 4) from pk_sub (b := 4) e4]
      refine xw_moveToFront (u := ux_figures F u) (last := kd - 4) hsd (by omega) ?_
      intro q hq
      have m := mtf (kd - 4) (by omega) (by unfold hs_r; rw [if_neg e2, if_neg (by omega)]) q hq
      exact xw_app94 (u := ux_reps q (ux_figures F u)) hsd a3 g2 F2 (fin _ (by unfold fr_H; simp only [gx_reps, gx_figures]) rfl m.1 m.2)
end
section
/-! ===== X: writeToken, writeEndMarker ===== -/
theorem xh_E {sd : Nat} {h : HH} {u u' : SX} (f : fr_E u' = fr_E u) (x : xh_ sd h u) : xh_ sd h u' := by
  unfold xh_ at *
  rw [fr_E_figures f, fr_E_reps f]
  exact x
def ft_ (u u' : SX) : Prop := fr_T u' = fr_T u ∧ (∀ i, 512 ≤ i → qx_model u' i = qx_model u i) ∧ (∀ i, 6 ≤ i → qx_figures u' i = qx_figures u i) ∧ (∀ i, 4 ≤ i → qx_reps u' i = qx_reps u i)
theorem ft_trans {u v w : SX} (h : ft_ u v) (g : ft_ v w) : ft_ u w := ⟨g.1.trans h.1, fun i hi => (g.2.1 i hi).trans (h.2.1 i hi), fun i hi => (g.2.2.1 i hi).trans (h.2.2.1 i hi), fun i hi => (g.2.2.2 i hi).trans (h.2.2.2 i hi)⟩
theorem ft_refl (u : SX) : ft_ u u := ⟨rfl, fun _ _ => rfl, fun _ _ => rfl, fun _ _ => rfl⟩
theorem ft_fe {u u' : SX} (h : fe_ u u') : ft_ u u' := ⟨fr_ET h.1, h.2, fun i _ => by rw [fr_E_figures h.1], fun i _ => by rw [fr_E_reps h.1]⟩
theorem ft_fh {u u' : SX} (h : fh_ 0 u u') : ft_ u u' := ⟨fr_HT h.1, fun i _ => by rw [fr_H_model h.1], fun i hi => h.2.1 i (by omega), fun i hi => h.2.2 i (by omega)⟩
theorem xe_C_fh {sd k c : Nat} {A : CA} {u u' : SX} (h : fh_ sd u u') (x : xe_C k c A u) : xe_C k c A u' := by
  have f := h.1
  refine ⟨?_, x.2⟩
  obtain ⟨x1, x2, x3, x4, x5, x6, x7⟩ := x.1
  exact ⟨x1, x2, x3, (fr_H_shift f).trans x4, (fr_H_encRange f).trans x5, fun i hi => by rw [fr_H_model f]; exact x6 i hi, xe_R_same x7 (fr_H_codedLength f) (fr_H_encPending f) (fr_H_encCache f) (fr_H_encLow f) (fr_H_coded f)⟩
theorem xw_tokend {post : Int32 → SX → Prop} {u0 u : SX} {k c : Nat} {A : CA} {t : TK} {h : HH} (f : fe_ u0 u) (hA : xe_C k c A u) (hh : xh_ 0 h u0) (ok : hs_ok h) (g : tk_ok t h) (K : ∀ u' : SX, xe_C k c A u' → xh_ 0 (hs_t t h) u' → ft_ u0 u' → post (nI t.1) u') : zx_writeToken_69 post (nI t.1) (nI t.2.1) (nI t.2.2.1) u := by
  rw [ex_writeToken_69]
  exact xw_applyToken (sd := 0) (by omega) (xh_E f.1 hh) ok g (fun u' x1 x2 => K u' (xe_C_fh x2 hA) x1 (ft_trans (ft_fe f) (ft_fh x2)))
end
section
theorem ca_te1 {k st : Nat} {A : CA} {ln ds b : Nat} : ca_tok k (1, ln, ds, b) st A = ca_T k 72 b 8 1 (ca_K k 1 st A) := by
  unfold ca_tok; rw [if_pos rfl]
theorem ca_te2 {k st : Nat} {A : CA} {ln ds b : Nat} : ca_tok k (2, ln, ds, b) st A = ca_S k (ds - 1) ln (ca_N k 328 ln (ca_K k 2 st A)) := by
  unfold ca_tok; rw [if_neg (show ¬ (2 : Nat) = 1 by decide), if_pos rfl]
theorem ca_te3 {k st : Nat} {A : CA} {ln ds b : Nat} : ca_tok k (3, ln, ds, b) st A = ca_K k 3 st A := by
  unfold ca_tok; rw [if_neg (show ¬ (3 : Nat) = 1 by decide), if_neg (show ¬ (3 : Nat) = 2 by decide), if_pos rfl]
theorem ca_te {k st : Nat} {A : CA} {kd ln ds b : Nat} (h : 4 ≤ kd) : ca_tok k (kd, ln, ds, b) st A = ca_N k 344 ln (ca_K k kd st A) := by
  unfold ca_tok; rw [if_neg (show ¬ kd = 1 by omega), if_neg (show ¬ kd = 2 by omega), if_neg (show ¬ kd = 3 by omega)]
end
section
theorem xw_writeToken {post : Int32 → SX → Prop} {u : SX} {k c : Nat} {A : CA} {t : TK} {h : HH} (hA : xe_C k (c + 9 * t.2.1) A u) (hh : xh_ 0 h u) (ok : hs_ok h) (g : tk_ok t h) (hb : t.1 = 1 → qx_source u h.1 = nI t.2.2.2) (K : ∀ u' : SX, xe_C k c (ca_tok k t h.2.2.1 A) u' → xh_ 0 (hs_t t h) u' → ft_ u u' → post (nI t.1) u') : wpX_writeToken post u (nI t.1) (nI t.2.1) (nI t.2.2.1) := by
  have g0 := g
  obtain ⟨kd, ln, ds, bt_⟩ := t
  obtain ⟨g1, g2, g3, g4, g5, g6, g7, g8, g9, g10, g11⟩ := g
  have st := hh.2.2.1
  have s12 := ok.2.2.1
  have po := hh.1
  dsimp only at *
  rw [ex_writeToken]
  have kk : kd = 1 ∨ kd = 2 ∨ kd = 3 ∨ kd = 4 ∨ kd = 5 ∨ kd = 6 ∨ kd = 7 := by omega
  rcases kk with rfl | rfl | rfl | rfl | rfl | rfl | rfl
  · rw [ca_te1] at K
    refine xw_K1 (c := c + 4) (xe_C_le hA (by omega)) st s12 ?_
    intro u1 h1 f1
    have e1 : qx_figures u1 0 = nI h.1 := by rw [fr_E_figures f1.1]; exact po
    have e2 : qx_source u1 h.1 = nI bt_ := by rw [fr_E_source f1.1]; exact hb rfl
    rw [e1, nI_clamp (by omega), e2]
    refine br_t (by decide) ⟨vp_in_nI (by omega) (by omega), ?_⟩
    refine xw_writeTree (base := 72) (n := 8) (c := c) (by omega) (by omega) (by omega) h1 ?_
    intro u2 h2 f2
    exact xw_tokend (t := (1, ln, ds, bt_)) (fe_trans f1 f2) h2 hh ok g0 K
  · have l2 := g10 (by decide) (by decide)
    have d8 := g8 (by decide)
    rw [ca_te2] at K
    refine xw_K2 (c := c + 13) (xe_C_le hA (by omega)) st s12 ?_
    intro u1 h1 f1
    refine br_f (by decide) (br_t (by decide) ?_)
    refine xw_len (base := 328) (c := c + 12) l2 g4 (by omega) h1 ?_
    intro u2 h2 f2
    rw [show nI ds - 1 = nI (ds - 1) from pk_sub (b := 1) d8.1]
    refine xw_dist (c := c + 2) (by omega) l2 g4 h2 ?_
    intro u3 h3 f3
    exact xw_tokend (t := (2, ln, ds, bt_)) (fe_trans f1 (fe_trans f2 f3)) (xe_C_le h3 (by omega)) hh ok g0 K
  · rw [ca_te3] at K
    refine xw_K3 (c := c + 4) (xe_C_le hA (by omega)) st s12 ?_
    intro u1 h1 f1
    refine br_f (by decide) (br_f (by decide) (br_t (by decide) ?_))
    exact xw_tokend (t := (3, ln, ds, bt_)) f1 (xe_C_le h1 (by omega)) hh ok g0 K
  · have l2 := g10 (by decide) (by decide)
    rw [ca_te (show 4 ≤ 4 by decide)] at K
    refine xw_K4 (c := c + 13) (xe_C_le hA (by omega)) st s12 ?_
    intro u1 h1 f1
    refine br_f (by decide) (br_f (by decide) (br_f (by decide) ?_))
    refine xw_len (base := 344) (c := c + 10) l2 g4 (by omega) h1 ?_
    intro u2 h2 f2
    exact xw_tokend (t := (4, ln, ds, bt_)) (fe_trans f1 f2) (xe_C_le h2 (by omega)) hh ok g0 K
  · have l2 := g10 (by decide) (by decide)
    rw [ca_te (show 4 ≤ 5 by decide)] at K
    refine xw_K5 (c := c + 13) (xe_C_le hA (by omega)) st s12 ?_
    intro u1 h1 f1
    refine br_f (by decide) (br_f (by decide) (br_f (by decide) ?_))
    refine xw_len (base := 344) (c := c + 10) l2 g4 (by omega) h1 ?_
    intro u2 h2 f2
    exact xw_tokend (t := (5, ln, ds, bt_)) (fe_trans f1 f2) (xe_C_le h2 (by omega)) hh ok g0 K
  · have l2 := g10 (by decide) (by decide)
    rw [ca_te (show 4 ≤ 6 by decide)] at K
    refine xw_K6 (c := c + 13) (xe_C_le hA (by omega)) st s12 ?_
    intro u1 h1 f1
    refine br_f (by decide) (br_f (by decide) (br_f (by decide) ?_))
    refine xw_len (base := 344) (c := c + 9) l2 g4 (by omega) h1 ?_
    intro u2 h2 f2
    exact xw_tokend (t := (6, ln, ds, bt_)) (fe_trans f1 f2) (xe_C_le h2 (by omega)) hh ok g0 K
  · have l2 := g10 (by decide) (by decide)
    rw [ca_te (show 4 ≤ 7 by decide)] at K
    refine xw_K7 (c := c + 13) (xe_C_le hA (by omega)) st s12 ?_
    intro u1 h1 f1
    refine br_f (by decide) (br_f (by decide) (br_f (by decide) ?_))
    refine xw_len (base := 344) (c := c + 9) l2 g4 (by omega) h1 ?_
    intro u2 h2 f2
    exact xw_tokend (t := (7, ln, ds, bt_)) (fe_trans f1 f2) (xe_C_le h2 (by omega)) hh ok g0 K
end
section
theorem xw_endMarker {post : SX → Prop} {u : SX} {k c st : Nat} {A : CA} (hA : xe_C k (c + 19) A u) (hst : qx_figures u 2 = nI st) (h12 : st < 12) (K : ∀ u' : SX, xe_C k c (ca_end k st A) u' → fe_ u u' → post u') : wpX_writeEndMarker post u := by
  rw [ex_writeEndMarker]
  refine xw_K2 (c := c + 14) hA hst h12 ?_
  intro u1 h1 f1
  refine xw_len (base := 328) (len := 2) (c := c + 13) (by omega) (by omega) (by omega) h1 ?_
  intro u2 h2 f2
  refine xw_dist (v := 255) (len := 2) (c := c + 3) (by omega) (by omega) (by omega) h2 ?_
  intro u3 h3 f3
  refine K u3 ?_ (fe_trans f1 (fe_trans f2 f3))
  unfold ca_end
  exact xe_C_le h3 (by omega)
end
section
/-! ===== X: resetSide, resetEncoder, resetDecoder, seal's copy ===== -/
theorem xw_rs60 {post : SX → Prop} {sd : Nat} (hsd : sd < 2) : ∀ (j i f : Nat) (g : Nat → Int32) (u : SX), i + j = 4 → j < f → (∀ g' : Nat → Int32, (∀ x, g' x = if 4 * sd + i ≤ x ∧ x < 4 * sd + 4 then 1 else g x) → post (ux_reps g' u)) → zx_resetSide_60 post (nI sd) f (nI i) (ux_reps g u) := by
  intro j
  induction j with
  | zero =>
    intro i f g u hi hf K
    obtain ⟨f, rfl⟩ : ∃ g, f = g + 1 := ⟨f - 1, by omega⟩
    rw [ex_resetSide_60]
    exact br_t (nI_le (a := 4) (by omega) (by omega)) (K g (fun x => by rw [if_neg (by omega)]))
  | succ j ih =>
    intro i f g u hi hf K
    obtain ⟨f, rfl⟩ : ∃ g, f = g + 1 := ⟨f - 1, by omega⟩
    rw [ex_resetSide_60, show nI sd * 4 + nI i = nI (4 * sd + i) by rw [show (4 : Int32) = nI 4 from rfl, pk_mul, nI_add, Nat.mul_comm], nI_clamp (show 4 * sd + i < 2 ^ 31 by omega)]
    refine br_f (nI_ge (b := 4) (by omega) (by omega)) ⟨vp_in_nI (by omega) (by omega), nm_e (nm_r (nI_1 i) ?_)⟩
    rw [sx_reps]
    refine ih (i + 1) f (upd g (4 * sd + i) 1) u (by omega) (by omega) ?_
    intro g' hg
    refine K g' (fun x => ?_)
    rw [hg x]
    by_cases e : x = 4 * sd + i
    · rw [if_neg (by omega), if_pos (by omega), e, pk_us]
    · rw [pk_un e]
      by_cases e1 : 4 * sd + i ≤ x ∧ x < 4 * sd + 4
      · rw [if_pos (by omega), if_pos e1]
      · rw [if_neg (by omega), if_neg e1]
theorem xw_rs34 {post : SX → Prop} {sd : Nat} (hsd : sd < 2) : ∀ (j i f : Nat) (g : Nat → Int32) (u : SX), i + j = 6 → j < f → (∀ g' : Nat → Int32, (∀ x, g' x = if 6 * sd + i ≤ x ∧ x < 6 * sd + 6 then 0 else g x) → ∃ n : Nat, zx_resetSide_60 post (nI sd) n 0 (ux_figures g' u)) → zx_resetSide_34 post (nI sd) f (nI i) (ux_figures g u) := by
  intro j
  induction j with
  | zero =>
    intro i f g u hi hf K
    obtain ⟨f, rfl⟩ : ∃ g, f = g + 1 := ⟨f - 1, by omega⟩
    rw [ex_resetSide_34]
    exact br_t (nI_le (a := 6) (by omega) (by omega)) (K g (fun x => by rw [if_neg (by omega)]))
  | succ j ih =>
    intro i f g u hi hf K
    obtain ⟨f, rfl⟩ : ∃ g, f = g + 1 := ⟨f - 1, by omega⟩
    rw [ex_resetSide_34, show nI sd * 6 + nI i = nI (6 * sd + i) by rw [show (6 : Int32) = nI 6 from rfl, pk_mul, nI_add, Nat.mul_comm], nI_clamp (show 6 * sd + i < 2 ^ 31 by omega)]
    refine br_f (nI_ge (b := 6) (by omega) (by omega)) ⟨vp_in_nI (by omega) (by omega), nm_e (nm_r (nI_1 i) ?_)⟩
    rw [sx_figures]
    refine ih (i + 1) f (upd g (6 * sd + i) 0) u (by omega) (by omega) ?_
    intro g' hg
    refine K g' (fun x => ?_)
    rw [hg x]
    by_cases e : x = 6 * sd + i
    · rw [if_neg (by omega), if_pos (by omega), e, pk_us]
    · rw [pk_un e]
      by_cases e1 : 6 * sd + i ≤ x ∧ x < 6 * sd + 6
      · rw [if_pos (by omega), if_pos e1]
      · rw [if_neg (by omega), if_neg e1]
theorem xw_rs8 {post : SX → Prop} {sd : Nat} (hsd : sd < 2) : ∀ (j i f : Nat) (g : Nat → Int32) (u : SX), i + j = 512 → j < f → (∀ g' : Nat → Int32, (∀ x, g' x = if 512 * sd + i ≤ x ∧ x < 512 * sd + 512 then 1024 else g x) → ∃ n : Nat, zx_resetSide_34 post (nI sd) n 0 (ux_model g' u)) → zx_resetSide_8 post (nI sd) (nI (512 * sd)) f (nI i) (ux_model g u) := by
  intro j
  induction j with
  | zero =>
    intro i f g u hi hf K
    obtain ⟨f, rfl⟩ : ∃ g, f = g + 1 := ⟨f - 1, by omega⟩
    rw [ex_resetSide_8]
    exact br_t (nI_le (a := 512) (by omega) (by omega)) (K g (fun x => by rw [if_neg (by omega)]))
  | succ j ih =>
    intro i f g u hi hf K
    obtain ⟨f, rfl⟩ : ∃ g, f = g + 1 := ⟨f - 1, by omega⟩
    rw [ex_resetSide_8, nI_add, nI_clamp (show 512 * sd + i < 2 ^ 31 by omega)]
    refine br_f (nI_ge (b := 512) (by omega) (by omega)) ⟨vp_in_nI (by omega) (by omega), nm_e (nm_r (nI_1 i) ?_)⟩
    rw [sx_model]
    refine ih (i + 1) f (upd g (512 * sd + i) 1024) u (by omega) (by omega) ?_
    intro g' hg
    refine K g' (fun x => ?_)
    rw [hg x]
    by_cases e : x = 512 * sd + i
    · rw [if_neg (by omega), if_pos (by omega), e, pk_us]
    · rw [pk_un e]
      by_cases e1 : 512 * sd + i ≤ x ∧ x < 512 * sd + 512
      · rw [if_pos (by omega), if_pos e1]
      · rw [if_neg (by omega), if_neg e1]
theorem et_model (u : SX) : ux_model (qx_model u) u = u := rfl
theorem et_figures (u : SX) : ux_figures (qx_figures u) u = u := rfl
theorem et_reps (u : SX) : ux_reps (qx_reps u) u = u := rfl
theorem xw_rs60' {post : SX → Prop} {sd : Nat} (hsd : sd < 2) (u : SX) (K : ∀ g' : Nat → Int32, (∀ x, g' x = if 4 * sd ≤ x ∧ x < 4 * sd + 4 then 1 else qx_reps u x) → post (ux_reps g' u)) : ∃ n, zx_resetSide_60 post (nI sd) n 0 u := by
  have h : ∃ n, zx_resetSide_60 post (nI sd) n (nI 0) (ux_reps (qx_reps u) u) := by
    refine ⟨4 + 1, xw_rs60 hsd 4 0 (4 + 1) (qx_reps u) u (by omega) (by omega) ?_⟩
    intro g' hg
    exact K g' hg
  rw [et_reps, nI_0] at h
  exact h
theorem xw_rs34' {post : SX → Prop} {sd : Nat} (hsd : sd < 2) (u : SX) (K : ∀ g' : Nat → Int32, (∀ x, g' x = if 6 * sd ≤ x ∧ x < 6 * sd + 6 then 0 else qx_figures u x) → ∃ n : Nat, zx_resetSide_60 post (nI sd) n 0 (ux_figures g' u)) : ∃ n, zx_resetSide_34 post (nI sd) n 0 u := by
  have h : ∃ n, zx_resetSide_34 post (nI sd) n (nI 0) (ux_figures (qx_figures u) u) := by
    refine ⟨6 + 1, xw_rs34 hsd 6 0 (6 + 1) (qx_figures u) u (by omega) (by omega) ?_⟩
    intro g' hg
    exact K g' hg
  rw [et_figures, nI_0] at h
  exact h
theorem xw_rs8' {post : SX → Prop} {sd : Nat} (hsd : sd < 2) (u : SX) (K : ∀ g' : Nat → Int32, (∀ x, g' x = if 512 * sd ≤ x ∧ x < 512 * sd + 512 then 1024 else qx_model u x) → ∃ n : Nat, zx_resetSide_34 post (nI sd) n 0 (ux_model g' u)) : ∃ n, zx_resetSide_8 post (nI sd) (nI (512 * sd)) n 0 u := by
  have h : ∃ n, zx_resetSide_8 post (nI sd) (nI (512 * sd)) n (nI 0) (ux_model (qx_model u) u) := by
    obtain ⟨J, hJ⟩ : ∃ J, J = 512 := ⟨512, rfl⟩
    refine ⟨J + 1, xw_rs8 hsd J 0 (J + 1) (qx_model u) u (by omega) (by omega) ?_⟩
    intro g' hg
    exact K g' hg
  rw [et_model, nI_0] at h
  exact h
theorem xw_resetSide {post : SX → Prop} {u : SX} {sd : Nat} (hsd : sd < 2) (K : ∀ m g r : Nat → Int32, (∀ x, m x = if 512 * sd ≤ x ∧ x < 512 * sd + 512 then 1024 else qx_model u x) → (∀ x, g x = if 6 * sd ≤ x ∧ x < 6 * sd + 6 then 0 else qx_figures u x) → (∀ x, r x = if 4 * sd ≤ x ∧ x < 4 * sd + 4 then 1 else qx_reps u x) → post (ux_reps r (ux_figures g (ux_model m u)))) : wpX_resetSide post u (nI sd) := by
  rw [ex_resetSide]
  refine nm_r (e' := nI (512 * sd)) (by rw [show (512 : Int32) = nI 512 from rfl, pk_mul, Nat.mul_comm]) ?_
  refine xw_rs8' hsd u (fun m hm => xw_rs34' hsd (ux_model m u) (fun g hg => xw_rs60' hsd (ux_figures g (ux_model m u)) (fun r hr => ?_)))
  refine K m g r hm (fun x => ?_) (fun x => ?_)
  · rw [hg x]; simp only [gx_model]
  · rw [hr x]; simp only [gx_figures, gx_model]
theorem xw_seal58 {post : Int32 → SX → Prop} {sl n : Nat} (hsl : sl < 2) (hn : n ≤ 1024) : ∀ (j i f : Nat) (g : Nat → Int32) (u : SX), i + j = n → j < f → qx_codedLength u = nI n → (∀ g' : Nat → Int32, (∀ x, g' x = if sl * 1024 + i ≤ x ∧ x < sl * 1024 + n then vp_nar .byte (qx_coded u (x - sl * 1024)) else g x) → zx_seal_93 post (nI sl) (ux_store g' u)) → zx_seal_58 post (nI sl) (nI (sl * 1024)) f (nI i) (ux_store g u) := by
  intro j
  induction j with
  | zero =>
    intro i f g u hi hf hc K
    obtain ⟨f, rfl⟩ : ∃ g, f = g + 1 := ⟨f - 1, by omega⟩
    rw [ex_seal_58, show qx_codedLength (ux_store g u) = nI n from hc]
    exact br_t (nI_le (by omega) (by omega)) (K g (fun x => by rw [if_neg (by omega)]))
  | succ j ih =>
    intro i f g u hi hf hc K
    obtain ⟨f, rfl⟩ : ∃ g, f = g + 1 := ⟨f - 1, by omega⟩
    rw [ex_seal_58, show qx_codedLength (ux_store g u) = nI n from hc, nI_add, nI_clamp (show sl * 1024 + i < 2 ^ 31 by omega), nI_clamp (show i < 2 ^ 31 by omega)]
    refine br_f (nI_ge (by omega) (by omega)) (br_f (nI_ge (b := 1024) (by omega) (by omega)) ⟨vp_in_nI (by omega) (by omega), vp_in_nI (by omega) (by omega), nm_e (nm_r (nI_1 i) ?_)⟩)
    rw [sx_store]
    refine ih (i + 1) f (upd g (sl * 1024 + i) (vp_nar .byte (qx_coded u i))) u (by omega) (by omega) hc ?_
    intro g' hg
    refine K g' (fun x => ?_)
    rw [hg x]
    by_cases e : x = sl * 1024 + i
    · rw [if_neg (by omega), if_pos (by omega), e, pk_us, show sl * 1024 + i - sl * 1024 = i by omega]
    · rw [pk_un e]
      by_cases e1 : sl * 1024 + i ≤ x ∧ x < sl * 1024 + n
      · rw [if_pos (by omega), if_pos e1]
      · rw [if_neg (by omega), if_neg e1]
end
section
/-! ===== X: the decoder, bit by bit, against the encoder's trace ===== -/
def xd_S (bs : Nat → Nat) (S j : Nat) (u : SX) : Prop := j < 2 ∧ qx_decSlot u = nI j ∧ ¬ qx_slots u ≤ nI j ∧ qx_storeLength u j = nI (S + 5) ∧ S + 5 ≤ 1024 ∧ ∀ i, i < S + 5 → by_v (qx_store u (j * 1024 + i)) = bs i
theorem xd_S_lt {bs : Nat → Nat} {S j : Nat} {u : SX} (h : xd_S bs S j u) : ∀ i, i < S + 5 → bs i < 256 := by
  intro i hi
  rw [← h.2.2.2.2.2 i hi]
  exact by_lt _
theorem xd_S_D {bs : Nat → Nat} {S j : Nat} {u u' : SX} (f : fr_D u' = fr_D u) (h : xd_S bs S j u) : xd_S bs S j u' := by
  unfold xd_S at *
  rw [fr_D_decSlot f, fr_D_slots f, fr_D_storeLength f, fr_D_store f]
  exact h
def xd_A (k : Nat) (bs : Nat → Nat) (S j : Nat) (A : CA) (u : SX) : Prop := ca_ok A ∧ 4 ≤ k ∧ k ≤ 6 ∧ qx_shift u = nI k ∧ qx_decRange u = lN A.2.2.1 ∧ (∀ i, i < 512 → qx_model u (512 + i) = nI (A.1 i)) ∧ qx_decAt u = nI (A.2.2.2 + 5) ∧ qx_decCode u = lN (vl bs (A.2.2.2 + 5) - A.2.1) ∧ xd_S bs S j u ∧ ca_in bs S A
def fd_ (u u' : SX) : Prop := fr_D u' = fr_D u ∧ ∀ i, i < 512 → qx_model u' i = qx_model u i
theorem fd_refl (u : SX) : fd_ u u := ⟨rfl, fun _ _ => rfl⟩
theorem fd_trans {u v w : SX} (h : fd_ u v) (g : fd_ v w) : fd_ u w := ⟨g.1.trans h.1, fun i hi => (g.2 i hi).trans (h.2 i hi)⟩
theorem xw_pull {post : SX → Prop} {u : SX} {bs : Nat → Nat} {S j p code : Nat} (hS : xd_S bs S j u) (hp : qx_decAt u = nI p) (h : p < S + 5) (hc : qx_decCode u = lN code) (hc2 : code < 4294967296) (K : post (ux_decCode (lN ((code * 256 + bs p) % 4294967296)) (ux_decAt (nI (p + 1)) u))) : wpX_pullByte post u := by
  have hb := xd_S_lt hS p h
  obtain ⟨s1, s2, s3, s4, s5, s6⟩ := hS
  rw [ex_pullByte, s2, hp, nI_clamp (show j < 2 ^ 31 by omega), s4]
  refine br_f (nI_pos (by omega)) (br_f s3 ⟨vp_in_nI s1 (by omega), br_f (nI_ge (by omega) (by omega)) (br_f (nI_ge (b := 1024) (by omega) (by omega)) ?_)⟩)
  rw [show nI j * 1024 + nI p = nI (j * 1024 + p) by rw [show (1024 : Int32) = nI 1024 from rfl, pk_mul, nI_add], nI_clamp (show j * 1024 + p < 2 ^ 31 by omega)]
  refine ⟨vp_in_nI (by omega) (by omega), nm_r (e' := nI (bs p)) (by rw [by_and, s6 p h]) (nm_r (nI_1 p) ?_)⟩
  rw [ex_pullByte_79]
  refine nm_r (e' := lN ((code * 256 + bs p) % 4294967296)) ?_ K
  show ((qx_decCode u <<< ((8 : Int32).toInt64 &&& 63)) ||| (nI (bs p)).toInt64) &&& 4294967295 = _
  rw [hc, show lN code <<< ((8 : Int32).toInt64 &&& 63) = lN (code * 256) from wb_shl code (k := 8) (by omega), nI_l (by omega), g_or (k := 8) (p := 256) (by decide) hb (by omega)]
  exact wb_mask (k := 32) (by omega) (by omega)
theorem xw_normD {post : SX → Prop} {u : SX} {bs : Nat → Nat} {S j L R s : Nat} (m : Nat → Nat) (hS : xd_S bs S j u) (hr : qx_decRange u = lN R) (ha : qx_decAt u = nI (s + 5)) (hc : qx_decCode u = lN (vl bs (s + 5) - L)) (h1 : L ≤ vl bs (s + 5)) (h2 : vl bs (s + 5) < L + R) (hR : R < 4294967296) (hin : ca_in bs S (ca_norm m L R s))
    (K : ∀ u' : SX, qx_decRange u' = lN (ca_norm m L R s).2.2.1 → qx_decAt u' = nI ((ca_norm m L R s).2.2.2 + 5) → qx_decCode u' = lN (vl bs ((ca_norm m L R s).2.2.2 + 5) - (ca_norm m L R s).2.1) → fr_D u' = fr_D u → qx_model u' = qx_model u → post u') : wpX_normaliseDecoder post u := by
  rw [ex_normaliseDecoder, hr]
  refine pl_le 16777216 R rfl rfl (by omega) (by omega) (fun z => ?_) (fun z => ?_)
  · rw [ca_norm_f (show ¬ R < 16777216 by omega)] at K
    exact K u hr ha hc rfl rfl
  · rw [ca_norm_t z] at K hin
    have hs : s + 1 ≤ S := hin.1
    have hb := xd_S_lt hS (s + 5) (by omega)
    refine nm_r (e' := lN (R * 256)) (wb_shl R (k := 8) (by omega)) ?_
    refine xw_pull (u := ux_decRange (lN (R * 256)) u) (xd_S_D (fz_D_decRange _ _) hS) (by simp only [gx_decRange]; exact ha) (by omega) (by simp only [gx_decRange]; exact hc) (by omega) ?_
    refine K _ (by simp only [gx_decCode, gx_decAt, gx_decRange]) ?_ ?_ (by unfold fr_D; simp only [gx_decCode, gx_decAt, gx_decRange]) (by simp only [gx_decCode, gx_decAt, gx_decRange])
    · simp only [gx_decCode, gx_decAt, gx_decRange]
    · simp only [gx_decCode, gx_decAt, gx_decRange]
      rw [show s + 1 + 5 = s + 5 + 1 by omega, show vl bs (s + 5 + 1) = vl bs (s + 5) * 256 + bs (s + 5) from rfl]
      rw [show ((vl bs (s + 5) - L) * 256 + bs (s + 5)) % 4294967296 = vl bs (s + 5) * 256 + bs (s + 5) - L * 256 by omega]
theorem xw_readBit {post : Int32 → SX → Prop} {u : SX} {k a b S j : Nat} {bs : Nat → Nat} {A : CA} (h : xd_A k bs S j A u) (ha : a < 512) (hb : b < 2) (hin : ca_in bs S (ca_B k a b A)) (K : ∀ u' : SX, xd_A k bs S j (ca_B k a b A) u' → fd_ u u' → post (nI b) u') : wpX_readBit post u (nI a) := by
  obtain ⟨m, L, R, s⟩ := A
  obtain ⟨ok, k4, k6, sh, rg, md, at_1, cd, hS, hin0⟩ := h
  have go := (ca_B_go (k := k) (a := a) (b := b) k4 k6 (m, L, R, s) ok).1
  obtain ⟨o1, o2, o3, o4⟩ := ok
  have pre := ca_in_pre (xd_S_lt hS) hin0
  dsimp only at *
  have hd := ca_d o2 (o1 a).1 (o1 a).2
  have hc : m a < 2 ^ 31 := by have := (o1 a).2; omega
  have fin : ∀ (v u' : SX), fr_D v = fr_D u → qx_model v = upd (qx_model u) (512 + a) (nI (cm_mv k (m a) b)) → qx_decRange u' = lN (ca_B k a b (m, L, R, s)).2.2.1 → qx_decAt u' = nI ((ca_B k a b (m, L, R, s)).2.2.2 + 5) → qx_decCode u' = lN (vl bs ((ca_B k a b (m, L, R, s)).2.2.2 + 5) - (ca_B k a b (m, L, R, s)).2.1) → fr_D u' = fr_D v → qx_model u' = qx_model v → post (nI b) u' := by
    intro v u' f0 mv e1 e2 e3 f1 m1
    have f := f1.trans f0
    refine K u' ⟨go, k4, k6, (fr_D_shift f).trans sh, e1, ?_, e2, e3, xd_S_D f hS, hin⟩ ⟨f, ?_⟩
    · intro i hi
      rw [m1, mv, ca_B_m]
      by_cases e : i = a
      · rw [e, pk_us, cm_us]
      · rw [pk_un (by omega), cm_un e]; exact md i hi
    · intro i hi
      rw [m1, mv, pk_un (by omega)]
  rw [ex_readBit]
  refine nm_r (e' := nI (512 + a)) (nI_add 512 a) ?_
  rw [nI_clamp (show 512 + a < 2 ^ 31 by omega), rg, md a ha]
  refine ⟨vp_in_nI (by omega) (by omega), nm_r (xe_bound o3 hc) ?_⟩
  by_cases z : b = 0
  · have hin' : ca_in bs S (ca_norm (cm_u m a (cm_mv k (m a) b)) L (R / 2048 * m a) s) := by
      unfold ca_B at hin; dsimp only at hin; rw [if_pos z, if_pos z] at hin; exact hin
    have pre2 := ca_in_pre (xd_S_lt hS) (ca_in_ne (ca_norm_ne m _ (Nat.le_refl L) (Nat.le_refl _)) hin')
    dsimp only at pre2
    refine pl_le (R / 2048 * m a) (vl bs (s + 5) - L) rfl cd (by omega) (by omega) (fun y => absurd y (by omega)) (fun y => ?_)
    rw [ex_readBit_65]
    subst z
    refine xw_updateChance (b := 0) (c := m a) sh (by omega) (by omega) (by omega) (md a ha) (by have := (o1 a).2; omega) ?_
    refine xw_normD (L := L) (R := R / 2048 * m a) (s := s) (j := j) (bs := bs) (S := S) (cm_u m a (cm_mv k (m a) 0)) (xd_S_D (by unfold fr_D; simp only [gx_model, gx_decRange]) hS) (by simp only [gx_model, gx_decRange]) (by simp only [gx_model, gx_decRange]; exact at_1) (by simp only [gx_model, gx_decRange]; exact cd) pre2.1 pre2.2 (by omega) hin' ?_
    intro u' e1 e2 e3 f1 m1
    exact fin _ u' (by unfold fr_D; simp only [gx_model, gx_decRange]) rfl e1 e2 e3 f1 m1
  · have hin' : ca_in bs S (ca_norm (cm_u m a (cm_mv k (m a) b)) (L + R / 2048 * m a) (R - R / 2048 * m a) s) := by
      unfold ca_B at hin; dsimp only at hin; rw [if_neg z, if_neg z] at hin; exact hin
    have pre2 := ca_in_pre (xd_S_lt hS) (ca_in_ne (ca_norm_ne m _ (Nat.le_refl _) (Nat.le_refl _)) hin')
    dsimp only at pre2
    refine pl_le (R / 2048 * m a) (vl bs (s + 5) - L) rfl cd (by omega) (by omega) (fun y => ?_) (fun y => absurd y (by omega))
    have b1 : b = 1 := by omega
    subst b1
    rw [cd]
    refine nm_r (lN_sub y) (nm_r (lN_sub (by omega)) ?_)
    rw [ex_readBit_65]
    refine xw_updateChance (b := 1) (c := m a) sh (by omega) (by omega) (by omega) (md a ha) (by have := (o1 a).2; omega) ?_
    refine xw_normD (L := L + R / 2048 * m a) (R := R - R / 2048 * m a) (s := s) (j := j) (bs := bs) (S := S) (cm_u m a (cm_mv k (m a) 1)) (xd_S_D (by unfold fr_D; simp only [gx_model, gx_decRange_decCode]) hS) (by simp only [gx_model, gx_decRange_decCode]) (by simp only [gx_model, gx_decRange_decCode]; exact at_1) ?_ pre2.1 pre2.2 (by omega) hin' ?_
    · simp only [gx_model, gx_decRange_decCode]
      rw [Nat.sub_sub]
    · intro u' e1 e2 e3 f1 m1
      exact fin _ u' (by unfold fr_D; simp only [gx_model, gx_decRange_decCode]) rfl e1 e2 e3 f1 m1
theorem xw_rdir {post : Int32 → SX → Prop} {k v N S j : Nat} {bs : Nat → Nat} (hv : v < 2 ^ N) (hN : N < 20) : ∀ (n f i : Nat) (u : SX) (A : CA), n < f → i + n = N → xd_A k bs S j A u → ca_in bs S (ca_X v n A) → (∀ u' : SX, xd_A k bs S j (ca_X v n A) u' → fd_ u u' → post (nI v) u') → zx_readDirect_4 post (nI N) f (nI (v / 2 ^ n)) (nI i) u := by
  intro n
  induction n with
  | zero =>
    intro f i u A hf hi h hin K
    obtain ⟨f, rfl⟩ : ∃ g, f = g + 1 := ⟨f - 1, by omega⟩
    rw [ex_readDirect_4, Nat.pow_zero, Nat.div_one]
    exact br_t (nI_le (by omega) (by omega)) (K u h (fd_refl u))
  | succ n ih =>
    intro f i u A hf hi h hin K
    obtain ⟨f, rfl⟩ : ∃ g, f = g + 1 := ⟨f - 1, by omega⟩
    obtain ⟨m, L, R, s⟩ := A
    obtain ⟨ok, k4, k6, sh, rg, md, at_1, cd, hS, hin0⟩ := h
    have go := ca_D_go (v / 2 ^ n % 2) (m, L, R, s) ok
    have hinD : ca_in bs S (ca_D (v / 2 ^ n % 2) (m, L, R, s)) := ca_in_ne (ca_X_go v n _ go.1).2.1 hin
    obtain ⟨o1, o2, o3, o4⟩ := ok
    have pre := ca_in_pre (xd_S_lt hS) hin0
    dsimp only at *
    have hb2 : v / 2 ^ n % 2 < 2 := Nat.mod_lt _ (by omega)
    have dv : v / 2 ^ n = 2 * (v / 2 ^ (n + 1)) + v / 2 ^ n % 2 := by
      rw [Nat.pow_succ, ← Nat.div_div_eq_div_mul]; omega
    have fin : ∀ (w u' : SX), fr_D w = fr_D u → qx_model w = qx_model u → qx_decRange u' = lN (ca_D (v / 2 ^ n % 2) (m, L, R, s)).2.2.1 → qx_decAt u' = nI ((ca_D (v / 2 ^ n % 2) (m, L, R, s)).2.2.2 + 5) → qx_decCode u' = lN (vl bs ((ca_D (v / 2 ^ n % 2) (m, L, R, s)).2.2.2 + 5) - (ca_D (v / 2 ^ n % 2) (m, L, R, s)).2.1) → fr_D u' = fr_D w → qx_model u' = qx_model w → ∀ x : Int32, x = nI i + 1 → zx_readDirect_4 post (nI N) f (nI (v / 2 ^ n)) x u' := by
      intro w u' f0 m0 e1 e2 e3 f1 m1
      have g := f1.trans f0
      have mm := m1.trans m0
      refine nm_r (nI_1 i) ?_
      refine ih f (i + 1) u' (ca_D (v / 2 ^ n % 2) (m, L, R, s)) (by omega) (by omega) ⟨go.1, k4, k6, (fr_D_shift g).trans sh, e1, ?_, e2, e3, xd_S_D g hS, hinD⟩ hin ?_
      · intro q hq
        rw [mm, ca_D_m]; exact md q hq
      · intro u'' h1 h2
        exact K u'' h1 (fd_trans ⟨g, fun q _ => by rw [mm]⟩ h2)
    rw [ex_readDirect_4, rg]
    refine br_f (nI_ge (by omega) (by omega)) (nm_r (xe_half o3) ?_)
    by_cases z : v / 2 ^ n % 2 = 0
    · have hin' : ca_in bs S (ca_norm m L (R / 2) s) := by
        unfold ca_D at hinD; dsimp only at hinD; rw [if_pos z] at hinD; exact hinD
      have pre2 := ca_in_pre (xd_S_lt hS) (ca_in_ne (ca_norm_ne m _ (Nat.le_refl L) (Nat.le_refl _)) hin')
      dsimp only at pre2
      refine pl_lt (vl bs (s + 5) - L) (R / 2) cd rfl (by omega) (by omega) (fun y => ?_) (fun y => absurd y (by omega))
      refine nm_r (e' := nI (v / 2 ^ n)) (by rw [dv, z]; exact xe_2m _ 0) ?_
      refine xw_normD (L := L) (R := R / 2) (s := s) (j := j) (bs := bs) (S := S) m (xd_S_D (fz_D_decRange _ _) hS) (by simp only [gx_decRange]) (by simp only [gx_decRange]; exact at_1) (by simp only [gx_decRange]; exact cd) pre2.1 pre2.2 (by omega) hin' ?_
      intro u' e1 e2 e3 f1 m1
      refine fin _ u' (fz_D_decRange _ _) (by simp only [gx_decRange]) ?_ ?_ ?_ f1 m1
      · unfold ca_D; dsimp only; rw [if_pos z]; exact e1
      · unfold ca_D; dsimp only; rw [if_pos z]; exact e2
      · unfold ca_D; dsimp only; rw [if_pos z]; exact e3
    · have hin' : ca_in bs S (ca_norm m (L + R / 2) (R / 2) s) := by
        unfold ca_D at hinD; dsimp only at hinD; rw [if_neg z] at hinD; exact hinD
      have pre2 := ca_in_pre (xd_S_lt hS) (ca_in_ne (ca_norm_ne m _ (Nat.le_refl _) (Nat.le_refl _)) hin')
      dsimp only at pre2
      refine pl_lt (vl bs (s + 5) - L) (R / 2) cd rfl (by omega) (by omega) (fun y => absurd y (by omega)) (fun y => ?_)
      rw [cd]
      refine nm_r (lN_sub y) (nm_r (e' := nI (v / 2 ^ n)) (by rw [dv, show v / 2 ^ n % 2 = 1 by omega]; exact xe_2m _ 1) ?_)
      refine xw_normD (L := L + R / 2) (R := R / 2) (s := s) (j := j) (bs := bs) (S := S) m (xd_S_D (fz_D_decRange_decCode _ _ _) hS) (by simp only [gx_decRange_decCode]) (by simp only [gx_decRange_decCode]; exact at_1) ?_ pre2.1 pre2.2 (by omega) hin' ?_
      · simp only [gx_decRange_decCode]
        rw [Nat.sub_sub]
      · intro u' e1 e2 e3 f1 m1
        refine fin _ u' (fz_D_decRange_decCode _ _ _) (by simp only [gx_decRange_decCode]) ?_ ?_ ?_ f1 m1
        · unfold ca_D; dsimp only; rw [if_neg z]; exact e1
        · unfold ca_D; dsimp only; rw [if_neg z]; exact e2
        · unfold ca_D; dsimp only; rw [if_neg z]; exact e3
theorem xw_readDirect {post : Int32 → SX → Prop} {u : SX} {k v N S j : Nat} {bs : Nat → Nat} {A : CA} (hv : v < 2 ^ N) (hN : N < 20) (h : xd_A k bs S j A u) (hin : ca_in bs S (ca_X v N A)) (K : ∀ u' : SX, xd_A k bs S j (ca_X v N A) u' → fd_ u u' → post (nI v) u') : wpX_readDirect post u (nI N) := by
  rw [ex_readDirect]
  have e := xw_rdir hv hN N (N + 1) 0 u A (by omega) (by omega) h hin K
  rw [Nat.div_eq_of_lt hv] at e
  exact ⟨N + 1, e⟩
end
section
/-! ===== X: reading trees, kinds, lengths, distances ===== -/
theorem xr_mod (v n : Nat) : v % 2 ^ (n + 1) = v % 2 ^ n + v / 2 ^ n % 2 * 2 ^ n := by
  rw [Nat.mod_pow_succ, Nat.mul_comm]
theorem xr_1sh {N : Nat} (h : N < 20) : (1 : Int32) <<< (nI N &&& 31) = nI (2 ^ N) := by
  have p : 2 ^ N < 2 ^ 20 := Nat.pow_lt_pow_right (by omega) h
  rw [show (1 : Int32) = nI 1 from rfl, pk_shlN _ N (s_l N (by omega)) (by omega), Nat.one_mul]
theorem xw_rtree {post : Int32 → SX → Prop} {k base v M N S q : Nat} {bs : Nat → Nat} (hM : base + M ≤ 512) (hN : N < 20) : ∀ (n f j m : Nat) (u : SX) (A : CA), n < f → j + n = N → 2 ^ j ≤ m → (m + 1) * 2 ^ n ≤ 2 * M → xd_A k bs S q A u → ca_in bs S (ca_T k base v n m A) → (∀ u' : SX, xd_A k bs S q (ca_T k base v n m A) u' → fd_ u u' → post (nI (m * 2 ^ n + v % 2 ^ n - 2 ^ N)) u') → zx_readTree_5 post (nI base) (nI N) f (nI m) (nI j) u := by
  intro n
  induction n with
  | zero =>
    intro f j m u A hf hj hjm hm h hin K
    obtain ⟨f, rfl⟩ : ∃ g, f = g + 1 := ⟨f - 1, by omega⟩
    rw [ex_readTree_5]
    refine br_t (nI_le (by omega) (by omega)) ?_
    have e : j = N := by omega
    subst e
    rw [xr_1sh hN, pk_sub hjm]
    have K1 := K u h (fd_refl u)
    rw [Nat.pow_zero, Nat.mul_one, Nat.mod_one, Nat.add_zero] at K1
    exact K1
  | succ n ih =>
    intro f j m u A hf hj hjm hm h hin K
    obtain ⟨f, rfl⟩ : ∃ g, f = g + 1 := ⟨f - 1, by omega⟩
    have hb2 : v / 2 ^ n % 2 < 2 := Nat.mod_lt _ (by omega)
    have hm1 := xe_pow1 hm
    have g1 := ca_B_go (k := k) (a := base + m) (b := v / 2 ^ n % 2) h.2.1 h.2.2.1 A h.1
    have hin1 : ca_in bs S (ca_B k (base + m) (v / 2 ^ n % 2) A) := ca_in_ne (ca_T_go h.2.1 h.2.2.1 n _ _ g1.1).2.1 hin
    rw [ex_readTree_5, nI_add]
    refine br_f (nI_ge (by omega) (by omega)) ?_
    refine xw_readBit h (by omega) hb2 hin1 ?_
    intro u1 h1 f1
    rw [xe_2m]
    refine nm_e (nm_r (nI_1 j) ?_)
    refine ih f (j + 1) _ u1 _ (by omega) (by omega) (by rw [Nat.pow_succ]; omega) (xe_pow2 hm hb2) h1 hin ?_
    intro u' h2 f2
    have K1 := K u' h2 (fd_trans f1 f2)
    have e : m * 2 ^ (n + 1) + v % 2 ^ (n + 1) = (2 * m + v / 2 ^ n % 2) * 2 ^ n + v % 2 ^ n := by
      rw [xr_mod, Nat.pow_succ, Nat.add_mul, Nat.mul_comm (2 ^ n) 2, ← Nat.mul_assoc, Nat.mul_comm m 2]; omega
    rw [e] at K1
    exact K1
theorem xw_readTree {post : Int32 → SX → Prop} {u : SX} {k base v N S q : Nat} {bs : Nat → Nat} {A : CA} (hM : base + 2 ^ N ≤ 512) (hN : N < 20) (hv : v < 2 ^ N) (h : xd_A k bs S q A u) (hin : ca_in bs S (ca_T k base v N 1 A)) (K : ∀ u' : SX, xd_A k bs S q (ca_T k base v N 1 A) u' → fd_ u u' → post (nI v) u') : wpX_readTree post u (nI base) (nI N) := by
  rw [ex_readTree]
  refine ⟨N + 1, xw_rtree (M := 2 ^ N) hM hN N (N + 1) 0 1 u A (by omega) (by omega) (by rw [Nat.pow_zero]; omega) (Nat.le_refl _) h hin ?_⟩
  intro u' h1 f1
  rw [Nat.one_mul, Nat.add_sub_cancel_left, Nat.mod_eq_of_lt hv]
  exact K u' h1 f1
theorem nx_or (a b : Nat) : nI a ||| nI b = nI (a ||| b) := by
  apply Int32.toBitVec_inj.1
  show BitVec.ofNat 32 a ||| BitVec.ofNat 32 b = BitVec.ofNat 32 (a ||| b)
  apply BitVec.eq_of_getLsbD_eq
  intro i hi
  simp [hi]
theorem xr_or {x b j : Nat} (hx : x < 2 ^ j) (hb : b < 2) (hj : j < 20) : nI x ||| (nI b <<< (nI j &&& 31)) = nI (x + b * 2 ^ j) := by
  have p : 2 ^ j < 2 ^ 20 := Nat.pow_lt_pow_right (by omega) hj
  have q : b * 2 ^ j ≤ 1 * 2 ^ j := Nat.mul_le_mul_right _ (by omega)
  rw [pk_shlN _ j (s_l j (by omega)) (by omega), nx_or]
  have e := Nat.two_pow_add_eq_or_of_lt hx b
  rw [Nat.mul_comm (2 ^ j) b] at e
  rw [Nat.or_comm, ← e, Nat.add_comm]
theorem xw_rrev {post : Int32 → SX → Prop} {k base v M N S q : Nat} {bs : Nat → Nat} (hM : base + M ≤ 512) (hN : N < 20) : ∀ (n f j m : Nat) (u : SX) (A : CA), n < f → j + n = N → (m + 1) * 2 ^ n ≤ 2 * M → xd_A k bs S q A u → ca_in bs S (ca_V k base v n j m A) → (∀ u' : SX, xd_A k bs S q (ca_V k base v n j m A) u' → fd_ u u' → post (nI (v % 2 ^ N)) u') → zx_readReverse_8 post (nI base) (nI N) f (nI m) (nI (v % 2 ^ j)) (nI j) u := by
  intro n
  induction n with
  | zero =>
    intro f j m u A hf hj hm h hin K
    obtain ⟨f, rfl⟩ : ∃ g, f = g + 1 := ⟨f - 1, by omega⟩
    have e : j = N := by omega
    subst e
    rw [ex_readReverse_8]
    exact br_t (nI_le (by omega) (by omega)) (K u h (fd_refl u))
  | succ n ih =>
    intro f j m u A hf hj hm h hin K
    obtain ⟨f, rfl⟩ : ∃ g, f = g + 1 := ⟨f - 1, by omega⟩
    have hb2 : v / 2 ^ j % 2 < 2 := Nat.mod_lt _ (by omega)
    have hm1 := xe_pow1 hm
    have g1 := ca_B_go (k := k) (a := base + m) (b := v / 2 ^ j % 2) h.2.1 h.2.2.1 A h.1
    have hin1 : ca_in bs S (ca_B k (base + m) (v / 2 ^ j % 2) A) := ca_in_ne (ca_V_go h.2.1 h.2.2.1 n _ _ _ g1.1).2.1 hin
    rw [ex_readReverse_8, nI_add]
    refine br_f (nI_ge (by omega) (by omega)) ?_
    refine xw_readBit h (by omega) hb2 hin1 ?_
    intro u1 h1 f1
    rw [xe_2m, xr_or (Nat.mod_lt _ (Nat.pow_pos (by omega))) hb2 (by omega), ← xr_mod]
    refine nm_e (nm_e (nm_r (nI_1 j) ?_))
    exact ih f (j + 1) _ u1 _ (by omega) (by omega) (xe_pow2 hm hb2) h1 hin (fun u' h2 f2 => K u' h2 (fd_trans f1 f2))
theorem xw_readReverse {post : Int32 → SX → Prop} {u : SX} {k base v N S q : Nat} {bs : Nat → Nat} {A : CA} (hM : base + 2 ^ N ≤ 512) (hN : N < 20) (hv : v < 2 ^ N) (h : xd_A k bs S q A u) (hin : ca_in bs S (ca_V k base v N 0 1 A)) (K : ∀ u' : SX, xd_A k bs S q (ca_V k base v N 0 1 A) u' → fd_ u u' → post (nI v) u') : wpX_readReverse post u (nI base) (nI N) := by
  rw [ex_readReverse]
  have e := xw_rrev (post := post) (v := v) (M := 2 ^ N) hM hN N (N + 1) 0 1 u A (by omega) (by omega) (Nat.le_refl _) h hin (fun u' h1 f1 => by rw [Nat.mod_eq_of_lt hv]; exact K u' h1 f1)
  rw [Nat.pow_zero, Nat.mod_one] at e
  exact ⟨N + 1, e⟩
theorem xr_flag {post : Int32 → SX → Prop} {u : SX} {k st S q d : Nat} {bs : Nat → Nat} (t b : Nat) {A B : CA} (h : xd_A k bs S q A u) (hst : qx_figures u 8 = nI st) (h12 : st < 12) (ht : t < 6) (hb : b < 2) (g : ca_go d (ca_F k t b st A) B) (hin : ca_in bs S B) (K : ∀ u' : SX, xd_A k bs S q (ca_F k t b st A) u' → qx_figures u' 8 = nI st → fd_ u u' → post (nI b) u') : wpX_readFlag post u (nI t) := by
  rw [ex_readFlag, hst]
  rw [show nI t * 12 + nI st = nI (t * 12 + st) by rw [show (12 : Int32) = nI 12 from rfl, pk_mul, nI_add]]
  have ok1 := (ca_F_go h.2.1 h.2.2.1 t b st A h.1).1
  exact xw_readBit h (by omega) hb (ca_in_ne (g ok1).2.1 hin) (fun u' h1 f1 => K u' h1 (by rw [fr_D_figures f1.1]; exact hst) f1)
section
variable {post : Int32 → SX → Prop} {u : SX} {k st S q : Nat} {bs : Nat → Nat} {A : CA}
theorem xr_K1 (h : xd_A k bs S q A u) (hst : qx_figures u 8 = nI st) (h12 : st < 12) (hin : ca_in bs S (ca_K k 1 st A)) (K : ∀ u' : SX, xd_A k bs S q (ca_K k 1 st A) u' → fd_ u u' → post 1 u') : wpX_readKind post u := by
  rw [ca_Ke1] at K hin
  rw [ex_readKind]
  exact xr_flag 0 0 h hst h12 (by decide) (by decide) (ca_go_refl _) hin (fun u1 h1 _ f1 => br_t rfl (K u1 h1 f1))
theorem xr_K2 (h : xd_A k bs S q A u) (hst : qx_figures u 8 = nI st) (h12 : st < 12) (hin : ca_in bs S (ca_K k 2 st A)) (K : ∀ u' : SX, xd_A k bs S q (ca_K k 2 st A) u' → fd_ u u' → post 2 u') : wpX_readKind post u := by
  have F := fun t b A => ca_F_go h.2.1 h.2.2.1 t b st A
  rw [ca_Ke2] at K hin
  rw [ex_readKind]
  exact xr_flag 0 1 h hst h12 (by decide) (by decide) (F 1 0 _) hin (fun u1 h1 s1 f1 => br_f (by decide) (xr_flag 1 0 h1 s1 h12 (by decide) (by decide) (ca_go_refl _) hin (fun u2 h2 _ f2 => br_t rfl (K u2 h2 (fd_trans f1 f2)))))
theorem xr_K3 (h : xd_A k bs S q A u) (hst : qx_figures u 8 = nI st) (h12 : st < 12) (hin : ca_in bs S (ca_K k 3 st A)) (K : ∀ u' : SX, xd_A k bs S q (ca_K k 3 st A) u' → fd_ u u' → post 3 u') : wpX_readKind post u := by
  have F := fun t b A => ca_F_go h.2.1 h.2.2.1 t b st A
  rw [ca_Ke3] at K hin
  rw [ex_readKind]
  refine xr_flag 0 1 h hst h12 (by decide) (by decide) (ca_go_trans (ca_go_trans (F 1 1 _) (F 2 0 _)) (F 5 0 _)) hin (fun u1 h1 s1 f1 => br_f (by decide) (xr_flag 1 1 h1 s1 h12 (by decide) (by decide) (ca_go_trans (F 2 0 _) (F 5 0 _)) hin (fun u2 h2 s2 f2 => br_f (by decide) ?_)))
  refine xr_flag 2 0 h2 s2 h12 (by decide) (by decide) (F 5 0 _) hin (fun u3 h3 s3 f3 => br_t rfl ?_)
  exact xr_flag 5 0 h3 s3 h12 (by decide) (by decide) (ca_go_refl _) hin (fun u4 h4 _ f4 => br_f (by decide) (K u4 h4 (fd_trans f1 (fd_trans f2 (fd_trans f3 f4)))))
theorem xr_K4 (h : xd_A k bs S q A u) (hst : qx_figures u 8 = nI st) (h12 : st < 12) (hin : ca_in bs S (ca_K k 4 st A)) (K : ∀ u' : SX, xd_A k bs S q (ca_K k 4 st A) u' → fd_ u u' → post 4 u') : wpX_readKind post u := by
  have F := fun t b A => ca_F_go h.2.1 h.2.2.1 t b st A
  rw [ca_Ke4] at K hin
  rw [ex_readKind]
  refine xr_flag 0 1 h hst h12 (by decide) (by decide) (ca_go_trans (ca_go_trans (F 1 1 _) (F 2 0 _)) (F 5 1 _)) hin (fun u1 h1 s1 f1 => br_f (by decide) (xr_flag 1 1 h1 s1 h12 (by decide) (by decide) (ca_go_trans (F 2 0 _) (F 5 1 _)) hin (fun u2 h2 s2 f2 => br_f (by decide) ?_)))
  refine xr_flag 2 0 h2 s2 h12 (by decide) (by decide) (F 5 1 _) hin (fun u3 h3 s3 f3 => br_t rfl ?_)
  exact xr_flag 5 1 h3 s3 h12 (by decide) (by decide) (ca_go_refl _) hin (fun u4 h4 _ f4 => br_t rfl (K u4 h4 (fd_trans f1 (fd_trans f2 (fd_trans f3 f4)))))
theorem xr_K5 (h : xd_A k bs S q A u) (hst : qx_figures u 8 = nI st) (h12 : st < 12) (hin : ca_in bs S (ca_K k 5 st A)) (K : ∀ u' : SX, xd_A k bs S q (ca_K k 5 st A) u' → fd_ u u' → post 5 u') : wpX_readKind post u := by
  have F := fun t b A => ca_F_go h.2.1 h.2.2.1 t b st A
  rw [ca_Ke5] at K hin
  rw [ex_readKind]
  refine xr_flag 0 1 h hst h12 (by decide) (by decide) (ca_go_trans (ca_go_trans (F 1 1 _) (F 2 1 _)) (F 3 0 _)) hin (fun u1 h1 s1 f1 => br_f (by decide) (xr_flag 1 1 h1 s1 h12 (by decide) (by decide) (ca_go_trans (F 2 1 _) (F 3 0 _)) hin (fun u2 h2 s2 f2 => br_f (by decide) ?_)))
  refine xr_flag 2 1 h2 s2 h12 (by decide) (by decide) (F 3 0 _) hin (fun u3 h3 s3 f3 => br_f (by decide) ?_)
  exact xr_flag 3 0 h3 s3 h12 (by decide) (by decide) (ca_go_refl _) hin (fun u4 h4 _ f4 => br_t rfl (K u4 h4 (fd_trans f1 (fd_trans f2 (fd_trans f3 f4)))))
theorem xr_K67 (e : Nat) (he : e < 2) (h : xd_A k bs S q A u) (hst : qx_figures u 8 = nI st) (h12 : st < 12) (hin : ca_in bs S (ca_F k 4 e st (ca_F k 3 1 st (ca_F k 2 1 st (ca_F k 1 1 st (ca_F k 0 1 st A)))))) (K : ∀ u' : SX, xd_A k bs S q (ca_F k 4 e st (ca_F k 3 1 st (ca_F k 2 1 st (ca_F k 1 1 st (ca_F k 0 1 st A))))) u' → fd_ u u' → post (if e = 1 then 7 else 6) u') : wpX_readKind post u := by
  have F := fun t b A => ca_F_go h.2.1 h.2.2.1 t b st A
  rw [ex_readKind]
  refine xr_flag 0 1 h hst h12 (by decide) (by decide) (ca_go_trans (ca_go_trans (ca_go_trans (F 1 1 _) (F 2 1 _)) (F 3 1 _)) (F 4 e _)) hin (fun u1 h1 s1 f1 => br_f (by decide) (xr_flag 1 1 h1 s1 h12 (by decide) (by decide) (ca_go_trans (ca_go_trans (F 2 1 _) (F 3 1 _)) (F 4 e _)) hin (fun u2 h2 s2 f2 => br_f (by decide) ?_)))
  refine xr_flag 2 1 h2 s2 h12 (by decide) (by decide) (ca_go_trans (F 3 1 _) (F 4 e _)) hin (fun u3 h3 s3 f3 => br_f (by decide) ?_)
  refine xr_flag 3 1 h3 s3 h12 (by decide) (by decide) (F 4 e _) hin (fun u4 h4 s4 f4 => br_f (by decide) ?_)
  refine xr_flag 4 e h4 s4 h12 (by decide) he (ca_go_refl _) hin (fun u5 h5 _ f5 => ?_)
  have K1 := K u5 h5 (fd_trans f1 (fd_trans f2 (fd_trans f3 (fd_trans f4 f5))))
  refine pk_eq e 1 (fun z => ?_) (fun z => ?_)
  · rw [if_pos z] at K1; exact K1
  · rw [if_neg z] at K1; exact K1
end
theorem xr_len {post : Int32 → SX → Prop} {u : SX} {k base len S q : Nat} {bs : Nat → Nat} {A : CA} (h2 : 2 ≤ len) (h17 : len ≤ 17) (hb : base + 16 ≤ 512) (h : xd_A k bs S q A u) (hin : ca_in bs S (ca_N k base len A)) (K : ∀ u' : SX, xd_A k bs S q (ca_N k base len A) u' → fd_ u u' → post (nI len) u') : wpX_readLength post u (nI base) := by
  rw [ex_readLength]
  have hb2 : (len - 2) / 8 % 2 < 2 := Nat.mod_lt _ (by omega)
  have ok1 := (ca_B_go (a := base) (b := (len - 2) / 8 % 2) h.2.1 h.2.2.1 A h.1).1
  refine xw_readBit h (by omega) hb2 (ca_in_ne (ca_T_go h.2.1 h.2.2.1 3 _ _ ok1).2.1 hin) ?_
  intro u1 h1 f1
  rw [show (8 : Int32) = nI 8 from rfl, pk_mul, nI_add]
  refine xw_readTree (v := (len - 2) % 8) (N := 3) (by omega) (by omega) (by omega) h1 hin ?_
  intro u' h3 f2
  rw [show (2 : Int32) = nI 2 from rfl, nI_add, nI_add, show 2 + 8 * ((len - 2) / 8 % 2) + (len - 2) % 8 = len by omega]
  exact K u' h3 (fd_trans f1 f2)
theorem xr_dist {post : Int32 → SX → Prop} {u : SX} {k v len S q : Nat} {bs : Nat → Nat} {A : CA} (hv : v < 256) (h2 : 2 ≤ len) (h17 : len ≤ 17) (h : xd_A k bs S q A u) (hin : ca_in bs S (ca_S k v len A)) (K : ∀ u' : SX, xd_A k bs S q (ca_S k v len A) u' → fd_ u u' → post (nI v) u') : wpX_readDistance post u (nI len) := by
  rw [ex_readDistance]
  have F := sl_facts v hv
  refine xw_slotTree h2 h17 ?_
  have okT := (ca_T_go (base := sl_tree len) (v := sl_of v) h.2.1 h.2.2.1 4 1 A h.1).1
  have hin0 : ca_in bs S (ca_T k (sl_tree len) (sl_of v) 4 1 A) := by
    unfold ca_S at hin
    by_cases z : sl_of v < 4
    · rw [if_pos z] at hin; exact hin
    · rw [if_neg z] at hin
      by_cases y : sl_of v < 10
      · rw [if_pos y] at hin
        exact ca_in_ne (ca_V_go h.2.1 h.2.2.1 _ _ _ _ okT).2.1 hin
      · rw [if_neg y] at hin
        have okX := ca_X_go ((v - sl_start (sl_of v)) / 4) (sl_bits (sl_of v) - 2) _ okT
        exact ca_in_ne okX.2.1 (ca_in_ne (ca_V_go h.2.1 h.2.2.1 _ _ _ _ okX.1).2.1 hin)
  refine xw_readTree (v := sl_of v) (N := 4) (by unfold sl_tree; split <;> omega) (by omega) (by omega) h hin0 ?_
  intro u1 h1 f1
  unfold ca_S at K hin
  refine pk_le 4 (sl_of v) (fun z => ?_) (fun z => ?_) rfl rfl (by omega) (by omega)
  · rw [if_neg (by omega)] at K hin
    have G := F.2.1 z
    rw [sl_b F.1 z]
    refine nm_e ?_
    rw [sl_st F.1 z]
    refine nm_e ?_
    refine pk_le 10 (sl_of v) (fun y => ?_) (fun y => ?_) rfl rfl (by omega) (by omega)
    · rw [if_neg (by omega)] at K hin
      have b2 := G.2.2.2.2.1 y
      have okX := ca_X_go ((v - sl_start (sl_of v)) / 4) (sl_bits (sl_of v) - 2) _ okT
      rw [show nI (sl_bits (sl_of v)) - 2 = nI (sl_bits (sl_of v) - 2) from pk_sub (b := 2) b2]
      have hp : (v - sl_start (sl_of v)) / 4 < 2 ^ (sl_bits (sl_of v) - 2) := by
        have := G.2.1
        rw [Nat.div_lt_iff_lt_mul (by omega), show (4 : Nat) = 2 ^ 2 from rfl, ← Nat.pow_add, Nat.sub_add_cancel b2]
        exact this
      refine xw_readDirect hp (by omega) h1 (ca_in_ne (ca_V_go h.2.1 h.2.2.1 _ _ _ _ okX.1).2.1 hin) ?_
      intro u2 h3 f2
      refine xw_readReverse (base := 472) (v := (v - sl_start (sl_of v)) % 4) (N := 2) (by omega) (by omega) (by omega) h3 hin ?_
      intro u3 h4 f3
      have K1 := K u3 h4 (fd_trans f1 (fd_trans f2 f3))
      rw [show nI ((v - sl_start (sl_of v)) / 4) <<< ((2 : Int32) &&& 31) = nI ((v - sl_start (sl_of v)) / 4 * 4) from pk_shlN _ 2 (by decide) (by omega), nI_add, nI_add]
      rw [show sl_start (sl_of v) + (v - sl_start (sl_of v)) / 4 * 4 + (v - sl_start (sl_of v)) % 4 = v by have := G.1; omega]
      exact K1
    · rw [if_pos y] at K hin
      rw [sl_rb F.1 z]
      have b3 := G.2.2.2.2.2 y
      have p8 : 2 ^ sl_bits (sl_of v) ≤ 2 ^ 3 := Nat.pow_le_pow_right (by omega) b3
      refine xw_readReverse (v := v - sl_start (sl_of v)) (by omega) (by omega) G.2.1 h1 hin ?_
      intro u2 h3 f2
      rw [nI_add, show sl_start (sl_of v) + (v - sl_start (sl_of v)) = v by have := G.1; omega]
      exact K u2 h3 (fd_trans f1 f2)
  · rw [if_pos z] at K
    have e := F.2.2 z
    have K1 := K u1 h1 f1
    rw [e]
    exact K1
end
section
/-! ===== the output bytes ===== -/
def ot_c (p d : Nat) : Nat → (Nat → Nat) → (Nat → Nat)
  | 0, o => o
  | n + 1, o => cm_u (ot_c p d n o) (p + n) (ot_c p d n o (p + n - d))
def ot_t (t : TK) (p : Nat) (o : Nat → Nat) : Nat → Nat := if t.1 = 1 then cm_u o p t.2.2.2 else ot_c p t.2.2.1 t.2.1 o
theorem xw_setOutput {post : SX → Prop} {u : SX} {p j : Nat} {x : Int32} (hp : qx_figures u 6 = nI p) (h : p + j < 64) (K : post (ux_output (upd (qx_output u) (p + j) x) u)) : wpX_setOutput post u (nI j) x := by
  rw [ex_setOutput, hp]
  refine nm_r (nI_add p j) ?_
  rw [nI_clamp (show p + j < 2 ^ 31 by omega)]
  exact br_f (nI_pos (by omega)) (br_f (nI_ge (b := 64) (by omega) (by omega)) ⟨vp_in_nI h (by omega), nm_e K⟩)
theorem xw_copy_l {post : SX → Prop} {u : SX} {p d ln : Nat} {o : Nat → Nat} (hp : qx_figures u 6 = nI p) (hd : 1 ≤ d) (hdp : d ≤ p) (hl : p + ln ≤ 64) : ∀ (n f j : Nat) (w : Nat → Int32), n < f → j + n = ln → (∀ i, i < p + j → w i = nI (ot_c p d j o i)) → (∀ w' : Nat → Int32, (∀ i, i < p + ln → w' i = nI (ot_c p d ln o i)) → post (ux_output w' u)) → zx_copyOutput_11 post (nI d) (nI ln) (nI p) f (nI j) (ux_output w u) := by
  intro n
  induction n with
  | zero =>
    intro f j w hf hj hw K
    obtain ⟨f, rfl⟩ : ∃ g, f = g + 1 := ⟨f - 1, by omega⟩
    have e : j = ln := by omega
    subst e
    rw [ex_copyOutput_11]
    exact br_t (nI_le (by omega) (by omega)) (K w hw)
  | succ n ih =>
    intro f j w hf hj hw K
    obtain ⟨f, rfl⟩ : ∃ g, f = g + 1 := ⟨f - 1, by omega⟩
    rw [ex_copyOutput_11, nI_add, pk_sub (show d ≤ p + j by omega)]
    refine br_f (nI_ge (by omega) (by omega)) (nm_e ?_)
    rw [nI_clamp (show p + j - d < 2 ^ 31 by omega)]
    refine br_f (nI_pos (by omega)) (br_f (nI_ge (b := 64) (by omega) (by omega)) ⟨vp_in_nI (by omega) (by omega), ?_⟩)
    refine xw_setOutput (u := ux_output w u) (p := p) hp (by omega) (nm_r (nI_1 j) ?_)
    rw [sx_output]
    refine ih f (j + 1) (upd w (p + j) (w (p + j - d))) (by omega) (by omega) ?_ K
    intro i hi
    show _ = nI (cm_u (ot_c p d j o) (p + j) (ot_c p d j o (p + j - d)) i)
    by_cases e : i = p + j
    · rw [e, pk_us, cm_us]; exact hw _ (by omega)
    · rw [pk_un e, cm_un e]; exact hw i (by omega)
theorem xw_copyOutput {post : SX → Prop} {u : SX} {p d ln : Nat} {o : Nat → Nat} (hp : qx_figures u 6 = nI p) (hd : 1 ≤ d) (hdp : d ≤ p) (hl : p + ln ≤ 64) (ho : ∀ i, i < p → qx_output u i = nI (o i)) (K : ∀ w' : Nat → Int32, (∀ i, i < p + ln → w' i = nI (ot_c p d ln o i)) → post (ux_output w' u)) : wpX_copyOutput post u (nI d) (nI ln) := by
  rw [ex_copyOutput, hp]
  exact nm_e ⟨ln + 1, xw_copy_l (u := u) hp hd hdp hl ln (ln + 1) 0 (qx_output u) (by omega) (by omega) ho K⟩
/-! ===== X: readItem ===== -/
def fo_ (u u' : SX) : Prop := fr_O u' = fr_O u ∧ (∀ i, i < 512 → qx_model u' i = qx_model u i) ∧ (∀ i, i < 6 → qx_figures u' i = qx_figures u i) ∧ (∀ i, i < 4 → qx_reps u' i = qx_reps u i)
theorem fo_refl (u : SX) : fo_ u u := ⟨rfl, fun _ _ => rfl, fun _ _ => rfl, fun _ _ => rfl⟩
theorem fo_trans {u v w : SX} (h : fo_ u v) (g : fo_ v w) : fo_ u w := ⟨g.1.trans h.1, fun i hi => (g.2.1 i hi).trans (h.2.1 i hi), fun i hi => (g.2.2.1 i hi).trans (h.2.2.1 i hi), fun i hi => (g.2.2.2 i hi).trans (h.2.2.2 i hi)⟩
theorem fo_fd {u u' : SX} (h : fd_ u u') : fo_ u u' := ⟨fr_DO h.1, h.2, fun i _ => by rw [fr_D_figures h.1], fun i _ => by rw [fr_D_reps h.1]⟩
theorem fo_fh {u u' : SX} (h : fh_ 1 u u') : fo_ u u' := ⟨fr_HO h.1, fun i _ => by rw [fr_H_model h.1], fun i hi => h.2.1 i (by omega), fun i hi => h.2.2 i (by omega)⟩
theorem xd_A_fh {sd k S j : Nat} {bs : Nat → Nat} {A : CA} {u u' : SX} (h : fh_ sd u u') (x : xd_A k bs S j A u) : xd_A k bs S j A u' := by
  have f := h.1
  unfold xd_A xd_S at *
  rw [fr_H_shift f, fr_H_decRange f, fr_H_model f, fr_H_decAt f, fr_H_decCode f, fr_H_decSlot f, fr_H_slots f, fr_H_storeLength f, fr_H_store f]
  exact x
theorem xh_D {sd : Nat} {h : HH} {u u' : SX} (f : fr_D u' = fr_D u) (x : xh_ sd h u) : xh_ sd h u' := by
  unfold xh_ at *
  rw [fr_D_figures f, fr_D_reps f]
  exact x
theorem xh_out {sd : Nat} {h : HH} {u : SX} (w : Nat → Int32) (x : xh_ sd h u) : xh_ sd h (ux_output w u) := by
  unfold xh_ at *
  simp only [gx_output]
  exact x
theorem xd_out {k S j : Nat} {bs : Nat → Nat} {A : CA} {u : SX} (w : Nat → Int32) (x : xd_A k bs S j A u) : xd_A k bs S j A (ux_output w u) := by
  unfold xd_A xd_S at *
  simp only [gx_output]
  exact x
/-- the end of readItem: the output w is set, applyToken is owed -/
theorem xr_tokend {post : Int32 → SX → Prop} {u0 u : SX} {k S j : Nat} {bs : Nat → Nat} {A : CA} {t : TK} {h : HH} {o' : Nat → Nat} {w : Nat → Int32} (f : fd_ u0 u) (hA : xd_A k bs S j A u) (hh : xh_ 1 h u0) (ok : hs_ok h) (g : tk_ok t h) (hw : ∀ i, i < h.1 + t.2.1 → w i = nI (o' i)) (K : ∀ u' : SX, xd_A k bs S j A u' → xh_ 1 (hs_t t h) u' → (∀ i, i < h.1 + t.2.1 → qx_output u' i = nI (o' i)) → fo_ u0 u' → qx_decEnded u' = qx_decEnded u0 → post (nI t.1) u') : zx_readItem_123 post (nI t.1) (nI t.2.1) (nI t.2.2.1) (ux_output w u) := by
  rw [ex_readItem_123]
  refine xw_applyToken (sd := 1) (u := ux_output w u) (by omega) (xh_out w (xh_D f.1 hh)) ok g ?_
  intro u' x1 x2
  have q1 := fr_H_output x2.1
  have q2 := fr_H_decEnded x2.1
  simp only [gx_output] at q1 q2
  have e3 : qx_output u' = w ∧ qx_decEnded u' = qx_decEnded u := ⟨q1, q2⟩
  refine K u' (xd_A_fh x2 (xd_out w hA)) x1 (by rw [e3.1]; exact hw) (fo_trans (fo_fd f) (fo_trans (v := ux_output w u) ⟨rfl, fun _ _ => rfl, fun _ _ => rfl, fun _ _ => rfl⟩ (fo_fh x2))) ?_
  rw [e3.2, fr_D_decEnded f.1]
theorem xr_copyend {post : Int32 → SX → Prop} {u0 u : SX} {k S j : Nat} {bs : Nat → Nat} {A : CA} {t : TK} {h : HH} {o : Nat → Nat} (t1 : t.1 ≠ 1) (f : fd_ u0 u) (hA : xd_A k bs S j A u) (hh : xh_ 1 h u0) (ok : hs_ok h) (g : tk_ok t h) (ho : ∀ i, i < h.1 → qx_output u0 i = nI (o i)) (K : ∀ u' : SX, xd_A k bs S j A u' → xh_ 1 (hs_t t h) u' → (∀ i, i < h.1 + t.2.1 → qx_output u' i = nI (ot_t t h.1 o i)) → fo_ u0 u' → qx_decEnded u' = qx_decEnded u0 → post (nI t.1) u') : zx_readItem_112 post (nI t.1) (nI t.2.1) (nI t.2.2.1) u := by
  have d8 := g.2.2.2.2.2.2.2.1 t1
  have l64 := g.2.2.2.2.1
  have k7 := g.2.1
  rw [ex_readItem_112]
  refine pk_eq t.1 1 (fun z => absurd z t1) (fun _ => ?_)
  refine xw_copyOutput (o := o) (p := h.1) (by rw [fr_D_figures f.1]; exact hh.1) d8.1 d8.2 l64 (by rw [fr_D_output f.1]; exact ho) ?_
  intro w hw
  refine xr_tokend (o' := ot_t t h.1 o) f hA hh ok g ?_ K
  unfold ot_t
  rw [if_neg t1]
  exact hw
theorem xw_readItem {post : Int32 → SX → Prop} {u : SX} {k S j : Nat} {bs : Nat → Nat} {A : CA} {t : TK} {h : HH} {o : Nat → Nat} (hA : xd_A k bs S j A u) (hh : xh_ 1 h u) (ok : hs_ok h) (g : tk_ok t h) (ho : ∀ i, i < h.1 → qx_output u i = nI (o i)) (hin : ca_in bs S (ca_tok k t h.2.2.1 A)) (K : ∀ u' : SX, xd_A k bs S j (ca_tok k t h.2.2.1 A) u' → xh_ 1 (hs_t t h) u' → (∀ i, i < h.1 + t.2.1 → qx_output u' i = nI (ot_t t h.1 o i)) → fo_ u u' → qx_decEnded u' = qx_decEnded u → post (nI t.1) u') : wpX_readItem post u := by
  have g0 := g
  obtain ⟨kd, ln, ds, bt_⟩ := t
  obtain ⟨g1, g2, g3, g4, g5, g6, g7, g8, g9, g10, g11⟩ := g
  have st : qx_figures u 8 = nI h.2.2.1 := hh.2.2.1
  have s12 := ok.2.2.1
  have po : qx_figures u 6 = nI h.1 := hh.1
  have rp : ∀ i, i < 4 → qx_reps u (4 + i) = nI (h.2.2.2.2.2.2 i) := hh.2.2.2.2.2.2
  have k4 := hA.2.1
  have k6 := hA.2.2.1
  have hok := hA.1
  have okK := fun kd => (ca_K_go k4 k6 kd h.2.2.1 A hok).1
  dsimp only at *
  rw [ex_readItem]
  have kk : kd = 1 ∨ kd = 2 ∨ kd = 3 ∨ kd = 4 ∨ kd = 5 ∨ kd = 6 ∨ kd = 7 := by omega
  rcases kk with rfl | rfl | rfl | rfl | rfl | rfl | rfl
  · rw [ca_te1] at K hin
    have hT := ca_T_go (base := 72) (v := bt_) k4 k6 8 1 _ (okK 1)
    obtain ⟨rfl, rfl⟩ := g7 rfl
    refine xr_K1 hA st s12 (ca_in_ne hT.2.1 hin) ?_
    intro u1 h1 f1
    refine br_t rfl ?_
    refine xw_readTree (base := 72) (N := 8) (v := bt_) (by omega) (by omega) (by omega) h1 hin ?_
    intro u2 h2 f2
    have f := fd_trans f1 f2
    refine xw_setOutput (j := 0) (p := h.1) (by rw [fr_D_figures f.1]; exact po) (by omega) ?_
    rw [ex_readItem_112]
    refine br_t rfl ?_
    refine xr_tokend (t := (1, 1, 0, bt_)) (o' := ot_t (1, 1, 0, bt_) h.1 o) f h2 hh ok g0 ?_ K
    intro i hi
    show upd (qx_output u2) (h.1 + 0) (nI bt_) i = nI (cm_u o h.1 bt_ i)
    dsimp only at hi
    by_cases e : i = h.1
    · rw [e, cm_us]; exact pk_us
    · rw [cm_un e, pk_un (by omega), fr_D_output f.1]; exact ho i (by omega)
  · have l2 := g10 (by decide) (by decide)
    have d8 := g8 (by decide)
    rw [ca_te2] at K hin
    have hN := ca_N_go k4 k6 328 ln _ (okK 2)
    have hS := ca_S_go k4 k6 (show ds - 1 < 256 by omega) ln _ hN.1
    have hinN : ca_in bs S (ca_N k 328 ln (ca_K k 2 h.2.2.1 A)) := ca_in_ne hS.2.1 hin
    refine xr_K2 hA st s12 (ca_in_ne hN.2.1 hinN) ?_
    intro u1 h1 f1
    refine br_f (by decide) (br_t rfl ?_)
    refine xr_len (base := 328) l2 g4 (by omega) h1 hinN ?_
    intro u2 h2 f2
    refine xr_dist (v := ds - 1) (by omega) l2 g4 h2 hin ?_
    intro u3 h3 f3
    refine pk_eq (ds - 1) 255 (fun z => absurd z (by omega)) (fun _ => nm_r (e' := nI ds) (by rw [nI_1, Nat.sub_add_cancel d8.1]) ?_)
    exact xr_copyend (t := (2, ln, ds, bt_)) (by show (2 : Nat) ≠ 1; decide) (fd_trans f1 (fd_trans f2 f3)) h3 hh ok g0 ho K
  · rw [ca_te3] at K hin
    obtain ⟨rfl, e9⟩ := g9 rfl
    refine xr_K3 hA st s12 hin ?_
    intro u1 h1 f1
    refine br_f (by decide) (br_f (by decide) (br_t rfl (nm_r (e' := nI ds) (by rw [fr_D_reps f1.1, e9]; exact rp 0 (by omega)) ?_)))
    exact xr_copyend (t := (3, 1, ds, bt_)) (by show (3 : Nat) ≠ 1; decide) f1 h1 hh ok g0 ho K
  · have l2 := g10 (by decide) (by decide)
    rw [ca_te (show 4 ≤ 4 by decide)] at K hin
    have hN := ca_N_go k4 k6 344 ln _ (okK 4)
    refine xr_K4 hA st s12 (ca_in_ne hN.2.1 hin) ?_
    intro u1 h1 f1
    refine br_f (by decide) (br_f (by decide) (br_f (by decide) ?_))
    refine xr_len (base := 344) l2 g4 (by omega) h1 hin ?_
    intro u2 h2 f2
    have f := fd_trans f1 f2
    refine ⟨pk_in 4 8 (by omega) (by decide), nm_r (e' := nI ds) (by rw [fr_D_reps f.1, g11 (by omega)]; exact rp 0 (by omega)) ?_⟩
    exact xr_copyend (t := (4, ln, ds, bt_)) (by show (4 : Nat) ≠ 1; decide) f h2 hh ok g0 ho K
  · have l2 := g10 (by decide) (by decide)
    rw [ca_te (show 4 ≤ 5 by decide)] at K hin
    have hN := ca_N_go k4 k6 344 ln _ (okK 5)
    refine xr_K5 hA st s12 (ca_in_ne hN.2.1 hin) ?_
    intro u1 h1 f1
    refine br_f (by decide) (br_f (by decide) (br_f (by decide) ?_))
    refine xr_len (base := 344) l2 g4 (by omega) h1 hin ?_
    intro u2 h2 f2
    have f := fd_trans f1 f2
    refine ⟨pk_in 5 8 (by omega) (by decide), nm_r (e' := nI ds) (by rw [fr_D_reps f.1, g11 (by omega)]; exact rp 1 (by omega)) ?_⟩
    exact xr_copyend (t := (5, ln, ds, bt_)) (by show (5 : Nat) ≠ 1; decide) f h2 hh ok g0 ho K
  · have l2 := g10 (by decide) (by decide)
    rw [ca_te (show 4 ≤ 6 by decide)] at K hin
    have hN := ca_N_go k4 k6 344 ln _ (okK 6)
    have hin6 := ca_in_ne hN.2.1 hin
    rw [ca_Ke6] at hin6
    refine xr_K67 0 (by omega) hA st s12 hin6 ?_
    rw [← ca_Ke6]
    intro u1 h1 f1
    refine br_f (by decide) (br_f (by decide) (br_f (by decide) ?_))
    refine xr_len (base := 344) l2 g4 (by omega) h1 hin ?_
    intro u2 h2 f2
    have f := fd_trans f1 f2
    refine ⟨pk_in 6 8 (by omega) (by decide), nm_r (e' := nI ds) (by rw [fr_D_reps f.1, g11 (by omega)]; exact rp 2 (by omega)) ?_⟩
    exact xr_copyend (t := (6, ln, ds, bt_)) (by show (6 : Nat) ≠ 1; decide) f h2 hh ok g0 ho K
  · have l2 := g10 (by decide) (by decide)
    rw [ca_te (show 4 ≤ 7 by decide)] at K hin
    have hN := ca_N_go k4 k6 344 ln _ (okK 7)
    have hin7 := ca_in_ne hN.2.1 hin
    rw [ca_Ke7] at hin7
    refine xr_K67 1 (by omega) hA st s12 hin7 ?_
    rw [← ca_Ke7]
    intro u1 h1 f1
    refine br_f (by decide) (br_f (by decide) (br_f (by decide) ?_))
    refine xr_len (base := 344) l2 g4 (by omega) h1 hin ?_
    intro u2 h2 f2
    have f := fd_trans f1 f2
    refine ⟨pk_in 7 8 (by omega) (by decide), nm_r (e' := nI ds) (by rw [fr_D_reps f.1, g11 (by omega)]; exact rp 3 (by omega)) ?_⟩
    exact xr_copyend (t := (7, ln, ds, bt_)) (by show (7 : Nat) ≠ 1; decide) f h2 hh ok g0 ho K
/-- the end marker -/
theorem xw_readEnd {post : Int32 → SX → Prop} {u : SX} {k S j st : Nat} {bs : Nat → Nat} {A : CA} (hA : xd_A k bs S j A u) (hst : qx_figures u 8 = nI st) (h12 : st < 12) (hin : ca_in bs S (ca_end k st A)) (K : ∀ u' : SX, xd_A k bs S j (ca_end k st A) u' → fd_ u u' → post 8 (ux_decEnded 1 u')) : wpX_readItem post u := by
  have k4 := hA.2.1
  have k6 := hA.2.2.1
  unfold ca_end at K hin
  have hN := ca_N_go k4 k6 328 2 _ (ca_K_go k4 k6 2 st A hA.1).1
  have hS := ca_S_go k4 k6 (show 255 < 256 by omega) 2 _ hN.1
  have hinN : ca_in bs S (ca_N k 328 2 (ca_K k 2 st A)) := ca_in_ne hS.2.1 hin
  rw [ex_readItem]
  refine xr_K2 hA hst h12 (ca_in_ne hN.2.1 hinN) ?_
  intro u1 h1 f1
  refine br_f (by decide) (br_t rfl ?_)
  refine xr_len (base := 328) (len := 2) (by omega) (by omega) (by omega) h1 hinN ?_
  intro u2 h2 f2
  refine xr_dist (v := 255) (len := 2) (by omega) (by omega) (by omega) h2 hin ?_
  intro u3 h3 f3
  exact br_t rfl (K u3 h3 (fd_trans f1 (fd_trans f2 f3)))
end
section
/-! ===== streams of tokens ===== -/
def ca_0 : CA := (fun _ => 1024, 0, 4294967295, 0)
theorem ca_0_ok : ca_ok ca_0 := ⟨fun _ => ⟨show 15 ≤ 1024 by decide, show 1024 ≤ 2033 by decide⟩, by decide, by decide, by decide⟩
def sq_H (T : Nat → TK) : Nat → HH
  | 0 => hs_0
  | i + 1 => hs_t (T i) (sq_H T i)
def sq_A (k : Nat) (T : Nat → TK) : Nat → CA
  | 0 => ca_0
  | i + 1 => ca_tok k (T i) (sq_H T i).2.2.1 (sq_A k T i)
def sq_O (T : Nat → TK) : Nat → (Nat → Nat)
  | 0 => fun _ => 0
  | i + 1 => ot_t (T i) (sq_H T i).1 (sq_O T i)
def sq_ok (T : Nat → TK) (c : Nat) : Prop := ∀ i, i < c → tk_ok (T i) (sq_H T i)
theorem sq_ok_le {T : Nat → TK} {c d : Nat} (h : sq_ok T c) (e : d ≤ c) : sq_ok T d := fun i hi => h i (by omega)
theorem sq_H_ok {T : Nat → TK} : ∀ c, sq_ok T c → hs_ok (sq_H T c) := by
  intro c
  induction c with
  | zero => intro _; exact hs_0_ok
  | succ c ih => intro h; exact hs_t_ok (ih (sq_ok_le h (by omega))) (h c (by omega))
theorem sq_H_cnt (T : Nat → TK) : ∀ c, (sq_H T c).2.1 = c := by
  intro c
  induction c with
  | zero => rfl
  | succ c ih => show (sq_H T c).2.1 + 1 = c + 1; rw [ih]
theorem sq_H_congr {T T' : Nat → TK} : ∀ c, (∀ i, i < c → T i = T' i) → sq_H T c = sq_H T' c := by
  intro c
  induction c with
  | zero => intro _; rfl
  | succ c ih => intro h; show hs_t (T c) (sq_H T c) = hs_t (T' c) (sq_H T' c); rw [ih (fun i hi => h i (by omega)), h c (by omega)]
theorem sq_A_congr {k : Nat} {T T' : Nat → TK} : ∀ c, (∀ i, i < c → T i = T' i) → sq_A k T c = sq_A k T' c := by
  intro c
  induction c with
  | zero => intro _; rfl
  | succ c ih => intro h; show ca_tok k (T c) (sq_H T c).2.2.1 (sq_A k T c) = ca_tok k (T' c) (sq_H T' c).2.2.1 (sq_A k T' c); rw [ih (fun i hi => h i (by omega)), h c (by omega), sq_H_congr c (fun i hi => h i (by omega))]
theorem sq_O_congr {T T' : Nat → TK} : ∀ c, (∀ i, i < c → T i = T' i) → sq_O T c = sq_O T' c := by
  intro c
  induction c with
  | zero => intro _; rfl
  | succ c ih => intro h; show ot_t (T c) (sq_H T c).1 (sq_O T c) = ot_t (T' c) (sq_H T' c).1 (sq_O T' c); rw [ih (fun i hi => h i (by omega)), h c (by omega), sq_H_congr c (fun i hi => h i (by omega))]
theorem tk_go {k : Nat} (hk : 4 ≤ k) (hk6 : k ≤ 6) {t : TK} {h : HH} (g : tk_ok t h) (st : Nat) (A : CA) : ca_go (9 * t.2.1) A (ca_tok k t st A) := by
  obtain ⟨g1, g2, g3, g4, g5, g6, g7, g8, g9, g10, g11⟩ := g
  refine ca_tok_go hk hk6 g1 g2 g3 g10 ?_ st A
  by_cases e : t.1 = 1
  · have := (g7 e).2; omega
  · have := (g8 e).2; omega
theorem sq_A_go {k : Nat} (hk : 4 ≤ k) (hk6 : k ≤ 6) {T : Nat → TK} : ∀ c, sq_ok T c → ca_go (9 * (sq_H T c).1) ca_0 (sq_A k T c) := by
  intro c
  induction c with
  | zero => intro _; exact ca_go_refl _
  | succ c ih =>
    intro h
    have e : 9 * (sq_H T (c + 1)).1 = 9 * (sq_H T c).1 + 9 * (T c).2.1 := by
      show 9 * ((sq_H T c).1 + (T c).2.1) = _
      omega
    rw [e]
    exact ca_go_trans (ih (sq_ok_le h (by omega))) (tk_go hk hk6 (h c (by omega)) _ _)
/-- from i to c the coder goes on inside its interval -/
theorem sq_A_ne {k : Nat} (hk : 4 ≤ k) (hk6 : k ≤ 6) {T : Nat → TK} (i : Nat) : ∀ j, sq_ok T (i + j) → ca_ne (sq_A k T i) (sq_A k T (i + j)) := by
  intro j
  induction j with
  | zero => intro _; exact ca_ne_refl _
  | succ j ih =>
    intro h
    have h1 := sq_ok_le (d := i + j) h (by omega)
    have ok := (sq_A_go hk hk6 (i + j) h1 ca_0_ok).1
    exact ca_ne_trans (ih h1) (tk_go hk hk6 (h (i + j) (by omega)) _ _ ok).2.1
/-- the whole sealed stream -/
def sq_E (k : Nat) (T : Nat → TK) (c : Nat) : CA := ca_end k (sq_H T c).2.2.1 (sq_A k T c)
theorem sq_E_ok {k : Nat} (hk : 4 ≤ k) (hk6 : k ≤ 6) {T : Nat → TK} {c : Nat} (h : sq_ok T c) : ca_ok (sq_E k T c) ∧ ca_ne (sq_A k T c) (sq_E k T c) ∧ (sq_E k T c).2.2.2 ≤ 592 := by
  have g := sq_A_go hk hk6 c h ca_0_ok
  have e := ca_end_go hk hk6 (sq_H T c).2.2.1 (sq_A k T c) g.1
  have p := (sq_H_ok c h).1
  have z : ca_0.2.2.2 = 0 := rfl
  refine ⟨e.1, e.2.1, ?_⟩
  have h1 := g.2.2
  have h2 := e.2.2
  show (ca_end k (sq_H T c).2.2.1 (sq_A k T c)).2.2.2 ≤ 592
  omega
/-- a place that decoder and encoder share: chances below 328 of the end marker are those of kind 2 -/
theorem sq_E_fr {k : Nat} {T : Nat → TK} {c : Nat} : ca_fr 328 (ca_K k 2 (sq_H T c).2.2.1 (sq_A k T c)) (sq_E k T c) :=
  ca_fr_trans (ca_N_fr (by omega) _) (ca_S_fr (by omega) _)
/-- bytes of a sealed stream -/
def sq_B (k : Nat) (T : Nat → TK) (c : Nat) (bs : Nat → Nat) : Prop := vl bs ((sq_E k T c).2.2.2 + 5) = (sq_E k T c).2.1
theorem sq_in {k : Nat} (hk : 4 ≤ k) (hk6 : k ≤ 6) {T : Nat → TK} {c : Nat} {bs : Nat → Nat} (h : sq_ok T c) (hb : sq_B k T c bs) : ca_in bs (sq_E k T c).2.2.2 (sq_E k T c) := by
  have o := (sq_E_ok hk hk6 h).1
  obtain ⟨o1, o2, o3, o4⟩ := o
  refine ⟨Nat.le_refl _, ?_, ?_⟩
  · rw [Nat.sub_self, Nat.pow_zero, Nat.mul_one, hb]; exact Nat.le_refl _
  · rw [Nat.sub_self, Nat.pow_zero, Nat.mul_one, hb]; omega
theorem sq_in_i {k : Nat} (hk : 4 ≤ k) (hk6 : k ≤ 6) {T : Nat → TK} {c i : Nat} {bs : Nat → Nat} (h : sq_ok T c) (hb : sq_B k T c bs) (hi : i ≤ c) : ca_in bs (sq_E k T c).2.2.2 (sq_A k T i) := by
  have e : c = i + (c - i) := by omega
  have n := sq_A_ne hk hk6 i (c - i) (by rw [← e]; exact h)
  rw [← e] at n
  exact ca_in_ne n (ca_in_ne (sq_E_ok hk hk6 h).2.1 (sq_in hk hk6 h hb))
/-- the first byte of a sealed stream is 0 -/
theorem sq_first {k : Nat} (hk : 4 ≤ k) (hk6 : k ≤ 6) {T : Nat → TK} {c : Nat} {bs : Nat → Nat} (h : sq_ok T c) (hb : sq_B k T c bs) (hl : ∀ i, i < (sq_E k T c).2.2.2 + 5 → bs i < 256) : vl bs 5 < 4294967296 := by
  have g := ca_in_pre hl (sq_in_i hk hk6 h hb (Nat.zero_le c))
  have e : sq_A k T 0 = ca_0 := rfl
  rw [e] at g
  have g2 : vl bs (0 + 5) < 0 + 4294967295 := g.2
  rw [Nat.zero_add] at g2
  omega
end
section
def fr_N (u : SY) : Int32 × Int32 × Int32 × Int32 × Int32 × Int32 × Int32 × Int32 × (Nat → Int32) × (Nat → Int32) := (qy_cap u, qy_slots u, qy_shift u, qy_lazy u, qy_n u, qy_openSlot u, qy_taken u, qy_ended u, qy_source u, qy_holds u)
theorem fr_N_cap {u u' : SY} (h : fr_N u' = fr_N u) : qy_cap u' = qy_cap u := congrArg (fun z => z.1) h
theorem fr_N_slots {u u' : SY} (h : fr_N u' = fr_N u) : qy_slots u' = qy_slots u := congrArg (fun z => z.2.1) h
theorem fr_N_shift {u u' : SY} (h : fr_N u' = fr_N u) : qy_shift u' = qy_shift u := congrArg (fun z => z.2.2.1) h
theorem fr_N_lazy {u u' : SY} (h : fr_N u' = fr_N u) : qy_lazy u' = qy_lazy u := congrArg (fun z => z.2.2.2.1) h
theorem fr_N_n {u u' : SY} (h : fr_N u' = fr_N u) : qy_n u' = qy_n u := congrArg (fun z => z.2.2.2.2.1) h
theorem fr_N_openSlot {u u' : SY} (h : fr_N u' = fr_N u) : qy_openSlot u' = qy_openSlot u := congrArg (fun z => z.2.2.2.2.2.1) h
theorem fr_N_taken {u u' : SY} (h : fr_N u' = fr_N u) : qy_taken u' = qy_taken u := congrArg (fun z => z.2.2.2.2.2.2.1) h
theorem fr_N_ended {u u' : SY} (h : fr_N u' = fr_N u) : qy_ended u' = qy_ended u := congrArg (fun z => z.2.2.2.2.2.2.2.1) h
theorem fr_N_source {u u' : SY} (h : fr_N u' = fr_N u) : qy_source u' = qy_source u := congrArg (fun z => z.2.2.2.2.2.2.2.2.1) h
theorem fr_N_holds {u u' : SY} (h : fr_N u' = fr_N u) : qy_holds u' = qy_holds u := congrArg (fun z => z.2.2.2.2.2.2.2.2.2) h
theorem fr_YN {u u' : SY} (h : fr_Y u' = fr_Y u) : fr_N u' = fr_N u := congrArg (fun z => (z.1, z.2.1, z.2.2.1, z.2.2.2.1, z.2.2.2.2.1, z.2.2.2.2.2.1, z.2.2.2.2.2.2.1, z.2.2.2.2.2.2.2.1, z.2.2.2.2.2.2.2.2.1, z.2.2.2.2.2.2.2.2.2.2.2.2.2.2)) h
theorem fz_N_count_lastKind_lastLength_lastDistance (e_count : Int32) (e_lastKind : Int32) (e_lastLength : Int32) (e_lastDistance : Int32) (u : SY) : fr_N (uy_count_lastKind_lastLength_lastDistance e_count e_lastKind e_lastLength e_lastDistance u) = fr_N u := rfl
theorem fz_N_flags (e_flags : Nat → Int32) (u : SY) : fr_N (uy_flags e_flags u) = fr_N u := rfl
theorem fz_N_literals (e_literals : Nat → Int32) (u : SY) : fr_N (uy_literals e_literals u) = fr_N u := rfl
theorem fz_N_pos_count_state_lastKind_lastLength_lastDistance (e_pos : Int32) (e_count : Int32) (e_state : Int32) (e_lastKind : Int32) (e_lastLength : Int32) (e_lastDistance : Int32) (u : SY) : fr_N (uy_pos_count_state_lastKind_lastLength_lastDistance e_pos e_count e_state e_lastKind e_lastLength e_lastDistance u) = fr_N u := rfl
theorem fz_N_pos_out (e_pos : Int32) (e_out : Nat → Int32) (u : SY) : fr_N (uy_pos_out e_pos e_out u) = fr_N u := rfl
theorem fz_N_r (e_r : Nat → Int32) (u : SY) : fr_N (uy_r e_r u) = fr_N u := rfl
theorem fz_N_state (e_state : Int32) (u : SY) : fr_N (uy_state e_state u) = fr_N u := rfl
theorem fz_N_tokenKind_tokenLength_tokenDistance_tokenByte (e_tokenKind : Nat → Int32) (e_tokenLength : Nat → Int32) (e_tokenDistance : Nat → Int32) (e_tokenByte : Nat → Int32) (u : SY) : fr_N (uy_tokenKind_tokenLength_tokenDistance_tokenByte e_tokenKind e_tokenLength e_tokenDistance e_tokenByte u) = fr_N u := rfl
theorem fz_N_tokens_tokenKind_tokenLength_tokenDistance_tokenByte (e_tokens : Nat → Int32) (e_tokenKind : Nat → Int32) (e_tokenLength : Nat → Int32) (e_tokenDistance : Nat → Int32) (e_tokenByte : Nat → Int32) (u : SY) : fr_N (uy_tokens_tokenKind_tokenLength_tokenDistance_tokenByte e_tokens e_tokenKind e_tokenLength e_tokenDistance e_tokenByte u) = fr_N u := rfl
end
section
/-! ===== Y: moved, flag, play ===== -/
theorem yw_moved {post : Int32 → Prop} {u : SY} {k c b : Nat} (hs : qy_shift u = nI k) (hk : k < 32) (hb : b < 2) (hc : c ≤ 2048) (K : post (nI (cm_mv k c b))) : wpY_moved post u (nI c) (nI b) := by
  rw [ey_moved, hs]
  refine pk_eq b 0 (fun z => ?_) (fun z => ?_)
  · rw [cm_x0 hk hc, ← z]; exact K
  · rw [cm_x1 hk hc z]; exact K
/-- the scratch chances are those of m below 328 -/
def ym_ (m : Nat → Nat) (u : SY) : Prop := (∀ i, i < 72 → qy_flags u i = nI (m i)) ∧ (∀ i, i < 256 → qy_literals u i = nI (m (72 + i)))
theorem yw_flag {post : SY → Prop} {u : SY} {k st : Nat} (t b : Nat) {A : CA} (hs : qy_shift u = nI k) (hk : k < 32) (hch : ca_ch A.1) (hm : ym_ A.1 u) (h12 : st < 12) (ht : t < 6) (hb : b < 2) (K : ∀ u' : SY, ym_ (ca_F k t b st A).1 u' → fr_P u' = fr_P u → post u') : wpY_flag post u (nI t) (nI st) (nI b) := by
  rw [ey_flag]
  refine nm_r (e' := nI (t * 12 + st)) (by rw [show (12 : Int32) = nI 12 from rfl, pk_mul, nI_add]) ?_
  have hi : t * 12 + st < 72 := by omega
  rw [nI_clamp (show t * 12 + st < 2 ^ 31 by omega), hm.1 _ hi]
  refine ⟨vp_in_nI hi (by omega), yw_moved hs hk hb (by have := (hch (t * 12 + st)).2; omega) ⟨vp_in_nI hi (by omega), nm_e (K _ ⟨?_, ?_⟩ rfl)⟩⟩
  · intro i h72
    show upd (qy_flags u) (t * 12 + st) _ i = nI ((ca_B k (t * 12 + st) b A).1 i)
    rw [ca_B_m]
    by_cases e : i = t * 12 + st
    · rw [e, pk_us, cm_us]
    · rw [pk_un e, cm_un e]; exact hm.1 i h72
  · intro i h256
    show qy_literals u i = nI ((ca_B k (t * 12 + st) b A).1 (72 + i))
    rw [ca_B_m, cm_un (by omega)]
    exact hm.2 i h256
section
variable {post : SY → Prop} {u : SY} {k st : Nat} {A : CA} {x1 x4 : Int32}
/-- the hypotheses that each flag wants -/
def yk_ (k st : Nat) (A : CA) (u : SY) : Prop := qy_shift u = nI k ∧ 4 ≤ k ∧ k ≤ 6 ∧ st < 12 ∧ ca_ch A.1 ∧ ym_ A.1 u
theorem yw_f {post : SY → Prop} {u : SY} {k st : Nat} (t b : Nat) {A : CA} (h : yk_ k st A u) (ht : t < 6) (hb : b < 2) (K : ∀ u' : SY, yk_ k st (ca_F k t b st A) u' → fr_P u' = fr_P u → post u') : wpY_flag post u (nI t) (nI st) (nI b) := by
  obtain ⟨h1, h2, h3, h4, h5, h6⟩ := h
  refine yw_flag t b h1 (by omega) h5 h6 h4 ht hb ?_
  intro u' m f
  refine K u' ⟨(fr_P_shift f).trans h1, h2, h3, h4, ?_, m⟩ f
  show ca_ch (ca_B k (t * 12 + st) b A).1
  rw [ca_B_m]
  exact cm_u_ch h5 (cm_mv_ok h2 h3 (h5 _).1 (h5 _).2)
theorem yw_K1 (h : yk_ k st A u) (K : ∀ u' : SY, yk_ k st (ca_K k 1 st A) u' → fr_P u' = fr_P u → zy_play_144 post x1 (nI st) 1 x4 u') : zy_play_33 post x1 (nI st) 1 x4 0 (nI st) 0 u := by
  rw [ca_Ke1] at K
  rw [ey_play_33]
  refine yw_f 0 0 h (by decide) (by decide) (fun u1 h1 f1 => br_f (by decide) ?_)
  rw [ey_play_48]
  refine br_t (by decide) ?_
  rw [ey_play_76]
  refine br_f (by decide) ?_
  rw [ey_play_88]
  refine br_f (by decide) ?_
  rw [ey_play_100]
  refine br_t (by decide) ?_
  rw [ey_play_121]
  exact br_t (by decide) (K u1 h1 f1)
theorem yw_K2 (h : yk_ k st A u) (K : ∀ u' : SY, yk_ k st (ca_K k 2 st A) u' → fr_P u' = fr_P u → zy_play_144 post x1 (nI st) 2 x4 u') : zy_play_33 post x1 (nI st) 2 x4 1 (nI st) 0 u := by
  rw [ca_Ke2] at K
  rw [ey_play_33]
  refine yw_f 0 1 h (by decide) (by decide) (fun u1 h1 f1 => br_t (by decide) ?_)
  refine yw_f 1 0 h1 (by decide) (by decide) (fun u2 h2 f2 => ?_)
  rw [ey_play_48]
  refine br_t (by decide) ?_
  rw [ey_play_76]
  refine br_f (by decide) ?_
  rw [ey_play_88]
  refine br_f (by decide) ?_
  rw [ey_play_100]
  refine br_t (by decide) ?_
  rw [ey_play_121]
  exact br_t (by decide) (K u2 h2 (f2.trans f1))
theorem yw_K3 (h : yk_ k st A u) (K : ∀ u' : SY, yk_ k st (ca_K k 3 st A) u' → fr_P u' = fr_P u → zy_play_144 post x1 (nI st) 3 x4 u') : zy_play_33 post x1 (nI st) 3 x4 1 (nI st) 0 u := by
  rw [ca_Ke3] at K
  rw [ey_play_33]
  refine yw_f 0 1 h (by decide) (by decide) (fun u1 h1 f1 => br_f (by decide) ?_)
  rw [ey_play_48]
  refine br_f (by decide) (yw_f 1 1 h1 (by decide) (by decide) (fun u2 h2 f2 => br_t (by decide) ?_))
  rw [ey_play_73]
  refine yw_f 2 0 h2 (by decide) (by decide) (fun u3 h3 f3 => ?_)
  rw [ey_play_76]
  refine br_t (by decide) (yw_f 5 0 h3 (by decide) (by decide) (fun u4 h4 f4 => ?_))
  rw [ey_play_88]
  refine br_f (by decide) ?_
  rw [ey_play_100]
  refine br_t (by decide) ?_
  rw [ey_play_121]
  exact br_t (by decide) (K u4 h4 (f4.trans (f3.trans (f2.trans f1))))
theorem yw_K4 (h : yk_ k st A u) (K : ∀ u' : SY, yk_ k st (ca_K k 4 st A) u' → fr_P u' = fr_P u → zy_play_144 post x1 (nI st) 4 x4 u') : zy_play_33 post x1 (nI st) 4 x4 1 (nI st) 0 u := by
  rw [ca_Ke4] at K
  rw [ey_play_33]
  refine yw_f 0 1 h (by decide) (by decide) (fun u1 h1 f1 => br_f (by decide) ?_)
  rw [ey_play_48]
  refine br_f (by decide) (yw_f 1 1 h1 (by decide) (by decide) (fun u2 h2 f2 => br_t (by decide) ?_))
  rw [ey_play_73]
  refine yw_f 2 0 h2 (by decide) (by decide) (fun u3 h3 f3 => ?_)
  rw [ey_play_76]
  refine br_f (by decide) ?_
  rw [ey_play_88]
  refine br_t (by decide) (yw_f 5 1 h3 (by decide) (by decide) (fun u4 h4 f4 => ?_))
  rw [ey_play_100]
  refine br_t (by decide) ?_
  rw [ey_play_121]
  exact br_t (by decide) (K u4 h4 (f4.trans (f3.trans (f2.trans f1))))
theorem yw_K5 (h : yk_ k st A u) (K : ∀ u' : SY, yk_ k st (ca_K k 5 st A) u' → fr_P u' = fr_P u → zy_play_144 post x1 (nI st) 5 x4 u') : zy_play_33 post x1 (nI st) 5 x4 1 (nI st) 0 u := by
  rw [ca_Ke5] at K
  rw [ey_play_33]
  refine yw_f 0 1 h (by decide) (by decide) (fun u1 h1 f1 => br_f (by decide) ?_)
  rw [ey_play_48]
  refine br_f (by decide) (yw_f 1 1 h1 (by decide) (by decide) (fun u2 h2 f2 => br_f (by decide) ?_))
  rw [ey_play_73]
  refine yw_f 2 1 h2 (by decide) (by decide) (fun u3 h3 f3 => ?_)
  rw [ey_play_76]
  refine br_f (by decide) ?_
  rw [ey_play_88]
  refine br_f (by decide) ?_
  rw [ey_play_100]
  refine br_f (by decide) (br_t (by decide) ?_)
  rw [ey_play_118]
  refine yw_f 3 0 h3 (by decide) (by decide) (fun u4 h4 f4 => ?_)
  rw [ey_play_121]
  exact br_t (by decide) (K u4 h4 (f4.trans (f3.trans (f2.trans f1))))
theorem yw_K6 (h : yk_ k st A u) (K : ∀ u' : SY, yk_ k st (ca_K k 6 st A) u' → fr_P u' = fr_P u → zy_play_144 post x1 (nI st) 6 x4 u') : zy_play_33 post x1 (nI st) 6 x4 1 (nI st) 0 u := by
  rw [ca_Ke6] at K
  rw [ey_play_33]
  refine yw_f 0 1 h (by decide) (by decide) (fun u1 h1 f1 => br_f (by decide) ?_)
  rw [ey_play_48]
  refine br_f (by decide) (yw_f 1 1 h1 (by decide) (by decide) (fun u2 h2 f2 => br_f (by decide) ?_))
  rw [ey_play_73]
  refine yw_f 2 1 h2 (by decide) (by decide) (fun u3 h3 f3 => ?_)
  rw [ey_play_76]
  refine br_f (by decide) ?_
  rw [ey_play_88]
  refine br_f (by decide) ?_
  rw [ey_play_100]
  refine br_f (by decide) (br_f (by decide) ?_)
  rw [ey_play_118]
  refine yw_f 3 1 h3 (by decide) (by decide) (fun u4 h4 f4 => ?_)
  rw [ey_play_121]
  refine br_f (by decide) (br_t (by decide) ?_)
  rw [ey_play_141]
  exact yw_f 4 0 h4 (by decide) (by decide) (fun u5 h5 f5 => K u5 h5 (f5.trans (f4.trans (f3.trans (f2.trans f1)))))
theorem yw_K7 (h : yk_ k st A u) (K : ∀ u' : SY, yk_ k st (ca_K k 7 st A) u' → fr_P u' = fr_P u → zy_play_144 post x1 (nI st) 7 x4 u') : zy_play_33 post x1 (nI st) 7 x4 1 (nI st) 0 u := by
  rw [ca_Ke7] at K
  rw [ey_play_33]
  refine yw_f 0 1 h (by decide) (by decide) (fun u1 h1 f1 => br_f (by decide) ?_)
  rw [ey_play_48]
  refine br_f (by decide) (yw_f 1 1 h1 (by decide) (by decide) (fun u2 h2 f2 => br_f (by decide) ?_))
  rw [ey_play_73]
  refine yw_f 2 1 h2 (by decide) (by decide) (fun u3 h3 f3 => ?_)
  rw [ey_play_76]
  refine br_f (by decide) ?_
  rw [ey_play_88]
  refine br_f (by decide) ?_
  rw [ey_play_100]
  refine br_f (by decide) (br_f (by decide) ?_)
  rw [ey_play_118]
  refine yw_f 3 1 h3 (by decide) (by decide) (fun u4 h4 f4 => ?_)
  rw [ey_play_121]
  refine br_f (by decide) (br_f (by decide) ?_)
  rw [ey_play_141]
  exact yw_f 4 1 h4 (by decide) (by decide) (fun u5 h5 f5 => K u5 h5 (f5.trans (f4.trans (f3.trans (f2.trans f1)))))
end
/-! the literal's tree -/
theorem yw_lit {post : SY → Prop} {k st idx v : Nat} {x3 x4 : Int32} (hidx : idx < 192) (hv : v < 256) : ∀ (n f m : Nat) (u : SY) (A : CA), n < f → n ≤ 8 → (m + 1) * 2 ^ n ≤ 2 * 256 → yk_ k st A u → qy_tokenByte u idx = nI v → (∀ u' : SY, yk_ k st (ca_T k 72 v n m A) u' → fr_P u' = fr_P u → ∃ n212 : Nat, zy_play_212 post (nI idx) (nI st) x3 x4 n212 0 u') → zy_play_156 post (nI idx) (nI st) x3 x4 f (nI m) (nI n - 1) u := by
  intro n
  induction n with
  | zero =>
    intro f m u A hf hn hm h ht K
    obtain ⟨f, rfl⟩ : ∃ g, f = g + 1 := ⟨f - 1, by omega⟩
    rw [ey_play_156]
    exact br_t (by decide) (K u h rfl)
  | succ n ih =>
    intro f m u A hf hn hm h ht K
    obtain ⟨f, rfl⟩ : ∃ g, f = g + 1 := ⟨f - 1, by omega⟩
    have hb2 : v / 2 ^ n % 2 < 2 := Nat.mod_lt _ (by omega)
    have hm1 := xe_pow1 hm
    obtain ⟨h1, h2, h3, h4, h5, h6⟩ := h
    rw [ey_play_156, nI_pred, nI_clamp (show idx < 2 ^ 31 by omega), ht, xe_bit (by omega) (by omega), nI_clamp (show m < 2 ^ 31 by omega), h6.2 m (by omega)]
    refine br_f (nI_pos (by omega)) ⟨vp_in_nI hidx (by omega), nm_e ⟨vp_in_nI (by omega) (by omega), ?_⟩⟩
    refine yw_moved h1 (by omega) hb2 (by have := (h5 (72 + m)).2; omega) ⟨vp_in_nI (by omega) (by omega), nm_e ?_⟩
    rw [xe_2m, xe_m1]
    refine nm_e (nm_e ?_)
    refine ih f _ _ (ca_B k (72 + m) (v / 2 ^ n % 2) A) (by omega) (by omega) (xe_pow2 hm hb2) ⟨h1, h2, h3, h4, ?_, ?_, ?_⟩ ht K
    · rw [ca_B_m]
      exact cm_u_ch h5 (cm_mv_ok h2 h3 (h5 _).1 (h5 _).2)
    · intro i h72
      show qy_flags u i = _
      rw [ca_B_m, cm_un (by omega)]
      exact h6.1 i h72
    · intro i h256
      show upd (qy_literals u) m _ i = _
      rw [ca_B_m]
      by_cases e : i = m
      · rw [e, pk_us, cm_us]
      · rw [pk_un e, cm_un (by omega)]; exact h6.2 i h256
end
section
/-! ===== Y: the bytes of a token, the distances, the state ===== -/
/-- the scratch figures are history h -/
def yh_ (h : HH) (u : SY) : Prop := qy_pos u = nI h.1 ∧ qy_count u = nI h.2.1 ∧ qy_state u = nI h.2.2.1 ∧ qy_lastKind u = nI h.2.2.2.1 ∧ qy_lastLength u = nI h.2.2.2.2.1 ∧ qy_lastDistance u = nI h.2.2.2.2.2.1 ∧ ∀ j, j < 4 → qy_r u j = nI (h.2.2.2.2.2.2 j)
theorem yw_408 {post : SY → Prop} {u : SY} {s kind : Nat} (hs : s < 12) (hk : kind ≤ 7) (K : post (uy_state (nI (hs_n s kind)) u)) : zy_play_408 post (nI s) (nI kind) u := by
  rw [ey_play_408]
  unfold hs_n at K
  refine pk_eq kind 1 (fun e1 => ?_) (fun e1 => ?_)
  · rw [if_pos e1] at K
    refine pk_le 4 s (fun z => ?_) (fun z => ?_)
    · rw [if_neg (by omega)] at K
      refine pk_lt 9 s (fun y => ?_) (fun y => ?_)
      · rw [if_neg (by omega)] at K
        exact nm_r (e' := nI (s - 6)) (by exact pk_sub (a := s) (b := 6) (by omega)) K
      · rw [if_pos (by omega)] at K
        exact nm_r (e' := nI (s - 3)) (by exact pk_sub (a := s) (b := 3) (by omega)) K
    · rw [if_pos (by omega)] at K; exact K
  rw [if_neg e1] at K
  refine pk_eq kind 2 (fun e2 => ?_) (fun e2 => ?_)
  · rw [if_pos e2] at K
    refine pk_le 7 s (fun z => ?_) (fun z => ?_)
    · rw [if_neg (by omega)] at K; exact K
    · rw [if_pos (by omega)] at K; exact K
  rw [if_neg e2] at K
  refine pk_eq kind 3 (fun e3 => ?_) (fun e3 => ?_)
  · rw [if_pos e3] at K
    refine pk_le 7 s (fun z => ?_) (fun z => ?_)
    · rw [if_neg (by omega)] at K; exact K
    · rw [if_pos (by omega)] at K; exact K
  rw [if_neg e3] at K
  refine pk_le 7 s (fun z => ?_) (fun z => ?_)
  · rw [if_neg (by omega)] at K; exact K
  · rw [if_pos (by omega)] at K; exact K
/-- r4 holds what hs_r says of r -/
def yr_ (kind d : Nat) (r : Nat → Nat) (q : Nat → Int32) : Prop := ∀ j, j < 4 → q j = nI (hs_r kind d r j)
theorem yw_r {post : SY → Prop} {u : SY} {s kind d : Nat} {r : Nat → Nat} (hs : s < 12) (k1 : 1 ≤ kind) (hk : kind ≤ 7) (hr : ∀ j, j < 4 → qy_r u j = nI (r j)) (h4 : kind = 4 → d = r 0) (K : ∀ q : Nat → Int32, yr_ kind d r q → post (uy_state (nI (hs_n s kind)) (uy_r q u))) (K0 : kind = 1 ∨ kind = 3 ∨ kind = 4 → post (uy_state (nI (hs_n s kind)) u)) : ((nI kind = 2 → zy_play_325 post (nI s) (nI kind) (nI d) u) ∧ (¬ nI kind = 2 → ((nI kind = 7 → zy_play_325 post (nI s) (nI kind) (nI d) u) ∧ (¬ nI kind = 7 → zy_play_337 post (nI s) (nI kind) (nI d) u)))) := by
  have r0 := hr 0 (by omega)
  have r1 := hr 1 (by omega)
  have r2 := hr 2 (by omega)
  have r3 := hr 3 (by omega)
  have c27 : (kind = 2 ∨ kind = 7) → zy_play_325 post (nI s) (nI kind) (nI d) u := by
    intro e
    have hm : hs_r kind d r = hs_m 3 d r := by
      unfold hs_r
      rcases e with rfl | rfl
      · rfl
      · rfl
    have fin : zy_play_388 post (nI s) (nI kind) (nI d) (uy_r (upd (upd (qy_r u) 3 (qy_r u 2)) 2 (upd (qy_r u) 3 (qy_r u 2) 1)) u) := by
      rw [ey_play_388]
      refine nm_e (nm_e ?_)
      rw [sy_r]
      refine yw_408 hs hk (K _ ?_)
      intro j hj
      rw [hm]
      have jj : j = 0 ∨ j = 1 ∨ j = 2 ∨ j = 3 := by omega
      rcases jj with rfl | rfl | rfl | rfl
      · exact pk_us
      · exact r0
      · exact r1
      · exact r2
    rw [ey_play_325]
    refine nm_e ?_
    rw [ey_play_337]
    rcases e with rfl | rfl
    · refine br_t rfl ?_
      rw [ey_play_354]
      refine nm_e ?_
      rw [sy_r, ey_play_366]
      exact br_t rfl fin
    · refine br_f (by decide) (br_t rfl ?_)
      rw [ey_play_354]
      refine nm_e ?_
      rw [sy_r, ey_play_366]
      exact br_f (by decide) (br_t rfl fin)
  refine pk_eq kind 2 (fun e2 => c27 (Or.inl e2)) (fun e2 => pk_eq kind 7 (fun e7 => c27 (Or.inr e7)) (fun e7 => ?_))
  rw [ey_play_337]
  have kk : kind = 6 ∨ kind = 5 ∨ (kind = 1 ∨ kind = 3 ∨ kind = 4) := by omega
  rcases kk with rfl | rfl | kk
  · refine br_f (by decide) (br_f (by decide) (br_t rfl ?_))
    rw [ey_play_354]
    refine nm_e ?_
    rw [ey_play_366]
    refine br_f (by decide) (br_f (by decide) (br_t rfl ?_))
    rw [ey_play_388]
    refine nm_e (nm_e ?_)
    rw [sy_r]
    refine yw_408 hs hk (K _ ?_)
    intro j hj
    have jj : j = 0 ∨ j = 1 ∨ j = 2 ∨ j = 3 := by omega
    rcases jj with rfl | rfl | rfl | rfl
    · exact pk_us
    · exact r0
    · exact r1
    · exact r3
  · refine br_f (by decide) (br_f (by decide) (br_f (by decide) ?_))
    rw [ey_play_366]
    refine br_f (by decide) (br_f (by decide) (br_f (by decide) (br_t rfl ?_)))
    rw [ey_play_388]
    refine nm_e (nm_e ?_)
    refine yw_408 hs hk (K _ ?_)
    intro j hj
    have jj : j = 0 ∨ j = 1 ∨ j = 2 ∨ j = 3 := by omega
    rcases jj with rfl | rfl | rfl | rfl
    · exact pk_us
    · exact r0
    · exact r2
    · exact r3
  · refine pk_eq kind 2 (fun z => absurd z (by omega)) (fun _ => pk_eq kind 7 (fun z => absurd z (by omega)) (fun _ => pk_eq kind 6 (fun z => absurd z (by omega)) (fun _ => ?_)))
    rw [ey_play_366]
    refine pk_eq kind 2 (fun z => absurd z (by omega)) (fun _ => pk_eq kind 7 (fun z => absurd z (by omega)) (fun _ => pk_eq kind 6 (fun z => absurd z (by omega)) (fun _ => pk_eq kind 5 (fun z => absurd z (by omega)) (fun _ => ?_))))
    exact yw_408 hs hk (K0 kk)
/-- the token t stands at place idx -/
def yt_ (t : TK) (idx : Nat) (u : SY) : Prop := qy_tokenKind u idx = nI t.1 ∧ qy_tokenLength u idx = nI t.2.1 ∧ qy_tokenDistance u idx = nI t.2.2.1 ∧ qy_tokenByte u idx = nI t.2.2.2
theorem yt_Y {t : TK} {idx : Nat} {u u' : SY} (f : fr_Y u' = fr_Y u) (h : yt_ t idx u) : yt_ t idx u' := by
  unfold yt_ at *
  rw [fr_Y_tokenKind f, fr_Y_tokenLength f, fr_Y_tokenDistance f, fr_Y_tokenByte f]
  exact h
/-- the bytes after j places -/
def ot_j (t : TK) (p j : Nat) (o : Nat → Nat) : Nat → Nat := if t.1 = 1 then (if j = 0 then o else cm_u o p t.2.2.2) else ot_c p t.2.2.1 j o
theorem yw_212 {post : SY → Prop} {st idx : Nat} {t : TK} {h : HH} {o : Nat → Nat} (hidx : idx < 192) (ok : hs_ok h) (g : tk_ok t h) : ∀ (n f j : Nat) (u : SY), n < f → j + n = t.2.1 → yt_ t idx u → qy_pos u = nI (h.1 + j) → (∀ i, i < h.1 + j → qy_out u i = nI (ot_j t h.1 j o i)) → (∀ u' : SY, qy_pos u' = nI (h.1 + t.2.1) → (∀ i, i < h.1 + t.2.1 → qy_out u' i = nI (ot_t t h.1 o i)) → fr_Q u' = fr_Q u → ∀ y : Int32, y = qy_count u' + 1 → ((nI t.1 = 2 → zy_play_325 post (nI st) (nI t.1) (nI t.2.2.1) (uy_count_lastKind_lastLength_lastDistance y (nI t.1) (nI t.2.1) (nI t.2.2.1) u')) ∧ (¬ nI t.1 = 2 → ((nI t.1 = 7 → zy_play_325 post (nI st) (nI t.1) (nI t.2.2.1) (uy_count_lastKind_lastLength_lastDistance y (nI t.1) (nI t.2.1) (nI t.2.2.1) u')) ∧ (¬ nI t.1 = 7 → zy_play_337 post (nI st) (nI t.1) (nI t.2.2.1) (uy_count_lastKind_lastLength_lastDistance y (nI t.1) (nI t.2.1) (nI t.2.2.1) u')))))) → zy_play_212 post (nI idx) (nI st) (nI t.1) (nI t.2.2.1) f (nI j) u := by
  obtain ⟨kd, ln, ds, bt_⟩ := t
  obtain ⟨g1, g2, g3, g4, g5, g6, g7, g8, g9, g10, g11⟩ := g
  dsimp only at *
  intro n
  induction n with
  | zero =>
    intro f j u hf hj ht hp ho K
    obtain ⟨f, rfl⟩ : ∃ g, f = g + 1 := ⟨f - 1, by omega⟩
    have e : j = ln := by omega
    subst e
    have t2 : qy_tokenLength u idx = nI j := ht.2.1
    rw [ey_play_212, nI_clamp (show idx < 2 ^ 31 by omega), t2]
    refine ⟨vp_in_nI hidx (by omega), br_t (nI_le (by omega) (by omega)) (fun y ey => ⟨vp_in_nI hidx (by omega), nm_e ?_⟩)⟩
    refine K u hp ?_ rfl y ey
    intro i hi
    rw [ho i hi]
    unfold ot_j ot_t
    dsimp only
    by_cases e1 : kd = 1
    · rw [if_pos e1, if_pos e1, if_neg (by omega)]
    · rw [if_neg e1, if_neg e1]
  | succ n ih =>
    intro f j u hf hj ht hp ho K
    obtain ⟨f, rfl⟩ : ∃ g, f = g + 1 := ⟨f - 1, by omega⟩
    have t2 : qy_tokenLength u idx = nI ln := ht.2.1
    have t4 : qy_tokenByte u idx = nI bt_ := ht.2.2.2
    rw [ey_play_212, nI_clamp (show idx < 2 ^ 31 by omega), t2, t4, hp, nI_clamp (show h.1 + j < 2 ^ 31 by omega)]
    refine ⟨vp_in_nI hidx (by omega), br_f (nI_ge (by omega) (by omega)) ?_⟩
    refine pk_eq kd 1 (fun e1 => ?_) (fun e1 => ?_)
    · have l1 := (g7 e1).1
      have j0 : j = 0 := by omega
      subst j0
      refine ⟨vp_in_nI hidx (by omega), vp_in_nI (by omega) (by omega), nm_e (nm_r (nI_1 (h.1 + 0)) (nm_r (nI_1 0) ?_))⟩
      refine ih f 1 _ (by omega) (by omega) ht rfl ?_ ?_
      · intro i hi
        show upd (qy_out u) (h.1 + 0) (nI bt_) i = _
        unfold ot_j
        dsimp only
        rw [if_pos e1, if_neg (by omega)]
        by_cases e : i = h.1
        · rw [e, cm_us]; exact pk_us
        · rw [cm_un e, pk_un (by omega), ho i (by omega)]
          unfold ot_j
          dsimp only
          rw [if_pos e1, if_pos rfl]
      · intro u' p1 p2 p3
        exact K u' p1 p2 p3
    · have d8 := g8 e1
      rw [pk_sub (show ds ≤ h.1 + j by omega), nI_clamp (show h.1 + j - ds < 2 ^ 31 by omega)]
      refine ⟨vp_in_nI (by omega) (by omega), vp_in_nI (by omega) (by omega), nm_e (nm_r (nI_1 (h.1 + j)) (nm_r (nI_1 j) ?_))⟩
      refine ih f (j + 1) _ (by omega) (by omega) ht rfl ?_ ?_
      · intro i hi
        show upd (qy_out u) (h.1 + j) (qy_out u (h.1 + j - ds)) i = _
        have ho' : ∀ i, i < h.1 + j → qy_out u i = nI (ot_c h.1 ds j o i) := by
          intro i hi
          rw [ho i hi]
          unfold ot_j
          dsimp only
          rw [if_neg e1]
        unfold ot_j
        dsimp only
        rw [if_neg e1]
        show _ = nI (cm_u (ot_c h.1 ds j o) (h.1 + j) (ot_c h.1 ds j o (h.1 + j - ds)) i)
        by_cases e : i = h.1 + j
        · rw [e, pk_us, cm_us]; exact ho' _ (by omega)
        · rw [pk_un e, cm_un e]; exact ho' i (by omega)
      · intro u' p1 p2 p3
        exact K u' p1 p2 p3
/-- play, from the bytes on -/
theorem yw_tail {post : SY → Prop} {u : SY} {k idx : Nat} {t : TK} {h : HH} {A : CA} {o : Nat → Nat} (hidx : idx < 192) (ok : hs_ok h) (g : tk_ok t h) (ht : yt_ t idx u) (hh : yh_ h u) (ho : ∀ i, i < h.1 → qy_out u i = nI (o i)) (hm : ym_ A.1 u) (K : ∀ u' : SY, ym_ A.1 u' → yh_ (hs_t t h) u' → (∀ i, i < h.1 + t.2.1 → qy_out u' i = nI (ot_t t h.1 o i)) → fr_Y u' = fr_Y u → post u') : ∃ n212 : Nat, zy_play_212 post (nI idx) (nI h.2.2.1) (nI t.1) (nI t.2.2.1) n212 0 u := by
  refine ⟨t.2.1 + 1, ?_⟩
  refine yw_212 (o := o) hidx ok g t.2.1 (t.2.1 + 1) 0 u (by omega) (by omega) ht hh.1 ?_ ?_
  · intro i hi
    rw [ho i hi]
    unfold ot_j
    by_cases e1 : t.1 = 1
    · rw [if_pos e1, if_pos rfl]
    · rw [if_neg e1]
      rfl
  · intro u1 p1 p2 p3
    rw [fr_Q_count p3, hh.2.1, nI_1]
    refine nm_e ?_
    have fin : ∀ w : SY, fr_Y w = fr_Y u1 → qy_pos w = qy_pos u1 → qy_out w = qy_out u1 → qy_flags w = qy_flags u1 → qy_literals w = qy_literals u1 → qy_count w = nI (h.2.1 + 1) → qy_state w = nI (hs_n h.2.2.1 t.1) → qy_lastKind w = nI t.1 → qy_lastLength w = nI t.2.1 → qy_lastDistance w = nI t.2.2.1 → (∀ j, j < 4 → qy_r w j = nI (hs_r t.1 t.2.2.1 h.2.2.2.2.2.2 j)) → post w := by
      intro w f e1 e2 e3 e4 e5 e6 e7 e8 e9 e10
      refine K w ?_ ⟨e1.trans p1, e5, e6, e7, e8, e9, e10⟩ ?_ (f.trans (fr_QY p3))
      · unfold ym_ at *
        rw [e3, e4, fr_Q_flags p3, fr_Q_literals p3]
        exact hm
      · rw [e2]; exact p2
    have hr : ∀ j, j < 4 → qy_r u1 j = nI (h.2.2.2.2.2.2 j) := by
      rw [fr_Q_r p3]; exact hh.2.2.2.2.2.2
    refine yw_r (r := h.2.2.2.2.2.2) ok.2.2.1 g.1 g.2.1 hr (fun e4 => ?_) ?_ ?_
    · have := g.2.2.2.2.2.2.2.2.2.2 (by omega)
      rw [e4] at this
      exact this
    · intro q hq
      refine fin _ ?_ ?_ ?_ ?_ ?_ ?_ ?_ ?_ ?_ ?_ ?_
      · unfold fr_Y; simp only [gy_state, gy_r, gy_count_lastKind_lastLength_lastDistance]
      · simp only [gy_state, gy_r, gy_count_lastKind_lastLength_lastDistance]
      · simp only [gy_state, gy_r, gy_count_lastKind_lastLength_lastDistance]
      · simp only [gy_state, gy_r, gy_count_lastKind_lastLength_lastDistance]
      · simp only [gy_state, gy_r, gy_count_lastKind_lastLength_lastDistance]
      · rfl
      · rfl
      · rfl
      · rfl
      · rfl
      · exact hq
    · intro kk
      refine fin _ ?_ ?_ ?_ ?_ ?_ ?_ ?_ ?_ ?_ ?_ ?_
      · unfold fr_Y; simp only [gy_state, gy_count_lastKind_lastLength_lastDistance]
      · simp only [gy_state, gy_count_lastKind_lastLength_lastDistance]
      · simp only [gy_state, gy_count_lastKind_lastLength_lastDistance]
      · simp only [gy_state, gy_count_lastKind_lastLength_lastDistance]
      · simp only [gy_state, gy_count_lastKind_lastLength_lastDistance]
      · rfl
      · rfl
      · rfl
      · rfl
      · rfl
      · intro j hj
        simp only [gy_state, gy_count_lastKind_lastLength_lastDistance]
        rw [hr j hj]
        unfold hs_r
        rw [if_neg (by omega)]
        by_cases e4 : t.1 = 4
        · rw [if_neg (by omega), e4]
          have d0 := g.2.2.2.2.2.2.2.2.2.2 (by omega)
          rw [e4] at d0
          unfold hs_m
          by_cases j0 : j = 0
          · rw [if_pos j0, j0, d0]
          · rw [if_neg j0, if_neg (by omega)]
        · rw [if_pos (by omega)]
theorem yw_play {post : SY → Prop} {u : SY} {k idx : Nat} {t : TK} {h : HH} {A : CA} {o : Nat → Nat} (hidx : idx < 192) (hs : qy_shift u = nI k) (k4 : 4 ≤ k) (k6 : k ≤ 6) (hch : ca_ch A.1) (ok : hs_ok h) (g : tk_ok t h) (ht : yt_ t idx u) (hh : yh_ h u) (ho : ∀ i, i < h.1 → qy_out u i = nI (o i)) (hm : ym_ A.1 u) (K : ∀ u' : SY, ym_ (ca_tok k t h.2.2.1 A).1 u' → yh_ (hs_t t h) u' → (∀ i, i < h.1 + t.2.1 → qy_out u' i = nI (ot_t t h.1 o i)) → fr_Y u' = fr_Y u → post u') : wpY_play post u (nI idx) := by
  have yk : yk_ k h.2.2.1 A u := ⟨hs, k4, k6, ok.2.2.1, hch, hm⟩
  rw [ey_play, nI_clamp (show idx < 2 ^ 31 by omega), ht.1, ht.2.2.1, hh.2.2.1]
  have inx : vp_in (nI idx) 192 := vp_in_nI hidx (by omega)
  refine ⟨inx, nm_e ⟨inx, nm_e ?_⟩⟩
  have tail : ∀ (B : CA) (u1 : SY), fr_P u1 = fr_P u → ym_ B.1 u1 → (∀ i, i < 328 → (ca_tok k t h.2.2.1 A).1 i = B.1 i) → ∃ n212 : Nat, zy_play_212 post (nI idx) (nI h.2.2.1) (nI t.1) (nI t.2.2.1) n212 0 u1 := by
    intro B u1 f m e
    have hh1 : yh_ h u1 := by
      unfold yh_ at *
      rw [fr_P_pos f, fr_P_count f, fr_P_state f, fr_P_lastKind f, fr_P_lastLength f, fr_P_lastDistance f, fr_P_r f]
      exact hh
    have m1 : ym_ (ca_tok k t h.2.2.1 A).1 u1 := by
      refine ⟨fun i hi => ?_, fun i hi => ?_⟩
      · rw [e i (by omega)]; exact m.1 i hi
      · rw [e _ (by omega)]; exact m.2 i hi
    exact yw_tail (k := k) (o := o) hidx ok g (yt_Y (fr_PY f) ht) hh1 (by rw [fr_P_out f]; exact ho) m1 (fun u' a1 a2 a3 a4 => K u' a1 a2 a3 (a4.trans (fr_PY f)))
  have g1 := g.1
  have g2 := g.2.1
  have g6 := g.2.2.2.2.2.1
  have e1 : t.1 ≠ 1 → t.1 ≠ 2 → ∀ i, i < 328 → (ca_tok k t h.2.2.1 A).1 i = (ca_K k t.1 h.2.2.1 A).1 i := by
    intro n1 n2 i hi
    unfold ca_tok
    rw [if_neg n1, if_neg n2]
    by_cases n3 : t.1 = 3
    · rw [if_pos n3]
    · rw [if_neg n3]
      exact ca_N_fr (lo := 328) (by omega) _ i hi
  have kk : t.1 = 1 ∨ t.1 = 2 ∨ t.1 = 3 ∨ t.1 = 4 ∨ t.1 = 5 ∨ t.1 = 6 ∨ t.1 = 7 := by omega
  rcases kk with e | e | e | e | e | e | e
  · rw [e] at tail ⊢
    refine br_t rfl (yw_K1 yk (fun u1 h1 f1 => ?_))
    rw [ey_play_144]
    refine br_t rfl ⟨9, ?_⟩
    refine yw_lit (v := t.2.2.2) hidx g6 8 9 1 u1 _ (by omega) (by omega) (by decide) h1 (by rw [fr_P_tokenByte f1]; exact ht.2.2.2) ?_
    intro u2 h2 f2
    refine tail _ u2 (f2.trans f1) h2.2.2.2.2.2 ?_
    intro i hi
    unfold ca_tok
    rw [if_pos e, e]
  · rw [e] at tail ⊢
    refine br_f (by decide) (yw_K2 yk (fun u1 h1 f1 => ?_))
    rw [ey_play_144]
    refine br_f (by decide) (tail _ u1 f1 h1.2.2.2.2.2 ?_)
    intro i hi
    unfold ca_tok
    rw [if_neg (by omega), if_pos e, e]
    exact ca_fr_trans (ca_N_fr (lo := 328) (by omega) _) (ca_S_fr (by omega) _) i hi
  all_goals
    rw [e] at tail e1 ⊢
    refine br_f (by decide) ?_
  · exact yw_K3 yk (fun u1 h1 f1 => by rw [ey_play_144]; exact br_f (by decide) (tail _ u1 f1 h1.2.2.2.2.2 (e1 (by decide) (by decide))))
  · exact yw_K4 yk (fun u1 h1 f1 => by rw [ey_play_144]; exact br_f (by decide) (tail _ u1 f1 h1.2.2.2.2.2 (e1 (by decide) (by decide))))
  · exact yw_K5 yk (fun u1 h1 f1 => by rw [ey_play_144]; exact br_f (by decide) (tail _ u1 f1 h1.2.2.2.2.2 (e1 (by decide) (by decide))))
  · exact yw_K6 yk (fun u1 h1 f1 => by rw [ey_play_144]; exact br_f (by decide) (tail _ u1 f1 h1.2.2.2.2.2 (e1 (by decide) (by decide))))
  · exact yw_K7 yk (fun u1 h1 f1 => by rw [ey_play_144]; exact br_f (by decide) (tail _ u1 f1 h1.2.2.2.2.2 (e1 (by decide) (by decide))))
end
section
/-! ===== Y: replay ===== -/
/-- stream s of the reference is c tokens of T -/
def ys_ (s : Nat) (T : Nat → TK) (c : Nat) (u : SY) : Prop := c ≤ 64 ∧ ∀ i, i < c → yt_ (T i) (64 * s + i) u
theorem ys_Y {s c : Nat} {T : Nat → TK} {u u' : SY} (f : fr_Y u' = fr_Y u) (h : ys_ s T c u) : ys_ s T c u' := ⟨h.1, fun i hi => yt_Y f (h.2 i hi)⟩
/-- what a replay leaves in the scratch -/
def yz_ (m : Nat → Nat) (h : HH) (o : Nat → Nat) (u : SY) : Prop := ym_ m u ∧ yh_ h u ∧ ∀ i, i < h.1 → qy_out u i = nI (o i)
theorem yw_126 {post : SY → Prop} {k s c : Nat} {T : Nat → TK} {x1 : Int32} (hs : s < 3) (k4 : 4 ≤ k) (k6 : k ≤ 6) (tok : sq_ok T c) : ∀ (n f i : Nat) (u : SY), n < f → i + n = c → ys_ s T c u → qy_shift u = nI k → yz_ (sq_A k T i).1 (sq_H T i) (sq_O T i) u → (∀ u' : SY, yz_ (sq_A k T c).1 (sq_H T c) (sq_O T c) u' → fr_Y u' = fr_Y u → zy_replay_156 post x1 u') → zy_replay_126 post x1 (nI s) (nI c) f (nI i) u := by
  intro n
  induction n with
  | zero =>
    intro f i u hf hi hT hsh hz K
    obtain ⟨f, rfl⟩ : ∃ g, f = g + 1 := ⟨f - 1, by omega⟩
    have e : i = c := by omega
    subst e
    have := hT.1
    rw [ey_replay_126]
    exact br_t (nI_le (by omega) (by omega)) (K u hz rfl)
  | succ n ih =>
    intro f i u hf hi hT hsh hz K
    obtain ⟨f, rfl⟩ : ∃ g, f = g + 1 := ⟨f - 1, by omega⟩
    have c64 := hT.1
    have tok1 := sq_ok_le (d := i) tok (by omega)
    have ok := sq_H_ok i tok1
    have okA := (sq_A_go k4 k6 i tok1 ca_0_ok).1
    rw [ey_replay_126]
    refine br_f (nI_ge (by omega) (by omega)) (br_f (nI_ge (b := 64) (by omega) (by omega)) ?_)
    rw [show nI s * 64 + nI i = nI (64 * s + i) by rw [show (64 : Int32) = nI 64 from rfl, pk_mul, nI_add, Nat.mul_comm]]
    refine yw_play (A := sq_A k T i) (o := sq_O T i) (by omega) hsh k4 k6 okA.1 ok (tok i (by omega)) (hT.2 i (by omega)) hz.2.1 hz.2.2 hz.1 ?_
    intro u1 m1 h1 o1 f1
    refine nm_r (nI_1 i) ?_
    exact ih f (i + 1) u1 (by omega) (by omega) (ys_Y f1 hT) ((fr_Y_shift f1).trans hsh) ⟨m1, h1, o1⟩ (fun u' z f2 => K u' z (f2.trans f1))
theorem yw_75 {post : SY → Prop} {x1 : Int32} : ∀ (n f i : Nat) (u : SY), n < f → i + n = 256 → (∀ j, j < i → qy_literals u j = 1024) → (∀ u' : SY, (∀ j, j < 256 → qy_literals u' j = 1024) → qy_flags u' = qy_flags u → qy_r u' = qy_r u → qy_pos u' = qy_pos u → qy_count u' = qy_count u → qy_state u' = qy_state u → qy_lastKind u' = qy_lastKind u → qy_lastLength u' = qy_lastLength u → qy_lastDistance u' = qy_lastDistance u → fr_Y u' = fr_Y u → ∀ y : Int32, y = qy_tokens u' 0 → ((x1 = 1 → (∀ x2_89 : Int32, x2_89 = (qy_openSlot u') + 1 → (∃ n126 : Nat, zy_replay_126 post x1 x2_89 (qy_taken u') n126 0 u'))) ∧ (¬ x1 = 1 → (∃ n126 : Nat, zy_replay_126 post x1 0 y n126 0 u')))) → zy_replay_75 post x1 f (nI i) u := by
  intro n
  induction n with
  | zero =>
    intro f i u hf hi hl K
    obtain ⟨f, rfl⟩ : ∃ g, f = g + 1 := ⟨f - 1, by omega⟩
    have e : i = 256 := by omega
    subst e
    rw [ey_replay_75]
    exact br_t (nI_le (a := 256) (by omega) (by omega)) (K u hl rfl rfl rfl rfl rfl rfl rfl rfl rfl)
  | succ n ih =>
    intro f i u hf hi hl K
    obtain ⟨f, rfl⟩ : ∃ g, f = g + 1 := ⟨f - 1, by omega⟩
    rw [ey_replay_75, nI_clamp (show i < 2 ^ 31 by omega)]
    refine br_f (nI_ge (b := 256) (by omega) (by omega)) ⟨vp_in_nI (by omega) (by omega), nm_e (nm_r (nI_1 i) ?_)⟩
    refine ih f (i + 1) _ (by omega) (by omega) ?_ (fun u' => K u')
    intro j hj
    show upd (qy_literals u) i 1024 j = 1024
    by_cases e : j = i
    · rw [e, pk_us]
    · rw [pk_un e]; exact hl j (by omega)
theorem yw_52 {post : SY → Prop} {x1 : Int32} : ∀ (n f i : Nat) (u : SY), n < f → i + n = 72 → (∀ j, j < i → qy_flags u j = 1024) → (∀ u' : SY, (∀ j, j < 72 → qy_flags u' j = 1024) → qy_r u' = qy_r u → qy_pos u' = qy_pos u → qy_count u' = qy_count u → qy_state u' = qy_state u → qy_lastKind u' = qy_lastKind u → qy_lastLength u' = qy_lastLength u → qy_lastDistance u' = qy_lastDistance u → fr_Y u' = fr_Y u → ∃ n75 : Nat, zy_replay_75 post x1 n75 0 u') → zy_replay_52 post x1 f (nI i) u := by
  intro n
  induction n with
  | zero =>
    intro f i u hf hi hl K
    obtain ⟨f, rfl⟩ : ∃ g, f = g + 1 := ⟨f - 1, by omega⟩
    have e : i = 72 := by omega
    subst e
    rw [ey_replay_52]
    exact br_t (nI_le (a := 72) (by omega) (by omega)) (K u hl rfl rfl rfl rfl rfl rfl rfl rfl)
  | succ n ih =>
    intro f i u hf hi hl K
    obtain ⟨f, rfl⟩ : ∃ g, f = g + 1 := ⟨f - 1, by omega⟩
    rw [ey_replay_52, nI_clamp (show i < 2 ^ 31 by omega)]
    refine br_f (nI_ge (b := 72) (by omega) (by omega)) ⟨vp_in_nI (by omega) (by omega), nm_e (nm_r (nI_1 i) ?_)⟩
    refine ih f (i + 1) _ (by omega) (by omega) ?_ (fun u' => K u')
    intro j hj
    show upd (qy_flags u) i 1024 j = 1024
    by_cases e : j = i
    · rw [e, pk_us]
    · rw [pk_un e]; exact hl j (by omega)
theorem yw_32 {post : SY → Prop} {x1 : Int32} : ∀ (n f i : Nat) (u : SY), n < f → i + n = 4 → (∀ j, j < i → qy_r u j = 1) → (∀ u' : SY, (∀ j, j < 4 → qy_r u' j = 1) → qy_pos u' = qy_pos u → qy_count u' = qy_count u → qy_state u' = qy_state u → qy_lastKind u' = qy_lastKind u → qy_lastLength u' = qy_lastLength u → qy_lastDistance u' = qy_lastDistance u → fr_Y u' = fr_Y u → ∃ n52 : Nat, zy_replay_52 post x1 n52 0 u') → zy_replay_32 post x1 f (nI i) u := by
  intro n
  induction n with
  | zero =>
    intro f i u hf hi hl K
    obtain ⟨f, rfl⟩ : ∃ g, f = g + 1 := ⟨f - 1, by omega⟩
    have e : i = 4 := by omega
    subst e
    rw [ey_replay_32]
    exact br_t (nI_le (a := 4) (by omega) (by omega)) (K u hl rfl rfl rfl rfl rfl rfl rfl)
  | succ n ih =>
    intro f i u hf hi hl K
    obtain ⟨f, rfl⟩ : ∃ g, f = g + 1 := ⟨f - 1, by omega⟩
    rw [ey_replay_32, nI_clamp (show i < 2 ^ 31 by omega)]
    refine br_f (nI_ge (b := 4) (by omega) (by omega)) ⟨vp_in_nI (by omega) (by omega), nm_e (nm_r (nI_1 i) ?_)⟩
    refine ih f (i + 1) _ (by omega) (by omega) ?_ (fun u' => K u')
    intro j hj
    show upd (qy_r u) i 1 j = 1
    by_cases e : j = i
    · rw [e, pk_us]
    · rw [pk_un e]; exact hl j (by omega)
/-- replay up to the choice of the stream -/
theorem yw_rep0 {post : SY → Prop} {u : SY} {x1 : Int32} {k : Nat} {T : Nat → TK} (K : ∀ u' : SY, yz_ (sq_A k T 0).1 (sq_H T 0) (sq_O T 0) u' → fr_Y u' = fr_Y u → ((x1 = 1 → (∀ x2_89 : Int32, x2_89 = (qy_openSlot u) + 1 → (∃ n126 : Nat, zy_replay_126 post x1 x2_89 (qy_taken u) n126 0 u'))) ∧ (¬ x1 = 1 → (∃ n126 : Nat, zy_replay_126 post x1 0 (qy_tokens u 0) n126 0 u')))) : wpY_replay post u x1 := by
  rw [ey_replay]
  obtain ⟨J4, e4⟩ : ∃ J, J = 4 := ⟨4, rfl⟩
  obtain ⟨J72, e72⟩ : ∃ J, J = 72 := ⟨72, rfl⟩
  obtain ⟨J256, e256⟩ : ∃ J, J = 256 := ⟨256, rfl⟩
  refine ⟨J4 + 1, ?_⟩
  refine yw_32 J4 (J4 + 1) 0 _ (by omega) (by omega) (fun j hj => absurd hj (by omega)) ?_
  intro u1 r1 p1 p2 p3 p4 p5 p6 f1
  refine ⟨J72 + 1, yw_52 J72 (J72 + 1) 0 u1 (by omega) (by omega) (fun j hj => absurd hj (by omega)) ?_⟩
  intro u2 l2 r2 q1 q2 q3 q4 q5 q6 f2
  refine ⟨J256 + 1, yw_75 J256 (J256 + 1) 0 u2 (by omega) (by omega) (fun j hj => absurd hj (by omega)) ?_⟩
  intro u3 l3 l3' r3 s1 s2 s3 s4 s5 s6 f3
  have f : fr_Y u3 = fr_Y u := f3.trans (f2.trans f1)
  rw [fr_Y_tokens f, fr_Y_openSlot f, fr_Y_taken f]
  refine nm_e (K u3 ⟨⟨fun i hi => ?_, fun i hi => ?_⟩, ⟨?_, ?_, ?_, ?_, ?_, ?_, fun j hj => ?_⟩, fun i hi => absurd hi (Nat.not_lt_zero i)⟩ f)
  · rw [l3']; exact l2 i hi
  · exact l3 i hi
  · exact s1.trans (q1.trans p1)
  · exact s2.trans (q2.trans p2)
  · exact s3.trans (q3.trans p3)
  · exact s4.trans (q4.trans p4)
  · exact s5.trans (q5.trans p5)
  · exact s6.trans (q6.trans p6)
  · rw [r3, r2]; exact r1 j hj
/-- replay(0) -/
theorem yw_replay0 {post : SY → Prop} {u : SY} {k c : Nat} {T : Nat → TK} (hsh : qy_shift u = nI k) (k4 : 4 ≤ k) (k6 : k ≤ 6) (tok : sq_ok T c) (hT : ys_ 0 T c u) (hc : qy_tokens u 0 = nI c) (K : ∀ u' : SY, yz_ (sq_A k T c).1 (sq_H T c) (sq_O T c) u' → fr_Y u' = fr_Y u → post u') : wpY_replay post u 0 := by
  refine yw_rep0 (k := k) (T := T) ?_
  intro u1 z1 f1
  rw [hc]
  refine br_f (by decide) ⟨c + 1, ?_⟩
  refine yw_126 (s := 0) (by omega) k4 k6 tok c (c + 1) 0 u1 (by omega) (by omega) (ys_Y f1 hT) ((fr_Y_shift f1).trans hsh) z1 ?_
  intro u2 z2 f2
  rw [ey_replay_156]
  exact br_f (by decide) (K u2 z2 (f2.trans f1))
/-- replay(1): stream s = openSlot + 1, c taken; e: ended -/
theorem yw_replay1 {post : SY → Prop} {u : SY} {k s c : Nat} {T : Nat → TK} (hsh : qy_shift u = nI k) (k4 : 4 ≤ k) (k6 : k ≤ 6) (hs3 : s < 3) (tok : sq_ok T c) (hT : ys_ s T c u) (ho : qy_openSlot u + 1 = nI s) (hc : qy_taken u = nI c) (K0 : qy_ended u = 0 → ∀ u' : SY, yz_ (sq_A k T c).1 (sq_H T c) (sq_O T c) u' → fr_Y u' = fr_Y u → post u') (K1 : ¬ qy_ended u = 0 → ∀ u' : SY, yz_ (ca_K k 2 (sq_H T c).2.2.1 (sq_A k T c)).1 (sq_H T c) (sq_O T c) u' → fr_Y u' = fr_Y u → post u') : wpY_replay post u 1 := by
  refine yw_rep0 (k := k) (T := T) ?_
  intro u1 z1 f1
  rw [hc, ho]
  refine br_t rfl (nm_e ⟨c + 1, ?_⟩)
  refine yw_126 hs3 k4 k6 tok c (c + 1) 0 u1 (by omega) (by omega) (ys_Y f1 hT) ((fr_Y_shift f1).trans hsh) z1 ?_
  intro u2 z2 f2
  have f := f2.trans f1
  rw [ey_replay_156, fr_Y_ended f]
  refine br_t rfl (br_c (fun e0 => K0 e0 u2 z2 f) (fun e0 => ?_))
  have ok := sq_H_ok c tok
  have okA := (sq_A_go k4 k6 c tok ca_0_ok).1
  have yk : yk_ k (sq_H T c).2.2.1 (sq_A k T c) u2 := ⟨(fr_Y_shift f).trans hsh, k4, k6, ok.2.2.1, okA.1, z2.1⟩
  rw [z2.2.1.2.2.1]
  refine yw_f 0 1 yk (by decide) (by decide) ?_
  intro u3 y3 f3
  rw [fr_P_state f3, z2.2.1.2.2.1]
  refine yw_f 1 0 y3 (by decide) (by decide) ?_
  intro u4 y4 f4
  have g := f4.trans f3
  refine K1 e0 u4 ⟨y4.2.2.2.2.2, ?_, ?_⟩ ((fr_PY g).trans f)
  · have hh := z2.2.1
    unfold yh_ at *
    rw [fr_P_pos g, fr_P_count g, fr_P_state g, fr_P_lastKind g, fr_P_lastLength g, fr_P_lastDistance g, fr_P_r g]
    exact hh
  · rw [fr_P_out g]; exact z2.2.2
end
section
/-! ===== runs ===== -/
def rn_l (s : Nat → Int32) (x d : Nat) : Nat → Nat → Nat
  | 0, r => r
  | j + 1, r => if s (x + r) = s (x + r - d) then rn_l s x d j (r + 1) else r
def rn_m (n x : Nat) : Nat := if n - x ≤ 17 then n - x else 17
def rn_ (s : Nat → Int32) (n x d : Nat) : Nat := if 1 ≤ d ∧ d ≤ x then rn_l s x d (rn_m n x) 0 else 0
theorem rn_l_p (s : Nat → Int32) (x d : Nat) : ∀ j r, (∀ i, i < r → s (x + i) = s (x + i - d)) → r ≤ rn_l s x d j r ∧ rn_l s x d j r ≤ r + j ∧ (∀ i, i < rn_l s x d j r → s (x + i) = s (x + i - d)) ∧ (rn_l s x d j r < r + j → ¬ s (x + rn_l s x d j r) = s (x + rn_l s x d j r - d)) := by
  intro j
  induction j with
  | zero => intro r h; exact ⟨Nat.le_refl _, Nat.le_refl _, h, fun z => absurd z (Nat.lt_irrefl _)⟩
  | succ j ih =>
    intro r h
    by_cases e : s (x + r) = s (x + r - d)
    · have q : rn_l s x d (j + 1) r = rn_l s x d j (r + 1) := by
        show (if s (x + r) = s (x + r - d) then rn_l s x d j (r + 1) else r) = _
        rw [if_pos e]
      rw [q]
      have := ih (r + 1) (fun i hi => by
        by_cases e2 : i = r
        · rw [e2]; exact e
        · exact h i (by omega))
      obtain ⟨a, b, c, d'⟩ := this
      exact ⟨by omega, by omega, c, fun z => d' (by omega)⟩
    · have q : rn_l s x d (j + 1) r = r := by
        show (if s (x + r) = s (x + r - d) then rn_l s x d j (r + 1) else r) = _
        rw [if_neg e]
      rw [q]
      exact ⟨Nat.le_refl _, by omega, h, fun _ => e⟩
theorem rn_le (s : Nat → Int32) (n x d : Nat) : rn_ s n x d ≤ rn_m n x := by
  unfold rn_
  split
  · have := (rn_l_p s x d (rn_m n x) 0 (fun i hi => absurd hi (Nat.not_lt_zero i))).2.1
    omega
  · exact Nat.zero_le _
theorem rn_m_le (n x : Nat) : rn_m n x ≤ 17 ∧ rn_m n x ≤ n - x := by
  unfold rn_m; split <;> omega
theorem rn_iff {s : Nat → Int32} {n x d len : Nat} (h1 : 1 ≤ d) (h2 : d ≤ x) (hl : len ≤ rn_m n x) : len ≤ rn_ s n x d ↔ ∀ i, i < len → s (x + i) = s (x + i - d) := by
  unfold rn_
  rw [if_pos ⟨h1, h2⟩]
  obtain ⟨a, b, c, e⟩ := rn_l_p s x d (rn_m n x) 0 (fun i hi => absurd hi (Nat.not_lt_zero i))
  constructor
  · intro h i hi
    exact c i (by omega)
  · intro h
    apply Classical.byContradiction
    intro z
    exact e (by omega) (h _ (by omega))
theorem rn_pos {s : Nat → Int32} {n x d : Nat} (h : 1 ≤ rn_ s n x d) : 1 ≤ d ∧ d ≤ x := by
  unfold rn_ at h
  by_cases e : 1 ≤ d ∧ d ≤ x
  · exact e
  · rw [if_neg e] at h; omega
theorem xw_run_l {post : Int32 → Prop} {u : SX} {x d m : Nat} (hd : d ≤ x) (hm : x + m ≤ 64) : ∀ (j f r : Nat), j < f → r + j = m → post (nI (rn_l (qx_source u) x d j r)) → zx_run_31 post (nI x) (nI d) (nI m) f (nI r) u := by
  intro j
  induction j with
  | zero =>
    intro f r hf hr K
    obtain ⟨f, rfl⟩ : ∃ g, f = g + 1 := ⟨f - 1, by omega⟩
    rw [ex_run_31]
    exact br_t (nI_le (by omega) (by omega)) K
  | succ j ih =>
    intro f r hf hr K
    obtain ⟨f, rfl⟩ : ∃ g, f = g + 1 := ⟨f - 1, by omega⟩
    have K' : post (nI (if qx_source u (x + r) = qx_source u (x + r - d) then rn_l (qx_source u) x d j (r + 1) else r)) := K
    rw [ex_run_31, nI_add, pk_sub (show d ≤ x + r by omega), nI_clamp (show x + r < 2 ^ 31 by omega), nI_clamp (show x + r - d < 2 ^ 31 by omega)]
    refine br_f (nI_ge (by omega) (by omega)) ⟨vp_in_nI (by omega) (by omega), vp_in_nI (by omega) (by omega), br_c (fun e => nm_r (nI_1 r) ?_) (fun e => ?_)⟩
    · rw [if_pos e] at K'
      exact ih f (r + 1) (by omega) (by omega) K'
    · rw [if_neg e] at K'
      exact K'
theorem xw_run {post : Int32 → Prop} {u : SX} {n x d : Nat} (hn : qx_sourceLength u = nI n) (h64 : n ≤ 64) (hx : x ≤ n) (hd : d ≤ 64) (K : post (nI (rn_ (qx_source u) n x d))) : wpX_run post u (nI x) (nI d) := by
  unfold rn_ at K
  rw [ex_run, hn, pk_sub hx]
  refine pk_lt d 1 (fun z => ?_) (fun z => pk_le d x (fun y => nm_e ?_) (fun y => ?_))
  · rw [if_neg (by omega)] at K; exact K
  · rw [if_pos ⟨z, y⟩] at K
    unfold rn_m at K
    refine pk_le (n - x) 17 (fun w => ⟨n - x + 1, ?_⟩) (fun w => ⟨18, ?_⟩)
    · rw [if_pos w] at K
      exact xw_run_l y (by omega) (n - x) (n - x + 1) 0 (by omega) (by omega) K
    · rw [if_neg (by omega)] at K
      exact xw_run_l (m := 17) y (by omega) 17 18 0 (by omega) (by omega) K
  · rw [if_neg (by omega)] at K; exact K
theorem yw_same_l {post : Int32 → Prop} {u : SY} {x d m : Nat} (hd : d ≤ x) (hm : x + m ≤ 64) (K1 : (∀ i, i < m → qy_source u (x + i) = qy_source u (x + i - d)) → post 1) (K0 : ¬ (∀ i, i < m → qy_source u (x + i) = qy_source u (x + i - d)) → post 0) : ∀ (j f r : Nat), j < f → r + j = m → (∀ i, i < r → qy_source u (x + i) = qy_source u (x + i - d)) → zy_same_3 post (nI x) (nI d) (nI m) f (nI r) u := by
  intro j
  induction j with
  | zero =>
    intro f r hf hr h
    obtain ⟨f, rfl⟩ : ∃ g, f = g + 1 := ⟨f - 1, by omega⟩
    have e : r = m := by omega
    subst e
    rw [ey_same_3]
    exact br_t (nI_le (by omega) (by omega)) (K1 h)
  | succ j ih =>
    intro f r hf hr h
    obtain ⟨f, rfl⟩ : ∃ g, f = g + 1 := ⟨f - 1, by omega⟩
    rw [ey_same_3, nI_add, pk_sub (show d ≤ x + r by omega), nI_clamp (show x + r < 2 ^ 31 by omega), nI_clamp (show x + r - d < 2 ^ 31 by omega)]
    refine br_f (nI_ge (by omega) (by omega)) ⟨vp_in_nI (by omega) (by omega), vp_in_nI (by omega) (by omega), br_c (fun e => nm_r (nI_1 r) ?_) (fun e => K0 (fun a => e (a r (by omega))))⟩
    refine ih f (r + 1) (by omega) (by omega) (fun i hi => ?_)
    by_cases e2 : i = r
    · rw [e2]; exact e
    · exact h i (by omega)
theorem yw_same {post : Int32 → Prop} {u : SY} {n x d len : Nat} (h64 : n ≤ 64) (hx : x ≤ n) (h1 : 1 ≤ d) (hd : d ≤ x) (hl : len ≤ rn_m n x) (K1 : len ≤ rn_ (qy_source u) n x d → post 1) (K0 : rn_ (qy_source u) n x d < len → post 0) : wpY_same post u (nI x) (nI d) (nI len) := by
  have m := rn_m_le n x
  rw [ey_same]
  refine ⟨len + 1, yw_same_l hd (by omega) (fun a => K1 ((rn_iff h1 hd hl).mpr a)) (fun a => K0 ?_) len (len + 1) 0 (by omega) (by omega) (fun i hi => absurd hi (Nat.not_lt_zero i))⟩
  apply Classical.byContradiction
  intro z
  exact a ((rn_iff h1 hd hl).mp (by omega))
theorem yw_run_l {post : Int32 → Prop} {u : SY} {n x d : Nat} (h64 : n ≤ 64) (hx : x ≤ n) (h1 : 1 ≤ d) (hd : d ≤ x) (K : post (nI (rn_ (qy_source u) n x d))) : ∀ (j f : Nat), j < f → j ≤ rn_m n x → rn_ (qy_source u) n x d ≤ j → zy_run_33 post (nI x) (nI d) f (nI j) u := by
  have m := rn_m_le n x
  intro j
  induction j with
  | zero =>
    intro f hf hj hr
    obtain ⟨f, rfl⟩ : ∃ g, f = g + 1 := ⟨f - 1, by omega⟩
    rw [ey_run_33]
    rw [show rn_ (qy_source u) n x d = 0 by omega] at K
    exact br_t (by decide) K
  | succ j ih =>
    intro f hf hj hr
    obtain ⟨f, rfl⟩ : ∃ g, f = g + 1 := ⟨f - 1, by omega⟩
    rw [ey_run_33]
    refine br_f (nI_nle (by omega) (by omega)) (yw_same h64 hx h1 hd hj (fun a => br_f (by decide) ?_) (fun a => br_t rfl (nm_r (pk_m1 j) (ih f (by omega) (by omega) (by omega)))))
    rw [show j + 1 = rn_ (qy_source u) n x d by omega]
    exact K
theorem yw_run {post : Int32 → Prop} {u : SY} {n x d : Nat} (hn : qy_n u = nI n) (h64 : n ≤ 64) (hx : x ≤ n) (h1 : 1 ≤ d) (hd : d ≤ 64) (K : post (nI (rn_ (qy_source u) n x d))) : wpY_run post u (nI x) (nI d) := by
  have le := rn_le (qy_source u) n x d
  rw [ey_run, hn, pk_sub hx]
  refine pk_le d x (fun y => ?_) (fun y => ?_)
  · refine pk_le 17 (n - x) (fun w => ⟨18, ?_⟩) (fun w => nm_e ⟨n - x + 1, ?_⟩)
    · have e : rn_m n x = 17 := by unfold rn_m; split <;> omega
      exact yw_run_l h64 hx h1 y K 17 18 (by omega) (by omega) (by omega)
    · have e : rn_m n x = n - x := by unfold rn_m; split <;> omega
      exact yw_run_l h64 hx h1 y K (n - x) (n - x + 1) (by omega) (by omega) (by omega)
  · unfold rn_ at K
    rw [if_neg (by omega)] at K
    exact K
/-! the greatest run -/
def rn_x (s : Nat → Int32) (n x : Nat) : Nat → Nat → Nat → Nat
  | 0, _, b => b
  | j + 1, d, b => rn_x s n x j (d + 1) (if rn_ s n x d ≤ b then b else rn_ s n x d)
theorem rn_x_p (s : Nat → Int32) (n x : Nat) : ∀ j d b, b ≤ rn_x s n x j d b ∧ (∀ e, d ≤ e → e < d + j → rn_ s n x e ≤ rn_x s n x j d b) ∧ (rn_x s n x j d b = b ∨ ∃ e, d ≤ e ∧ e < d + j ∧ rn_ s n x e = rn_x s n x j d b) := by
  intro j
  induction j with
  | zero => intro d b; exact ⟨Nat.le_refl _, fun e h1 h2 => absurd h2 (by omega), Or.inl rfl⟩
  | succ j ih =>
    intro d b
    have q : rn_x s n x (j + 1) d b = rn_x s n x j (d + 1) (if rn_ s n x d ≤ b then b else rn_ s n x d) := rfl
    rw [q]
    by_cases c : rn_ s n x d ≤ b
    · rw [if_pos c]
      obtain ⟨a1, a2, a3⟩ := ih (d + 1) b
      refine ⟨a1, fun e h1 h2 => ?_, ?_⟩
      · by_cases e2 : e = d
        · rw [e2]; omega
        · exact a2 e (by omega) (by omega)
      · rcases a3 with a3 | ⟨e, b1, b2, b3⟩
        · exact Or.inl a3
        · exact Or.inr ⟨e, by omega, by omega, b3⟩
    · rw [if_neg c]
      obtain ⟨a1, a2, a3⟩ := ih (d + 1) (rn_ s n x d)
      refine ⟨by omega, fun e h1 h2 => ?_, ?_⟩
      · by_cases e2 : e = d
        · rw [e2]; exact a1
        · exact a2 e (by omega) (by omega)
      · rcases a3 with a3 | ⟨e, b1, b2, b3⟩
        · exact Or.inr ⟨d, by omega, by omega, a3.symm⟩
        · exact Or.inr ⟨e, by omega, by omega, b3⟩
def rn_g (s : Nat → Int32) (n x : Nat) : Nat := rn_x s n x x 1 0
theorem rn_x_le {s : Nat → Int32} {n x : Nat} : ∀ j d b, b ≤ 17 → rn_x s n x j d b ≤ 17 := by
  intro j
  induction j with
  | zero => intro d b h; exact h
  | succ j ih =>
    intro d b h
    refine ih (d + 1) _ ?_
    have := rn_le s n x d
    have := rn_m_le n x
    split <;> omega
theorem xw_great_l {post : Int32 → Prop} {u : SX} {n x : Nat} (hn : qx_sourceLength u = nI n) (h64 : n ≤ 64) (hx : x ≤ n) : ∀ (j f d b : Nat), j < f → d + j = x + 1 → 1 ≤ d → b ≤ 17 → post (nI (rn_x (qx_source u) n x j d b)) → zx_greatestRun_4 post (nI x) f (nI b) (nI d) u := by
  intro j
  induction j with
  | zero =>
    intro f d b hf hd h1 hb K
    obtain ⟨f, rfl⟩ : ∃ g, f = g + 1 := ⟨f - 1, by omega⟩
    rw [ex_greatestRun_4]
    exact br_t (nI_lt (by omega) (by omega)) K
  | succ j ih =>
    intro f d b hf hd h1 hb K
    obtain ⟨f, rfl⟩ : ∃ g, f = g + 1 := ⟨f - 1, by omega⟩
    have K' : post (nI (rn_x (qx_source u) n x j (d + 1) (if rn_ (qx_source u) n x d ≤ b then b else rn_ (qx_source u) n x d))) := K
    have l1 := rn_le (qx_source u) n x d
    have l2 := rn_m_le n x
    rw [ex_greatestRun_4]
    refine br_f (nI_nlt (by omega) (by omega)) (xw_run hn h64 hx (by omega) ?_)
    refine pk_le (rn_ (qx_source u) n x d) b (fun z => nm_r (nI_1 d) ?_) (fun z => nm_r (nI_1 d) ?_)
    · rw [if_pos z] at K'
      exact ih f (d + 1) b (by omega) (by omega) (by omega) hb K'
    · rw [if_neg (by omega)] at K'
      exact ih f (d + 1) _ (by omega) (by omega) (by omega) (by omega) K'
theorem xw_great {post : Int32 → Prop} {u : SX} {n x : Nat} (hn : qx_sourceLength u = nI n) (h64 : n ≤ 64) (hx : x ≤ n) (K : post (nI (rn_g (qx_source u) n x))) : wpX_greatestRun post u (nI x) := by
  rw [ex_greatestRun]
  exact ⟨x + 1, xw_great_l hn h64 hx x (x + 1) 1 0 (by omega) (by omega) (by omega) (by omega) K⟩
theorem yw_long_l {post : Int32 → Prop} {u : SY} {n x : Nat} (hn : qy_n u = nI n) (h64 : n ≤ 64) (hx : x ≤ n) : ∀ (j f d b : Nat), j < f → d + j = x + 1 → 1 ≤ d → b ≤ 17 → post (nI (rn_x (qy_source u) n x j d b)) → zy_longest_4 post (nI x) f (nI b) (nI d) u := by
  intro j
  induction j with
  | zero =>
    intro f d b hf hd h1 hb K
    obtain ⟨f, rfl⟩ : ∃ g, f = g + 1 := ⟨f - 1, by omega⟩
    rw [ey_longest_4]
    exact br_t (nI_lt (by omega) (by omega)) K
  | succ j ih =>
    intro f d b hf hd h1 hb K
    obtain ⟨f, rfl⟩ : ∃ g, f = g + 1 := ⟨f - 1, by omega⟩
    have K' : post (nI (rn_x (qy_source u) n x j (d + 1) (if rn_ (qy_source u) n x d ≤ b then b else rn_ (qy_source u) n x d))) := K
    have l1 := rn_le (qy_source u) n x d
    have l2 := rn_m_le n x
    rw [ey_longest_4]
    refine br_f (nI_nlt (by omega) (by omega)) (yw_run hn h64 hx h1 (by omega) ?_)
    refine pk_le (rn_ (qy_source u) n x d) b (fun z => nm_r (nI_1 d) ?_) (fun z => nm_r (nI_1 d) ?_)
    · rw [if_pos z] at K'
      exact ih f (d + 1) b (by omega) (by omega) (by omega) hb K'
    · rw [if_neg (by omega)] at K'
      exact ih f (d + 1) _ (by omega) (by omega) (by omega) (by omega) K'
theorem yw_long {post : Int32 → Prop} {u : SY} {n x : Nat} (hn : qy_n u = nI n) (h64 : n ≤ 64) (hx : x ≤ n) (K : post (nI (rn_g (qy_source u) n x))) : wpY_longest post u (nI x) := by
  rw [ey_longest]
  exact ⟨x + 1, yw_long_l hn h64 hx x (x + 1) 1 0 (by omega) (by omega) (by omega) (by omega) K⟩
/-! the best remembered distance -/
def rb_ (s : Nat → Int32) (n x : Nat) (r : Nat → Nat) : Nat → Nat → Nat → Nat → Nat × Nat
  | 0, _, q, b => (q, b)
  | j + 1, i, q, b => if rn_ s n x (r i) ≤ b then rb_ s n x r j (i + 1) q b else rb_ s n x r j (i + 1) i (rn_ s n x (r i))
theorem rb_p (s : Nat → Int32) (n x : Nat) (r : Nat → Nat) : ∀ j i q b, i + j = 4 → q < 4 → b = rn_ s n x (r q) → (rb_ s n x r j i q b).1 < 4 ∧ (rb_ s n x r j i q b).2 = rn_ s n x (r (rb_ s n x r j i q b).1) := by
  intro j
  induction j with
  | zero => intro i q b _ hq hb; exact ⟨hq, hb⟩
  | succ j ih =>
    intro i q b hi hq hb
    show (if rn_ s n x (r i) ≤ b then rb_ s n x r j (i + 1) q b else rb_ s n x r j (i + 1) i (rn_ s n x (r i))).1 < 4 ∧ _
    by_cases c : rn_ s n x (r i) ≤ b
    · have e : rb_ s n x r (j + 1) i q b = rb_ s n x r j (i + 1) q b := by
        show (if rn_ s n x (r i) ≤ b then _ else _) = _
        rw [if_pos c]
      rw [if_pos c, e]
      exact ih (i + 1) q b (by omega) hq hb
    · have e : rb_ s n x r (j + 1) i q b = rb_ s n x r j (i + 1) i (rn_ s n x (r i)) := by
        show (if rn_ s n x (r i) ≤ b then _ else _) = _
        rw [if_neg c]
      rw [if_neg c, e]
      exact ih (i + 1) i _ (by omega) (by omega) rfl
theorem xw_best_l {post : Int32 → Prop} {u : SX} {n x : Nat} {r : Nat → Nat} (hn : qx_sourceLength u = nI n) (h64 : n ≤ 64) (hx : x ≤ n) (hr : ∀ j, j < 4 → qx_reps u j = nI (r j)) (hr2 : ∀ j, r j ≤ 64) : ∀ (j f i q b : Nat), j < f → i + j = 4 → b ≤ 17 → post (nI (rb_ (qx_source u) n x r j i q b).1) → zx_bestRepIndex_17 post (nI x) f (nI q) (nI b) (nI i) u := by
  intro j
  induction j with
  | zero =>
    intro f i q b hf hi hb K
    obtain ⟨f, rfl⟩ : ∃ g, f = g + 1 := ⟨f - 1, by omega⟩
    rw [ex_bestRepIndex_17]
    exact br_t (nI_le (a := 4) (by omega) (by omega)) K
  | succ j ih =>
    intro f i q b hf hi hb K
    obtain ⟨f, rfl⟩ : ∃ g, f = g + 1 := ⟨f - 1, by omega⟩
    have K' : post (nI (if rn_ (qx_source u) n x (r i) ≤ b then rb_ (qx_source u) n x r j (i + 1) q b else rb_ (qx_source u) n x r j (i + 1) i (rn_ (qx_source u) n x (r i))).1) := K
    have l1 := rn_le (qx_source u) n x (r i)
    have l2 := rn_m_le n x
    rw [ex_bestRepIndex_17, nI_clamp (show i < 2 ^ 31 by omega), hr i (by omega)]
    refine br_f (nI_ge (b := 4) (by omega) (by omega)) ⟨vp_in_nI (by omega) (by omega), xw_run hn h64 hx (hr2 i) ?_⟩
    refine pk_le (rn_ (qx_source u) n x (r i)) b (fun z => nm_r (nI_1 i) ?_) (fun z => nm_r (nI_1 i) ?_)
    · rw [if_pos z] at K'
      exact ih f (i + 1) q b (by omega) (by omega) hb K'
    · rw [if_neg (by omega)] at K'
      exact ih f (i + 1) i _ (by omega) (by omega) (by omega) K'
/-- index and run of the best remembered distance -/
def rb_g (s : Nat → Int32) (n x : Nat) (r : Nat → Nat) : Nat × Nat := rb_ s n x r 3 1 0 (rn_ s n x (r 0))
theorem rb_g_p (s : Nat → Int32) (n x : Nat) (r : Nat → Nat) : (rb_g s n x r).1 < 4 ∧ (rb_g s n x r).2 = rn_ s n x (r (rb_g s n x r).1) := rb_p s n x r 3 1 0 _ (by omega) (by omega) rfl
theorem xw_best {post : Int32 → Prop} {u : SX} {n x : Nat} {r : Nat → Nat} (hn : qx_sourceLength u = nI n) (h64 : n ≤ 64) (hx : x ≤ n) (hr : ∀ j, j < 4 → qx_reps u j = nI (r j)) (hr2 : ∀ j, r j ≤ 64) (K : post (nI (rb_g (qx_source u) n x r).1)) : wpX_bestRepIndex post u (nI x) := by
  have l1 := rn_le (qx_source u) n x (r 0)
  have l2 := rn_m_le n x
  rw [ex_bestRepIndex, hr 0 (by omega)]
  exact xw_run hn h64 hx (hr2 0) ⟨4, xw_best_l hn h64 hx hr hr2 3 4 1 0 _ (by omega) (by omega) (by omega) K⟩
/-! the smallest distance -/
def rd_x (s : Nat → Int32) (n x m : Nat) : Nat → Nat → Nat
  | 0, _ => x
  | j + 1, d => if rn_ s n x d < m then rd_x s n x m j (d + 1) else d
def rd_y (s : Nat → Int32) (n x m : Nat) : Nat → Nat → Nat
  | 0, a => a
  | d + 1, a => rd_y s n x m d (if rn_ s n x (d + 1) = m then d + 1 else a)
theorem rd_x_p (s : Nat → Int32) (n x m : Nat) : ∀ j d, d + j = x → (∀ e, 1 ≤ e → e < d → rn_ s n x e < m) → d ≤ rd_x s n x m j d ∧ rd_x s n x m j d ≤ x ∧ (∀ e, 1 ≤ e → e < rd_x s n x m j d → rn_ s n x e < m) ∧ (rd_x s n x m j d < x → m ≤ rn_ s n x (rd_x s n x m j d)) := by
  intro j
  induction j with
  | zero => intro d hd h; have e : d = x := by omega
            subst e; exact ⟨Nat.le_refl _, Nat.le_refl _, h, fun z => absurd z (Nat.lt_irrefl _)⟩
  | succ j ih =>
    intro d hd h
    by_cases c : rn_ s n x d < m
    · have q : rd_x s n x m (j + 1) d = rd_x s n x m j (d + 1) := by
        show (if rn_ s n x d < m then _ else _) = _
        rw [if_pos c]
      rw [q]
      obtain ⟨a1, a2, a3, a4⟩ := ih (d + 1) (by omega) (fun e h1 h2 => by
        by_cases e2 : e = d
        · rw [e2]; exact c
        · exact h e h1 (by omega))
      exact ⟨by omega, a2, a3, a4⟩
    · have q : rd_x s n x m (j + 1) d = d := by
        show (if rn_ s n x d < m then _ else _) = _
        rw [if_neg c]
      rw [q]
      exact ⟨Nat.le_refl _, by omega, h, fun _ => by omega⟩
theorem rd_y_none (s : Nat → Int32) (n x m : Nat) : ∀ j a, (∀ e, 1 ≤ e → e ≤ j → rn_ s n x e ≠ m) → rd_y s n x m j a = a := by
  intro j
  induction j with
  | zero => intro a _; rfl
  | succ j ih =>
    intro a h
    show rd_y s n x m j (if rn_ s n x (j + 1) = m then j + 1 else a) = a
    rw [if_neg (h (j + 1) (by omega) (by omega))]
    exact ih a (fun e h1 h2 => h e h1 (by omega))
theorem rd_y_hit (s : Nat → Int32) (n x m d : Nat) (h1 : 1 ≤ d) (hd : rn_ s n x d = m) (hl : ∀ e, 1 ≤ e → e < d → rn_ s n x e ≠ m) : ∀ j a, d ≤ j → rd_y s n x m j a = d := by
  intro j
  induction j with
  | zero => intro a h; omega
  | succ j ih =>
    intro a h
    show rd_y s n x m j (if rn_ s n x (j + 1) = m then j + 1 else a) = d
    by_cases e : d = j + 1
    · rw [if_pos (by rw [← e]; exact hd), ← e]
      exact rd_y_none s n x m j d (fun z z1 z2 => hl z z1 (by omega))
    · exact ih _ (by omega)
theorem rd_eq (s : Nat → Int32) (n x : Nat) (hm : 1 ≤ rn_g s n x) : 1 ≤ rd_x s n x (rn_g s n x) (x - 1) 1 ∧ rd_x s n x (rn_g s n x) (x - 1) 1 ≤ x ∧ rn_ s n x (rd_x s n x (rn_g s n x) (x - 1) 1) = rn_g s n x ∧ rd_y s n x (rn_g s n x) x 0 = rd_x s n x (rn_g s n x) (x - 1) 1 := by
  obtain ⟨p1, p2, p3⟩ := rn_x_p s n x x 1 0
  have p2' : ∀ e, 1 ≤ e → e ≤ x → rn_ s n x e ≤ rn_g s n x := fun e h1 h2 => p2 e h1 (by omega)
  have p3' : ∃ e, 1 ≤ e ∧ e ≤ x ∧ rn_ s n x e = rn_g s n x := by
    rcases p3 with p3 | ⟨e, a, b, c⟩
    · have : rn_g s n x = 0 := p3
      omega
    · exact ⟨e, a, by omega, c⟩
  obtain ⟨e0, a0, b0, c0⟩ := p3'
  obtain ⟨q1, q2, q3, q4⟩ := rd_x_p s n x (rn_g s n x) (x - 1) 1 (by omega) (fun e h1 h2 => absurd h2 (by omega))
  have hd : rn_ s n x (rd_x s n x (rn_g s n x) (x - 1) 1) = rn_g s n x := by
    by_cases z : rd_x s n x (rn_g s n x) (x - 1) 1 < x
    · have := q4 z
      have := p2' _ q1 q2
      omega
    · have e : rd_x s n x (rn_g s n x) (x - 1) 1 = x := by omega
      rw [e]
      by_cases y : e0 = x
      · rw [← y]; rw [y]; rw [y] at c0; exact c0
      · have := q3 e0 a0 (by omega)
        omega
  refine ⟨q1, q2, hd, rd_y_hit s n x _ _ q1 hd (fun e h1 h2 => ?_) x 0 q2⟩
  have := q3 e h1 h2
  omega
theorem xw_small_l {post : Int32 → Prop} {u : SX} {n x m : Nat} (hn : qx_sourceLength u = nI n) (h64 : n ≤ 64) (hx : x ≤ n) (hm : m ≤ 17) : ∀ (j f d : Nat), j < f → d + j = x → post (nI (rd_x (qx_source u) n x m j d)) → zx_smallestDistance_2 post (nI x) (nI m) f (nI d) u := by
  intro j
  induction j with
  | zero =>
    intro f d hf hd K
    obtain ⟨f, rfl⟩ : ∃ g, f = g + 1 := ⟨f - 1, by omega⟩
    rw [ex_smallestDistance_2]
    exact br_t (nI_le (by omega) (by omega)) K
  | succ j ih =>
    intro f d hf hd K
    obtain ⟨f, rfl⟩ : ∃ g, f = g + 1 := ⟨f - 1, by omega⟩
    have K' : post (nI (if rn_ (qx_source u) n x d < m then rd_x (qx_source u) n x m j (d + 1) else d)) := K
    have l1 := rn_le (qx_source u) n x d
    have l2 := rn_m_le n x
    rw [ex_smallestDistance_2]
    refine br_f (nI_ge (by omega) (by omega)) (xw_run hn h64 hx (by omega) ?_)
    refine pk_lt (rn_ (qx_source u) n x d) m (fun z => nm_r (nI_1 d) ?_) (fun z => ?_)
    · rw [if_pos z] at K'
      exact ih f (d + 1) (by omega) (by omega) K'
    · rw [if_neg (by omega)] at K'
      exact K'
theorem xw_small {post : Int32 → Prop} {u : SX} {n x m : Nat} (hn : qx_sourceLength u = nI n) (h64 : n ≤ 64) (hx : x ≤ n) (h1 : 1 ≤ x) (hm : m ≤ 17) (K : post (nI (rd_x (qx_source u) n x m (x - 1) 1))) : wpX_smallestDistance post u (nI x) (nI m) := by
  rw [ex_smallestDistance]
  exact ⟨x + 1, xw_small_l hn h64 hx hm (x - 1) (x + 1) 1 (by omega) (by omega) K⟩
end
section
/-! ===== the relation ===== -/
def r1_ (cap sl sh n : Nat) (u : SX) (v : SY) : Prop :=
  qx_capacity u = nI cap ∧ qy_cap v = nI cap ∧ 16 ≤ cap ∧ cap ≤ 64 ∧ qx_slots u = nI sl ∧ qy_slots v = nI sl ∧ 1 ≤ sl ∧ sl ≤ 2 ∧ qx_shift u = nI sh ∧ qy_shift v = nI sh ∧ 4 ≤ sh ∧ sh ≤ 6 ∧ qx_lazy u = qy_lazy v ∧ qx_sourceLength u = nI n ∧ qy_n v = nI n ∧ n ≤ cap ∧ qx_source u = qy_source v ∧ ∀ i, i < n → qx_source u i = nI (by_v (qx_source u i))
def r2_ (sh n : Nat) (T : Nat → TK) (c : Nat) (u : SX) (v : SY) : Prop :=
  sq_ok T c ∧ qy_tokens v 0 = nI c ∧ ys_ 0 T c v ∧ xe_A sh (sq_A sh T c) u ∧ xh_ 0 (sq_H T c) u ∧ (sq_H T c).1 ≤ n
/-- slot j holds the sealed stream T, c -/
def r3_h (sh : Nat) (T : Nat → TK) (c j : Nat) (u : SX) (v : SY) : Prop :=
  sq_ok T c ∧ qy_tokens v (j + 1) = nI c ∧ ys_ (j + 1) T c v ∧ qx_storeLength u j = nI ((sq_E sh T c).2.2.2 + 5) ∧ ∃ bs : Nat → Nat, sq_B sh T c bs ∧ ∀ i, i < (sq_E sh T c).2.2.2 + 5 → by_v (qx_store u (j * 1024 + i)) = bs i
def r3_ (sh : Nat) (TS : Nat → Nat → TK) (cS : Nat → Nat) (u : SX) (v : SY) : Prop :=
  ∀ j, j < 2 → (qy_holds v j = 0 ∧ qx_storeLength u j = 0) ∨ (qy_holds v j = 1 ∧ r3_h sh (TS j) (cS j) j u v)
/-- the decoder is closed -/
def r4_c (u : SX) (v : SY) : Prop := qx_decSlot u = -1 ∧ qy_openSlot v = -1 ∧ qy_taken v = 0 ∧ qy_ended v = 0 ∧ (∀ i, i < 512 → qx_model u (512 + i) = nI 1024) ∧ xh_ 1 hs_0 u
/-- the decoder is open on slot j and has taken d tokens -/
def r4_o (sh : Nat) (T : Nat → TK) (c j d : Nat) (bs : Nat → Nat) (u : SX) (v : SY) : Prop :=
  j < 2 ∧ qy_holds v j = 1 ∧ qy_openSlot v = nI j ∧ qy_taken v = nI d ∧ d ≤ c ∧ sq_B sh T c bs ∧ xh_ 1 (sq_H T d) u ∧ (∀ i, i < (sq_H T d).1 → qx_output u i = nI (sq_O T d i)) ∧ ((qx_decEnded u = 0 ∧ qy_ended v = 0 ∧ xd_A sh bs (sq_E sh T c).2.2.2 j (sq_A sh T d) u) ∨ (qx_decEnded u = 1 ∧ qy_ended v = 1 ∧ d = c ∧ xd_A sh bs (sq_E sh T c).2.2.2 j (sq_E sh T c) u))
def r4_ (sh : Nat) (TS : Nat → Nat → TK) (cS : Nat → Nat) (u : SX) (v : SY) : Prop := r4_c u v ∨ ∃ (j d : Nat) (bs : Nat → Nat), r4_o sh (TS j) (cS j) j d bs u v
def i_Rel (_ : Nat) (u : SX) (v : SY) : Prop := ∃ (cap sl sh n : Nat) (T : Nat → TK) (c : Nat) (TS : Nat → Nat → TK) (cS : Nat → Nat), r1_ cap sl sh n u v ∧ r2_ sh n T c u v ∧ r3_ sh TS cS u v ∧ r4_ sh TS cS u v
theorem i_up {k : Nat} {u : SX} {v : SY} (h : i_Rel k u v) : i_Rel (k + 4) u v := h
/-! the reference's scratch does not matter -/
theorem r1_Y {cap sl sh n : Nat} {u : SX} {v v' : SY} (f : fr_N v' = fr_N v) (h : r1_ cap sl sh n u v) : r1_ cap sl sh n u v' := by
  unfold r1_ at *
  rw [fr_N_cap f, fr_N_slots f, fr_N_shift f, fr_N_lazy f, fr_N_n f, fr_N_source f]
  exact h
theorem r2_Y {sh n c : Nat} {T : Nat → TK} {u : SX} {v v' : SY} (f : fr_Y v' = fr_Y v) (h : r2_ sh n T c u v) : r2_ sh n T c u v' := by
  obtain ⟨h1, h2, h3, h4, h5, h6⟩ := h
  exact ⟨h1, by rw [fr_Y_tokens f]; exact h2, ys_Y f h3, h4, h5, h6⟩
theorem r3_Y {sh : Nat} {TS : Nat → Nat → TK} {cS : Nat → Nat} {u : SX} {v v' : SY} (f : fr_Y v' = fr_Y v) (h : r3_ sh TS cS u v) : r3_ sh TS cS u v' := by
  intro j hj
  rw [fr_Y_holds f]
  rcases h j hj with a | ⟨a, b1, b2, b3, b4, b5⟩
  · exact Or.inl a
  · exact Or.inr ⟨a, b1, by rw [fr_Y_tokens f]; exact b2, ys_Y f b3, b4, b5⟩
theorem r4_Y {sh : Nat} {TS : Nat → Nat → TK} {cS : Nat → Nat} {u : SX} {v v' : SY} (f : fr_N v' = fr_N v) (h : r4_ sh TS cS u v) : r4_ sh TS cS u v' := by
  unfold r4_ r4_c r4_o at *
  rw [fr_N_openSlot f, fr_N_taken f, fr_N_ended f, fr_N_holds f]
  exact h
theorem i_Y {k k' : Nat} {u : SX} {v v' : SY} (f : fr_Y v' = fr_Y v) (h : i_Rel k u v) : i_Rel k' u v' := by
  obtain ⟨cap, sl, sh, n, T, c, TS, cS, R1, R2, R3, R4⟩ := h
  exact ⟨cap, sl, sh, n, T, c, TS, cS, r1_Y (fr_YN f) R1, r2_Y f R2, r3_Y f R3, r4_Y (fr_YN f) R4⟩
/-! what the encoder's steps leave alone -/
theorem r3_X {sh : Nat} {TS : Nat → Nat → TK} {cS : Nat → Nat} {u u' : SX} {v : SY} (f1 : qx_store u' = qx_store u) (f2 : qx_storeLength u' = qx_storeLength u) (h : r3_ sh TS cS u v) : r3_ sh TS cS u' v := by
  unfold r3_ r3_h at *
  rw [f1, f2]
  exact h
theorem xh1_T {h : HH} {u u' : SX} (f : ft_ u u') (x : xh_ 1 h u) : xh_ 1 h u' := by
  obtain ⟨x1, x2, x3, x4, x5, x6, x7⟩ := x
  have e := f.2.2.1
  refine ⟨?_, ?_, ?_, ?_, ?_, ?_, ?_⟩
  · rw [e _ (by omega)]; exact x1
  · rw [e _ (by omega)]; exact x2
  · rw [e _ (by omega)]; exact x3
  · rw [e _ (by omega)]; exact x4
  · rw [e _ (by omega)]; exact x5
  · rw [e _ (by omega)]; exact x6
  · intro j hj; rw [f.2.2.2 _ (by omega)]; exact x7 j hj
theorem xd_T {k S j : Nat} {bs : Nat → Nat} {A : CA} {u u' : SX} (f : ft_ u u') (x : xd_A k bs S j A u) : xd_A k bs S j A u' := by
  obtain ⟨x1, x2, x3, x4, x5, x6, x7, x8, x9, x10⟩ := x
  have g := f.1
  refine ⟨x1, x2, x3, (fr_T_shift g).trans x4, (fr_T_decRange g).trans x5, ?_, (fr_T_decAt g).trans x7, (fr_T_decCode g).trans x8, ?_, x10⟩
  · intro i hi; rw [f.2.1 _ (by omega)]; exact x6 i hi
  · unfold xd_S at *
    rw [fr_T_decSlot g, fr_T_slots g, fr_T_storeLength g, fr_T_store g]
    exact x9
theorem r4_T {sh : Nat} {TS : Nat → Nat → TK} {cS : Nat → Nat} {u u' : SX} {v : SY} (f : ft_ u u') (h : r4_ sh TS cS u v) : r4_ sh TS cS u' v := by
  have g := f.1
  rcases h with ⟨a1, a2, a3, a4, a5, a6⟩ | ⟨j, d, bs, b1, b2, b3, b4, b5, b6, b7, b8, b9⟩
  · refine Or.inl ⟨(fr_T_decSlot g).trans a1, a2, a3, a4, ?_, xh1_T f a6⟩
    intro i hi; rw [f.2.1 _ (by omega)]; exact a5 i hi
  · refine Or.inr ⟨j, d, bs, b1, b2, b3, b4, b5, b6, xh1_T f b7, ?_, ?_⟩
    · rw [fr_T_output g]; exact b8
    · rw [fr_T_decEnded g]
      rcases b9 with ⟨c1, c2, c3⟩ | ⟨c1, c2, c3, c4⟩
      · exact Or.inl ⟨c1, c2, xd_T f c3⟩
      · exact Or.inr ⟨c1, c2, c3, xd_T f c4⟩
theorem r1_T {cap sl sh n : Nat} {u u' : SX} {v : SY} (g : fr_T u' = fr_T u) (h : r1_ cap sl sh n u v) : r1_ cap sl sh n u' v := by
  unfold r1_ at *
  rw [fr_T_capacity g, fr_T_slots g, fr_T_shift g, fr_T_lazy g, fr_T_sourceLength g, fr_T_source g]
  exact h
/-! what the decoder's steps leave alone -/
theorem r1_O {cap sl sh n : Nat} {u u' : SX} {v : SY} (g : fr_O u' = fr_O u) (h : r1_ cap sl sh n u v) : r1_ cap sl sh n u' v := by
  unfold r1_ at *
  rw [fr_O_capacity g, fr_O_slots g, fr_O_shift g, fr_O_lazy g, fr_O_sourceLength g, fr_O_source g]
  exact h
theorem r2_O {sh n c : Nat} {T : Nat → TK} {u u' : SX} {v : SY} (f : fo_ u u') (h : r2_ sh n T c u v) : r2_ sh n T c u' v := by
  obtain ⟨h1, h2, h3, h4, h5, h6⟩ := h
  have g := f.1
  refine ⟨h1, h2, h3, ?_, ?_, h6⟩
  · obtain ⟨x1, x2, x3, x4, x5, x6, x7⟩ := h4
    exact ⟨x1, x2, x3, (fr_O_shift g).trans x4, (fr_O_encRange g).trans x5, fun i hi => by rw [f.2.1 i hi]; exact x6 i hi, xe_R_same x7 (fr_O_codedLength g) (fr_O_encPending g) (fr_O_encCache g) (fr_O_encLow g) (fr_O_coded g)⟩
  · obtain ⟨x1, x2, x3, x4, x5, x6, x7⟩ := h5
    have e := f.2.2.1
    refine ⟨?_, ?_, ?_, ?_, ?_, ?_, ?_⟩
    · rw [e _ (by omega)]; exact x1
    · rw [e _ (by omega)]; exact x2
    · rw [e _ (by omega)]; exact x3
    · rw [e _ (by omega)]; exact x4
    · rw [e _ (by omega)]; exact x5
    · rw [e _ (by omega)]; exact x6
    · intro j hj; rw [f.2.2.2 _ (by omega)]; exact x7 j hj
/-! ===== Y: note; the step of one token ===== -/
theorem yw_note {post : Int32 → SY → Prop} {v : SY} {c kd ln ds p b : Nat} (hc : qy_tokens v 0 = nI c) (h : c < 64) (hp : qy_pos v = nI p) (hp2 : p < 64) (hb : qy_source v p = nI b) (K : ∀ v' : SY, qy_tokens v' 0 = nI (c + 1) → (∀ s, s ≠ 0 → qy_tokens v' s = qy_tokens v s) → yt_ (kd, ln, ds, b) c v' → (∀ (i : Nat) (t : TK), i ≠ c → yt_ t i v → yt_ t i v') → fr_N v' = fr_N v → post (nI kd) v') : wpY_note post v (nI kd) (nI ln) (nI ds) := by
  have inx : vp_in (nI c) 192 := vp_in_nI (by omega) (by omega)
  rw [ey_note, hc, hp, nI_clamp (show p < 2 ^ 31 by omega), hb]
  refine nm_e ?_
  rw [nI_clamp (show c < 2 ^ 31 by omega), nI_1]
  refine ⟨inx, nm_e ⟨inx, nm_e ⟨inx, nm_e ⟨vp_in_nI hp2 (by omega), inx, nm_e (nm_e ?_)⟩⟩⟩⟩
  refine K _ ?_ ?_ ?_ ?_ (fz_N_tokens_tokenKind_tokenLength_tokenDistance_tokenByte _ _ _ _ _ _)
  · simp only [gy_tokens_tokenKind_tokenLength_tokenDistance_tokenByte]; exact pk_us
  · intro s hs
    simp only [gy_tokens_tokenKind_tokenLength_tokenDistance_tokenByte]; exact pk_un hs
  · unfold yt_
    simp only [gy_tokens_tokenKind_tokenLength_tokenDistance_tokenByte]
    exact ⟨pk_us, pk_us, pk_us, pk_us⟩
  · intro i t hi ht
    unfold yt_ at *
    simp only [gy_tokens_tokenKind_tokenLength_tokenDistance_tokenByte]
    rw [pk_un hi, pk_un hi, pk_un hi, pk_un hi]
    exact ht
/-- stream T with token t at place c -/
def tx_ (T : Nat → TK) (c : Nat) (t : TK) : Nat → TK := fun i => if i = c then t else T i
theorem tx_s (T : Nat → TK) (c : Nat) (t : TK) : tx_ T c t c = t := if_pos rfl
theorem tx_n {T : Nat → TK} {c i : Nat} (t : TK) (h : i ≠ c) : tx_ T c t i = T i := if_neg h
theorem tx_H (T : Nat → TK) (c : Nat) (t : TK) : sq_H (tx_ T c t) (c + 1) = hs_t t (sq_H T c) := by
  show hs_t (tx_ T c t c) (sq_H (tx_ T c t) c) = _
  rw [tx_s, sq_H_congr c (fun i hi => tx_n t (by omega))]
theorem tx_A (k : Nat) (T : Nat → TK) (c : Nat) (t : TK) : sq_A k (tx_ T c t) (c + 1) = ca_tok k t (sq_H T c).2.2.1 (sq_A k T c) := by
  show ca_tok k (tx_ T c t c) (sq_H (tx_ T c t) c).2.2.1 (sq_A k (tx_ T c t) c) = _
  rw [tx_s, sq_H_congr c (fun i hi => tx_n t (by omega)), sq_A_congr c (fun i hi => tx_n t (by omega))]
theorem tx_ok {T : Nat → TK} {c : Nat} {t : TK} (h : sq_ok T c) (g : tk_ok t (sq_H T c)) : sq_ok (tx_ T c t) (c + 1) := by
  intro i hi
  by_cases e : i = c
  · subst e
    rw [tx_s, sq_H_congr i (fun j hj => tx_n t (by omega))]
    exact g
  · rw [tx_n t e, sq_H_congr i (fun j hj => tx_n t (by omega))]
    exact h i (by omega)
/-- the encoder's side of X -/
def x2_ (sh : Nat) (T : Nat → TK) (c : Nat) (u : SX) : Prop := sq_ok T c ∧ xe_A sh (sq_A sh T c) u ∧ xh_ 0 (sq_H T c) u
/-- the encoder's side of Y -/
def y2_ (T : Nat → TK) (c : Nat) (v : SY) : Prop := qy_tokens v 0 = nI c ∧ ys_ 0 T c v
/-- what notes and replays leave alone -/
def yn_ (v v' : SY) : Prop := fr_N v' = fr_N v ∧ (∀ s, s ≠ 0 → qy_tokens v' s = qy_tokens v s) ∧ ∀ (i : Nat) (t : TK), 64 ≤ i → yt_ t i v → yt_ t i v'
theorem yn_refl (v : SY) : yn_ v v := ⟨rfl, fun _ _ => rfl, fun _ _ _ h => h⟩
theorem yn_trans {a b c : SY} (h : yn_ a b) (g : yn_ b c) : yn_ a c := ⟨g.1.trans h.1, fun s hs => (g.2.1 s hs).trans (h.2.1 s hs), fun i t hi z => g.2.2 i t hi (h.2.2 i t hi z)⟩
theorem yn_Y {v v' : SY} (f : fr_Y v' = fr_Y v) : yn_ v v' := ⟨fr_YN f, fun s _ => by rw [fr_Y_tokens f], fun _ _ _ z => yt_Y f z⟩
theorem y2_Y {T : Nat → TK} {c : Nat} {v v' : SY} (f : fr_Y v' = fr_Y v) (h : y2_ T c v) : y2_ T c v' := ⟨by rw [fr_Y_tokens f]; exact h.1, ys_Y f h.2⟩
theorem r3_N {sh : Nat} {TS : Nat → Nat → TK} {cS : Nat → Nat} {u : SX} {v v' : SY} (f : yn_ v v') (h : r3_ sh TS cS u v) : r3_ sh TS cS u v' := by
  intro j hj
  rw [fr_N_holds f.1]
  rcases h j hj with q | ⟨q, q1, q2, q3, q4, q5⟩
  · exact Or.inl q
  · refine Or.inr ⟨q, q1, ?_, ⟨q3.1, fun i hi => f.2.2 _ _ (by omega) (q3.2 i hi)⟩, q4, q5⟩
    rw [f.2.1 _ (by omega)]; exact q2
/-- both encoders have gone on to T', c' -/
theorem r_join {k : Nat} {u u' : SX} {v v' : SY} {cap sl sh n c' : Nat} {T' : Nat → TK} {TS : Nat → Nat → TK} {cS : Nat → Nat} (R1 : r1_ cap sl sh n u v) (R3 : r3_ sh TS cS u v) (R4 : r4_ sh TS cS u v) (X : x2_ sh T' c' u') (Y : y2_ T' c' v') (hn : (sq_H T' c').1 ≤ n) (f : ft_ u u') (g : yn_ v v') : i_Rel k u' v' :=
  ⟨cap, sl, sh, n, T', c', TS, cS, r1_Y g.1 (r1_T f.1 R1), ⟨X.1, Y.1, Y.2, X.2.1, X.2.2, hn⟩, r3_N g (r3_X (fr_T_store f.1) (fr_T_storeLength f.1) R3), r4_Y g.1 (r4_T f R4)⟩
/-- one token more, X -/
theorem x_tok {post : Int32 → SX → Prop} {u : SX} {sh c : Nat} {T : Nat → TK} (h : x2_ sh T c u) (t : TK) (g : tk_ok t (sq_H T c)) (hb : t.1 = 1 → qx_source u (sq_H T c).1 = nI t.2.2.2) (K : ∀ u' : SX, x2_ sh (tx_ T c t) (c + 1) u' → ft_ u u' → post (nI t.1) u') : wpX_writeToken post u (nI t.1) (nI t.2.1) (nI t.2.2.1) := by
  obtain ⟨b1, b4, b5⟩ := h
  have ok := sq_H_ok c b1
  have sA := sq_A_go b4.2.1 b4.2.2.1 c b1 ca_0_ok
  have g4 : t.2.1 ≤ 17 := g.2.2.2.1
  have okp := ok.1
  have z0 : ca_0.2.2.2 = 0 := rfl
  have sS := sA.2.2
  refine xw_writeToken (c := 0) (A := sq_A sh T c) ⟨b4, by omega⟩ b5 ok g hb ?_
  intro u' h1 h2 f
  refine K u' ⟨tx_ok b1 g, ?_, ?_⟩ f
  · rw [tx_A]; exact h1.1
  · rw [tx_H]; exact h2
/-- one token more, Y -/
theorem y_tok {post : Int32 → SY → Prop} {v v1 : SY} {c p : Nat} {T : Nat → TK} (h : y2_ T c v) (f1 : fr_Y v1 = fr_Y v) (hp : qy_pos v1 = nI p) (hp2 : p < 64) (hc : c < 64) (t : TK) (hb : qy_source v p = nI t.2.2.2) (K : ∀ v' : SY, y2_ (tx_ T c t) (c + 1) v' → yn_ v v' → post (nI t.1) v') : wpY_note post v1 (nI t.1) (nI t.2.1) (nI t.2.2.1) := by
  refine yw_note (c := c) (p := p) (b := t.2.2.2) (by rw [fr_Y_tokens f1]; exact h.1) hc hp hp2 (by rw [fr_Y_source f1]; exact hb) ?_
  intro v2 n1 n2 n3 n4 n5
  refine K v2 ⟨n1, by omega, ?_⟩ (yn_trans (yn_Y f1) ⟨n5, n2, fun i t hi z => n4 i t (by omega) z⟩)
  intro i hi
  by_cases e : i = c
  · subst e
    rw [tx_s, show 64 * 0 + i = i by omega]
    exact n3
  · rw [tx_n t e]
    exact n4 _ _ (by omega) (yt_Y f1 (h.2.2 i (by omega)))
end
section
/-! ===== ints of any sign ===== -/
theorem px_ge {x : Int32} {a : Nat} (ha : a < 2 ^ 31) (h : ¬ x < nI a) : ∃ j : Nat, a ≤ j ∧ j < 2 ^ 31 ∧ x = nI j := by
  have h0 : ¬ x < 0 := by
    intro z
    apply h
    rw [Int32.lt_iff_toInt_lt] at *
    rw [nI_toInt ha]
    have e : (0 : Int32).toInt = 0 := rfl
    omega
  obtain ⟨j, hj, rfl⟩ := nI_of h0
  refine ⟨j, ?_, hj, rfl⟩
  have z : ¬ j < a := fun z => h ((nI_ltI hj ha).mpr z)
  omega
/-! ===== the pure choice of encodeOne ===== -/
def eo_k (s : Nat → Int32) (n : Nat) (lz : Int32) (h : HH) : Nat × Nat × Nat :=
  if 2 ≤ (rb_g s n h.1 h.2.2.2.2.2.2).2 ∧ rn_g s n h.1 ≤ (rb_g s n h.1 h.2.2.2.2.2.2).2 + 1 then (4 + (rb_g s n h.1 h.2.2.2.2.2.2).1, (rb_g s n h.1 h.2.2.2.2.2.2).2, h.2.2.2.2.2.2 (rb_g s n h.1 h.2.2.2.2.2.2).1) else
  if 2 ≤ rn_g s n h.1 then (if lz = 1 ∧ h.1 + 1 < n ∧ rn_g s n h.1 < rn_g s n (h.1 + 1) then (1, 1, 0) else (2, rn_g s n h.1, rd_x s n h.1 (rn_g s n h.1) (h.1 - 1) 1)) else
  if rn_ s n h.1 (h.2.2.2.2.2.2 0) = 1 then (3, 1, h.2.2.2.2.2.2 0) else (1, 1, 0)
def eo_t (s : Nat → Int32) (n : Nat) (lz : Int32) (h : HH) : TK := ((eo_k s n lz h).1, (eo_k s n lz h).2.1, (eo_k s n lz h).2.2, by_v (s h.1))
theorem eo_lit {s : Nat → Int32} {n : Nat} {h : HH} (hp : h.1 < n) (hn : n ≤ 64) : tk_ok (1, 1, 0, by_v (s h.1)) h ∧ h.1 + 1 ≤ n :=
  ⟨⟨show 1 ≤ 1 by decide, show 1 ≤ 7 by decide, show 1 ≤ 1 by decide, show 1 ≤ 17 by decide, show h.1 + 1 ≤ 64 by omega, by_lt _, fun _ => ⟨rfl, rfl⟩, fun z => absurd rfl z, fun z => absurd z (show ¬ (1 : Nat) = 3 by decide), fun z => absurd rfl z, fun z => absurd z (show ¬ 4 ≤ 1 by decide)⟩, by omega⟩
theorem eo_ok {s : Nat → Int32} {n : Nat} {lz : Int32} {h : HH} (ok : hs_ok h) (hp : h.1 < n) (hn : n ≤ 64) : tk_ok (eo_t s n lz h) h ∧ h.1 + (eo_t s n lz h).2.1 ≤ n := by
  have m1 := rn_m_le n h.1
  unfold eo_t eo_k
  by_cases c1 : 2 ≤ (rb_g s n h.1 h.2.2.2.2.2.2).2 ∧ rn_g s n h.1 ≤ (rb_g s n h.1 h.2.2.2.2.2.2).2 + 1
  · rw [if_pos c1]
    have p := rb_g_p s n h.1 h.2.2.2.2.2.2
    have l := rn_le s n h.1 (h.2.2.2.2.2.2 (rb_g s n h.1 h.2.2.2.2.2.2).1)
    have q := rn_pos (s := s) (n := n) (x := h.1) (d := h.2.2.2.2.2.2 (rb_g s n h.1 h.2.2.2.2.2.2).1) (by omega)
    dsimp only
    refine ⟨⟨?_, ?_, ?_, ?_, ?_, by_lt _, ?_, ?_, ?_, ?_, ?_⟩, ?_⟩
    all_goals try dsimp only
    · omega
    · omega
    · omega
    · omega
    · omega
    · intro z; omega
    · intro _; exact q
    · intro z; omega
    · intro _ _; omega
    · intro _; rw [Nat.add_sub_cancel_left]
    · omega
  · rw [if_neg c1]
    by_cases c2 : 2 ≤ rn_g s n h.1
    · rw [if_pos c2]
      by_cases c3 : lz = 1 ∧ h.1 + 1 < n ∧ rn_g s n h.1 < rn_g s n (h.1 + 1)
      · rw [if_pos c3]; exact eo_lit hp hn
      · rw [if_neg c3]
        obtain ⟨d1, d2, d3, d4⟩ := rd_eq s n h.1 (by omega)
        have l := rn_le s n h.1 (rd_x s n h.1 (rn_g s n h.1) (h.1 - 1) 1)
        dsimp only
        refine ⟨⟨?_, ?_, ?_, ?_, ?_, by_lt _, ?_, ?_, ?_, ?_, ?_⟩, ?_⟩
        all_goals try dsimp only
        · omega
        · omega
        · omega
        · omega
        · omega
        · intro z; omega
        · intro _; exact ⟨d1, d2⟩
        · intro z; omega
        · intro _ _; omega
        · intro z; omega
        · omega
    · rw [if_neg c2]
      by_cases c4 : rn_ s n h.1 (h.2.2.2.2.2.2 0) = 1
      · rw [if_pos c4]
        have q := rn_pos (s := s) (n := n) (x := h.1) (d := h.2.2.2.2.2.2 0) (by omega)
        dsimp only
        refine ⟨⟨?_, ?_, ?_, ?_, ?_, by_lt _, ?_, ?_, ?_, ?_, ?_⟩, ?_⟩
        all_goals try dsimp only
        · omega
        · omega
        · omega
        · omega
        · omega
        · intro z; omega
        · intro _; exact q
        · intro _; exact ⟨rfl, rfl⟩
        · intro _ z; omega
        · intro z; omega
        · omega
      · rw [if_neg c4]; exact eo_lit hp hn
/-! X's encodeOne is writeToken of that choice -/
theorem xw_waiting {post : Int32 → Prop} {u : SX} {n p m : Nat} (hn : qx_sourceLength u = nI n) (h64 : n ≤ 64) (hp : p < n) (hm : m ≤ 17) (K1 : (qx_lazy u = 1 ∧ p + 1 < n ∧ m < rn_g (qx_source u) n (p + 1)) → post 1) (K0 : ¬ (qx_lazy u = 1 ∧ p + 1 < n ∧ m < rn_g (qx_source u) n (p + 1)) → post 0) : wpX_waitingIsBetter post u (nI p) (nI m) := by
  have l : rn_g (qx_source u) n (p + 1) ≤ 17 := rn_x_le _ _ _ (by omega)
  rw [ex_waitingIsBetter, hn, nI_1]
  refine br_c (fun e1 => ?_) (fun e1 => K0 (fun z => e1 z.1))
  refine pk_lt (p + 1) n (fun e2 => ?_) (fun e2 => K0 (fun z => by omega))
  refine xw_great hn h64 (by omega) ?_
  exact pk_le (rn_g (qx_source u) n (p + 1)) m (fun e3 => K0 (fun z => by omega)) (fun e3 => K1 ⟨e1, e2, e3⟩)
theorem xw_encodeOne {post : Int32 → SX → Prop} {u : SX} {n : Nat} {h : HH} (hn : qx_sourceLength u = nI n) (h64 : n ≤ 64) (ok : hs_ok h) (hh : xh_ 0 h u) (hp : h.1 < n) (K : wpX_writeToken post u (nI (eo_k (qx_source u) n (qx_lazy u) h).1) (nI (eo_k (qx_source u) n (qx_lazy u) h).2.1) (nI (eo_k (qx_source u) n (qx_lazy u) h).2.2)) : wpX_encodeOne post u := by
  have po : qx_figures u 0 = nI h.1 := hh.1
  have rp : ∀ j, j < 4 → qx_reps u j = nI (h.2.2.2.2.2.2 j) := by
    intro j hj
    have := hh.2.2.2.2.2.2 j hj
    rw [show 4 * 0 + j = j by omega] at this
    exact this
  have rl : ∀ j, h.2.2.2.2.2.2 j ≤ 64 := fun j => (ok.2.2.2.2.2.2 j).2
  have gl : rn_g (qx_source u) n h.1 ≤ 17 := rn_x_le _ _ _ (by omega)
  have m1 := rn_m_le n h.1
  have q := rb_g_p (qx_source u) n h.1 h.2.2.2.2.2.2
  have ql := rn_le (qx_source u) n h.1 (h.2.2.2.2.2.2 (rb_g (qx_source u) n h.1 h.2.2.2.2.2.2).1)
  have q0 := rn_le (qx_source u) n h.1 (h.2.2.2.2.2.2 0)
  rw [ex_encodeOne, po, hn]
  refine nm_e (br_t (nI_lt hp (by omega)) ?_)
  refine xw_great hn h64 (by omega) (xw_best hn h64 (by omega) rp rl ?_)
  have ivp : vp_in (nI (rb_g (qx_source u) n h.1 h.2.2.2.2.2.2).1) 8 := vp_in_nI (by omega) (by omega)
  rw [nI_clamp (show (rb_g (qx_source u) n h.1 h.2.2.2.2.2.2).1 < 2 ^ 31 by omega), rp _ q.1]
  refine ⟨ivp, xw_run hn h64 (by omega) (rl _) ?_⟩
  rw [← q.2]
  rw [← q.2] at ql
  have c73 : ¬ (2 ≤ (rb_g (qx_source u) n h.1 h.2.2.2.2.2.2).2 ∧ rn_g (qx_source u) n h.1 ≤ (rb_g (qx_source u) n h.1 h.2.2.2.2.2.2).2 + 1) → zx_encodeOne_73 post (nI h.1) (nI (rn_g (qx_source u) n h.1)) u := by
    intro z
    unfold eo_k at K
    rw [if_neg z] at K
    rw [ex_encodeOne_73, rp 0 (by omega)]
    refine pk_lt (rn_g (qx_source u) n h.1) 2 (fun y => ?_) (fun y => ?_)
    · rw [if_neg (by omega)] at K
      refine xw_run hn h64 (by omega) (rl 0) ?_
      refine pk_eq (rn_ (qx_source u) n h.1 (h.2.2.2.2.2.2 0)) 1 (fun x => ?_) (fun x => ?_)
      · rw [if_pos x] at K; exact K
      · rw [if_neg x] at K; exact K
    · rw [if_pos y] at K
      refine xw_waiting hn h64 hp gl (fun x => br_f (by decide) ?_) (fun x => br_t rfl ?_)
      · rw [if_pos x] at K; exact K
      · rw [if_neg x] at K
        obtain ⟨d1, d2, d3, d4⟩ := rd_eq (qx_source u) n h.1 (by omega)
        exact xw_small hn h64 (by omega) (by omega) gl K
  refine pk_lt (rb_g (qx_source u) n h.1 h.2.2.2.2.2.2).2 2 (fun z => c73 (by omega)) (fun z => ?_)
  rw [nI_1]
  refine pk_lt ((rb_g (qx_source u) n h.1 h.2.2.2.2.2.2).2 + 1) (rn_g (qx_source u) n h.1) (fun y => c73 (by omega)) (fun y => ⟨ivp, ?_⟩)
  unfold eo_k at K
  rw [if_pos ⟨z, y⟩] at K
  rw [show (4 : Int32) + nI (rb_g (qx_source u) n h.1 h.2.2.2.2.2.2).1 = nI (4 + (rb_g (qx_source u) n h.1 h.2.2.2.2.2.2).1) from nI_add 4 _]
  exact K
/-! Y's encodeOne is note of that choice -/
theorem yw_dm {post : Int32 → SY → Prop} {v : SY} {n p m : Nat} (hn : qy_n v = nI n) (h64 : n ≤ 64) (hp : qy_pos v = nI p) (hpn : p ≤ n) (hm : m ≤ 17) : ∀ (d f a : Nat), d < f → d ≤ p → (∃ n69 : Nat, zy_encodeOne_69 post (nI m) (nI (rd_y (qy_source v) n p m d a)) n69 (-1) 0 0 v) → zy_encodeOne_35 post (nI m) f (nI a) (nI d) v := by
  intro d
  induction d with
  | zero =>
    intro f a hf hd K
    obtain ⟨f, rfl⟩ : ∃ g, f = g + 1 := ⟨f - 1, by omega⟩
    rw [ey_encodeOne_35]
    exact br_t (by decide) K
  | succ d ih =>
    intro f a hf hd K
    obtain ⟨f, rfl⟩ : ∃ g, f = g + 1 := ⟨f - 1, by omega⟩
    have K' : ∃ n69 : Nat, zy_encodeOne_69 post (nI m) (nI (rd_y (qy_source v) n p m d (if rn_ (qy_source v) n p (d + 1) = m then d + 1 else a))) n69 (-1) 0 0 v := K
    have l1 := rn_le (qy_source v) n p (d + 1)
    have l2 := rn_m_le n p
    rw [ey_encodeOne_35, hp]
    refine br_f (nI_nlt (b := 1) (by omega) (by omega)) (yw_run hn h64 hpn (by omega) (by omega) ?_)
    refine pk_eq (rn_ (qy_source v) n p (d + 1)) m (fun z => nm_r (pk_m1 d) ?_) (fun z => nm_r (pk_m1 d) ?_)
    · rw [if_pos z] at K'
      exact ih f (d + 1) (by omega) (by omega) K'
    · rw [if_neg z] at K'
      exact ih f a (by omega) (by omega) K'
theorem yw_rep_l {post : Int32 → SY → Prop} {v : SY} {n p m dm : Nat} {r : Nat → Nat} (hn : qy_n v = nI n) (h64 : n ≤ 64) (hp : qy_pos v = nI p) (hpn : p ≤ n) (hr : ∀ j, j < 4 → qy_r v j = nI (r j)) (hr2 : ∀ j, 1 ≤ r j ∧ r j ≤ 64) (K : ∀ q b : Nat, (q, b) = rb_g (qy_source v) n p r → ((nI b < 2 → zy_encodeOne_140 post (nI m) (nI dm) v) ∧ (¬ nI b < 2 → (((nI b + 1) < nI m → zy_encodeOne_140 post (nI m) (nI dm) v) ∧ (¬ (nI b + 1) < nI m → (vp_in (nI q) 4 ∧ wpY_note post v (4 + nI q) (nI b) ((qy_r v) (nI q).toNatClampNeg))))))) : ∀ (j f i q b : Nat), j < f → i + j = 4 → 1 ≤ i → b ≤ 17 → rb_ (qy_source v) n p r j i q b = rb_g (qy_source v) n p r → zy_encodeOne_69 post (nI m) (nI dm) f (nI b) (nI q) (nI i) v := by
  intro j
  induction j with
  | zero =>
    intro f i q b hf hi h1 hb e
    obtain ⟨f, rfl⟩ : ∃ g, f = g + 1 := ⟨f - 1, by omega⟩
    rw [ey_encodeOne_69]
    exact br_t (nI_le (a := 4) (by omega) (by omega)) (K q b e)
  | succ j ih =>
    intro f i q b hf hi h1 hb e
    obtain ⟨f, rfl⟩ : ∃ g, f = g + 1 := ⟨f - 1, by omega⟩
    have e' : (if rn_ (qy_source v) n p (r i) ≤ b then rb_ (qy_source v) n p r j (i + 1) q b else rb_ (qy_source v) n p r j (i + 1) i (rn_ (qy_source v) n p (r i))) = rb_g (qy_source v) n p r := e
    have l1 := rn_le (qy_source v) n p (r i)
    have l2 := rn_m_le n p
    rw [ey_encodeOne_69, nI_clamp (show i < 2 ^ 31 by omega), hr i (by omega), hp]
    refine br_f (nI_ge (b := 4) (by omega) (by omega)) ⟨vp_in_nI (by omega) (by omega), yw_run hn h64 hpn (hr2 i).1 (hr2 i).2 ?_⟩
    refine pk_le (rn_ (qy_source v) n p (r i)) b (fun z => nm_r (nI_1 i) ?_) (fun z => nm_r (nI_1 i) ?_)
    · rw [if_pos z] at e'
      exact ih f (i + 1) q b (by omega) (by omega) (by omega) hb e'
    · rw [if_neg (by omega)] at e'
      exact ih f (i + 1) i _ (by omega) (by omega) (by omega) (by omega) e'
theorem yw_encodeOne {post : Int32 → SY → Prop} {v : SY} {n : Nat} {h : HH} (hn : qy_n v = nI n) (h64 : n ≤ 64) (ok : hs_ok h) (hh : yh_ h v) (hp : h.1 < n) (K : wpY_note post v (nI (eo_k (qy_source v) n (qy_lazy v) h).1) (nI (eo_k (qy_source v) n (qy_lazy v) h).2.1) (nI (eo_k (qy_source v) n (qy_lazy v) h).2.2)) : wpY_longest (fun r_28 => (∃ n35 : Nat, zy_encodeOne_35 post r_28 n35 0 (qy_pos v) v)) v (qy_pos v) := by
  have po : qy_pos v = nI h.1 := hh.1
  have rp := hh.2.2.2.2.2.2
  have rl := ok.2.2.2.2.2.2
  have gl : rn_g (qy_source v) n h.1 ≤ 17 := rn_x_le _ _ _ (by omega)
  have m1 := rn_m_le n h.1
  have q := rb_g_p (qy_source v) n h.1 h.2.2.2.2.2.2
  have ql := rn_le (qy_source v) n h.1 (h.2.2.2.2.2.2 (rb_g (qy_source v) n h.1 h.2.2.2.2.2.2).1)
  have q0 := rn_le (qy_source v) n h.1 (h.2.2.2.2.2.2 0)
  rw [po]
  refine yw_long hn h64 (by omega) ⟨h.1 + 1, ?_⟩
  refine yw_dm hn h64 po (by omega) gl h.1 (h.1 + 1) 0 (by omega) (by omega) ?_
  have c188 : ¬ (2 ≤ (rb_g (qy_source v) n h.1 h.2.2.2.2.2.2).2 ∧ rn_g (qy_source v) n h.1 ≤ (rb_g (qy_source v) n h.1 h.2.2.2.2.2.2).2 + 1) → ¬ (2 ≤ rn_g (qy_source v) n h.1 ∧ (qy_lazy v = 1 ∧ h.1 + 1 < n ∧ rn_g (qy_source v) n h.1 < rn_g (qy_source v) n (h.1 + 1))) → zy_encodeOne_188 post (nI (rn_g (qy_source v) n h.1)) (nI (rd_y (qy_source v) n h.1 (rn_g (qy_source v) n h.1) h.1 0)) v := by
    intro z w
    unfold eo_k at K
    rw [if_neg z] at K
    rw [ey_encodeOne_188, rp 0 (by omega), po]
    refine pk_lt (rn_g (qy_source v) n h.1) 2 (fun y => ?_) (fun y => ?_)
    · rw [if_neg (by omega)] at K
      refine yw_run hn h64 (by omega) (rl 0).1 (rl 0).2 ?_
      refine pk_eq (rn_ (qy_source v) n h.1 (h.2.2.2.2.2.2 0)) 1 (fun x => ?_) (fun x => ?_)
      · rw [if_pos x] at K; exact K
      · rw [if_neg x] at K; exact K
    · rw [if_pos y, if_neg (fun x => w ⟨y, x⟩)] at K
      obtain ⟨d1, d2, d3, d4⟩ := rd_eq (qy_source v) n h.1 (by omega)
      rw [d4]
      exact K
  have c140 : ¬ (2 ≤ (rb_g (qy_source v) n h.1 h.2.2.2.2.2.2).2 ∧ rn_g (qy_source v) n h.1 ≤ (rb_g (qy_source v) n h.1 h.2.2.2.2.2.2).2 + 1) → zy_encodeOne_140 post (nI (rn_g (qy_source v) n h.1)) (nI (rd_y (qy_source v) n h.1 (rn_g (qy_source v) n h.1) h.1 0)) v := by
    intro z
    rw [ey_encodeOne_140, po, hn, nI_1]
    refine pk_lt (rn_g (qy_source v) n h.1) 2 (fun y => c188 z (by omega)) (fun y => ?_)
    refine br_c (fun e1 => ?_) (fun e1 => c188 z (fun x => e1 x.2.1))
    refine pk_le n (h.1 + 1) (fun e2 => c188 z (by omega)) (fun e2 => ?_)
    have gl2 : rn_g (qy_source v) n (h.1 + 1) ≤ 17 := rn_x_le _ _ _ (by omega)
    refine yw_long hn h64 (by omega) ?_
    refine pk_le (rn_g (qy_source v) n (h.1 + 1)) (rn_g (qy_source v) n h.1) (fun e3 => c188 z (by omega)) (fun e3 => ?_)
    unfold eo_k at K
    rw [if_neg z, if_pos y, if_pos ⟨e1, e2, e3⟩] at K
    exact K
  refine ⟨5, ?_⟩
  rw [ey_encodeOne_69]
  refine br_f (by decide) ⟨pk_in 0 4 (by omega), ?_⟩
  rw [show (0 : Int32).toNatClampNeg = 0 from rfl, rp 0 (by omega), po]
  refine yw_run hn h64 (by omega) (rl 0).1 (rl 0).2 ?_
  refine br_f ?_ (nm_r (e' := nI 1) rfl ?_)
  · rw [Int32.le_iff_toInt_le, nI_toInt (by omega)]
    have e : (-1 : Int32).toInt = -1 := by decide
    omega
  refine yw_rep_l (r := h.2.2.2.2.2.2) hn h64 po (by omega) rp rl ?_ 3 4 1 0 _ (by omega) (by omega) (by omega) (by omega) rfl
  intro q' b' e
  rw [← e] at q ql c140
  dsimp only at q ql c140
  unfold eo_k at K
  rw [← e] at K
  dsimp only at K
  rw [← q.2] at ql
  refine pk_lt b' 2 (fun z => c140 (by omega)) (fun z => ?_)
  rw [nI_1]
  refine pk_lt (b' + 1) (rn_g (qy_source v) n h.1) (fun y => c140 (by omega)) (fun y => ⟨vp_in_nI (by omega) (by omega), ?_⟩)
  rw [if_pos ⟨z, y⟩] at K
  rw [show (4 : Int32) + nI q' = nI (4 + q') from nI_add 4 _, nI_clamp (show q' < 2 ^ 31 by omega), rp q' q.1]
  exact K
end
section
/-! ===== owed: the source ===== -/
theorem by_self (x : Int32) : x &&& 255 = nI (by_v (x &&& 255)) := by
  rw [by_and, by_nI (by have := by_lt x; omega), Nat.mod_eq_of_lt (by_lt x)]
/-- a longer source on both sides -/
theorem i_src {k : Nat} {u : SX} {v : SY} {cap sl sh n c : Nat} {T : Nat → TK} {TS : Nat → Nat → TK} {cS : Nat → Nat} (R1 : r1_ cap sl sh n u v) (R2 : r2_ sh n T c u v) (R3 : r3_ sh TS cS u v) (R4 : r4_ sh TS cS u v) (n' : Nat) (s' : Nat → Int32) (h1 : n ≤ n') (h2 : n' ≤ cap) (hb : ∀ i, i < n' → s' i = nI (by_v (s' i))) : i_Rel k (ux_sourceLength_source (nI n') s' u) (uy_n_source (nI n') s' v) := by
  refine ⟨cap, sl, sh, n', T, c, TS, cS, ?_, ?_, ?_, ?_⟩
  · obtain ⟨a1, a2, a3, a4, a5, a6, a7, a8, a9, a10, a11, a12, a13, a14, a15, a16, a17, a18⟩ := R1
    unfold r1_
    simp only [gx_sourceLength_source, gy_n_source]
    exact ⟨a1, a2, a3, a4, a5, a6, a7, a8, a9, a10, a11, a12, a13, trivial, trivial, h2, trivial, hb⟩
  · obtain ⟨b1, b2, b3, b4, b5, b6⟩ := R2
    refine ⟨b1, ?_, ?_, ?_, ?_, by omega⟩
    · simp only [gy_n_source]; exact b2
    · unfold ys_ yt_ at *; simp only [gy_n_source]; exact b3
    · unfold xe_A xe_R at *; simp only [gx_sourceLength_source]; exact b4
    · unfold xh_ at *; simp only [gx_sourceLength_source]; exact b5
  · unfold r3_ r3_h ys_ yt_ at *
    simp only [gx_sourceLength_source, gy_n_source]
    exact R3
  · unfold r4_ r4_c r4_o xd_A xd_S xh_ at *
    simp only [gx_sourceLength_source, gy_n_source]
    exact R4
theorem xw_append {post : SX → Prop} {u : SX} {cap n : Nat} {x : Int32} (hc : qx_capacity u = nI cap) (hn : qx_sourceLength u = nI n) (h : n < cap) (h64 : cap ≤ 64) (K : post (ux_sourceLength_source (nI (n + 1)) (upd (qx_source u) n (x &&& 255)) u)) : wpX_append post u x := by
  rw [ex_append, hc, hn, nI_clamp (show n < 2 ^ 31 by omega)]
  exact br_f (nI_ge h (by omega)) ⟨vp_in_nI (by omega) (by omega), nm_e (nm_r (nI_1 n) K)⟩
theorem yw_put {post : Int32 → SY → Prop} {v : SY} {cap n : Nat} {x : Int32} (hc : qy_cap v = nI cap) (hn : qy_n v = nI n) (h : n < cap) (h64 : cap ≤ 64) (K : post (nI (n + 1)) (uy_n_source (nI (n + 1)) (upd (qy_source v) n (x &&& 255)) v)) : wpY_put post v x := by
  rw [ey_put, hc, hn, nI_clamp (show n < 2 ^ 31 by omega)]
  refine pk_eq n cap (fun z => absurd z (by omega)) (fun _ => ⟨vp_in_nI (by omega) (by omega), nm_e (nm_r (nI_1 n) K)⟩)
theorem sx_sls (a b : Int32) (s t : Nat → Int32) (u : SX) : ux_sourceLength_source a s (ux_sourceLength_source b t u) = ux_sourceLength_source a s u := rfl
theorem sy_ns (a b : Int32) (s t : Nat → Int32) (u : SY) : uy_n_source a s (uy_n_source b t u) = uy_n_source a s u := rfl
theorem et_sls (u : SX) : ux_sourceLength_source (qx_sourceLength u) (qx_source u) u = u := rfl
theorem et_ns (u : SY) : uy_n_source (qy_n u) (qy_source u) u = u := rfl
theorem i_vc_put {k : Nat} {u : SX} {v : SY} (I : i_Rel k u v) (hk : k + 4 ≤ 2052) (v1 : Int32) : wpX_put (fun r u' => wpY_put (fun r' v' => r' = r ∧ i_Rel (k + 4) u' v') v v1) u v1 := by
  have I0 := I
  obtain ⟨cap, sl, sh, n, T, c, TS, cS, R1, R2, R3, R4⟩ := I
  obtain ⟨a1, a2, a3, a4, a5, a6, a7, a8, a9, a10, a11, a12, a13, a14, a15, a16, a17, a18⟩ := id R1
  rw [ex_put, a1, a14]
  refine pk_lt n cap (fun z => ?_) (fun z => ?_)
  · refine xw_append a1 a14 z a4 ?_
    refine yw_put a2 a15 z a4 ⟨?_, ?_⟩
    · simp only [gx_sourceLength_source]
    · rw [← a17]
      refine i_src R1 R2 R3 R4 (n + 1) _ (by omega) (by omega) ?_
      intro i hi
      by_cases e : i = n
      · rw [e, pk_us]; exact by_self v1
      · rw [pk_un e]; exact a18 i (by omega)
  · rw [ey_put, a2, a15]
    exact pk_eq n cap (fun _ => ⟨rfl, I0⟩) (fun y => absurd y (by omega))
theorem by_sh (x : Int32) (j : Nat) (hj : j ≤ 24) : ((x.toUInt32 >>> ((nI j).toUInt32 &&& Int32.toUInt32 31)).toInt32) &&& 255 = (x >>> (nI j &&& 31)) &&& 255 := by
  apply b_ext
  intro i hi
  rw [b_and, b_and, b_255]
  by_cases e : i < 8
  · rw [b_ushr j (by omega), b_sshr j (by omega) x hi, if_pos (by omega)]
  · rw [decide_eq_false e, Bool.and_false, Bool.and_false]
/-- four appends -/
def pw_ (w : Int32) (n : Nat) (s : Nat → Int32) : Nat → Int32 := upd (upd (upd (upd s n ((w >>> (nI 24 &&& 31)) &&& 255)) (n + 1) ((w >>> (nI 16 &&& 31)) &&& 255)) (n + 2) ((w >>> (nI 8 &&& 31)) &&& 255)) (n + 3) ((w >>> (nI 0 &&& 31)) &&& 255)
theorem xw_putWord {post : Int32 → SX → Prop} {u : SX} {cap n : Nat} {w : Int32} (hc : qx_capacity u = nI cap) (hn : qx_sourceLength u = nI n) (h : n + 4 ≤ cap) (h64 : cap ≤ 64) (K : post (nI (n + 4)) (ux_sourceLength_source (nI (n + 4)) (pw_ w n (qx_source u)) u)) : ∃ n18 : Nat, zx_putWord_18 post w n18 24 u := by
  refine ⟨5, ?_⟩
  rw [ex_putWord_18]
  refine br_f (by decide) (xw_append (n := n) hc hn (by omega) h64 (nm_r (e' := nI 16) (by decide) ?_))
  rw [show (24 : Int32) = nI 24 from rfl, by_sh w 24 (by omega), ex_putWord_18]
  refine br_f (by decide) (xw_append (cap := cap) (n := n + 1) (by simp only [gx_sourceLength_source]; exact hc) (by simp only [gx_sourceLength_source]) (by omega) h64 (nm_r (e' := nI 8) (by decide) ?_))
  rw [by_sh w 16 (by omega), sx_sls, ex_putWord_18]
  simp only [gx_sourceLength_source]
  refine br_f (by decide) (xw_append (cap := cap) (n := n + 2) (by simp only [gx_sourceLength_source]; exact hc) (by simp only [gx_sourceLength_source]) (by omega) h64 (nm_r (e' := nI 0) (by decide) ?_))
  rw [by_sh w 8 (by omega), sx_sls, ex_putWord_18]
  simp only [gx_sourceLength_source]
  refine br_f (by decide) (xw_append (cap := cap) (n := n + 3) (by simp only [gx_sourceLength_source]; exact hc) (by simp only [gx_sourceLength_source]) (by omega) h64 (nm_r (e' := -8) (by decide) ?_))
  rw [by_sh w 0 (by omega), sx_sls, ex_putWord_18]
  simp only [gx_sourceLength_source]
  exact br_t (by decide) K
theorem yw_putWord {post : Int32 → SY → Prop} {v : SY} {cap n : Nat} {w : Int32} (hc : qy_cap v = nI cap) (hn : qy_n v = nI n) (h : n + 4 ≤ cap) (h64 : cap ≤ 64) (K : post (nI (n + 4)) (uy_n_source (nI (n + 4)) (pw_ w n (qy_source v)) v)) : ∃ n18 : Nat, zy_putWord_18 post w n18 24 v := by
  refine ⟨5, ?_⟩
  rw [ey_putWord_18]
  refine br_f (by decide) (yw_put (n := n) hc hn (by omega) h64 (nm_r (e' := nI 16) (by decide) ?_))
  rw [show (24 : Int32) = nI 24 from rfl, ey_putWord_18]
  refine br_f (by decide) (yw_put (cap := cap) (n := n + 1) (by simp only [gy_n_source]; exact hc) (by simp only [gy_n_source]) (by omega) h64 (nm_r (e' := nI 8) (by decide) ?_))
  rw [sy_ns, ey_putWord_18]
  simp only [gy_n_source]
  refine br_f (by decide) (yw_put (cap := cap) (n := n + 2) (by simp only [gy_n_source]; exact hc) (by simp only [gy_n_source]) (by omega) h64 (nm_r (e' := nI 0) (by decide) ?_))
  rw [sy_ns, ey_putWord_18]
  simp only [gy_n_source]
  refine br_f (by decide) (yw_put (cap := cap) (n := n + 3) (by simp only [gy_n_source]; exact hc) (by simp only [gy_n_source]) (by omega) h64 (nm_r (e' := -8) (by decide) ?_))
  rw [sy_ns, ey_putWord_18]
  simp only [gy_n_source]
  exact br_t (by decide) K
theorem i_vc_putWord {k : Nat} {u : SX} {v : SY} (I : i_Rel k u v) (hk : k + 4 ≤ 2052) (v1 : Int32) : wpX_putWord (fun r u' => wpY_putWord (fun r' v' => r' = r ∧ i_Rel (k + 4) u' v') v v1) u v1 := by
  have I0 := I
  obtain ⟨cap, sl, sh, n, T, c, TS, cS, R1, R2, R3, R4⟩ := I
  obtain ⟨a1, a2, a3, a4, a5, a6, a7, a8, a9, a10, a11, a12, a13, a14, a15, a16, a17, a18⟩ := id R1
  rw [ex_putWord, a1, a14, pk_sub a16]
  refine pk_le 4 (cap - n) (fun z => ?_) (fun z => ?_)
  · refine xw_putWord a1 a14 (by omega) a4 ?_
    rw [ey_putWord, a2, a15, pk_sub a16]
    refine br_t (nI_le (a := 4) z (by omega)) (yw_putWord a2 a15 (by omega) a4 ⟨rfl, ?_⟩)
    rw [← a17]
    refine i_src R1 R2 R3 R4 (n + 4) _ (by omega) (by omega) ?_
    intro i hi
    unfold pw_
    by_cases e3 : i = n + 3
    · rw [e3, pk_us]; exact by_self _
    rw [pk_un e3]
    by_cases e2 : i = n + 2
    · rw [e2, pk_us]; exact by_self _
    rw [pk_un e2]
    by_cases e1 : i = n + 1
    · rw [e1, pk_us]; exact by_self _
    rw [pk_un e1]
    by_cases e0 : i = n
    · rw [e0, pk_us]; exact by_self _
    rw [pk_un e0]
    exact a18 i (by omega)
  · rw [ey_putWord, a2, a15, pk_sub a16]
    exact br_f (nI_ge (b := 4) (by omega) (by omega)) ⟨rfl, I0⟩
/-- j copies from d places before -/
def pc_ (d : Nat) : Nat → Nat → (Nat → Int32) → (Nat → Int32)
  | 0, _, s => s
  | j + 1, n, s => pc_ d j (n + 1) (upd s n (s (n - d) &&& 255))
theorem pc_b {d : Nat} : ∀ (j n : Nat) (s : Nat → Int32), (∀ i, i < n → s i = nI (by_v (s i))) → ∀ i, i < n + j → pc_ d j n s i = nI (by_v (pc_ d j n s i)) := by
  intro j
  induction j with
  | zero => intro n s h i hi; exact h i hi
  | succ j ih =>
    intro n s h i hi
    refine ih (n + 1) _ ?_ i (by omega)
    intro q hq
    by_cases e : q = n
    · rw [e, pk_us]; exact by_self _
    · rw [pk_un e]; exact h q (by omega)
theorem xw_putCopy {post : Int32 → SX → Prop} {u : SX} {cap d ct : Nat} (hc : qx_capacity u = nI cap) (h64 : cap ≤ 64) (hd : 1 ≤ d) (hct : ct < 2 ^ 31) : ∀ (j f i n : Nat) (s : Nat → Int32), j < f → i + j = ct → n + j ≤ cap → d ≤ n → post (nI (n + j)) (ux_sourceLength_source (nI (n + j)) (pc_ d j n s) u) → zx_putCopy_41 post (nI d) (nI ct) f (nI i) (ux_sourceLength_source (nI n) s u) := by
  intro j
  induction j with
  | zero =>
    intro f i n s hf hi hn hdn K
    obtain ⟨f, rfl⟩ : ∃ g, f = g + 1 := ⟨f - 1, by omega⟩
    rw [ex_putCopy_41]
    simp only [gx_sourceLength_source]
    exact br_t (nI_le (by omega) (by omega)) K
  | succ j ih =>
    intro f i n s hf hi hn hdn K
    obtain ⟨f, rfl⟩ : ∃ g, f = g + 1 := ⟨f - 1, by omega⟩
    rw [ex_putCopy_41]
    simp only [gx_sourceLength_source]
    rw [pk_sub hdn, nI_clamp (show n - d < 2 ^ 31 by omega)]
    refine br_f (nI_ge (by omega) (by omega)) ⟨vp_in_nI (by omega) (by omega), ?_⟩
    refine xw_append (cap := cap) (n := n) (by simp only [gx_sourceLength_source]; exact hc) (by simp only [gx_sourceLength_source]) (by omega) h64 (nm_r (nI_1 i) ?_)
    rw [sx_sls]
    simp only [gx_sourceLength_source]
    refine ih f (i + 1) (n + 1) _ (by omega) (by omega) (by omega) (by omega) ?_
    rw [show n + 1 + j = n + (j + 1) by omega]
    exact K
theorem yw_putCopy {post : Int32 → SY → Prop} {v : SY} {cap d ct : Nat} (hc : qy_cap v = nI cap) (h64 : cap ≤ 64) (hd : 1 ≤ d) (hct : ct < 2 ^ 31) : ∀ (j f i n : Nat) (s : Nat → Int32), j < f → i + j = ct → n + j ≤ cap → d ≤ n → post (nI (n + j)) (uy_n_source (nI (n + j)) (pc_ d j n s) v) → zy_putCopy_41 post (nI d) (nI ct) f (nI i) (uy_n_source (nI n) s v) := by
  intro j
  induction j with
  | zero =>
    intro f i n s hf hi hn hdn K
    obtain ⟨f, rfl⟩ : ∃ g, f = g + 1 := ⟨f - 1, by omega⟩
    rw [ey_putCopy_41]
    simp only [gy_n_source]
    exact br_t (nI_le (by omega) (by omega)) K
  | succ j ih =>
    intro f i n s hf hi hn hdn K
    obtain ⟨f, rfl⟩ : ∃ g, f = g + 1 := ⟨f - 1, by omega⟩
    rw [ey_putCopy_41]
    simp only [gy_n_source]
    rw [pk_sub hdn, nI_clamp (show n - d < 2 ^ 31 by omega)]
    refine br_f (nI_ge (by omega) (by omega)) ⟨vp_in_nI (by omega) (by omega), ?_⟩
    refine yw_put (cap := cap) (n := n) (by simp only [gy_n_source]; exact hc) (by simp only [gy_n_source]) (by omega) h64 (nm_r (nI_1 i) ?_)
    rw [sy_ns]
    simp only [gy_n_source]
    refine ih f (i + 1) (n + 1) _ (by omega) (by omega) (by omega) (by omega) ?_
    rw [show n + 1 + j = n + (j + 1) by omega]
    exact K
theorem i_vc_putCopy {k : Nat} {u : SX} {v : SY} (I : i_Rel k u v) (hk : k + 4 ≤ 2052) (v1 : Int32) (v2 : Int32) : wpX_putCopy (fun r u' => wpY_putCopy (fun r' v' => r' = r ∧ i_Rel (k + 4) u' v') v v1 v2) u v1 v2 := by
  have I0 := I
  obtain ⟨cap, sl, sh, n, T, c, TS, cS, R1, R2, R3, R4⟩ := I
  obtain ⟨a1, a2, a3, a4, a5, a6, a7, a8, a9, a10, a11, a12, a13, a14, a15, a16, a17, a18⟩ := id R1
  rw [ex_putCopy, a1, a14, pk_sub a16]
  have hY : ∀ (post : Int32 → SY → Prop), wpY_putCopy post v v1 v2 = (((v1 < 1 → (post (-3) v)) ∧ (¬ v1 < 1 → ((v1 ≤ nI n → ((1 ≤ v2 → ((v2 ≤ nI (cap - n) → (∃ n41 : Nat, zy_putCopy_41 post v1 v2 n41 0 v)) ∧ (¬ v2 ≤ nI (cap - n) → (post (-1) v)))) ∧ (¬ 1 ≤ v2 → (post (-3) v)))) ∧ (¬ v1 ≤ nI n → (post (-3) v)))))) := by
    intro post
    rw [ey_putCopy, a2, a15, pk_sub a16]
  refine br_c (fun z1 => ?_) (fun z1 => br_c (fun z2 => br_c (fun z3 => br_c (fun z4 => ?_) (fun z4 => ?_)) (fun z3 => ?_)) (fun z2 => ?_))
  · rw [hY]; exact br_t z1 ⟨rfl, I0⟩
  · obtain ⟨d, d1, d2, rfl⟩ := px_ge (a := 1) (by omega) z1
    obtain ⟨ct, c1, c2, rfl⟩ := px_ge (a := 1) (x := v2) (by omega) (Int32.not_lt.mpr z3)
    have z2' := (nI_leI d2 (show n < 2 ^ 31 by omega)).mp z2
    have z4' := (nI_leI c2 (show cap - n < 2 ^ 31 by omega)).mp z4
    have hX := xw_putCopy (post := fun r u' => wpY_putCopy (fun r' v' => r' = r ∧ i_Rel (k + 4) u' v') v (nI d) (nI ct)) (u := u) a1 a4 d1 c2 ct (ct + 1) 0 n (qx_source u) (by omega) (by omega) (by omega) z2' (by
      rw [hY]
      refine br_f z1 (br_t z2 (br_t z3 (br_t z4 ⟨ct + 1, ?_⟩)))
      have hV := yw_putCopy (post := fun r' v' => r' = nI (n + ct) ∧ i_Rel (k + 4) (ux_sourceLength_source (nI (n + ct)) (pc_ d ct n (qx_source u)) u) v') (v := v) a2 a4 d1 c2 ct (ct + 1) 0 n (qy_source v) (by omega) (by omega) (by omega) z2' (by
        refine ⟨rfl, ?_⟩
        rw [← a17]
        exact i_src R1 R2 R3 R4 (n + ct) _ (by omega) (by omega) (pc_b ct n _ a18))
      rw [← a15, et_ns, nI_0] at hV
      exact hV)
    rw [← a14, et_sls, nI_0] at hX
    exact ⟨ct + 1, hX⟩
  · rw [hY]; exact br_f z1 (br_t z2 (br_t z3 (br_f z4 ⟨rfl, I0⟩)))
  · rw [hY]; exact br_f z1 (br_t z2 (br_f z3 ⟨rfl, I0⟩))
  · rw [hY]; exact br_f z1 (br_f z2 ⟨rfl, I0⟩)
end
section
/-! ===== owed: encodeLiteral, encodeMatch, encodeRep, encodeOne ===== -/
theorem x2_of {sh n c : Nat} {T : Nat → TK} {u : SX} {v : SY} (R2 : r2_ sh n T c u v) : x2_ sh T c u := ⟨R2.1, R2.2.2.2.1, R2.2.2.2.2.1⟩
theorem y2_of {sh n c : Nat} {T : Nat → TK} {u : SX} {v : SY} (R2 : r2_ sh n T c u v) : y2_ T c v := ⟨R2.2.1, R2.2.2.1⟩
theorem i_tokY {k : Nat} {u u' : SX} {v v1 : SY} {cap sl sh n c : Nat} {T : Nat → TK} {TS : Nat → Nat → TK} {cS : Nat → Nat} (R1 : r1_ cap sl sh n u v) (R2 : r2_ sh n T c u v) (R3 : r3_ sh TS cS u v) (R4 : r4_ sh TS cS u v) (t : TK) (g : tk_ok t (sq_H T c)) (hl : (sq_H T c).1 + t.2.1 ≤ n) (hb : t.2.2.2 = by_v (qx_source u (sq_H T c).1)) (X' : x2_ sh (tx_ T c t) (c + 1) u') (f : ft_ u u') (z : yz_ (sq_A sh T c).1 (sq_H T c) (sq_O T c) v1) (f1 : fr_Y v1 = fr_Y v) : wpY_note (fun r' v' => r' = nI t.1 ∧ i_Rel k u' v') v1 (nI t.1) (nI t.2.1) (nI t.2.2.1) := by
  obtain ⟨a1, a2, a3, a4, a5, a6, a7, a8, a9, a10, a11, a12, a13, a14, a15, a16, a17, a18⟩ := id R1
  have ok := sq_H_ok c R2.1
  have cnt := sq_H_cnt T c
  have g3 : 1 ≤ t.2.1 := g.2.2.1
  have okc := ok.2.1
  refine y_tok (y2_of R2) f1 z.2.1.1 (by omega) (by omega) t ?_ ?_
  · rw [hb, ← a17]; exact a18 _ (by omega)
  · intro v' Y' gN
    exact ⟨rfl, r_join R1 R3 R4 X' Y' (by rw [tx_H]; exact hl) f gN⟩
theorem i_vc_encodeLiteral {k : Nat} {u : SX} {v : SY} (I : i_Rel k u v) (hk : k + 4 ≤ 2052) : wpX_encodeLiteral (fun r u' => wpY_encodeLiteral (fun r' v' => r' = r ∧ i_Rel (k + 4) u' v') v) u := by
  have I0 := I
  obtain ⟨cap, sl, sh, n, T, c, TS, cS, R1, R2, R3, R4⟩ := I
  obtain ⟨a1, a2, a3, a4, a5, a6, a7, a8, a9, a10, a11, a12, a13, a14, a15, a16, a17, a18⟩ := id R1
  obtain ⟨b1, b2, b3, b4, b5, b6⟩ := id R2
  have po : qx_figures u 0 = nI (sq_H T c).1 := b5.1
  rw [ex_encodeLiteral, po, a14]
  refine pk_lt (sq_H T c).1 n (fun z => ?_) (fun z => ?_)
  · obtain ⟨e1, e2⟩ := eo_lit (s := qx_source u) (h := sq_H T c) z (by omega)
    refine x_tok (x2_of R2) (1, 1, 0, by_v (qx_source u (sq_H T c).1)) e1 (fun _ => a18 _ z) (fun u' X' f => ?_)
    rw [ey_encodeLiteral]
    refine yw_replay0 a10 a11 a12 b1 b3 b2 (fun w zz f1 => ?_)
    rw [zz.2.1.1, fr_Y_n f1, a15]
    refine pk_eq (sq_H T c).1 n (fun y => absurd y (by omega)) (fun _ => ?_)
    exact i_tokY R1 R2 R3 R4 (1, 1, 0, by_v (qx_source u (sq_H T c).1)) e1 e2 rfl X' f zz f1
  · rw [ey_encodeLiteral]
    refine yw_replay0 a10 a11 a12 b1 b3 b2 (fun w zz f1 => ?_)
    rw [zz.2.1.1, fr_Y_n f1, a15]
    exact pk_eq (sq_H T c).1 n (fun _ => ⟨rfl, i_Y f1 I0⟩) (fun y => absurd y (by omega))
theorem tk_ok2 {s : Nat → Int32} {n ln ds : Nat} {h : HH} (hn : n ≤ 64) (h2 : 2 ≤ ln) (h17 : ln ≤ 17) (hl : h.1 + ln ≤ n) (d1 : 1 ≤ ds) (dp : ds ≤ h.1) : tk_ok (2, ln, ds, by_v (s h.1)) h :=
  ⟨show 1 ≤ 2 by decide, show 2 ≤ 7 by decide, show 1 ≤ ln by omega, h17, show h.1 + ln ≤ 64 by omega, by_lt _, fun z => absurd z (show ¬ (2 : Nat) = 1 by decide), fun _ => ⟨d1, dp⟩, fun z => absurd z (show ¬ (2 : Nat) = 3 by decide), fun _ _ => h2, fun z => absurd z (show ¬ 4 ≤ 2 by decide)⟩
theorem i_vc_encodeMatch {k : Nat} {u : SX} {v : SY} (I : i_Rel k u v) (hk : k + 4 ≤ 2052) (v1 : Int32) (v2 : Int32) : wpX_encodeMatch (fun r u' => wpY_encodeMatch (fun r' v' => r' = r ∧ i_Rel (k + 4) u' v') v v1 v2) u v1 v2 := by
  have I0 := I
  obtain ⟨cap, sl, sh, n, T, c, TS, cS, R1, R2, R3, R4⟩ := I
  obtain ⟨a1, a2, a3, a4, a5, a6, a7, a8, a9, a10, a11, a12, a13, a14, a15, a16, a17, a18⟩ := id R1
  obtain ⟨b1, b2, b3, b4, b5, b6⟩ := id R2
  have po : qx_figures u 0 = nI (sq_H T c).1 := b5.1
  have hY : ∀ Q : Int32 → SY → Prop, (∀ w : SY, yz_ (sq_A sh T c).1 (sq_H T c) (sq_O T c) w → fr_Y w = fr_Y v → ((nI (sq_H T c).1 = nI n → (Q (-2) w)) ∧ (¬ nI (sq_H T c).1 = nI n → ((v2 < 2 → (Q (-3) w)) ∧ (¬ v2 < 2 → ((v2 ≤ 17 → ((v1 < 1 → (Q (-3) w)) ∧ (¬ v1 < 1 → ((v1 ≤ nI (sq_H T c).1 → ((v2 ≤ nI (n - (sq_H T c).1) → (wpY_same (fun r_33 => ((r_33 = 0 → (Q (-4) w)) ∧ (¬ r_33 = 0 → (wpY_note Q w 2 v2 v1)))) w (nI (sq_H T c).1) v1 v2)) ∧ (¬ v2 ≤ nI (n - (sq_H T c).1) → (Q (-9) w)))) ∧ (¬ v1 ≤ nI (sq_H T c).1 → (Q (-3) w)))))) ∧ (¬ v2 ≤ 17 → (Q (-3) w)))))))) → wpY_encodeMatch Q v v1 v2 := by
    intro Q H
    rw [ey_encodeMatch]
    refine yw_replay0 a10 a11 a12 b1 b3 b2 (fun w zz f1 => ?_)
    rw [zz.2.1.1, fr_Y_n f1, a15, pk_sub b6]
    exact H w zz f1
  rw [ex_encodeMatch, po, a14]
  refine nm_e ?_
  rw [pk_sub b6]
  refine pk_lt (sq_H T c).1 n (fun z => ?_) (fun z => ?_)
  · have ne : ¬ nI (sq_H T c).1 = nI n := by rw [nI_eq (by omega) (by omega)]; omega
    refine br_c (fun z1 => ?_) (fun z1 => br_c (fun z2 => br_c (fun z3 => ?_) (fun z3 => br_c (fun z4 => br_c (fun z5 => ?_) (fun z5 => ?_)) (fun z4 => ?_))) (fun z2 => ?_))
    · exact hY _ (fun w zz f1 => br_f ne (br_t z1 ⟨rfl, i_Y f1 I0⟩))
    · exact hY _ (fun w zz f1 => br_f ne (br_f z1 (br_t z2 (br_t z3 ⟨rfl, i_Y f1 I0⟩))))
    · obtain ⟨ln, l1, l2, rfl⟩ := px_ge (a := 2) (by omega) z1
      obtain ⟨ds, d1, d2, rfl⟩ := px_ge (a := 1) (by omega) z3
      have l17 := (nI_leI l2 (show 17 < 2 ^ 31 by omega)).mp z2
      have dp := (nI_leI d2 (show (sq_H T c).1 < 2 ^ 31 by omega)).mp z4
      have lp := (nI_leI l2 (show n - (sq_H T c).1 < 2 ^ 31 by omega)).mp z5
      have lm : ln ≤ rn_m n (sq_H T c).1 := by unfold rn_m; split <;> omega
      have rl := rn_le (qx_source u) n (sq_H T c).1 ds
      have rm := rn_m_le n (sq_H T c).1
      refine xw_run a14 (by omega) (by omega) (by omega) ?_
      refine pk_le ln (rn_ (qx_source u) n (sq_H T c).1 ds) (fun z6 => ?_) (fun z6 => ?_)
      · have g := tk_ok2 (s := qx_source u) (n := n) (h := sq_H T c) (by omega) l1 l17 (by omega) d1 dp
        refine x_tok (x2_of R2) (2, ln, ds, by_v (qx_source u (sq_H T c).1)) g (fun y => absurd y (show ¬ (2 : Nat) = 1 by decide)) (fun u' X' f => ?_)
        refine hY _ (fun w zz f1 => br_f ne (br_f z1 (br_t z2 (br_f z3 (br_t z4 (br_t z5 ?_))))))
        have es : qy_source w = qx_source u := by rw [fr_Y_source f1, a17]
        refine yw_same (n := n) (by omega) (by omega) d1 dp lm (fun _ => br_f (by decide) ?_) (fun y => ?_)
        · exact i_tokY R1 R2 R3 R4 (2, ln, ds, by_v (qx_source u (sq_H T c).1)) g (show (sq_H T c).1 + ln ≤ n by omega) rfl X' f zz f1
        · rw [es] at y; omega
      · refine hY _ (fun w zz f1 => br_f ne (br_f z1 (br_t z2 (br_f z3 (br_t z4 (br_t z5 ?_))))))
        have es : qy_source w = qx_source u := by rw [fr_Y_source f1, a17]
        refine yw_same (n := n) (by omega) (by omega) d1 dp lm (fun y => ?_) (fun y => br_t rfl ⟨rfl, i_Y f1 I0⟩)
        rw [es] at y; omega
    · exact hY _ (fun w zz f1 => br_f ne (br_f z1 (br_t z2 (br_f z3 (br_t z4 (br_f z5 ⟨rfl, i_Y f1 I0⟩))))))
    · exact hY _ (fun w zz f1 => br_f ne (br_f z1 (br_t z2 (br_f z3 (br_f z4 ⟨rfl, i_Y f1 I0⟩)))))
    · exact hY _ (fun w zz f1 => br_f ne (br_f z1 (br_f z2 ⟨rfl, i_Y f1 I0⟩)))
  · have eq : nI (sq_H T c).1 = nI n := by rw [show (sq_H T c).1 = n by omega]
    exact hY _ (fun w zz f1 => br_t eq ⟨rfl, i_Y f1 I0⟩)
/-- a repeated distance's token -/
theorem tk_okr {s : Nat → Int32} {n ln i : Nat} {h : HH} (ok : hs_ok h) (hn : n ≤ 64) (i4 : i < 4) (h1 : 1 ≤ ln) (h17 : ln ≤ 17) (hi : ln = 1 → i = 0) (hl : h.1 + ln ≤ n) (dp : h.2.2.2.2.2.2 i ≤ h.1) : tk_ok (if ln = 1 then 3 else 4 + i, ln, h.2.2.2.2.2.2 i, by_v (s h.1)) h := by
  have r1 := (ok.2.2.2.2.2.2 i).1
  by_cases e : ln = 1
  · rw [if_pos e]
    have i0 := hi e
    subst i0
    exact ⟨show 1 ≤ 3 by decide, show 3 ≤ 7 by decide, h1, h17, show h.1 + ln ≤ 64 by omega, by_lt _, fun z => absurd z (show ¬ (3 : Nat) = 1 by decide), fun _ => ⟨r1, dp⟩, fun _ => ⟨e, rfl⟩, fun _ z => absurd rfl z, fun z => absurd z (show ¬ 4 ≤ 3 by decide)⟩
  · rw [if_neg e]
    exact ⟨show 1 ≤ 4 + i by omega, show 4 + i ≤ 7 by omega, h1, h17, show h.1 + ln ≤ 64 by omega, by_lt _, fun z => absurd z (show ¬ 4 + i = 1 by omega), fun _ => ⟨r1, dp⟩, fun z => absurd z (show ¬ 4 + i = 3 by omega), fun _ _ => show 2 ≤ ln by omega, fun _ => by show h.2.2.2.2.2.2 i = h.2.2.2.2.2.2 (4 + i - 4); rw [Nat.add_sub_cancel_left]⟩
theorem i_vc_encodeRep {k : Nat} {u : SX} {v : SY} (I : i_Rel k u v) (hk : k + 4 ≤ 2052) (v1 : Int32) (v2 : Int32) : wpX_encodeRep (fun r u' => wpY_encodeRep (fun r' v' => r' = r ∧ i_Rel (k + 4) u' v') v v1 v2) u v1 v2 := by
  have I0 := I
  obtain ⟨cap, sl, sh, n, T, c, TS, cS, R1, R2, R3, R4⟩ := I
  obtain ⟨a1, a2, a3, a4, a5, a6, a7, a8, a9, a10, a11, a12, a13, a14, a15, a16, a17, a18⟩ := id R1
  obtain ⟨b1, b2, b3, b4, b5, b6⟩ := id R2
  have ok := sq_H_ok c b1
  have po : qx_figures u 0 = nI (sq_H T c).1 := b5.1
  have hY : ∀ Q : Int32 → SY → Prop, (∀ w : SY, yz_ (sq_A sh T c).1 (sq_H T c) (sq_O T c) w → fr_Y w = fr_Y v → ((nI (sq_H T c).1 = nI n → (Q (-2) w)) ∧ (¬ nI (sq_H T c).1 = nI n → ((v1 < 0 → (Q (-3) w)) ∧ (¬ v1 < 0 → ((v1 ≤ 3 → ((v2 < 1 → (Q (-3) w)) ∧ (¬ v2 < 1 → ((v2 ≤ 17 → ((v2 = 1 → ((v1 = 0 → (zy_encodeRep_57 Q v1 v2 w)) ∧ (¬ v1 = 0 → (Q (-3) w)))) ∧ (¬ v2 = 1 → (zy_encodeRep_57 Q v1 v2 w)))) ∧ (¬ v2 ≤ 17 → (Q (-3) w)))))) ∧ (¬ v1 ≤ 3 → (Q (-3) w)))))))) → wpY_encodeRep Q v v1 v2 := by
    intro Q H
    rw [ey_encodeRep]
    refine yw_replay0 a10 a11 a12 b1 b3 b2 (fun w zz f1 => ?_)
    rw [zz.2.1.1, fr_Y_n f1, a15]
    exact H w zz f1
  rw [ex_encodeRep, po, a14]
  refine nm_e ?_
  refine pk_lt (sq_H T c).1 n (fun z => ?_) (fun z => ?_)
  · have ne : ¬ nI (sq_H T c).1 = nI n := by rw [nI_eq (by omega) (by omega)]; omega
    -- the common part: both checks done, index i, length ln
    have main : ∀ i ln : Nat, v1 = nI i → v2 = nI ln → i < 4 → 1 ≤ ln → ln ≤ 17 → (ln = 1 → i = 0) → (∀ Q : Int32 → SY → Prop, (∀ w : SY, yz_ (sq_A sh T c).1 (sq_H T c) (sq_O T c) w → fr_Y w = fr_Y v → zy_encodeRep_57 Q v1 v2 w) → wpY_encodeRep Q v v1 v2) → zx_encodeRep_56 (fun r u' => wpY_encodeRep (fun r' v' => r' = r ∧ i_Rel (k + 4) u' v') v v1 v2) v1 v2 (nI (sq_H T c).1) u := by
      intro i ln e1 e2 i4 l1 l17 hi hZ
      subst e1 e2
      have ri : qx_reps u i = nI ((sq_H T c).2.2.2.2.2.2 i) := by
        have := b5.2.2.2.2.2.2 i i4
        rw [show 4 * 0 + i = i by omega] at this
        exact this
      have r64 := (ok.2.2.2.2.2.2 i).2
      have r1 := (ok.2.2.2.2.2.2 i).1
      have hZ' : ∀ Q : Int32 → SY → Prop, (∀ w : SY, yz_ (sq_A sh T c).1 (sq_H T c) (sq_O T c) w → fr_Y w = fr_Y v → ((nI ((sq_H T c).2.2.2.2.2.2 i) ≤ nI (sq_H T c).1 → ((nI ln ≤ nI (n - (sq_H T c).1) → (wpY_same (fun r_37 => ((r_37 = 0 → (Q (-4) w)) ∧ (¬ r_37 = 0 → ((nI ln = 1 → (zy_encodeRep_120 Q (nI ln) (nI ((sq_H T c).2.2.2.2.2.2 i)) 3 w)) ∧ (¬ nI ln = 1 → (zy_encodeRep_120 Q (nI ln) (nI ((sq_H T c).2.2.2.2.2.2 i)) (4 + nI i) w)))))) w (nI (sq_H T c).1) (nI ((sq_H T c).2.2.2.2.2.2 i)) (nI ln))) ∧ (¬ nI ln ≤ nI (n - (sq_H T c).1) → (Q (-9) w)))) ∧ (¬ nI ((sq_H T c).2.2.2.2.2.2 i) ≤ nI (sq_H T c).1 → (Q (-3) w)))) → wpY_encodeRep Q v (nI i) (nI ln) := by
        intro Q H
        refine hZ Q (fun w zz f1 => ?_)
        rw [ey_encodeRep_57, nI_clamp (show i < 2 ^ 31 by omega), zz.2.1.2.2.2.2.2.2 i i4, zz.2.1.1, fr_Y_n f1, a15, pk_sub b6]
        exact ⟨vp_in_nI i4 (by omega), nm_e (H w zz f1)⟩
      rw [ex_encodeRep_56, nI_clamp (show i < 2 ^ 31 by omega), ri, a14, pk_sub b6]
      refine ⟨vp_in_nI (by omega) (by omega), nm_e ?_⟩
      refine br_c (fun z4 => br_c (fun z5 => ?_) (fun z5 => ?_)) (fun z4 => ?_)
      · have dp := (nI_leI (show (sq_H T c).2.2.2.2.2.2 i < 2 ^ 31 by omega) (show (sq_H T c).1 < 2 ^ 31 by omega)).mp z4
        have lp := (nI_leI (show ln < 2 ^ 31 by omega) (show n - (sq_H T c).1 < 2 ^ 31 by omega)).mp z5
        have lm : ln ≤ rn_m n (sq_H T c).1 := by unfold rn_m; split <;> omega
        have rl := rn_le (qx_source u) n (sq_H T c).1 ((sq_H T c).2.2.2.2.2.2 i)
        have rm := rn_m_le n (sq_H T c).1
        have g := tk_okr (s := qx_source u) (n := n) (h := sq_H T c) ok (by omega) i4 l1 l17 hi (by omega) dp
        refine xw_run a14 (by omega) (by omega) r64 ?_
        refine pk_le ln (rn_ (qx_source u) n (sq_H T c).1 ((sq_H T c).2.2.2.2.2.2 i)) (fun z6 => ?_) (fun z6 => ?_)
        · have fin : ∀ kd : Nat, kd = (if ln = 1 then 3 else 4 + i) → wpX_writeToken (fun r u' => wpY_encodeRep (fun r' v' => r' = r ∧ i_Rel (k + 4) u' v') v (nI i) (nI ln)) u (nI kd) (nI ln) (nI ((sq_H T c).2.2.2.2.2.2 i)) := by
            intro kd ek
            subst ek
            refine x_tok (x2_of R2) (if ln = 1 then 3 else 4 + i, ln, (sq_H T c).2.2.2.2.2.2 i, by_v (qx_source u (sq_H T c).1)) g (fun _ => a18 _ z) (fun u' X' f => ?_)
            refine hZ' _ (fun w zz f1 => br_t z4 (br_t z5 ?_))
            have es : qy_source w = qx_source u := by rw [fr_Y_source f1, a17]
            have N := i_tokY (k := k + 4) R1 R2 R3 R4 (if ln = 1 then 3 else 4 + i, ln, (sq_H T c).2.2.2.2.2.2 i, by_v (qx_source u (sq_H T c).1)) g (show (sq_H T c).1 + ln ≤ n by omega) rfl X' f zz f1
            dsimp only at N ⊢
            refine yw_same (n := n) (by omega) (by omega) r1 dp lm (fun _ => br_f (by decide) ?_) (fun y => ?_)
            · refine pk_eq ln 1 (fun e => ?_) (fun e => ?_)
              · rw [ey_encodeRep_120]
                rw [if_pos e] at N ⊢
                exact N
              · rw [ey_encodeRep_120, show (4 : Int32) + nI i = nI (4 + i) from nI_add 4 i]
                rw [if_neg e] at N ⊢
                exact N
            · rw [es] at y; omega
          refine nm_r (e' := nI (4 + i)) (nI_add 4 i) ?_
          refine pk_eq ln 1 (fun e => ?_) (fun e => ?_)
          · rw [ex_encodeRep_113]
            exact fin 3 (by rw [if_pos e])
          · rw [ex_encodeRep_113]
            exact fin (4 + i) (by rw [if_neg e])
        · refine hZ' _ (fun w zz f1 => br_t z4 (br_t z5 ?_))
          have es : qy_source w = qx_source u := by rw [fr_Y_source f1, a17]
          refine yw_same (n := n) (by omega) (by omega) r1 dp lm (fun y => ?_) (fun y => br_t rfl ⟨rfl, i_Y f1 I0⟩)
          rw [es] at y; omega
      · exact hZ' _ (fun w zz f1 => br_t z4 (br_f z5 ⟨rfl, i_Y f1 I0⟩))
      · exact hZ' _ (fun w zz f1 => br_f z4 ⟨rfl, i_Y f1 I0⟩)
    refine br_c (fun z1 => ?_) (fun z1 => br_c (fun z2 => br_c (fun z3 => ?_) (fun z3 => br_c (fun z4 => br_c (fun z5 => br_c (fun z6 => ?_) (fun z6 => ?_)) (fun z5 => ?_)) (fun z4 => ?_))) (fun z2 => ?_))
    · exact hY _ (fun w zz f1 => br_f ne (br_t z1 ⟨rfl, i_Y f1 I0⟩))
    · exact hY _ (fun w zz f1 => br_f ne (br_f z1 (br_t z2 (br_t z3 ⟨rfl, i_Y f1 I0⟩))))
    · exact main 0 1 z6 z5 (by omega) (by omega) (by omega) (fun _ => rfl) (fun Q H => hY Q (fun w zz f1 => br_f ne (br_f z1 (br_t z2 (br_f z3 (br_t z4 (br_t z5 (br_t z6 (H w zz f1)))))))))
    · exact hY _ (fun w zz f1 => br_f ne (br_f z1 (br_t z2 (br_f z3 (br_t z4 (br_t z5 (br_f z6 ⟨rfl, i_Y f1 I0⟩)))))))
    · obtain ⟨ln, l1, l2, e2⟩ := px_ge (a := 1) (by omega) z3
      obtain ⟨i, i1, i2, e1⟩ := px_ge (a := 0) (by omega) z1
      have l17 : ln ≤ 17 := by
        rw [e2] at z4
        exact (nI_leI l2 (show 17 < 2 ^ 31 by omega)).mp z4
      have i4 : i ≤ 3 := by
        rw [e1] at z2
        exact (nI_leI i2 (show 3 < 2 ^ 31 by omega)).mp z2
      have l1' : ln ≠ 1 := by
        intro e
        rw [e2, e] at z5
        exact z5 rfl
      exact main i ln e1 e2 (by omega) (by omega) l17 (fun e => absurd e l1') (fun Q H => hY Q (fun w zz f1 => br_f ne (br_f z1 (br_t z2 (br_f z3 (br_t z4 (br_f z5 (H w zz f1))))))))
    · exact hY _ (fun w zz f1 => br_f ne (br_f z1 (br_t z2 (br_f z3 (br_f z4 ⟨rfl, i_Y f1 I0⟩)))))
    · exact hY _ (fun w zz f1 => br_f ne (br_f z1 (br_f z2 ⟨rfl, i_Y f1 I0⟩)))
  · have eq : nI (sq_H T c).1 = nI n := by rw [show (sq_H T c).1 = n by omega]
    exact hY _ (fun w zz f1 => br_t eq ⟨rfl, i_Y f1 I0⟩)
end
section
/-! ===== owed: encodeOne, encodeAll ===== -/
/-- X's encodeOne at a place before the end -/
theorem x_one {post : Int32 → SX → Prop} {u : SX} {sh n c : Nat} {T : Nat → TK} (X : x2_ sh T c u) (hn : qx_sourceLength u = nI n) (h64 : n ≤ 64) (hs : ∀ i, i < n → qx_source u i = nI (by_v (qx_source u i))) (hp : (sq_H T c).1 < n) (K : ∀ u' : SX, x2_ sh (tx_ T c (eo_t (qx_source u) n (qx_lazy u) (sq_H T c))) (c + 1) u' → ft_ u u' → post (nI (eo_t (qx_source u) n (qx_lazy u) (sq_H T c)).1) u') : wpX_encodeOne post u := by
  have ok := sq_H_ok c X.1
  have g := (eo_ok (s := qx_source u) (lz := qx_lazy u) ok hp h64).1
  exact xw_encodeOne hn h64 ok X.2.2 hp (x_tok X (eo_t (qx_source u) n (qx_lazy u) (sq_H T c)) g (fun _ => hs _ hp) K)
/-- Y's encodeOne at a place before the end -/
theorem y_one {post : Int32 → SY → Prop} {v : SY} {sh n c : Nat} {T : Nat → TK} (tok : sq_ok T c) (Y : y2_ T c v) (hsh : qy_shift v = nI sh) (k4 : 4 ≤ sh) (k6 : sh ≤ 6) (hn : qy_n v = nI n) (h64 : n ≤ 64) (hs : ∀ i, i < n → qy_source v i = nI (by_v (qy_source v i))) (hp : (sq_H T c).1 < n) (K : ∀ v' : SY, y2_ (tx_ T c (eo_t (qy_source v) n (qy_lazy v) (sq_H T c))) (c + 1) v' → yn_ v v' → post (nI (eo_t (qy_source v) n (qy_lazy v) (sq_H T c)).1) v') : wpY_encodeOne post v := by
  have ok := sq_H_ok c tok
  have cnt := sq_H_cnt T c
  have okc := ok.2.1
  rw [ey_encodeOne]
  refine yw_replay0 hsh k4 k6 tok Y.2 Y.1 (fun w zz f1 => ?_)
  rw [show (qy_pos w = qy_n w) = (nI (sq_H T c).1 = nI n) by rw [zz.2.1.1, fr_Y_n f1, hn]]
  refine pk_eq (sq_H T c).1 n (fun y => absurd y (by omega)) (fun _ => ?_)
  refine yw_encodeOne ((fr_Y_n f1).trans hn) h64 ok zz.2.1 hp ?_
  rw [fr_Y_source f1, fr_Y_lazy f1]
  exact y_tok Y f1 zz.2.1.1 (by omega) (by omega) (eo_t (qy_source v) n (qy_lazy v) (sq_H T c)) (hs _ hp) K
/-- Y's encodeOne at the end -/
theorem y_one_end {post : Int32 → SY → Prop} {v : SY} {sh n c : Nat} {T : Nat → TK} (tok : sq_ok T c) (Y : y2_ T c v) (hsh : qy_shift v = nI sh) (k4 : 4 ≤ sh) (k6 : sh ≤ 6) (hn : qy_n v = nI n) (hp : (sq_H T c).1 = n) (K : ∀ v' : SY, fr_Y v' = fr_Y v → post (-2) v') : wpY_encodeOne post v := by
  rw [ey_encodeOne]
  refine yw_replay0 hsh k4 k6 tok Y.2 Y.1 (fun w zz f1 => ?_)
  exact br_t (by rw [zz.2.1.1, fr_Y_n f1, hn, hp]) (K w f1)
theorem i_vc_encodeOne {k : Nat} {u : SX} {v : SY} (I : i_Rel k u v) (hk : k + 4 ≤ 2052) : wpX_encodeOne (fun r u' => wpY_encodeOne (fun r' v' => r' = r ∧ i_Rel (k + 4) u' v') v) u := by
  have I0 := I
  obtain ⟨cap, sl, sh, n, T, c, TS, cS, R1, R2, R3, R4⟩ := I
  obtain ⟨a1, a2, a3, a4, a5, a6, a7, a8, a9, a10, a11, a12, a13, a14, a15, a16, a17, a18⟩ := id R1
  obtain ⟨b1, b2, b3, b4, b5, b6⟩ := id R2
  have po : qx_figures u 0 = nI (sq_H T c).1 := b5.1
  by_cases z : (sq_H T c).1 < n
  · refine x_one (x2_of R2) a14 (by omega) a18 z (fun u' X' f => ?_)
    refine y_one b1 (y2_of R2) a10 a11 a12 a15 (by omega) (by rw [← a17]; exact a18) z (fun v' Y' g => ?_)
    rw [← a17, ← a13] at Y' ⊢
    refine ⟨rfl, r_join R1 R3 R4 X' Y' ?_ f g⟩
    rw [tx_H]
    exact (eo_ok (s := qx_source u) (lz := qx_lazy u) (sq_H_ok c b1) z (by omega)).2
  · rw [ex_encodeOne, po, a14]
    refine nm_e (br_f (nI_nlt (by omega) (by omega)) ?_)
    exact y_one_end b1 (y2_of R2) a10 a11 a12 a15 (by omega) (fun v' f1 => ⟨rfl, i_Y f1 I0⟩)
/-! all of them -/
def ea_ (s : Nat → Int32) (n : Nat) (lz : Int32) : Nat → (Nat → TK) → Nat → (Nat → TK) × Nat
  | 0, T, c => (T, c)
  | j + 1, T, c => if (sq_H T c).1 < n then ea_ s n lz j (tx_ T c (eo_t s n lz (sq_H T c))) (c + 1) else (T, c)
theorem ea_stop {s : Nat → Int32} {n : Nat} {lz : Int32} {T : Nat → TK} {c : Nat} (h : ¬ (sq_H T c).1 < n) : ∀ j, ea_ s n lz j T c = (T, c) := by
  intro j
  cases j with
  | zero => rfl
  | succ j => show (if (sq_H T c).1 < n then _ else _) = _; rw [if_neg h]
theorem ea_go {s : Nat → Int32} {n : Nat} {lz : Int32} {T : Nat → TK} {c : Nat} (h : (sq_H T c).1 < n) (j : Nat) : ea_ s n lz (j + 1) T c = ea_ s n lz j (tx_ T c (eo_t s n lz (sq_H T c))) (c + 1) := by
  show (if (sq_H T c).1 < n then _ else _) = _
  rw [if_pos h]
theorem ea_p {s : Nat → Int32} {n : Nat} {lz : Int32} (h64 : n ≤ 64) : ∀ (j : Nat) (T : Nat → TK) (c : Nat), sq_ok T c → (sq_H T c).1 ≤ n → c ≤ (ea_ s n lz j T c).2 ∧ (sq_H (ea_ s n lz j T c).1 (ea_ s n lz j T c).2).1 ≤ n := by
  intro j
  induction j with
  | zero => intro T c _ h; exact ⟨Nat.le_refl _, h⟩
  | succ j ih =>
    intro T c tok h
    by_cases z : (sq_H T c).1 < n
    · rw [ea_go z]
      have g := eo_ok (s := s) (lz := lz) (sq_H_ok c tok) z h64
      have := ih (tx_ T c (eo_t s n lz (sq_H T c))) (c + 1) (tx_ok tok g.1) (by rw [tx_H]; exact g.2)
      exact ⟨by omega, this.2⟩
    · rw [ea_stop z]
      exact ⟨Nat.le_refl _, h⟩
theorem xw_all {post : Int32 → SX → Prop} {sh n : Nat} {s : Nat → Int32} {lz : Int32} (h64 : n ≤ 64) (hs : ∀ i, i < n → s i = nI (by_v (s i))) : ∀ (j f i mk : Nat) (T : Nat → TK) (c : Nat) (u : SX), j < f → i + j = 64 → mk ≤ i → x2_ sh T c u → (sq_H T c).1 ≤ n → qx_sourceLength u = nI n → qx_source u = s → qx_lazy u = lz → (∀ u' : SX, x2_ sh (ea_ s n lz j T c).1 (ea_ s n lz j T c).2 u' → ft_ u u' → post (nI (mk + ((ea_ s n lz j T c).2 - c))) u') → zx_encodeAll_4 post f (nI mk) (nI i) u := by
  intro j
  induction j with
  | zero =>
    intro f i mk T c u hf hi hmk X hp hn es el K
    obtain ⟨f, rfl⟩ : ∃ g, f = g + 1 := ⟨f - 1, by omega⟩
    rw [ex_encodeAll_4]
    refine br_t (nI_le (a := 64) (by omega) (by omega)) ?_
    have K1 := K u X (ft_refl u)
    rw [show mk + ((ea_ s n lz 0 T c).2 - c) = mk by show mk + (c - c) = mk; omega] at K1
    exact K1
  | succ j ih =>
    intro f i mk T c u hf hi hmk X hp hn es el K
    obtain ⟨f, rfl⟩ : ∃ g, f = g + 1 := ⟨f - 1, by omega⟩
    have po : qx_figures u 0 = nI (sq_H T c).1 := X.2.2.1
    rw [ex_encodeAll_4, po, hn]
    refine br_f (nI_ge (b := 64) (by omega) (by omega)) (pk_le n (sq_H T c).1 (fun z => ?_) (fun z => ?_))
    · rw [ea_stop (by omega)] at K
      have K1 := K u X (ft_refl u)
      dsimp only at K1
      rw [Nat.sub_self, Nat.add_zero] at K1
      exact K1
    · rw [ea_go z] at K
      refine x_one X hn h64 (by rw [es]; exact hs) z (fun u1 X1 f1 => ?_)
      rw [es, el] at X1
      refine nm_r (nI_1 mk) (nm_r (nI_1 i) ?_)
      have g := eo_ok (s := s) (lz := lz) (sq_H_ok c X.1) z h64
      have p := ea_p (s := s) (lz := lz) h64 j (tx_ T c (eo_t s n lz (sq_H T c))) (c + 1) X1.1 (by rw [tx_H]; exact g.2)
      refine ih f (i + 1) (mk + 1) (tx_ T c (eo_t s n lz (sq_H T c))) (c + 1) u1 (by omega) (by omega) (by omega) X1 (by rw [tx_H]; exact g.2) ((fr_T_sourceLength f1.1).trans hn) ((fr_T_source f1.1).trans es) ((fr_T_lazy f1.1).trans el) ?_
      intro u' X' f'
      have K1 := K u' X' (ft_trans f1 f')
      rw [show mk + 1 + ((ea_ s n lz j (tx_ T c (eo_t s n lz (sq_H T c))) (c + 1)).2 - (c + 1)) = mk + ((ea_ s n lz j (tx_ T c (eo_t s n lz (sq_H T c))) (c + 1)).2 - c) by omega]
      exact K1
theorem yw_all {post : Int32 → SY → Prop} {sh n : Nat} {s : Nat → Int32} {lz x1 : Int32} (h64 : n ≤ 64) (hs : ∀ i, i < n → s i = nI (by_v (s i))) (k4 : 4 ≤ sh) (k6 : sh ≤ 6) : ∀ (j f i : Nat) (T : Nat → TK) (c : Nat) (v : SY), j < f → i + j = 64 → sq_ok T c → y2_ T c v → (sq_H T c).1 ≤ n → qy_shift v = nI sh → qy_n v = nI n → qy_source v = s → qy_lazy v = lz → (∀ v' : SY, y2_ (ea_ s n lz j T c).1 (ea_ s n lz j T c).2 v' → yn_ v v' → post (nI (ea_ s n lz j T c).2 - x1) v') → zy_encodeAll_9 post x1 f (nI i) v := by
  intro j
  induction j with
  | zero =>
    intro f i T c v hf hi tok Y hp hsh hn es el K
    obtain ⟨f, rfl⟩ : ∃ g, f = g + 1 := ⟨f - 1, by omega⟩
    rw [ey_encodeAll_9, Y.1]
    exact br_t (nI_le (a := 64) (by omega) (by omega)) (K v Y (yn_refl v))
  | succ j ih =>
    intro f i T c v hf hi tok Y hp hsh hn es el K
    obtain ⟨f, rfl⟩ : ∃ g, f = g + 1 := ⟨f - 1, by omega⟩
    rw [ey_encodeAll_9]
    refine br_f (nI_ge (b := 64) (by omega) (by omega)) ?_
    by_cases z : (sq_H T c).1 < n
    · rw [ea_go z] at K
      have g := eo_ok (s := s) (lz := lz) (sq_H_ok c tok) z h64
      refine y_one tok Y hsh k4 k6 hn h64 (by rw [es]; exact hs) z (fun v1 Y1 g1 => nm_r (nI_1 i) ?_)
      rw [es, el] at Y1
      have f1 := g1.1
      exact ih f (i + 1) (tx_ T c (eo_t s n lz (sq_H T c))) (c + 1) v1 (by omega) (by omega) (tx_ok tok g.1) Y1 (by rw [tx_H]; exact g.2) ((fr_N_shift f1).trans hsh) ((fr_N_n f1).trans hn) ((fr_N_source f1).trans es) ((fr_N_lazy f1).trans el) (fun v' Y' g' => K v' Y' (yn_trans g1 g'))
    · rw [ea_stop z] at K
      refine y_one_end tok Y hsh k4 k6 hn (by omega) (fun v1 f1 => nm_r (nI_1 i) ?_)
      refine ih f (i + 1) T c v1 (by omega) (by omega) tok (y2_Y f1 Y) hp ((fr_Y_shift f1).trans hsh) ((fr_Y_n f1).trans hn) ((fr_Y_source f1).trans es) ((fr_Y_lazy f1).trans el) ?_
      rw [ea_stop z]
      exact fun v' Y' g' => K v' Y' (yn_trans (yn_Y f1) g')
theorem i_vc_encodeAll {k : Nat} {u : SX} {v : SY} (I : i_Rel k u v) (hk : k + 4 ≤ 2052) : wpX_encodeAll (fun r u' => wpY_encodeAll (fun r' v' => r' = r ∧ i_Rel (k + 4) u' v') v) u := by
  obtain ⟨cap, sl, sh, n, T, c, TS, cS, R1, R2, R3, R4⟩ := I
  obtain ⟨a1, a2, a3, a4, a5, a6, a7, a8, a9, a10, a11, a12, a13, a14, a15, a16, a17, a18⟩ := id R1
  obtain ⟨b1, b2, b3, b4, b5, b6⟩ := id R2
  obtain ⟨J, eJ⟩ : ∃ J, J = 64 := ⟨64, rfl⟩
  have p := ea_p (s := qx_source u) (lz := qx_lazy u) (show n ≤ 64 by omega) J T c b1 b6
  rw [ex_encodeAll]
  refine ⟨J + 1, ?_⟩
  refine xw_all (show n ≤ 64 by omega) a18 J (J + 1) 0 0 T c u (by omega) (by omega) (by omega) (x2_of R2) b6 a14 rfl rfl ?_
  intro u' X' f
  rw [ey_encodeAll]
  refine nm_r (e' := nI c) b2 ⟨J + 1, ?_⟩
  refine yw_all (s := qx_source u) (lz := qx_lazy u) (show n ≤ 64 by omega) a18 a11 a12 J (J + 1) 0 T c v (by omega) (by omega) b1 (y2_of R2) b6 a10 a15 a17.symm a13.symm ?_
  intro v' Y' g
  refine ⟨?_, r_join R1 R3 R4 X' Y' p.2 f g⟩
  rw [pk_sub p.1, Nat.zero_add]
end
section
def fr_W (u : SX) : Int32 × Int32 × Int32 × Int32 × Int32 × Int32 × Int32 × Int64 × Int64 × (Nat → Int32) × (Nat → Int32) × (Nat → Int32) × (Nat → Int32) := (qx_capacity u, qx_slots u, qx_shift u, qx_lazy u, qx_decSlot u, qx_decEnded u, qx_decAt u, qx_decRange u, qx_decCode u, qx_source u, qx_store u, qx_storeLength u, qx_output u)
theorem fr_W_capacity {u u' : SX} (h : fr_W u' = fr_W u) : qx_capacity u' = qx_capacity u := congrArg (fun z => z.1) h
theorem fr_W_slots {u u' : SX} (h : fr_W u' = fr_W u) : qx_slots u' = qx_slots u := congrArg (fun z => z.2.1) h
theorem fr_W_shift {u u' : SX} (h : fr_W u' = fr_W u) : qx_shift u' = qx_shift u := congrArg (fun z => z.2.2.1) h
theorem fr_W_lazy {u u' : SX} (h : fr_W u' = fr_W u) : qx_lazy u' = qx_lazy u := congrArg (fun z => z.2.2.2.1) h
theorem fr_W_decSlot {u u' : SX} (h : fr_W u' = fr_W u) : qx_decSlot u' = qx_decSlot u := congrArg (fun z => z.2.2.2.2.1) h
theorem fr_W_decEnded {u u' : SX} (h : fr_W u' = fr_W u) : qx_decEnded u' = qx_decEnded u := congrArg (fun z => z.2.2.2.2.2.1) h
theorem fr_W_decAt {u u' : SX} (h : fr_W u' = fr_W u) : qx_decAt u' = qx_decAt u := congrArg (fun z => z.2.2.2.2.2.2.1) h
theorem fr_W_decRange {u u' : SX} (h : fr_W u' = fr_W u) : qx_decRange u' = qx_decRange u := congrArg (fun z => z.2.2.2.2.2.2.2.1) h
theorem fr_W_decCode {u u' : SX} (h : fr_W u' = fr_W u) : qx_decCode u' = qx_decCode u := congrArg (fun z => z.2.2.2.2.2.2.2.2.1) h
theorem fr_W_source {u u' : SX} (h : fr_W u' = fr_W u) : qx_source u' = qx_source u := congrArg (fun z => z.2.2.2.2.2.2.2.2.2.1) h
theorem fr_W_store {u u' : SX} (h : fr_W u' = fr_W u) : qx_store u' = qx_store u := congrArg (fun z => z.2.2.2.2.2.2.2.2.2.2.1) h
theorem fr_W_storeLength {u u' : SX} (h : fr_W u' = fr_W u) : qx_storeLength u' = qx_storeLength u := congrArg (fun z => z.2.2.2.2.2.2.2.2.2.2.2.1) h
theorem fr_W_output {u u' : SX} (h : fr_W u' = fr_W u) : qx_output u' = qx_output u := congrArg (fun z => z.2.2.2.2.2.2.2.2.2.2.2.2) h
def fr_Z (u : SX) : Int32 × Int32 × Int32 × Int32 × (Nat → Int32) × Int32 × Int32 × Int32 × Int64 × Int64 × (Nat → Int32) := (qx_capacity u, qx_slots u, qx_shift u, qx_lazy u, qx_source u, qx_decSlot u, qx_decEnded u, qx_decAt u, qx_decRange u, qx_decCode u, qx_output u)
theorem fr_Z_capacity {u u' : SX} (h : fr_Z u' = fr_Z u) : qx_capacity u' = qx_capacity u := congrArg (fun z => z.1) h
theorem fr_Z_slots {u u' : SX} (h : fr_Z u' = fr_Z u) : qx_slots u' = qx_slots u := congrArg (fun z => z.2.1) h
theorem fr_Z_shift {u u' : SX} (h : fr_Z u' = fr_Z u) : qx_shift u' = qx_shift u := congrArg (fun z => z.2.2.1) h
theorem fr_Z_lazy {u u' : SX} (h : fr_Z u' = fr_Z u) : qx_lazy u' = qx_lazy u := congrArg (fun z => z.2.2.2.1) h
theorem fr_Z_source {u u' : SX} (h : fr_Z u' = fr_Z u) : qx_source u' = qx_source u := congrArg (fun z => z.2.2.2.2.1) h
theorem fr_Z_decSlot {u u' : SX} (h : fr_Z u' = fr_Z u) : qx_decSlot u' = qx_decSlot u := congrArg (fun z => z.2.2.2.2.2.1) h
theorem fr_Z_decEnded {u u' : SX} (h : fr_Z u' = fr_Z u) : qx_decEnded u' = qx_decEnded u := congrArg (fun z => z.2.2.2.2.2.2.1) h
theorem fr_Z_decAt {u u' : SX} (h : fr_Z u' = fr_Z u) : qx_decAt u' = qx_decAt u := congrArg (fun z => z.2.2.2.2.2.2.2.1) h
theorem fr_Z_decRange {u u' : SX} (h : fr_Z u' = fr_Z u) : qx_decRange u' = qx_decRange u := congrArg (fun z => z.2.2.2.2.2.2.2.2.1) h
theorem fr_Z_decCode {u u' : SX} (h : fr_Z u' = fr_Z u) : qx_decCode u' = qx_decCode u := congrArg (fun z => z.2.2.2.2.2.2.2.2.2.1) h
theorem fr_Z_output {u u' : SX} (h : fr_Z u' = fr_Z u) : qx_output u' = qx_output u := congrArg (fun z => z.2.2.2.2.2.2.2.2.2.2) h
def fr_V (u : SX) : Int32 × Int32 × Int32 × Int32 × Int32 × Int32 × Int64 × Int64 × Int32 × Int32 × (Nat → Int32) × (Nat → Int32) × (Nat → Int32) × (Nat → Int32) × (Nat → Int32) := (qx_capacity u, qx_slots u, qx_shift u, qx_lazy u, qx_sourceLength u, qx_codedLength u, qx_encLow u, qx_encRange u, qx_encCache u, qx_encPending u, qx_source u, qx_coded u, qx_store u, qx_storeLength u, qx_output u)
theorem fr_V_capacity {u u' : SX} (h : fr_V u' = fr_V u) : qx_capacity u' = qx_capacity u := congrArg (fun z => z.1) h
theorem fr_V_slots {u u' : SX} (h : fr_V u' = fr_V u) : qx_slots u' = qx_slots u := congrArg (fun z => z.2.1) h
theorem fr_V_shift {u u' : SX} (h : fr_V u' = fr_V u) : qx_shift u' = qx_shift u := congrArg (fun z => z.2.2.1) h
theorem fr_V_lazy {u u' : SX} (h : fr_V u' = fr_V u) : qx_lazy u' = qx_lazy u := congrArg (fun z => z.2.2.2.1) h
theorem fr_V_sourceLength {u u' : SX} (h : fr_V u' = fr_V u) : qx_sourceLength u' = qx_sourceLength u := congrArg (fun z => z.2.2.2.2.1) h
theorem fr_V_codedLength {u u' : SX} (h : fr_V u' = fr_V u) : qx_codedLength u' = qx_codedLength u := congrArg (fun z => z.2.2.2.2.2.1) h
theorem fr_V_encLow {u u' : SX} (h : fr_V u' = fr_V u) : qx_encLow u' = qx_encLow u := congrArg (fun z => z.2.2.2.2.2.2.1) h
theorem fr_V_encRange {u u' : SX} (h : fr_V u' = fr_V u) : qx_encRange u' = qx_encRange u := congrArg (fun z => z.2.2.2.2.2.2.2.1) h
theorem fr_V_encCache {u u' : SX} (h : fr_V u' = fr_V u) : qx_encCache u' = qx_encCache u := congrArg (fun z => z.2.2.2.2.2.2.2.2.1) h
theorem fr_V_encPending {u u' : SX} (h : fr_V u' = fr_V u) : qx_encPending u' = qx_encPending u := congrArg (fun z => z.2.2.2.2.2.2.2.2.2.1) h
theorem fr_V_source {u u' : SX} (h : fr_V u' = fr_V u) : qx_source u' = qx_source u := congrArg (fun z => z.2.2.2.2.2.2.2.2.2.2.1) h
theorem fr_V_coded {u u' : SX} (h : fr_V u' = fr_V u) : qx_coded u' = qx_coded u := congrArg (fun z => z.2.2.2.2.2.2.2.2.2.2.2.1) h
theorem fr_V_store {u u' : SX} (h : fr_V u' = fr_V u) : qx_store u' = qx_store u := congrArg (fun z => z.2.2.2.2.2.2.2.2.2.2.2.2.1) h
theorem fr_V_storeLength {u u' : SX} (h : fr_V u' = fr_V u) : qx_storeLength u' = qx_storeLength u := congrArg (fun z => z.2.2.2.2.2.2.2.2.2.2.2.2.2.1) h
theorem fr_V_output {u u' : SX} (h : fr_V u' = fr_V u) : qx_output u' = qx_output u := congrArg (fun z => z.2.2.2.2.2.2.2.2.2.2.2.2.2.2) h
theorem fr_WZ {u u' : SX} (h : fr_W u' = fr_W u) : fr_Z u' = fr_Z u := congrArg (fun z => (z.1, z.2.1, z.2.2.1, z.2.2.2.1, z.2.2.2.2.2.2.2.2.2.1, z.2.2.2.2.1, z.2.2.2.2.2.1, z.2.2.2.2.2.2.1, z.2.2.2.2.2.2.2.1, z.2.2.2.2.2.2.2.2.1, z.2.2.2.2.2.2.2.2.2.2.2.2)) h
theorem fr_EZ {u u' : SX} (h : fr_E u' = fr_E u) : fr_Z u' = fr_Z u := congrArg (fun z => (z.1, z.2.1, z.2.2.1, z.2.2.2.1, z.2.2.2.2.2.2.2.2.2.2.2.2.1, z.2.2.2.2.2.1, z.2.2.2.2.2.2.1, z.2.2.2.2.2.2.2.1, z.2.2.2.2.2.2.2.2.1, z.2.2.2.2.2.2.2.2.2.1, z.2.2.2.2.2.2.2.2.2.2.2.2.2.2.2)) h
theorem fr_SZ {u u' : SX} (h : fr_S u' = fr_S u) : fr_Z u' = fr_Z u := congrArg (fun z => (z.1, z.2.1, z.2.2.1, z.2.2.2.1, z.2.2.2.2.2.2.2.2.2.2.2.2.2.2.1, z.2.2.2.2.2.2.1, z.2.2.2.2.2.2.2.1, z.2.2.2.2.2.2.2.2.1, z.2.2.2.2.2.2.2.2.2.1, z.2.2.2.2.2.2.2.2.2.2.1, z.2.2.2.2.2.2.2.2.2.2.2.2.2.2.2.2.2)) h
theorem fr_TW {u u' : SX} (h : fr_T u' = fr_T u) : fr_W u' = fr_W u := congrArg (fun z => (z.1, z.2.1, z.2.2.1, z.2.2.2.1, z.2.2.2.2.2.1, z.2.2.2.2.2.2.1, z.2.2.2.2.2.2.2.1, z.2.2.2.2.2.2.2.2.1, z.2.2.2.2.2.2.2.2.2.1, z.2.2.2.2.2.2.2.2.2.2.1, z.2.2.2.2.2.2.2.2.2.2.2.1, z.2.2.2.2.2.2.2.2.2.2.2.2.1, z.2.2.2.2.2.2.2.2.2.2.2.2.2)) h
theorem fz_W_codedLength_coded (e_codedLength : Int32) (e_coded : Nat → Int32) (u : SX) : fr_W (ux_codedLength_coded e_codedLength e_coded u) = fr_W u := rfl
theorem fz_W_encCache_encPending (e_encCache : Int32) (e_encPending : Int32) (u : SX) : fr_W (ux_encCache_encPending e_encCache e_encPending u) = fr_W u := rfl
theorem fz_W_encLow_encPending (e_encLow : Int64) (e_encPending : Int32) (u : SX) : fr_W (ux_encLow_encPending e_encLow e_encPending u) = fr_W u := rfl
theorem fz_W_encLow_encRange (e_encLow : Int64) (e_encRange : Int64) (u : SX) : fr_W (ux_encLow_encRange e_encLow e_encRange u) = fr_W u := rfl
theorem fz_W_encRange (e_encRange : Int64) (u : SX) : fr_W (ux_encRange e_encRange u) = fr_W u := rfl
theorem fz_W_figures (e_figures : Nat → Int32) (u : SX) : fr_W (ux_figures e_figures u) = fr_W u := rfl
theorem fz_W_model (e_model : Nat → Int32) (u : SX) : fr_W (ux_model e_model u) = fr_W u := rfl
theorem fz_W_reps (e_reps : Nat → Int32) (u : SX) : fr_W (ux_reps e_reps u) = fr_W u := rfl
theorem fz_W_sourceLength_codedLength_encLow_encRange_encCache_encPending (e_sourceLength : Int32) (e_codedLength : Int32) (e_encLow : Int64) (e_encRange : Int64) (e_encCache : Int32) (e_encPending : Int32) (u : SX) : fr_W (ux_sourceLength_codedLength_encLow_encRange_encCache_encPending e_sourceLength e_codedLength e_encLow e_encRange e_encCache e_encPending u) = fr_W u := rfl
theorem fz_Z_codedLength_coded (e_codedLength : Int32) (e_coded : Nat → Int32) (u : SX) : fr_Z (ux_codedLength_coded e_codedLength e_coded u) = fr_Z u := rfl
theorem fz_Z_encCache_encPending (e_encCache : Int32) (e_encPending : Int32) (u : SX) : fr_Z (ux_encCache_encPending e_encCache e_encPending u) = fr_Z u := rfl
theorem fz_Z_encLow_encPending (e_encLow : Int64) (e_encPending : Int32) (u : SX) : fr_Z (ux_encLow_encPending e_encLow e_encPending u) = fr_Z u := rfl
theorem fz_Z_encLow_encRange (e_encLow : Int64) (e_encRange : Int64) (u : SX) : fr_Z (ux_encLow_encRange e_encLow e_encRange u) = fr_Z u := rfl
theorem fz_Z_encRange (e_encRange : Int64) (u : SX) : fr_Z (ux_encRange e_encRange u) = fr_Z u := rfl
theorem fz_Z_figures (e_figures : Nat → Int32) (u : SX) : fr_Z (ux_figures e_figures u) = fr_Z u := rfl
theorem fz_Z_model (e_model : Nat → Int32) (u : SX) : fr_Z (ux_model e_model u) = fr_Z u := rfl
theorem fz_Z_reps (e_reps : Nat → Int32) (u : SX) : fr_Z (ux_reps e_reps u) = fr_Z u := rfl
theorem fz_Z_sourceLength_codedLength_encLow_encRange_encCache_encPending (e_sourceLength : Int32) (e_codedLength : Int32) (e_encLow : Int64) (e_encRange : Int64) (e_encCache : Int32) (e_encPending : Int32) (u : SX) : fr_Z (ux_sourceLength_codedLength_encLow_encRange_encCache_encPending e_sourceLength e_codedLength e_encLow e_encRange e_encCache e_encPending u) = fr_Z u := rfl
theorem fz_Z_store (e_store : Nat → Int32) (u : SX) : fr_Z (ux_store e_store u) = fr_Z u := rfl
theorem fz_Z_storeLength (e_storeLength : Nat → Int32) (u : SX) : fr_Z (ux_storeLength e_storeLength u) = fr_Z u := rfl
theorem fz_V_decAt (e_decAt : Int32) (u : SX) : fr_V (ux_decAt e_decAt u) = fr_V u := rfl
theorem fz_V_decCode (e_decCode : Int64) (u : SX) : fr_V (ux_decCode e_decCode u) = fr_V u := rfl
theorem fz_V_decEnded (e_decEnded : Int32) (u : SX) : fr_V (ux_decEnded e_decEnded u) = fr_V u := rfl
theorem fz_V_decRange (e_decRange : Int64) (u : SX) : fr_V (ux_decRange e_decRange u) = fr_V u := rfl
theorem fz_V_decRange_decCode (e_decRange : Int64) (e_decCode : Int64) (u : SX) : fr_V (ux_decRange_decCode e_decRange e_decCode u) = fr_V u := rfl
theorem fz_V_decSlot (e_decSlot : Int32) (u : SX) : fr_V (ux_decSlot e_decSlot u) = fr_V u := rfl
theorem fz_V_decSlot_decEnded_decAt_decRange_decCode (e_decSlot : Int32) (e_decEnded : Int32) (e_decAt : Int32) (e_decRange : Int64) (e_decCode : Int64) (u : SX) : fr_V (ux_decSlot_decEnded_decAt_decRange_decCode e_decSlot e_decEnded e_decAt e_decRange e_decCode u) = fr_V u := rfl
theorem fz_V_figures (e_figures : Nat → Int32) (u : SX) : fr_V (ux_figures e_figures u) = fr_V u := rfl
theorem fz_V_model (e_model : Nat → Int32) (u : SX) : fr_V (ux_model e_model u) = fr_V u := rfl
theorem fz_V_reps (e_reps : Nat → Int32) (u : SX) : fr_V (ux_reps e_reps u) = fr_V u := rfl
theorem ex_init (post : SX → Prop) (p0 : Int32) (p1 : Int32) (p2 : Int32) (p3 : Int32) : wpX_init post p0 p1 p2 p3 = (wpX_clamp (fun r_1 => (wpX_clamp (fun r_37 => (wpX_clamp (fun r_73 => (wpX_clamp (fun r_109 => (wpX_resetEncoder (fun (u146 : SX) => (wpX_resetDecoder post u146)) (512, 72, 328, 344, 360, 424, 472, 6, 255, 1024, 16777216, 4294967295, r_1, r_37, r_73, r_109, 0, 0, 0, 0, 0, 0, 0, 0, 0, 0, 0, (fun _ => 0), (fun _ => 0), (fun _ => 0), (fun _ => 0), (fun _ => 0), (fun _ => 0), (fun _ => 0), (fun _ => 0)))) (512, 72, 328, 344, 360, 424, 472, 6, 255, 1024, 16777216, 4294967295, r_1, r_37, r_73, 0, 0, 0, 0, 0, 0, 0, 0, 0, 0, 0, 0, (fun _ => 0), (fun _ => 0), (fun _ => 0), (fun _ => 0), (fun _ => 0), (fun _ => 0), (fun _ => 0), (fun _ => 0)) p3 0 1)) (512, 72, 328, 344, 360, 424, 472, 6, 255, 1024, 16777216, 4294967295, r_1, r_37, 0, 0, 0, 0, 0, 0, 0, 0, 0, 0, 0, 0, 0, (fun _ => 0), (fun _ => 0), (fun _ => 0), (fun _ => 0), (fun _ => 0), (fun _ => 0), (fun _ => 0), (fun _ => 0)) p2 4 6)) (512, 72, 328, 344, 360, 424, 472, 6, 255, 1024, 16777216, 4294967295, r_1, 0, 0, 0, 0, 0, 0, 0, 0, 0, 0, 0, 0, 0, 0, (fun _ => 0), (fun _ => 0), (fun _ => 0), (fun _ => 0), (fun _ => 0), (fun _ => 0), (fun _ => 0), (fun _ => 0)) p1 1 2)) (512, 72, 328, 344, 360, 424, 472, 6, 255, 1024, 16777216, 4294967295, 0, 0, 0, 0, 0, 0, 0, 0, 0, 0, 0, 0, 0, 0, 0, (fun _ => 0), (fun _ => 0), (fun _ => 0), (fun _ => 0), (fun _ => 0), (fun _ => 0), (fun _ => 0), (fun _ => 0)) p0 16 64) := rfl
theorem ey_init (post : SY → Prop) (p0 : Int32) (p1 : Int32) (p2 : Int32) (p3 : Int32) : wpY_init post p0 p1 p2 p3 = (wpY_clamp (fun r_1 => (wpY_clamp (fun r_27 => (wpY_clamp (fun r_53 => (wpY_clamp (fun r_79 => (post (r_1, r_27, r_53, r_79, 0, (-1), 0, 0, 0, 0, 0, 0, 0, 0, (fun _ => 0), (fun _ => 0), (fun _ => 0), (fun _ => 0), (fun _ => 0), (fun _ => 0), (fun _ => 0), (fun _ => 0), (fun _ => 0), (fun _ => 0), (fun _ => 0)))) (r_1, r_27, r_53, 0, 0, (-1), 0, 0, 0, 0, 0, 0, 0, 0, (fun _ => 0), (fun _ => 0), (fun _ => 0), (fun _ => 0), (fun _ => 0), (fun _ => 0), (fun _ => 0), (fun _ => 0), (fun _ => 0), (fun _ => 0), (fun _ => 0)) p3 0 1)) (r_1, r_27, 0, 0, 0, (-1), 0, 0, 0, 0, 0, 0, 0, 0, (fun _ => 0), (fun _ => 0), (fun _ => 0), (fun _ => 0), (fun _ => 0), (fun _ => 0), (fun _ => 0), (fun _ => 0), (fun _ => 0), (fun _ => 0), (fun _ => 0)) p2 4 6)) (r_1, 0, 0, 0, 0, (-1), 0, 0, 0, 0, 0, 0, 0, 0, (fun _ => 0), (fun _ => 0), (fun _ => 0), (fun _ => 0), (fun _ => 0), (fun _ => 0), (fun _ => 0), (fun _ => 0), (fun _ => 0), (fun _ => 0), (fun _ => 0)) p1 1 2)) (0, 0, 0, 0, 0, (-1), 0, 0, 0, 0, 0, 0, 0, 0, (fun _ => 0), (fun _ => 0), (fun _ => 0), (fun _ => 0), (fun _ => 0), (fun _ => 0), (fun _ => 0), (fun _ => 0), (fun _ => 0), (fun _ => 0), (fun _ => 0)) p0 16 64) := rfl
end
section
/-! ===== resets ===== -/
theorem xe_N0 : xe_N 0 4294967295 0 0 1 0 0 0 := by
  refine ⟨by omega, by omega, by omega, by omega, by omega, Or.inl (by omega), ?_⟩
  rw [show 1 - 1 = 0 from rfl, Nat.pow_zero]
theorem xw_resetEncoder {post : SX → Prop} {u : SX} {sh : Nat} (hsh : qx_shift u = nI sh) (k4 : 4 ≤ sh) (k6 : sh ≤ 6) (K : ∀ u' : SX, xe_A sh ca_0 u' → xh_ 0 hs_0 u' → qx_sourceLength u' = nI 0 → fr_W u' = fr_W u → (∀ i, 512 ≤ i → qx_model u' i = qx_model u i) → (∀ i, 6 ≤ i → qx_figures u' i = qx_figures u i) → (∀ i, 4 ≤ i → qx_reps u' i = qx_reps u i) → post u') : wpX_resetEncoder post u := by
  rw [ex_resetEncoder]
  refine xw_resetSide (sd := 0) (by omega) (fun m g r hm hg hr => ?_)
  refine K _ ⟨ca_0_ok, k4, k6, ?_, ?_, ?_, ⟨0, 1, 0, 0, ?_, ?_, ?_, ?_, ?_⟩⟩ ⟨?_, ?_, ?_, ?_, ?_, ?_, ?_⟩ ?_ ?_ ?_ ?_ ?_
  · simp only [gx_sourceLength_codedLength_encLow_encRange_encCache_encPending, gx_reps, gx_figures, gx_model]; exact hsh
  · simp only [gx_sourceLength_codedLength_encLow_encRange_encCache_encPending]; rfl
  · intro i hi
    simp only [gx_sourceLength_codedLength_encLow_encRange_encCache_encPending, gx_reps, gx_figures, gx_model]
    rw [hm i, if_pos (by omega)]; rfl
  · simp only [gx_sourceLength_codedLength_encLow_encRange_encCache_encPending]; rfl
  · simp only [gx_sourceLength_codedLength_encLow_encRange_encCache_encPending]; rfl
  · simp only [gx_sourceLength_codedLength_encLow_encRange_encCache_encPending]; rfl
  · simp only [gx_sourceLength_codedLength_encLow_encRange_encCache_encPending]; rfl
  · exact xe_N0
  all_goals first
    | (simp only [gx_sourceLength_codedLength_encLow_encRange_encCache_encPending, gx_reps, gx_figures, gx_model]; rw [hg, if_pos (by omega)]; rfl)
    | skip
  · intro j hj
    simp only [gx_sourceLength_codedLength_encLow_encRange_encCache_encPending, gx_reps, gx_figures, gx_model]
    rw [hr, if_pos (by omega)]; rfl
  · simp only [gx_sourceLength_codedLength_encLow_encRange_encCache_encPending]; rfl
  · rw [fz_W_sourceLength_codedLength_encLow_encRange_encCache_encPending, fz_W_reps, fz_W_figures, fz_W_model]
  · intro i hi
    simp only [gx_sourceLength_codedLength_encLow_encRange_encCache_encPending, gx_reps, gx_figures, gx_model]
    rw [hm, if_neg (by omega)]
  · intro i hi
    simp only [gx_sourceLength_codedLength_encLow_encRange_encCache_encPending, gx_reps, gx_figures, gx_model]
    rw [hg, if_neg (by omega)]
  · intro i hi
    simp only [gx_sourceLength_codedLength_encLow_encRange_encCache_encPending, gx_reps, gx_figures, gx_model]
    rw [hr, if_neg (by omega)]
theorem xw_resetDecoder {post : SX → Prop} {u : SX} (K : ∀ u' : SX, qx_decSlot u' = -1 → qx_decEnded u' = 0 → qx_decAt u' = nI 0 → qx_decRange u' = lN 4294967295 → qx_decCode u' = lN 0 → (∀ i, i < 512 → qx_model u' (512 + i) = nI 1024) → xh_ 1 hs_0 u' → fr_V u' = fr_V u → (∀ i, i < 512 → qx_model u' i = qx_model u i) → (∀ i, i < 6 → qx_figures u' i = qx_figures u i) → (∀ i, i < 4 → qx_reps u' i = qx_reps u i) → post u') : wpX_resetDecoder post u := by
  rw [ex_resetDecoder]
  refine xw_resetSide (sd := 1) (by omega) (fun m g r hm hg hr => ?_)
  refine K _ ?_ ?_ ?_ ?_ ?_ ?_ ⟨?_, ?_, ?_, ?_, ?_, ?_, ?_⟩ ?_ ?_ ?_ ?_
  · simp only [gx_decSlot_decEnded_decAt_decRange_decCode]
  · simp only [gx_decSlot_decEnded_decAt_decRange_decCode]
  · simp only [gx_decSlot_decEnded_decAt_decRange_decCode]; rfl
  · simp only [gx_decSlot_decEnded_decAt_decRange_decCode]; rfl
  · simp only [gx_decSlot_decEnded_decAt_decRange_decCode]; rfl
  · intro i hi
    simp only [gx_decSlot_decEnded_decAt_decRange_decCode, gx_reps, gx_figures, gx_model]
    rw [hm, if_pos (by omega)]; rfl
  all_goals first
    | (simp only [gx_decSlot_decEnded_decAt_decRange_decCode, gx_reps, gx_figures, gx_model]; rw [hg, if_pos (by omega)]; rfl)
    | skip
  · intro j hj
    simp only [gx_decSlot_decEnded_decAt_decRange_decCode, gx_reps, gx_figures, gx_model]
    rw [hr, if_pos (by omega)]; rfl
  · rw [fz_V_decSlot_decEnded_decAt_decRange_decCode, fz_V_reps, fz_V_figures, fz_V_model]
  · intro i hi
    simp only [gx_decSlot_decEnded_decAt_decRange_decCode, gx_reps, gx_figures, gx_model]
    rw [hm, if_neg (by omega)]
  · intro i hi
    simp only [gx_decSlot_decEnded_decAt_decRange_decCode, gx_reps, gx_figures, gx_model]
    rw [hg, if_neg (by omega)]
  · intro i hi
    simp only [gx_decSlot_decEnded_decAt_decRange_decCode, gx_reps, gx_figures, gx_model]
    rw [hr, if_neg (by omega)]
/-! what a reset of the encoder, and a seal, keep of the relation -/
theorem r1_0 {cap sl sh n : Nat} {u u' : SX} {v v' : SY} (h : r1_ cap sl sh n u v) (f : fr_Z u' = fr_Z u) (hx : qx_sourceLength u' = nI 0) (e1 : qy_cap v' = qy_cap v) (e2 : qy_slots v' = qy_slots v) (e3 : qy_shift v' = qy_shift v) (e4 : qy_lazy v' = qy_lazy v) (e5 : qy_source v' = qy_source v) (hy : qy_n v' = nI 0) : r1_ cap sl sh 0 u' v' := by
  obtain ⟨a1, a2, a3, a4, a5, a6, a7, a8, a9, a10, a11, a12, a13, a14, a15, a16, a17, a18⟩ := h
  unfold r1_
  rw [fr_Z_capacity f, fr_Z_slots f, fr_Z_shift f, fr_Z_lazy f, fr_Z_source f, e1, e2, e3, e4, e5]
  exact ⟨a1, a2, a3, a4, a5, a6, a7, a8, a9, a10, a11, a12, a13, hx, hy, Nat.zero_le _, a17, fun i hi => absurd hi (Nat.not_lt_zero i)⟩
theorem xh1_g {h : HH} {u u' : SX} (fg : ∀ i, 6 ≤ i → qx_figures u' i = qx_figures u i) (rp : ∀ i, 4 ≤ i → qx_reps u' i = qx_reps u i) (x : xh_ 1 h u) : xh_ 1 h u' := by
  obtain ⟨x1, x2, x3, x4, x5, x6, x7⟩ := x
  refine ⟨?_, ?_, ?_, ?_, ?_, ?_, ?_⟩
  · rw [fg _ (by omega)]; exact x1
  · rw [fg _ (by omega)]; exact x2
  · rw [fg _ (by omega)]; exact x3
  · rw [fg _ (by omega)]; exact x4
  · rw [fg _ (by omega)]; exact x5
  · rw [fg _ (by omega)]; exact x6
  · intro j hj; rw [rp _ (by omega)]; exact x7 j hj
theorem r4_g {sh : Nat} {TS TS' : Nat → Nat → TK} {cS cS' : Nat → Nat} {u u' : SX} {v v' : SY} (h : r4_ sh TS cS u v) (f : fr_Z u' = fr_Z u) (m : ∀ i, 512 ≤ i → qx_model u' i = qx_model u i) (fg : ∀ i, 6 ≤ i → qx_figures u' i = qx_figures u i) (rp : ∀ i, 4 ≤ i → qx_reps u' i = qx_reps u i) (e1 : qy_openSlot v' = qy_openSlot v) (e2 : qy_taken v' = qy_taken v) (e3 : qy_ended v' = qy_ended v) (sl : ∀ j, j < 2 → qy_openSlot v = nI j → qy_holds v' j = qy_holds v j ∧ TS' j = TS j ∧ cS' j = cS j ∧ qx_storeLength u' j = qx_storeLength u j ∧ ∀ i, i < 1024 → qx_store u' (j * 1024 + i) = qx_store u (j * 1024 + i)) : r4_ sh TS' cS' u' v' := by
  rcases h with ⟨a1, a2, a3, a4, a5, a6⟩ | ⟨j, d, bs, b1, b2, b3, b4, b5, b6, b7, b8, b9⟩
  · refine Or.inl ⟨(fr_Z_decSlot f).trans a1, e1.trans a2, e2.trans a3, e3.trans a4, ?_, xh1_g fg rp a6⟩
    intro i hi; rw [m _ (by omega)]; exact a5 i hi
  · obtain ⟨s1, s2, s3, s4, s5⟩ := sl j b1 b3
    have xd : ∀ (S : Nat) (A : CA), xd_A sh bs S j A u → xd_A sh bs S j A u' := by
      intro S A x
      obtain ⟨x1, x2, x3, x4, x5, x6, x7, x8, x9, x10⟩ := x
      obtain ⟨y1, y2, y3, y4, y5, y6⟩ := x9
      refine ⟨x1, x2, x3, (fr_Z_shift f).trans x4, (fr_Z_decRange f).trans x5, ?_, (fr_Z_decAt f).trans x7, (fr_Z_decCode f).trans x8, ⟨y1, (fr_Z_decSlot f).trans y2, by rw [fr_Z_slots f]; exact y3, s4.trans y4, y5, ?_⟩, x10⟩
      · intro i hi; rw [m _ (by omega)]; exact x6 i hi
      · intro i hi; rw [s5 i (by omega)]; exact y6 i hi
    refine Or.inr ⟨j, d, bs, ?_⟩
    rw [s2, s3]
    refine ⟨b1, s1.trans b2, e1.trans b3, e2.trans b4, b5, b6, xh1_g fg rp b7, ?_, ?_⟩
    · rw [fr_Z_output f]; exact b8
    · rw [fr_Z_decEnded f, e3]
      rcases b9 with ⟨c1, c2, c3⟩ | ⟨c1, c2, c3, c4⟩
      · exact Or.inl ⟨c1, c2, xd _ _ c3⟩
      · exact Or.inr ⟨c1, c2, c3, xd _ _ c4⟩
theorem r2_0 {sh : Nat} {T : Nat → TK} {u' : SX} {v' : SY} (x1 : xe_A sh ca_0 u') (x2 : xh_ 0 hs_0 u') (y : qy_tokens v' 0 = nI 0) : r2_ sh 0 T 0 u' v' :=
  ⟨fun i hi => absurd hi (Nat.not_lt_zero i), y, ⟨by omega, fun i hi => absurd hi (Nat.not_lt_zero i)⟩, x1, x2, Nat.le_refl _⟩
theorem i_vc_restart {k : Nat} {u : SX} {v : SY} (I : i_Rel k u v) (hk : k + 4 ≤ 2052) : wpX_restart (fun u' => wpY_restart (fun v' => i_Rel (k + 4) u' v') v) u := by
  obtain ⟨cap, sl, sh, n, T, c, TS, cS, R1, R2, R3, R4⟩ := I
  obtain ⟨a1, a2, a3, a4, a5, a6, a7, a8, a9, a10, a11, a12, a13, a14, a15, a16, a17, a18⟩ := id R1
  rw [ex_restart]
  refine xw_resetEncoder a9 a11 a12 (fun u' x1 x2 x3 f m fg rp => ?_)
  rw [ey_restart]
  refine nm_e ?_
  refine ⟨cap, sl, sh, 0, T, 0, TS, cS, ?_, ?_, ?_, ?_⟩
  · exact r1_0 R1 (fr_WZ f) x3 (by simp only [gy_n_tokens]) (by simp only [gy_n_tokens]) (by simp only [gy_n_tokens]) (by simp only [gy_n_tokens]) (by simp only [gy_n_tokens]) (by simp only [gy_n_tokens]; rfl)
  · exact r2_0 x1 x2 (by simp only [gy_n_tokens]; exact pk_us)
  · have R3' := r3_X (u' := u') (fr_W_store f) (fr_W_storeLength f) R3
    intro j hj
    unfold r3_h ys_ yt_
    simp only [gy_n_tokens]
    rw [pk_un (by omega)]
    exact R3' j hj
  · exact r4_g R4 (fr_WZ f) m fg rp (by simp only [gy_n_tokens]) (by simp only [gy_n_tokens]) (by simp only [gy_n_tokens]) (fun j hj _ => ⟨by simp only [gy_n_tokens], rfl, rfl, by rw [fr_W_storeLength f], fun i hi => by rw [fr_W_store f]⟩)
/-! ===== the constructors ===== -/
def cl_ (p lo hi : Int32) : Int32 := if lo ≤ p then (if p ≤ hi then p else hi) else lo
theorem xw_clamp {post : Int32 → Prop} {u : SX} {p lo hi : Int32} (K : post (cl_ p lo hi)) : wpX_clamp post u p lo hi := by
  rw [ex_clamp]
  unfold cl_ at K
  refine br_c (fun z => br_c (fun y => ?_) (fun y => ?_)) (fun z => ?_)
  · rw [if_pos z, if_pos y] at K; exact K
  · rw [if_pos z, if_neg y] at K; exact K
  · rw [if_neg z] at K; exact K
theorem yw_clamp {post : Int32 → Prop} {u : SY} {p lo hi : Int32} (K : post (cl_ p lo hi)) : wpY_clamp post u p lo hi := by
  rw [ey_clamp]
  unfold cl_ at K
  refine br_c (fun z => br_c (fun y => ?_) (fun y => ?_)) (fun z => ?_)
  · rw [if_pos z, if_pos y] at K; exact K
  · rw [if_pos z, if_neg y] at K; exact K
  · rw [if_neg z] at K; exact K
theorem cl_p {p : Int32} {lo hi : Nat} (h : lo ≤ hi) (hh : hi < 2 ^ 31) : ∃ j : Nat, lo ≤ j ∧ j ≤ hi ∧ cl_ p (nI lo) (nI hi) = nI j := by
  unfold cl_
  by_cases z : nI lo ≤ p
  · rw [if_pos z]
    by_cases y : p ≤ nI hi
    · rw [if_pos y]
      obtain ⟨j, j1, j2, rfl⟩ := px_ge (a := lo) (by omega) (Int32.not_lt.mpr z)
      exact ⟨j, j1, (nI_leI j2 hh).mp y, rfl⟩
    · rw [if_neg y]; exact ⟨hi, h, Nat.le_refl _, rfl⟩
  · rw [if_neg z]; exact ⟨lo, Nat.le_refl _, h, rfl⟩
theorem i_vc0 (k0 : Int32) (k1 : Int32) (k2 : Int32) (k3 : Int32) : wpX_init (fun u => wpY_init (fun v => i_Rel 4 u v) k0 k1 k2 k3) k0 k1 k2 k3 := by
  obtain ⟨cap, c1, c2, ec⟩ := cl_p (p := k0) (lo := 16) (hi := 64) (by omega) (by omega)
  obtain ⟨sl, s1, s2, es⟩ := cl_p (p := k1) (lo := 1) (hi := 2) (by omega) (by omega)
  obtain ⟨sh, h1, h2, eh⟩ := cl_p (p := k2) (lo := 4) (hi := 6) (by omega) (by omega)
  rw [ex_init]
  refine xw_clamp (xw_clamp (xw_clamp (xw_clamp ?_)))
  refine xw_resetEncoder (sh := sh) eh h1 h2 (fun u1 x1 x2 x3 f1 m1 fg1 rp1 => ?_)
  refine xw_resetDecoder (fun u2 y1 y2 y3 y4 y5 y6 y7 f2 m2 fg2 rp2 => ?_)
  rw [ey_init]
  refine yw_clamp (yw_clamp (yw_clamp (yw_clamp ?_)))
  refine ⟨cap, sl, sh, 0, (fun _ => (0, 0, 0, 0)), 0, (fun _ _ => (0, 0, 0, 0)), (fun _ => 0), ?_, ?_, ?_, ?_⟩
  · refine ⟨?_, ec, c1, c2, ?_, es, s1, s2, ?_, eh, h1, h2, ?_, ?_, rfl, Nat.zero_le _, ?_, fun i hi => absurd hi (Nat.not_lt_zero i)⟩
    · exact (fr_V_capacity f2).trans ((fr_W_capacity f1).trans ec)
    · exact (fr_V_slots f2).trans ((fr_W_slots f1).trans es)
    · exact (fr_V_shift f2).trans ((fr_W_shift f1).trans eh)
    · exact (fr_V_lazy f2).trans (fr_W_lazy f1)
    · exact (fr_V_sourceLength f2).trans x3
    · exact (fr_V_source f2).trans (fr_W_source f1)
  · refine r2_0 ?_ ?_ rfl
    · obtain ⟨q1, q2, q3, q4, q5, q6, q7⟩ := x1
      exact ⟨q1, q2, q3, (fr_V_shift f2).trans q4, (fr_V_encRange f2).trans q5, fun i hi => by rw [m2 i hi]; exact q6 i hi, xe_R_same q7 (fr_V_codedLength f2) (fr_V_encPending f2) (fr_V_encCache f2) (fr_V_encLow f2) (fr_V_coded f2)⟩
    · obtain ⟨q1, q2, q3, q4, q5, q6, q7⟩ := x2
      refine ⟨?_, ?_, ?_, ?_, ?_, ?_, ?_⟩
      · rw [fg2 _ (by omega)]; exact q1
      · rw [fg2 _ (by omega)]; exact q2
      · rw [fg2 _ (by omega)]; exact q3
      · rw [fg2 _ (by omega)]; exact q4
      · rw [fg2 _ (by omega)]; exact q5
      · rw [fg2 _ (by omega)]; exact q6
      · intro j hj; rw [rp2 _ (by omega)]; exact q7 j hj
  · intro j hj
    refine Or.inl ⟨rfl, ?_⟩
    rw [fr_V_storeLength f2, fr_W_storeLength f1]
    rfl
  · exact Or.inl ⟨y1, rfl, rfl, rfl, y6, y7⟩
end
section
/-! ===== owed: seal ===== -/
theorem r4_slot {sh : Nat} {TS : Nat → Nat → TK} {cS : Nat → Nat} {u : SX} {v : SY} (h : r4_ sh TS cS u v) : qx_decSlot u = qy_openSlot v := by
  rcases h with ⟨a1, a2, a3, a4, a5, a6⟩ | ⟨j, d, bs, b1, b2, b3, b4, b5, b6, b7, b8, b9⟩
  · rw [a1, a2]
  · rcases b9 with ⟨c1, c2, c3⟩ | ⟨c1, c2, c3, c4⟩
    · rw [c3.2.2.2.2.2.2.2.2.1.2.1, b3]
    · rw [c4.2.2.2.2.2.2.2.2.1.2.1, b3]
/-- X's seal, from the end marker on -/
theorem xw_seal {post : Int32 → SX → Prop} {u : SX} {sh j c : Nat} {T : Nat → TK} (X : x2_ sh T c u) (hj : j < 2) (K : ∀ u' : SX, xe_A sh ca_0 u' → xh_ 0 hs_0 u' → qx_sourceLength u' = nI 0 → fr_Z u' = fr_Z u → (∀ i, 512 ≤ i → qx_model u' i = qx_model u i) → (∀ i, 6 ≤ i → qx_figures u' i = qx_figures u i) → (∀ i, 4 ≤ i → qx_reps u' i = qx_reps u i) → qx_storeLength u' j = nI ((sq_E sh T c).2.2.2 + 5) → (∀ i, i ≠ j → qx_storeLength u' i = qx_storeLength u i) → (∀ i i' : Nat, i ≠ j → i' < 1024 → qx_store u' (i * 1024 + i') = qx_store u (i * 1024 + i')) → sq_B sh T c (fun i => by_v (qx_store u' (j * 1024 + i))) → post 0 u') : wpX_writeEndMarker (fun u6 => wpX_flushCoder (fun u42 => ∀ x2_77 : Int32, x2_77 = nI j * 1024 → (∃ n58 : Nat, zx_seal_58 post (nI j) x2_77 n58 0 u42)) u6) u := by
  obtain ⟨b1, b4, b5⟩ := X
  have k4 := b4.2.1
  have k6 := b4.2.2.1
  have ok := sq_H_ok c b1
  have sA := sq_A_go k4 k6 c b1 ca_0_ok
  have okp := ok.1
  have z0 : ca_0.2.2.2 = 0 := rfl
  have sS := sA.2.2
  have E := sq_E_ok k4 k6 b1
  have st : qx_figures u 2 = nI (sq_H T c).2.2.1 := b5.2.2.1
  refine xw_endMarker (c := 0) (A := sq_A sh T c) ⟨b4, by omega⟩ st ok.2.2.1 (fun u1 h1 f1 => ?_)
  have h1' : xe_A sh (sq_E sh T c) u1 := h1.1
  obtain ⟨q1, q2, q3, q4, q5, q6, q7⟩ := h1'
  refine xw_flush q7 (by omega) (fun u2 e1 e2 f2 => ?_)
  refine nm_r (e' := nI (j * 1024)) (by rw [show (1024 : Int32) = nI 1024 from rfl, pk_mul]) ?_
  have hsh2 : qx_shift u2 = nI sh := (fr_S_shift f2).trans q4
  have fz : ∀ g a : Nat → Int32, fr_Z (ux_storeLength a (ux_store g u2)) = fr_Z u := by
    intro g a
    rw [fz_Z_storeLength, fz_Z_store]
    exact (fr_SZ f2).trans (fr_EZ f1.1)
  have main : ∀ g' : Nat → Int32, (∀ x, g' x = if j * 1024 + 0 ≤ x ∧ x < j * 1024 + ((sq_E sh T c).2.2.2 + 5) then vp_nar .byte (qx_coded u2 (x - j * 1024)) else qx_store u2 x) → zx_seal_93 post (nI j) (ux_store g' u2) := by
    intro g' hg
    rw [ex_seal_93]
    simp only [gx_store]
    rw [nI_clamp (show j < 2 ^ 31 by omega), e1]
    refine ⟨vp_in_nI hj (by omega), nm_e ?_⟩
    refine xw_resetEncoder (sh := sh) (by simp only [gx_storeLength, gx_store]; exact hsh2) k4 k6 (fun u' x1 x2 x3 f m fg rp => ?_)
    refine K u' x1 x2 x3 ((fr_WZ f).trans (fz _ _)) ?_ ?_ ?_ ?_ ?_ ?_ ?_
    · intro i hi
      rw [m i hi]
      simp only [gx_storeLength, gx_store]
      rw [fr_S_model f2]; exact f1.2 i hi
    · intro i hi
      rw [fg i hi]
      simp only [gx_storeLength, gx_store]
      rw [fr_S_figures f2, fr_E_figures f1.1]
    · intro i hi
      rw [rp i hi]
      simp only [gx_storeLength, gx_store]
      rw [fr_S_reps f2, fr_E_reps f1.1]
    · rw [fr_W_storeLength f]
      simp only [gx_storeLength]
      exact pk_us
    · intro i hi
      rw [fr_W_storeLength f]
      simp only [gx_storeLength]
      rw [pk_un hi, fr_S_storeLength f2, fr_E_storeLength f1.1]
    · intro i i' hi hi'
      rw [fr_W_store f]
      simp only [gx_storeLength, gx_store]
      rw [hg, if_neg (by omega), fr_S_store f2, fr_E_store f1.1]
    · unfold sq_B
      rw [← e2]
      refine vl_congr _ (fun i hi => ?_)
      show by_v (qx_store u' (j * 1024 + i)) = by_v (qx_coded u2 i)
      rw [fr_W_store f]
      simp only [gx_storeLength, gx_store]
      rw [hg, if_pos (by omega), by_nar, show j * 1024 + i - j * 1024 = i by omega]
  have et : ux_store (qx_store u2) u2 = u2 := rfl
  have h58 : ∃ n58 : Nat, zx_seal_58 post (nI j) (nI (j * 1024)) n58 (nI 0) (ux_store (qx_store u2) u2) := by
    refine ⟨((sq_E sh T c).2.2.2 + 5) + 1, xw_seal58 (n := (sq_E sh T c).2.2.2 + 5) hj (by omega) ((sq_E sh T c).2.2.2 + 5) 0 (((sq_E sh T c).2.2.2 + 5) + 1) (qx_store u2) u2 (by omega) (by omega) e1 main⟩
  rw [et, nI_0] at h58
  exact h58
/-! Y's copy -/
def sc_ (base t : Nat) (a : Nat → Int32) : Nat → Int32 := fun q => if base ≤ q ∧ q < base + t then a (q - base) else a q
theorem sc_step {base t : Nat} {a : Nat → Int32} (h : t < base) : upd (sc_ base t a) (base + t) (sc_ base t a t) = sc_ base (t + 1) a := by
  funext q
  have e0 : sc_ base t a t = a t := by unfold sc_; rw [if_neg (by omega)]
  rw [e0]
  by_cases e : q = base + t
  · rw [e, pk_us]
    unfold sc_
    rw [if_pos (by omega), show base + t - base = t by omega]
  · rw [pk_un e]
    unfold sc_
    by_cases e1 : base ≤ q ∧ q < base + t
    · rw [if_pos e1, if_pos (by omega)]
    · rw [if_neg e1, if_neg (by omega)]
theorem sc_0 {base : Nat} {a : Nat → Int32} : sc_ base 0 a = a := by
  funext q
  unfold sc_
  rw [if_neg (by omega)]
theorem sy_tok4 (a b c d e f g h : Nat → Int32) (u : SY) : uy_tokenKind_tokenLength_tokenDistance_tokenByte a b c d (uy_tokenKind_tokenLength_tokenDistance_tokenByte e f g h u) = uy_tokenKind_tokenLength_tokenDistance_tokenByte a b c d u := rfl
theorem yw_seal54 {post : Int32 → SY → Prop} {v : SY} {j B : Nat} (hj : j < 2) (hB : B = (j + 1) * 64) (K : ∀ v' : SY, v' = uy_tokenKind_tokenLength_tokenDistance_tokenByte (sc_ B 64 (qy_tokenKind v)) (sc_ B 64 (qy_tokenLength v)) (sc_ B 64 (qy_tokenDistance v)) (sc_ B 64 (qy_tokenByte v)) v → post 0 (uy_n_tokens 0 (upd (upd (qy_tokens v) (j + 1) (qy_tokens v 0)) 0 0) (uy_tokens_holds (upd (qy_tokens v) (j + 1) (qy_tokens v 0)) (upd (qy_holds v) j 1) v'))) : ∀ (q f t : Nat), q < f → t + q = 64 → zy_seal_54 post (nI j) (nI B) f (nI t) (uy_tokenKind_tokenLength_tokenDistance_tokenByte (sc_ B t (qy_tokenKind v)) (sc_ B t (qy_tokenLength v)) (sc_ B t (qy_tokenDistance v)) (sc_ B t (qy_tokenByte v)) v) := by
  intro q
  induction q with
  | zero =>
    intro f t hf ht
    obtain ⟨f, rfl⟩ : ∃ g, f = g + 1 := ⟨f - 1, by omega⟩
    have e : t = 64 := by omega
    subst e
    rw [ey_seal_54, nI_1, nI_clamp (show j + 1 < 2 ^ 31 by omega), nI_clamp (show j < 2 ^ 31 by omega)]
    simp only [gy_tokenKind_tokenLength_tokenDistance_tokenByte]
    refine br_t (nI_le (a := 64) (by omega) (by omega)) ⟨vp_in_nI (by omega) (by omega), nm_e ⟨vp_in_nI hj (by omega), nm_r (e' := upd (qy_holds v) j 1) rfl ?_⟩⟩
    rw [ey_restart]
    simp only [gy_tokens_holds]
    exact nm_e (K _ rfl)
  | succ q ih =>
    intro f t hf ht
    obtain ⟨f, rfl⟩ : ∃ g, f = g + 1 := ⟨f - 1, by omega⟩
    rw [ey_seal_54, nI_add, nI_clamp (show B + t < 2 ^ 31 by omega), nI_clamp (show t < 2 ^ 31 by omega)]
    simp only [gy_tokenKind_tokenLength_tokenDistance_tokenByte]
    have i1 : vp_in (nI t) 192 := vp_in_nI (by omega) (by omega)
    have i2 : vp_in (nI (B + t)) 192 := vp_in_nI (by omega) (by omega)
    rw [sc_step (by omega), sc_step (by omega), sc_step (by omega), sc_step (by omega)]
    refine br_f (nI_ge (b := 64) (by omega) (by omega)) ⟨i1, i2, nm_e ⟨i1, i2, nm_e ⟨i1, i2, nm_e ⟨i1, i2, nm_e (nm_r (nI_1 t) ?_)⟩⟩⟩⟩
    rw [sy_tok4]
    exact ih f (t + 1) (by omega) (by omega)
theorem i_vc_seal {k : Nat} {u : SX} {v : SY} (I : i_Rel k u v) (hk : k + 4 ≤ 2052) (v1 : Int32) : wpX_seal (fun r u' => wpY_seal (fun r' v' => r' = r ∧ i_Rel (k + 4) u' v') v v1) u v1 := by
  have I0 := I
  obtain ⟨cap, sl, sh, n, T, c, TS, cS, R1, R2, R3, R4⟩ := I
  obtain ⟨a1, a2, a3, a4, a5, a6, a7, a8, a9, a10, a11, a12, a13, a14, a15, a16, a17, a18⟩ := id R1
  obtain ⟨b1, b2, b3, b4, b5, b6⟩ := id R2
  have po : qx_figures u 0 = nI (sq_H T c).1 := b5.1
  have ds := r4_slot R4
  have hY : ∀ Q : Int32 → SY → Prop, ¬ v1 < 0 → v1 < nI sl → (∀ w : SY, fr_Y w = fr_Y v → ((nI n ≤ nI (sq_H T c).1 → ((qy_openSlot v = v1 → (Q (-8) w)) ∧ (¬ qy_openSlot v = v1 → (∀ x2_31 : Int32, x2_31 = (v1 + 1) * 64 → (∃ n54 : Nat, zy_seal_54 Q v1 x2_31 n54 0 w))))) ∧ (¬ nI n ≤ nI (sq_H T c).1 → (Q (-5) w)))) → wpY_seal Q v v1 := by
    intro Q z1 z2 H
    rw [ey_seal, a6]
    refine br_f z1 (br_t z2 ?_)
    refine yw_replay0 a10 a11 a12 b1 b3 b2 (fun w zz f1 => ?_)
    rw [zz.2.1.1, fr_Y_n f1, a15, fr_Y_openSlot f1]
    exact H w f1
  rw [ex_seal, a5, a14, po, ds]
  refine br_c (fun z1 => ?_) (fun z1 => br_c (fun z2 => br_c (fun z3 => br_c (fun z4 => ?_) (fun z4 => ?_)) (fun z3 => ?_)) (fun z2 => ?_))
  · rw [ey_seal]; exact br_t z1 ⟨rfl, I0⟩
  · exact hY _ z1 z2 (fun w f1 => br_t z3 (br_t z4 ⟨rfl, i_Y f1 I0⟩))
  · obtain ⟨j, j1, j2, rfl⟩ := px_ge (a := 0) (by omega) z1
    have jsl := (nI_ltI j2 (show sl < 2 ^ 31 by omega)).mp z2
    have E := sq_E_ok a11 a12 b1
    refine xw_seal (x2_of R2) (show j < 2 by omega) (fun u' x1 x2 x3 f m fg rp s1 s2 s3 s4 => ?_)
    refine hY _ z1 z2 (fun w f1 => br_t z3 (br_f z4 ?_))
    refine nm_r (e' := nI ((j + 1) * 64)) (by rw [nI_1, show (64 : Int32) = nI 64 from rfl, pk_mul]) ?_
    obtain ⟨J, eJ⟩ : ∃ J, J = 64 := ⟨64, rfl⟩
    have h54 := yw_seal54 (post := fun r' v' => r' = 0 ∧ i_Rel (k + 4) u' v') (v := w) (j := j) (B := (j + 1) * 64) (by omega) rfl (by
      intro v' ev
      refine ⟨rfl, ?_⟩
      have gY : fr_N v' = fr_N v := by
        rw [ev, fz_N_tokenKind_tokenLength_tokenDistance_tokenByte]; exact fr_YN f1
      have tk : ∀ (i : Nat) (t : TK), i < 64 ∨ i < (j + 1) * 64 ∨ (j + 1) * 64 + 64 ≤ i → yt_ t i v → yt_ t i v' := by
        intro i t hi ht
        have ht' := yt_Y f1 ht
        rw [ev]
        unfold yt_ sc_ at *
        simp only [gy_tokenKind_tokenLength_tokenDistance_tokenByte]
        rw [if_neg (by omega), if_neg (by omega), if_neg (by omega), if_neg (by omega)]
        exact ht'
      have tk2 : ∀ (i : Nat) (t : TK), i < 64 → yt_ t i v → yt_ t ((j + 1) * 64 + i) v' := by
        intro i t hi ht
        have ht' := yt_Y f1 ht
        rw [ev]
        unfold yt_ sc_ at *
        simp only [gy_tokenKind_tokenLength_tokenDistance_tokenByte]
        rw [if_pos (by omega), if_pos (by omega), if_pos (by omega), if_pos (by omega), show (j + 1) * 64 + i - (j + 1) * 64 = i by omega]
        exact ht'
      have tw := fr_Y_tokens f1
      have hw := fr_Y_holds f1
      refine ⟨cap, sl, sh, 0, T, 0, (fun i => if i = j then T else TS i), (fun i => if i = j then c else cS i), ?_, ?_, ?_, ?_⟩
      · refine r1_0 R1 f x3 ?_ ?_ ?_ ?_ ?_ ?_
        · simp only [gy_n_tokens, gy_tokens_holds]; exact fr_N_cap gY
        · simp only [gy_n_tokens, gy_tokens_holds]; exact fr_N_slots gY
        · simp only [gy_n_tokens, gy_tokens_holds]; exact fr_N_shift gY
        · simp only [gy_n_tokens, gy_tokens_holds]; exact fr_N_lazy gY
        · simp only [gy_n_tokens, gy_tokens_holds]; exact fr_N_source gY
        · simp only [gy_n_tokens]; rfl
      · refine r2_0 x1 x2 ?_
        simp only [gy_n_tokens]; exact pk_us
      · intro i hi
        have ytn : ∀ (q : Nat) (t : TK), yt_ t q v' → yt_ t q (uy_n_tokens 0 (upd (upd (qy_tokens w) (j + 1) (qy_tokens w 0)) 0 0) (uy_tokens_holds (upd (qy_tokens w) (j + 1) (qy_tokens w 0)) (upd (qy_holds w) j 1) v')) := by
          intro q t h
          unfold yt_ at *
          simp only [gy_n_tokens, gy_tokens_holds]
          exact h
        by_cases e : i = j
        · subst e
          refine Or.inr ⟨?_, ?_⟩
          · simp only [gy_n_tokens, gy_tokens_holds]; exact pk_us
          · show r3_h sh (if i = i then T else TS i) (if i = i then c else cS i) i _ _
            rw [if_pos rfl, if_pos rfl]
            refine ⟨b1, ?_, ⟨b3.1, fun q hq => ?_⟩, s1, _, s4, fun q hq => rfl⟩
            · simp only [gy_n_tokens]
              rw [pk_un (by omega), pk_us, tw]; exact b2
            · refine ytn _ _ ?_
              have := tk2 q (T q) (by have := b3.1; omega) (by have := b3.2 q hq; rw [show 64 * 0 + q = q by omega] at this; exact this)
              rw [show 64 * (i + 1) + q = (i + 1) * 64 + q by omega]
              exact this
        · rcases R3 i hi with ⟨q1, q2⟩ | ⟨q1, q2, q3, q4, q5, q6⟩
          · refine Or.inl ⟨?_, ?_⟩
            · simp only [gy_n_tokens, gy_tokens_holds]
              rw [pk_un e, hw]; exact q1
            · rw [s2 i e]; exact q2
          · refine Or.inr ⟨?_, ?_⟩
            · simp only [gy_n_tokens, gy_tokens_holds]
              rw [pk_un e, hw]; exact q1
            · show r3_h sh (if i = j then T else TS i) (if i = j then c else cS i) i _ _
              rw [if_neg e, if_neg e]
              have E' := sq_E_ok a11 a12 q2
              obtain ⟨bs, q7, q8⟩ := q6
              refine ⟨q2, ?_, ⟨q4.1, fun q hq => ?_⟩, by rw [s2 i e]; exact q5, bs, q7, fun q hq => ?_⟩
              · simp only [gy_n_tokens]
                rw [pk_un (by omega), pk_un (by omega), tw]; exact q3
              · have := q4.1
                exact ytn _ _ (tk _ _ (by omega) (q4.2 q hq))
              · rw [s3 i q e (by omega)]; exact q8 q hq
      · refine r4_g R4 f m fg rp ?_ ?_ ?_ ?_
        · simp only [gy_n_tokens, gy_tokens_holds]; exact fr_N_openSlot gY
        · simp only [gy_n_tokens, gy_tokens_holds]; exact fr_N_taken gY
        · simp only [gy_n_tokens, gy_tokens_holds]; exact fr_N_ended gY
        · intro i hi ho
          have e : i ≠ j := by
            intro e
            rw [e] at ho
            exact z4 ho
          refine ⟨?_, ?_, ?_, s2 i e, fun q hq => s3 i q e hq⟩
          · simp only [gy_n_tokens, gy_tokens_holds]
            rw [pk_un e, hw]
          · show (if i = j then T else TS i) = TS i
            rw [if_neg e]
          · show (if i = j then c else cS i) = cS i
            rw [if_neg e]) J (J + 1) 0 (by omega) (by omega)
    rw [sc_0, sc_0, sc_0, sc_0, show uy_tokenKind_tokenLength_tokenDistance_tokenByte (qy_tokenKind w) (qy_tokenLength w) (qy_tokenDistance w) (qy_tokenByte w) w = w from rfl, nI_0] at h54
    exact ⟨J + 1, h54⟩
  · exact hY _ z1 z2 (fun w f1 => br_f z3 ⟨rfl, i_Y f1 I0⟩)
  · rw [ey_seal, a6]; exact br_f z1 (br_f z2 ⟨rfl, I0⟩)
end
section
theorem fr_DV {u u' : SX} (h : fr_D u' = fr_D u) : fr_V u' = fr_V u := congrArg (fun z => (z.1, z.2.1, z.2.2.1, z.2.2.2.1, z.2.2.2.2.1, z.2.2.2.2.2.1, z.2.2.2.2.2.2.1, z.2.2.2.2.2.2.2.1, z.2.2.2.2.2.2.2.2.1, z.2.2.2.2.2.2.2.2.2.1, z.2.2.2.2.2.2.2.2.2.2.2.2.2.2.1, z.2.2.2.2.2.2.2.2.2.2.2.2.2.2.2.1, z.2.2.2.2.2.2.2.2.2.2.2.2.2.2.2.2.1, z.2.2.2.2.2.2.2.2.2.2.2.2.2.2.2.2.2.1, z.2.2.2.2.2.2.2.2.2.2.2.2.2.2.2.2.2.2)) h
def fr_M (u : SY) : Int32 × Int32 × Int32 × Int32 × Int32 × (Nat → Int32) × (Nat → Int32) × (Nat → Int32) × (Nat → Int32) × (Nat → Int32) × (Nat → Int32) × (Nat → Int32) := (qy_cap u, qy_slots u, qy_shift u, qy_lazy u, qy_n u, qy_source u, qy_tokens u, qy_tokenKind u, qy_tokenLength u, qy_tokenDistance u, qy_tokenByte u, qy_holds u)
theorem fr_M_cap {u u' : SY} (h : fr_M u' = fr_M u) : qy_cap u' = qy_cap u := congrArg (fun z => z.1) h
theorem fr_M_slots {u u' : SY} (h : fr_M u' = fr_M u) : qy_slots u' = qy_slots u := congrArg (fun z => z.2.1) h
theorem fr_M_shift {u u' : SY} (h : fr_M u' = fr_M u) : qy_shift u' = qy_shift u := congrArg (fun z => z.2.2.1) h
theorem fr_M_lazy {u u' : SY} (h : fr_M u' = fr_M u) : qy_lazy u' = qy_lazy u := congrArg (fun z => z.2.2.2.1) h
theorem fr_M_n {u u' : SY} (h : fr_M u' = fr_M u) : qy_n u' = qy_n u := congrArg (fun z => z.2.2.2.2.1) h
theorem fr_M_source {u u' : SY} (h : fr_M u' = fr_M u) : qy_source u' = qy_source u := congrArg (fun z => z.2.2.2.2.2.1) h
theorem fr_M_tokens {u u' : SY} (h : fr_M u' = fr_M u) : qy_tokens u' = qy_tokens u := congrArg (fun z => z.2.2.2.2.2.2.1) h
theorem fr_M_tokenKind {u u' : SY} (h : fr_M u' = fr_M u) : qy_tokenKind u' = qy_tokenKind u := congrArg (fun z => z.2.2.2.2.2.2.2.1) h
theorem fr_M_tokenLength {u u' : SY} (h : fr_M u' = fr_M u) : qy_tokenLength u' = qy_tokenLength u := congrArg (fun z => z.2.2.2.2.2.2.2.2.1) h
theorem fr_M_tokenDistance {u u' : SY} (h : fr_M u' = fr_M u) : qy_tokenDistance u' = qy_tokenDistance u := congrArg (fun z => z.2.2.2.2.2.2.2.2.2.1) h
theorem fr_M_tokenByte {u u' : SY} (h : fr_M u' = fr_M u) : qy_tokenByte u' = qy_tokenByte u := congrArg (fun z => z.2.2.2.2.2.2.2.2.2.2.1) h
theorem fr_M_holds {u u' : SY} (h : fr_M u' = fr_M u) : qy_holds u' = qy_holds u := congrArg (fun z => z.2.2.2.2.2.2.2.2.2.2.2) h
theorem fz_M_count_lastKind_lastLength_lastDistance (e_count : Int32) (e_lastKind : Int32) (e_lastLength : Int32) (e_lastDistance : Int32) (u : SY) : fr_M (uy_count_lastKind_lastLength_lastDistance e_count e_lastKind e_lastLength e_lastDistance u) = fr_M u := rfl
theorem fz_M_ended (e_ended : Int32) (u : SY) : fr_M (uy_ended e_ended u) = fr_M u := rfl
theorem fz_M_flags (e_flags : Nat → Int32) (u : SY) : fr_M (uy_flags e_flags u) = fr_M u := rfl
theorem fz_M_literals (e_literals : Nat → Int32) (u : SY) : fr_M (uy_literals e_literals u) = fr_M u := rfl
theorem fz_M_openSlot_taken_ended (e_openSlot : Int32) (e_taken : Int32) (e_ended : Int32) (u : SY) : fr_M (uy_openSlot_taken_ended e_openSlot e_taken e_ended u) = fr_M u := rfl
theorem fz_M_pos_count_state_lastKind_lastLength_lastDistance (e_pos : Int32) (e_count : Int32) (e_state : Int32) (e_lastKind : Int32) (e_lastLength : Int32) (e_lastDistance : Int32) (u : SY) : fr_M (uy_pos_count_state_lastKind_lastLength_lastDistance e_pos e_count e_state e_lastKind e_lastLength e_lastDistance u) = fr_M u := rfl
theorem fz_M_pos_out (e_pos : Int32) (e_out : Nat → Int32) (u : SY) : fr_M (uy_pos_out e_pos e_out u) = fr_M u := rfl
theorem fz_M_r (e_r : Nat → Int32) (u : SY) : fr_M (uy_r e_r u) = fr_M u := rfl
theorem fz_M_state (e_state : Int32) (u : SY) : fr_M (uy_state e_state u) = fr_M u := rfl
theorem fz_M_taken (e_taken : Int32) (u : SY) : fr_M (uy_taken e_taken u) = fr_M u := rfl
end
section
/-! ===== what the decoder's calls keep ===== -/
theorem yt_M {t : TK} {idx : Nat} {u u' : SY} (f : fr_M u' = fr_M u) (h : yt_ t idx u) : yt_ t idx u' := by
  unfold yt_ at *
  rw [fr_M_tokenKind f, fr_M_tokenLength f, fr_M_tokenDistance f, fr_M_tokenByte f]
  exact h
theorem ys_M {s c : Nat} {T : Nat → TK} {u u' : SY} (f : fr_M u' = fr_M u) (h : ys_ s T c u) : ys_ s T c u' := ⟨h.1, fun i hi => yt_M f (h.2 i hi)⟩
theorem r1_M {cap sl sh n : Nat} {u : SX} {v v' : SY} (f : fr_M v' = fr_M v) (h : r1_ cap sl sh n u v) : r1_ cap sl sh n u v' := by
  unfold r1_ at *
  rw [fr_M_cap f, fr_M_slots f, fr_M_shift f, fr_M_lazy f, fr_M_n f, fr_M_source f]
  exact h
theorem r2_M {sh n c : Nat} {T : Nat → TK} {u : SX} {v v' : SY} (f : fr_M v' = fr_M v) (h : r2_ sh n T c u v) : r2_ sh n T c u v' := by
  obtain ⟨h1, h2, h3, h4, h5, h6⟩ := h
  exact ⟨h1, by rw [fr_M_tokens f]; exact h2, ys_M f h3, h4, h5, h6⟩
theorem r3_M {sh : Nat} {TS : Nat → Nat → TK} {cS : Nat → Nat} {u : SX} {v v' : SY} (f : fr_M v' = fr_M v) (h : r3_ sh TS cS u v) : r3_ sh TS cS u v' := by
  intro j hj
  rw [fr_M_holds f]
  rcases h j hj with a | ⟨a, b1, b2, b3, b4, b5⟩
  · exact Or.inl a
  · exact Or.inr ⟨a, b1, by rw [fr_M_tokens f]; exact b2, ys_M f b3, b4, b5⟩
/-- the decoder of X was reset: encoder and slots stand -/
def fv_ (u u' : SX) : Prop := fr_V u' = fr_V u ∧ (∀ i, i < 512 → qx_model u' i = qx_model u i) ∧ (∀ i, i < 6 → qx_figures u' i = qx_figures u i) ∧ (∀ i, i < 4 → qx_reps u' i = qx_reps u i)
theorem r1_V {cap sl sh n : Nat} {u u' : SX} {v : SY} (g : fr_V u' = fr_V u) (h : r1_ cap sl sh n u v) : r1_ cap sl sh n u' v := by
  unfold r1_ at *
  rw [fr_V_capacity g, fr_V_slots g, fr_V_shift g, fr_V_lazy g, fr_V_sourceLength g, fr_V_source g]
  exact h
theorem r2_V {sh n c : Nat} {T : Nat → TK} {u u' : SX} {v : SY} (f : fv_ u u') (h : r2_ sh n T c u v) : r2_ sh n T c u' v := by
  obtain ⟨h1, h2, h3, h4, h5, h6⟩ := h
  have g := f.1
  refine ⟨h1, h2, h3, ?_, ?_, h6⟩
  · obtain ⟨x1, x2, x3, x4, x5, x6, x7⟩ := h4
    exact ⟨x1, x2, x3, (fr_V_shift g).trans x4, (fr_V_encRange g).trans x5, fun i hi => by rw [f.2.1 i hi]; exact x6 i hi, xe_R_same x7 (fr_V_codedLength g) (fr_V_encPending g) (fr_V_encCache g) (fr_V_encLow g) (fr_V_coded g)⟩
  · obtain ⟨x1, x2, x3, x4, x5, x6, x7⟩ := h5
    have e := f.2.2.1
    refine ⟨?_, ?_, ?_, ?_, ?_, ?_, ?_⟩
    · rw [e _ (by omega)]; exact x1
    · rw [e _ (by omega)]; exact x2
    · rw [e _ (by omega)]; exact x3
    · rw [e _ (by omega)]; exact x4
    · rw [e _ (by omega)]; exact x5
    · rw [e _ (by omega)]; exact x6
    · intro j hj; rw [f.2.2.2 _ (by omega)]; exact x7 j hj
/-! ===== owed: open ===== -/
theorem xw_pulls {post : Int32 → SX → Prop} {bs : Nat → Nat} {S j : Nat} : ∀ (q f i : Nat) (u : SX), q < f → i + q = 5 → xd_S bs S j u → qx_decAt u = nI i → qx_decCode u = lN (vl bs i % 4294967296) → (∀ u' : SX, qx_decAt u' = nI 5 → qx_decCode u' = lN (vl bs 5 % 4294967296) → fr_D u' = fr_D u → qx_decRange u' = qx_decRange u → qx_model u' = qx_model u → post 0 u') → zx_open_38 post f (nI i) u := by
  intro q
  induction q with
  | zero =>
    intro f i u hf hi hS ha hc K
    obtain ⟨f, rfl⟩ : ∃ g, f = g + 1 := ⟨f - 1, by omega⟩
    have e : i = 5 := by omega
    subst e
    rw [ex_open_38]
    exact br_t (nI_le (a := 5) (by omega) (by omega)) (K u ha hc rfl rfl rfl)
  | succ q ih =>
    intro f i u hf hi hS ha hc K
    obtain ⟨f, rfl⟩ : ∃ g, f = g + 1 := ⟨f - 1, by omega⟩
    rw [ex_open_38]
    refine br_f (nI_ge (b := 5) (by omega) (by omega)) ?_
    refine xw_pull hS ha (by omega) hc (Nat.mod_lt _ (by omega)) (nm_r (nI_1 i) ?_)
    refine ih f (i + 1) _ (by omega) (by omega) (xd_S_D (by rw [fz_D_decCode, fz_D_decAt]) hS) (by simp only [gx_decCode, gx_decAt]) ?_ ?_
    · simp only [gx_decCode]
      rw [show vl bs (i + 1) = vl bs i * 256 + bs i from rfl]
      rw [show (vl bs i % 4294967296 * 256 + bs i) % 4294967296 = (vl bs i * 256 + bs i) % 4294967296 by omega]
    · intro u' e1 e2 e3 e4 e5
      refine K u' e1 e2 (e3.trans (by rw [fz_D_decCode, fz_D_decAt])) ?_ ?_
      · rw [e4]; simp only [gx_decCode, gx_decAt]
      · rw [e5]; simp only [gx_decCode, gx_decAt]
theorem i_vc_open {k : Nat} {u : SX} {v : SY} (I : i_Rel k u v) (hk : k + 4 ≤ 2052) (v1 : Int32) : wpX_open (fun r u' => wpY_open (fun r' v' => r' = r ∧ i_Rel (k + 4) u' v') v v1) u v1 := by
  have I0 := I
  obtain ⟨cap, sl, sh, n, T, c, TS, cS, R1, R2, R3, R4⟩ := I
  obtain ⟨a1, a2, a3, a4, a5, a6, a7, a8, a9, a10, a11, a12, a13, a14, a15, a16, a17, a18⟩ := id R1
  rw [ex_open, a5]
  refine br_c (fun z1 => ?_) (fun z1 => br_c (fun z2 => ?_) (fun z2 => ?_))
  · rw [ey_open]; exact br_t z1 ⟨rfl, I0⟩
  · obtain ⟨j, j1, j2, rfl⟩ := px_ge (a := 0) (by omega) z1
    have jsl := (nI_ltI j2 (show sl < 2 ^ 31 by omega)).mp z2
    have jv : vp_in (nI j) 2 := vp_in_nI (by omega) (by omega)
    rw [nI_clamp j2]
    rcases R3 j (by omega) with ⟨q1, q2⟩ | ⟨q1, q2, q3, q4, q5, bs, q6, q7⟩
    · refine ⟨jv, br_t q2 ?_⟩
      rw [ey_open, a6, nI_clamp j2]
      exact br_f z1 (br_t z2 ⟨jv, br_t q1 ⟨rfl, I0⟩⟩)
    · have E := sq_E_ok a11 a12 q2
      have bl : ∀ i, i < (sq_E sh (TS j) (cS j)).2.2.2 + 5 → bs i < 256 := by
        intro i hi
        rw [← q7 i hi]
        exact by_lt _
      have first := sq_first a11 a12 q2 q6 bl
      refine ⟨jv, br_f (by rw [q5]; exact nI_ne0 (by omega) (by omega)) ?_⟩
      refine xw_resetDecoder (fun u1 y1 y2 y3 y4 y5 y6 y7 f1 m1 fg1 rp1 => ?_)
      obtain ⟨J, eJ⟩ : ∃ J, J = 5 := ⟨5, rfl⟩
      refine ⟨J + 1, ?_⟩
      have fv2 : fr_V (ux_decSlot (nI j) u1) = fr_V u := (fz_V_decSlot _ _).trans f1
      have hS : xd_S bs (sq_E sh (TS j) (cS j)).2.2.2 j (ux_decSlot (nI j) u1) := by
        refine ⟨by omega, by simp only [gx_decSlot], ?_, ?_, by omega, ?_⟩
        · rw [fr_V_slots fv2, a5]; exact nI_ge jsl (by omega)
        · rw [fr_V_storeLength fv2]; exact q5
        · rw [fr_V_store fv2]; exact q7
      refine xw_pulls (bs := bs) (S := (sq_E sh (TS j) (cS j)).2.2.2) (j := j) J (J + 1) 0 _ (by omega) (by omega) hS (by simp only [gx_decSlot]; exact y3) (by simp only [gx_decSlot]; exact y5) ?_
      intro u2 e1 e2 e3 e4 e5
      rw [ey_open, a6, nI_clamp j2]
      refine br_f z1 (br_t z2 ⟨jv, br_f (by rw [q1]; decide) ⟨rfl, ?_⟩⟩)
      simp only [gx_decSlot] at e4 e5
      have fv : fv_ u u2 := by
        refine ⟨(fr_DV e3).trans fv2, ?_, ?_, ?_⟩
        · intro i hi; rw [e5]; exact m1 i hi
        · intro i hi; rw [fr_D_figures e3]; simp only [gx_decSlot]; exact fg1 i hi
        · intro i hi; rw [fr_D_reps e3]; simp only [gx_decSlot]; exact rp1 i hi
      have fm := fz_M_openSlot_taken_ended (nI j) 0 0 v
      refine ⟨cap, sl, sh, n, T, c, TS, cS, r1_M fm (r1_V fv.1 R1), r2_M fm (r2_V fv R2), r3_M fm (r3_X (fr_V_store fv.1) (fr_V_storeLength fv.1) R3), ?_⟩
      refine Or.inr ⟨j, 0, bs, by omega, ?_, ?_, ?_, Nat.zero_le _, q6, ?_, fun i hi => absurd hi (Nat.not_lt_zero i), Or.inl ⟨?_, ?_, ?_⟩⟩
      · rw [fr_M_holds fm]; exact q1
      · simp only [gy_openSlot_taken_ended]
      · simp only [gy_openSlot_taken_ended]; rfl
      · refine xh_D e3 ?_
        unfold xh_ at *
        simp only [gx_decSlot]
        exact y7
      · rw [fr_D_decEnded e3]; simp only [gx_decSlot]; exact y2
      · simp only [gy_openSlot_taken_ended]
      · have A0 : sq_A sh (TS j) 0 = ca_0 := rfl
        rw [A0]
        refine ⟨ca_0_ok, a11, a12, (fr_V_shift fv.1).trans a9, ?_, ?_, e1, ?_, xd_S_D e3 hS, sq_in_i a11 a12 q2 q6 (Nat.zero_le _)⟩
        · rw [e4]; exact y4
        · intro i hi; rw [e5]; exact y6 i hi
        · rw [e2, Nat.mod_eq_of_lt first]; rfl
  · rw [ey_open, a6]; exact br_f z1 (br_f z2 ⟨rfl, I0⟩)
theorem i_vc_close {k : Nat} {u : SX} {v : SY} (I : i_Rel k u v) (hk : k + 4 ≤ 2052) : wpX_close (fun r u' => wpY_close (fun r' v' => r' = r ∧ i_Rel (k + 4) u' v') v) u := by
  have I0 := I
  obtain ⟨cap, sl, sh, n, T, c, TS, cS, R1, R2, R3, R4⟩ := I
  have ds := r4_slot R4
  rw [ex_close, ds]
  refine br_c (fun z => ?_) (fun z => ?_)
  · refine xw_resetDecoder (fun u1 y1 y2 y3 y4 y5 y6 y7 f1 m1 fg1 rp1 => ?_)
    rw [ey_close]
    have fm := fz_M_openSlot_taken_ended (-1) 0 0 v
    have fv : fv_ u u1 := ⟨f1, m1, fg1, rp1⟩
    refine br_t z ⟨rfl, cap, sl, sh, n, T, c, TS, cS, r1_M fm (r1_V fv.1 R1), r2_M fm (r2_V fv R2), r3_M fm (r3_X (fr_V_store fv.1) (fr_V_storeLength fv.1) R3), ?_⟩
    exact Or.inl ⟨y1, by simp only [gy_openSlot_taken_ended], by simp only [gy_openSlot_taken_ended], by simp only [gy_openSlot_taken_ended], y6, y7⟩
  · rw [ey_close]
    exact br_f z ⟨rfl, I0⟩
/-! ===== owed: decodeOne, decodeAll ===== -/
/-- X, open and not ended, d tokens taken -/
def xo_ (sh : Nat) (T : Nat → TK) (c j d : Nat) (bs : Nat → Nat) (u : SX) : Prop := qx_decEnded u = 0 ∧ xd_A sh bs (sq_E sh T c).2.2.2 j (sq_A sh T d) u ∧ xh_ 1 (sq_H T d) u ∧ ∀ i, i < (sq_H T d).1 → qx_output u i = nI (sq_O T d i)
/-- X, open and ended -/
def xz_ (sh : Nat) (T : Nat → TK) (c j : Nat) (bs : Nat → Nat) (u : SX) : Prop := qx_decEnded u = 1 ∧ xd_A sh bs (sq_E sh T c).2.2.2 j (sq_E sh T c) u ∧ xh_ 1 (sq_H T c) u ∧ ∀ i, i < (sq_H T c).1 → qx_output u i = nI (sq_O T c i)
theorem x_item {post : Int32 → SX → Prop} {u : SX} {sh c j d : Nat} {T : Nat → TK} {bs : Nat → Nat} (k4 : 4 ≤ sh) (k6 : sh ≤ 6) (tok : sq_ok T c) (hb : sq_B sh T c bs) (hd : d < c) (X : xo_ sh T c j d bs u) (K : ∀ u' : SX, xo_ sh T c j (d + 1) bs u' → fo_ u u' → post (nI (T d).1) u') : wpX_readItem post u := by
  obtain ⟨x1, x2, x3, x4⟩ := X
  have ok := sq_H_ok d (sq_ok_le tok (by omega))
  refine xw_readItem x2 x3 ok (tok d hd) x4 (sq_in_i (i := d + 1) k4 k6 tok hb (by omega)) ?_
  intro u' y1 y2 y3 f e
  exact K u' ⟨e.trans x1, y1, y2, y3⟩ f
theorem x_enditem {post : Int32 → SX → Prop} {u : SX} {sh c j : Nat} {T : Nat → TK} {bs : Nat → Nat} (k4 : 4 ≤ sh) (k6 : sh ≤ 6) (tok : sq_ok T c) (hb : sq_B sh T c bs) (X : xo_ sh T c j c bs u) (K : ∀ u' : SX, xz_ sh T c j bs u' → fo_ u u' → post 8 u') : wpX_readItem post u := by
  obtain ⟨x1, x2, x3, x4⟩ := X
  have ok := sq_H_ok c tok
  refine xw_readEnd x2 x3.2.2.1 ok.2.2.1 (sq_in k4 k6 tok hb) ?_
  intro u' y1 f
  refine K _ ⟨by simp only [gx_decEnded], ?_, ?_, ?_⟩ ?_
  · unfold xd_A xd_S at *
    simp only [gx_decEnded]
    exact y1
  · have h := xh_D f.1 x3
    unfold xh_ at *
    simp only [gx_decEnded]
    exact h
  · simp only [gx_decEnded]
    rw [fr_D_output f.1]; exact x4
  · refine fo_trans (fo_fd f) ⟨fz_O_decEnded _ _, ?_, ?_, ?_⟩
    · intro i _; simp only [gx_decEnded]
    · intro i _; simp only [gx_decEnded]
    · intro i _; simp only [gx_decEnded]
/-- Y, open on j, d taken -/
def yo_ (j d : Nat) (e : Int32) (v0 v : SY) : Prop := qy_openSlot v = nI j ∧ qy_taken v = nI d ∧ qy_ended v = e ∧ fr_M v = fr_M v0
theorem y_item {post : Int32 → SY → Prop} {v0 v : SY} {c j d : Nat} {T : Nat → TK} (hj : j < 2) (hc : qy_tokens v0 (j + 1) = nI c) (hT : ys_ (j + 1) T c v0) (hd : d < c) (Y : yo_ j d 0 v0 v) (K : ∀ v' : SY, yo_ j (d + 1) 0 v0 v' → post (nI (T d).1) v') : wpY_decodeOne post v := by
  obtain ⟨y1, y2, y3, y4⟩ := Y
  have c64 := hT.1
  have tk := (yt_M y4 (hT.2 d hd)).1
  rw [ey_decodeOne, y1, y2, y3, nI_1, nI_clamp (show j + 1 < 2 ^ 31 by omega), fr_M_tokens y4, hc]
  refine br_t (nI_pos' (by omega)) (br_t rfl ⟨vp_in_nI (by omega) (by omega), pk_eq d c (fun z => absurd z (by omega)) (fun _ => nm_r (nI_1 d) ?_)⟩)
  rw [show nI (j + 1) * 64 + nI (d + 1) - 1 = nI (64 * (j + 1) + d) by rw [show (64 : Int32) = nI 64 from rfl, pk_mul, nI_add, show (j + 1) * 64 + (d + 1) = (64 * (j + 1) + d) + 1 by omega, nI_pred], nI_clamp (show 64 * (j + 1) + d < 2 ^ 31 by omega), tk]
  refine ⟨vp_in_nI (by omega) (by omega), K _ ⟨?_, ?_, ?_, ?_⟩⟩
  · simp only [gy_taken]; exact y1
  · simp only [gy_taken]
  · simp only [gy_taken]; exact y3
  · rw [fz_M_taken]; exact y4
theorem y_enditem {post : Int32 → SY → Prop} {v0 v : SY} {c j : Nat} (hj : j < 2) (hc : qy_tokens v0 (j + 1) = nI c) (Y : yo_ j c 0 v0 v) (K : ∀ v' : SY, yo_ j c 1 v0 v' → post 8 v') : wpY_decodeOne post v := by
  obtain ⟨y1, y2, y3, y4⟩ := Y
  rw [ey_decodeOne, y1, y2, y3, nI_1, nI_clamp (show j + 1 < 2 ^ 31 by omega), fr_M_tokens y4, hc]
  refine br_t (nI_pos' (by omega)) (br_t rfl ⟨vp_in_nI (by omega) (by omega), br_t rfl (K _ ⟨?_, ?_, ?_, ?_⟩)⟩)
  · simp only [gy_ended]; exact y1
  · simp only [gy_ended]; exact y2
  · simp only [gy_ended]
  · rw [fz_M_ended]; exact y4
theorem y_done {post : Int32 → SY → Prop} {v0 v : SY} {c j : Nat} (hj : j < 2) (Y : yo_ j c 1 v0 v) (K : post 8 v) : wpY_decodeOne post v := by
  obtain ⟨y1, y2, y3, y4⟩ := Y
  rw [ey_decodeOne, y1, y3]
  exact br_t (nI_pos' (by omega)) (br_f (by decide) K)
/-- the relation, the decoder open on slot j -/
theorem i_open {k : Nat} {u u' : SX} {v v' : SY} {cap sl sh n c : Nat} {T : Nat → TK} {TS : Nat → Nat → TK} {cS : Nat → Nat} {j d : Nat} {bs : Nat → Nat} {e : Int32} (R1 : r1_ cap sl sh n u v) (R2 : r2_ sh n T c u v) (R3 : r3_ sh TS cS u v) (hj : j < 2) (hh : qy_holds v j = 1) (hd : d ≤ cS j) (hb : sq_B sh (TS j) (cS j) bs) (f : fo_ u u') (Y : yo_ j d e v v') (X : (e = 0 ∧ xo_ sh (TS j) (cS j) j d bs u') ∨ (e = 1 ∧ d = cS j ∧ xz_ sh (TS j) (cS j) j bs u')) : i_Rel k u' v' := by
  obtain ⟨y1, y2, y3, y4⟩ := Y
  refine ⟨cap, sl, sh, n, T, c, TS, cS, r1_M y4 (r1_O f.1 R1), r2_M y4 (r2_O f R2), r3_M y4 (r3_X (fr_O_store f.1) (fr_O_storeLength f.1) R3), Or.inr ⟨j, d, bs, ?_⟩⟩
  rcases X with ⟨e0, x1, x2, x3, x4⟩ | ⟨e1, ed, x1, x2, x3, x4⟩
  · exact ⟨hj, by rw [fr_M_holds y4]; exact hh, y1, y2, hd, hb, x3, x4, Or.inl ⟨x1, y3.trans e0, x2⟩⟩
  · refine ⟨hj, by rw [fr_M_holds y4]; exact hh, y1, y2, hd, hb, ?_, ?_, Or.inr ⟨x1, y3.trans e1, ed, x2⟩⟩
    · rw [ed]; exact x3
    · rw [ed]; exact x4
theorem i_vc_decodeOne {k : Nat} {u : SX} {v : SY} (I : i_Rel k u v) (hk : k + 4 ≤ 2052) : wpX_decodeOne (fun r u' => wpY_decodeOne (fun r' v' => r' = r ∧ i_Rel (k + 4) u' v') v) u := by
  have I0 := I
  obtain ⟨cap, sl, sh, n, T, c, TS, cS, R1, R2, R3, R4⟩ := I
  obtain ⟨a1, a2, a3, a4, a5, a6, a7, a8, a9, a10, a11, a12, a13, a14, a15, a16, a17, a18⟩ := id R1
  rcases R4 with ⟨p1, p2, p3, p4, p5, p6⟩ | ⟨j, d, bs, b1, b2, b3, b4, b5, b6, b7, b8, b9⟩
  · rw [ex_decodeOne, p1]
    refine br_f (by decide) ?_
    rw [ey_decodeOne, p2]
    exact br_f (by decide) ⟨rfl, I0⟩
  · have H : r3_h sh (TS j) (cS j) j u v := by
      rcases R3 j b1 with ⟨q1, q2⟩ | ⟨q1, q2⟩
      · rw [q1] at b2; exact absurd b2 (by decide)
      · exact q2
    obtain ⟨q2, q3, q4, q5, q6⟩ := H
    rcases b9 with ⟨c1, c2, c3⟩ | ⟨c1, c2, c3, c4⟩
    · have ds : qx_decSlot u = nI j := c3.2.2.2.2.2.2.2.2.1.2.1
      have X : xo_ sh (TS j) (cS j) j d bs u := ⟨c1, c3, b7, b8⟩
      have Y : yo_ j d 0 v v := ⟨b3, b4, c2, rfl⟩
      rw [ex_decodeOne, ds, c1]
      refine br_t (nI_pos' (by omega)) (br_t rfl ?_)
      by_cases z : d < cS j
      · refine x_item a11 a12 q2 b6 z X (fun u' X' f => ?_)
        refine y_item b1 q3 q4 z Y (fun v' Y' => ⟨rfl, ?_⟩)
        exact i_open R1 R2 R3 b1 b2 (by omega) b6 f Y' (Or.inl ⟨rfl, X'⟩)
      · have e : d = cS j := by omega
        subst e
        refine x_enditem a11 a12 q2 b6 X (fun u' X' f => ?_)
        refine y_enditem b1 q3 Y (fun v' Y' => ⟨rfl, ?_⟩)
        exact i_open R1 R2 R3 b1 b2 (Nat.le_refl _) b6 f Y' (Or.inr ⟨rfl, rfl, X'⟩)
    · have ds : qx_decSlot u = nI j := c4.2.2.2.2.2.2.2.2.1.2.1
      rw [ex_decodeOne, ds, c1]
      refine br_t (nI_pos' (by omega)) (br_f (by decide) ?_)
      exact y_done (v0 := v) (c := d) b1 ⟨b3, b4, c2, rfl⟩ ⟨rfl, I0⟩
theorem xw_dall {post : Int32 → SX → Prop} {sh c j : Nat} {T : Nat → TK} {bs : Nat → Nat} {x1 : Int32} (k4 : 4 ≤ sh) (k6 : sh ≤ 6) (tok : sq_ok T c) (hb : sq_B sh T c bs) : ∀ (q f i d : Nat) (u : SX), q + 1 < f → d + q = c → i + q + 1 ≤ 65 → xo_ sh T c j d bs u → (∀ u' : SX, xz_ sh T c j bs u' → fo_ u u' → post (nI c - x1) u') → zx_decodeAll_20 post x1 f (nI i) u := by
  intro q
  induction q with
  | zero =>
    intro f i d u hf hd hi X K
    obtain ⟨f, rfl⟩ : ∃ g, f = (g + 1) + 1 := ⟨f - 2, by omega⟩
    have e : d = c := by omega
    subst e
    rw [ex_decodeAll_20, X.1]
    refine br_f (nI_ge (b := 65) (by omega) (by omega)) (br_t rfl ?_)
    refine x_enditem k4 k6 tok hb X (fun u' X' f1 => nm_r (nI_1 i) ?_)
    have c7 : qx_figures u' 7 = nI d := by
      have := X'.2.2.1.2.1
      rw [sq_H_cnt] at this
      exact this
    rw [ex_decodeAll_20, X'.1, c7]
    exact br_c (fun _ => K u' X' f1) (fun _ => br_f (by decide) (K u' X' f1))
  | succ q ih =>
    intro f i d u hf hd hi X K
    obtain ⟨f, rfl⟩ : ∃ g, f = g + 1 := ⟨f - 1, by omega⟩
    rw [ex_decodeAll_20, X.1]
    refine br_f (nI_ge (b := 65) (by omega) (by omega)) (br_t rfl ?_)
    refine x_item k4 k6 tok hb (by omega) X (fun u' X' f1 => nm_r (nI_1 i) ?_)
    exact ih f (i + 1) (d + 1) u' (by omega) (by omega) (by omega) X' (fun u'' X'' f2 => K u'' X'' (fo_trans f1 f2))
theorem yw_ddone {post : Int32 → SY → Prop} {v0 v : SY} {c j : Nat} {x1 : Int32} (hj : j < 2) (Y : yo_ j c 1 v0 v) (K : post (nI c - x1) v) : ∀ (q f i : Nat), q < f → i + q = 65 → zy_decodeAll_17 post x1 f (nI i) v := by
  intro q
  induction q with
  | zero =>
    intro f i hf hi
    obtain ⟨f, rfl⟩ : ∃ g, f = g + 1 := ⟨f - 1, by omega⟩
    rw [ey_decodeAll_17, Y.2.1]
    exact br_t (nI_le (a := 65) (by omega) (by omega)) K
  | succ q ih =>
    intro f i hf hi
    obtain ⟨f, rfl⟩ : ∃ g, f = g + 1 := ⟨f - 1, by omega⟩
    rw [ey_decodeAll_17]
    exact br_f (nI_ge (b := 65) (by omega) (by omega)) (y_done hj Y (nm_r (nI_1 i) (ih f (i + 1) (by omega) (by omega))))
theorem yw_dall {post : Int32 → SY → Prop} {v0 : SY} {c j : Nat} {T : Nat → TK} {x1 : Int32} (hj : j < 2) (hc : qy_tokens v0 (j + 1) = nI c) (hT : ys_ (j + 1) T c v0) (K : ∀ v' : SY, yo_ j c 1 v0 v' → post (nI c - x1) v') : ∀ (q f i d : Nat) (v : SY), 65 - i < f → d + q = c → i + q + 1 ≤ 65 → yo_ j d 0 v0 v → zy_decodeAll_17 post x1 f (nI i) v := by
  intro q
  induction q with
  | zero =>
    intro f i d v hf hd hi Y
    obtain ⟨f, rfl⟩ : ∃ g, f = g + 1 := ⟨f - 1, by omega⟩
    have e : d = c := by omega
    subst e
    rw [ey_decodeAll_17]
    refine br_f (nI_ge (b := 65) (by omega) (by omega)) ?_
    refine y_enditem hj hc Y (fun v' Y' => nm_r (nI_1 i) ?_)
    exact yw_ddone hj Y' (K v' Y') (65 - (i + 1)) f (i + 1) (by omega) (by omega)
  | succ q ih =>
    intro f i d v hf hd hi Y
    obtain ⟨f, rfl⟩ : ∃ g, f = g + 1 := ⟨f - 1, by omega⟩
    rw [ey_decodeAll_17]
    refine br_f (nI_ge (b := 65) (by omega) (by omega)) ?_
    refine y_item hj hc hT (by omega) Y (fun v' Y' => nm_r (nI_1 i) ?_)
    exact ih f (i + 1) (d + 1) v' (by omega) (by omega) (by omega) Y'
theorem i_vc_decodeAll {k : Nat} {u : SX} {v : SY} (I : i_Rel k u v) (hk : k + 4 ≤ 2052) : wpX_decodeAll (fun r u' => wpY_decodeAll (fun r' v' => r' = r ∧ i_Rel (k + 4) u' v') v) u := by
  have I0 := I
  obtain ⟨cap, sl, sh, n, T, c, TS, cS, R1, R2, R3, R4⟩ := I
  obtain ⟨a1, a2, a3, a4, a5, a6, a7, a8, a9, a10, a11, a12, a13, a14, a15, a16, a17, a18⟩ := id R1
  rcases R4 with ⟨p1, p2, p3, p4, p5, p6⟩ | ⟨j, d, bs, b1, b2, b3, b4, b5, b6, b7, b8, b9⟩
  · rw [ex_decodeAll, p1]
    refine br_f (by decide) ?_
    rw [ey_decodeAll, p2]
    exact br_f (by decide) ⟨rfl, I0⟩
  · have H : r3_h sh (TS j) (cS j) j u v := by
      rcases R3 j b1 with ⟨q1, q2⟩ | ⟨q1, q2⟩
      · rw [q1] at b2; exact absurd b2 (by decide)
      · exact q2
    obtain ⟨q2, q3, q4, q5, q6⟩ := H
    have c64 := q4.1
    have c7 : qx_figures u 7 = nI d := by
      have := b7.2.1
      rw [sq_H_cnt] at this
      exact this
    obtain ⟨J, eJ⟩ : ∃ J, J = 66 := ⟨66, rfl⟩
    rcases b9 with ⟨c1, c2, c3⟩ | ⟨c1, c2, c3, c4⟩
    · have ds : qx_decSlot u = nI j := c3.2.2.2.2.2.2.2.2.1.2.1
      have X : xo_ sh (TS j) (cS j) j d bs u := ⟨c1, c3, b7, b8⟩
      have Y : yo_ j d 0 v v := ⟨b3, b4, c2, rfl⟩
      rw [ex_decodeAll, ds, c7]
      refine br_t (nI_pos' (by omega)) (nm_e ⟨J + 1, ?_⟩)
      refine xw_dall a11 a12 q2 b6 (cS j - d) (J + 1) 0 d u (by omega) (by omega) (by omega) X (fun u' X' f => ?_)
      rw [ey_decodeAll, b3, b4]
      refine br_t (nI_pos' (by omega)) ⟨J + 1, ?_⟩
      refine yw_dall b1 q3 q4 (fun v' Y' => ?_) (cS j - d) (J + 1) 0 d v (by omega) (by omega) (by omega) Y
      exact ⟨rfl, i_open R1 R2 R3 b1 b2 (Nat.le_refl _) b6 f Y' (Or.inr ⟨rfl, rfl, X'⟩)⟩
    · have ds : qx_decSlot u = nI j := c4.2.2.2.2.2.2.2.2.1.2.1
      rw [ex_decodeAll, ds, c7]
      refine br_t (nI_pos' (by omega)) (nm_e ⟨J + 1, ?_⟩)
      rw [ex_decodeAll_20, c1, c7]
      refine br_f (by decide) (br_f (by decide) ?_)
      rw [ey_decodeAll, b3, b4]
      refine br_t (nI_pos' (by omega)) ⟨J + 1, ?_⟩
      exact yw_ddone (v0 := v) b1 ⟨b3, b4, c2, rfl⟩ ⟨rfl, I0⟩ 65 (J + 1) 0 (by omega) (by omega)
end
section
/-! ===== owed: the getters ===== -/
/-- the reference's scratch shows what side sd of the component shows -/
def gz_ (sd : Nat) (u : SX) (v : SY) : Prop :=
  qy_pos v = qx_figures u (6 * sd) ∧ qy_count v = qx_figures u (6 * sd + 1) ∧ qy_state v = qx_figures u (6 * sd + 2) ∧ qy_lastKind v = qx_figures u (6 * sd + 3) ∧ qy_lastLength v = qx_figures u (6 * sd + 4) ∧ qy_lastDistance v = qx_figures u (6 * sd + 5) ∧ (∀ j, j < 4 → qy_r v j = qx_reps u (4 * sd + j)) ∧ (∀ i, i < 72 → qy_flags v i = qx_model u (512 * sd + i)) ∧ (∀ i, i < 256 → qy_literals v i = qx_model u (512 * sd + (72 + i))) ∧ ∃ p, p ≤ 64 ∧ qx_figures u (6 * sd) = nI p ∧ (sd = 1 → ∀ i, i < p → qy_out v i = qx_output u i)
theorem gz_of {sd : Nat} {u : SX} {v : SY} {m : Nat → Nat} {h : HH} {o : Nat → Nat} (ok : hs_ok h) (z : yz_ m h o v) (x : xh_ sd h u) (hm : ∀ i, i < 328 → qx_model u (512 * sd + i) = nI (m i)) (ho : sd = 1 → ∀ i, i < h.1 → qx_output u i = nI (o i)) : gz_ sd u v := by
  obtain ⟨z1, z2, z3⟩ := z
  obtain ⟨y1, y2, y3, y4, y5, y6, y7⟩ := z2
  obtain ⟨x1, x2, x3, x4, x5, x6, x7⟩ := x
  refine ⟨y1.trans x1.symm, y2.trans x2.symm, y3.trans x3.symm, y4.trans x4.symm, y5.trans x5.symm, y6.trans x6.symm, ?_, ?_, ?_, h.1, ok.1, x1, ?_⟩
  · intro j hj; rw [y7 j hj, x7 j hj]
  · intro i hi; rw [z1.1 i hi, hm i (by omega)]
  · intro i hi; rw [z1.2 i hi, hm (72 + i) (by omega)]
  · intro e i hi; rw [z3 i hi, ho e i hi]
theorem y_rep {post : SY → Prop} {k : Nat} {u : SX} {v : SY} (I : i_Rel k u v) {sd : Nat} (hsd : sd < 2) (K : ∀ v' : SY, gz_ sd u v' → fr_Y v' = fr_Y v → post v') : wpY_replay post v (nI sd) := by
  obtain ⟨cap, sl, sh, n, T, c, TS, cS, R1, R2, R3, R4⟩ := I
  obtain ⟨a1, a2, a3, a4, a5, a6, a7, a8, a9, a10, a11, a12, a13, a14, a15, a16, a17, a18⟩ := id R1
  obtain ⟨b1, b2, b3, b4, b5, b6⟩ := id R2
  have ss : sd = 0 ∨ sd = 1 := by omega
  rcases ss with rfl | rfl
  · refine yw_replay0 a10 a11 a12 b1 b3 b2 (fun w zz f1 => K w ?_ f1)
    refine gz_of (sq_H_ok c b1) zz b5 ?_ (fun e => absurd e (by decide))
    intro i hi
    rw [show 512 * 0 + i = i by omega]
    exact b4.2.2.2.2.2.1 i (by omega)
  · rcases R4 with ⟨p1, p2, p3, p4, p5, p6⟩ | ⟨j, d, bs, d1, d2, d3, d4, d5, d6, d7, d8, d9⟩
    · refine yw_replay1 (s := 0) (c := 0) (T := T) a10 a11 a12 (by omega) (fun i hi => absurd hi (Nat.not_lt_zero i)) ⟨by omega, fun i hi => absurd hi (Nat.not_lt_zero i)⟩ (by rw [p2]; decide) p3 ?_ (fun e => absurd p4 e)
      intro _ w zz f1
      refine K w (gz_of hs_0_ok zz p6 ?_ (fun _ i hi => absurd hi (Nat.not_lt_zero i))) f1
      intro i hi
      exact p5 i (by omega)
    · have H : r3_h sh (TS j) (cS j) j u v := by
        rcases R3 j d1 with ⟨q1, q2⟩ | ⟨q1, q2⟩
        · rw [q1] at d2; exact absurd d2 (by decide)
        · exact q2
      obtain ⟨q2, q3, q4, q5, q6⟩ := H
      have c64 := q4.1
      have tok : sq_ok (TS j) d := sq_ok_le q2 d5
      refine yw_replay1 (s := j + 1) (c := d) (T := TS j) a10 a11 a12 (by omega) tok ⟨by omega, fun i hi => q4.2 i (by omega)⟩ (by rw [d3, nI_1]) d4 ?_ ?_
      · intro e w zz f1
        rcases d9 with ⟨c1, c2, c3⟩ | ⟨c1, c2, c3, c4⟩
        · refine K w (gz_of (sq_H_ok d tok) zz d7 ?_ (fun _ => d8)) f1
          intro i hi
          exact c3.2.2.2.2.2.1 i (by omega)
        · rw [c2] at e; exact absurd e (by decide)
      · intro e w zz f1
        rcases d9 with ⟨c1, c2, c3⟩ | ⟨c1, c2, c3, c4⟩
        · exact absurd c2 e
        · refine K w (gz_of (sq_H_ok d tok) zz d7 ?_ (fun _ => d8)) f1
          intro i hi
          subst c3
          rw [show 512 * 1 + i = 512 + i by omega, c4.2.2.2.2.2.1 i (by omega)]
          rw [sq_E_fr i hi]
theorem px_side (x : Int32) : (∃ sd : Nat, sd < 2 ∧ x = nI sd) ∨ ((x < 0 ∨ (¬ x < 0 ∧ ¬ x ≤ 1)) ∧ ¬ x = 0 ∧ ¬ x = 1) := by
  by_cases z : x < 0
  · refine Or.inr ⟨Or.inl z, ?_, ?_⟩
    · intro e; rw [e] at z; exact absurd z (by decide)
    · intro e; rw [e] at z; exact absurd z (by decide)
  · by_cases y : x ≤ 1
    · obtain ⟨j, j1, j2, rfl⟩ := px_ge (a := 0) (by omega) z
      exact Or.inl ⟨j, by have := (nI_leI j2 (show 1 < 2 ^ 31 by omega)).mp y; omega, rfl⟩
    · refine Or.inr ⟨Or.inr ⟨z, y⟩, ?_, ?_⟩
      · intro e; rw [e] at y; exact absurd y (by decide)
      · intro e; rw [e] at y; exact absurd y (by decide)
theorem br_side {A B : Prop} {x : Int32} (h : x < 0 ∨ (¬ x < 0 ∧ ¬ x ≤ 1)) (a : A) : (x < 0 → A) ∧ (¬ x < 0 → ((x ≤ 1 → B) ∧ (¬ x ≤ 1 → A))) := by
  rcases h with h | ⟨h1, h2⟩
  · exact br_t h a
  · exact br_f h1 (br_f h2 a)
theorem br_sd {A B C : Prop} {sd : Nat} (h : sd < 2) (b : B) : (nI sd < 0 → A) ∧ (¬ nI sd < 0 → ((nI sd ≤ 1 → B) ∧ (¬ nI sd ≤ 1 → C))) :=
  br_f (nI_pos (by omega)) (br_t (nI_le (b := 1) (by omega) (by omega)) b)
theorem br_01 {A C : Prop} {sd : Nat} (h : sd < 2) (a : A) : (nI sd = 0 → A) ∧ (¬ nI sd = 0 → ((nI sd = 1 → A) ∧ (¬ nI sd = 1 → C))) := by
  have ss : sd = 0 ∨ sd = 1 := by omega
  rcases ss with rfl | rfl
  · exact br_t rfl a
  · exact br_f (by decide) (br_t rfl a)
theorem i_vc_decoderStatus {k : Nat} {u : SX} {v : SY} (I : i_Rel k u v) (hk : k + 4 ≤ 2052) : wpX_decoderStatus (fun r => wpY_decoderStatus (fun r' => r' = r ∧ i_Rel (k + 4) u v) v) u := by
  have I0 := I
  obtain ⟨cap, sl, sh, n, T, c, TS, cS, R1, R2, R3, R4⟩ := I
  rcases R4 with ⟨p1, p2, p3, p4, p5, p6⟩ | ⟨j, d, bs, d1, d2, d3, d4, d5, d6, d7, d8, d9⟩
  · rw [ex_decoderStatus, p1]
    refine br_f (by decide) ?_
    rw [ey_decoderStatus, p2]
    exact br_f (by decide) ⟨rfl, I0⟩
  · rcases d9 with ⟨c1, c2, c3⟩ | ⟨c1, c2, c3, c4⟩
    · have ds : qx_decSlot u = nI j := c3.2.2.2.2.2.2.2.2.1.2.1
      rw [ex_decoderStatus, ds, c1]
      refine br_t (nI_pos' (by omega)) (nm_e (br_t rfl ?_))
      rw [ey_decoderStatus, d3, c2]
      exact br_t (nI_pos' (by omega)) (br_t rfl ⟨Int32.add_zero _, I0⟩)
    · have ds : qx_decSlot u = nI j := c4.2.2.2.2.2.2.2.2.1.2.1
      rw [ex_decoderStatus, ds, c1]
      refine br_t (nI_pos' (by omega)) (nm_e (br_f (by decide) (nm_e ?_)))
      rw [ey_decoderStatus, d3, c2]
      exact br_t (nI_pos' (by omega)) (br_f (by decide) ⟨rfl, I0⟩)
theorem i_vc_held {k : Nat} {u : SX} {v : SY} (I : i_Rel k u v) (hk : k + 4 ≤ 2052) (v1 : Int32) : wpX_held (fun r => wpY_held (fun r' => r' = r ∧ i_Rel (k + 4) u v) v v1) u v1 := by
  have I0 := I
  obtain ⟨cap, sl, sh, n, T, c, TS, cS, R1, R2, R3, R4⟩ := I
  obtain ⟨a1, a2, a3, a4, a5, a6, a7, a8, a9, a10, a11, a12, a13, a14, a15, a16, a17, a18⟩ := id R1
  rw [ex_held, a5]
  refine br_c (fun z1 => ?_) (fun z1 => br_c (fun z2 => ?_) (fun z2 => ?_))
  · rw [ey_held]; exact br_t z1 ⟨rfl, I0⟩
  · rw [ey_held, a6]; exact br_f z1 (br_t z2 ⟨rfl, I0⟩)
  · obtain ⟨j, j1, j2, rfl⟩ := px_ge (a := 0) (by omega) z1
    have jsl : j < sl := by
      have h : ¬ sl ≤ j := fun h => z2 (nI_le h j2)
      omega
    have jv : vp_in (nI j) 2 := vp_in_nI (by omega) (by omega)
    rw [nI_clamp j2]
    rcases R3 j (by omega) with ⟨q1, q2⟩ | ⟨q1, q2, q3, q4, q5, q6⟩
    · rw [q2]
      refine ⟨jv, br_t (by decide) ?_⟩
      rw [ey_held, a6, nI_clamp j2, q1]
      exact br_f z1 (br_f z2 ⟨jv, br_t rfl ⟨rfl, I0⟩⟩)
    · have E := sq_E_ok a11 a12 q2
      rw [q5]
      refine ⟨jv, br_f (nI_nle (by omega) (by omega)) ?_⟩
      rw [ey_held, a6, nI_clamp j2, q1]
      exact br_f z1 (br_f z2 ⟨jv, br_f (by decide) ⟨rfl, I0⟩⟩)
theorem i_vc_size {k : Nat} {u : SX} {v : SY} (I : i_Rel k u v) (hk : k + 4 ≤ 2052) : wpX_size (fun r => wpY_size (fun r' => r' = r ∧ i_Rel (k + 4) u v) v) u := by
  have I0 := I
  obtain ⟨cap, sl, sh, n, T, c, TS, cS, R1, R2, R3, R4⟩ := I
  obtain ⟨a1, a2, a3, a4, a5, a6, a7, a8, a9, a10, a11, a12, a13, a14, a15, a16, a17, a18⟩ := id R1
  rw [ex_size, ey_size, a14, a15]
  exact ⟨rfl, I0⟩
theorem i_vc_figure {k : Nat} {u : SX} {v : SY} (I : i_Rel k u v) (hk : k + 4 ≤ 2052) (v1 : Int32) (v2 : Int32) : wpX_figure (fun r => wpY_figure (fun r' v' => r' = r ∧ i_Rel (k + 4) u v') v v1 v2) u v1 v2 := by
  rw [ex_figure]
  rcases px_side v1 with ⟨sd, hsd, rfl⟩ | ⟨h1, h2, h3⟩
  · have hY : ∀ Q : Int32 → SY → Prop, (∀ w : SY, gz_ sd u w → fr_Y w = fr_Y v → ((v2 = 0 → (Q (qx_figures u (6 * sd)) w)) ∧ (¬ v2 = 0 → ((v2 = 1 → (Q (qx_figures u (6 * sd + 1)) w)) ∧ (¬ v2 = 1 → ((v2 = 2 → (Q (qx_figures u (6 * sd + 2)) w)) ∧ (¬ v2 = 2 → ((v2 = 3 → (Q (qx_figures u (6 * sd + 3)) w)) ∧ (¬ v2 = 3 → ((v2 = 4 → (Q (qx_figures u (6 * sd + 4)) w)) ∧ (¬ v2 = 4 → ((v2 = 5 → (Q (qx_figures u (6 * sd + 5)) w)) ∧ (¬ v2 = 5 → (Q (-3) w)))))))))))))) → wpY_figure Q v (nI sd) v2 := by
      intro Q H
      rw [ey_figure]
      refine br_01 hsd ?_
      rw [ey_figure_12]
      refine y_rep I hsd (fun w g f1 => ?_)
      have H1 := H w g f1
      obtain ⟨g1, g2, g3, g4, g5, g6, g7, g8, g9, g10⟩ := g
      rw [g1, g2, g3, g4, g5, g6]
      exact H1
    refine br_sd hsd (br_c (fun z1 => ?_) (fun z1 => br_c (fun z2 => ?_) (fun z2 => ?_)))
    · have n0 : ∀ q : Nat, q < 2 ^ 31 → ¬ v2 = nI q := fun q hq e => nI_pos hq (by rw [← e]; exact z1)
      exact hY _ (fun w g f1 => br_f (n0 0 (by omega)) (br_f (n0 1 (by omega)) (br_f (n0 2 (by omega)) (br_f (n0 3 (by omega)) (br_f (n0 4 (by omega)) (br_f (n0 5 (by omega)) ⟨rfl, i_Y f1 I⟩))))))
    · obtain ⟨q, q1, q2, rfl⟩ := px_ge (a := 0) (by omega) z1
      have q5 := (nI_leI q2 (show 5 < 2 ^ 31 by omega)).mp z2
      rw [show nI sd * 6 + nI q = nI (6 * sd + q) by rw [show (6 : Int32) = nI 6 from rfl, pk_mul, nI_add, Nat.mul_comm], nI_clamp (show 6 * sd + q < 2 ^ 31 by omega)]
      refine ⟨vp_in_nI (by omega) (by omega), hY _ (fun w g f1 => ?_)⟩
      have i1 := i_Y (k' := k + 4) f1 I
      have qq : q = 0 ∨ q = 1 ∨ q = 2 ∨ q = 3 ∨ q = 4 ∨ q = 5 := by omega
      rcases qq with rfl | rfl | rfl | rfl | rfl | rfl
      · exact br_t rfl ⟨rfl, i1⟩
      · exact br_f (by decide) (br_t rfl ⟨rfl, i1⟩)
      · exact br_f (by decide) (br_f (by decide) (br_t rfl ⟨rfl, i1⟩))
      · exact br_f (by decide) (br_f (by decide) (br_f (by decide) (br_t rfl ⟨rfl, i1⟩)))
      · exact br_f (by decide) (br_f (by decide) (br_f (by decide) (br_f (by decide) (br_t rfl ⟨rfl, i1⟩))))
      · exact br_f (by decide) (br_f (by decide) (br_f (by decide) (br_f (by decide) (br_f (by decide) (br_t rfl ⟨rfl, i1⟩)))))
    · have n0 : ∀ q : Nat, q ≤ 5 → ¬ v2 = nI q := fun q hq e => z2 (by rw [e]; exact nI_le (b := 5) hq (by omega))
      exact hY _ (fun w g f1 => br_f (n0 0 (by omega)) (br_f (n0 1 (by omega)) (br_f (n0 2 (by omega)) (br_f (n0 3 (by omega)) (br_f (n0 4 (by omega)) (br_f (n0 5 (by omega)) ⟨rfl, i_Y f1 I⟩))))))
  · refine br_side h1 ?_
    rw [ey_figure]
    exact br_f h2 (br_f h3 ⟨rfl, I⟩)
theorem i_vc_distance {k : Nat} {u : SX} {v : SY} (I : i_Rel k u v) (hk : k + 4 ≤ 2052) (v1 : Int32) (v2 : Int32) : wpX_distance (fun r => wpY_distance (fun r' v' => r' = r ∧ i_Rel (k + 4) u v') v v1 v2) u v1 v2 := by
  rw [ex_distance]
  rcases px_side v1 with ⟨sd, hsd, rfl⟩ | ⟨h1, h2, h3⟩
  · refine br_sd hsd (br_c (fun z1 => ?_) (fun z1 => br_c (fun z2 => ?_) (fun z2 => ?_)))
    · rw [ey_distance]
      refine br_01 hsd ?_
      rw [ey_distance_12]
      exact br_t z1 ⟨rfl, I⟩
    · obtain ⟨q, q1, q2, rfl⟩ := px_ge (a := 0) (by omega) z1
      have q5 := (nI_leI q2 (show 3 < 2 ^ 31 by omega)).mp z2
      rw [show nI sd * 4 + nI q = nI (4 * sd + q) by rw [show (4 : Int32) = nI 4 from rfl, pk_mul, nI_add, Nat.mul_comm], nI_clamp (show 4 * sd + q < 2 ^ 31 by omega)]
      refine ⟨vp_in_nI (by omega) (by omega), ?_⟩
      rw [ey_distance]
      refine br_01 hsd ?_
      rw [ey_distance_12]
      refine br_f z1 (br_t z2 (y_rep I hsd (fun w g f1 => ⟨vp_in_nI (by omega) (by omega), ?_, i_Y f1 I⟩)))
      rw [nI_clamp q2]
      exact g.2.2.2.2.2.2.1 q (by omega)
    · rw [ey_distance]
      refine br_01 hsd ?_
      rw [ey_distance_12]
      exact br_f z1 (br_f z2 ⟨rfl, I⟩)
  · refine br_side h1 ?_
    rw [ey_distance]
    exact br_f h2 (br_f h3 ⟨rfl, I⟩)
theorem i_vc_chance {k : Nat} {u : SX} {v : SY} (I : i_Rel k u v) (hk : k + 4 ≤ 2052) (v1 : Int32) (v2 : Int32) (v3 : Int32) : wpX_chance (fun r => wpY_chance (fun r' v' => r' = r ∧ i_Rel (k + 4) u v') v v1 v2 v3) u v1 v2 v3 := by
  rw [ex_chance]
  rcases px_side v1 with ⟨sd, hsd, rfl⟩ | ⟨h1, h2, h3⟩
  · have hY : ∀ Q : Int32 → SY → Prop, zy_chance_12 Q (nI sd) v2 v3 v → wpY_chance Q v (nI sd) v2 v3 := by
      intro Q H
      rw [ey_chance]
      exact br_01 hsd H
    refine br_sd hsd (br_c (fun z1 => ?_) (fun z1 => br_c (fun z2 => br_c (fun z3 => ?_) (fun z3 => br_c (fun z4 => ?_) (fun z4 => ?_))) (fun z2 => ?_)))
    · refine hY _ ?_
      rw [ey_chance_12]
      exact br_t z1 ⟨rfl, I⟩
    · refine hY _ ?_
      rw [ey_chance_12]
      exact br_f z1 (br_t z2 (br_t z3 ⟨rfl, I⟩))
    · obtain ⟨q, q1, q2, rfl⟩ := px_ge (a := 0) (by omega) z1
      obtain ⟨t, t1, t2, rfl⟩ := px_ge (a := 0) (by omega) z3
      have q5 := (nI_leI q2 (show 5 < 2 ^ 31 by omega)).mp z2
      have t11 := (nI_leI t2 (show 11 < 2 ^ 31 by omega)).mp z4
      rw [show nI sd * 512 + nI q * 12 + nI t = nI (512 * sd + (q * 12 + t)) by rw [show (512 : Int32) = nI 512 from rfl, show (12 : Int32) = nI 12 from rfl, pk_mul, pk_mul, nI_add, nI_add, Nat.mul_comm sd, Nat.add_assoc], nI_clamp (show 512 * sd + (q * 12 + t) < 2 ^ 31 by omega)]
      refine ⟨vp_in_nI (by omega) (by omega), hY _ ?_⟩
      rw [ey_chance_12, show nI q * 12 + nI t = nI (q * 12 + t) by rw [show (12 : Int32) = nI 12 from rfl, pk_mul, nI_add], nI_clamp (show q * 12 + t < 2 ^ 31 by omega)]
      refine br_f z1 (br_t z2 (br_f z3 (br_t z4 (y_rep I hsd (fun w g f1 => ⟨vp_in_nI (by omega) (by omega), ?_, i_Y f1 I⟩)))))
      exact g.2.2.2.2.2.2.2.1 _ (by omega)
    · refine hY _ ?_
      rw [ey_chance_12]
      exact br_f z1 (br_t z2 (br_f z3 (br_f z4 ⟨rfl, I⟩)))
    · refine hY _ ?_
      rw [ey_chance_12]
      exact br_f z1 (br_f z2 ⟨rfl, I⟩)
  · refine br_side h1 ?_
    rw [ey_chance]
    exact br_f h2 (br_f h3 ⟨rfl, I⟩)
theorem i_vc_literalChance {k : Nat} {u : SX} {v : SY} (I : i_Rel k u v) (hk : k + 4 ≤ 2052) (v1 : Int32) (v2 : Int32) : wpX_literalChance (fun r => wpY_literalChance (fun r' v' => r' = r ∧ i_Rel (k + 4) u v') v v1 v2) u v1 v2 := by
  rw [ex_literalChance]
  rcases px_side v1 with ⟨sd, hsd, rfl⟩ | ⟨h1, h2, h3⟩
  · have hY : ∀ Q : Int32 → SY → Prop, zy_literalChance_12 Q (nI sd) v2 v → wpY_literalChance Q v (nI sd) v2 := by
      intro Q H
      rw [ey_literalChance]
      exact br_01 hsd H
    refine br_sd hsd (br_c (fun z1 => ?_) (fun z1 => br_c (fun z2 => ?_) (fun z2 => ?_)))
    · refine hY _ ?_
      rw [ey_literalChance_12]
      exact br_t z1 ⟨rfl, I⟩
    · obtain ⟨q, q1, q2, rfl⟩ := px_ge (a := 1) (by omega) z1
      have q5 := (nI_leI q2 (show 255 < 2 ^ 31 by omega)).mp z2
      rw [show nI sd * 512 + 72 + nI q = nI (512 * sd + (72 + q)) by rw [show (512 : Int32) = nI 512 from rfl, show (72 : Int32) = nI 72 from rfl, pk_mul, nI_add, nI_add, Nat.mul_comm sd, Nat.add_assoc], nI_clamp (show 512 * sd + (72 + q) < 2 ^ 31 by omega)]
      refine ⟨vp_in_nI (by omega) (by omega), hY _ ?_⟩
      rw [ey_literalChance_12, nI_clamp q2]
      refine br_f z1 (br_t z2 (y_rep I hsd (fun w g f1 => ⟨vp_in_nI (by omega) (by omega), ?_, i_Y f1 I⟩)))
      exact g.2.2.2.2.2.2.2.2.1 q (by omega)
    · refine hY _ ?_
      rw [ey_literalChance_12]
      exact br_f z1 (br_f z2 ⟨rfl, I⟩)
  · refine br_side h1 ?_
    rw [ey_literalChance]
    exact br_f h2 (br_f h3 ⟨rfl, I⟩)
theorem i_vc_byteAt {k : Nat} {u : SX} {v : SY} (I : i_Rel k u v) (hk : k + 4 ≤ 2052) (v1 : Int32) (v2 : Int32) : wpX_byteAt (fun r => wpY_byteAt (fun r' v' => r' = r ∧ i_Rel (k + 4) u v') v v1 v2) u v1 v2 := by
  have I0 := I
  obtain ⟨cap, sl, sh, n, T, c, TS, cS, R1, R2, R3, R4⟩ := I
  obtain ⟨a1, a2, a3, a4, a5, a6, a7, a8, a9, a10, a11, a12, a13, a14, a15, a16, a17, a18⟩ := id R1
  rw [ex_byteAt, a14]
  rcases px_side v1 with ⟨sd, hsd, rfl⟩ | ⟨h1, h2, h3⟩
  · have hY : ∀ Q : Int32 → SY → Prop, (∀ w : SY, gz_ sd u w → fr_Y w = fr_Y v → ((nI sd = 0 → ((v2 < 0 → (zy_byteAt_40 Q (nI sd) v2 w)) ∧ (¬ v2 < 0 → ((nI n ≤ v2 → (zy_byteAt_40 Q (nI sd) v2 w)) ∧ (¬ nI n ≤ v2 → (vp_in v2 64 ∧ (Q ((qx_source u) v2.toNatClampNeg) w))))))) ∧ (¬ nI sd = 0 → (zy_byteAt_40 Q (nI sd) v2 w)))) → wpY_byteAt Q v (nI sd) v2 := by
      intro Q H
      rw [ey_byteAt]
      refine br_01 hsd ?_
      rw [ey_byteAt_12]
      refine y_rep I0 hsd (fun w g f1 => ?_)
      rw [fr_Y_n f1, a15, fr_Y_source f1, ← a17]
      exact H w g f1
    have ss : sd = 0 ∨ sd = 1 := by omega
    rcases ss with rfl | rfl
    · refine br_c (fun z1 => br_t rfl (br_c (fun z2 => ?_) (fun z2 => ?_))) (fun z1 => ?_)
      · rw [ex_byteAt_26]
        refine br_f (by decide) (hY _ (fun w g f1 => br_t rfl (br_f (Int32.not_lt.mpr z1) (br_t z2 ?_))))
        rw [ey_byteAt_40]
        exact br_f (by decide) ⟨rfl, i_Y f1 I0⟩
      · obtain ⟨q, q1, q2, rfl⟩ := px_ge (a := 0) (by omega) (Int32.not_lt.mpr z1)
        have qn : q < n := by
          have h : ¬ n ≤ q := fun h => z2 (nI_le h q2)
          omega
        have iv : vp_in (nI q) 64 := vp_in_nI (by omega) (by omega)
        exact ⟨iv, hY _ (fun w g f1 => br_t rfl (br_f (Int32.not_lt.mpr z1) (br_f z2 ⟨iv, rfl, i_Y f1 I0⟩)))⟩
      · refine hY _ (fun w g f1 => br_t rfl (br_t (Int32.not_le.mp z1) ?_))
        rw [ey_byteAt_40]
        exact br_f (by decide) ⟨rfl, i_Y f1 I0⟩
    · refine br_c (fun z1 => br_f (by decide) ?_) (fun z1 => ?_)
      · rw [ex_byteAt_26]
        refine br_t rfl (br_c (fun z2 => ?_) (fun z2 => ?_))
        · refine hY _ (fun w g f1 => br_f (by decide) ?_)
          rw [ey_byteAt_40, g.1]
          exact br_t rfl (br_f (Int32.not_lt.mpr z1) (br_t z2 ⟨rfl, i_Y f1 I0⟩))
        · obtain ⟨q, q1, q2, rfl⟩ := px_ge (a := 0) (by omega) (Int32.not_lt.mpr z1)
          have p64 : q < 64 := by
            have hx : ∃ p, p ≤ 64 ∧ qx_figures u 6 = nI p := by
              rcases R4 with ⟨p1, p2, p3, p4, p5, p6⟩ | ⟨j, d, bs, d1, d2, d3, d4, d5, d6, d7, d8, d9⟩
              · exact ⟨0, by omega, p6.1⟩
              · have H : r3_h sh (TS j) (cS j) j u v := by
                  rcases R3 j d1 with ⟨q1, q2⟩ | ⟨q1, q2⟩
                  · rw [q1] at d2; exact absurd d2 (by decide)
                  · exact q2
                exact ⟨_, (sq_H_ok d (sq_ok_le H.1 d5)).1, d7.1⟩
            obtain ⟨p, hp, ep⟩ := hx
            rw [ep] at z2
            have h : ¬ p ≤ q := fun h => z2 (nI_le h q2)
            omega
          have iv : vp_in (nI q) 64 := vp_in_nI (by omega) (by omega)
          refine ⟨iv, hY _ (fun w g f1 => br_f (by decide) ?_)⟩
          rw [ey_byteAt_40, g.1]
          refine br_t rfl (br_f (Int32.not_lt.mpr z1) (br_f z2 ⟨iv, ?_, i_Y f1 I0⟩))
          obtain ⟨p, hp, ep, ho⟩ := g.2.2.2.2.2.2.2.2.2
          rw [nI_clamp q2]
          refine ho rfl q ?_
          have ep' : qx_figures u 6 = nI p := ep
          rw [ep'] at z2
          have h : ¬ p ≤ q := fun h => z2 (nI_le h q2)
          omega
      · refine hY _ (fun w g f1 => br_f (by decide) ?_)
        rw [ey_byteAt_40]
        exact br_t rfl (br_t (Int32.not_le.mp z1) ⟨rfl, i_Y f1 I0⟩)
  · have hY : ∀ r : Int32, r = -3 → wpY_byteAt (fun r' v' => r' = r ∧ i_Rel (k + 4) u v') v v1 v2 := by
      intro r e
      rw [ey_byteAt]
      exact br_f h2 (br_f h3 ⟨e.symm, I0⟩)
    refine br_c (fun z1 => br_f h2 ?_) (fun z1 => hY _ rfl)
    rw [ex_byteAt_26]
    exact br_f h3 (hY _ rfl)
end
