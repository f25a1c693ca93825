section
/-! pure rows to paste: stores, nI and lN arithmetic, masks, shifts, narrowing, branches by naturals (pk_le, pk_lt, pk_eq), loops (lp1 .. lp16: the measure of the state; rp1 ..: recursion), negatives. Take what you need -/
theorem pk_us {f : Nat → Int32} {k : Nat} {x : Int32} : upd f k x k = x := if_pos rfl
theorem pk_un {f : Nat → Int32} {k j : Nat} {x : Int32} (h : j ≠ k) : upd f k x j = f j := if_neg h
theorem pk_uLs {f : Nat → Int64} {k : Nat} {x : Int64} : vp_updL f k x k = x := if_pos rfl
theorem pk_uLn {f : Nat → Int64} {k j : Nat} {x : Int64} (h : j ≠ k) : vp_updL f k x j = f j := if_neg h
theorem pk_sub {a b : Nat} (h : b ≤ a) : nI a - nI b = nI (a - b) := by
  obtain ⟨c, rfl⟩ : ∃ c, a = c + b := ⟨a - b, by omega⟩
  rw [← nI_add, Int32.add_sub_cancel, Nat.add_sub_cancel]
theorem pk_m1 (n : Nat) : nI (n + 1) + (-1) = nI n := by
  rw [← nI_1, Int32.add_assoc, show (1 : Int32) + (-1) = 0 from rfl, Int32.add_zero]
theorem pk_mul (a b : Nat) : nI a * nI b = nI (a * b) := (Int32.ofNat_mul a b).symm
theorem pk_div {a d : Nat} (ha : a < 2 ^ 31) (h0 : 0 < d) (hd : d < 2 ^ 31) : nI a / nI d = nI (a / d) := by
  apply Int32.toInt_inj.mp
  rw [lg_idiv_nonneg (by rw [nI_toInt ha]; omega) (by rw [nI_toInt hd]; omega), nI_toInt ha, nI_toInt hd, nI_toInt (Nat.lt_of_le_of_lt (Nat.div_le_self a d) ha)]
  first | rfl | exact (Int.natCast_ediv _ _).symm
theorem pk_rem {a d : Nat} (ha : a < 2 ^ 31) (h0 : 0 < d) (hd : d < 2 ^ 31) : nI a - nI a / nI d * nI d = nI (a % d) := by
  rw [pk_div ha h0 hd, pk_mul, pk_sub (Nat.div_mul_le_self a d)]
  exact congrArg nI (by have := Nat.div_add_mod' a d; omega)
theorem pk_sub_toInt {a b : Nat} (ha : a < 2 ^ 30) (hb : b < 2 ^ 30) : (nI a - nI b).toInt = (a : Int) - b := by
  rw [Int32.toInt_sub, nI_toInt (by omega), nI_toInt (by omega)]
  exact Int.bmod_eq_of_le (by omega) (by omega)
theorem pk_sneg {a b : Nat} (hb : b < 2 ^ 30) (h : a < b) : nI a - nI b < 0 := by
  rw [Int32.lt_iff_toInt_lt, pk_sub_toInt (by omega) hb, show (0 : Int32).toInt = 0 from by decide]
  omega
theorem pk_ix (x : Int32) {n : Nat} (hn : n < 2 ^ 31) : x < 0 ∨ nI n ≤ x ∨ ∃ j : Nat, j < n ∧ x = nI j := by
  by_cases h : x < 0
  · exact Or.inl h
  · obtain ⟨j, hj, rfl⟩ := nI_of h
    by_cases h2 : j < n
    · exact Or.inr (Or.inr ⟨j, h2, rfl⟩)
    · exact Or.inr (Or.inl (nI_le (by omega) hj))
theorem pk_le {x y : Int32} {A B : Prop} (a b : Nat) (f : a ≤ b → A) (g : b < a → B) (hx : x = nI a := by rfl) (hy : y = nI b := by rfl) (ha : a < 2 ^ 31 := by omega) (hb : b < 2 ^ 31 := by omega) : (x ≤ y → A) ∧ (¬ x ≤ y → B) := by
  subst hx hy
  rw [nI_leI ha hb]
  exact ⟨f, fun z => g (by omega)⟩
theorem pk_lt {x y : Int32} {A B : Prop} (a b : Nat) (f : a < b → A) (g : b ≤ a → B) (hx : x = nI a := by rfl) (hy : y = nI b := by rfl) (ha : a < 2 ^ 31 := by omega) (hb : b < 2 ^ 31 := by omega) : (x < y → A) ∧ (¬ x < y → B) := by
  subst hx hy
  rw [nI_ltI ha hb]
  exact ⟨f, fun z => g (by omega)⟩
theorem pk_eq {x y : Int32} {A B : Prop} (a b : Nat) (f : a = b → A) (g : a ≠ b → B) (hx : x = nI a := by rfl) (hy : y = nI b := by rfl) (ha : a < 2 ^ 31 := by omega) (hb : b < 2 ^ 31 := by omega) : (x = y → A) ∧ (¬ x = y → B) := by
  subst hx hy
  rw [nI_eq ha hb]
  exact ⟨f, g⟩
theorem pk_in {x : Int32} (n N : Nat) (h : n < N) (hx : x = nI n := by rfl) (hN : N < 2 ^ 31 := by omega) : vp_in x N := by
  subst hx
  exact vp_in_nI h hN
theorem pk_cl {x : Int32} (n : Nat) (hx : x = nI n := by rfl) (h : n < 2 ^ 31 := by omega) : x.toNatClampNeg = n := by
  subst hx
  exact nI_clamp h
theorem pk_tn {n : Nat} (h : n < 2 ^ 32) : (nI n).toBitVec.toNat = n := Nat.mod_eq_of_lt h
theorem pk_and (x : Int32) {m : Int32} (k : Nat) (hm : m.toBitVec.toNat = 2 ^ k - 1) : x &&& m = nI (x.toBitVec.toNat % 2 ^ k) := by
  apply Int32.toBitVec_inj.mp
  apply BitVec.eq_of_toNat_eq
  rw [Int32.toBitVec_and, BitVec.toNat_and, hm, Nat.and_two_pow_sub_one_eq_mod]
  show _ = (BitVec.ofNat 32 _).toNat
  rw [BitVec.toNat_ofNat]
  exact (Nat.mod_eq_of_lt (Nat.lt_of_le_of_lt (Nat.mod_le _ _) x.toBitVec.isLt)).symm
theorem pk_andN {n : Nat} (h : n < 2 ^ 32) {m : Int32} (k : Nat) (hm : m.toBitVec.toNat = 2 ^ k - 1) : nI n &&& m = nI (n % 2 ^ k) := by
  rw [pk_and _ k hm, pk_tn h]
theorem pk_andE (x : Int32) {m : Int32} (k : Nat) (hm : m.toBitVec.toNat = 2 ^ k - 1) : ∃ j : Nat, j < 2 ^ k ∧ x &&& m = nI j := ⟨_, Nat.mod_lt _ (Nat.two_pow_pos k), pk_and x k hm⟩
theorem pk_andIn (x : Int32) {m : Int32} (k : Nat) (hm : m.toBitVec.toNat = 2 ^ k - 1) (hk : k ≤ 30) : vp_in (x &&& m) (2 ^ k) := by
  obtain ⟨j, hj, e⟩ := pk_andE x k hm
  rw [e]
  exact vp_in_nI hj (Nat.lt_of_le_of_lt (Nat.pow_le_pow_right (by decide) hk) (by decide))
theorem pk_shl (a s : Int32) (k : Nat) (hs : (s.toBitVec.smod 32).toNat = k) : (a <<< s).toBitVec.toNat = a.toBitVec.toNat * 2 ^ k % 2 ^ 32 := by
  show (a.toBitVec <<< (s.toBitVec.smod 32).toNat).toNat = _
  rw [hs, BitVec.toNat_shiftLeft, Nat.shiftLeft_eq]
theorem pk_shlN {n : Nat} (s : Int32) (k : Nat) (hs : (s.toBitVec.smod 32).toNat = k) (h : n * 2 ^ k < 2 ^ 32) : nI n <<< s = nI (n * 2 ^ k) := by
  apply Int32.toBitVec_inj.mp
  apply BitVec.eq_of_toNat_eq
  have hn : n < 2 ^ 32 := Nat.lt_of_le_of_lt (Nat.le_mul_of_pos_right n (Nat.two_pow_pos k)) h
  rw [pk_shl _ _ k hs, pk_tn hn, pk_tn h, Nat.mod_eq_of_lt h]
theorem pk_shr (a s : Int32) (k : Nat) (hs : (s.toBitVec.smod 32).toNat = k) : (a >>> s).toInt = a.toInt >>> k := by
  show (a.toBitVec.sshiftRight (s.toBitVec.smod 32).toNat).toInt = _
  rw [hs, BitVec.toInt_sshiftRight]
  rfl
theorem pk_shrN {n : Nat} (h : n < 2 ^ 31) (s : Int32) (k : Nat) (hs : (s.toBitVec.smod 32).toNat = k) : nI n >>> s = nI (n / 2 ^ k) := by
  apply Int32.toInt_inj.mp
  have h2 : n / 2 ^ k ≤ n := Nat.div_le_self _ _
  rw [pk_shr _ _ k hs, nI_toInt h, nI_toInt (by omega), Int.shiftRight_eq_div_pow]
  rfl
theorem pk_ushr (x s : Int32) (k : Nat) (hs : ((s.toUInt32 &&& Int32.toUInt32 31).toBitVec % 32).toNat = k) : (x.toUInt32 >>> (s.toUInt32 &&& Int32.toUInt32 31)).toInt32.toBitVec.toNat = x.toBitVec.toNat / 2 ^ k := by
  have e : (x.toUInt32 >>> (s.toUInt32 &&& Int32.toUInt32 31)).toInt32.toBitVec = x.toBitVec >>> k := by
    rw [← hs]
    exact UInt32.toBitVec_shiftRight _ _
  rw [e, BitVec.toNat_ushiftRight, Nat.shiftRight_eq_div_pow]
theorem pk_ushrN {n : Nat} (hn : n < 2 ^ 32) (s : Int32) (k : Nat) (hs : ((s.toUInt32 &&& Int32.toUInt32 31).toBitVec % 32).toNat = k) : ((nI n).toUInt32 >>> (s.toUInt32 &&& Int32.toUInt32 31)).toInt32 = nI (n / 2 ^ k) := by
  apply Int32.toBitVec_inj.mp
  apply BitVec.eq_of_toNat_eq
  rw [pk_ushr _ s k hs, pk_tn hn, pk_tn (Nat.lt_of_le_of_lt (Nat.div_le_self _ _) hn)]
theorem pk_nb (z : Int32) : narrow .byte (.int z.toInt8.toInt32) = .int z.toInt8.toInt32 := congrArg Value.int (by simp)
theorem pk_ns (z : Int32) : narrow .short (.int z.toInt16.toInt32) = .int z.toInt16.toInt32 := congrArg Value.int (by simp)
theorem pk_fb (r : Int32) : fits .byte (.int r.toInt8.toInt32) = true := by
  have ⟨a, b⟩ := lg_i2b_range r
  have h1 : (-128 : Int32).toInt = -128 := by decide
  have h2 : (127 : Int32).toInt = 127 := by decide
  simp only [fits, Bool.and_eq_true, decide_eq_true_eq, Int32.le_iff_toInt_le, h1, h2]
  omega
theorem pk_fs (r : Int32) : fits .short (.int r.toInt16.toInt32) = true := by
  have ⟨a, b⟩ := lg_i2s_range r
  have h1 : (-32768 : Int32).toInt = -32768 := by decide
  have h2 : (32767 : Int32).toInt = 32767 := by decide
  simp only [fits, Bool.and_eq_true, decide_eq_true_eq, Int32.le_iff_toInt_le, h1, h2]
  omega
theorem pk_charN {q : Nat} (hq : q < 65536) : narrow .char (.int (nI q)) = .int (nI q) ∧ fits .char (.int (nI q)) = true := by
  constructor
  · have e : (nI q).toUInt32.toUInt16.toUInt32.toInt32 = nI q := by
      apply Int32.toBitVec_inj.mp
      apply BitVec.eq_of_toNat_eq
      show (nI q).toUInt32.toUInt16.toUInt32.toNat = q % 2 ^ 32
      rw [UInt16.toNat_toUInt32, UInt32.toNat_toUInt16, show (nI q).toUInt32.toNat = q % 2 ^ 32 from rfl]
      omega
    exact congrArg Value.int e
  · have a : (0 : Int32) ≤ nI q := nI_pos' (by omega)
    have b : nI q ≤ 65535 := nI_le (b := 65535) (by omega) (by decide)
    show (decide ((0 : Int32) ≤ nI q) && decide (nI q ≤ 65535)) = true
    rw [decide_eq_true a, decide_eq_true b]
    rfl
theorem pk_char (x : Int32) : (x.toUInt32 % 65536).toInt32 = nI (x.toBitVec.toNat % 65536) := by
  apply Int32.toBitVec_inj.mp
  apply BitVec.eq_of_toNat_eq
  rw [pk_tn (by omega)]
  show (x.toUInt32 % 65536).toNat = _
  rw [UInt32.toNat_mod]
  rfl
theorem pk_nc (x : Int32) : narrow .char (.int (x.toUInt32 % 65536).toInt32) = .int (x.toUInt32 % 65536).toInt32 := by
  rw [pk_char]
  exact (pk_charN (Nat.mod_lt _ (by decide))).1
theorem pk_fc (x : Int32) : fits .char (.int (x.toUInt32 % 65536).toInt32) = true := by
  rw [pk_char]
  exact (pk_charN (Nat.mod_lt _ (by decide))).2
theorem pk_vb (z : Int32) : vp_nar .byte z.toInt8.toInt32 = z.toInt8.toInt32 := by rw [vp_nar_byte]; simp
theorem pk_vs (z : Int32) : vp_nar .short z.toInt16.toInt32 = z.toInt16.toInt32 := by rw [vp_nar_short]; simp
theorem pk_vc (z : Int32) : vp_nar .char (z.toUInt32 % 65536).toInt32 = (z.toUInt32 % 65536).toInt32 := Value.int.inj (pk_nc z)
theorem pk_lT {n : Nat} (h : n < 2 ^ 63) : (lN n).toInt = (n : Int) := lg_ofNat_toInt h
theorem pk_lLT {a b : Nat} (ha : a < 2 ^ 63) (hb : b < 2 ^ 63) : lN a < lN b ↔ a < b := by
  rw [Int64.lt_iff_toInt_lt, pk_lT ha, pk_lT hb]; omega
theorem pk_lLE {a b : Nat} (ha : a < 2 ^ 63) (hb : b < 2 ^ 63) : lN a ≤ lN b ↔ a ≤ b := by
  rw [Int64.le_iff_toInt_le, pk_lT ha, pk_lT hb]; omega
theorem pk_lEQ {a b : Nat} (ha : a < 2 ^ 63) (hb : b < 2 ^ 63) : lN a = lN b ↔ a = b := by
  rw [← Int64.toInt_inj, pk_lT ha, pk_lT hb]; omega
theorem pk_lOf {x : Int64} (h : ¬ x < 0) : ∃ k : Nat, k < 2 ^ 63 ∧ x = lN k := by
  rw [Int64.lt_iff_toInt_lt] at h
  have h0 : (0 : Int64).toInt = 0 := by decide
  have hx := Int64.toInt_lt x
  refine ⟨x.toInt.toNat, by omega, Int64.toInt_inj.mp ?_⟩
  rw [pk_lT (by omega)]
  omega
theorem pk_lDiv {a b : Nat} (ha : a < 2 ^ 63) (h0 : 0 < b) (hb : b < 2 ^ 63) : lN a / lN b = lN (a / b) := by
  apply Int64.toInt_inj.mp
  rw [lg_ldiv_nonneg (by rw [pk_lT ha]; omega) (by rw [pk_lT hb]; omega), pk_lT ha, pk_lT hb, pk_lT (Nat.lt_of_le_of_lt (Nat.div_le_self a b) ha)]
  rfl
theorem pk_lRem {a b : Nat} (ha : a < 2 ^ 63) (h0 : 0 < b) (hb : b < 2 ^ 63) : lN a - lN a / lN b * lN b = lN (a % b) := by
  rw [pk_lDiv ha h0 hb, lN_mul, lN_sub (Nat.div_mul_le_self a b)]
  exact congrArg lN (by have := Nat.div_add_mod' a b; omega)
theorem pk_loop {σ : Type} (W : Nat → Nat → σ → Prop) (I : Nat → σ → Prop) (e i0 : Nat) (s : σ) (hi : i0 ≤ e) (h0 : I i0 s) (hx : ∀ n s, I e s → W (n + 1) e s)
    (hs : ∀ n i s, i < e → I i s → (∀ s', I (i + 1) s' → W n (i + 1) s') → W (n + 1) i s) : ∃ n, W n i0 s :=
  ⟨e + 1, loop_i W I e hx hs (e + 1) i0 s hi (by omega) h0⟩
theorem pk_loopD {σ : Type} (W : Nat → Nat → σ → Prop) (I : Nat → σ → Prop) (hx : ∀ n s, I 0 s → W (n + 1) 0 s)
    (hs : ∀ n i s, I (i + 1) s → (∀ s', I i s' → W n i s') → W (n + 1) (i + 1) s) : ∀ (e : Nat) (s : σ), I e s → W (e + 1) e s := by
  intro e
  induction e with
  | zero => exact fun s h => hx 0 s h
  | succ e ih => exact fun s h => hs (e + 1) e s h (fun s' h' => ih s' h')
theorem lp1 {A1 : Type} (W : Nat → A1 → Prop) (I : A1 → Prop) (μ : A1 → Nat) (hs : ∀ (n : Nat) (a1 : A1), I a1 → (∀ (b1 : A1), I b1 → μ b1 < μ a1 → W n b1) → W (n + 1) a1) (a1 : A1) (h : I a1) : ∃ n, W n a1 :=
  loop_m (σ := A1) (fun n s => W n s) (fun s => I s) (fun s => μ s) (fun n s hI hk => hs n s hI (fun b1 h9 hm => hk b1 h9 hm)) a1 h
theorem lp2 {A1 A2 : Type} (W : Nat → A1 → A2 → Prop) (I : A1 → A2 → Prop) (μ : A1 → A2 → Nat) (hs : ∀ (n : Nat) (a1 : A1) (a2 : A2), I a1 a2 → (∀ (b1 : A1) (b2 : A2), I b1 b2 → μ b1 b2 < μ a1 a2 → W n b1 b2) → W (n + 1) a1 a2) (a1 : A1) (a2 : A2) (h : I a1 a2) : ∃ n, W n a1 a2 :=
  loop_m (σ := A1 × A2) (fun n s => W n s.1 s.2) (fun s => I s.1 s.2) (fun s => μ s.1 s.2) (fun n s hI hk => hs n s.1 s.2 hI (fun b1 b2 h9 hm => hk (b1, b2) h9 hm)) (a1, a2) h
theorem lp3 {A1 A2 A3 : Type} (W : Nat → A1 → A2 → A3 → Prop) (I : A1 → A2 → A3 → Prop) (μ : A1 → A2 → A3 → Nat) (hs : ∀ (n : Nat) (a1 : A1) (a2 : A2) (a3 : A3), I a1 a2 a3 → (∀ (b1 : A1) (b2 : A2) (b3 : A3), I b1 b2 b3 → μ b1 b2 b3 < μ a1 a2 a3 → W n b1 b2 b3) → W (n + 1) a1 a2 a3) (a1 : A1) (a2 : A2) (a3 : A3) (h : I a1 a2 a3) : ∃ n, W n a1 a2 a3 :=
  loop_m (σ := A1 × A2 × A3) (fun n s => W n s.1 s.2.1 s.2.2) (fun s => I s.1 s.2.1 s.2.2) (fun s => μ s.1 s.2.1 s.2.2) (fun n s hI hk => hs n s.1 s.2.1 s.2.2 hI (fun b1 b2 b3 h9 hm => hk (b1, b2, b3) h9 hm)) (a1, a2, a3) h
theorem lp4 {A1 A2 A3 A4 : Type} (W : Nat → A1 → A2 → A3 → A4 → Prop) (I : A1 → A2 → A3 → A4 → Prop) (μ : A1 → A2 → A3 → A4 → Nat) (hs : ∀ (n : Nat) (a1 : A1) (a2 : A2) (a3 : A3) (a4 : A4), I a1 a2 a3 a4 → (∀ (b1 : A1) (b2 : A2) (b3 : A3) (b4 : A4), I b1 b2 b3 b4 → μ b1 b2 b3 b4 < μ a1 a2 a3 a4 → W n b1 b2 b3 b4) → W (n + 1) a1 a2 a3 a4) (a1 : A1) (a2 : A2) (a3 : A3) (a4 : A4) (h : I a1 a2 a3 a4) : ∃ n, W n a1 a2 a3 a4 :=
  loop_m (σ := A1 × A2 × A3 × A4) (fun n s => W n s.1 s.2.1 s.2.2.1 s.2.2.2) (fun s => I s.1 s.2.1 s.2.2.1 s.2.2.2) (fun s => μ s.1 s.2.1 s.2.2.1 s.2.2.2) (fun n s hI hk => hs n s.1 s.2.1 s.2.2.1 s.2.2.2 hI (fun b1 b2 b3 b4 h9 hm => hk (b1, b2, b3, b4) h9 hm)) (a1, a2, a3, a4) h
theorem lp5 {A1 A2 A3 A4 A5 : Type} (W : Nat → A1 → A2 → A3 → A4 → A5 → Prop) (I : A1 → A2 → A3 → A4 → A5 → Prop) (μ : A1 → A2 → A3 → A4 → A5 → Nat) (hs : ∀ (n : Nat) (a1 : A1) (a2 : A2) (a3 : A3) (a4 : A4) (a5 : A5), I a1 a2 a3 a4 a5 → (∀ (b1 : A1) (b2 : A2) (b3 : A3) (b4 : A4) (b5 : A5), I b1 b2 b3 b4 b5 → μ b1 b2 b3 b4 b5 < μ a1 a2 a3 a4 a5 → W n b1 b2 b3 b4 b5) → W (n + 1) a1 a2 a3 a4 a5) (a1 : A1) (a2 : A2) (a3 : A3) (a4 : A4) (a5 : A5) (h : I a1 a2 a3 a4 a5) : ∃ n, W n a1 a2 a3 a4 a5 :=
  loop_m (σ := A1 × A2 × A3 × A4 × A5) (fun n s => W n s.1 s.2.1 s.2.2.1 s.2.2.2.1 s.2.2.2.2) (fun s => I s.1 s.2.1 s.2.2.1 s.2.2.2.1 s.2.2.2.2) (fun s => μ s.1 s.2.1 s.2.2.1 s.2.2.2.1 s.2.2.2.2) (fun n s hI hk => hs n s.1 s.2.1 s.2.2.1 s.2.2.2.1 s.2.2.2.2 hI (fun b1 b2 b3 b4 b5 h9 hm => hk (b1, b2, b3, b4, b5) h9 hm)) (a1, a2, a3, a4, a5) h
theorem lp6 {A1 A2 A3 A4 A5 A6 : Type} (W : Nat → A1 → A2 → A3 → A4 → A5 → A6 → Prop) (I : A1 → A2 → A3 → A4 → A5 → A6 → Prop) (μ : A1 → A2 → A3 → A4 → A5 → A6 → Nat) (hs : ∀ (n : Nat) (a1 : A1) (a2 : A2) (a3 : A3) (a4 : A4) (a5 : A5) (a6 : A6), I a1 a2 a3 a4 a5 a6 → (∀ (b1 : A1) (b2 : A2) (b3 : A3) (b4 : A4) (b5 : A5) (b6 : A6), I b1 b2 b3 b4 b5 b6 → μ b1 b2 b3 b4 b5 b6 < μ a1 a2 a3 a4 a5 a6 → W n b1 b2 b3 b4 b5 b6) → W (n + 1) a1 a2 a3 a4 a5 a6) (a1 : A1) (a2 : A2) (a3 : A3) (a4 : A4) (a5 : A5) (a6 : A6) (h : I a1 a2 a3 a4 a5 a6) : ∃ n, W n a1 a2 a3 a4 a5 a6 :=
  loop_m (σ := A1 × A2 × A3 × A4 × A5 × A6) (fun n s => W n s.1 s.2.1 s.2.2.1 s.2.2.2.1 s.2.2.2.2.1 s.2.2.2.2.2) (fun s => I s.1 s.2.1 s.2.2.1 s.2.2.2.1 s.2.2.2.2.1 s.2.2.2.2.2) (fun s => μ s.1 s.2.1 s.2.2.1 s.2.2.2.1 s.2.2.2.2.1 s.2.2.2.2.2) (fun n s hI hk => hs n s.1 s.2.1 s.2.2.1 s.2.2.2.1 s.2.2.2.2.1 s.2.2.2.2.2 hI (fun b1 b2 b3 b4 b5 b6 h9 hm => hk (b1, b2, b3, b4, b5, b6) h9 hm)) (a1, a2, a3, a4, a5, a6) h
theorem lp7 {A1 A2 A3 A4 A5 A6 A7 : Type} (W : Nat → A1 → A2 → A3 → A4 → A5 → A6 → A7 → Prop) (I : A1 → A2 → A3 → A4 → A5 → A6 → A7 → Prop) (μ : A1 → A2 → A3 → A4 → A5 → A6 → A7 → Nat) (hs : ∀ (n : Nat) (a1 : A1) (a2 : A2) (a3 : A3) (a4 : A4) (a5 : A5) (a6 : A6) (a7 : A7), I a1 a2 a3 a4 a5 a6 a7 → (∀ (b1 : A1) (b2 : A2) (b3 : A3) (b4 : A4) (b5 : A5) (b6 : A6) (b7 : A7), I b1 b2 b3 b4 b5 b6 b7 → μ b1 b2 b3 b4 b5 b6 b7 < μ a1 a2 a3 a4 a5 a6 a7 → W n b1 b2 b3 b4 b5 b6 b7) → W (n + 1) a1 a2 a3 a4 a5 a6 a7) (a1 : A1) (a2 : A2) (a3 : A3) (a4 : A4) (a5 : A5) (a6 : A6) (a7 : A7) (h : I a1 a2 a3 a4 a5 a6 a7) : ∃ n, W n a1 a2 a3 a4 a5 a6 a7 :=
  loop_m (σ := A1 × A2 × A3 × A4 × A5 × A6 × A7) (fun n s => W n s.1 s.2.1 s.2.2.1 s.2.2.2.1 s.2.2.2.2.1 s.2.2.2.2.2.1 s.2.2.2.2.2.2) (fun s => I s.1 s.2.1 s.2.2.1 s.2.2.2.1 s.2.2.2.2.1 s.2.2.2.2.2.1 s.2.2.2.2.2.2) (fun s => μ s.1 s.2.1 s.2.2.1 s.2.2.2.1 s.2.2.2.2.1 s.2.2.2.2.2.1 s.2.2.2.2.2.2) (fun n s hI hk => hs n s.1 s.2.1 s.2.2.1 s.2.2.2.1 s.2.2.2.2.1 s.2.2.2.2.2.1 s.2.2.2.2.2.2 hI (fun b1 b2 b3 b4 b5 b6 b7 h9 hm => hk (b1, b2, b3, b4, b5, b6, b7) h9 hm)) (a1, a2, a3, a4, a5, a6, a7) h
theorem lp8 {A1 A2 A3 A4 A5 A6 A7 A8 : Type} (W : Nat → A1 → A2 → A3 → A4 → A5 → A6 → A7 → A8 → Prop) (I : A1 → A2 → A3 → A4 → A5 → A6 → A7 → A8 → Prop) (μ : A1 → A2 → A3 → A4 → A5 → A6 → A7 → A8 → Nat) (hs : ∀ (n : Nat) (a1 : A1) (a2 : A2) (a3 : A3) (a4 : A4) (a5 : A5) (a6 : A6) (a7 : A7) (a8 : A8), I a1 a2 a3 a4 a5 a6 a7 a8 → (∀ (b1 : A1) (b2 : A2) (b3 : A3) (b4 : A4) (b5 : A5) (b6 : A6) (b7 : A7) (b8 : A8), I b1 b2 b3 b4 b5 b6 b7 b8 → μ b1 b2 b3 b4 b5 b6 b7 b8 < μ a1 a2 a3 a4 a5 a6 a7 a8 → W n b1 b2 b3 b4 b5 b6 b7 b8) → W (n + 1) a1 a2 a3 a4 a5 a6 a7 a8) (a1 : A1) (a2 : A2) (a3 : A3) (a4 : A4) (a5 : A5) (a6 : A6) (a7 : A7) (a8 : A8) (h : I a1 a2 a3 a4 a5 a6 a7 a8) : ∃ n, W n a1 a2 a3 a4 a5 a6 a7 a8 :=
  loop_m (σ := A1 × A2 × A3 × A4 × A5 × A6 × A7 × A8) (fun n s => W n s.1 s.2.1 s.2.2.1 s.2.2.2.1 s.2.2.2.2.1 s.2.2.2.2.2.1 s.2.2.2.2.2.2.1 s.2.2.2.2.2.2.2) (fun s => I s.1 s.2.1 s.2.2.1 s.2.2.2.1 s.2.2.2.2.1 s.2.2.2.2.2.1 s.2.2.2.2.2.2.1 s.2.2.2.2.2.2.2) (fun s => μ s.1 s.2.1 s.2.2.1 s.2.2.2.1 s.2.2.2.2.1 s.2.2.2.2.2.1 s.2.2.2.2.2.2.1 s.2.2.2.2.2.2.2) (fun n s hI hk => hs n s.1 s.2.1 s.2.2.1 s.2.2.2.1 s.2.2.2.2.1 s.2.2.2.2.2.1 s.2.2.2.2.2.2.1 s.2.2.2.2.2.2.2 hI (fun b1 b2 b3 b4 b5 b6 b7 b8 h9 hm => hk (b1, b2, b3, b4, b5, b6, b7, b8) h9 hm)) (a1, a2, a3, a4, a5, a6, a7, a8) h
theorem lp9 {A1 A2 A3 A4 A5 A6 A7 A8 A9 : Type} (W : Nat → A1 → A2 → A3 → A4 → A5 → A6 → A7 → A8 → A9 → Prop) (I : A1 → A2 → A3 → A4 → A5 → A6 → A7 → A8 → A9 → Prop) (μ : A1 → A2 → A3 → A4 → A5 → A6 → A7 → A8 → A9 → Nat) (hs : ∀ (n : Nat) (a1 : A1) (a2 : A2) (a3 : A3) (a4 : A4) (a5 : A5) (a6 : A6) (a7 : A7) (a8 : A8) (a9 : A9), I a1 a2 a3 a4 a5 a6 a7 a8 a9 → (∀ (b1 : A1) (b2 : A2) (b3 : A3) (b4 : A4) (b5 : A5) (b6 : A6) (b7 : A7) (b8 : A8) (b9 : A9), I b1 b2 b3 b4 b5 b6 b7 b8 b9 → μ b1 b2 b3 b4 b5 b6 b7 b8 b9 < μ a1 a2 a3 a4 a5 a6 a7 a8 a9 → W n b1 b2 b3 b4 b5 b6 b7 b8 b9) → W (n + 1) a1 a2 a3 a4 a5 a6 a7 a8 a9) (a1 : A1) (a2 : A2) (a3 : A3) (a4 : A4) (a5 : A5) (a6 : A6) (a7 : A7) (a8 : A8) (a9 : A9) (h : I a1 a2 a3 a4 a5 a6 a7 a8 a9) : ∃ n, W n a1 a2 a3 a4 a5 a6 a7 a8 a9 :=
  loop_m (σ := A1 × A2 × A3 × A4 × A5 × A6 × A7 × A8 × A9) (fun n s => W n s.1 s.2.1 s.2.2.1 s.2.2.2.1 s.2.2.2.2.1 s.2.2.2.2.2.1 s.2.2.2.2.2.2.1 s.2.2.2.2.2.2.2.1 s.2.2.2.2.2.2.2.2) (fun s => I s.1 s.2.1 s.2.2.1 s.2.2.2.1 s.2.2.2.2.1 s.2.2.2.2.2.1 s.2.2.2.2.2.2.1 s.2.2.2.2.2.2.2.1 s.2.2.2.2.2.2.2.2) (fun s => μ s.1 s.2.1 s.2.2.1 s.2.2.2.1 s.2.2.2.2.1 s.2.2.2.2.2.1 s.2.2.2.2.2.2.1 s.2.2.2.2.2.2.2.1 s.2.2.2.2.2.2.2.2) (fun n s hI hk => hs n s.1 s.2.1 s.2.2.1 s.2.2.2.1 s.2.2.2.2.1 s.2.2.2.2.2.1 s.2.2.2.2.2.2.1 s.2.2.2.2.2.2.2.1 s.2.2.2.2.2.2.2.2 hI (fun b1 b2 b3 b4 b5 b6 b7 b8 b9 h9 hm => hk (b1, b2, b3, b4, b5, b6, b7, b8, b9) h9 hm)) (a1, a2, a3, a4, a5, a6, a7, a8, a9) h
theorem lp10 {A1 A2 A3 A4 A5 A6 A7 A8 A9 A10 : Type} (W : Nat → A1 → A2 → A3 → A4 → A5 → A6 → A7 → A8 → A9 → A10 → Prop) (I : A1 → A2 → A3 → A4 → A5 → A6 → A7 → A8 → A9 → A10 → Prop) (μ : A1 → A2 → A3 → A4 → A5 → A6 → A7 → A8 → A9 → A10 → Nat) (hs : ∀ (n : Nat) (a1 : A1) (a2 : A2) (a3 : A3) (a4 : A4) (a5 : A5) (a6 : A6) (a7 : A7) (a8 : A8) (a9 : A9) (a10 : A10), I a1 a2 a3 a4 a5 a6 a7 a8 a9 a10 → (∀ (b1 : A1) (b2 : A2) (b3 : A3) (b4 : A4) (b5 : A5) (b6 : A6) (b7 : A7) (b8 : A8) (b9 : A9) (b10 : A10), I b1 b2 b3 b4 b5 b6 b7 b8 b9 b10 → μ b1 b2 b3 b4 b5 b6 b7 b8 b9 b10 < μ a1 a2 a3 a4 a5 a6 a7 a8 a9 a10 → W n b1 b2 b3 b4 b5 b6 b7 b8 b9 b10) → W (n + 1) a1 a2 a3 a4 a5 a6 a7 a8 a9 a10) (a1 : A1) (a2 : A2) (a3 : A3) (a4 : A4) (a5 : A5) (a6 : A6) (a7 : A7) (a8 : A8) (a9 : A9) (a10 : A10) (h : I a1 a2 a3 a4 a5 a6 a7 a8 a9 a10) : ∃ n, W n a1 a2 a3 a4 a5 a6 a7 a8 a9 a10 :=
  loop_m (σ := A1 × A2 × A3 × A4 × A5 × A6 × A7 × A8 × A9 × A10) (fun n s => W n s.1 s.2.1 s.2.2.1 s.2.2.2.1 s.2.2.2.2.1 s.2.2.2.2.2.1 s.2.2.2.2.2.2.1 s.2.2.2.2.2.2.2.1 s.2.2.2.2.2.2.2.2.1 s.2.2.2.2.2.2.2.2.2) (fun s => I s.1 s.2.1 s.2.2.1 s.2.2.2.1 s.2.2.2.2.1 s.2.2.2.2.2.1 s.2.2.2.2.2.2.1 s.2.2.2.2.2.2.2.1 s.2.2.2.2.2.2.2.2.1 s.2.2.2.2.2.2.2.2.2) (fun s => μ s.1 s.2.1 s.2.2.1 s.2.2.2.1 s.2.2.2.2.1 s.2.2.2.2.2.1 s.2.2.2.2.2.2.1 s.2.2.2.2.2.2.2.1 s.2.2.2.2.2.2.2.2.1 s.2.2.2.2.2.2.2.2.2) (fun n s hI hk => hs n s.1 s.2.1 s.2.2.1 s.2.2.2.1 s.2.2.2.2.1 s.2.2.2.2.2.1 s.2.2.2.2.2.2.1 s.2.2.2.2.2.2.2.1 s.2.2.2.2.2.2.2.2.1 s.2.2.2.2.2.2.2.2.2 hI (fun b1 b2 b3 b4 b5 b6 b7 b8 b9 b10 h9 hm => hk (b1, b2, b3, b4, b5, b6, b7, b8, b9, b10) h9 hm)) (a1, a2, a3, a4, a5, a6, a7, a8, a9, a10) h
theorem lp11 {A1 A2 A3 A4 A5 A6 A7 A8 A9 A10 A11 : Type} (W : Nat → A1 → A2 → A3 → A4 → A5 → A6 → A7 → A8 → A9 → A10 → A11 → Prop) (I : A1 → A2 → A3 → A4 → A5 → A6 → A7 → A8 → A9 → A10 → A11 → Prop) (μ : A1 → A2 → A3 → A4 → A5 → A6 → A7 → A8 → A9 → A10 → A11 → Nat) (hs : ∀ (n : Nat) (a1 : A1) (a2 : A2) (a3 : A3) (a4 : A4) (a5 : A5) (a6 : A6) (a7 : A7) (a8 : A8) (a9 : A9) (a10 : A10) (a11 : A11), I a1 a2 a3 a4 a5 a6 a7 a8 a9 a10 a11 → (∀ (b1 : A1) (b2 : A2) (b3 : A3) (b4 : A4) (b5 : A5) (b6 : A6) (b7 : A7) (b8 : A8) (b9 : A9) (b10 : A10) (b11 : A11), I b1 b2 b3 b4 b5 b6 b7 b8 b9 b10 b11 → μ b1 b2 b3 b4 b5 b6 b7 b8 b9 b10 b11 < μ a1 a2 a3 a4 a5 a6 a7 a8 a9 a10 a11 → W n b1 b2 b3 b4 b5 b6 b7 b8 b9 b10 b11) → W (n + 1) a1 a2 a3 a4 a5 a6 a7 a8 a9 a10 a11) (a1 : A1) (a2 : A2) (a3 : A3) (a4 : A4) (a5 : A5) (a6 : A6) (a7 : A7) (a8 : A8) (a9 : A9) (a10 : A10) (a11 : A11) (h : I a1 a2 a3 a4 a5 a6 a7 a8 a9 a10 a11) : ∃ n, W n a1 a2 a3 a4 a5 a6 a7 a8 a9 a10 a11 :=
  loop_m (σ := A1 × A2 × A3 × A4 × A5 × A6 × A7 × A8 × A9 × A10 × A11) (fun n s => W n s.1 s.2.1 s.2.2.1 s.2.2.2.1 s.2.2.2.2.1 s.2.2.2.2.2.1 s.2.2.2.2.2.2.1 s.2.2.2.2.2.2.2.1 s.2.2.2.2.2.2.2.2.1 s.2.2.2.2.2.2.2.2.2.1 s.2.2.2.2.2.2.2.2.2.2) (fun s => I s.1 s.2.1 s.2.2.1 s.2.2.2.1 s.2.2.2.2.1 s.2.2.2.2.2.1 s.2.2.2.2.2.2.1 s.2.2.2.2.2.2.2.1 s.2.2.2.2.2.2.2.2.1 s.2.2.2.2.2.2.2.2.2.1 s.2.2.2.2.2.2.2.2.2.2) (fun s => μ s.1 s.2.1 s.2.2.1 s.2.2.2.1 s.2.2.2.2.1 s.2.2.2.2.2.1 s.2.2.2.2.2.2.1 s.2.2.2.2.2.2.2.1 s.2.2.2.2.2.2.2.2.1 s.2.2.2.2.2.2.2.2.2.1 s.2.2.2.2.2.2.2.2.2.2) (fun n s hI hk => hs n s.1 s.2.1 s.2.2.1 s.2.2.2.1 s.2.2.2.2.1 s.2.2.2.2.2.1 s.2.2.2.2.2.2.1 s.2.2.2.2.2.2.2.1 s.2.2.2.2.2.2.2.2.1 s.2.2.2.2.2.2.2.2.2.1 s.2.2.2.2.2.2.2.2.2.2 hI (fun b1 b2 b3 b4 b5 b6 b7 b8 b9 b10 b11 h9 hm => hk (b1, b2, b3, b4, b5, b6, b7, b8, b9, b10, b11) h9 hm)) (a1, a2, a3, a4, a5, a6, a7, a8, a9, a10, a11) h
theorem lp12 {A1 A2 A3 A4 A5 A6 A7 A8 A9 A10 A11 A12 : Type} (W : Nat → A1 → A2 → A3 → A4 → A5 → A6 → A7 → A8 → A9 → A10 → A11 → A12 → Prop) (I : A1 → A2 → A3 → A4 → A5 → A6 → A7 → A8 → A9 → A10 → A11 → A12 → Prop) (μ : A1 → A2 → A3 → A4 → A5 → A6 → A7 → A8 → A9 → A10 → A11 → A12 → Nat) (hs : ∀ (n : Nat) (a1 : A1) (a2 : A2) (a3 : A3) (a4 : A4) (a5 : A5) (a6 : A6) (a7 : A7) (a8 : A8) (a9 : A9) (a10 : A10) (a11 : A11) (a12 : A12), I a1 a2 a3 a4 a5 a6 a7 a8 a9 a10 a11 a12 → (∀ (b1 : A1) (b2 : A2) (b3 : A3) (b4 : A4) (b5 : A5) (b6 : A6) (b7 : A7) (b8 : A8) (b9 : A9) (b10 : A10) (b11 : A11) (b12 : A12), I b1 b2 b3 b4 b5 b6 b7 b8 b9 b10 b11 b12 → μ b1 b2 b3 b4 b5 b6 b7 b8 b9 b10 b11 b12 < μ a1 a2 a3 a4 a5 a6 a7 a8 a9 a10 a11 a12 → W n b1 b2 b3 b4 b5 b6 b7 b8 b9 b10 b11 b12) → W (n + 1) a1 a2 a3 a4 a5 a6 a7 a8 a9 a10 a11 a12) (a1 : A1) (a2 : A2) (a3 : A3) (a4 : A4) (a5 : A5) (a6 : A6) (a7 : A7) (a8 : A8) (a9 : A9) (a10 : A10) (a11 : A11) (a12 : A12) (h : I a1 a2 a3 a4 a5 a6 a7 a8 a9 a10 a11 a12) : ∃ n, W n a1 a2 a3 a4 a5 a6 a7 a8 a9 a10 a11 a12 :=
  loop_m (σ := A1 × A2 × A3 × A4 × A5 × A6 × A7 × A8 × A9 × A10 × A11 × A12) (fun n s => W n s.1 s.2.1 s.2.2.1 s.2.2.2.1 s.2.2.2.2.1 s.2.2.2.2.2.1 s.2.2.2.2.2.2.1 s.2.2.2.2.2.2.2.1 s.2.2.2.2.2.2.2.2.1 s.2.2.2.2.2.2.2.2.2.1 s.2.2.2.2.2.2.2.2.2.2.1 s.2.2.2.2.2.2.2.2.2.2.2) (fun s => I s.1 s.2.1 s.2.2.1 s.2.2.2.1 s.2.2.2.2.1 s.2.2.2.2.2.1 s.2.2.2.2.2.2.1 s.2.2.2.2.2.2.2.1 s.2.2.2.2.2.2.2.2.1 s.2.2.2.2.2.2.2.2.2.1 s.2.2.2.2.2.2.2.2.2.2.1 s.2.2.2.2.2.2.2.2.2.2.2) (fun s => μ s.1 s.2.1 s.2.2.1 s.2.2.2.1 s.2.2.2.2.1 s.2.2.2.2.2.1 s.2.2.2.2.2.2.1 s.2.2.2.2.2.2.2.1 s.2.2.2.2.2.2.2.2.1 s.2.2.2.2.2.2.2.2.2.1 s.2.2.2.2.2.2.2.2.2.2.1 s.2.2.2.2.2.2.2.2.2.2.2) (fun n s hI hk => hs n s.1 s.2.1 s.2.2.1 s.2.2.2.1 s.2.2.2.2.1 s.2.2.2.2.2.1 s.2.2.2.2.2.2.1 s.2.2.2.2.2.2.2.1 s.2.2.2.2.2.2.2.2.1 s.2.2.2.2.2.2.2.2.2.1 s.2.2.2.2.2.2.2.2.2.2.1 s.2.2.2.2.2.2.2.2.2.2.2 hI (fun b1 b2 b3 b4 b5 b6 b7 b8 b9 b10 b11 b12 h9 hm => hk (b1, b2, b3, b4, b5, b6, b7, b8, b9, b10, b11, b12) h9 hm)) (a1, a2, a3, a4, a5, a6, a7, a8, a9, a10, a11, a12) h
theorem lp13 {A1 A2 A3 A4 A5 A6 A7 A8 A9 A10 A11 A12 A13 : Type} (W : Nat → A1 → A2 → A3 → A4 → A5 → A6 → A7 → A8 → A9 → A10 → A11 → A12 → A13 → Prop) (I : A1 → A2 → A3 → A4 → A5 → A6 → A7 → A8 → A9 → A10 → A11 → A12 → A13 → Prop) (μ : A1 → A2 → A3 → A4 → A5 → A6 → A7 → A8 → A9 → A10 → A11 → A12 → A13 → Nat) (hs : ∀ (n : Nat) (a1 : A1) (a2 : A2) (a3 : A3) (a4 : A4) (a5 : A5) (a6 : A6) (a7 : A7) (a8 : A8) (a9 : A9) (a10 : A10) (a11 : A11) (a12 : A12) (a13 : A13), I a1 a2 a3 a4 a5 a6 a7 a8 a9 a10 a11 a12 a13 → (∀ (b1 : A1) (b2 : A2) (b3 : A3) (b4 : A4) (b5 : A5) (b6 : A6) (b7 : A7) (b8 : A8) (b9 : A9) (b10 : A10) (b11 : A11) (b12 : A12) (b13 : A13), I b1 b2 b3 b4 b5 b6 b7 b8 b9 b10 b11 b12 b13 → μ b1 b2 b3 b4 b5 b6 b7 b8 b9 b10 b11 b12 b13 < μ a1 a2 a3 a4 a5 a6 a7 a8 a9 a10 a11 a12 a13 → W n b1 b2 b3 b4 b5 b6 b7 b8 b9 b10 b11 b12 b13) → W (n + 1) a1 a2 a3 a4 a5 a6 a7 a8 a9 a10 a11 a12 a13) (a1 : A1) (a2 : A2) (a3 : A3) (a4 : A4) (a5 : A5) (a6 : A6) (a7 : A7) (a8 : A8) (a9 : A9) (a10 : A10) (a11 : A11) (a12 : A12) (a13 : A13) (h : I a1 a2 a3 a4 a5 a6 a7 a8 a9 a10 a11 a12 a13) : ∃ n, W n a1 a2 a3 a4 a5 a6 a7 a8 a9 a10 a11 a12 a13 :=
  loop_m (σ := A1 × A2 × A3 × A4 × A5 × A6 × A7 × A8 × A9 × A10 × A11 × A12 × A13) (fun n s => W n s.1 s.2.1 s.2.2.1 s.2.2.2.1 s.2.2.2.2.1 s.2.2.2.2.2.1 s.2.2.2.2.2.2.1 s.2.2.2.2.2.2.2.1 s.2.2.2.2.2.2.2.2.1 s.2.2.2.2.2.2.2.2.2.1 s.2.2.2.2.2.2.2.2.2.2.1 s.2.2.2.2.2.2.2.2.2.2.2.1 s.2.2.2.2.2.2.2.2.2.2.2.2) (fun s => I s.1 s.2.1 s.2.2.1 s.2.2.2.1 s.2.2.2.2.1 s.2.2.2.2.2.1 s.2.2.2.2.2.2.1 s.2.2.2.2.2.2.2.1 s.2.2.2.2.2.2.2.2.1 s.2.2.2.2.2.2.2.2.2.1 s.2.2.2.2.2.2.2.2.2.2.1 s.2.2.2.2.2.2.2.2.2.2.2.1 s.2.2.2.2.2.2.2.2.2.2.2.2) (fun s => μ s.1 s.2.1 s.2.2.1 s.2.2.2.1 s.2.2.2.2.1 s.2.2.2.2.2.1 s.2.2.2.2.2.2.1 s.2.2.2.2.2.2.2.1 s.2.2.2.2.2.2.2.2.1 s.2.2.2.2.2.2.2.2.2.1 s.2.2.2.2.2.2.2.2.2.2.1 s.2.2.2.2.2.2.2.2.2.2.2.1 s.2.2.2.2.2.2.2.2.2.2.2.2) (fun n s hI hk => hs n s.1 s.2.1 s.2.2.1 s.2.2.2.1 s.2.2.2.2.1 s.2.2.2.2.2.1 s.2.2.2.2.2.2.1 s.2.2.2.2.2.2.2.1 s.2.2.2.2.2.2.2.2.1 s.2.2.2.2.2.2.2.2.2.1 s.2.2.2.2.2.2.2.2.2.2.1 s.2.2.2.2.2.2.2.2.2.2.2.1 s.2.2.2.2.2.2.2.2.2.2.2.2 hI (fun b1 b2 b3 b4 b5 b6 b7 b8 b9 b10 b11 b12 b13 h9 hm => hk (b1, b2, b3, b4, b5, b6, b7, b8, b9, b10, b11, b12, b13) h9 hm)) (a1, a2, a3, a4, a5, a6, a7, a8, a9, a10, a11, a12, a13) h
theorem lp14 {A1 A2 A3 A4 A5 A6 A7 A8 A9 A10 A11 A12 A13 A14 : Type} (W : Nat → A1 → A2 → A3 → A4 → A5 → A6 → A7 → A8 → A9 → A10 → A11 → A12 → A13 → A14 → Prop) (I : A1 → A2 → A3 → A4 → A5 → A6 → A7 → A8 → A9 → A10 → A11 → A12 → A13 → A14 → Prop) (μ : A1 → A2 → A3 → A4 → A5 → A6 → A7 → A8 → A9 → A10 → A11 → A12 → A13 → A14 → Nat) (hs : ∀ (n : Nat) (a1 : A1) (a2 : A2) (a3 : A3) (a4 : A4) (a5 : A5) (a6 : A6) (a7 : A7) (a8 : A8) (a9 : A9) (a10 : A10) (a11 : A11) (a12 : A12) (a13 : A13) (a14 : A14), I a1 a2 a3 a4 a5 a6 a7 a8 a9 a10 a11 a12 a13 a14 → (∀ (b1 : A1) (b2 : A2) (b3 : A3) (b4 : A4) (b5 : A5) (b6 : A6) (b7 : A7) (b8 : A8) (b9 : A9) (b10 : A10) (b11 : A11) (b12 : A12) (b13 : A13) (b14 : A14), I b1 b2 b3 b4 b5 b6 b7 b8 b9 b10 b11 b12 b13 b14 → μ b1 b2 b3 b4 b5 b6 b7 b8 b9 b10 b11 b12 b13 b14 < μ a1 a2 a3 a4 a5 a6 a7 a8 a9 a10 a11 a12 a13 a14 → W n b1 b2 b3 b4 b5 b6 b7 b8 b9 b10 b11 b12 b13 b14) → W (n + 1) a1 a2 a3 a4 a5 a6 a7 a8 a9 a10 a11 a12 a13 a14) (a1 : A1) (a2 : A2) (a3 : A3) (a4 : A4) (a5 : A5) (a6 : A6) (a7 : A7) (a8 : A8) (a9 : A9) (a10 : A10) (a11 : A11) (a12 : A12) (a13 : A13) (a14 : A14) (h : I a1 a2 a3 a4 a5 a6 a7 a8 a9 a10 a11 a12 a13 a14) : ∃ n, W n a1 a2 a3 a4 a5 a6 a7 a8 a9 a10 a11 a12 a13 a14 :=
  loop_m (σ := A1 × A2 × A3 × A4 × A5 × A6 × A7 × A8 × A9 × A10 × A11 × A12 × A13 × A14) (fun n s => W n s.1 s.2.1 s.2.2.1 s.2.2.2.1 s.2.2.2.2.1 s.2.2.2.2.2.1 s.2.2.2.2.2.2.1 s.2.2.2.2.2.2.2.1 s.2.2.2.2.2.2.2.2.1 s.2.2.2.2.2.2.2.2.2.1 s.2.2.2.2.2.2.2.2.2.2.1 s.2.2.2.2.2.2.2.2.2.2.2.1 s.2.2.2.2.2.2.2.2.2.2.2.2.1 s.2.2.2.2.2.2.2.2.2.2.2.2.2) (fun s => I s.1 s.2.1 s.2.2.1 s.2.2.2.1 s.2.2.2.2.1 s.2.2.2.2.2.1 s.2.2.2.2.2.2.1 s.2.2.2.2.2.2.2.1 s.2.2.2.2.2.2.2.2.1 s.2.2.2.2.2.2.2.2.2.1 s.2.2.2.2.2.2.2.2.2.2.1 s.2.2.2.2.2.2.2.2.2.2.2.1 s.2.2.2.2.2.2.2.2.2.2.2.2.1 s.2.2.2.2.2.2.2.2.2.2.2.2.2) (fun s => μ s.1 s.2.1 s.2.2.1 s.2.2.2.1 s.2.2.2.2.1 s.2.2.2.2.2.1 s.2.2.2.2.2.2.1 s.2.2.2.2.2.2.2.1 s.2.2.2.2.2.2.2.2.1 s.2.2.2.2.2.2.2.2.2.1 s.2.2.2.2.2.2.2.2.2.2.1 s.2.2.2.2.2.2.2.2.2.2.2.1 s.2.2.2.2.2.2.2.2.2.2.2.2.1 s.2.2.2.2.2.2.2.2.2.2.2.2.2) (fun n s hI hk => hs n s.1 s.2.1 s.2.2.1 s.2.2.2.1 s.2.2.2.2.1 s.2.2.2.2.2.1 s.2.2.2.2.2.2.1 s.2.2.2.2.2.2.2.1 s.2.2.2.2.2.2.2.2.1 s.2.2.2.2.2.2.2.2.2.1 s.2.2.2.2.2.2.2.2.2.2.1 s.2.2.2.2.2.2.2.2.2.2.2.1 s.2.2.2.2.2.2.2.2.2.2.2.2.1 s.2.2.2.2.2.2.2.2.2.2.2.2.2 hI (fun b1 b2 b3 b4 b5 b6 b7 b8 b9 b10 b11 b12 b13 b14 h9 hm => hk (b1, b2, b3, b4, b5, b6, b7, b8, b9, b10, b11, b12, b13, b14) h9 hm)) (a1, a2, a3, a4, a5, a6, a7, a8, a9, a10, a11, a12, a13, a14) h
theorem lp15 {A1 A2 A3 A4 A5 A6 A7 A8 A9 A10 A11 A12 A13 A14 A15 : Type} (W : Nat → A1 → A2 → A3 → A4 → A5 → A6 → A7 → A8 → A9 → A10 → A11 → A12 → A13 → A14 → A15 → Prop) (I : A1 → A2 → A3 → A4 → A5 → A6 → A7 → A8 → A9 → A10 → A11 → A12 → A13 → A14 → A15 → Prop) (μ : A1 → A2 → A3 → A4 → A5 → A6 → A7 → A8 → A9 → A10 → A11 → A12 → A13 → A14 → A15 → Nat) (hs : ∀ (n : Nat) (a1 : A1) (a2 : A2) (a3 : A3) (a4 : A4) (a5 : A5) (a6 : A6) (a7 : A7) (a8 : A8) (a9 : A9) (a10 : A10) (a11 : A11) (a12 : A12) (a13 : A13) (a14 : A14) (a15 : A15), I a1 a2 a3 a4 a5 a6 a7 a8 a9 a10 a11 a12 a13 a14 a15 → (∀ (b1 : A1) (b2 : A2) (b3 : A3) (b4 : A4) (b5 : A5) (b6 : A6) (b7 : A7) (b8 : A8) (b9 : A9) (b10 : A10) (b11 : A11) (b12 : A12) (b13 : A13) (b14 : A14) (b15 : A15), I b1 b2 b3 b4 b5 b6 b7 b8 b9 b10 b11 b12 b13 b14 b15 → μ b1 b2 b3 b4 b5 b6 b7 b8 b9 b10 b11 b12 b13 b14 b15 < μ a1 a2 a3 a4 a5 a6 a7 a8 a9 a10 a11 a12 a13 a14 a15 → W n b1 b2 b3 b4 b5 b6 b7 b8 b9 b10 b11 b12 b13 b14 b15) → W (n + 1) a1 a2 a3 a4 a5 a6 a7 a8 a9 a10 a11 a12 a13 a14 a15) (a1 : A1) (a2 : A2) (a3 : A3) (a4 : A4) (a5 : A5) (a6 : A6) (a7 : A7) (a8 : A8) (a9 : A9) (a10 : A10) (a11 : A11) (a12 : A12) (a13 : A13) (a14 : A14) (a15 : A15) (h : I a1 a2 a3 a4 a5 a6 a7 a8 a9 a10 a11 a12 a13 a14 a15) : ∃ n, W n a1 a2 a3 a4 a5 a6 a7 a8 a9 a10 a11 a12 a13 a14 a15 :=
  loop_m (σ := A1 × A2 × A3 × A4 × A5 × A6 × A7 × A8 × A9 × A10 × A11 × A12 × A13 × A14 × A15) (fun n s => W n s.1 s.2.1 s.2.2.1 s.2.2.2.1 s.2.2.2.2.1 s.2.2.2.2.2.1 s.2.2.2.2.2.2.1 s.2.2.2.2.2.2.2.1 s.2.2.2.2.2.2.2.2.1 s.2.2.2.2.2.2.2.2.2.1 s.2.2.2.2.2.2.2.2.2.2.1 s.2.2.2.2.2.2.2.2.2.2.2.1 s.2.2.2.2.2.2.2.2.2.2.2.2.1 s.2.2.2.2.2.2.2.2.2.2.2.2.2.1 s.2.2.2.2.2.2.2.2.2.2.2.2.2.2) (fun s => I s.1 s.2.1 s.2.2.1 s.2.2.2.1 s.2.2.2.2.1 s.2.2.2.2.2.1 s.2.2.2.2.2.2.1 s.2.2.2.2.2.2.2.1 s.2.2.2.2.2.2.2.2.1 s.2.2.2.2.2.2.2.2.2.1 s.2.2.2.2.2.2.2.2.2.2.1 s.2.2.2.2.2.2.2.2.2.2.2.1 s.2.2.2.2.2.2.2.2.2.2.2.2.1 s.2.2.2.2.2.2.2.2.2.2.2.2.2.1 s.2.2.2.2.2.2.2.2.2.2.2.2.2.2) (fun s => μ s.1 s.2.1 s.2.2.1 s.2.2.2.1 s.2.2.2.2.1 s.2.2.2.2.2.1 s.2.2.2.2.2.2.1 s.2.2.2.2.2.2.2.1 s.2.2.2.2.2.2.2.2.1 s.2.2.2.2.2.2.2.2.2.1 s.2.2.2.2.2.2.2.2.2.2.1 s.2.2.2.2.2.2.2.2.2.2.2.1 s.2.2.2.2.2.2.2.2.2.2.2.2.1 s.2.2.2.2.2.2.2.2.2.2.2.2.2.1 s.2.2.2.2.2.2.2.2.2.2.2.2.2.2) (fun n s hI hk => hs n s.1 s.2.1 s.2.2.1 s.2.2.2.1 s.2.2.2.2.1 s.2.2.2.2.2.1 s.2.2.2.2.2.2.1 s.2.2.2.2.2.2.2.1 s.2.2.2.2.2.2.2.2.1 s.2.2.2.2.2.2.2.2.2.1 s.2.2.2.2.2.2.2.2.2.2.1 s.2.2.2.2.2.2.2.2.2.2.2.1 s.2.2.2.2.2.2.2.2.2.2.2.2.1 s.2.2.2.2.2.2.2.2.2.2.2.2.2.1 s.2.2.2.2.2.2.2.2.2.2.2.2.2.2 hI (fun b1 b2 b3 b4 b5 b6 b7 b8 b9 b10 b11 b12 b13 b14 b15 h9 hm => hk (b1, b2, b3, b4, b5, b6, b7, b8, b9, b10, b11, b12, b13, b14, b15) h9 hm)) (a1, a2, a3, a4, a5, a6, a7, a8, a9, a10, a11, a12, a13, a14, a15) h
theorem lp16 {A1 A2 A3 A4 A5 A6 A7 A8 A9 A10 A11 A12 A13 A14 A15 A16 : Type} (W : Nat → A1 → A2 → A3 → A4 → A5 → A6 → A7 → A8 → A9 → A10 → A11 → A12 → A13 → A14 → A15 → A16 → Prop) (I : A1 → A2 → A3 → A4 → A5 → A6 → A7 → A8 → A9 → A10 → A11 → A12 → A13 → A14 → A15 → A16 → Prop) (μ : A1 → A2 → A3 → A4 → A5 → A6 → A7 → A8 → A9 → A10 → A11 → A12 → A13 → A14 → A15 → A16 → Nat) (hs : ∀ (n : Nat) (a1 : A1) (a2 : A2) (a3 : A3) (a4 : A4) (a5 : A5) (a6 : A6) (a7 : A7) (a8 : A8) (a9 : A9) (a10 : A10) (a11 : A11) (a12 : A12) (a13 : A13) (a14 : A14) (a15 : A15) (a16 : A16), I a1 a2 a3 a4 a5 a6 a7 a8 a9 a10 a11 a12 a13 a14 a15 a16 → (∀ (b1 : A1) (b2 : A2) (b3 : A3) (b4 : A4) (b5 : A5) (b6 : A6) (b7 : A7) (b8 : A8) (b9 : A9) (b10 : A10) (b11 : A11) (b12 : A12) (b13 : A13) (b14 : A14) (b15 : A15) (b16 : A16), I b1 b2 b3 b4 b5 b6 b7 b8 b9 b10 b11 b12 b13 b14 b15 b16 → μ b1 b2 b3 b4 b5 b6 b7 b8 b9 b10 b11 b12 b13 b14 b15 b16 < μ a1 a2 a3 a4 a5 a6 a7 a8 a9 a10 a11 a12 a13 a14 a15 a16 → W n b1 b2 b3 b4 b5 b6 b7 b8 b9 b10 b11 b12 b13 b14 b15 b16) → W (n + 1) a1 a2 a3 a4 a5 a6 a7 a8 a9 a10 a11 a12 a13 a14 a15 a16) (a1 : A1) (a2 : A2) (a3 : A3) (a4 : A4) (a5 : A5) (a6 : A6) (a7 : A7) (a8 : A8) (a9 : A9) (a10 : A10) (a11 : A11) (a12 : A12) (a13 : A13) (a14 : A14) (a15 : A15) (a16 : A16) (h : I a1 a2 a3 a4 a5 a6 a7 a8 a9 a10 a11 a12 a13 a14 a15 a16) : ∃ n, W n a1 a2 a3 a4 a5 a6 a7 a8 a9 a10 a11 a12 a13 a14 a15 a16 :=
  loop_m (σ := A1 × A2 × A3 × A4 × A5 × A6 × A7 × A8 × A9 × A10 × A11 × A12 × A13 × A14 × A15 × A16) (fun n s => W n s.1 s.2.1 s.2.2.1 s.2.2.2.1 s.2.2.2.2.1 s.2.2.2.2.2.1 s.2.2.2.2.2.2.1 s.2.2.2.2.2.2.2.1 s.2.2.2.2.2.2.2.2.1 s.2.2.2.2.2.2.2.2.2.1 s.2.2.2.2.2.2.2.2.2.2.1 s.2.2.2.2.2.2.2.2.2.2.2.1 s.2.2.2.2.2.2.2.2.2.2.2.2.1 s.2.2.2.2.2.2.2.2.2.2.2.2.2.1 s.2.2.2.2.2.2.2.2.2.2.2.2.2.2.1 s.2.2.2.2.2.2.2.2.2.2.2.2.2.2.2) (fun s => I s.1 s.2.1 s.2.2.1 s.2.2.2.1 s.2.2.2.2.1 s.2.2.2.2.2.1 s.2.2.2.2.2.2.1 s.2.2.2.2.2.2.2.1 s.2.2.2.2.2.2.2.2.1 s.2.2.2.2.2.2.2.2.2.1 s.2.2.2.2.2.2.2.2.2.2.1 s.2.2.2.2.2.2.2.2.2.2.2.1 s.2.2.2.2.2.2.2.2.2.2.2.2.1 s.2.2.2.2.2.2.2.2.2.2.2.2.2.1 s.2.2.2.2.2.2.2.2.2.2.2.2.2.2.1 s.2.2.2.2.2.2.2.2.2.2.2.2.2.2.2) (fun s => μ s.1 s.2.1 s.2.2.1 s.2.2.2.1 s.2.2.2.2.1 s.2.2.2.2.2.1 s.2.2.2.2.2.2.1 s.2.2.2.2.2.2.2.1 s.2.2.2.2.2.2.2.2.1 s.2.2.2.2.2.2.2.2.2.1 s.2.2.2.2.2.2.2.2.2.2.1 s.2.2.2.2.2.2.2.2.2.2.2.1 s.2.2.2.2.2.2.2.2.2.2.2.2.1 s.2.2.2.2.2.2.2.2.2.2.2.2.2.1 s.2.2.2.2.2.2.2.2.2.2.2.2.2.2.1 s.2.2.2.2.2.2.2.2.2.2.2.2.2.2.2) (fun n s hI hk => hs n s.1 s.2.1 s.2.2.1 s.2.2.2.1 s.2.2.2.2.1 s.2.2.2.2.2.1 s.2.2.2.2.2.2.1 s.2.2.2.2.2.2.2.1 s.2.2.2.2.2.2.2.2.1 s.2.2.2.2.2.2.2.2.2.1 s.2.2.2.2.2.2.2.2.2.2.1 s.2.2.2.2.2.2.2.2.2.2.2.1 s.2.2.2.2.2.2.2.2.2.2.2.2.1 s.2.2.2.2.2.2.2.2.2.2.2.2.2.1 s.2.2.2.2.2.2.2.2.2.2.2.2.2.2.1 s.2.2.2.2.2.2.2.2.2.2.2.2.2.2.2 hI (fun b1 b2 b3 b4 b5 b6 b7 b8 b9 b10 b11 b12 b13 b14 b15 b16 h9 hm => hk (b1, b2, b3, b4, b5, b6, b7, b8, b9, b10, b11, b12, b13, b14, b15, b16) h9 hm)) (a1, a2, a3, a4, a5, a6, a7, a8, a9, a10, a11, a12, a13, a14, a15, a16) h
theorem pk_least (P : Nat → Prop) (h : ∃ k, P k) : ∃ k, P k ∧ ∀ j, j < k → ¬ P j := by
  obtain ⟨k, hk⟩ := h
  induction k using Nat.strongRecOn with
  | ind k ih =>
    by_cases e : ∃ j, j < k ∧ P j
    · obtain ⟨j, hj, pj⟩ := e
      exact ih j hj pj
    · exact ⟨k, hk, fun j hj pj => e ⟨j, hj, pj⟩⟩
theorem rp1 {ρ A1 : Type} (W : Nat → (ρ → Prop) → A1 → Prop) (ok : A1 → Prop) (μ : A1 → Nat) (val : A1 → ρ)
    (hs : ∀ (d : Nat) (post : ρ → Prop) (a1 : A1), ok a1 → post (val a1) → (∀ (post' : ρ → Prop) (b1 : A1), ok b1 → μ b1 < μ a1 → post' (val b1) → W d post' b1) → W (d + 1) post a1) :
    ∀ (d : Nat) (post : ρ → Prop) (a1 : A1), ok a1 → μ a1 < d → post (val a1) → W d post a1 := by
  intro d
  induction d with
  | zero => intro post a1 _ h; omega
  | succ d ih =>
    intro post a1 ho hm hp
    exact hs d post a1 ho hp (fun post' b1 ho' hm' hp' => ih post' b1 ho' (by omega) hp')
theorem rp2 {ρ A1 A2 : Type} (W : Nat → (ρ → Prop) → A1 → A2 → Prop) (ok : A1 → A2 → Prop) (μ : A1 → A2 → Nat) (val : A1 → A2 → ρ)
    (hs : ∀ (d : Nat) (post : ρ → Prop) (a1 : A1) (a2 : A2), ok a1 a2 → post (val a1 a2) → (∀ (post' : ρ → Prop) (b1 : A1) (b2 : A2), ok b1 b2 → μ b1 b2 < μ a1 a2 → post' (val b1 b2) → W d post' b1 b2) → W (d + 1) post a1 a2) :
    ∀ (d : Nat) (post : ρ → Prop) (a1 : A1) (a2 : A2), ok a1 a2 → μ a1 a2 < d → post (val a1 a2) → W d post a1 a2 := by
  intro d
  induction d with
  | zero => intro post a1 a2 _ h; omega
  | succ d ih =>
    intro post a1 a2 ho hm hp
    exact hs d post a1 a2 ho hp (fun post' b1 b2 ho' hm' hp' => ih post' b1 b2 ho' (by omega) hp')
theorem rp3 {ρ A1 A2 A3 : Type} (W : Nat → (ρ → Prop) → A1 → A2 → A3 → Prop) (ok : A1 → A2 → A3 → Prop) (μ : A1 → A2 → A3 → Nat) (val : A1 → A2 → A3 → ρ)
    (hs : ∀ (d : Nat) (post : ρ → Prop) (a1 : A1) (a2 : A2) (a3 : A3), ok a1 a2 a3 → post (val a1 a2 a3) → (∀ (post' : ρ → Prop) (b1 : A1) (b2 : A2) (b3 : A3), ok b1 b2 b3 → μ b1 b2 b3 < μ a1 a2 a3 → post' (val b1 b2 b3) → W d post' b1 b2 b3) → W (d + 1) post a1 a2 a3) :
    ∀ (d : Nat) (post : ρ → Prop) (a1 : A1) (a2 : A2) (a3 : A3), ok a1 a2 a3 → μ a1 a2 a3 < d → post (val a1 a2 a3) → W d post a1 a2 a3 := by
  intro d
  induction d with
  | zero => intro post a1 a2 a3 _ h; omega
  | succ d ih =>
    intro post a1 a2 a3 ho hm hp
    exact hs d post a1 a2 a3 ho hp (fun post' b1 b2 b3 ho' hm' hp' => ih post' b1 b2 b3 ho' (by omega) hp')
theorem rp4 {ρ A1 A2 A3 A4 : Type} (W : Nat → (ρ → Prop) → A1 → A2 → A3 → A4 → Prop) (ok : A1 → A2 → A3 → A4 → Prop) (μ : A1 → A2 → A3 → A4 → Nat) (val : A1 → A2 → A3 → A4 → ρ)
    (hs : ∀ (d : Nat) (post : ρ → Prop) (a1 : A1) (a2 : A2) (a3 : A3) (a4 : A4), ok a1 a2 a3 a4 → post (val a1 a2 a3 a4) → (∀ (post' : ρ → Prop) (b1 : A1) (b2 : A2) (b3 : A3) (b4 : A4), ok b1 b2 b3 b4 → μ b1 b2 b3 b4 < μ a1 a2 a3 a4 → post' (val b1 b2 b3 b4) → W d post' b1 b2 b3 b4) → W (d + 1) post a1 a2 a3 a4) :
    ∀ (d : Nat) (post : ρ → Prop) (a1 : A1) (a2 : A2) (a3 : A3) (a4 : A4), ok a1 a2 a3 a4 → μ a1 a2 a3 a4 < d → post (val a1 a2 a3 a4) → W d post a1 a2 a3 a4 := by
  intro d
  induction d with
  | zero => intro post a1 a2 a3 a4 _ h; omega
  | succ d ih =>
    intro post a1 a2 a3 a4 ho hm hp
    exact hs d post a1 a2 a3 a4 ho hp (fun post' b1 b2 b3 b4 ho' hm' hp' => ih post' b1 b2 b3 b4 ho' (by omega) hp')
theorem rp5 {ρ A1 A2 A3 A4 A5 : Type} (W : Nat → (ρ → Prop) → A1 → A2 → A3 → A4 → A5 → Prop) (ok : A1 → A2 → A3 → A4 → A5 → Prop) (μ : A1 → A2 → A3 → A4 → A5 → Nat) (val : A1 → A2 → A3 → A4 → A5 → ρ)
    (hs : ∀ (d : Nat) (post : ρ → Prop) (a1 : A1) (a2 : A2) (a3 : A3) (a4 : A4) (a5 : A5), ok a1 a2 a3 a4 a5 → post (val a1 a2 a3 a4 a5) → (∀ (post' : ρ → Prop) (b1 : A1) (b2 : A2) (b3 : A3) (b4 : A4) (b5 : A5), ok b1 b2 b3 b4 b5 → μ b1 b2 b3 b4 b5 < μ a1 a2 a3 a4 a5 → post' (val b1 b2 b3 b4 b5) → W d post' b1 b2 b3 b4 b5) → W (d + 1) post a1 a2 a3 a4 a5) :
    ∀ (d : Nat) (post : ρ → Prop) (a1 : A1) (a2 : A2) (a3 : A3) (a4 : A4) (a5 : A5), ok a1 a2 a3 a4 a5 → μ a1 a2 a3 a4 a5 < d → post (val a1 a2 a3 a4 a5) → W d post a1 a2 a3 a4 a5 := by
  intro d
  induction d with
  | zero => intro post a1 a2 a3 a4 a5 _ h; omega
  | succ d ih =>
    intro post a1 a2 a3 a4 a5 ho hm hp
    exact hs d post a1 a2 a3 a4 a5 ho hp (fun post' b1 b2 b3 b4 b5 ho' hm' hp' => ih post' b1 b2 b3 b4 b5 ho' (by omega) hp')
theorem rp6 {ρ A1 A2 A3 A4 A5 A6 : Type} (W : Nat → (ρ → Prop) → A1 → A2 → A3 → A4 → A5 → A6 → Prop) (ok : A1 → A2 → A3 → A4 → A5 → A6 → Prop) (μ : A1 → A2 → A3 → A4 → A5 → A6 → Nat) (val : A1 → A2 → A3 → A4 → A5 → A6 → ρ)
    (hs : ∀ (d : Nat) (post : ρ → Prop) (a1 : A1) (a2 : A2) (a3 : A3) (a4 : A4) (a5 : A5) (a6 : A6), ok a1 a2 a3 a4 a5 a6 → post (val a1 a2 a3 a4 a5 a6) → (∀ (post' : ρ → Prop) (b1 : A1) (b2 : A2) (b3 : A3) (b4 : A4) (b5 : A5) (b6 : A6), ok b1 b2 b3 b4 b5 b6 → μ b1 b2 b3 b4 b5 b6 < μ a1 a2 a3 a4 a5 a6 → post' (val b1 b2 b3 b4 b5 b6) → W d post' b1 b2 b3 b4 b5 b6) → W (d + 1) post a1 a2 a3 a4 a5 a6) :
    ∀ (d : Nat) (post : ρ → Prop) (a1 : A1) (a2 : A2) (a3 : A3) (a4 : A4) (a5 : A5) (a6 : A6), ok a1 a2 a3 a4 a5 a6 → μ a1 a2 a3 a4 a5 a6 < d → post (val a1 a2 a3 a4 a5 a6) → W d post a1 a2 a3 a4 a5 a6 := by
  intro d
  induction d with
  | zero => intro post a1 a2 a3 a4 a5 a6 _ h; omega
  | succ d ih =>
    intro post a1 a2 a3 a4 a5 a6 ho hm hp
    exact hs d post a1 a2 a3 a4 a5 a6 ho hp (fun post' b1 b2 b3 b4 b5 b6 ho' hm' hp' => ih post' b1 b2 b3 b4 b5 b6 ho' (by omega) hp')
theorem rec_p {σ ρ : Type} (W : Nat → (ρ → Prop) → σ → Prop) (ok : σ → Prop) (μ : σ → Nat) (val : σ → ρ)
    (hs : ∀ d s post, ok s → post (val s) → (∀ s' post', ok s' → μ s' < μ s → post' (val s') → W d post' s') → W (d + 1) post s) :
    ∀ d s post, ok s → μ s < d → post (val s) → W d post s := by
  intro d
  induction d with
  | zero => intro s post _ h; omega
  | succ d ih =>
    intro s post ho hm hp
    exact hs d s post ho hp (fun s' post' ho' hm' hp' => ih s' post' ho' (by omega) hp')
theorem rec_q {σ ρ : Type} (W : Nat → (ρ → Prop) → σ → Prop) (ok : σ → Prop) (μ : σ → Nat) (Q : σ → ρ → Prop)
    (hs : ∀ d s post, ok s → (∀ r, Q s r → post r) → (∀ s' post', ok s' → μ s' < μ s → (∀ r, Q s' r → post' r) → W d post' s') → W (d + 1) post s) :
    ∀ d s post, ok s → μ s < d → (∀ r, Q s r → post r) → W d post s := by
  intro d
  induction d with
  | zero => intro s post _ h; omega
  | succ d ih =>
    intro s post ho hm hp
    exact hs d s post ho hp (fun s' post' ho' hm' hp' => ih s' post' ho' (by omega) hp')
def bx_sum (f : Nat → Int32) : Nat → Int32
  | 0 => 0
  | n + 1 => bx_sum f n + f n
theorem ek_u {A : Prop} {B : Nat → Prop} {k N : Nat} (hk : k < N) (h : B k) : (some k = none → A) ∧ (∀ y : Nat, some k = some y → (y < N ∧ B y)) :=
  ⟨fun z => absurd z (Option.some_ne_none k), fun _ e => (by cases e; exact ⟨hk, h⟩)⟩
theorem ek_nu {A : Prop} {B : Nat → Prop} (h : A) : ((none : Option Nat) = none → A) ∧ (∀ y : Nat, (none : Option Nat) = some y → B y) :=
  ⟨fun _ => h, fun _ e => (by cases e)⟩
theorem ek_if {c d A B : Prop} (e : c ↔ d) (f : d → A) (g : ¬ d → B) : (c → A) ∧ (¬ c → B) :=
  ⟨fun z => f (e.mp z), fun z => g (fun y => z (e.mpr y))⟩
theorem ek_v {α : Sort _} {P : α → Prop} {a b : α} (e : a = b) (h : P b) : P a := e ▸ h
theorem co_some {x : Option Nat} {A : Prop} {B : Nat → Prop} (i : Nat) (h : B i) (hx : x = some i := by rfl) : (x = none → A) ∧ (∀ y : Nat, x = some y → B y) := by
  subst hx
  exact ⟨fun e => (nomatch e), fun y e => Option.some.inj e ▸ h⟩
theorem co_none {x : Option Nat} {A : Prop} {B : Nat → Prop} (h : A) (hx : x = none := by rfl) : (x = none → A) ∧ (∀ y : Nat, x = some y → B y) := by
  subst hx
  exact ⟨fun _ => h, fun y e => (nomatch e)⟩
theorem co_any {x : Option Nat} {A : Prop} {B : Nat → Prop} (hn : x = none → A) (hs : ∀ i : Nat, x = some i → B i) : (x = none → A) ∧ (∀ y : Nat, x = some y → B y) := ⟨hn, hs⟩
theorem co_2 {P : Nat → Prop} (h0 : P 0) (h1 : P 1) {i : Nat} (hi : i < 2) : P i :=
  match i, hi with
  | 0, _ => h0
  | 1, _ => h1
theorem co_3 {P : Nat → Prop} (h0 : P 0) (h1 : P 1) (h2 : P 2) {i : Nat} (hi : i < 3) : P i :=
  match i, hi with
  | 0, _ => h0
  | 1, _ => h1
  | 2, _ => h2
theorem co_4 {P : Nat → Prop} (h0 : P 0) (h1 : P 1) (h2 : P 2) (h3 : P 3) {i : Nat} (hi : i < 4) : P i :=
  match i, hi with
  | 0, _ => h0
  | 1, _ => h1
  | 2, _ => h2
  | 3, _ => h3
theorem co_dec {N : Nat} {P : Nat → Prop} [DecidablePred P] (h : (List.range N).all (fun i => decide (P i)) = true) {i : Nat} (hi : i < N) : P i := by
  have := List.all_eq_true.mp h i (List.mem_range.mpr hi)
  exact of_decide_eq_true this
theorem co_tab {α : Type} {l : List α} {d : α} {P : α → Prop} (h : ∀ a, a ∈ l → P a) {i : Nat} (hi : i < l.length) : P (l.getD i d) := by
  rw [List.getD_eq_getElem?_getD, List.getElem?_eq_getElem hi]
  exact h _ (List.getElem_mem hi)
theorem pk_mu {x : Int32} {L : Nat} (h0 : ¬ x < 0) (h : ¬ nI L ≤ x) (hL : L < 2 ^ 31) : ∃ j : Nat, j < L ∧ x = nI j ∧ x + 1 = nI (j + 1) ∧ x.toNatClampNeg = j ∧ L - (x + 1).toNatClampNeg < L - x.toNatClampNeg := by
  obtain ⟨j, hj, rfl⟩ := nI_of h0
  have hl : j < L := Nat.not_le.mp fun q => h (nI_le q hj)
  refine ⟨j, hl, rfl, nI_1 j, nI_clamp hj, ?_⟩
  rw [nI_1, nI_clamp (by omega), nI_clamp hj]
  omega
theorem op_s {α : Type} {r : Option α} {A : Prop} {B : α → Prop} {y : α} (h : r = some y) (b : B y) : (r = none → A) ∧ ∀ z, r = some z → B z :=
  ⟨fun e => (by rw [h] at e; cases e), fun z e => (by rw [h] at e; cases e; exact b)⟩
def l_holds {α : Type} (a : Nat → Option Nat) (LP : List Nat) (p : Nat → α) (c : Nat) (b : Nat → α) : Prop :=
  ∀ j, j < c → ∃ y, a j = some y ∧ y ∈ LP ∧ p y = b j
theorem l_holds_0 {α : Type} {a : Nat → Option Nat} {LP : List Nat} {p b : Nat → α} : l_holds a LP p 0 b := fun j h => absurd h (Nat.not_lt_zero j)
theorem l_in_new (LP : List Nat) (q : Nat) : q ∈ LP ++ [q] := List.mem_append.mpr (Or.inr (List.mem_singleton.mpr rfl))
def l_sum (b : Nat → Int32) : Nat → Int32
  | 0 => 0
  | k + 1 => l_sum b k + b k
theorem sb_shr0 (x : Int32) : x >>> ((0 : Int32) &&& 31) = x := by
  rw [show ((0 : Int32) &&& 31) = 0 by decide]
  simp
theorem sb_shl0 (x : Int32) : x <<< ((0 : Int32) &&& 31) = x := by
  rw [show ((0 : Int32) &&& 31) = 0 by decide]
  simp
theorem sb_cl0 : (0 : Int32).toNatClampNeg = 0 := by decide
theorem sb_m1 {p : Nat} (h : 0 < p) : nI p + (-1) = nI (p - 1) := by
  obtain ⟨q, rfl⟩ : ∃ q, p = q + 1 := ⟨p - 1, by omega⟩
  exact pk_m1 q
def sb_b (c : Nat) : Int32 := (nI c).toInt8.toInt32
theorem sb_byte : ∀ c, c < 256 → sb_b c &&& 255 = nI c ∧ ((nI c).toUInt32 % 65536).toInt32 = nI c ∧ nI c ≤ 255 := by decide +kernel
def sb_Fit (a : Nat → Int32) : Prop := ∀ j, fits .byte (.int (a j)) = true
def sb_Lat (t : Nat → Nat) (n : Nat) (a : Nat → Int32) : Prop := ∀ j, j < n → t j < 256 ∧ a j = sb_b (t j)
theorem sb_fitB (c : Nat) : fits .byte (.int (sb_b c)) = true := pk_fb _
theorem sb_fit0 : sb_Fit (fun _ => 0) := fun _ => by
  show fits .byte (.int 0) = true
  decide
theorem sb_fitU {a : Nat → Int32} {k : Nat} {x : Int32} (h : sb_Fit a) (hx : fits .byte (.int x) = true) : sb_Fit (upd a k x) := by
  intro j
  by_cases e : j = k
  · subst e
    rw [pk_us]
    exact hx
  · rw [pk_un e]
    exact h j
def sb_cat (t : Nat → Nat) (n : Nat) (s : Nat → Nat) : Nat → Nat := fun j => if j < n then t j else s (j - n)
theorem sb_cat_lo {t s : Nat → Nat} {n j : Nat} (h : j < n) : sb_cat t n s j = t j := if_pos h
theorem sb_cat_hi {t s : Nat → Nat} {n j : Nat} : sb_cat t n s (n + j) = s j := by
  show (if n + j < n then t (n + j) else s (n + j - n)) = s j
  rw [if_neg (by omega), Nat.add_sub_cancel_left]
theorem sb_latPut {t s : Nat → Nat} {n w : Nat} {a a' : Nat → Int32} (h : sb_Lat t n a) (hk : ∀ j, j < n → a' j = a j) (hs : ∀ i, i < w → s i < 256 ∧ a' (n + i) = sb_b (s i)) : sb_Lat (sb_cat t n s) (n + w) a' := by
  intro j hj
  by_cases e : j < n
  · rw [sb_cat_lo e, hk j e]
    exact h j e
  · obtain ⟨i, rfl⟩ : ∃ i, j = n + i := ⟨j - n, by omega⟩
    rw [sb_cat_hi]
    exact hs i (by omega)
theorem sb_latKeep {t : Nat → Nat} {n : Nat} {a a' : Nat → Int32} (h : sb_Lat t n a) (hk : ∀ j, j < n → a' j = a j) : sb_Lat t n a' := fun j hj => by
  rw [hk j hj]
  exact h j hj
def sb_cap (q m : Nat) : Nat := if q ≤ m then m else if 2 * m + 2 < q then q else 2 * m + 2
def sb_Room (q m mc ms : Nat) : Prop := q ≤ m ∨ (1 ≤ mc ∧ sb_cap q m ≤ ms ∧ sb_cap q m ≤ 65536)
theorem sb_cap_ge (q m : Nat) : q ≤ sb_cap q m := by
  unfold sb_cap
  split
  · omega
  · split <;> omega
theorem sb_cap_gem (q m : Nat) : m ≤ sb_cap q m := by
  unfold sb_cap
  split
  · omega
  · split <;> omega
theorem sb_cap_le {q m mc ms : Nat} (hm : m ≤ 65536) (hr : sb_Room q m mc ms) : sb_cap q m ≤ 65536 := by
  rcases hr with h | h
  · rw [sb_cap, if_pos h]
    exact hm
  · exact h.2.2
theorem sb_at {P : Int32 → Prop} {x y : Int32} (e : x = y) (h : P y) : P x := e ▸ h
def sb_dg (w : Nat) : Nat := if w < 10 then 1 else if w < 100 then 2 else if w < 1000 then 3 else if w < 10000 then 4 else if w < 100000 then 5 else if w < 1000000 then 6 else if w < 10000000 then 7 else if w < 100000000 then 8 else if w < 1000000000 then 9 else 10
def sb_dec (v : Nat) : Nat → Nat := fun i => 48 + v / 10 ^ (sb_dg v - 1 - i) % 10
theorem sb_dg_in (w : Nat) : 1 ≤ sb_dg w ∧ sb_dg w ≤ 10 := by
  unfold sb_dg
  constructor <;> (repeat' split) <;> omega
theorem sb_dg100 {w : Nat} (h : 100 ≤ w) (hw : w < 2 ^ 31) : sb_dg w = sb_dg (w / 100) + 2 := by
  rw [sb_dg, sb_dg, if_neg (show ¬ w < 10 by omega), if_neg (show ¬ w < 100 by omega)]
  by_cases h3 : w < 1000
  · rw [if_pos h3, if_pos (show w / 100 < 10 by omega)]
  rw [if_neg h3, if_neg (show ¬ w / 100 < 10 by omega)]
  by_cases h4 : w < 10000
  · rw [if_pos h4, if_pos (show w / 100 < 100 by omega)]
  rw [if_neg h4, if_neg (show ¬ w / 100 < 100 by omega)]
  by_cases h5 : w < 100000
  · rw [if_pos h5, if_pos (show w / 100 < 1000 by omega)]
  rw [if_neg h5, if_neg (show ¬ w / 100 < 1000 by omega)]
  by_cases h6 : w < 1000000
  · rw [if_pos h6, if_pos (show w / 100 < 10000 by omega)]
  rw [if_neg h6, if_neg (show ¬ w / 100 < 10000 by omega)]
  by_cases h7 : w < 10000000
  · rw [if_pos h7, if_pos (show w / 100 < 100000 by omega)]
  rw [if_neg h7, if_neg (show ¬ w / 100 < 100000 by omega)]
  by_cases h8 : w < 100000000
  · rw [if_pos h8, if_pos (show w / 100 < 1000000 by omega)]
  rw [if_neg h8, if_neg (show ¬ w / 100 < 1000000 by omega)]
  by_cases h9 : w < 1000000000
  · rw [if_pos h9, if_pos (show w / 100 < 10000000 by omega)]
  rw [if_neg h9, if_neg (show ¬ w / 100 < 10000000 by omega)]
  rw [if_pos (show w / 100 < 100000000 by omega)]
theorem sb_negT {w : Nat} (h : w < 2 ^ 31) : (-nI w).toInt = -(w : Int) := by
  rw [Int32.toInt_neg, nI_toInt h]
  exact Int.bmod_eq_of_le (by omega) (by omega)
theorem sb_nle {a b : Nat} (ha : a < 2 ^ 31) (hb : b < 2 ^ 31) : -nI a ≤ -nI b ↔ b ≤ a := by
  rw [Int32.le_iff_toInt_le, sb_negT ha, sb_negT hb]
  omega
theorem sb_nlt {a b : Nat} (ha : a < 2 ^ 31) (hb : b < 2 ^ 31) : -nI a < -nI b ↔ b < a := by
  rw [Int32.lt_iff_toInt_lt, sb_negT ha, sb_negT hb]
  omega
theorem sb_cmp {A B : Prop} {x : Int32} (v c : Nat) (f : c ≤ v → A) (g : v < c → B) (hv : v < 2 ^ 31) (hx : x = -nI c := by rfl) (hc : c < 2 ^ 31 := by omega) : (-nI v ≤ x → A) ∧ (¬ -nI v ≤ x → B) := by
  subst hx
  rw [sb_nle hv hc]
  exact ⟨f, fun z => g (by omega)⟩
theorem sb_ndiv {w : Nat} (hw : w < 2 ^ 31) : (-nI w) / 100 = -nI (w / 100) := by
  apply Int32.toInt_inj.mp
  have h100 : (100 : Int32).toInt = 100 := by decide
  rw [Int32.toInt_div, sb_negT hw, h100, sb_negT (by omega), Int.neg_tdiv, Int.tdiv_eq_ediv_of_nonneg (by omega), Int.bmod_eq_of_le (by omega) (by omega)]
  omega
theorem sb_nrem {w : Nat} (hw : w < 2 ^ 31) : (-nI (w / 100)) * 100 - (-nI w) = nI (w % 100) := by
  have h := pk_rem (a := w) (d := 100) hw (by decide) (by decide)
  rw [pk_div hw (by decide) (by decide)] at h
  rw [← h]
  show (-nI (w / 100)) * nI 100 - (-nI w) = nI w - nI (w / 100) * nI 100
  rw [Int32.neg_mul, Int32.sub_neg, Int32.add_comm, ← Int32.sub_eq_add_neg]
end
section
/-! the pure side: known terms, code of a term, contexts of a waiting frame -/
def kn_comb (op : Nat) (x y : Int32) : Int32 := if op = 0 then x + y else if op = 1 then x - y else if op = 2 then x * y else if y ≤ x then 0 else 1
/-- term t of definition d has the value v after s steps, always -/
def kn_S (kd pa pb pc : Nat → Nat) (N : Nat → Int32) (d : Nat) : Nat → Nat → Int32 → Nat → Prop
  | 0 => fun _ _ _ => False
  | n + 1 => fun t v s =>
      (kd (12 * d + t) = 11 ∧ v = N (12 * d + t) ∧ s = 1)
    ∨ (kd (12 * d + t) ≤ 3 ∧ ∃ x i y j, kn_S kd pa pb pc N d n (pa (12 * d + t)) x i ∧ kn_S kd pa pb pc N d n (pb (12 * d + t)) y j ∧ v = kn_comb (kd (12 * d + t)) x y ∧ s = 1 + i + j)
    ∨ (kd (12 * d + t) = 4 ∧ ∃ x i j, kn_S kd pa pb pc N d n (pa (12 * d + t)) x i ∧ kn_S kd pa pb pc N d n (pb (12 * d + t)) v j ∧ s = 1 + i + j)
    ∨ (kd (12 * d + t) = 10 ∧ ∃ x i j, kn_S kd pa pb pc N d n (pa (12 * d + t)) x i ∧ kn_S kd pa pb pc N d n (if x = 0 then pc (12 * d + t) else pb (12 * d + t)) v j ∧ s = 1 + i + j)
theorem kn_pos {kd pa pb pc : Nat → Nat} {N : Nat → Int32} {d : Nat} : ∀ {n t : Nat} {v : Int32} {s : Nat}, kn_S kd pa pb pc N d n t v s → 0 < s := by
  intro n t v s h
  cases n with
  | zero => exact h.elim
  | succ n =>
    simp only [kn_S] at h
    rcases h with ⟨_, _, rfl⟩ | ⟨_, x, i, y, j, _, _, _, rfl⟩ | ⟨_, x, i, j, _, _, rfl⟩ | ⟨_, x, i, j, _, _, rfl⟩ <;> omega
/-- the code has instruction c at p -/
def cg_at (C : Nat → Int32) (p : Nat) (c : Int32) : Prop := p < 1200 ∧ C p = c
/-- the steps that are pending are counted between p and q -/
def cg_Fl (C O : Nat → Int32) (pi p q : Nat) : Prop := (pi = 0 ∧ q = p) ∨ (0 < pi ∧ pi < 1000 ∧ cg_at C p 9 ∧ O p = nI pi ∧ q = p + 1)
def cg_pl (pl : Nat → Nat) (v w : Nat) : Nat → Nat := fun j => if j = v then w else pl j
/-- what is behind the value of both parts -/
def cg_2 (kd : Nat → Nat) (d : Nat) (C O : Nat → Int32) (md t : Nat) (ka : Nat → Nat → Prop) (p2 pi2 : Nat) : Prop :=
    (kd (12 * d + t) ≤ 3 ∧ cg_at C p2 (nI (kd (12 * d + t))) ∧ ka (p2 + 1) pi2)
  ∨ (kd (12 * d + t) = 6 ∧ ∃ p3, cg_Fl C O (pi2 + 1) p2 p3 ∧ cg_at C p3 (nI (if md = 0 then 15 else if md = 1 then 31 else 16)) ∧ (md = 0 → ka (p3 + 1) 0))
/-- what is behind the value of the first part -/
def cg_1 (kd pb pc nn : Nat → Nat) (d : Nat) (C O BD BT : Nat → Int32) (nb : Nat)
    (E : Nat → Nat → (Nat → Nat) → Nat → Nat → Nat → (Nat → Nat → Prop) → Prop)
    (md t : Nat) (pl : Nat → Nat) (w : Nat) (ka : Nat → Nat → Prop) (p1 pi1 : Nat) : Prop :=
    ((kd (12 * d + t) ≤ 3 ∨ kd (12 * d + t) = 6) ∧ E 0 (pb (12 * d + t)) pl (w + 1) pi1 p1 (cg_2 kd d C O md t ka))
  ∨ (kd (12 * d + t) = 4 ∧ E md (pb (12 * d + t)) (cg_pl pl (nn (12 * d + t)) w) (w + 1) pi1 p1 (fun p2 pi2 => (md ≠ 0 ∧ ka p2 pi2) ∨ (md = 0 ∧ cg_at C p2 6 ∧ ka (p2 + 1) pi2)))
  ∨ (kd (12 * d + t) = 10 ∧ ∃ p2 e, cg_Fl C O pi1 p1 p2 ∧ cg_at C p2 7 ∧ O p2 = nI e ∧ e < 1200
      ∧ E md (pb (12 * d + t)) pl w 0 (p2 + 1) (fun p3 pi3 => (md ≠ 0 ∧ ka p3 pi3) ∨ (md = 0 ∧ ∃ p4 q, cg_Fl C O pi3 p3 p4 ∧ cg_at C p4 8 ∧ O p4 = nI q ∧ q < 1200 ∧ ka q 0))
      ∧ E md (pc (12 * d + t)) pl w 0 e (fun p5 pi5 => (md ≠ 0 ∧ ka p5 pi5) ∨ (md = 0 ∧ ∃ q, cg_Fl C O pi5 p5 q ∧ ka q 0)))
  ∨ (kd (12 * d + t) = 7 ∧ ∃ p2, cg_Fl C O (pi1 + 1) p1 p2 ∧ cg_at C p2 10 ∧ ka (p2 + 1) 0)
  ∨ (kd (12 * d + t) = 8 ∧ ∃ p2, cg_Fl C O pi1 p1 p2 ∧ cg_at C p2 (nI (if md = 0 then 12 else 28)) ∧ O p2 = nI (nn (12 * d + t)) ∧ (md = 0 → ka (p2 + 1) 0))
  ∨ (kd (12 * d + t) = 9 ∧ ∃ p2, cg_Fl C O (pi1 + 1) p1 p2 ∧ cg_at C p2 (nI (if md = 0 then 13 else 29)) ∧ O p2 = nI (nn (12 * d + t)) ∧ (md = 0 → ka (p2 + 1) 0))
  ∨ (kd (12 * d + t) = 5 ∧ ∃ p2 b, cg_Fl C O pi1 p1 p2 ∧ cg_at C p2 (nI (if md = 0 then 14 else 30)) ∧ b < nb ∧ b < 96 ∧ BD b = nI d ∧ BT b = nI (pb (12 * d + t))
      ∧ O p2 = nI (nn (12 * d + t) + 4 * b + 512 * pl 0 + 8192 * pl 1 + 131072 * pl 2) ∧ (md = 0 → ka (p2 + 1) 0))
/-- the code at p works out term t (md 0: goes on at ka; 1: as the last thing; 2: short); w words are in use, pi steps are pending -/
def cg_E (kd pa pb pc nn : Nat → Nat) (N : Nat → Int32) (d : Nat) (C O BD BT : Nat → Int32) (nb : Nat) : Nat → Nat → Nat → (Nat → Nat) → Nat → Nat → Nat → (Nat → Nat → Prop) → Prop
  | 0 => fun _ _ _ _ _ _ _ => False
  | n + 1 => fun md t pl w pi p ka => w < 9 ∧
     ((∃ v s, kn_S kd pa pb pc N d 12 t v s ∧ s < 128 ∧ cg_at C p 4 ∧ O p = v ∧ ka (p + 1) (pi + s))
    ∨ (kd (12 * d + t) = 12 ∧ cg_at C p 5 ∧ O p = nI (pl (nn (12 * d + t))) ∧ ka (p + 1) (pi + 1))
    ∨ (kd (12 * d + t) = 10 ∧ ∃ x i, kn_S kd pa pb pc N d 12 (pa (12 * d + t)) x i ∧ i < 128 ∧ cg_E kd pa pb pc nn N d C O BD BT nb n md (if x = 0 then pc (12 * d + t) else pb (12 * d + t)) pl w (pi + 1 + i) p ka)
    ∨ (kd (12 * d + t) ≤ 10 ∧ cg_E kd pa pb pc nn N d C O BD BT nb n 0 (pa (12 * d + t)) pl w (pi + 1) p (cg_1 kd pb pc nn d C O BD BT nb (cg_E kd pa pb pc nn N d C O BD BT nb n) md t pl w ka)))
theorem cg_2mono {kd pa pb pc nn : Nat → Nat} {N : Nat → Int32} {d : Nat} {C O BD BT : Nat → Int32} {nb : Nat} {md t : Nat} {ka kb : Nat → Nat → Prop} (h : ∀ q pi, ka q pi → kb q pi) {p pi : Nat} (H : cg_2 kd d C O md t ka p pi) : cg_2 kd d C O md t kb p pi := by
  rcases H with ⟨a, b, c⟩ | ⟨a, p3, b, c, e⟩
  · exact Or.inl ⟨a, b, h _ _ c⟩
  · exact Or.inr ⟨a, p3, b, c, fun m => h _ _ (e m)⟩
theorem cg_1mono {kd pa pb pc nn : Nat → Nat} {N : Nat → Int32} {d : Nat} {C O BD BT : Nat → Int32} {nb : Nat} {E : Nat → Nat → (Nat → Nat) → Nat → Nat → Nat → (Nat → Nat → Prop) → Prop}
    (hE : ∀ md t pl w pi p (ka kb : Nat → Nat → Prop), (∀ q pi, ka q pi → kb q pi) → E md t pl w pi p ka → E md t pl w pi p kb)
    {md t : Nat} {pl : Nat → Nat} {w : Nat} {ka kb : Nat → Nat → Prop} (h : ∀ q pi, ka q pi → kb q pi) {p pi : Nat} (H : cg_1 kd pb pc nn d C O BD BT nb E md t pl w ka p pi) : cg_1 kd pb pc nn d C O BD BT nb E md t pl w kb p pi := by
  rcases H with ⟨a, b⟩ | ⟨a, b⟩ | ⟨a, p2, e, b1, b2, b3, b4, b5, b6⟩ | ⟨a, p2, b1, b2, b3⟩ | ⟨a, p2, b1, b2, b3, b4⟩ | ⟨a, p2, b1, b2, b3, b4⟩ | ⟨a, p2, b, b1, b2, b3, b4, b5, b6, b7, b8⟩
  · exact Or.inl ⟨a, hE _ _ _ _ _ _ _ _ (fun q pi => cg_2mono (pa := pb) (pb := pb) (pc := pc) (nn := nn) (N := C) (BD := BD) (BT := BT) (nb := nb) h) b⟩
  · refine Or.inr (Or.inl ⟨a, hE _ _ _ _ _ _ _ _ ?_ b⟩)
    rintro q pi (⟨m, x⟩ | ⟨m, x, y⟩)
    · exact Or.inl ⟨m, h _ _ x⟩
    · exact Or.inr ⟨m, x, h _ _ y⟩
  · refine Or.inr (Or.inr (Or.inl ⟨a, p2, e, b1, b2, b3, b4, hE _ _ _ _ _ _ _ _ ?_ b5, hE _ _ _ _ _ _ _ _ ?_ b6⟩))
    · rintro q pi (⟨m, x⟩ | ⟨m, p4, q', x1, x2, x3, x4, x5⟩)
      · exact Or.inl ⟨m, h _ _ x⟩
      · exact Or.inr ⟨m, p4, q', x1, x2, x3, x4, h _ _ x5⟩
    · rintro q pi (⟨m, x⟩ | ⟨m, q', x1, x2⟩)
      · exact Or.inl ⟨m, h _ _ x⟩
      · exact Or.inr ⟨m, q', x1, h _ _ x2⟩
  · exact Or.inr (Or.inr (Or.inr (Or.inl ⟨a, p2, b1, b2, h _ _ b3⟩)))
  · exact Or.inr (Or.inr (Or.inr (Or.inr (Or.inl ⟨a, p2, b1, b2, b3, fun m => h _ _ (b4 m)⟩))))
  · exact Or.inr (Or.inr (Or.inr (Or.inr (Or.inr (Or.inl ⟨a, p2, b1, b2, b3, fun m => h _ _ (b4 m)⟩)))))
  · exact Or.inr (Or.inr (Or.inr (Or.inr (Or.inr (Or.inr ⟨a, p2, b, b1, b2, b3, b4, b5, b6, b7, fun m => h _ _ (b8 m)⟩)))))
theorem cg_Emono {kd pa pb pc nn : Nat → Nat} {N : Nat → Int32} {d : Nat} {C O BD BT : Nat → Int32} {nb : Nat} : ∀ (n md t : Nat) (pl : Nat → Nat) (w pi p : Nat) (ka kb : Nat → Nat → Prop), (∀ q pi, ka q pi → kb q pi) → cg_E kd pa pb pc nn N d C O BD BT nb n md t pl w pi p ka → cg_E kd pa pb pc nn N d C O BD BT nb n md t pl w pi p kb := by
  intro n
  induction n with
  | zero => intro _ _ _ _ _ _ _ _ _ h; exact h.elim
  | succ n ih =>
    intro md t pl w pi p ka kb h H
    obtain ⟨hw, H⟩ := H
    refine ⟨hw, ?_⟩
    rcases H with ⟨v, s, a, b, c, e, f⟩ | ⟨a, b, c, e⟩ | ⟨a, x, i, b, c, e⟩ | ⟨a, b⟩
    · exact Or.inl ⟨v, s, a, b, c, e, h _ _ f⟩
    · exact Or.inr (Or.inl ⟨a, b, c, h _ _ e⟩)
    · exact Or.inr (Or.inr (Or.inl ⟨a, x, i, b, c, ih _ _ _ _ _ _ _ _ h e⟩))
    · exact Or.inr (Or.inr (Or.inr ⟨a, ih _ _ _ _ _ _ _ _ (fun q pi => cg_1mono (pa := pb) (N := C) ih h) b⟩))
/-! words of a frame: the top one first -/
def wd_g : List Int32 → Nat → Int32
  | [] => fun _ => 0
  | x :: ws => fun i => if i = ws.length then x else wd_g ws i
theorem wd_top (x : Int32) (ws : List Int32) : wd_g (x :: ws) ws.length = x := if_pos rfl
theorem wd_low {x : Int32} {ws : List Int32} {i : Nat} (h : i < ws.length) : wd_g (x :: ws) i = wd_g ws i := if_neg (by omega)
/-- the variables stand where the places say -/
def wd_env (pl : Nat → Nat) (ws : List Int32) (x0 x1 x2 : Int32) : Prop :=
  (pl 0 < ws.length ∧ wd_g ws (pl 0) = x0) ∧ (pl 1 < ws.length ∧ wd_g ws (pl 1) = x1) ∧ (pl 2 < ws.length ∧ wd_g ws (pl 2) = x2)
/-- things of the reference: node, stage, first value, variables, catch -/
abbrev ct_T : Type := Nat × Nat × Int32 × Int32 × Int32 × Int32 × Nat
def ct_R (C O : Nat → Int32) (q pi : Nat) : Prop := ∃ q', cg_Fl C O pi q q' ∧ cg_at C q' 11
/-- what comes behind a part: in md 0 the context, else the end of the frame -/
def ct_k (C O : Nat → Int32) (md : Nat) (K : Nat → Nat → Prop) (q pi : Nat) : Prop := (md = 0 ∧ K q pi) ∨ (md ≠ 0 ∧ ct_R C O q pi)
/-- the frame goes on at q with a value on its words ws (pi steps pending) as the things ths say -/
def ct_K (kd pa pb pc nn : Nat → Nat) (N : Nat → Int32) (d : Nat) (C O BD BT : Nat → Int32) (nb : Nat) (sz : Nat) (sh : Bool) (yh : Nat) : Nat → Nat → Nat → List Int32 → List ct_T → Prop
  | 0 => fun _ _ _ _ => False
  | n + 1 => fun q pi ws ths =>
      (sh = false ∧ ths = [] ∧ ct_R C O q pi)
    ∨ (∃ x ws', ws = x :: ws' ∧ cg_at C q 6 ∧ ct_K kd pa pb pc nn N d C O BD BT nb sz sh yh n (q + 1) pi ws' ths)
    ∨ (∃ q1 e, cg_Fl C O pi q q1 ∧ cg_at C q1 8 ∧ O q1 = nI e ∧ e < 1200 ∧ ct_K kd pa pb pc nn N d C O BD BT nb sz sh yh n e 0 ws ths)
    ∨ (∃ q1, cg_Fl C O pi q q1 ∧ ct_K kd pa pb pc nn N d C O BD BT nb sz sh yh n q1 0 ws ths)
    ∨ (∃ t sv x0 x1 x2 ths' m md pl, ths = (12 * d + t, 1, sv, x0, x1, x2, yh) :: ths' ∧ t < sz ∧ n + t ≤ 12 ∧ m ≤ 12 ∧ wd_env pl ws x0 x1 x2
        ∧ (md ≠ 0 → ths' = [] ∧ 1 ≤ n) ∧ (md = 1 → sh = false) ∧ (2 ≤ md → sh = true ∧ kd (12 * d + t) = 6) ∧ (sh = true → kd (12 * d + t) ≠ 5 ∧ kd (12 * d + t) ≠ 8 ∧ kd (12 * d + t) ≠ 9 ∧ (kd (12 * d + t) = 6 → 2 ≤ md))
        ∧ cg_1 kd pb pc nn d C O BD BT nb (cg_E kd pa pb pc nn N d C O BD BT nb m) md t pl ws.length (ct_k C O md (fun q pi => ct_K kd pa pb pc nn N d C O BD BT nb sz sh yh n q pi ws ths')) q pi)
    ∨ (∃ t sv x0 x1 x2 ths' md ws', ths = (12 * d + t, 2, sv, x0, x1, x2, yh) :: ths' ∧ t < sz ∧ n + t ≤ 12 ∧ ws = sv :: ws'
        ∧ (md ≠ 0 → ths' = [] ∧ 1 ≤ n) ∧ (md = 1 → sh = false) ∧ (2 ≤ md → sh = true ∧ kd (12 * d + t) = 6) ∧ (sh = true → (kd (12 * d + t) = 6 → 2 ≤ md))
        ∧ cg_2 kd d C O md t (ct_k C O md (fun q pi => ct_K kd pa pb pc nn N d C O BD BT nb sz sh yh n q pi ws' ths')) q pi)
/-! marks -/
abbrev ct_YM : Type := Nat × Int32 × List ct_T
abbrev ct_F : Type := Nat × Nat × List Int32
abbrev ct_XM : Type := Nat × Int32 × List ct_F
/-- what a catch holds comes before the rest, its last mark with a new state -/
def pg_X (s' : Int32) (fs : List ct_F) (ms : List ct_XM) : List ct_XM → List ct_XM
  | [] => ms
  | (h, s, u) :: r => match r with
    | [] => (h, s', fs) :: ms
    | _ :: _ => (h, s, u) :: pg_X s' fs ms r
def pg_Y (s' : Int32) (L : List ct_T) (yms : List ct_YM) : List ct_YM → List ct_YM
  | [] => yms
  | (h, s, u) :: r => match r with
    | [] => (h, s', L) :: yms
    | _ :: _ => (h, s, u) :: pg_Y s' L yms r
theorem pg_len {s' : Int32} {fs : List ct_F} {ms : List ct_XM} : ∀ (cx : List ct_XM), (pg_X s' fs ms cx).length = cx.length + ms.length := by
  intro cx
  induction cx with
  | nil => simp [pg_X]
  | cons m cx ih =>
    obtain ⟨h, s, u⟩ := m
    cases cx with
    | nil => simp [pg_X]; omega
    | cons c2 cx => simp only [pg_X, List.length_cons] at ih ⊢; omega
theorem pg_lenY {s' : Int32} {L : List ct_T} {yms : List ct_YM} : ∀ (cy : List ct_YM), (pg_Y s' L yms cy).length = cy.length + yms.length := by
  intro cy
  induction cy with
  | nil => simp [pg_Y]
  | cons m cy ih =>
    obtain ⟨h, s, u⟩ := m
    cases cy with
    | nil => simp [pg_Y]; omega
    | cons c2 cy => simp only [pg_Y, List.length_cons] at ih ⊢; omega
/-- a value passes marks whose handlers have no return clause -/
def dv_X (sz : Nat → Nat) : List ct_XM → List ct_F → List ct_F × List ct_XM
  | [] => fun fs => (fs, [])
  | (h, s, fs') :: ms => fun fs => match fs with
    | [] => if sz (7 + 4 * h) = 0 then dv_X sz ms fs' else ([], (h, s, fs') :: ms)
    | fr :: fs => (fr :: fs, (h, s, fs') :: ms)
end
section
/-- an array of arrays with another array at i -/
def uu_G (G : Nat → Nat → Int32) (i : Nat) (a : Nat → Int32) : Nat → Nat → Int32 := fun j => if j = i then a else G j
abbrev xs_mk (F : Nat → Int32) (G : Nat → Nat → Int32) : SX := (F 0, F 1, F 2, F 3, F 4, F 5, F 6, F 7, F 8, F 9, F 10, F 11, F 12, F 13, F 14, F 15, F 16, F 17, F 18, F 19, F 20, F 21, F 22, G 0, G 1, G 2, G 3, G 4, G 5, G 6, G 7, G 8, G 9, G 10, G 11, G 12, G 13, G 14, G 15, G 16, G 17, G 18, G 19, G 20, G 21, G 22, G 23, G 24, G 25, G 26, G 27, G 28, G 29, G 30, G 31, G 32, G 33, G 34, G 35, G 36, G 37, G 38, G 39, G 40)
abbrev ys_mk (F : Nat → Int32) (G : Nat → Nat → Int32) : SY := (F 0, F 1, F 2, F 3, F 4, F 5, F 6, F 7, F 8, F 9, F 10, F 11, F 12, F 13, F 14, F 15, F 16, F 17, F 18, F 19, G 0, G 1, G 2, G 3, G 4, G 5, G 6, G 7, G 8, G 9, G 10, G 11, G 12, G 13, G 14, G 15, G 16, G 17, G 18, G 19, G 20, G 21, G 22)
theorem uu_Gs {G : Nat → Nat → Int32} {i : Nat} {a : Nat → Int32} : uu_G G i a i = a := if_pos rfl
theorem uu_Gn {G : Nat → Nat → Int32} {i j : Nat} {a : Nat → Int32} (h : j ≠ i) : uu_G G i a j = G j := if_neg h
theorem uu_b8 : ∀ {n : Nat}, n < 128 → (nI n).toInt8.toInt32 = nI n := by
  have : ∀ m : Nat, m < 128 → (nI m).toInt8.toInt32 = nI m := by decide +kernel
  intro n h; exact this n h
theorem uu_nb {n : Nat} (h : n < 128) : vp_nar .byte (nI n) = nI n := by rw [vp_nar_byte, uu_b8 h]
theorem uu_b16 {n : Nat} (h : n < 32768) : (nI n).toInt16.toInt32 = nI n := by
  apply Int32.toInt_inj.mp
  rw [Int16.toInt_toInt32, Int32.toInt_toInt16, nI_toInt (by omega)]
  exact Int.bmod_eq_of_le (by omega) (by omega)
theorem uu_ns {n : Nat} (h : n < 32768) : vp_nar .short (nI n) = nI n := by rw [vp_nar_short, uu_b16 h]
theorem uu_in {n N : Nat} (h : n < N) (hN : N < 2 ^ 31) : vp_in (nI n) N ↔ True := iff_true_intro (vp_in_nI h hN)
theorem uu_l (k : Nat) (n : Nat) : (OfNat.ofNat k : Int32) * nI n = nI (k * n) := pk_mul k n
theorem uu_m9 (n : Nat) : (9 : Int32) * nI n = nI (9 * n) := pk_mul 9 n
theorem uu_m12 (n : Nat) : (12 : Int32) * nI n = nI (12 * n) := pk_mul 12 n
theorem uu_m4 (n : Nat) : (4 : Int32) * nI n = nI (4 * n) := pk_mul 4 n
theorem uu_a4 (n : Nat) : (4 : Int32) + nI n = nI (4 + n) := nI_add 4 n
theorem uu_a7 (n : Nat) : (7 : Int32) + nI n = nI (7 + n) := nI_add 7 n
theorem uu_a1 (n : Nat) : nI n + 1 = nI (n + 1) := nI_1 n
theorem uu_a2 (n : Nat) : nI n + 2 = nI (n + 2) := nI_add n 2
theorem uu_a192 (n : Nat) : (192 : Int32) + nI n = nI (192 + n) := nI_add 192 n
theorem uu_s1 {n : Nat} (h : 1 ≤ n) : nI n - 1 = nI (n - 1) := pk_sub (b := 1) h
theorem uu_s2 {n : Nat} (h : 2 ≤ n) : nI n - 2 = nI (n - 2) := pk_sub (b := 2) h
theorem uu_s3 {n : Nat} (h : 3 ≤ n) : nI n - 3 = nI (n - 3) := pk_sub (b := 3) h
theorem xb_push {F : Nat → Int32} {G : Nat → Nat → Int32} {v : Int32} {f k : Nat} {post : SX → Prop}
    (hf : F 10 = nI (f + 1)) (hk : G 24 f = nI k) (hfb : f < 168) (hkb : k < 9)
    (h : post (xs_mk F (uu_G (uu_G G 24 (upd (G 24) f (nI (k + 1)))) 25 (upd (G 25) (9 * f + k) v)))) :
    wpX_push post (xs_mk F G) v := by
  have e1 : F 10 - 1 = nI f := by rw [hf]; exact nI_pred f
  unfold wpX_push
  simp (disch := omega) only [forall_eq, e1, nI_clamp, uu_in, true_and, hk, uu_m9, nI_add, uu_a1, uu_b8, uu_nb]
  exact h
theorem xb_pop {F : Nat → Int32} {G : Nat → Nat → Int32} {f k : Nat} {post : Int32 → SX → Prop}
    (hf : F 10 = nI (f + 1)) (hk : G 24 f = nI (k + 1)) (hfb : f < 168) (hkb : k < 9)
    (h : post (G 25 (9 * f + k)) (xs_mk F (uu_G G 24 (upd (G 24) f (nI k))))) :
    wpX_pop post (xs_mk F G) := by
  have e1 : F 10 - 1 = nI f := by rw [hf]; exact nI_pred f
  unfold wpX_pop
  simp (disch := omega) only [forall_eq, e1, nI_pred, nI_clamp, uu_in, true_and, hk, uu_m9, nI_add, uu_a1, uu_b8, uu_nb, pk_us]
  exact h
end
section
/-! the reference, one event at a time -/
theorem uu_d12 {j : Nat} (h : j < 2 ^ 31) : nI j / 12 = nI (j / 12) := pk_div (d := 12) h (by decide) (by decide)
theorem uu_m12' (n : Nat) : nI n * 12 = nI (n * 12) := pk_mul n 12
def ey_W (post : Int32 → SY → Prop) (n : Nat) (F : Nat → Int32) (G : Nat → Nat → Int32) : Prop := wY_run_84 post n (F 0) (F 1) (F 2) (F 3) (F 4) (F 5) (F 6) (F 7) (F 8) (F 9) (F 10) (F 11) (F 12) (F 13) (F 14) (F 15) (F 16) (F 17) (F 18) (F 19) (G 0) (G 1) (G 2) (G 3) (G 4) (G 5) (G 6) (G 7) (G 8) (G 9) (G 10) (G 11) (G 12) (G 13) (G 14) (G 15) (G 16) (G 17) (G 18) (G 19) (G 20) (G 21) (G 22)
/-- the reference goes from one state to another -/
def ey_go (F : Nat → Int32) (G : Nat → Nat → Int32) (F' : Nat → Int32) (G' : Nat → Nat → Int32) : Prop :=
  ∀ post : Int32 → SY → Prop, (∃ n, ey_W post n F' G') → ∃ n, ey_W post n F G
theorem ey_rf {F : Nat → Int32} {G : Nat → Nat → Int32} : ey_go F G F G := fun _ h => h
theorem ey_tr {F F' F'' : Nat → Int32} {G G' G'' : Nat → Nat → Int32} (a : ey_go F G F' G') (b : ey_go F' G' F'' G'') : ey_go F G F'' G'' := fun post h => a post (b post h)
theorem ey_begin {F F' : Nat → Int32} {G G' : Nat → Nat → Int32} (he : F 13 = -1) (hn : ¬ F 1 < 0)
    (h : ∀ post : SY → Prop, post (ys_mk F' G') → wpY_begin post (ys_mk F G)) : ey_go F G F' G' := by
  rintro post ⟨n, hn'⟩
  refine ⟨n + 1, ?_⟩
  unfold ey_W wY_run_84
  exact br_t he (br_f hn (h _ hn'))
theorem ey_goOn {F F' : Nat → Int32} {G G' : Nat → Nat → Int32} (he : F 13 = -1) (hn : F 1 < 0)
    (h : ∀ post : SY → Prop, post (ys_mk F' G') → wpY_goOn post (ys_mk F G)) : ey_go F G F' G' := by
  rintro post ⟨n, hn'⟩
  refine ⟨n + 1, ?_⟩
  unfold ey_W wY_run_84
  exact br_t he (br_t hn (h _ hn'))
theorem yb_tired1 {F : Nat → Int32} {G : Nat → Nat → Int32} {post : Int32 → SY → Prop} (hs : F 15 = 150)
    (h : post 1 (ys_mk (upd F 13 2) G)) : wpY_tired post (ys_mk F G) := br_t hs h
theorem yb_tired0 {F : Nat → Int32} {G : Nat → Nat → Int32} {post : Int32 → SY → Prop} {s : Nat} (hs : F 15 = nI s) (hb : s < 150)
    (h : post 0 (ys_mk (upd F 15 (nI (s + 1))) G)) : wpY_tired post (ys_mk F G) := by
  have e : ¬ F 15 = 150 := by rw [hs]; intro z; exact absurd ((nI_eq (a := s) (b := 150) (by omega) (by omega)).mp z) (by omega)
  exact br_f e (nm_r (e' := nI (s + 1)) (by rw [hs, nI_1]) h)
theorem yb_begT {F : Nat → Int32} {G : Nat → Nat → Int32} {post : SY → Prop} (hs : F 15 = 150)
    (h : post (ys_mk (upd F 13 2) G)) : wpY_begin post (ys_mk F G) := by
  unfold wpY_begin
  exact yb_tired1 (F := F) (G := G) hs (br_f (by decide) h)
theorem yb_begN {F : Nat → Int32} {G : Nat → Nat → Int32} {post : SY → Prop} {s j : Nat} (hs : F 15 = nI s) (hb : s < 150)
    (hj : F 1 = nI j) (hjb : j < 204) (hso : G 0 j = 0)
    (h : post (ys_mk (upd (upd (upd F 15 (nI (s + 1))) 1 (-1)) 2 (G 1 j)) G)) : wpY_begin post (ys_mk F G) := by
  have cj : (nI j).toNatClampNeg = j := nI_clamp (by omega)
  unfold wpY_begin
  refine yb_tired0 (F := F) (G := G) hs hb (br_t rfl ?_)
  have hi : vp_in (F 1) 204 := by rw [hj]; exact vp_in_nI hjb (by omega)
  have e : G 0 (F 1).toNatClampNeg = 0 := by rw [hj, cj]; exact hso
  refine ⟨hi, br_t ?_ ⟨hi, nm_r (e' := G 1 j) ?_ ⟨hi, br_t e h⟩⟩⟩
  · show G 0 (F 1).toNatClampNeg ≤ 1
    rw [e]; decide
  · show G 1 (F 1).toNatClampNeg = _
    rw [hj, cj]
theorem yb_begV {F : Nat → Int32} {G : Nat → Nat → Int32} {post : SY → Prop} {s j v : Nat} (hs : F 15 = nI s) (hb : s < 150)
    (hj : F 1 = nI j) (hjb : j < 204) (hso : G 0 j = 1) (hv : G 1 j = nI v) (hvb : v < 3)
    (h : post (ys_mk (upd (upd (upd F 15 (nI (s + 1))) 1 (-1)) 2 (if v = 0 then F 3 else if v = 1 then F 4 else F 5)) G)) : wpY_begin post (ys_mk F G) := by
  have cj : (nI j).toNatClampNeg = j := nI_clamp (by omega)
  unfold wpY_begin
  refine yb_tired0 (F := F) (G := G) hs hb (br_t rfl ?_)
  have hi : vp_in (F 1) 204 := by rw [hj]; exact vp_in_nI hjb (by omega)
  have e : G 0 (F 1).toNatClampNeg = 1 := by rw [hj, cj]; exact hso
  have e0 : ¬ G 0 (F 1).toNatClampNeg = 0 := by rw [e]; decide
  refine ⟨hi, br_t ?_ ⟨hi, nm_r (e' := nI v) ?_ ⟨hi, br_f e0 ?_⟩⟩⟩
  · show G 0 (F 1).toNatClampNeg ≤ 1
    rw [e]; decide
  · show G 1 (F 1).toNatClampNeg = _
    rw [hj, cj, hv]
  · obtain rfl | rfl | rfl : v = 0 ∨ v = 1 ∨ v = 2 := by omega
    · exact br_t rfl h
    · exact br_f (by decide) (br_t rfl h)
    · exact br_f (by decide) (br_f (by decide) h)
/-- a thing is put before the others -/
def yb_pG (G : Nat → Nat → Int32) (F : Nat → Int32) (i : Nat) (w st sv : Int32) : Nat → Nat → Int32 :=
  uu_G (uu_G (uu_G (uu_G (uu_G (uu_G (uu_G (uu_G G 6 (upd (G 6) i w)) 7 (upd (G 7) i st)) 8 (upd (G 8) i sv)) 9 (upd (G 9) i (F 3))) 10 (upd (G 10) i (F 4))) 11 (upd (G 11) i (F 5))) 12 (upd (G 12) i (F 6))) 13 (upd (G 13) i (F 9))
theorem yb_push {F : Nat → Int32} {G : Nat → Nat → Int32} {post : SY → Prop} {i : Nat} {w st sv : Int32} (hi : F 7 = nI i) (hb : i < 304)
    (h : post (ys_mk (upd (upd F 7 (nI (i + 1))) 9 (nI i)) (yb_pG G F i w st sv))) : wpY_push post (ys_mk F G) w st sv := by
  have e : (F 7).toNatClampNeg = i := by rw [hi]; exact nI_clamp (by omega)
  have v : vp_in (F 7) 304 := by rw [hi]; exact vp_in_nI hb (by omega)
  unfold wpY_push
  simp only [e]
  refine ⟨v, nm_e ⟨v, nm_e ⟨v, nm_e ⟨v, nm_e ⟨v, nm_e ⟨v, nm_e ⟨v, nm_e ⟨v, nm_e (nm_r (e' := nI (i + 1)) (by rw [hi, nI_1]) ?_)⟩⟩⟩⟩⟩⟩⟩⟩
  rw [hi]
  exact h
theorem yb_open {F : Nat → Int32} {G : Nat → Nat → Int32} {post : SY → Prop} {j a : Nat} {x y : Int32} (hj : j < 204) (hx : x = nI j) (hy : y = nI a)
    (h : post (ys_mk (upd F 1 (nI (12 * (j / 12) + a))) G)) : wpY_open post (ys_mk F G) x y := by
  subst hx hy
  unfold wpY_open
  refine ⟨by decide, nm_r (e' := nI (12 * (j / 12) + a)) ?_ h⟩
  rw [uu_d12 (by omega), uu_m12', nI_add, Nat.mul_comm]
theorem yb_enter {F : Nat → Int32} {G : Nat → Nat → Int32} {post : SY → Prop} {d s : Nat} {a b : Int32} (hd : d < 17) (hs : G 4 d = nI (s + 1))
    (h : post (ys_mk (upd (upd (upd (upd (upd F 1 (nI (12 * d + s))) 3 a) 4 b) 5 0) 6 0) G)) : wpY_enter post (ys_mk F G) (nI d) a b := by
  have cd : (nI d).toNatClampNeg = d := nI_clamp (by omega)
  unfold wpY_enter
  refine ⟨vp_in_nI hd (by omega), nm_r (e' := nI (12 * d + s)) ?_ h⟩
  rw [cd, hs, uu_m12, nI_add]; exact nI_pred _
theorem yb_begB {F : Nat → Int32} {G : Nat → Nat → Int32} {post : SY → Prop} {s j so a i : Nat} (hs : F 15 = nI s) (hb : s < 150)
    (hj : F 1 = nI j) (hjb : j < 204) (hso : G 0 j = nI so) (hso1 : 1 < so) (hso2 : so < 1000) (ha : G 1 j = nI a) (hi : F 7 = nI i) (hib : i < 304)
    (h : post (ys_mk (upd (upd (upd (upd F 15 (nI (s + 1))) 7 (nI (i + 1))) 9 (nI i)) 1 (nI (12 * (j / 12) + a))) (yb_pG G F i (nI j) 1 0))) : wpY_begin post (ys_mk F G) := by
  have cj : (F 1).toNatClampNeg = j := by rw [hj]; exact nI_clamp (by omega)
  have v : vp_in (F 1) 204 := by rw [hj]; exact vp_in_nI hjb (by omega)
  rw [← hj] at h
  unfold wpY_begin
  refine yb_tired0 (F := F) (G := G) hs hb (br_t rfl ⟨v, br_f ?_ ?_⟩)
  · show ¬ G 0 (F 1).toNatClampNeg ≤ 1
    rw [cj, hso]; exact nI_ge (b := so) (a := 1) hso1 (by omega)
  · refine yb_push (F := upd F 15 (nI (s + 1))) (G := G) (i := i) hi hib ?_
    refine And.intro v ?_
    exact yb_open (F := upd (upd (upd F 15 (nI (s + 1))) 7 (nI (i + 1))) 9 (nI i)) (G := yb_pG G F i (F 1) 1 0) hjb hj (by show G 1 (F 1).toNatClampNeg = _; rw [cj, ha]) h
end
section
/-- the first thing is taken off: its variables and its catch -/
def yb_tF (F : Nat → Int32) (G : Nat → Nat → Int32) (i : Nat) : Nat → Int32 :=
  upd (upd (upd (upd (upd F 9 (G 13 i)) 3 (G 9 i)) 4 (G 10 i)) 5 (G 11 i)) 6 (G 12 i)
theorem yb_go1 {F : Nat → Int32} {G : Nat → Nat → Int32} {post : SY → Prop} {i : Nat} {w : Int32} (hi : F 9 = nI i) (hb : i < 304)
    (hs : G 7 i = 1) (hw : G 6 i = w) (h : wpY_first post (ys_mk (yb_tF F G i) G) w) : wpY_goOn post (ys_mk F G) := by
  have c : (F 9).toNatClampNeg = i := by rw [hi]; exact nI_clamp (by omega)
  have v : vp_in (F 9) 304 := by rw [hi]; exact vp_in_nI hb (by omega)
  have p : 0 ≤ F 9 := by rw [hi]; exact nI_pos' (by omega)
  unfold wpY_goOn
  simp only [c]
  refine br_t p ⟨v, nm_e ⟨v, nm_e ⟨v, nm_e ⟨v, nm_e ⟨v, nm_e ⟨v, br_t hs ⟨v, ?_⟩⟩⟩⟩⟩⟩⟩
  rw [hw]
  exact h
theorem yb_go2 {F : Nat → Int32} {G : Nat → Nat → Int32} {post : SY → Prop} {i j : Nat} {s : Int32} (hi : F 9 = nI i) (hb : i < 304)
    (hs : G 7 i = 2) (hw : G 6 i = nI j) (hj : j < 204) (hs' : G 0 j = s) (h : wpY_second post (ys_mk (yb_tF F G i) G) s (G 8 i)) : wpY_goOn post (ys_mk F G) := by
  have c : (F 9).toNatClampNeg = i := by rw [hi]; exact nI_clamp (by omega)
  have v : vp_in (F 9) 304 := by rw [hi]; exact vp_in_nI hb (by omega)
  have p : 0 ≤ F 9 := by rw [hi]; exact nI_pos' (by omega)
  have q : ¬ G 7 i = 1 := by rw [hs]; decide
  have cj : (nI j).toNatClampNeg = j := nI_clamp (by omega)
  unfold wpY_goOn
  simp only [c]
  refine br_t p ⟨v, nm_e ⟨v, nm_e ⟨v, nm_e ⟨v, nm_e ⟨v, nm_e ⟨v, br_f q ⟨v, ?_, v, ?_⟩⟩⟩⟩⟩⟩⟩
  · rw [hw]; exact vp_in_nI hj (by omega)
  · rw [hw, cj, hs']
    exact h
theorem yb_goP {F : Nat → Int32} {G : Nat → Nat → Int32} {post : SY → Prop} (ht : ¬ 0 ≤ F 9) (h : wpY_pass post (ys_mk F G)) : wpY_goOn post (ys_mk F G) := by
  unfold wpY_goOn
  exact br_f ht h
theorem yb_passE {F : Nat → Int32} {G : Nat → Nat → Int32} {post : SY → Prop} (ht : ¬ 0 ≤ F 10) (h : post (ys_mk (upd F 13 0) G)) : wpY_pass post (ys_mk F G) := by
  unfold wpY_pass
  exact br_f ht h
/-- the first mark is taken off -/
def yb_mF (F : Nat → Int32) (G : Nat → Nat → Int32) (m n : Nat) : Nat → Int32 := upd (upd (upd F 9 (G 16 m)) 10 (G 17 m)) 11 (nI n)
theorem yb_pass0 {F : Nat → Int32} {G : Nat → Nat → Int32} {post : SY → Prop} {m n k : Nat} (hm : F 10 = nI m) (hb : m < 1056) (hn : F 11 = nI (n + 1))
    (hk : G 14 m = nI k) (hkb : k < 3) (hz : G 4 (7 + 4 * k) = 0) (h : post (ys_mk (yb_mF F G m n) G)) : wpY_pass post (ys_mk F G) := by
  have c : (F 10).toNatClampNeg = m := by rw [hm]; exact nI_clamp (by omega)
  have v : vp_in (F 10) 1056 := by rw [hm]; exact vp_in_nI hb (by omega)
  have p : 0 ≤ F 10 := by rw [hm]; exact nI_pos' (by omega)
  have e : 7 + 4 * G 14 m = nI (7 + 4 * k) := by rw [hk, uu_m4, uu_a7]
  have c2 : (nI (7 + 4 * k)).toNatClampNeg = 7 + 4 * k := nI_clamp (by omega)
  unfold wpY_pass
  simp only [c]
  refine br_t p ⟨v, nm_e ⟨v, nm_e (nm_r (e' := nI n) (by rw [hn]; exact nI_pred n) ⟨v, nm_r e ⟨vp_in_nI (by omega) (by omega), br_t ?_ h⟩⟩)⟩⟩
  rw [c2, hz]; decide
theorem yb_pass1 {F : Nat → Int32} {G : Nat → Nat → Int32} {post : SY → Prop} {m n k s : Nat} (hm : F 10 = nI m) (hb : m < 1056) (hn : F 11 = nI (n + 1))
    (hk : G 14 m = nI k) (hkb : k < 3) (hz : G 4 (7 + 4 * k) = nI (s + 1)) (hsb : s < 12)
    (h : post (ys_mk (upd (upd (upd (upd (upd (yb_mF F G m n) 1 (nI (12 * (7 + 4 * k) + s))) 3 (F 2)) 4 (G 15 m)) 5 0) 6 0) G)) : wpY_pass post (ys_mk F G) := by
  have c : (F 10).toNatClampNeg = m := by rw [hm]; exact nI_clamp (by omega)
  have v : vp_in (F 10) 1056 := by rw [hm]; exact vp_in_nI hb (by omega)
  have p : 0 ≤ F 10 := by rw [hm]; exact nI_pos' (by omega)
  have e : 7 + 4 * G 14 m = nI (7 + 4 * k) := by rw [hk, uu_m4, uu_a7]
  have c2 : (nI (7 + 4 * k)).toNatClampNeg = 7 + 4 * k := nI_clamp (by omega)
  unfold wpY_pass
  simp only [c]
  refine br_t p ⟨v, nm_e ⟨v, nm_e (nm_r (e' := nI n) (by rw [hn]; exact nI_pred n) ⟨v, nm_r e ⟨vp_in_nI (by omega) (by omega), br_f ?_ ⟨v, ?_⟩⟩⟩)⟩⟩
  · rw [c2, hz]; exact nI_nle (by omega) (by omega)
  · exact yb_enter (F := yb_mF F G m n) (G := G) (by omega) hz h
/-! first: the first part of node j has the value -/
section
variable {F : Nat → Int32} {G : Nat → Nat → Int32} {post : SY → Prop} {j so : Nat}
theorem yb_soE {a b : Nat} (ha : a < 2 ^ 31) (hb : b < 2 ^ 31) (h : a ≠ b) : ¬ nI a = nI b := fun z => h ((nI_eq ha hb).mp z)
theorem yb_first2 (hj : j < 204) (hs : G 0 j = 2) (h : wpY_put post (ys_mk F G)) : wpY_first post (ys_mk F G) (nI j) := by
  have c : (nI j).toNatClampNeg = j := nI_clamp (by omega)
  unfold wpY_first
  refine ⟨vp_in_nI hj (by omega), nm_r (e' := 2) (by rw [c]; exact hs) (br_t rfl h)⟩
theorem yb_firstC {f : Nat} (hj : j < 204) (hs : G 0 j = nI (3 + f)) (hf : f < 4) (h : wpY_enter post (ys_mk F G) (nI f) (F 2) 0) : wpY_first post (ys_mk F G) (nI j) := by
  have c : (nI j).toNatClampNeg = j := nI_clamp (by omega)
  unfold wpY_first
  refine ⟨vp_in_nI hj (by omega), nm_r (e' := nI (3 + f)) (by rw [c]; exact hs) (br_f (yb_soE (b := 2) (by omega) (by omega) (by omega)) (br_f (nI_ge (b := 7) (by omega) (by omega)) ?_))⟩
  have e : nI (3 + f) - 3 = nI f := by rw [uu_s3 (by omega)]; exact congrArg nI (by omega)
  rw [e]
  exact h
theorem yb_firstP {o : Nat} (hj : j < 204) (hs : G 0 j = nI (7 + o)) (hf : o < 3) (h : wpY_perform post (ys_mk F G) (nI o)) : wpY_first post (ys_mk F G) (nI j) := by
  have c : (nI j).toNatClampNeg = j := nI_clamp (by omega)
  unfold wpY_first
  refine ⟨vp_in_nI hj (by omega), nm_r (e' := nI (7 + o)) (by rw [c]; exact hs) (br_f (yb_soE (b := 2) (by omega) (by omega) (by omega)) (br_t (nI_le (a := 7) (by omega) (by omega)) (br_f (nI_ge (b := 10) (by omega) (by omega)) ?_)))⟩
  have e : nI (7 + o) - 7 = nI o := by rw [show (7 : Int32) = nI 7 from rfl, pk_sub (by omega)]; exact congrArg nI (by omega)
  rw [e]
  exact h
theorem yb_f69 {i b : Nat} (hj : j < 204) (hb : G 2 j = nI b) (hi : F 7 = nI i) (hib : i < 304)
    (h : post (ys_mk (upd (upd (upd F 7 (nI (i + 1))) 9 (nI i)) 1 (nI (12 * (j / 12) + b))) (yb_pG G F i (nI j) 2 (F 2)))) :
    wY_first_69 post (nI j) (F 0) (F 1) (F 2) (F 3) (F 4) (F 5) (F 6) (F 7) (F 8) (F 9) (F 10) (F 11) (F 12) (F 13) (F 14) (F 15) (F 16) (F 17) (F 18) (F 19) (G 0) (G 1) (G 2) (G 3) (G 4) (G 5) (G 6) (G 7) (G 8) (G 9) (G 10) (G 11) (G 12) (G 13) (G 14) (G 15) (G 16) (G 17) (G 18) (G 19) (G 20) (G 21) (G 22) := by
  have c : (nI j).toNatClampNeg = j := nI_clamp (by omega)
  unfold wY_first_69
  refine yb_push (F := F) (G := G) (i := i) hi hib ?_
  refine And.intro (vp_in_nI hj (by omega)) ?_
  exact yb_open (F := upd (upd F 7 (nI (i + 1))) 9 (nI i)) (G := yb_pG G F i (nI j) 2 (F 2)) hj rfl (by show G 2 (nI j).toNatClampNeg = _; rw [c, hb]) h
theorem yb_firstB {i b : Nat} (hj : j < 204) (hs : G 0 j = nI so) (hso : (10 ≤ so ∧ so < 14) ∨ so = 20) (hb : G 2 j = nI b) (hi : F 7 = nI i) (hib : i < 304)
    (h : post (ys_mk (upd (upd (upd F 7 (nI (i + 1))) 9 (nI i)) 1 (nI (12 * (j / 12) + b))) (yb_pG G F i (nI j) 2 (F 2)))) :
    wpY_first post (ys_mk F G) (nI j) := by
  have c : (nI j).toNatClampNeg = j := nI_clamp (by omega)
  unfold wpY_first
  refine ⟨vp_in_nI hj (by omega), nm_r (e' := nI so) (by rw [c]; exact hs) (br_f (yb_soE (b := 2) (by omega) (by omega) (by omega)) (br_t (nI_le (a := 7) (by omega) (by omega)) (br_t (nI_le (a := 10) (by omega) (by omega)) ?_)))⟩
  by_cases h14 : so < 14
  · exact br_t (nI_lt (b := 14) h14 (by omega)) (yb_f69 hj hb hi hib h)
  · have : so = 20 := by omega
    subst this
    exact br_f (by decide) (br_t rfl (yb_f69 hj hb hi hib h))
theorem yb_firstX {b : Nat} (hj : j < 204) (hs : G 0 j = 21) (hb : (if F 2 = 0 then G 3 j else G 2 j) = nI b)
    (h : post (ys_mk (upd F 1 (nI (12 * (j / 12) + b))) G)) : wpY_first post (ys_mk F G) (nI j) := by
  have c : (nI j).toNatClampNeg = j := nI_clamp (by omega)
  have v : vp_in (nI j) 204 := vp_in_nI hj (by omega)
  unfold wpY_first
  refine ⟨v, nm_r (e' := 21) (by rw [c]; exact hs) (br_f (by decide) (br_t (by decide) (br_t (by decide) (br_f (by decide) (br_f (by decide) (br_t rfl ?_))))))⟩
  by_cases z : F 2 = 0
  · rw [if_pos z] at hb
    refine br_t z ⟨v, ?_⟩
    exact yb_open (F := F) (G := G) hj rfl (by rw [c, hb]) h
  · rw [if_neg z] at hb
    refine br_f z ⟨v, ?_⟩
    exact yb_open (F := F) (G := G) hj rfl (by rw [c, hb]) h
theorem yb_firstL {b v : Nat} (hj : j < 204) (hs : G 0 j = nI (14 + v)) (hv : v < 3) (hb : G 2 j = nI b)
    (h : post (ys_mk (upd (upd F (3 + v) (F 2)) 1 (nI (12 * (j / 12) + b))) G)) : wpY_first post (ys_mk F G) (nI j) := by
  have c : (nI j).toNatClampNeg = j := nI_clamp (by omega)
  have w : vp_in (nI j) 204 := vp_in_nI hj (by omega)
  unfold wpY_first
  refine ⟨w, nm_r (e' := nI (14 + v)) (by rw [c]; exact hs) ?_⟩
  obtain rfl | rfl | rfl : v = 0 ∨ v = 1 ∨ v = 2 := by omega
  · refine br_f (by decide) (br_t (by decide) (br_t (by decide) (br_f (by decide) (br_f (by decide) (br_f (by decide) (br_t (by decide) (br_t (by decide) (br_f (by decide) (br_f (by decide) (And.intro w ?_))))))))))
    exact yb_open (F := upd F 3 (F 2)) (G := G) hj rfl (by rw [c, hb]) h
  · refine br_f (by decide) (br_t (by decide) (br_t (by decide) (br_f (by decide) (br_f (by decide) (br_f (by decide) (br_t (by decide) (br_f (by decide) (br_t (by decide) (br_f (by decide) (And.intro w ?_))))))))))
    exact yb_open (F := upd F 4 (F 2)) (G := G) hj rfl (by rw [c, hb]) h
  · refine br_f (by decide) (br_t (by decide) (br_t (by decide) (br_f (by decide) (br_f (by decide) (br_f (by decide) (br_t (by decide) (br_f (by decide) (br_f (by decide) (br_t (by decide) (And.intro w ?_))))))))))
    exact yb_open (F := upd F 5 (F 2)) (G := G) hj rfl (by rw [c, hb]) h
theorem yb_firstH {k : Nat} (hj : j < 204) (hs : G 0 j = nI (17 + k)) (hk : k < 3) (h : wpY_handle post (ys_mk F G) (nI j) (nI k)) : wpY_first post (ys_mk F G) (nI j) := by
  have c : (nI j).toNatClampNeg = j := nI_clamp (by omega)
  have w : vp_in (nI j) 204 := vp_in_nI hj (by omega)
  unfold wpY_first
  refine ⟨w, nm_r (e' := nI (17 + k)) (by rw [c]; exact hs) (br_f (yb_soE (b := 2) (by omega) (by omega) (by omega)) (br_t (nI_le (a := 7) (by omega) (by omega)) (br_t (nI_le (a := 10) (by omega) (by omega)) (br_f (nI_nlt (b := 14) (by omega) (by omega)) (br_f (yb_soE (b := 20) (by omega) (by omega) (by omega)) (br_f (yb_soE (b := 21) (by omega) (by omega) (by omega)) (br_f (nI_ge (a := 16) (by omega) (by omega)) ?_)))))))⟩
  have e : nI (17 + k) - 17 = nI k := by rw [show (17 : Int32) = nI 17 from rfl, pk_sub (by omega)]; exact congrArg nI (by omega)
  rw [e]
  exact h
end
end
section
section
variable {F : Nat → Int32} {G : Nat → Nat → Int32} {post : SY → Prop} {j so : Nat}
theorem yb_put1 (hs : F 15 = 150) (h : post (ys_mk (upd F 13 2) G)) : wpY_put post (ys_mk F G) := by
  unfold wpY_put
  exact yb_tired1 (F := F) (G := G) hs (br_f (by decide) h)
theorem yb_put0 {s n : Nat} (hs : F 15 = nI s) (hb : s < 150) (hn : F 19 = nI n) (hnb : n < 150)
    (h : post (ys_mk (upd (upd F 15 (nI (s + 1))) 19 (nI (n + 1))) (uu_G G 22 (upd (G 22) n (F 2))))) : wpY_put post (ys_mk F G) := by
  have c : (F 19).toNatClampNeg = n := by rw [hn]; exact nI_clamp (by omega)
  unfold wpY_put
  refine yb_tired0 (F := F) (G := G) hs hb (br_t rfl (And.intro (show vp_in (F 19) 150 by rw [hn]; exact vp_in_nI hnb (by omega)) (nm_r (e' := upd (G 22) n (F 2)) ?_ (nm_r (e' := nI (n + 1)) ?_ h))))
  · show upd (G 22) (F 19).toNatClampNeg (F 2) = _
    rw [c]
  · show F 19 + 1 = _
    rw [hn, nI_1]
theorem yb_secA {op : Nat} {one : Int32} (ho : op < 4) (h : post (ys_mk (upd F 2 (kn_comb op one (F 2))) G)) : wpY_second post (ys_mk F G) (nI (10 + op)) one := by
  unfold wpY_second
  obtain rfl | rfl | rfl | rfl : op = 0 ∨ op = 1 ∨ op = 2 ∨ op = 3 := by omega
  · exact br_t rfl (nm_e (br_f (by decide) (br_f (by decide) (br_f (by decide) (br_f (by decide) h)))))
  · exact br_f (by decide) (br_t rfl (nm_e (br_f (by decide) (br_f (by decide) (br_f (by decide) h)))))
  · exact br_f (by decide) (br_f (by decide) (br_t rfl (nm_e (br_f (by decide) (br_f (by decide) h)))))
  · by_cases z : F 2 ≤ one
    · refine br_f (by decide) (br_f (by decide) (br_f (by decide) (br_t rfl (br_t z (br_f (by decide) ?_)))))
      have e : kn_comb 3 one (F 2) = 0 := by simp [kn_comb, z]
      rw [e] at h; exact h
    · refine br_f (by decide) (br_f (by decide) (br_f (by decide) (br_t rfl (br_f z (br_f (by decide) ?_)))))
      have e : kn_comb 3 one (F 2) = 1 := by simp [kn_comb, z]
      rw [e] at h; exact h
theorem yb_secT {one : Int32} (hs : F 15 = 150) (h : post (ys_mk (upd (upd F 2 one) 13 2) G)) : wpY_second post (ys_mk F G) 20 one := by
  unfold wpY_second
  refine br_f (by decide) (br_f (by decide) (br_f (by decide) (br_f (by decide) (br_t rfl ?_))))
  exact yb_tired1 (F := upd F 2 one) (G := G) hs (br_f (by decide) h)
theorem yb_sec0 {one : Int32} {s : Nat} (hs : F 15 = nI s) (hb : s < 150) (hh : F 6 = 0) (h : post (ys_mk (upd (upd F 2 one) 15 (nI (s + 1))) G)) : wpY_second post (ys_mk F G) 20 one := by
  unfold wpY_second
  refine br_f (by decide) (br_f (by decide) (br_f (by decide) (br_f (by decide) (br_t rfl ?_))))
  refine yb_tired0 (F := upd F 2 one) (G := G) hs hb (br_t rfl (br_t (show F 6 ≤ 0 by rw [hh]; decide) h))
theorem yb_secR {one : Int32} {s c : Nat} (hs : F 15 = nI s) (hb : s < 150) (hh : F 6 = nI c) (hc : 0 < c) (hcb : c < 152)
    (h : wpY_resume post (ys_mk (upd (upd F 2 one) 15 (nI (s + 1))) G) (F 2)) : wpY_second post (ys_mk F G) 20 one := by
  unfold wpY_second
  refine br_f (by decide) (br_f (by decide) (br_f (by decide) (br_f (by decide) (br_t rfl ?_))))
  refine yb_tired0 (F := upd F 2 one) (G := G) hs hb (br_t rfl (br_f (show ¬ F 6 ≤ 0 by rw [hh]; exact nI_nle hc (by omega)) h))
theorem yb_hanD {k : Int32} (hs : F 11 = 6) (h : post (ys_mk (upd F 13 3) G)) : wpY_handle post (ys_mk F G) (nI j) k := by
  unfold wpY_handle
  exact br_t hs h
/-- a mark is put before the others -/
def yb_aG (G : Nat → Nat → Int32) (m : Nat) (k s u f : Int32) : Nat → Nat → Int32 :=
  uu_G (uu_G (uu_G (uu_G G 14 (upd (G 14) m k)) 15 (upd (G 15) m s)) 16 (upd (G 16) m u)) 17 (upd (G 17) m f)
theorem yb_add {post : Int32 → SY → Prop} {m : Nat} {k s u f : Int32} (hm : F 8 = nI m) (hb : m < 1056)
    (h : post (nI m) (ys_mk (upd F 8 (nI (m + 1))) (yb_aG G m k s u f))) : wpY_addMark post (ys_mk F G) k s u f := by
  have c : (F 8).toNatClampNeg = m := by rw [hm]; exact nI_clamp (by omega)
  have v : vp_in (F 8) 1056 := by rw [hm]; exact vp_in_nI hb (by omega)
  unfold wpY_addMark
  simp only [c]
  refine ⟨v, nm_e ⟨v, nm_e ⟨v, nm_e ⟨v, nm_e (nm_r (e' := nI (m + 1)) (by rw [hm, nI_1]) ?_)⟩⟩⟩⟩
  rw [hm]
  exact h
theorem yb_cnt {n more dp : Nat} (hn : F 11 = nI n) (hnb : n + more < 1000) (hd : F 18 = nI dp) (hdb : dp < 1000)
    (h : post (ys_mk (upd (upd F 11 (nI (n + more))) 18 (nI (if n + more ≤ dp then dp else n + more))) G)) : wpY_count post (ys_mk F G) (nI more) := by
  have e : F 11 + nI more = nI (n + more) := by rw [hn, nI_add]
  unfold wpY_count
  by_cases z : n + more ≤ dp
  · rw [if_pos z, ← hd] at h
    refine nm_r e (br_t ?_ h)
    rw [hd]; exact nI_le z (by omega)
  · rw [if_neg z] at h
    refine nm_r e (br_f ?_ h)
    rw [hd]; exact nI_ge (by omega) (by omega)
theorem yb_hanG {k m n dp b : Nat} (hj : j < 204) (hb : G 2 j = nI b) (hm : F 8 = nI m) (hmb : m < 1056) (hn : F 11 = nI n) (hnb : n < 6) (hd : F 18 = nI dp) (hdb : dp < 1000)
    (h : post (ys_mk (upd (upd (upd (upd (upd (upd F 8 (nI (m + 1))) 9 (-1)) 10 (nI m)) 11 (nI (n + 1))) 18 (nI (if n + 1 ≤ dp then dp else n + 1))) 1 (nI (12 * (j / 12) + b))) (yb_aG G m (nI k) (F 2) (F 9) (F 10)))) :
    wpY_handle post (ys_mk F G) (nI j) (nI k) := by
  have c : (nI j).toNatClampNeg = j := nI_clamp (by omega)
  unfold wpY_handle
  refine br_f (show ¬ F 11 = 6 by rw [hn]; exact yb_soE (b := 6) (by omega) (by omega) (by omega)) ?_
  refine yb_add (F := F) (G := G) hm hmb ?_
  refine yb_cnt (F := upd (upd (upd F 8 (nI (m + 1))) 9 (-1)) 10 (nI m)) (G := yb_aG G m (nI k) (F 2) (F 9) (F 10)) (more := 1) hn (by omega) hd hdb (And.intro (vp_in_nI hj (by omega)) ?_)
  exact yb_open (F := upd (upd (upd (upd (upd F 8 (nI (m + 1))) 9 (-1)) 10 (nI m)) 11 (nI (n + 1))) 18 (nI (if n + 1 ≤ dp then dp else n + 1))) (G := yb_aG G m (nI k) (F 2) (F 9) (F 10)) hj rfl (by show G 2 (nI j).toNatClampNeg = _; rw [c, hb]) h
end
end
section
/-! lists of things and marks of the reference -/
def ly_T (G : Nat → Nat → Int32) : List ct_T → Nat → Int32 → Prop
  | [] => fun _ t => t = -1
  | (n, st, sv, x0, x1, x2, h) :: L => fun b t => ∃ i, i < b ∧ t = nI i ∧ G 6 i = nI n ∧ G 7 i = nI st ∧ G 8 i = sv
      ∧ G 9 i = x0 ∧ G 10 i = x1 ∧ G 11 i = x2 ∧ G 12 i = nI h ∧ n < 192 ∧ ly_T G L i (G 13 i)
def ly_M (G : Nat → Nat → Int32) (bT : Nat) : List ct_YM → Nat → Int32 → Int32 → Prop
  | [] => fun _ m e => m = e
  | (h, s, L) :: r => fun b m e => ∃ i, i < b ∧ m = nI i ∧ G 14 i = nI h ∧ G 15 i = s ∧ h < 3 ∧ ly_T G L bT (G 16 i) ∧ ly_M G bT r i (G 17 i) e
theorem ly_Tm {G : Nat → Nat → Int32} {L : List ct_T} {b b' : Nat} {t : Int32} (hb : b ≤ b') (h : ly_T G L b t) : ly_T G L b' t := by
  cases L with
  | nil => exact h
  | cons th L =>
    obtain ⟨n, st, sv, x0, x1, x2, hh⟩ := th
    obtain ⟨i, hi, r⟩ := h
    exact ⟨i, by omega, r⟩
theorem ly_Tx {G G' : Nat → Nat → Int32} {b : Nat} (hag : ∀ k, 6 ≤ k → k ≤ 13 → ∀ i, i < b → G' k i = G k i) :
    ∀ (L : List ct_T) (b1 : Nat) (t : Int32), b1 ≤ b → ly_T G L b1 t → ly_T G' L b1 t := by
  intro L
  induction L with
  | nil => intro b1 t _ h; exact h
  | cons th L ih =>
    obtain ⟨n, st, sv, x0, x1, x2, hh⟩ := th
    rintro b1 t hb ⟨i, hi, h1, h2, h3, h4, h5, h6, h7, h8, h9, h10⟩
    have hib : i < b := by omega
    refine ⟨i, hi, h1, ?_, ?_, ?_, ?_, ?_, ?_, ?_, h9, ?_⟩
    · rw [hag 6 (by decide) (by decide) i hib]; exact h2
    · rw [hag 7 (by decide) (by decide) i hib]; exact h3
    · rw [hag 8 (by decide) (by decide) i hib]; exact h4
    · rw [hag 9 (by decide) (by decide) i hib]; exact h5
    · rw [hag 10 (by decide) (by decide) i hib]; exact h6
    · rw [hag 11 (by decide) (by decide) i hib]; exact h7
    · rw [hag 12 (by decide) (by decide) i hib]; exact h8
    · rw [hag 13 (by decide) (by decide) i hib]; exact ih i _ (by omega) h10
theorem ly_Tlen {G : Nat → Nat → Int32} : ∀ (L : List ct_T) (b : Nat) (t : Int32), ly_T G L b t → L.length ≤ b := by
  intro L
  induction L with
  | nil => intro b t _; exact Nat.zero_le _
  | cons th L ih =>
    obtain ⟨n, st, sv, x0, x1, x2, hh⟩ := th
    rintro b t ⟨i, hi, _, _, _, _, _, _, _, _, _, h⟩
    have := ih i _ h
    simp only [List.length_cons]; omega
theorem ly_Mx {G G' : Nat → Nat → Int32} {bT bT' bM : Nat} (hT : bT ≤ bT') (hag : ∀ k, 6 ≤ k → k ≤ 13 → ∀ i, i < bT → G' k i = G k i)
    (hag' : ∀ k, 14 ≤ k → k ≤ 17 → ∀ i, i < bM → G' k i = G k i) :
    ∀ (r : List ct_YM) (b1 : Nat) (m e : Int32), b1 ≤ bM → ly_M G bT r b1 m e → ly_M G' bT' r b1 m e := by
  intro r
  induction r with
  | nil => intro b1 m e _ h; exact h
  | cons th r ih =>
    obtain ⟨h, s, L⟩ := th
    rintro b1 m e hb ⟨i, hi, h1, h2, h3, h4, h5, h6⟩
    have hib : i < bM := by omega
    refine ⟨i, hi, h1, ?_, ?_, h4, ?_, ?_⟩
    · rw [hag' 14 (by decide) (by decide) i hib]; exact h2
    · rw [hag' 15 (by decide) (by decide) i hib]; exact h3
    · rw [hag' 16 (by decide) (by decide) i hib]; exact ly_Tm hT (ly_Tx hag L bT _ (Nat.le_refl _) h5)
    · rw [hag' 17 (by decide) (by decide) i hib]; exact ih i _ _ (by omega) h6
theorem ly_Mm {G : Nat → Nat → Int32} {bT b b' : Nat} {r : List ct_YM} {m e : Int32} (hb : b ≤ b') (h : ly_M G bT r b m e) : ly_M G bT r b' m e := by
  cases r with
  | nil => exact h
  | cons th r =>
    obtain ⟨hh, s, L⟩ := th
    obtain ⟨i, hi, rr⟩ := h
    exact ⟨i, by omega, rr⟩
/-- the catches -/
def ry_K (G : Nat → Nat → Int32) (nT nM : Nat) (YC : Nat → List ct_T × List ct_YM) (nc : Nat) : Prop :=
  ∀ c, 1 ≤ c → c ≤ nc → ∃ e, ly_T G (YC c).1 nT (G 18 c) ∧ ly_M G nT (YC c).2 nM (G 19 c) e ∧ G 20 c = nI (YC c).2.length ∧ 1 ≤ (YC c).2.length ∧ (YC c).2.length ≤ 6
theorem ry_Kx {G G' : Nat → Nat → Int32} {nT nM nT' nM' : Nat} {YC : Nat → List ct_T × List ct_YM} {nc : Nat} (hT : nT ≤ nT') (hM : nM ≤ nM')
    (hag : ∀ k, 6 ≤ k → k ≤ 13 → ∀ i, i < nT → G' k i = G k i) (hag' : ∀ k, 14 ≤ k → k ≤ 17 → ∀ i, i < nM → G' k i = G k i)
    (hc : ∀ k, 18 ≤ k → k ≤ 20 → G' k = G k) (h : ry_K G nT nM YC nc) : ry_K G' nT' nM' YC nc := by
  intro c h1 h2
  obtain ⟨e, a, b, d⟩ := h c h1 h2
  refine ⟨e, ?_, ?_, ?_⟩
  · rw [hc 18 (by decide) (by decide)]; exact ly_Tm hT (ly_Tx hag _ _ _ (Nat.le_refl _) a)
  · rw [hc 19 (by decide) (by decide)]; exact ly_Mm hM (ly_Mx hT hag hag' _ _ _ _ (Nat.le_refl _) b)
  · rw [hc 20 (by decide) (by decide)]; exact d
/-- what the reference counts -/
def ry_N (F : Nat → Int32) (G : Nat → Nat → Int32) (pf rs dp no : Nat) (og : Nat → Int32) : Prop :=
  F 16 = nI pf ∧ F 17 = nI rs ∧ F 18 = nI dp ∧ F 19 = nI no ∧ F 14 = -4 ∧ ∀ i, i < no → G 22 i = og i
/-- the rest of the reference's run -/
def ry_S (F : Nat → Int32) (G : Nat → Nat → Int32) (nT nM : Nat) (L : List ct_T) (yms : List ct_YM) (YC : Nat → List ct_T × List ct_YM) (nc st : Nat) : Prop :=
  F 7 = nI nT ∧ F 8 = nI nM ∧ F 12 = nI nc ∧ F 11 = nI yms.length ∧ F 15 = nI st ∧ F 13 = -1
  ∧ ly_T G L nT (F 9) ∧ ly_M G nT yms nM (F 10) (-1) ∧ ry_K G nT nM YC nc
def ry_B (F : Nat → Int32) (j : Nat) (x0 x1 x2 : Int32) (h : Nat) : Prop := F 1 = nI j ∧ F 3 = x0 ∧ F 4 = x1 ∧ F 5 = x2 ∧ F 6 = nI h
def ry_V (F : Nat → Int32) (v : Int32) : Prop := F 1 = -1 ∧ F 2 = v
/-- terms and the stack stay as they are -/
def ry_I (F : Nat → Int32) (G : Nat → Nat → Int32) (F' : Nat → Int32) (G' : Nat → Nat → Int32) : Prop := F' 0 = F 0 ∧ ∀ k, k < 6 → G' k = G k
theorem ry_Irf {F : Nat → Int32} {G : Nat → Nat → Int32} : ry_I F G F G := ⟨rfl, fun _ _ => rfl⟩
theorem ry_Itr {F F' F'' : Nat → Int32} {G G' G'' : Nat → Nat → Int32} (a : ry_I F G F' G') (b : ry_I F' G' F'' G'') : ry_I F G F'' G'' :=
  ⟨b.1.trans a.1, fun k hk => (b.2 k hk).trans (a.2 k hk)⟩
end
section
/-! events of the reference, over lists -/
section
variable {F : Nat → Int32} {G : Nat → Nat → Int32} {nT nM : Nat} {L : List ct_T} {yms : List ct_YM} {YC : Nat → List ct_T × List ct_YM} {nc st pf rs dp no : Nat} {og : Nat → Int32}
variable {j h : Nat} {x0 x1 x2 v : Int32}
theorem yr_nn {j : Nat} {F : Nat → Int32} (hj : F 1 = nI j) (h : j < 204) : ¬ F 1 < 0 := by rw [hj]; exact nI_pos (by omega)
theorem yr_neg {F : Nat → Int32} (hj : F 1 = -1) : F 1 < 0 := by rw [hj]; decide
theorem yr_tired (S : ry_S F G nT nM L yms YC nc 150) (N : ry_N F G pf rs dp no og) (B : ry_B F j x0 x1 x2 h) (hj : j < 204) :
    ∃ F', ey_go F G F' G ∧ F' 13 = 2 ∧ F' 15 = nI 150 ∧ ry_N F' G pf rs dp no og ∧ ry_I F G F' G := by
  obtain ⟨s1, s2, s3, s4, s5, s6, s7, s8, s9⟩ := S
  exact ⟨_, ey_begin s6 (yr_nn B.1 hj) (fun post h => yb_begT s5 h), rfl, s5, N, rfl, fun _ _ => rfl⟩
theorem yr_num (S : ry_S F G nT nM L yms YC nc st) (N : ry_N F G pf rs dp no og) (B : ry_B F j x0 x1 x2 h) (hb : st < 150) (hj : j < 204) (hso : G 0 j = 0) :
    ∃ F', ey_go F G F' G ∧ ry_S F' G nT nM L yms YC nc (st + 1) ∧ ry_N F' G pf rs dp no og ∧ ry_V F' (G 1 j) ∧ ry_I F G F' G := by
  obtain ⟨s1, s2, s3, s4, s5, s6, s7, s8, s9⟩ := S
  exact ⟨_, ey_begin s6 (yr_nn B.1 hj) (fun post h => yb_begN s5 hb B.1 hj hso h), ⟨s1, s2, s3, s4, rfl, s6, s7, s8, s9⟩, N, ⟨rfl, rfl⟩, rfl, fun _ _ => rfl⟩
theorem yr_var {w : Nat} (S : ry_S F G nT nM L yms YC nc st) (N : ry_N F G pf rs dp no og) (B : ry_B F j x0 x1 x2 h) (hb : st < 150) (hj : j < 204) (hso : G 0 j = 1)
    (hv : G 1 j = nI w) (hw : w < 3) :
    ∃ F', ey_go F G F' G ∧ ry_S F' G nT nM L yms YC nc (st + 1) ∧ ry_N F' G pf rs dp no og ∧ ry_V F' (if w = 0 then x0 else if w = 1 then x1 else x2) ∧ ry_I F G F' G := by
  obtain ⟨s1, s2, s3, s4, s5, s6, s7, s8, s9⟩ := S
  obtain ⟨b1, b2, b3, b4, b5⟩ := B
  refine ⟨_, ey_begin s6 (yr_nn b1 hj) (fun post h => yb_begV s5 hb b1 hj hso hv hw h), ⟨s1, s2, s3, s4, rfl, s6, s7, s8, s9⟩, N, ⟨rfl, ?_⟩, rfl, fun _ _ => rfl⟩
  show (if w = 0 then F 3 else if w = 1 then F 4 else F 5) = _
  rw [b2, b3, b4]
theorem yr_agP {F : Nat → Int32} {G : Nat → Nat → Int32} {n : Nat} {w st sv : Int32} : ∀ k, 6 ≤ k → k ≤ 13 → ∀ i, i < n → yb_pG G F n w st sv k i = G k i := by
  intro k h1 h2 i hi
  have hn : i ≠ n := by omega
  obtain rfl | rfl | rfl | rfl | rfl | rfl | rfl | rfl : k = 6 ∨ k = 7 ∨ k = 8 ∨ k = 9 ∨ k = 10 ∨ k = 11 ∨ k = 12 ∨ k = 13 := by omega
  all_goals exact pk_un hn
theorem yr_agP' {F : Nat → Int32} {G : Nat → Nat → Int32} {n : Nat} {w st sv : Int32} (k : Nat) (h : 14 ≤ k) : yb_pG G F n w st sv k = G k := by
  unfold yb_pG
  rw [uu_Gn (by omega), uu_Gn (by omega), uu_Gn (by omega), uu_Gn (by omega), uu_Gn (by omega), uu_Gn (by omega), uu_Gn (by omega), uu_Gn (by omega)]
theorem yr_agP0 {F : Nat → Int32} {G : Nat → Nat → Int32} {n : Nat} {w st sv : Int32} (k : Nat) (h : k < 6) : yb_pG G F n w st sv k = G k := by
  unfold yb_pG
  rw [uu_Gn (by omega), uu_Gn (by omega), uu_Gn (by omega), uu_Gn (by omega), uu_Gn (by omega), uu_Gn (by omega), uu_Gn (by omega), uu_Gn (by omega)]
/-- a thing more -/
theorem yr_pushS {F F' : Nat → Int32} {j stg : Nat} {sv : Int32} {st' : Nat} (S : ry_S F G nT nM L yms YC nc st) (hx : F 3 = x0 ∧ F 4 = x1 ∧ F 5 = x2 ∧ F 6 = nI h) (hj : j < 192)
    (e1 : F' 7 = nI (nT + 1)) (e2 : F' 8 = F 8) (e3 : F' 12 = F 12) (e4 : F' 11 = F 11) (e5 : F' 15 = nI st') (e6 : F' 13 = F 13)
    (e7 : F' 9 = nI nT) (e8 : F' 10 = F 10) :
    ry_S F' (yb_pG G F nT (nI j) (nI stg) sv) (nT + 1) nM ((j, stg, sv, x0, x1, x2, h) :: L) yms YC nc st' := by
  obtain ⟨s1, s2, s3, s4, s5, s6, s7, s8, s9⟩ := S
  obtain ⟨h0, h1, h2, h3⟩ := hx
  refine ⟨e1, e2.trans s2, e3.trans s3, e4.trans s4, e5, e6.trans s6, ?_, ?_, ?_⟩
  · refine ⟨nT, by omega, e7, pk_us, pk_us, pk_us, ?_, ?_, ?_, ?_, hj, ?_⟩
    · exact pk_us.trans h0
    · exact pk_us.trans h1
    · exact pk_us.trans h2
    · exact pk_us.trans h3
    · have : yb_pG G F nT (nI j) (nI stg) sv 13 nT = F 9 := pk_us
      rw [this]
      exact ly_Tx yr_agP L nT _ (Nat.le_refl _) s7
  · rw [e8]
    exact ly_Mx (bM := nM) (by omega) yr_agP (fun k h _ i _ => by rw [yr_agP' k h]) yms nM _ _ (Nat.le_refl _) s8
  · exact ry_Kx (by omega) (Nat.le_refl _) yr_agP (fun k h _ i _ => by rw [yr_agP' k h]) (fun k h _ => yr_agP' k (by omega)) s9
theorem yr_node {so a : Nat} (S : ry_S F G nT nM L yms YC nc st) (N : ry_N F G pf rs dp no og) (B : ry_B F j x0 x1 x2 h) (hb : st < 150) (hj : j < 192) (hT : nT < 304)
    (hso : G 0 j = nI so) (h1 : 1 < so) (h2 : so < 1000) (ha : G 1 j = nI a) :
    ∃ F' G', ey_go F G F' G' ∧ ry_S F' G' (nT + 1) nM ((j, 1, 0, x0, x1, x2, h) :: L) yms YC nc (st + 1) ∧ ry_N F' G' pf rs dp no og ∧ ry_B F' (12 * (j / 12) + a) x0 x1 x2 h ∧ ry_I F G F' G' := by
  obtain ⟨b1, b2, b3, b4, b5⟩ := B
  refine ⟨_, _, ey_begin S.2.2.2.2.2.1 (yr_nn b1 (by omega)) (fun post h => yb_begB S.2.2.2.2.1 hb b1 (by omega) hso h1 h2 ha S.1 hT h), ?_, ?_, ⟨rfl, b2, b3, b4, b5⟩, rfl, fun k hk => yr_agP0 k hk⟩
  · exact yr_pushS S ⟨b2, b3, b4, b5⟩ hj rfl rfl rfl rfl rfl rfl rfl rfl
  · exact N
/-- the first thing of the rest is taken off -/
theorem yr_top {F : Nat → Int32} {n stg : Nat} {sv : Int32} (S : ry_S F G nT nM ((n, stg, sv, x0, x1, x2, h) :: L) yms YC nc st) :
    ∃ i, i < nT ∧ F 9 = nI i ∧ G 6 i = nI n ∧ G 7 i = nI stg ∧ G 8 i = sv ∧ n < 192
      ∧ ry_S (yb_tF F G i) G nT nM L yms YC nc st ∧ (yb_tF F G i 3 = x0 ∧ yb_tF F G i 4 = x1 ∧ yb_tF F G i 5 = x2 ∧ yb_tF F G i 6 = nI h) := by
  obtain ⟨s1, s2, s3, s4, s5, s6, ⟨i, h1, h2, h3, h4, h5, h6, h7, h8, h9, h10, h11⟩, s8, s9⟩ := S
  exact ⟨i, h1, h2, h3, h4, h5, h10, ⟨s1, s2, s3, s4, s5, s6, ly_Tm (by omega) h11, s8, s9⟩, h6, h7, h8, h9⟩
/-- a value comes to a binary node's first part -/
theorem yr_bin {n so b : Nat} {sv : Int32} (S : ry_S F G nT nM ((n, 1, sv, x0, x1, x2, h) :: L) yms YC nc st) (N : ry_N F G pf rs dp no og) (V : ry_V F v) (hT : nT < 304)
    (hso : G 0 n = nI so) (hs' : (10 ≤ so ∧ so < 14) ∨ so = 20) (hb : G 2 n = nI b) :
    ∃ F' G', ey_go F G F' G' ∧ ry_S F' G' (nT + 1) nM ((n, 2, v, x0, x1, x2, h) :: L) yms YC nc st ∧ ry_N F' G' pf rs dp no og ∧ ry_B F' (12 * (n / 12) + b) x0 x1 x2 h ∧ ry_I F G F' G' := by
  obtain ⟨i, i1, i2, i3, i4, i5, i6, S', E⟩ := yr_top S
  refine ⟨_, _, ey_goOn S.2.2.2.2.2.1 (yr_neg V.1) (fun post hh => yb_go1 i2 (by omega) i4 i3 (yb_firstB (F := yb_tF F G i) (by omega) hso hs' hb S'.1 hT hh)), ?_, ?_, ⟨rfl, E⟩, rfl, fun k hk => yr_agP0 k hk⟩
  · have e : yb_tF F G i 2 = v := V.2
    rw [e]
    exact yr_pushS S' E i6 rfl rfl rfl rfl S'.2.2.2.2.1 rfl rfl rfl
  · exact N
theorem yr_let {n w b : Nat} {sv : Int32} (S : ry_S F G nT nM ((n, 1, sv, x0, x1, x2, h) :: L) yms YC nc st) (N : ry_N F G pf rs dp no og) (V : ry_V F v) (hT : nT ≤ 304)
    (hso : G 0 n = nI (14 + w)) (hw : w < 3) (hb : G 2 n = nI b) :
    ∃ F', ey_go F G F' G ∧ ry_S F' G nT nM L yms YC nc st ∧ ry_N F' G pf rs dp no og
      ∧ ry_B F' (12 * (n / 12) + b) (if w = 0 then v else x0) (if w = 1 then v else x1) (if w = 2 then v else x2) h ∧ ry_I F G F' G := by
  obtain ⟨i, i1, i2, i3, i4, i5, i6, S', ⟨E0, E1, E2, E3⟩⟩ := yr_top S
  have e : yb_tF F G i 2 = v := V.2
  refine ⟨_, ey_goOn S.2.2.2.2.2.1 (yr_neg V.1) (fun post hh => yb_go1 i2 (by omega) i4 i3 (yb_firstL (F := yb_tF F G i) (by omega) hso hw hb hh)), ?_, ?_, ?_, ?_, fun k hk => rfl⟩
  all_goals obtain rfl | rfl | rfl : w = 0 ∨ w = 1 ∨ w = 2 := by omega
  all_goals first
    | exact S'
    | exact N
    | exact ⟨rfl, e, E1, E2, E3⟩
    | exact ⟨rfl, E0, e, E2, E3⟩
    | exact ⟨rfl, E0, E1, e, E3⟩
    | rfl
theorem yr_cho {n b : Nat} {sv : Int32} (S : ry_S F G nT nM ((n, 1, sv, x0, x1, x2, h) :: L) yms YC nc st) (N : ry_N F G pf rs dp no og) (V : ry_V F v) (hT : nT ≤ 304)
    (hso : G 0 n = 21) (hb : (if v = 0 then G 3 n else G 2 n) = nI b) :
    ∃ F', ey_go F G F' G ∧ ry_S F' G nT nM L yms YC nc st ∧ ry_N F' G pf rs dp no og ∧ ry_B F' (12 * (n / 12) + b) x0 x1 x2 h ∧ ry_I F G F' G := by
  obtain ⟨i, i1, i2, i3, i4, i5, i6, S', E⟩ := yr_top S
  have e : yb_tF F G i 2 = v := V.2
  exact ⟨_, ey_goOn S.2.2.2.2.2.1 (yr_neg V.1) (fun post hh => yb_go1 i2 (by omega) i4 i3 (yb_firstX (F := yb_tF F G i) (b := b) (by omega) hso (by rw [e]; exact hb) hh)), S', N, ⟨rfl, E⟩, rfl, fun k hk => rfl⟩
theorem yr_ari {n op : Nat} {sv : Int32} (S : ry_S F G nT nM ((n, 2, sv, x0, x1, x2, h) :: L) yms YC nc st) (N : ry_N F G pf rs dp no og) (V : ry_V F v) (hT : nT ≤ 304)
    (hso : G 0 n = nI (10 + op)) (ho : op < 4) :
    ∃ F', ey_go F G F' G ∧ ry_S F' G nT nM L yms YC nc st ∧ ry_N F' G pf rs dp no og ∧ ry_V F' (kn_comb op sv v) ∧ ry_I F G F' G := by
  obtain ⟨i, i1, i2, i3, i4, i5, i6, S', E⟩ := yr_top S
  have e : yb_tF F G i 2 = v := V.2
  refine ⟨_, ey_goOn S.2.2.2.2.2.1 (yr_neg V.1) (fun post hh => yb_go2 i2 (by omega) i4 i3 (by omega) hso (yb_secA (F := yb_tF F G i) ho hh)), S', N, ⟨V.1, ?_⟩, rfl, fun k hk => rfl⟩
  show kn_comb op (G 8 i) (yb_tF F G i 2) = _
  rw [e, i5]
theorem yr_call {n f s : Nat} {sv : Int32} (S : ry_S F G nT nM ((n, 1, sv, x0, x1, x2, h) :: L) yms YC nc st) (N : ry_N F G pf rs dp no og) (V : ry_V F v) (hT : nT ≤ 304)
    (hso : G 0 n = nI (3 + f)) (hf : f < 4) (hs : G 4 f = nI (s + 1)) :
    ∃ F', ey_go F G F' G ∧ ry_S F' G nT nM L yms YC nc st ∧ ry_N F' G pf rs dp no og ∧ ry_B F' (12 * f + s) v 0 0 0 ∧ ry_I F G F' G := by
  obtain ⟨i, i1, i2, i3, i4, i5, i6, S', E⟩ := yr_top S
  have e : yb_tF F G i 2 = v := V.2
  exact ⟨_, ey_goOn S.2.2.2.2.2.1 (yr_neg V.1) (fun post hh => yb_go1 i2 (by omega) i4 i3 (yb_firstC (F := yb_tF F G i) (by omega) hso hf (yb_enter (F := yb_tF F G i) (by omega) hs hh))), S', N, ⟨rfl, e, rfl, rfl, rfl⟩, rfl, fun k hk => rfl⟩
theorem yr_putT {n : Nat} {sv : Int32} (S : ry_S F G nT nM ((n, 1, sv, x0, x1, x2, h) :: L) yms YC nc 150) (N : ry_N F G pf rs dp no og) (V : ry_V F v) (hT : nT ≤ 304)
    (hso : G 0 n = 2) : ∃ F', ey_go F G F' G ∧ F' 13 = 2 ∧ F' 15 = nI 150 ∧ ry_N F' G pf rs dp no og ∧ ry_I F G F' G := by
  obtain ⟨i, i1, i2, i3, i4, i5, i6, S', E⟩ := yr_top S
  exact ⟨_, ey_goOn S.2.2.2.2.2.1 (yr_neg V.1) (fun post hh => yb_go1 i2 (by omega) i4 i3 (yb_first2 (F := yb_tF F G i) (by omega) hso (yb_put1 (F := yb_tF F G i) S'.2.2.2.2.1 hh))), rfl, S'.2.2.2.2.1, N, rfl, fun k hk => rfl⟩
theorem yr_put {n : Nat} {sv : Int32} (S : ry_S F G nT nM ((n, 1, sv, x0, x1, x2, h) :: L) yms YC nc st) (N : ry_N F G pf rs dp no og) (V : ry_V F v) (hT : nT ≤ 304)
    (hso : G 0 n = 2) (hb : st < 150) (hno : no < 150) :
    ∃ F' G', ey_go F G F' G' ∧ ry_S F' G' nT nM L yms YC nc (st + 1) ∧ ry_N F' G' pf rs dp (no + 1) (upd og no v) ∧ ry_V F' v ∧ ry_I F G F' G' := by
  obtain ⟨i, i1, i2, i3, i4, i5, i6, S', E⟩ := yr_top S
  have e : yb_tF F G i 2 = v := V.2
  obtain ⟨s1, s2, s3, s4, s5, s6, s7, s8, s9⟩ := S'
  obtain ⟨n1, n2, n3, n4, n5, n6⟩ := N
  refine ⟨_, _, ey_goOn S.2.2.2.2.2.1 (yr_neg V.1) (fun post hh => yb_go1 i2 (by omega) i4 i3 (yb_first2 (F := yb_tF F G i) (by omega) hso (yb_put0 (F := yb_tF F G i) s5 hb n4 hno hh))), ⟨s1, s2, s3, s4, rfl, s6, ?_, ?_, ?_⟩, ⟨n1, n2, n3, rfl, n5, ?_⟩, ⟨V.1, e⟩, rfl, fun k hk => uu_Gn (by omega)⟩
  · exact ly_Tx (b := nT) (fun k h1 h2 i hi => by rw [uu_Gn (by omega)]) _ _ _ (Nat.le_refl _) s7
  · exact ly_Mx (bM := nM) (Nat.le_refl _) (fun k h1 h2 i hi => by rw [uu_Gn (by omega)]) (fun k h1 h2 i hi => by rw [uu_Gn (by omega)]) _ _ _ _ (Nat.le_refl _) s8
  · exact ry_Kx (Nat.le_refl _) (Nat.le_refl _) (fun k h1 h2 i hi => by rw [uu_Gn (by omega)]) (fun k h1 h2 i hi => by rw [uu_Gn (by omega)]) (fun k h1 h2 => uu_Gn (by omega)) s9
  · intro q hq
    show upd (G 22) no (yb_tF F G i 2) q = upd og no v q
    rw [e]
    by_cases z : q = no
    · rw [z, pk_us, pk_us]
    · rw [pk_un z, pk_un z]; exact n6 q (by omega)
end
end
section
/-! marks of the reference: passing, handling, performing -/
section
variable {F : Nat → Int32} {G : Nat → Nat → Int32} {nT nM : Nat} {L : List ct_T} {yms : List ct_YM} {YC : Nat → List ct_T × List ct_YM} {nc st pf rs dp no : Nat} {og : Nat → Int32}
variable {j h k : Nat} {x0 x1 x2 v s : Int32}
theorem yr_ntop (S : ry_S F G nT nM [] yms YC nc st) : ¬ 0 ≤ F 9 := by
  have : F 9 = -1 := S.2.2.2.2.2.2.1
  rw [this]; decide
theorem yr_done (S : ry_S F G nT nM [] [] YC nc st) (N : ry_N F G pf rs dp no og) (V : ry_V F v) :
    ∃ F', ey_go F G F' G ∧ F' 13 = 0 ∧ F' 2 = v ∧ F' 15 = nI st ∧ ry_N F' G pf rs dp no og ∧ ry_I F G F' G := by
  have hm : ¬ 0 ≤ F 10 := by
    have : F 10 = -1 := S.2.2.2.2.2.2.2.1
    rw [this]; decide
  exact ⟨_, ey_goOn S.2.2.2.2.2.1 (yr_neg V.1) (fun post hh => yb_goP (yr_ntop S) (yb_passE hm hh)), rfl, V.2, S.2.2.2.2.1, N, rfl, fun k hk => rfl⟩
theorem yr_mark {L' : List ct_T} (S : ry_S F G nT nM L ((k, s, L') :: yms) YC nc st) :
    ∃ m, m < nM ∧ F 10 = nI m ∧ G 14 m = nI k ∧ k < 3 ∧ G 15 m = s ∧ ry_S (yb_mF F G m yms.length) G nT nM L' yms YC nc st := by
  obtain ⟨s1, s2, s3, s4, s5, s6, s7, ⟨m, m1, m2, m3, m4, m5, m6, m7⟩, s9⟩ := S
  exact ⟨m, m1, m2, m3, m5, m4, s1, s2, s3, rfl, s5, s6, m6, ly_Mm (by omega) m7, s9⟩
theorem yr_pass0 {L' : List ct_T} (S : ry_S F G nT nM [] ((k, s, L') :: yms) YC nc st) (N : ry_N F G pf rs dp no og) (V : ry_V F v) (hM : nM ≤ 1056) (hz : G 4 (7 + 4 * k) = 0) :
    ∃ F', ey_go F G F' G ∧ ry_S F' G nT nM L' yms YC nc st ∧ ry_N F' G pf rs dp no og ∧ ry_V F' v ∧ ry_I F G F' G := by
  obtain ⟨m, m1, m2, m3, m4, m5, S'⟩ := yr_mark S
  exact ⟨_, ey_goOn S.2.2.2.2.2.1 (yr_neg V.1) (fun post hh => yb_goP (yr_ntop S) (yb_pass0 (n := yms.length) m2 (by omega) S.2.2.2.1 m3 m4 hz hh)), S', N, V, rfl, fun k hk => rfl⟩
theorem yr_pass1 {L' : List ct_T} {z : Nat} (S : ry_S F G nT nM [] ((k, s, L') :: yms) YC nc st) (N : ry_N F G pf rs dp no og) (V : ry_V F v) (hM : nM ≤ 1056) (hz : G 4 (7 + 4 * k) = nI (z + 1)) (hzb : z < 12) :
    ∃ F', ey_go F G F' G ∧ ry_S F' G nT nM L' yms YC nc st ∧ ry_N F' G pf rs dp no og ∧ ry_B F' (12 * (7 + 4 * k) + z) v s 0 0 ∧ ry_I F G F' G := by
  obtain ⟨m, m1, m2, m3, m4, m5, S'⟩ := yr_mark S
  exact ⟨_, ey_goOn S.2.2.2.2.2.1 (yr_neg V.1) (fun post hh => yb_goP (yr_ntop S) (yb_pass1 (n := yms.length) m2 (by omega) S.2.2.2.1 m3 m4 hz hzb hh)), S', N, ⟨rfl, V.2, m5, rfl, rfl⟩, rfl, fun k hk => rfl⟩
theorem yr_hanD {n : Nat} {sv : Int32} (S : ry_S F G nT nM ((n, 1, sv, x0, x1, x2, h) :: L) yms YC nc st) (N : ry_N F G pf rs dp no og) (V : ry_V F v) (hT : nT ≤ 304)
    (hso : G 0 n = nI (17 + k)) (hk : k < 3) (hl : yms.length = 6) :
    ∃ F', ey_go F G F' G ∧ F' 13 = 3 ∧ F' 15 = nI st ∧ ry_N F' G pf rs dp no og ∧ ry_I F G F' G := by
  obtain ⟨i, i1, i2, i3, i4, i5, i6, S', E⟩ := yr_top S
  refine ⟨_, ey_goOn S.2.2.2.2.2.1 (yr_neg V.1) (fun post hh => yb_go1 i2 (by omega) i4 i3 (yb_firstH (F := yb_tF F G i) (by omega) hso hk (yb_hanD (F := yb_tF F G i) ?_ hh))), rfl, S'.2.2.2.2.1, N, rfl, fun k hk => rfl⟩
  have := S'.2.2.2.1
  rw [hl] at this
  exact this
theorem yr_agA {G : Nat → Nat → Int32} {m : Nat} {a b c d : Int32} : ∀ k, 14 ≤ k → k ≤ 17 → ∀ i, i < m → yb_aG G m a b c d k i = G k i := by
  intro k h1 h2 i hi
  have hn : i ≠ m := by omega
  obtain rfl | rfl | rfl | rfl : k = 14 ∨ k = 15 ∨ k = 16 ∨ k = 17 := by omega
  all_goals exact pk_un hn
theorem yr_agA' {G : Nat → Nat → Int32} {m : Nat} {a b c d : Int32} (k : Nat) (h : k < 14 ∨ 17 < k) : yb_aG G m a b c d k = G k := by
  unfold yb_aG
  rw [uu_Gn (by omega), uu_Gn (by omega), uu_Gn (by omega), uu_Gn (by omega)]
/-- a mark more -/
theorem yr_addM {r : List ct_YM} {m : Int32} {u : Int32} {L' : List ct_T} {e : Int32} (hm : ly_M G nT r nM m e) (hu : ly_T G L' nT u) (hk : k < 3) :
    ly_M (yb_aG G nM (nI k) s u m) nT ((k, s, L') :: r) (nM + 1) (nI nM) e := by
  have aT : ∀ q, 6 ≤ q → q ≤ 13 → ∀ i, i < nT → yb_aG G nM (nI k) s u m q i = G q i := fun q a b i _ => by rw [yr_agA' q (Or.inl (by omega))]
  refine ⟨nM, by omega, rfl, pk_us, pk_us, hk, ?_, ?_⟩
  · have : yb_aG G nM (nI k) s u m 16 nM = u := pk_us
    rw [this]; exact ly_Tx aT _ _ _ (Nat.le_refl _) hu
  · have : yb_aG G nM (nI k) s u m 17 nM = m := pk_us
    rw [this]; exact ly_Mx (Nat.le_refl _) aT yr_agA _ _ _ _ (Nat.le_refl _) hm
theorem yr_addK {a b c d : Int32} (h : ry_K G nT nM YC nc) : ry_K (yb_aG G nM a b c d) nT (nM + 1) YC nc :=
  ry_Kx (Nat.le_refl _) (by omega) (fun q a b i _ => by rw [yr_agA' q (Or.inl (by omega))]) yr_agA (fun q a b => yr_agA' q (Or.inr (by omega))) h
theorem yr_hanG {n b : Nat} {sv : Int32} (S : ry_S F G nT nM ((n, 1, sv, x0, x1, x2, h) :: L) yms YC nc st) (N : ry_N F G pf rs dp no og) (V : ry_V F v) (hT : nT ≤ 304) (hM : nM < 1056)
    (hso : G 0 n = nI (17 + k)) (hk : k < 3) (hl : yms.length < 6) (hb : G 2 n = nI b) (hd : dp < 1000) :
    ∃ F' G', ey_go F G F' G' ∧ ry_S F' G' nT (nM + 1) [] ((k, v, L) :: yms) YC nc st ∧ ry_N F' G' pf rs (if yms.length + 1 ≤ dp then dp else yms.length + 1) no og ∧ ry_B F' (12 * (n / 12) + b) x0 x1 x2 h ∧ ry_I F G F' G' := by
  obtain ⟨i, i1, i2, i3, i4, i5, i6, S', E⟩ := yr_top S
  have e : yb_tF F G i 2 = v := V.2
  obtain ⟨s1, s2, s3, s4, s5, s6, s7, s8, s9⟩ := S'
  obtain ⟨n1, n2, n3, n4, n5, n6⟩ := N
  refine ⟨_, _, ey_goOn S.2.2.2.2.2.1 (yr_neg V.1) (fun post hh => yb_go1 i2 (by omega) i4 i3 (yb_firstH (F := yb_tF F G i) (by omega) hso hk (yb_hanG (F := yb_tF F G i) (n := yms.length) (dp := dp) (m := nM) (by omega) hb s2 hM s4 hl n3 hd hh))), ?_, ⟨n1, n2, rfl, n4, n5, n6⟩, ⟨rfl, E⟩, rfl, fun k hk => yr_agA' k (Or.inl (by omega))⟩
  refine ⟨s1, rfl, s3, rfl, s5, s6, rfl, ?_, yr_addK s9⟩
  rw [e]
  exact yr_addM s8 s7 hk
theorem ly_Mapp {bT : Nat} : ∀ (a c : List ct_YM) (b : Nat) (m e : Int32), ly_M G bT (a ++ c) b m e → ∃ b' m', b' ≤ b ∧ ly_M G bT a b m m' ∧ ly_M G bT c b' m' e := by
  intro a
  induction a with
  | nil => intro c b m e h; exact ⟨b, m, Nat.le_refl _, rfl, h⟩
  | cons x a ih =>
    obtain ⟨q, s, L⟩ := x
    rintro c b m e ⟨i, h1, h2, h3, h4, h5, h6, h7⟩
    obtain ⟨b', m', g1, g2, g3⟩ := ih c i _ e h7
    exact ⟨b', m', by omega, ⟨i, h1, h2, h3, h4, h5, h6, g2⟩, g3⟩
/-- the marks that have no clause for o are passed -/
theorem yb_perfL {o : Nat} {sz : Nat → Nat} {post : SY → Prop} (hz : ∀ q, q < 16 → G 4 q = nI (sz q)) (hzb : ∀ q, sz q ≤ 12) (ho : o < 3) (hM : nM ≤ 1056) :
    ∀ (a : List ct_YM) (b taken f : Nat) (m m' : Int32), b ≤ nM → taken + a.length < 1000 → ly_M G nT a b m m' → (∀ q, q ∈ a → sz (4 + 4 * q.1 + o) = 0) →
      wY_perform_15 post (nI o) (F 0) (F 1) (F 2) (F 3) (F 4) (F 5) (F 6) (F 7) (F 8) (F 9) (F 10) (F 11) (F 12) (F 13) (F 14) (F 15) (F 16) (F 17) (F 18) (F 19) (G 0) (G 1) (G 2) (G 3) (G 4) (G 5) (G 6) (G 7) (G 8) (G 9) (G 10) (G 11) (G 12) (G 13) (G 14) (G 15) (G 16) (G 17) (G 18) (G 19) (G 20) (G 21) (G 22) f m' (nI (taken + a.length)) → wY_perform_15 post (nI o) (F 0) (F 1) (F 2) (F 3) (F 4) (F 5) (F 6) (F 7) (F 8) (F 9) (F 10) (F 11) (F 12) (F 13) (F 14) (F 15) (F 16) (F 17) (F 18) (F 19) (G 0) (G 1) (G 2) (G 3) (G 4) (G 5) (G 6) (G 7) (G 8) (G 9) (G 10) (G 11) (G 12) (G 13) (G 14) (G 15) (G 16) (G 17) (G 18) (G 19) (G 20) (G 21) (G 22) (f + a.length) m (nI taken) := by
  intro a
  induction a with
  | nil =>
    rintro b taken f m m' _ _ rfl _ h
    exact h
  | cons x a ih =>
    obtain ⟨q, s, L⟩ := x
    rintro b taken f m m' hb ht ⟨i, h1, h2, h3, h4, h5, h6, h7⟩ hc h
    simp only [List.length_cons] at ht
    have hq := hc (q, s, L) (by simp)
    have c : (nI i).toNatClampNeg = i := nI_clamp (by omega)
    have e : 4 + 4 * G 14 i + nI o = nI (4 + 4 * q + o) := by rw [h3, uu_m4, uu_a4, nI_add]
    have c2 : (nI (4 + 4 * q + o)).toNatClampNeg = 4 + 4 * q + o := nI_clamp (by omega)
    have g := ih i (taken + 1) f _ m' (by omega) (by omega) h7 (fun q' hq' => hc q' (by simp [hq'])) (by
      have e' : taken + 1 + a.length = taken + ((q, s, L) :: a).length := by simp only [List.length_cons]; omega
      rw [e']; exact h)
    have e2 : f + ((q, s, L) :: a).length = f + a.length + 1 := by simp only [List.length_cons]; omega
    rw [e2, h2]
    unfold wY_perform_15
    refine br_f (nI_pos (by omega)) ⟨vp_in_nI (by omega) (by omega), ?_⟩
    rw [c, e, c2]
    refine ⟨vp_in_nI (by omega) (by omega), br_t ?_ ⟨vp_in_nI (by omega) (by omega), nm_e (nm_r (e' := nI (taken + 1)) (nI_1 taken) g)⟩⟩
    rw [hz _ (by omega), hq]; rfl
end
end
section
section
variable {F : Nat → Int32} {G : Nat → Nat → Int32} {nT nM : Nat} {L : List ct_T} {yms : List ct_YM} {YC : Nat → List ct_T × List ct_YM} {nc st pf rs dp no : Nat} {og : Nat → Int32}
variable {j h k o : Nat} {x0 x1 x2 v s : Int32} {sz : Nat → Nat}
theorem yb_perT {post : SY → Prop} (hs : F 15 = 150) (h : post (ys_mk (upd F 13 2) G)) : wpY_perform post (ys_mk F G) (nI o) := by
  unfold wpY_perform
  exact yb_tired1 (F := F) (G := G) hs (br_f (by decide) h)
theorem yb_per0 {post : SY → Prop} {s f : Nat} (hs : F 15 = nI s) (hb : s < 150) (h : wY_perform_15 post (nI o) (upd F 15 (nI (s + 1)) 0) (upd F 15 (nI (s + 1)) 1) (upd F 15 (nI (s + 1)) 2) (upd F 15 (nI (s + 1)) 3) (upd F 15 (nI (s + 1)) 4) (upd F 15 (nI (s + 1)) 5) (upd F 15 (nI (s + 1)) 6) (upd F 15 (nI (s + 1)) 7) (upd F 15 (nI (s + 1)) 8) (upd F 15 (nI (s + 1)) 9) (upd F 15 (nI (s + 1)) 10) (upd F 15 (nI (s + 1)) 11) (upd F 15 (nI (s + 1)) 12) (upd F 15 (nI (s + 1)) 13) (upd F 15 (nI (s + 1)) 14) (upd F 15 (nI (s + 1)) 15) (upd F 15 (nI (s + 1)) 16) (upd F 15 (nI (s + 1)) 17) (upd F 15 (nI (s + 1)) 18) (upd F 15 (nI (s + 1)) 19) (G 0) (G 1) (G 2) (G 3) (G 4) (G 5) (G 6) (G 7) (G 8) (G 9) (G 10) (G 11) (G 12) (G 13) (G 14) (G 15) (G 16) (G 17) (G 18) (G 19) (G 20) (G 21) (G 22) f (F 10) 1) : wpY_perform post (ys_mk F G) (nI o) := by
  unfold wpY_perform
  exact yb_tired0 (F := F) (G := G) hs hb (br_t rfl ⟨f, h⟩)
theorem yr_perT {n : Nat} {sv : Int32} (S : ry_S F G nT nM ((n, 1, sv, x0, x1, x2, h) :: L) yms YC nc 150) (N : ry_N F G pf rs dp no og) (V : ry_V F v) (hT : nT ≤ 304)
    (hso : G 0 n = nI (7 + o)) (ho : o < 3) : ∃ F', ey_go F G F' G ∧ F' 13 = 2 ∧ F' 15 = nI 150 ∧ ry_N F' G pf rs dp no og ∧ ry_I F G F' G := by
  obtain ⟨i, i1, i2, i3, i4, i5, i6, S', E⟩ := yr_top S
  exact ⟨_, ey_goOn S.2.2.2.2.2.1 (yr_neg V.1) (fun post hh => yb_go1 i2 (by omega) i4 i3 (yb_firstP (F := yb_tF F G i) (by omega) hso ho (yb_perT (F := yb_tF F G i) S'.2.2.2.2.1 hh))), rfl, S'.2.2.2.2.1, N, rfl, fun k hk => rfl⟩
theorem yr_perU {n : Nat} {sv : Int32} (S : ry_S F G nT nM ((n, 1, sv, x0, x1, x2, h) :: L) yms YC nc st) (N : ry_N F G pf rs dp no og) (V : ry_V F v) (hT : nT ≤ 304) (hM : nM ≤ 1056) (hl : yms.length ≤ 6)
    (hso : G 0 n = nI (7 + o)) (ho : o < 3) (hb : st < 150) (hz : ∀ q, q < 16 → G 4 q = nI (sz q)) (hzb : ∀ q, sz q ≤ 12) (ha : ∀ q, q ∈ yms → sz (4 + 4 * q.1 + o) = 0) :
    ∃ F', ey_go F G F' G ∧ F' 13 = 1 ∧ F' 2 = v ∧ F' 14 = nI o ∧ F' 15 = nI (st + 1) ∧ F' 16 = nI pf ∧ F' 17 = nI rs ∧ F' 18 = nI dp ∧ F' 19 = nI no ∧ (∀ i, i < no → G 22 i = og i) ∧ ry_I F G F' G := by
  obtain ⟨i, i1, i2, i3, i4, i5, i6, S', E⟩ := yr_top S
  obtain ⟨n1, n2, n3, n4, n5, n6⟩ := N
  obtain ⟨s1, s2, s3, s4, s5, s6, s7, s8, s9⟩ := S'
  refine ⟨upd (upd (upd (yb_tF F G i) 15 (nI (st + 1))) 13 1) 14 (nI o), ey_goOn S.2.2.2.2.2.1 (yr_neg V.1) (fun post hh => yb_go1 i2 (by omega) i4 i3 (yb_firstP (F := yb_tF F G i) (by omega) hso ho (yb_per0 (F := yb_tF F G i) (f := 1 + yms.length) s5 hb ?_))), rfl, V.2, rfl, rfl, n1, n2, n3, n4, n6, rfl, fun k hk => rfl⟩
  refine yb_perfL (F := upd (yb_tF F G i) 15 (nI (st + 1))) (G := G) (sz := sz) hz hzb ho hM yms nM 1 1 _ _ (Nat.le_refl _) (by omega) s8 ha ?_
  unfold wY_perform_15
  exact br_t (by decide) (br_f (by decide) hh)
def yb_cG (G : Nat → Nat → Int32) (F : Nat → Int32) (c n : Nat) : Nat → Nat → Int32 :=
  uu_G (uu_G (uu_G G 18 (upd (G 18) c (F 9))) 19 (upd (G 19) c (F 10))) 20 (upd (G 20) c (nI n))
theorem yb_per52 {post : SY → Prop} {c i taken n z f : Nat} (hc : F 12 = nI c) (hcb : c < 151) (hi : i < 1056) (hk : G 14 i = nI k) (hkb : k < 3) (ho : o < 3) (hp : F 16 = nI f)
    (hn : F 11 = nI n) (ht : taken ≤ n) (hz : G 4 (4 + 4 * k + o) = nI (z + 1))
    (h : post (ys_mk (upd (upd (upd (upd (upd (upd (upd (upd (upd (upd F 12 (nI (c + 1))) 16 (nI (f + 1))) 9 (G 16 i)) 10 (G 17 i)) 11 (nI (n - taken))) 1 (nI (12 * (4 + 4 * k + o) + z))) 3 (F 2)) 4 (G 15 i)) 5 0) 6 (nI (c + 1))) (yb_cG G F (c + 1) taken))) :
    wY_perform_52 post (nI o) (nI i) (nI taken) (F 0) (F 1) (F 2) (F 3) (F 4) (F 5) (F 6) (F 7) (F 8) (F 9) (F 10) (F 11) (F 12) (F 13) (F 14) (F 15) (F 16) (F 17) (F 18) (F 19) (G 0) (G 1) (G 2) (G 3) (G 4) (G 5) (G 6) (G 7) (G 8) (G 9) (G 10) (G 11) (G 12) (G 13) (G 14) (G 15) (G 16) (G 17) (G 18) (G 19) (G 20) (G 21) (G 22) := by
  have cc : (nI (c + 1)).toNatClampNeg = c + 1 := nI_clamp (by omega)
  have ci : (nI i).toNatClampNeg = i := nI_clamp (by omega)
  have vc : vp_in (nI (c + 1)) 152 := vp_in_nI (by omega) (by omega)
  have vi : vp_in (nI i) 1056 := vp_in_nI hi (by omega)
  have e : 4 + 4 * G 14 i + nI o = nI (4 + 4 * k + o) := by rw [hk, uu_m4, uu_a4, nI_add]
  unfold wY_perform_52
  refine br_t (nI_pos' (by omega)) (nm_r (e' := nI (c + 1)) (by rw [hc, nI_1]) ?_)
  rw [cc, ci]
  refine ⟨vc, nm_e ⟨vc, nm_e ⟨vc, nm_e (nm_r (e' := nI (f + 1)) (by rw [hp, nI_1]) ⟨vi, nm_e ⟨vi, nm_e (nm_r (e' := nI (n - taken)) (by rw [hn, pk_sub ht]) ⟨vi, vi, ?_⟩)⟩⟩)⟩⟩⟩
  rw [e]
  exact yb_enter (F := upd (upd (upd (upd (upd F 12 (nI (c + 1))) 16 (nI (f + 1))) 9 (G 16 i)) 10 (G 17 i)) 11 (nI (n - taken))) (G := yb_cG G F (c + 1) taken) (by omega) hz h
theorem yr_perG {n z : Nat} {sv : Int32} {y1 y2 : List ct_YM} {Lu : List ct_T} (S : ry_S F G nT nM ((n, 1, sv, x0, x1, x2, h) :: L) (y1 ++ (k, s, Lu) :: y2) YC nc st) (N : ry_N F G pf rs dp no og) (V : ry_V F v) (hT : nT ≤ 304) (hM : nM ≤ 1056)
    (hl : (y1 ++ (k, s, Lu) :: y2).length ≤ 6) (hso : G 0 n = nI (7 + o)) (ho : o < 3) (hb : st < 150) (hz : ∀ q, q < 16 → G 4 q = nI (sz q)) (hzb : ∀ q, sz q ≤ 12) (ha : ∀ q, q ∈ y1 → sz (4 + 4 * q.1 + o) = 0)
    (hk : k < 3) (hzk : sz (4 + 4 * k + o) = z + 1) (hnc : nc < 151) :
    ∃ F' G', ey_go F G F' G' ∧ ry_S F' G' nT nM Lu y2 (fun c => if c = nc + 1 then (L, y1 ++ [(k, s, Lu)]) else YC c) (nc + 1) (st + 1) ∧ ry_N F' G' (pf + 1) rs dp no og ∧ ry_B F' (12 * (4 + 4 * k + o) + z) v s 0 (nc + 1) ∧ ry_I F G F' G' := by
  obtain ⟨i, i1, i2, i3, i4, i5, i6, S', E⟩ := yr_top S
  obtain ⟨n1, n2, n3, n4, n5, n6⟩ := N
  obtain ⟨s1, s2, s3, s4, s5, s6, s7, s8, s9⟩ := S'
  obtain ⟨b', m', g1, g2, q, q1, q2, q3, q4, q5, q6, q7⟩ := ly_Mapp y1 ((k, s, Lu) :: y2) nM _ _ s8
  have hlen : (y1 ++ (k, s, Lu) :: y2).length = y1.length + 1 + y2.length := by simp only [List.length_append, List.length_cons]; omega
  have agc : ∀ q, q < 18 → yb_cG G (upd (yb_tF F G i) 15 (nI (st + 1))) (nc + 1) (1 + y1.length) q = G q := by
    intro q hq
    unfold yb_cG
    rw [uu_Gn (by omega), uu_Gn (by omega), uu_Gn (by omega)]
  refine ⟨upd (upd (upd (upd (upd (upd (upd (upd (upd (upd (upd (yb_tF F G i) 15 (nI (st + 1))) 12 (nI (nc + 1))) 16 (nI (pf + 1))) 9 (G 16 q)) 10 (G 17 q)) 11 (nI (y1.length + 1 + y2.length - (1 + y1.length)))) 1 (nI (12 * (4 + 4 * k + o) + z))) 3 (F 2)) 4 (G 15 q)) 5 0) 6 (nI (nc + 1)), yb_cG G (upd (yb_tF F G i) 15 (nI (st + 1))) (nc + 1) (1 + y1.length), ey_goOn S.2.2.2.2.2.1 (yr_neg V.1) (fun post hh => yb_go1 i2 (by omega) i4 i3 (yb_firstP (F := yb_tF F G i) (by omega) hso ho (yb_per0 (F := yb_tF F G i) (f := 1 + y1.length) s5 hb ?_))), ?_, ⟨rfl, n2, n3, n4, n5, n6⟩, ⟨rfl, V.2, q4, rfl, rfl⟩, rfl, fun k hk => agc k (by omega)⟩
  · refine yb_perfL (F := upd (yb_tF F G i) 15 (nI (st + 1))) (G := G) (sz := sz) hz hzb ho hM y1 nM 1 1 _ _ (Nat.le_refl _) (by omega) g2 ha ?_
    have cq : (nI q).toNatClampNeg = q := nI_clamp (by omega)
    have e : 4 + 4 * G 14 q + nI o = nI (4 + 4 * k + o) := by rw [q3, uu_m4, uu_a4, nI_add]
    have c2 : (nI (4 + 4 * k + o)).toNatClampNeg = 4 + 4 * k + o := nI_clamp (by omega)
    rw [q2]
    unfold wY_perform_15
    refine br_f (nI_pos (by omega)) ⟨vp_in_nI (by omega) (by omega), ?_⟩
    rw [cq, e, c2]
    refine ⟨vp_in_nI (by omega) (by omega), br_f ?_ ?_⟩
    · rw [hz _ (by omega), hzk]; exact nI_ne0 (by omega) (by have := hzb (4 + 4 * k + o); omega)
    · exact yb_per52 (F := upd (yb_tF F G i) 15 (nI (st + 1))) (G := G) (n := y1.length + 1 + y2.length) (z := z) (f := pf) s3 hnc (by omega) q3 hk ho n1 (by rw [← hlen]; exact s4) (by omega) (by rw [hz _ (by omega), hzk]) hh
  · have aT : ∀ w, 6 ≤ w → w ≤ 13 → ∀ i', i' < nT → yb_cG G (upd (yb_tF F G i) 15 (nI (st + 1))) (nc + 1) (1 + y1.length) w i' = G w i' := fun w a b i' _ => by rw [agc w (by omega)]
    have aM : ∀ w, 14 ≤ w → w ≤ 17 → ∀ i', i' < nM → yb_cG G (upd (yb_tF F G i) 15 (nI (st + 1))) (nc + 1) (1 + y1.length) w i' = G w i' := fun w a b i' _ => by rw [agc w (by omega)]
    refine ⟨s1, s2, rfl, ?_, rfl, s6, ?_, ?_, ?_⟩
    · show nI (y1.length + 1 + y2.length - (1 + y1.length)) = nI y2.length
      exact congrArg nI (by omega)
    · exact ly_Tx aT _ _ _ (Nat.le_refl _) q6
    · exact ly_Mx (Nat.le_refl _) aT aM _ _ _ _ (by omega) (ly_Mm (by omega) q7)
    · intro c c1 c2
      by_cases hc : c = nc + 1
      · subst hc
        simp only [if_true]
        obtain ⟨w0, w1, _, w2, _⟩ := ly_Mapp (y1 ++ [(k, s, Lu)]) y2 nM _ _ (by rw [List.append_assoc]; exact s8)
        refine ⟨w1, ?_, ?_, ?_, ?_, ?_⟩
        · have : yb_cG G (upd (yb_tF F G i) 15 (nI (st + 1))) (nc + 1) (1 + y1.length) 18 (nc + 1) = yb_tF F G i 9 := pk_us
          rw [this]; exact ly_Tx aT _ _ _ (Nat.le_refl _) s7
        · have : yb_cG G (upd (yb_tF F G i) 15 (nI (st + 1))) (nc + 1) (1 + y1.length) 19 (nc + 1) = F 10 := pk_us
          rw [this]
          refine ly_Mx (bM := nM) (Nat.le_refl _) aT aM _ _ _ _ (Nat.le_refl _) ?_
          exact w2
        · have : yb_cG G (upd (yb_tF F G i) 15 (nI (st + 1))) (nc + 1) (1 + y1.length) 20 (nc + 1) = nI (1 + y1.length) := pk_us
          rw [this]
          exact congrArg nI (by simp only [List.length_append, List.length_cons, List.length_nil]; omega)
        · simp
        · simp only [List.length_append, List.length_cons, List.length_nil]; omega
      · simp only [if_neg hc]
        obtain ⟨e, a, b, d⟩ := s9 c c1 (by omega)
        refine ⟨e, ?_, ?_, ?_⟩
        · have : yb_cG G (upd (yb_tF F G i) 15 (nI (st + 1))) (nc + 1) (1 + y1.length) 18 c = G 18 c := pk_un hc
          rw [this]; exact ly_Tx aT _ _ _ (Nat.le_refl _) a
        · have : yb_cG G (upd (yb_tF F G i) 15 (nI (st + 1))) (nc + 1) (1 + y1.length) 19 c = G 19 c := pk_un hc
          rw [this]; exact ly_Mx (bM := nM) (Nat.le_refl _) aT aM _ _ _ _ (Nat.le_refl _) b
        · have : yb_cG G (upd (yb_tF F G i) 15 (nI (st + 1))) (nc + 1) (1 + y1.length) 20 c = G 20 c := pk_un hc
          rw [this]; exact d
end
end
section
/-! the reference resumes -/
theorem uu_snoc {α : Type} (l : List α) : l = [] ∨ ∃ p x, l = p ++ [x] := by
  rcases List.eq_nil_or_concat l with h | ⟨p, x, h⟩
  · exact Or.inl h
  · exact Or.inr ⟨p, x, by rw [h, List.concat_eq_append]⟩
section
variable {F : Nat → Int32} {G : Nat → Nat → Int32} {nT nM : Nat} {L : List ct_T} {yms : List ct_YM} {YC : Nat → List ct_T × List ct_YM} {nc st pf rs dp no : Nat} {og : Nat → Int32}
variable {h k : Nat} {x0 x1 x2 v s' : Int32}
/-- mark q stands for x -/
def yq_1 (G : Nat → Nat → Int32) (nT nM : Nat) (a : Int32) (x : ct_YM) : Prop :=
  ∃ q, q < nM ∧ a = nI q ∧ G 14 q = nI x.1 ∧ G 15 q = x.2.1 ∧ x.1 < 3 ∧ ly_T G x.2.2 nT (G 16 q)
theorem yb_40 {n : Nat} {e : Int32} (hn : n ≤ 6) (hM : nM ≤ 1056) : ∀ (cms : List ct_YM) (k b : Nat) (m : Int32) (A : Nat → Int32), ly_M G nT cms b m e → b ≤ nM → k + cms.length = n →
    ∃ A' : Nat → Int32, (∀ i, i < k → A' i = A i) ∧ (∀ p1 x p2, cms = p1 ++ x :: p2 → yq_1 G nT nM (A' (k + p1.length)) x)
      ∧ ∀ (post : SY → Prop) (f : Nat), wY_resume_40 post s' (nI n) (F 0) (F 1) (F 2) (F 3) (F 4) (F 5) (F 6) (F 7) (F 8) (F 9) (F 10) (F 11) (F 12) (F 13) (F 14) (F 15) (F 16) (F 17) (F 18) (F 19) f e (nI n) (uu_G G 21 A' 0) (uu_G G 21 A' 1) (uu_G G 21 A' 2) (uu_G G 21 A' 3) (uu_G G 21 A' 4) (uu_G G 21 A' 5) (uu_G G 21 A' 6) (uu_G G 21 A' 7) (uu_G G 21 A' 8) (uu_G G 21 A' 9) (uu_G G 21 A' 10) (uu_G G 21 A' 11) (uu_G G 21 A' 12) (uu_G G 21 A' 13) (uu_G G 21 A' 14) (uu_G G 21 A' 15) (uu_G G 21 A' 16) (uu_G G 21 A' 17) (uu_G G 21 A' 18) (uu_G G 21 A' 19) (uu_G G 21 A' 20) (uu_G G 21 A' 21) (uu_G G 21 A' 22) → wY_resume_40 post s' (nI n) (F 0) (F 1) (F 2) (F 3) (F 4) (F 5) (F 6) (F 7) (F 8) (F 9) (F 10) (F 11) (F 12) (F 13) (F 14) (F 15) (F 16) (F 17) (F 18) (F 19) (f + cms.length) m (nI k) (uu_G G 21 A 0) (uu_G G 21 A 1) (uu_G G 21 A 2) (uu_G G 21 A 3) (uu_G G 21 A 4) (uu_G G 21 A 5) (uu_G G 21 A 6) (uu_G G 21 A 7) (uu_G G 21 A 8) (uu_G G 21 A 9) (uu_G G 21 A 10) (uu_G G 21 A 11) (uu_G G 21 A 12) (uu_G G 21 A 13) (uu_G G 21 A 14) (uu_G G 21 A 15) (uu_G G 21 A 16) (uu_G G 21 A 17) (uu_G G 21 A 18) (uu_G G 21 A 19) (uu_G G 21 A 20) (uu_G G 21 A 21) (uu_G G 21 A 22) := by
  intro cms
  induction cms with
  | nil =>
    rintro k b m A rfl _ hk
    simp only [List.length_nil, Nat.add_zero] at hk
    subst hk
    exact ⟨A, fun _ _ => rfl, fun p1 x p2 z => by simp at z, fun post f z => z⟩
  | cons x cms ih =>
    obtain ⟨q, s, Lu⟩ := x
    rintro k b m A ⟨i, h1, h2, h3, h4, h5, h6, h7⟩ hb hk
    simp only [List.length_cons] at hk
    obtain ⟨A', g1, g2, g3⟩ := ih (k + 1) i _ (upd A k (nI i)) h7 (by omega) (by omega)
    refine ⟨A', fun j hj => ?_, ?_, ?_⟩
    · rw [g1 j (by omega), pk_un (by omega)]
    · intro p1 x p2 z
      cases p1 with
      | nil =>
        simp only [List.nil_append, List.cons.injEq] at z
        obtain ⟨rfl, rfl⟩ := z
        refine ⟨i, by omega, ?_, h3, h4, h5, h6⟩
        rw [List.length_nil, g1 _ (by omega)]; exact pk_us
      | cons y p1 =>
        simp only [List.cons_append, List.cons.injEq] at z
        have := g2 p1 x p2 z.2
        rw [List.length_cons, show k + (p1.length + 1) = k + 1 + p1.length by omega]; exact this
    · intro post f z
      have ck : (nI k).toNatClampNeg = k := nI_clamp (by omega)
      have ci : (nI i).toNatClampNeg = i := nI_clamp (by omega)
      rw [show f + ((q, s, Lu) :: cms).length = f + cms.length + 1 by simp only [List.length_cons]; omega, h2]
      unfold wY_resume_40
      refine br_f (nI_ge (by omega) (by omega)) ⟨vp_in_nI (by omega) (by omega), ?_⟩
      rw [ck, ci]
      exact nm_e ⟨vp_in_nI (by omega) (by omega), nm_e (nm_r (e' := nI (k + 1)) (nI_1 k) (g3 post f z))⟩
theorem yb_106 {n : Nat} : ∀ (k : Nat) (pre suf : List ct_YM) (F : Nat → Int32) (G : Nat → Nat → Int32) (nM : Nat), pre.length = k → k < 6 → (∀ p1 x p2, pre = p1 ++ x :: p2 → yq_1 G nT nM (G 21 p1.length) x) →
    suf ≠ [] → F 8 = nI nM → nM + k ≤ 1056 → ly_M G nT (pg_Y s' L yms suf) nM (F 10) (-1) → ry_K G nT nM YC nc →
    ∃ (F' : Nat → Int32) (G' : Nat → Nat → Int32), (∀ i, i ≠ 8 → i ≠ 10 → F' i = F i) ∧ (∀ i, i < 14 ∨ 17 < i → G' i = G i) ∧ (∀ i, 14 ≤ i → i ≤ 17 → ∀ j, j < nM → G' i j = G i j) ∧ F' 8 = nI (nM + k)
      ∧ ly_M G' nT (pg_Y s' L yms (pre ++ suf)) (nM + k) (F' 10) (-1) ∧ ry_K G' nT (nM + k) YC nc
      ∧ ∀ (post : SY → Prop) (f : Nat), wY_resume_106 post (nI n) f (-1) (F' 0) (F' 1) (F' 2) (F' 3) (F' 4) (F' 5) (F' 6) (F' 7) (F' 8) (F' 9) (F' 10) (F' 11) (F' 12) (F' 13) (F' 14) (F' 15) (F' 16) (F' 17) (F' 18) (F' 19) (G' 0) (G' 1) (G' 2) (G' 3) (G' 4) (G' 5) (G' 6) (G' 7) (G' 8) (G' 9) (G' 10) (G' 11) (G' 12) (G' 13) (G' 14) (G' 15) (G' 16) (G' 17) (G' 18) (G' 19) (G' 20) (G' 21) (G' 22) → wY_resume_106 post (nI n) (f + k) (nI k + (-1)) (F 0) (F 1) (F 2) (F 3) (F 4) (F 5) (F 6) (F 7) (F 8) (F 9) (F 10) (F 11) (F 12) (F 13) (F 14) (F 15) (F 16) (F 17) (F 18) (F 19) (G 0) (G 1) (G 2) (G 3) (G 4) (G 5) (G 6) (G 7) (G 8) (G 9) (G 10) (G 11) (G 12) (G 13) (G 14) (G 15) (G 16) (G 17) (G 18) (G 19) (G 20) (G 21) (G 22) := by
  intro k
  induction k with
  | zero =>
    intro pre suf F G nM hp _ _ _ hm _ hl hK
    obtain rfl : pre = [] := List.eq_nil_of_length_eq_zero hp
    exact ⟨F, G, fun _ _ _ => rfl, fun _ _ => rfl, fun _ _ _ _ _ => rfl, hm, hl, hK, fun post f z => z⟩
  | succ k ih =>
    intro pre suf F G nM hp hk6 hq hs hm hb hl hK
    rcases uu_snoc pre with rfl | ⟨pre', x, rfl⟩
    · simp at hp
    · obtain ⟨q, s, Lu⟩ := x
      simp only [List.length_append, List.length_cons, List.length_nil] at hp
      obtain ⟨i, i1, i2, i3, i4, i5, i6⟩ := hq pre' (q, s, Lu) [] rfl
      have hpk : pre'.length = k := by omega
      have aT : ∀ w, 6 ≤ w → w ≤ 13 → ∀ j, j < nT → yb_aG G nM (nI q) s (G 16 i) (F 10) w j = G w j := fun w a b j _ => by rw [yr_agA' w (Or.inl (by omega))]
      have hpg : pg_Y s' L yms ((q, s, Lu) :: suf) = (q, s, Lu) :: pg_Y s' L yms suf := by
        cases suf with
        | nil => exact absurd rfl hs
        | cons a b => rfl
      obtain ⟨F', G', g1, g2, g3, g4, g5, g6, g7⟩ := ih pre' ((q, s, Lu) :: suf) (upd (upd F 8 (nI (nM + 1))) 10 (nI nM)) (yb_aG G nM (nI q) s (G 16 i) (F 10)) (nM + 1) hpk (by omega)
        (by
          intro p1 x p2 z
          obtain ⟨i', j1, j2, j3, j4, j5, j6⟩ := hq p1 x (p2 ++ [(q, s, Lu)]) (by rw [z]; simp)
          refine ⟨i', by omega, j2, ?_, ?_, j5, ?_⟩
          · rw [yr_agA 14 (by decide) (by decide) i' j1]; exact j3
          · rw [yr_agA 15 (by decide) (by decide) i' j1]; exact j4
          · rw [yr_agA 16 (by decide) (by decide) i' j1]; exact ly_Tx aT _ _ _ (Nat.le_refl _) j6)
        (by simp) rfl (by omega) (by rw [hpg]; exact yr_addM hl i6 i5) (yr_addK hK)
      refine ⟨F', G', ?_, ?_, ?_, ?_, ?_, ?_, ?_⟩
      · intro j a b
        rw [g1 j a b, pk_un b, pk_un a]
      · intro j a
        rw [g2 j a, yr_agA' j a]
      · intro j a b w hw
        rw [g3 j a b w (by omega), yr_agA j a b w hw]
      · rw [g4]; exact congrArg nI (by omega)
      · have e1 : nM + 1 + k = nM + (k + 1) := by omega
        rw [e1] at g5
        have e2 : pre' ++ (q, s, Lu) :: suf = pre' ++ [(q, s, Lu)] ++ suf := by simp
        rw [← e2]; exact g5
      · have e1 : nM + 1 + k = nM + (k + 1) := by omega
        rw [e1] at g6; exact g6
      · intro post f z
        have g := g7 post f z
        have ck : (nI k).toNatClampNeg = k := nI_clamp (by omega)
        have ci : (nI i).toNatClampNeg = i := nI_clamp (by omega)
        have vi : vp_in (nI i) 1056 := vp_in_nI (by omega) (by omega)
        rw [hpk] at i2
        rw [pk_m1, show f + (k + 1) = f + k + 1 by omega]
        unfold wY_resume_106
        refine br_f (nI_pos (by omega)) ⟨vp_in_nI (by omega) (by omega), ?_⟩
        rw [ck]
        refine nm_r (e' := nI i) i2 ?_
        rw [ci, i3, i4]
        refine ⟨vi, vi, vi, ?_⟩
        exact yb_add (F := F) (G := G) hm (by omega) (nm_e g)
theorem yb_resD {post : SY → Prop} {c n z : Nat} (hh : F 6 = nI c) (hcb : c < 152) (hn : G 20 c = nI n) (hs : F 11 = nI z) (hb : 6 < z + n) (hb2 : z + n < 1000)
    (h : post (ys_mk (upd F 13 3) G)) : wpY_resume post (ys_mk F G) s' := by
  have cc : (F 6).toNatClampNeg = c := by rw [hh]; exact nI_clamp (by omega)
  have vc : vp_in (F 6) 152 := by rw [hh]; exact vp_in_nI hcb (by omega)
  unfold wpY_resume
  refine ⟨vc, nm_r (e' := nI n) ?_ (br_f ?_ h)⟩
  · show G 20 (F 6).toNatClampNeg = _
    rw [cc, hn]
  · show ¬ F 11 + nI n ≤ 6
    rw [hs, nI_add]; exact nI_ge (a := 6) hb (by omega)
/-- what the catch c holds comes before the rest -/
theorem yr_resG {c : Nat} {w : Int32} (S : ry_S F G nT nM L yms YC nc st) (N : ry_N F G pf rs dp no og) (hh : F 6 = nI c) (hc1 : 1 ≤ c) (hc2 : c ≤ nc) (hnc : nc < 152)
    (hM : nM + 6 ≤ 1056) (hl : yms.length + (YC c).2.length ≤ 6) (hd : dp < 1000) (hn : F 1 = -1) (hw : F 2 = w) :
    ∃ F' G', (∀ post : SY → Prop, post (ys_mk F' G') → wpY_resume post (ys_mk F G) s')
      ∧ ry_S F' G' nT (nM + (YC c).2.length) (YC c).1 (pg_Y s' L yms (YC c).2) YC nc st
      ∧ ry_N F' G' pf (rs + 1) (if yms.length + (YC c).2.length ≤ dp then dp else yms.length + (YC c).2.length) no og ∧ ry_V F' w ∧ ry_I F G F' G' := by
  obtain ⟨s1, s2, s3, s4, s5, s6, s7, s8, s9⟩ := S
  obtain ⟨n1, n2, n3, n4, n5, n6⟩ := N
  obtain ⟨e, k1, k2, k3, k4, k5⟩ := s9 c hc1 hc2
  generalize hcm : (YC c).2 = cms at *
  generalize hct : (YC c).1 = ctp at *
  have cc : (F 6).toNatClampNeg = c := by rw [hh]; exact nI_clamp (by omega)
  have vc : vp_in (F 6) 152 := by rw [hh]; exact vp_in_nI (by omega) (by omega)
  obtain ⟨A', _, a2, a3⟩ := yb_40 (F := F) (G := G) (nT := nT) (nM := nM) (s' := s') k5 (by omega) cms 0 nM _ (G 21) k2 (Nat.le_refl _) (by omega)
  rcases uu_snoc cms with z | ⟨pre, x, hpx⟩
  · rw [z] at k4; simp at k4
  obtain ⟨q, sx, Lx⟩ := x
  have hlen : cms.length = pre.length + 1 := by rw [hpx]; simp
  obtain ⟨i, i1, i2, i3, i4, i5, i6⟩ := a2 pre (q, sx, Lx) [] hpx
  rw [Nat.zero_add] at i2
  -- the lowest mark
  have b1 : ly_M (yb_aG (uu_G G 21 A') nM (nI q) s' (F 9) (F 10)) nT ((q, s', L) :: yms) (nM + 1) (nI nM) (-1) :=
    yr_addM (G := uu_G G 21 A') (ly_Mx (bM := nM) (Nat.le_refl _) (fun k a b j _ => by rw [uu_Gn (by omega)]) (fun k a b j _ => by rw [uu_Gn (by omega)]) _ _ _ _ (Nat.le_refl _) s8)
      (ly_Tx (b := nT) (fun k a b j _ => by rw [uu_Gn (by omega)]) _ _ _ (Nat.le_refl _) s7) i5
  have b2 : ry_K (yb_aG (uu_G G 21 A') nM (nI q) s' (F 9) (F 10)) nT (nM + 1) YC nc :=
    yr_addK (G := uu_G G 21 A') (ry_Kx (Nat.le_refl _) (Nat.le_refl _) (fun k a b j _ => by rw [uu_Gn (by omega)]) (fun k a b j _ => by rw [uu_Gn (by omega)]) (fun k a b => uu_Gn (by omega)) s9)
  obtain ⟨F', G', g1, g2, g3, g4, g5, g6, g7⟩ := yb_106 (nT := nT) (L := L) (yms := yms) (YC := YC) (nc := nc) (s' := s') (n := cms.length) pre.length pre [(q, sx, Lx)] (upd (upd F 8 (nI (nM + 1))) 10 (nI nM)) (yb_aG (uu_G G 21 A') nM (nI q) s' (F 9) (F 10)) (nM + 1) rfl (by omega)
    (by
      intro p1 x p2 z
      obtain ⟨i', j1, j2, j3, j4, j5, j6⟩ := a2 p1 x (p2 ++ [(q, sx, Lx)]) (by rw [hpx, z]; simp)
      rw [Nat.zero_add] at j2
      refine ⟨i', by omega, j2, ?_, ?_, j5, ?_⟩
      · rw [yr_agA 14 (by decide) (by decide) i' j1, uu_Gn (by decide)]; exact j3
      · rw [yr_agA 15 (by decide) (by decide) i' j1, uu_Gn (by decide)]; exact j4
      · rw [yr_agA 16 (by decide) (by decide) i' j1, uu_Gn (by decide)]
        exact ly_Tx (b := nT) (fun k a b j _ => by rw [yr_agA' k (Or.inl (by omega)), uu_Gn (by omega)]) _ _ _ (Nat.le_refl _) j6)
    (by simp) rfl (by omega) b1 b2
  rw [show nM + 1 + pre.length = nM + cms.length by omega] at g4 g5 g6
  rw [← hpx] at g5
  have gs : ∀ k, k ≠ 8 → k ≠ 10 → F' k = F k := fun k a b => by rw [g1 k a b, pk_un b, pk_un a]
  have gG : ∀ k, k < 14 ∨ (17 < k ∧ k ≠ 21) → G' k = G k := by
    intro k hk
    rw [g2 k (by omega), yr_agA' k (by omega), uu_Gn (by omega)]
  have hT : ly_T G' ctp nT (G 18 c) := ly_Tx (b := nT) (fun k a b j _ => by rw [gG k (Or.inl (by omega))]) _ _ _ (Nat.le_refl _) k1
  refine ⟨upd (upd (upd (upd F' 9 (G 18 c)) 17 (nI (rs + 1))) 11 (nI (yms.length + cms.length))) 18 (nI (if yms.length + cms.length ≤ dp then dp else yms.length + cms.length)), G', ?_, ?_, ?_, ?_, ?_⟩
  · intro post h
    unfold wpY_resume
    refine ⟨vc, nm_r (e' := nI cms.length) ?_ (br_t ?_ ⟨vc, nm_r (e' := G 19 c) ?_ ⟨1 + cms.length, ?_⟩⟩)⟩
    · show G 20 (F 6).toNatClampNeg = _
      rw [cc, k3]
    · show F 11 + nI cms.length ≤ 6
      rw [s4, nI_add]; exact nI_le (b := 6) hl (by omega)
    · show G 19 (F 6).toNatClampNeg = _
      rw [cc]
    · refine a3 post 1 ?_
      have cp : (nI pre.length).toNatClampNeg = pre.length := nI_clamp (by omega)
      have ci : (nI i).toNatClampNeg = i := nI_clamp (by omega)
      have ep : nI cms.length - 1 = nI pre.length := by rw [hlen]; exact nI_pred _
      unfold wY_resume_40
      refine br_t (nI_le (Nat.le_refl _) (by omega)) ?_
      rw [ep, cp]
      refine ⟨vp_in_nI (by omega) (by omega), nm_r (e' := nI i) i2 ⟨vp_in_nI (by omega) (by omega), ?_⟩⟩
      rw [ci, show uu_G G 21 A' 14 i = nI q from i3]
      refine yb_add (F := F) (G := uu_G G 21 A') s2 (by omega) ?_
      refine nm_r (e' := nI pre.length + (-1)) ?_ ⟨1 + pre.length, ?_⟩
      · rw [hlen, show (2 : Int32) = 1 + 1 from rfl, ← nI_1]
        generalize nI pre.length = y
        rw [show y + 1 - (1 + 1) = y + -1 by grind]
      · refine g7 post 1 ?_
        have hh' : F' 6 = nI c := by rw [gs _ (by decide) (by decide)]; exact hh
        have cc' : (F' 6).toNatClampNeg = c := by rw [hh']; exact nI_clamp (by omega)
        have vc' : vp_in (F' 6) 152 := by rw [hh']; exact vp_in_nI (by omega) (by omega)
        unfold wY_resume_106
        refine br_t (by decide) ⟨vc', nm_r (e' := G 18 c) ?_ (nm_r (e' := nI (rs + 1)) ?_ ?_)⟩
        · show G' 18 (F' 6).toNatClampNeg = _
          rw [cc', gG 18 (Or.inr (by decide))]
        · rw [gs _ (by decide) (by decide), n2, nI_1]
        · exact yb_cnt (F := upd (upd F' 9 (G 18 c)) 17 (nI (rs + 1))) (G := G') (more := cms.length) ((gs _ (by decide) (by decide)).trans s4) (by omega) ((gs _ (by decide) (by decide)).trans n3) hd h
  · refine ⟨(gs _ (by decide) (by decide)).trans s1, g4, (gs _ (by decide) (by decide)).trans s3, ?_, (gs _ (by decide) (by decide)).trans s5, (gs _ (by decide) (by decide)).trans s6, hT, g5, g6⟩
    show nI (yms.length + cms.length) = _
    rw [pg_lenY, Nat.add_comm]
  · refine ⟨(gs _ (by decide) (by decide)).trans n1, rfl, rfl, (gs _ (by decide) (by decide)).trans n4, (gs _ (by decide) (by decide)).trans n5, ?_⟩
    rw [gG 22 (Or.inr (by decide))]; exact n6
  · exact ⟨(gs _ (by decide) (by decide)).trans hn, (gs _ (by decide) (by decide)).trans hw⟩
  · exact ⟨gs _ (by decide) (by decide), fun k hk => gG k (Or.inl (by omega))⟩
end
end
section
section
variable {F : Nat → Int32} {G : Nat → Nat → Int32} {nT nM : Nat} {L : List ct_T} {yms : List ct_YM} {YC : Nat → List ct_T × List ct_YM} {nc st pf rs dp no : Nat} {og : Nat → Int32}
variable {h n : Nat} {x0 x1 x2 v sv : Int32}
theorem yr_resT (S : ry_S F G nT nM ((n, 2, sv, x0, x1, x2, h) :: L) yms YC nc 150) (N : ry_N F G pf rs dp no og) (V : ry_V F v) (hT : nT ≤ 304) (hso : G 0 n = 20) :
    ∃ F', ey_go F G F' G ∧ F' 13 = 2 ∧ F' 15 = nI 150 ∧ ry_N F' G pf rs dp no og ∧ ry_I F G F' G := by
  obtain ⟨i, i1, i2, i3, i4, i5, i6, S', E⟩ := yr_top S
  exact ⟨_, ey_goOn S.2.2.2.2.2.1 (yr_neg V.1) (fun post hh => yb_go2 i2 (by omega) i4 i3 (by omega) hso (yb_secT (F := yb_tF F G i) S'.2.2.2.2.1 hh)), rfl, S'.2.2.2.2.1, N, rfl, fun k hk => rfl⟩
theorem yr_res0 (S : ry_S F G nT nM ((n, 2, sv, x0, x1, x2, 0) :: L) yms YC nc st) (N : ry_N F G pf rs dp no og) (V : ry_V F v) (hT : nT ≤ 304) (hso : G 0 n = 20) (hb : st < 150) :
    ∃ F', ey_go F G F' G ∧ ry_S F' G nT nM L yms YC nc (st + 1) ∧ ry_N F' G pf rs dp no og ∧ ry_V F' sv ∧ ry_I F G F' G := by
  obtain ⟨i, i1, i2, i3, i4, i5, i6, S', E⟩ := yr_top S
  obtain ⟨s1, s2, s3, s4, s5, s6, s7, s8, s9⟩ := S'
  exact ⟨_, ey_goOn S.2.2.2.2.2.1 (yr_neg V.1) (fun post hh => yb_go2 i2 (by omega) i4 i3 (by omega) hso (yb_sec0 (F := yb_tF F G i) s5 hb (E.2.2.2.trans nI_0) hh)), ⟨s1, s2, s3, s4, rfl, s6, s7, s8, s9⟩, N, ⟨V.1, i5⟩, rfl, fun k hk => rfl⟩
theorem yr_resD (S : ry_S F G nT nM ((n, 2, sv, x0, x1, x2, h) :: L) yms YC nc st) (N : ry_N F G pf rs dp no og) (V : ry_V F v) (hT : nT ≤ 304) (hso : G 0 n = 20) (hb : st < 150)
    (h1 : 1 ≤ h) (h2 : h ≤ nc) (hnc : nc < 152) (hl : 6 < yms.length + (YC h).2.length) (hl2 : yms.length ≤ 6) :
    ∃ F', ey_go F G F' G ∧ F' 13 = 3 ∧ F' 15 = nI (st + 1) ∧ ry_N F' G pf rs dp no og ∧ ry_I F G F' G := by
  obtain ⟨i, i1, i2, i3, i4, i5, i6, S', E⟩ := yr_top S
  obtain ⟨s1, s2, s3, s4, s5, s6, s7, s8, s9⟩ := S'
  obtain ⟨e, k1, k2, k3, k4, k5⟩ := s9 h h1 h2
  exact ⟨_, ey_goOn S.2.2.2.2.2.1 (yr_neg V.1) (fun post hh => yb_go2 i2 (by omega) i4 i3 (by omega) hso (yb_secR (F := yb_tF F G i) (c := h) s5 hb E.2.2.2 (by omega) (by omega) (yb_resD (F := upd (upd (yb_tF F G i) 2 (G 8 i)) 15 (nI (st + 1))) E.2.2.2 (by omega) k3 s4 hl (by omega) hh))), rfl, rfl, N, rfl, fun k hk => rfl⟩
theorem yr_resR (S : ry_S F G nT nM ((n, 2, sv, x0, x1, x2, h) :: L) yms YC nc st) (N : ry_N F G pf rs dp no og) (V : ry_V F v) (hT : nT ≤ 304) (hso : G 0 n = 20) (hb : st < 150)
    (h1 : 1 ≤ h) (h2 : h ≤ nc) (hnc : nc < 152) (hl : yms.length + (YC h).2.length ≤ 6) (hM : nM + 6 ≤ 1056) (hd : dp < 1000) :
    ∃ F' G', ey_go F G F' G' ∧ ry_S F' G' nT (nM + (YC h).2.length) (YC h).1 (pg_Y v L yms (YC h).2) YC nc (st + 1)
      ∧ ry_N F' G' pf (rs + 1) (if yms.length + (YC h).2.length ≤ dp then dp else yms.length + (YC h).2.length) no og ∧ ry_V F' sv ∧ ry_I F G F' G' := by
  obtain ⟨i, i1, i2, i3, i4, i5, i6, S', E⟩ := yr_top S
  obtain ⟨s1, s2, s3, s4, s5, s6, s7, s8, s9⟩ := S'
  obtain ⟨F', G', g1, g2, g3, g4, g5⟩ := yr_resG (F := upd (upd (yb_tF F G i) 2 (G 8 i)) 15 (nI (st + 1))) (G := G) (s' := v) (c := h) (w := sv) (st := st + 1) ⟨s1, s2, s3, s4, rfl, s6, s7, s8, s9⟩ N E.2.2.2 h1 h2 hnc hM hl hd V.1 i5
  refine ⟨F', G', ey_goOn S.2.2.2.2.2.1 (yr_neg V.1) (fun post hh => yb_go2 i2 (by omega) i4 i3 (by omega) hso (yb_secR (F := yb_tF F G i) (c := h) s5 hb E.2.2.2 (by omega) (by omega) ?_)), g2, g3, g4, g5⟩
  have e : yb_tF F G i 2 = v := V.2
  rw [e]
  exact g1 post hh
end
end
section
/-! frames, segments and catches of the class, as lists -/
def hf_R (G : Nat → Nat → Int32) (f : Nat) (fr : ct_F) : Prop :=
  G 22 f = nI fr.1 ∧ G 23 f = nI fr.2.1 ∧ G 24 f = nI fr.2.2.length ∧ fr.2.2.length ≤ 9 ∧ fr.1 ≤ 1200 ∧ fr.2.1 < 100 ∧ ∀ i, i < fr.2.2.length → G 25 (9 * f + i) = wd_g fr.2.2 i
def cf_R (G : Nat → Nat → Int32) (c : Nat) (fr : ct_F) : Prop :=
  G 26 c = nI fr.1 ∧ G 27 c = nI fr.2.1 ∧ G 28 c = nI fr.2.2.length ∧ fr.2.2.length ≤ 9 ∧ fr.1 ≤ 1200 ∧ fr.2.1 < 100 ∧ ∀ i, i < fr.2.2.length → G 30 (9 * c + i) = wd_g fr.2.2 i
def cl_R (G : Nat → Nat → Int32) : List ct_F → Nat → Int32 → Prop
  | [] => fun _ ch => ch = 0
  | fr :: cs => fun b ch => ∃ c, 1 ≤ c ∧ c < b ∧ ch = nI c ∧ cf_R G c fr ∧ cl_R G cs c (G 29 c)
def sl_R (G : Nat → Nat → Int32) (fz lo : Nat) (ch : Int32) : List ct_F → Nat → Prop
  | [] => fun hi => hi = lo ∧ ch = 0
  | fr :: fs => fun hi => (hi = lo ∧ cl_R G (fr :: fs) (fz + 1) ch) ∨ (lo < hi ∧ hf_R G (hi - 1) fr ∧ sl_R G fz lo ch fs (hi - 1))
def sg_R (G : Nat → Nat → Int32) (fz : Nat) : List ct_XM → Nat → List ct_F → Prop
  | [] => fun hi fs => ∃ lo, lo ≤ hi ∧ G 31 0 = nI lo ∧ sl_R G fz lo (G 32 0) fs hi ∧ lo = 0
  | (h, s, fs') :: ms => fun hi fs => ∃ lo, lo ≤ hi ∧ G 31 (ms.length + 1) = nI lo ∧ sl_R G fz lo (G 32 (ms.length + 1)) fs hi
      ∧ G 33 (ms.length + 1) = nI h ∧ G 34 (ms.length + 1) = s ∧ h < 3 ∧ sg_R G fz ms lo fs'
def ag_H (G G' : Nat → Nat → Int32) (b : Nat) : Prop := (∀ k, 22 ≤ k → k ≤ 24 → ∀ f, f < b → G' k f = G k f) ∧ ∀ i, i < 9 * b → G' 25 i = G 25 i
def ag_C (G G' : Nat → Nat → Int32) (b : Nat) : Prop := (∀ k, 26 ≤ k → k ≤ 29 → ∀ f, f < b → G' k f = G k f) ∧ ∀ i, i < 9 * b → G' 30 i = G 30 i
def ag_S (G G' : Nat → Nat → Int32) (b : Nat) : Prop := ∀ k, 31 ≤ k → k ≤ 34 → ∀ j, j < b → G' k j = G k j
theorem ag_Hrf {G G' : Nat → Nat → Int32} {b : Nat} (h : ∀ k, 22 ≤ k → k ≤ 25 → G' k = G k) : ag_H G G' b :=
  ⟨fun k h1 h2 f _ => by rw [h k h1 (by omega)], fun i _ => by rw [h 25 (by decide) (by decide)]⟩
theorem ag_Crf {G G' : Nat → Nat → Int32} {b : Nat} (h : ∀ k, 26 ≤ k → k ≤ 30 → G' k = G k) : ag_C G G' b :=
  ⟨fun k h1 h2 f _ => by rw [h k h1 (by omega)], fun i _ => by rw [h 30 (by decide) (by decide)]⟩
theorem ag_Srf {G G' : Nat → Nat → Int32} {b : Nat} (h : ∀ k, 31 ≤ k → k ≤ 34 → G' k = G k) : ag_S G G' b :=
  fun k h1 h2 f _ => by rw [h k h1 (by omega)]
theorem hf_x {G G' : Nat → Nat → Int32} {b f : Nat} {fr : ct_F} (a : ag_H G G' b) (hf : f < b) (h : hf_R G f fr) : hf_R G' f fr := by
  obtain ⟨h1, h2, h3, h4, h5, h6, h7⟩ := h
  refine ⟨?_, ?_, ?_, h4, h5, h6, ?_⟩
  · rw [a.1 22 (by decide) (by decide) f hf]; exact h1
  · rw [a.1 23 (by decide) (by decide) f hf]; exact h2
  · rw [a.1 24 (by decide) (by decide) f hf]; exact h3
  · intro i hi
    rw [a.2 (9 * f + i) (by omega)]; exact h7 i hi
theorem cf_x {G G' : Nat → Nat → Int32} {b c : Nat} {fr : ct_F} (a : ag_C G G' b) (hc : c < b) (h : cf_R G c fr) : cf_R G' c fr := by
  obtain ⟨h1, h2, h3, h4, h5, h6, h7⟩ := h
  refine ⟨?_, ?_, ?_, h4, h5, h6, ?_⟩
  · rw [a.1 26 (by decide) (by decide) c hc]; exact h1
  · rw [a.1 27 (by decide) (by decide) c hc]; exact h2
  · rw [a.1 28 (by decide) (by decide) c hc]; exact h3
  · intro i hi
    rw [a.2 (9 * c + i) (by omega)]; exact h7 i hi
theorem cl_x {G G' : Nat → Nat → Int32} {b : Nat} (a : ag_C G G' b) : ∀ (cs : List ct_F) (b1 b2 : Nat) (ch : Int32), b1 ≤ b → b1 ≤ b2 → cl_R G cs b1 ch → cl_R G' cs b2 ch := by
  intro cs
  induction cs with
  | nil => intro _ _ _ _ _ h; exact h
  | cons fr cs ih =>
    rintro b1 b2 ch hb hb2 ⟨c, h1, h2, h3, h4, h5⟩
    refine ⟨c, h1, by omega, h3, cf_x a (by omega) h4, ?_⟩
    rw [a.1 29 (by decide) (by decide) c (by omega)]
    exact ih c c _ (by omega) (Nat.le_refl _) h5
theorem cl_len {G : Nat → Nat → Int32} : ∀ (cs : List ct_F) (b : Nat) (ch : Int32), cl_R G cs (b + 1) ch → cs.length ≤ b := by
  intro cs
  induction cs with
  | nil => intro _ _ _; exact Nat.zero_le _
  | cons fr cs ih =>
    rintro b ch ⟨c, h1, h2, _, _, h5⟩
    obtain ⟨e, rfl⟩ : ∃ e, c = e + 1 := ⟨c - 1, by omega⟩
    have := ih e _ h5
    simp only [List.length_cons]; omega
theorem sl_x {G G' : Nat → Nat → Int32} {hi0 fz fz' lo : Nat} {ch : Int32} (aH : ag_H G G' hi0) (aC : ag_C G G' (fz + 1)) (hfz : fz ≤ fz') :
    ∀ (fs : List ct_F) (hi : Nat), hi ≤ hi0 → sl_R G fz lo ch fs hi → sl_R G' fz' lo ch fs hi := by
  intro fs
  induction fs with
  | nil => intro _ _ h; exact h
  | cons fr fs ih =>
    rintro hi hb (⟨h1, h2⟩ | ⟨h1, h2, h3⟩)
    · exact Or.inl ⟨h1, cl_x aC _ _ _ _ (Nat.le_refl _) (by omega) h2⟩
    · exact Or.inr ⟨h1, hf_x aH (by omega) h2, ih _ (by omega) h3⟩
theorem sl_ge {G : Nat → Nat → Int32} {fz lo : Nat} {ch : Int32} : ∀ (fs : List ct_F) (hi : Nat), sl_R G fz lo ch fs hi → lo ≤ hi := by
  intro fs
  cases fs with
  | nil => intro hi h; exact Nat.le_of_eq h.1.symm
  | cons fr fs =>
    rintro hi (⟨h1, _⟩ | ⟨h1, _⟩)
    · omega
    · omega
theorem sl_len {G : Nat → Nat → Int32} {fz lo : Nat} {ch : Int32} : ∀ (fs : List ct_F) (hi : Nat), sl_R G fz lo ch fs hi → fs.length + lo ≤ hi + fz := by
  intro fs
  induction fs with
  | nil => rintro hi ⟨h, _⟩; simp only [List.length_nil]; omega
  | cons fr fs ih =>
    rintro hi (⟨h1, h2⟩ | ⟨h1, _, h3⟩)
    · have := cl_len _ _ _ h2; omega
    · have := ih _ h3
      simp only [List.length_cons]; omega
theorem sg_x {G G' : Nat → Nat → Int32} {hi0 fz fz' : Nat} (aC : ag_C G G' (fz + 1)) (hfz : fz ≤ fz') :
    ∀ (ms : List ct_XM) (hi : Nat) (fs : List ct_F), hi ≤ hi0 → ag_H G G' hi0 → ag_S G G' (ms.length + 1) → sg_R G fz ms hi fs → sg_R G' fz' ms hi fs := by
  intro ms
  induction ms with
  | nil =>
    rintro hi fs hb aH aS ⟨lo, h0, h1, h2, h3⟩
    refine ⟨lo, h0, ?_, ?_, h3⟩
    · rw [aS 31 (by decide) (by decide) 0 (by simp)]; exact h1
    · rw [aS 32 (by decide) (by decide) 0 (by simp)]; exact sl_x aH aC hfz fs hi hb h2
  | cons m ms ih =>
    obtain ⟨h, s, fs'⟩ := m
    rintro hi fs hb aH aS ⟨lo, h0, h1, h2, h3, h4, h5, h6⟩
    have hl : ms.length + 1 < (((h, s, fs') :: ms).length + 1) := by simp
    refine ⟨lo, h0, ?_, ?_, ?_, ?_, h5, ?_⟩
    · rw [aS 31 (by decide) (by decide) _ hl]; exact h1
    · rw [aS 32 (by decide) (by decide) _ hl]; exact sl_x aH aC hfz fs hi hb h2
    · rw [aS 33 (by decide) (by decide) _ hl]; exact h3
    · rw [aS 34 (by decide) (by decide) _ hl]; exact h4
    · exact ih lo fs' (by omega) aH (fun k a b j hj => aS k a b j (by simp only [List.length_cons]; omega)) h6
/-- what is below the first segment -/
def sg_B (G : Nat → Nat → Int32) (fz : Nat) (ms : List ct_XM) (lo : Nat) : Prop :=
  match ms with
  | [] => lo = 0
  | (h, s, fs') :: ms => G 33 (ms.length + 1) = nI h ∧ G 34 (ms.length + 1) = s ∧ h < 3 ∧ sg_R G fz ms lo fs'
theorem sg_top {G : Nat → Nat → Int32} {fz : Nat} {ms : List ct_XM} {hi : Nat} {fs : List ct_F} :
    sg_R G fz ms hi fs ↔ ∃ lo, lo ≤ hi ∧ G 31 ms.length = nI lo ∧ sl_R G fz lo (G 32 ms.length) fs hi ∧ sg_B G fz ms lo := by
  cases ms with
  | nil => exact Iff.rfl
  | cons m ms => exact Iff.rfl
theorem sg_Bx {G G' : Nat → Nat → Int32} {fz fz' lo : Nat} {ms : List ct_XM} (aC : ag_C G G' (fz + 1)) (hfz : fz ≤ fz') (aH : ag_H G G' lo) (aS : ag_S G G' ms.length)
    (hm : G' 33 ms.length = G 33 ms.length) (hs : G' 34 ms.length = G 34 ms.length) (h : sg_B G fz ms lo) : sg_B G' fz' ms lo := by
  cases ms with
  | nil => exact h
  | cons m ms =>
    obtain ⟨k, s, fs'⟩ := m
    obtain ⟨h1, h2, h3, h4⟩ := h
    exact ⟨hm.trans h1, hs.trans h2, h3, sg_x aC hfz _ _ _ (Nat.le_refl _) aH aS h4⟩
/-- all frames that wait -/
def sg_n : List ct_XM → Nat
  | [] => 0
  | (_, _, fs) :: ms => fs.length + sg_n ms
theorem sg_len {G : Nat → Nat → Int32} {fz : Nat} : ∀ (ms : List ct_XM) (hi : Nat) (fs : List ct_F), sg_R G fz ms hi fs → fs.length + sg_n ms ≤ hi + (ms.length + 1) * fz := by
  intro ms
  induction ms with
  | nil =>
    rintro hi fs ⟨lo, h0, _, h, _⟩
    have := sl_len _ _ h
    simp only [sg_n, List.length_nil]; omega
  | cons m ms ih =>
    obtain ⟨h, s, fs'⟩ := m
    rintro hi fs ⟨lo, h0, h1, h2, h3, h4, h5, h6⟩
    have a := sl_len _ _ h2
    have b := ih _ _ h6
    simp only [sg_n, List.length_cons]
    have e : (ms.length + 1 + 1) * fz = (ms.length + 1) * fz + fz := by rw [Nat.add_mul (ms.length + 1) 1 fz, Nat.one_mul]
    omega
/-- the records of a catch: from the one of the first segment down to that of the mark -/
def rc_R (G : Nat → Nat → Int32) (fz r0 : Nat) : List ct_XM → List ct_F → Prop
  | [] => fun _ => True
  | (h, s, u) :: cms => fun ct => G 38 (r0 + cms.length) = nI h ∧ G 39 (r0 + cms.length) = s ∧ h < 3 ∧ cl_R G ct (fz + 1) (G 37 (r0 + cms.length)) ∧ rc_R G fz r0 cms u
def xr_K (G : Nat → Nat → Int32) (fz nr : Nat) (XC : Nat → List ct_F × List ct_XM) (nc : Nat) : Prop :=
  ∀ c, 1 ≤ c → c ≤ nc → ∃ r0, G 35 c = nI r0 ∧ G 36 c = nI (XC c).2.length ∧ r0 + (XC c).2.length ≤ nr ∧ 1 ≤ (XC c).2.length ∧ (XC c).2.length ≤ 6 ∧ rc_R G fz r0 (XC c).2 (XC c).1
theorem rc_x {G G' : Nat → Nat → Int32} {fz fz' nr r0 : Nat} (aC : ag_C G G' (fz + 1)) (hfz : fz ≤ fz') (aR : ∀ k, 37 ≤ k → k ≤ 39 → ∀ j, j < nr → G' k j = G k j) :
    ∀ (cms : List ct_XM) (ct : List ct_F), r0 + cms.length ≤ nr → rc_R G fz r0 cms ct → rc_R G' fz' r0 cms ct := by
  intro cms
  induction cms with
  | nil => intro _ _ _; trivial
  | cons m cms ih =>
    obtain ⟨h, s, u⟩ := m
    rintro ct hl ⟨h1, h2, h3, h4, h5⟩
    simp only [List.length_cons] at hl
    refine ⟨?_, ?_, h3, ?_, ih u (by omega) h5⟩
    · rw [aR 38 (by decide) (by decide) _ (by omega)]; exact h1
    · rw [aR 39 (by decide) (by decide) _ (by omega)]; exact h2
    · rw [aR 37 (by decide) (by decide) _ (by omega)]; exact cl_x aC _ _ _ _ (Nat.le_refl _) (by omega) h4
theorem xr_Kx {G G' : Nat → Nat → Int32} {fz fz' nr nr' nc : Nat} {XC : Nat → List ct_F × List ct_XM} (aC : ag_C G G' (fz + 1)) (hfz : fz ≤ fz') (hnr : nr ≤ nr')
    (aR : ∀ k, 37 ≤ k → k ≤ 39 → ∀ j, j < nr → G' k j = G k j) (aQ : ∀ k, 35 ≤ k → k ≤ 36 → ∀ c, c ≤ nc → G' k c = G k c) (h : xr_K G fz nr XC nc) : xr_K G' fz' nr' XC nc := by
  intro c h1 h2
  obtain ⟨r0, a, b, d, e1, e2, e⟩ := h c h1 h2
  refine ⟨r0, ?_, ?_, by omega, e1, e2, rc_x aC hfz aR _ _ d e⟩
  · rw [aQ 35 (by decide) (by decide) c h2]; exact a
  · rw [aQ 36 (by decide) (by decide) c h2]; exact b
def xr_N (F : Nat → Int32) (G : Nat → Nat → Int32) (st pf rs mo no : Nat) (og : Nat → Int32) : Prop :=
  F 18 = nI st ∧ F 19 = nI pf ∧ F 20 = nI rs ∧ F 21 = nI mo ∧ F 22 = nI no ∧ F 16 = 0 ∧ F 17 = -4 ∧ ∀ i, i < no → G 40 i = og i
/-- the machine without the number of its frames -/
def xr_S (F : Nat → Int32) (G : Nat → Nat → Int32) (hot fz nr : Nat) (fs : List ct_F) (ms : List ct_XM) (XC : Nat → List ct_F × List ct_XM) (nc : Nat) : Prop :=
  F 11 = nI fz ∧ F 12 = nI ms.length ∧ F 13 = nI nc ∧ F 14 = nI nr ∧ F 15 = -5 ∧ sg_R G fz ms hot fs ∧ xr_K G fz nr XC nc
/-- the machine with a frame at work -/
def xr_T (F : Nat → Int32) (G : Nat → Nat → Int32) (hot fz nr : Nat) (fr : ct_F) (fs : List ct_F) (ms : List ct_XM) (XC : Nat → List ct_F × List ct_XM) (nc : Nat) : Prop :=
  F 10 = nI (hot + 1) ∧ hf_R G hot fr ∧ xr_S F G hot fz nr fs ms XC nc
/-- terms and code stay as they are -/
def xr_I (F : Nat → Int32) (G : Nat → Nat → Int32) (F' : Nat → Int32) (G' : Nat → Nat → Int32) : Prop := (∀ k, k < 10 → F' k = F k) ∧ ∀ k, k < 22 → G' k = G k
theorem xr_Irf {F : Nat → Int32} {G : Nat → Nat → Int32} : xr_I F G F G := ⟨fun _ _ => rfl, fun _ _ => rfl⟩
theorem xr_Itr {F F' F'' : Nat → Int32} {G G' G'' : Nat → Nat → Int32} (a : xr_I F G F' G') (b : xr_I F' G' F'' G'') : xr_I F G F'' G'' :=
  ⟨fun k hk => (b.1 k hk).trans (a.1 k hk), fun k hk => (b.2 k hk).trans (a.2 k hk)⟩
/-- only the words and the place of the frame at work change -/
theorem xr_hot {F F' : Nat → Int32} {G G' : Nat → Nat → Int32} {hot fz nr nc : Nat} {fr : ct_F} {fs : List ct_F} {ms : List ct_XM} {XC : Nat → List ct_F × List ct_XM}
    (S : xr_S F G hot fz nr fs ms XC nc) (hF : ∀ k, 10 ≤ k → k ≤ 15 → F' k = F k) (hf : F' 10 = nI (hot + 1)) (aH : ag_H G G' hot) (aG : ∀ k, 26 ≤ k → k ≤ 39 → G' k = G k) (h : hf_R G' hot fr) :
    xr_T F' G' hot fz nr fr fs ms XC nc := by
  obtain ⟨s1, s2, s3, s4, s5, s6, s7⟩ := S
  refine ⟨hf, h, ?_, ?_, ?_, ?_, ?_, ?_, ?_⟩
  · rw [hF _ (by decide) (by decide)]; exact s1
  · rw [hF _ (by decide) (by decide)]; exact s2
  · rw [hF _ (by decide) (by decide)]; exact s3
  · rw [hF _ (by decide) (by decide)]; exact s4
  · rw [hF _ (by decide) (by decide)]; exact s5
  · exact sg_x (ag_Crf fun k a b => aG k a (by omega)) (Nat.le_refl _) _ _ _ (Nat.le_refl _) aH (ag_Srf fun k a b => aG k (by omega) (by omega)) s6
  · exact xr_Kx (ag_Crf fun k a b => aG k a (by omega)) (Nat.le_refl _) (Nat.le_refl _) (fun k a b j _ => by rw [aG k (by omega) (by omega)]) (fun k a b j _ => by rw [aG k (by omega) (by omega)]) s7
end
section
/-! the class: one instruction at a time -/
def ex_W (post : SX → Prop) (n i : Nat) (F : Nat → Int32) (G : Nat → Nat → Int32) : Prop := wX_execute_55 post n (nI i) (F 0) (F 1) (F 2) (F 3) (F 4) (F 5) (F 6) (F 7) (F 8) (F 9) (F 10) (F 11) (F 12) (F 13) (F 14) (F 15) (F 16) (F 17) (F 18) (F 19) (F 20) (F 21) (F 22) (G 0) (G 1) (G 2) (G 3) (G 4) (G 5) (G 6) (G 7) (G 8) (G 9) (G 10) (G 11) (G 12) (G 13) (G 14) (G 15) (G 16) (G 17) (G 18) (G 19) (G 20) (G 21) (G 22) (G 23) (G 24) (G 25) (G 26) (G 27) (G 28) (G 29) (G 30) (G 31) (G 32) (G 33) (G 34) (G 35) (G 36) (G 37) (G 38) (G 39) (G 40)
def ex_go (i : Nat) (F : Nat → Int32) (G : Nat → Nat → Int32) (i' : Nat) (F' : Nat → Int32) (G' : Nat → Nat → Int32) : Prop :=
  ∀ post : SX → Prop, (∃ n, ex_W post n i' F' G') → ∃ n, ex_W post n i F G
theorem ex_rf {i : Nat} {F : Nat → Int32} {G : Nat → Nat → Int32} : ex_go i F G i F G := fun _ h => h
theorem ex_tr {i i' i'' : Nat} {F F' F'' : Nat → Int32} {G G' G'' : Nat → Nat → Int32} (a : ex_go i F G i' F' G') (b : ex_go i' F' G' i'' F'' G'') : ex_go i F G i'' F'' G'' := fun post h => a post (b post h)
theorem ex_step {i : Nat} {F F' : Nat → Int32} {G G' : Nat → Nat → Int32} (hi : i < 4000000) (hs : F 15 = -5)
    (h : ∀ post : SX → Prop, post (xs_mk F' G') → wpX_stepOn post (xs_mk F G)) : ex_go i F G (i + 1) F' G' := by
  rintro post ⟨n, hn⟩
  refine ⟨n + 1, ?_⟩
  unfold ex_W wX_execute_55
  refine br_f (nI_ge (b := 4000000) hi (by omega)) (br_t hs (h _ ?_))
  refine nm_r (e' := nI (i + 1)) (nI_1 i) hn
theorem ex_end {i : Nat} {F : Nat → Int32} {G : Nat → Nat → Int32} {post : SX → Prop} (hi : i < 4000000) (hs : ¬ F 15 = -5) (h : post (xs_mk F G)) : ∃ n, ex_W post n i F G := by
  refine ⟨1, ?_⟩
  unfold ex_W wX_execute_55
  exact br_f (nI_ge (b := 4000000) hi (by omega)) (br_f hs h)
/-- the place of the frame at work goes on -/
def xb_g (G : Nat → Nat → Int32) (f p : Nat) : Nat → Nat → Int32 := uu_G G 22 (upd (G 22) f (nI p))
section
variable {F F' : Nat → Int32} {G G' : Nat → Nat → Int32} {f p : Nat} {o : Int32}
theorem xb_stA (hf : F 10 = nI (f + 1)) (hfb : f < 168) (hp : G 22 f = nI p) (hpb : p < 1200) {post : SX → Prop} {op : Nat} (hc : G 11 p = nI op) (hop : op < 4)
    (ho : G 12 p = o) (H : ∀ Q : SX → Prop, Q (xs_mk F' G') → wpX_calculate Q (xs_mk F (xb_g G f (p + 1))) (nI op)) (h : post (xs_mk F' G')) : wpX_stepOn post (xs_mk F G) := by
  have v : vp_in (nI f) 168 := vp_in_nI hfb (by omega)
  have vp : vp_in (nI p) 1200 := vp_in_nI hpb (by omega)
  have c : (nI f).toNatClampNeg = f := nI_clamp (by omega)
  have cp : (nI p).toNatClampNeg = p := nI_clamp (by omega)
  unfold wpX_stepOn
  refine nm_r (e' := nI f) (by rw [hf]; exact nI_pred f) ?_
  rw [c]
  refine ⟨v, nm_r (e' := nI p) hp ?_⟩
  rw [cp]
  refine ⟨vp, nm_r (e' := nI op) hc ⟨vp, nm_r (e' := o) ho ⟨v, nm_r (e' := upd (G 22) f (nI (p + 1))) (by rw [nI_1, uu_b16 (by omega), uu_ns (by omega)]) ?_⟩⟩⟩
  exact br_f (nI_nlt (a := 3) (b := op) (by omega) (by omega)) (H _ h)
theorem xb_st4 (hf : F 10 = nI (f + 1)) (hfb : f < 168) (hp : G 22 f = nI p) (hpb : p < 1200) {post : SX → Prop} (hc : G 11 p = 4)
    (ho : G 12 p = o) (H : ∀ Q : SX → Prop, Q (xs_mk F' G') → wpX_push Q (xs_mk F (xb_g G f (p + 1))) o) (h : post (xs_mk F' G')) : wpX_stepOn post (xs_mk F G) := by
  have v : vp_in (nI f) 168 := vp_in_nI hfb (by omega)
  have vp : vp_in (nI p) 1200 := vp_in_nI hpb (by omega)
  have c : (nI f).toNatClampNeg = f := nI_clamp (by omega)
  have cp : (nI p).toNatClampNeg = p := nI_clamp (by omega)
  unfold wpX_stepOn
  refine nm_r (e' := nI f) (by rw [hf]; exact nI_pred f) ?_
  rw [c]
  refine ⟨v, nm_r (e' := nI p) hp ?_⟩
  rw [cp]
  refine ⟨vp, nm_r (e' := 4) hc ⟨vp, nm_r (e' := o) ho ⟨v, nm_r (e' := upd (G 22) f (nI (p + 1))) (by rw [nI_1, uu_b16 (by omega), uu_ns (by omega)]) ?_⟩⟩⟩
  exact br_t (by decide) (br_t rfl (H _ h))
theorem xb_st5 (hf : F 10 = nI (f + 1)) (hfb : f < 168) (hp : G 22 f = nI p) (hpb : p < 1200) {post : SX → Prop} (hc : G 11 p = 5)
    (ho : G 12 p = o) (H : ∀ Q : SX → Prop, Q (xs_mk F' G') → wpX_load Q (xs_mk F (xb_g G f (p + 1))) o) (h : post (xs_mk F' G')) : wpX_stepOn post (xs_mk F G) := by
  have v : vp_in (nI f) 168 := vp_in_nI hfb (by omega)
  have vp : vp_in (nI p) 1200 := vp_in_nI hpb (by omega)
  have c : (nI f).toNatClampNeg = f := nI_clamp (by omega)
  have cp : (nI p).toNatClampNeg = p := nI_clamp (by omega)
  unfold wpX_stepOn
  refine nm_r (e' := nI f) (by rw [hf]; exact nI_pred f) ?_
  rw [c]
  refine ⟨v, nm_r (e' := nI p) hp ?_⟩
  rw [cp]
  refine ⟨vp, nm_r (e' := 5) hc ⟨vp, nm_r (e' := o) ho ⟨v, nm_r (e' := upd (G 22) f (nI (p + 1))) (by rw [nI_1, uu_b16 (by omega), uu_ns (by omega)]) ?_⟩⟩⟩
  exact br_t (by decide) (br_f (by decide) (br_t rfl (H _ h)))
theorem xb_st6 (hf : F 10 = nI (f + 1)) (hfb : f < 168) (hp : G 22 f = nI p) (hpb : p < 1200) {post : SX → Prop} (hc : G 11 p = 6)
    (ho : G 12 p = o) (H : ∀ Q : SX → Prop, Q (xs_mk F' G') → wpX_slide Q (xs_mk F (xb_g G f (p + 1)))) (h : post (xs_mk F' G')) : wpX_stepOn post (xs_mk F G) := by
  have v : vp_in (nI f) 168 := vp_in_nI hfb (by omega)
  have vp : vp_in (nI p) 1200 := vp_in_nI hpb (by omega)
  have c : (nI f).toNatClampNeg = f := nI_clamp (by omega)
  have cp : (nI p).toNatClampNeg = p := nI_clamp (by omega)
  unfold wpX_stepOn
  refine nm_r (e' := nI f) (by rw [hf]; exact nI_pred f) ?_
  rw [c]
  refine ⟨v, nm_r (e' := nI p) hp ?_⟩
  rw [cp]
  refine ⟨vp, nm_r (e' := 6) hc ⟨vp, nm_r (e' := o) ho ⟨v, nm_r (e' := upd (G 22) f (nI (p + 1))) (by rw [nI_1, uu_b16 (by omega), uu_ns (by omega)]) ?_⟩⟩⟩
  exact br_t (by decide) (br_f (by decide) (br_f (by decide) (br_t rfl (H _ h))))
theorem xb_st7 (hf : F 10 = nI (f + 1)) (hfb : f < 168) (hp : G 22 f = nI p) (hpb : p < 1200) {post : SX → Prop} (hc : G 11 p = 7)
    (ho : G 12 p = o) (H : ∀ Q : SX → Prop, Q (xs_mk F' G') → wpX_jumpZero Q (xs_mk F (xb_g G f (p + 1))) o) (h : post (xs_mk F' G')) : wpX_stepOn post (xs_mk F G) := by
  have v : vp_in (nI f) 168 := vp_in_nI hfb (by omega)
  have vp : vp_in (nI p) 1200 := vp_in_nI hpb (by omega)
  have c : (nI f).toNatClampNeg = f := nI_clamp (by omega)
  have cp : (nI p).toNatClampNeg = p := nI_clamp (by omega)
  unfold wpX_stepOn
  refine nm_r (e' := nI f) (by rw [hf]; exact nI_pred f) ?_
  rw [c]
  refine ⟨v, nm_r (e' := nI p) hp ?_⟩
  rw [cp]
  refine ⟨vp, nm_r (e' := 7) hc ⟨vp, nm_r (e' := o) ho ⟨v, nm_r (e' := upd (G 22) f (nI (p + 1))) (by rw [nI_1, uu_b16 (by omega), uu_ns (by omega)]) ?_⟩⟩⟩
  exact br_t (by decide) (br_f (by decide) (br_f (by decide) (br_f (by decide) (br_t rfl (H _ h)))))
theorem xb_st9 (hf : F 10 = nI (f + 1)) (hfb : f < 168) (hp : G 22 f = nI p) (hpb : p < 1200) {post : SX → Prop} (hc : G 11 p = 9)
    (ho : G 12 p = o) (H : ∀ Q : SX → Prop, Q (xs_mk F' G') → wpX_tick Q (xs_mk F (xb_g G f (p + 1))) o) (h : post (xs_mk F' G')) : wpX_stepOn post (xs_mk F G) := by
  have v : vp_in (nI f) 168 := vp_in_nI hfb (by omega)
  have vp : vp_in (nI p) 1200 := vp_in_nI hpb (by omega)
  have c : (nI f).toNatClampNeg = f := nI_clamp (by omega)
  have cp : (nI p).toNatClampNeg = p := nI_clamp (by omega)
  unfold wpX_stepOn
  refine nm_r (e' := nI f) (by rw [hf]; exact nI_pred f) ?_
  rw [c]
  refine ⟨v, nm_r (e' := nI p) hp ?_⟩
  rw [cp]
  refine ⟨vp, nm_r (e' := 9) hc ⟨vp, nm_r (e' := o) ho ⟨v, nm_r (e' := upd (G 22) f (nI (p + 1))) (by rw [nI_1, uu_b16 (by omega), uu_ns (by omega)]) ?_⟩⟩⟩
  exact br_t (by decide) (br_f (by decide) (br_f (by decide) (br_f (by decide) (br_f (by decide) (br_f (by decide) (br_t rfl (H _ h)))))))
theorem xb_st10 (hf : F 10 = nI (f + 1)) (hfb : f < 168) (hp : G 22 f = nI p) (hpb : p < 1200) {post : SX → Prop} (hc : G 11 p = 10)
    (ho : G 12 p = o) (H : ∀ Q : SX → Prop, Q (xs_mk F' G') → wpX_show Q (xs_mk F (xb_g G f (p + 1)))) (h : post (xs_mk F' G')) : wpX_stepOn post (xs_mk F G) := by
  have v : vp_in (nI f) 168 := vp_in_nI hfb (by omega)
  have vp : vp_in (nI p) 1200 := vp_in_nI hpb (by omega)
  have c : (nI f).toNatClampNeg = f := nI_clamp (by omega)
  have cp : (nI p).toNatClampNeg = p := nI_clamp (by omega)
  unfold wpX_stepOn
  refine nm_r (e' := nI f) (by rw [hf]; exact nI_pred f) ?_
  rw [c]
  refine ⟨v, nm_r (e' := nI p) hp ?_⟩
  rw [cp]
  refine ⟨vp, nm_r (e' := 10) hc ⟨vp, nm_r (e' := o) ho ⟨v, nm_r (e' := upd (G 22) f (nI (p + 1))) (by rw [nI_1, uu_b16 (by omega), uu_ns (by omega)]) ?_⟩⟩⟩
  exact br_t (by decide) (br_f (by decide) (br_f (by decide) (br_f (by decide) (br_f (by decide) (br_f (by decide) (br_f (by decide) (br_t rfl (H _ h))))))))
theorem xb_st11 (hf : F 10 = nI (f + 1)) (hfb : f < 168) (hp : G 22 f = nI p) (hpb : p < 1200) {post : SX → Prop} (hc : G 11 p = 11)
    (ho : G 12 p = o) (H : ∀ Q : SX → Prop, Q (xs_mk F' G') → wpX_leave Q (xs_mk F (xb_g G f (p + 1)))) (h : post (xs_mk F' G')) : wpX_stepOn post (xs_mk F G) := by
  have v : vp_in (nI f) 168 := vp_in_nI hfb (by omega)
  have vp : vp_in (nI p) 1200 := vp_in_nI hpb (by omega)
  have c : (nI f).toNatClampNeg = f := nI_clamp (by omega)
  have cp : (nI p).toNatClampNeg = p := nI_clamp (by omega)
  unfold wpX_stepOn
  refine nm_r (e' := nI f) (by rw [hf]; exact nI_pred f) ?_
  rw [c]
  refine ⟨v, nm_r (e' := nI p) hp ?_⟩
  rw [cp]
  refine ⟨vp, nm_r (e' := 11) hc ⟨vp, nm_r (e' := o) ho ⟨v, nm_r (e' := upd (G 22) f (nI (p + 1))) (by rw [nI_1, uu_b16 (by omega), uu_ns (by omega)]) ?_⟩⟩⟩
  exact br_t (by decide) (br_f (by decide) (br_f (by decide) (br_f (by decide) (br_f (by decide) (br_f (by decide) (br_f (by decide) (br_f (by decide) (br_t rfl (H _ h)))))))))
theorem xb_stT (hf : F 10 = nI (f + 1)) (hfb : f < 168) (hp : G 22 f = nI p) (hpb : p < 1200) {post : SX → Prop} {op : Nat} (hc : G 11 p = nI op) (hop : 12 ≤ op) (hop2 : op < 32)
    (ho : G 12 p = o) (H : ∀ Q : SX → Prop, Q (xs_mk F' G') → wpX_transfer Q (xs_mk F (xb_g G f (p + 1))) (nI op) o) (h : post (xs_mk F' G')) : wpX_stepOn post (xs_mk F G) := by
  have v : vp_in (nI f) 168 := vp_in_nI hfb (by omega)
  have vp : vp_in (nI p) 1200 := vp_in_nI hpb (by omega)
  have c : (nI f).toNatClampNeg = f := nI_clamp (by omega)
  have cp : (nI p).toNatClampNeg = p := nI_clamp (by omega)
  unfold wpX_stepOn
  refine nm_r (e' := nI f) (by rw [hf]; exact nI_pred f) ?_
  rw [c]
  refine ⟨v, nm_r (e' := nI p) hp ?_⟩
  rw [cp]
  refine ⟨vp, nm_r (e' := nI op) hc ⟨vp, nm_r (e' := o) ho ⟨v, nm_r (e' := upd (G 22) f (nI (p + 1))) (by rw [nI_1, uu_b16 (by omega), uu_ns (by omega)]) ?_⟩⟩⟩
  exact br_t (nI_lt (a := 3) (by omega) (by omega)) (br_f (yb_soE (b := 4) (by omega) (by omega) (by omega)) (br_f (yb_soE (b := 5) (by omega) (by omega) (by omega)) (br_f (yb_soE (b := 6) (by omega) (by omega) (by omega)) (br_f (yb_soE (b := 7) (by omega) (by omega) (by omega)) (br_f (yb_soE (b := 8) (by omega) (by omega) (by omega)) (br_f (yb_soE (b := 9) (by omega) (by omega) (by omega)) (br_f (yb_soE (b := 10) (by omega) (by omega) (by omega)) (br_f (yb_soE (b := 11) (by omega) (by omega) (by omega)) (H _ h)))))))))
theorem xb_st8 {e : Nat} (hf : F 10 = nI (f + 1)) (hfb : f < 168) (hp : G 22 f = nI p) (hpb : p < 1200) {post : SX → Prop} (hc : G 11 p = 8)
    (ho : G 12 p = nI e) (he : e < 32768) (h : post (xs_mk F (uu_G (xb_g G f (p + 1)) 22 (upd (upd (G 22) f (nI (p + 1))) f (nI e))))) : wpX_stepOn post (xs_mk F G) := by
  have v : vp_in (nI f) 168 := vp_in_nI hfb (by omega)
  have vp : vp_in (nI p) 1200 := vp_in_nI hpb (by omega)
  have c : (nI f).toNatClampNeg = f := nI_clamp (by omega)
  have cp : (nI p).toNatClampNeg = p := nI_clamp (by omega)
  unfold wpX_stepOn
  refine nm_r (e' := nI f) (by rw [hf]; exact nI_pred f) ?_
  rw [c]
  refine ⟨v, nm_r (e' := nI p) hp ?_⟩
  rw [cp]
  refine ⟨vp, nm_r (e' := 8) hc ⟨vp, nm_e ⟨v, nm_r (e' := upd (G 22) f (nI (p + 1))) (by rw [nI_1, uu_b16 (by omega), uu_ns (by omega)]) ?_⟩⟩⟩
  refine br_t (by decide) (br_f (by decide) (br_f (by decide) (br_f (by decide) (br_f (by decide) (br_t rfl ⟨v, nm_r (e' := upd (upd (G 22) f (nI (p + 1))) f (nI e)) (by rw [ho, uu_b16 (by omega), uu_ns (by omega)]) h⟩)))))
end
end
section
/-! instructions inside a frame -/
theorem uu_uu {a : Nat → Int32} {f : Nat} {x y : Int32} : upd (upd a f x) f y = upd a f y := by
  funext j; unfold upd; by_cases h : j = f <;> simp [h]
/-- the frame at work: its place, its words -/
def xb_w (G : Nat → Nat → Int32) (f p k : Nat) (W : Nat → Int32) : Nat → Nat → Int32 :=
  uu_G (uu_G (uu_G G 22 (upd (G 22) f (nI p))) 24 (upd (G 24) f (nI k))) 25 W
section
variable {F : Nat → Int32} {G : Nat → Nat → Int32} {f p k : Nat} {o : Int32} {post : SX → Prop}
theorem xi_push (hf : F 10 = nI (f + 1)) (hfb : f < 168) (hp : G 22 f = nI p) (hpb : p < 1200) (hc : G 11 p = 4) (ho : G 12 p = o)
    (hk : G 24 f = nI k) (hkb : k < 9) (h : post (xs_mk F (xb_w G f (p + 1) (k + 1) (upd (G 25) (9 * f + k) o)))) : wpX_stepOn post (xs_mk F G) :=
  xb_st4 (F' := F) (G' := xb_w G f (p + 1) (k + 1) (upd (G 25) (9 * f + k) o)) hf hfb hp hpb hc ho (fun Q q => xb_push (F := F) (G := xb_g G f (p + 1)) hf hk hfb hkb q) h
theorem xi_load {n : Nat} (hf : F 10 = nI (f + 1)) (hfb : f < 168) (hp : G 22 f = nI p) (hpb : p < 1200) (hc : G 11 p = 5) (ho : G 12 p = nI n)
    (hn : n < 9) (hk : G 24 f = nI k) (hkb : k < 9) (h : post (xs_mk F (xb_w G f (p + 1) (k + 1) (upd (G 25) (9 * f + k) (G 25 (9 * f + n)))))) : wpX_stepOn post (xs_mk F G) := by
  refine xb_st5 (F' := F) (G' := xb_w G f (p + 1) (k + 1) (upd (G 25) (9 * f + k) (G 25 (9 * f + n)))) hf hfb hp hpb hc ho (fun Q q => ?_) h
  have e : 9 * (F 10 - 1) + nI n = nI (9 * f + n) := by rw [hf, nI_pred, uu_m9, nI_add]
  have c : (nI (9 * f + n)).toNatClampNeg = 9 * f + n := nI_clamp (by omega)
  unfold wpX_load
  show vp_in (9 * (F 10 - 1) + nI n) 1512 ∧ _
  rw [e]
  refine ⟨vp_in_nI (by omega) (by omega), nm_r (e' := G 25 (9 * f + n)) (by rw [c]; rfl) ?_⟩
  exact xb_push (F := F) (G := xb_g G f (p + 1)) hf hk hfb hkb q
theorem xi_calc {op : Nat} (hf : F 10 = nI (f + 1)) (hfb : f < 168) (hp : G 22 f = nI p) (hpb : p < 1200) (hc : G 11 p = nI op) (hop : op < 4)
    (hk : G 24 f = nI (k + 2)) (hkb : k < 8) (h : post (xs_mk F (xb_w G f (p + 1) (k + 1) (upd (G 25) (9 * f + k) (kn_comb op (G 25 (9 * f + k)) (G 25 (9 * f + (k + 1)))))))) : wpX_stepOn post (xs_mk F G) := by
  refine xb_stA (F' := F) (G' := xb_w G f (p + 1) (k + 1) (upd (G 25) (9 * f + k) (kn_comb op (G 25 (9 * f + k)) (G 25 (9 * f + (k + 1)))))) hf hfb hp hpb hc hop rfl (fun Q q => ?_) h
  unfold wpX_calculate
  refine xb_pop (F := F) (G := xb_g G f (p + 1)) (f := f) (k := k + 1) hf hk hfb (by omega) ?_
  refine xb_pop (F := F) (G := uu_G (xb_g G f (p + 1)) 24 (upd (G 24) f (nI (k + 1)))) (f := f) (k := k) hf pk_us hfb (by omega) ?_
  have e : upd (upd (upd (G 24) f (nI (k + 1))) f (nI k)) f (nI (k + 1)) = upd (G 24) f (nI (k + 1)) := by rw [uu_uu, uu_uu]
  have q' : ∀ v, v = kn_comb op (G 25 (9 * f + k)) (G 25 (9 * f + (k + 1))) → Q (xs_mk F (uu_G (uu_G (uu_G G 22 (upd (G 22) f (nI (p + 1)))) 24 (upd (upd (upd (G 24) f (nI (k + 1))) f (nI k)) f (nI (k + 1)))) 25 (upd (G 25) (9 * f + k) v))) := by
    rintro _ rfl; rw [e]; exact q
  have n0 : ∀ m, m < 4 → nI op = nI m → op = m := fun m hm z => (nI_eq (by omega) (by omega)).mp z
  have n1 : ∀ m, m < 4 → ¬ nI op = nI m → op ≠ m := fun m hm z w => z (congrArg nI w)
  unfold wpX_combined
  refine ⟨fun h0 => ?_, fun h0 => ⟨fun h1 => ?_, fun h1 => ⟨fun h2 => ?_, fun h2 => ⟨fun h3 => ?_, fun h3 => ?_⟩⟩⟩⟩
  · refine xb_push (F := F) (G := uu_G (uu_G (xb_g G f (p + 1)) 24 (upd (G 24) f (nI (k + 1)))) 24 (upd (upd (G 24) f (nI (k + 1))) f (nI k))) (f := f) (k := k) hf pk_us hfb (by omega) (q' _ ?_)
    rw [n0 0 (by omega) h0]; rfl
  · refine xb_push (F := F) (G := uu_G (uu_G (xb_g G f (p + 1)) 24 (upd (G 24) f (nI (k + 1)))) 24 (upd (upd (G 24) f (nI (k + 1))) f (nI k))) (f := f) (k := k) hf pk_us hfb (by omega) (q' _ ?_)
    rw [n0 1 (by omega) h1]; rfl
  · refine xb_push (F := F) (G := uu_G (uu_G (xb_g G f (p + 1)) 24 (upd (G 24) f (nI (k + 1)))) 24 (upd (upd (G 24) f (nI (k + 1))) f (nI k))) (f := f) (k := k) hf pk_us hfb (by omega) (q' _ ?_)
    rw [n0 2 (by omega) h2]; rfl
  · refine xb_push (F := F) (G := uu_G (uu_G (xb_g G f (p + 1)) 24 (upd (G 24) f (nI (k + 1)))) 24 (upd (upd (G 24) f (nI (k + 1))) f (nI k))) (f := f) (k := k) hf pk_us hfb (by omega) (q' _ ?_)
    have := n1 0 (by omega) h0; have := n1 1 (by omega) h1; have := n1 2 (by omega) h2
    obtain rfl : op = 3 := by omega
    exact (if_pos h3).symm
  · refine xb_push (F := F) (G := uu_G (uu_G (xb_g G f (p + 1)) 24 (upd (G 24) f (nI (k + 1)))) 24 (upd (upd (G 24) f (nI (k + 1))) f (nI k))) (f := f) (k := k) hf pk_us hfb (by omega) (q' _ ?_)
    have := n1 0 (by omega) h0; have := n1 1 (by omega) h1; have := n1 2 (by omega) h2
    obtain rfl : op = 3 := by omega
    exact (if_neg h3).symm
theorem xi_slide (hf : F 10 = nI (f + 1)) (hfb : f < 168) (hp : G 22 f = nI p) (hpb : p < 1200) (hc : G 11 p = 6)
    (hk : G 24 f = nI (k + 2)) (hkb : k < 8) (h : post (xs_mk F (xb_w G f (p + 1) (k + 1) (upd (G 25) (9 * f + k) (G 25 (9 * f + (k + 1))))))) : wpX_stepOn post (xs_mk F G) := by
  refine xb_st6 (F' := F) (G' := xb_w G f (p + 1) (k + 1) (upd (G 25) (9 * f + k) (G 25 (9 * f + (k + 1))))) hf hfb hp hpb hc rfl (fun Q q => ?_) h
  have e : upd (upd (upd (G 24) f (nI (k + 1))) f (nI k)) f (nI (k + 1)) = upd (G 24) f (nI (k + 1)) := by rw [uu_uu, uu_uu]
  have q' : Q (xs_mk F (uu_G (uu_G (uu_G G 22 (upd (G 22) f (nI (p + 1)))) 24 (upd (upd (upd (G 24) f (nI (k + 1))) f (nI k)) f (nI (k + 1)))) 25 (upd (G 25) (9 * f + k) (G 25 (9 * f + (k + 1)))))) := by
    rw [e]; exact q
  unfold wpX_slide
  refine xb_pop (F := F) (G := xb_g G f (p + 1)) (f := f) (k := k + 1) hf hk hfb (by omega) ?_
  refine xb_pop (F := F) (G := uu_G (xb_g G f (p + 1)) 24 (upd (G 24) f (nI (k + 1)))) (f := f) (k := k) hf pk_us hfb (by omega) ?_
  exact xb_push (F := F) (G := uu_G (uu_G (xb_g G f (p + 1)) 24 (upd (G 24) f (nI (k + 1)))) 24 (upd (upd (G 24) f (nI (k + 1))) f (nI k))) (f := f) (k := k) hf pk_us hfb (by omega) q'
theorem xi_jz {n : Nat} (hf : F 10 = nI (f + 1)) (hfb : f < 168) (hp : G 22 f = nI p) (hpb : p < 1200) (hc : G 11 p = 7) (ho : G 12 p = nI n) (hn : n < 32768)
    (hk : G 24 f = nI (k + 1)) (hkb : k < 9) (h : post (xs_mk F (xb_w G f (if G 25 (9 * f + k) = 0 then n else p + 1) k (G 25)))) : wpX_stepOn post (xs_mk F G) := by
  refine xb_st7 (F' := F) (G' := xb_w G f (if G 25 (9 * f + k) = 0 then n else p + 1) k (G 25)) hf hfb hp hpb hc ho (fun Q q => ?_) h
  unfold wpX_jumpZero
  refine xb_pop (F := F) (G := xb_g G f (p + 1)) (f := f) (k := k) hf hk hfb (by omega) ?_
  have e1 : F 10 - 1 = nI f := by rw [hf]; exact nI_pred f
  have c : (nI f).toNatClampNeg = f := nI_clamp (by omega)
  by_cases z : G 25 (9 * f + k) = 0
  · rw [if_pos z] at q
    refine br_t z (And.intro (show vp_in (F 10 - 1) 168 by rw [e1]; exact vp_in_nI hfb (by omega)) (nm_r (e' := upd (G 22) f (nI n)) ?_ q))
    show upd (upd (G 22) f (nI (p + 1))) (F 10 - 1).toNatClampNeg (vp_nar .short (nI n).toInt16.toInt32) = _
    rw [e1, c, uu_b16 hn, uu_ns hn, uu_uu]
  · rw [if_neg z] at q
    exact br_f z q
theorem xi_jump {e : Nat} (hf : F 10 = nI (f + 1)) (hfb : f < 168) (hp : G 22 f = nI p) (hpb : p < 1200) (hc : G 11 p = 8)
    (ho : G 12 p = nI e) (he : e < 32768) (h : post (xs_mk F (xb_g G f e))) : wpX_stepOn post (xs_mk F G) := by
  refine xb_st8 (F := F) (G := G) hf hfb hp hpb hc ho he ?_
  have q : upd (upd (G 22) f (nI (p + 1))) f (nI e) = upd (G 22) f (nI e) := uu_uu
  have q' : post (xs_mk F (uu_G G 22 (upd (upd (G 22) f (nI (p + 1))) f (nI e)))) := by rw [q]; exact h
  exact q'
theorem xi_tick {n s : Nat} (hf : F 10 = nI (f + 1)) (hfb : f < 168) (hp : G 22 f = nI p) (hpb : p < 1200) (hc : G 11 p = 9)
    (ho : G 12 p = nI n) (hs : F 18 = nI s) (hb : s + n ≤ 150) (h : post (xs_mk (upd F 18 (nI (s + n))) (xb_g G f (p + 1)))) : wpX_stepOn post (xs_mk F G) := by
  refine xb_st9 (F' := upd F 18 (nI (s + n))) (G' := xb_g G f (p + 1)) hf hfb hp hpb hc ho (fun Q q => ?_) h
  unfold wpX_tick
  exact nm_r (e' := nI (s + n)) (by rw [hs, nI_add]) (br_t (nI_le (b := 150) hb (by omega)) q)
theorem xi_tickT {n s : Nat} (hf : F 10 = nI (f + 1)) (hfb : f < 168) (hp : G 22 f = nI p) (hpb : p < 1200) (hc : G 11 p = 9)
    (ho : G 12 p = nI n) (hs : F 18 = nI s) (hb : 150 < s + n) (hb2 : s + n < 100000) (h : post (xs_mk (upd (upd F 18 150) 15 2) (xb_g G f (p + 1)))) : wpX_stepOn post (xs_mk F G) := by
  refine xb_st9 (F' := upd (upd F 18 150) 15 2) (G' := xb_g G f (p + 1)) hf hfb hp hpb hc ho (fun Q q => ?_) h
  unfold wpX_tick
  exact nm_r (e' := nI (s + n)) (by rw [hs, nI_add]) (br_f (nI_ge (a := 150) hb (by omega)) q)
theorem xi_show {n : Nat} (hf : F 10 = nI (f + 1)) (hfb : f < 168) (hp : G 22 f = nI p) (hpb : p < 1200) (hc : G 11 p = 10)
    (hk : G 24 f = nI (k + 1)) (hkb : k < 9) (hn : F 22 = nI n) (hnb : n < 150)
    (h : post (xs_mk (upd F 22 (nI (n + 1))) (uu_G (xb_w G f (p + 1) (k + 1) (upd (G 25) (9 * f + k) (G 25 (9 * f + k)))) 40 (upd (G 40) n (G 25 (9 * f + k)))))) : wpX_stepOn post (xs_mk F G) := by
  refine xb_st10 (F' := upd F 22 (nI (n + 1))) (G' := uu_G (xb_w G f (p + 1) (k + 1) (upd (G 25) (9 * f + k) (G 25 (9 * f + k)))) 40 (upd (G 40) n (G 25 (9 * f + k)))) hf hfb hp hpb hc rfl (fun Q q => ?_) h
  have e : upd (upd (G 24) f (nI k)) f (nI (k + 1)) = upd (G 24) f (nI (k + 1)) := uu_uu
  have q' : Q (xs_mk (upd F 22 (nI (n + 1))) (uu_G (uu_G (uu_G (uu_G G 22 (upd (G 22) f (nI (p + 1)))) 24 (upd (upd (G 24) f (nI k)) f (nI (k + 1)))) 25 (upd (G 25) (9 * f + k) (G 25 (9 * f + k)))) 40 (upd (G 40) n (G 25 (9 * f + k))))) := by
    rw [e]; exact q
  have c : (nI n).toNatClampNeg = n := nI_clamp (by omega)
  unfold wpX_show
  refine xb_pop (F := F) (G := xb_g G f (p + 1)) (f := f) (k := k) hf hk hfb (by omega) ?_
  show vp_in (F 22) 150 ∧ _
  rw [hn, c]
  refine ⟨vp_in_nI hnb (by omega), nm_r (e' := upd (G 40) n (G 25 (9 * f + k))) rfl (nm_r (e' := nI (n + 1)) (nI_1 n) ?_)⟩
  exact xb_push (F := upd F 22 (nI (n + 1))) (G := uu_G (uu_G (xb_g G f (p + 1)) 24 (upd (G 24) f (nI k))) 40 (upd (G 40) n (G 25 (9 * f + k)))) (f := f) (k := k) hf pk_us hfb hkb q'
end
end
section
/-! frames come and go -/
section
variable {F : Nat → Int32} {G : Nat → Nat → Int32} {hot fz nr nc : Nat} {fs : List ct_F} {ms : List ct_XM} {XC : Nat → List ct_F × List ct_XM}
def xb_eG (G : Nat → Nat → Int32) (f p ct : Nat) (a b c : Int32) : Nat → Nat → Int32 :=
  uu_G (uu_G (uu_G (uu_G G 22 (upd (G 22) f (nI p))) 23 (upd (G 23) f (nI ct))) 25 (upd (upd (upd (G 25) (9 * f) a) (9 * f + 1) b) (9 * f + 2) c)) 24 (upd (G 24) f 3)
theorem xb_enter {p ct f : Nat} {a b c : Int32} {post : SX → Prop} (hf : F 10 = nI f) (hfb : f < 168) (hp : p < 32768) (hct : ct < 32768)
    (h : post (xs_mk (upd F 10 (nI (f + 1))) (xb_eG G f p ct a b c))) : wpX_enter post (xs_mk F G) (nI p) a b c (nI ct) := by
  have v : vp_in (nI f) 168 := vp_in_nI hfb (by omega)
  have c0 : (nI f).toNatClampNeg = f := nI_clamp (by omega)
  have c1 : (nI (9 * f)).toNatClampNeg = 9 * f := nI_clamp (by omega)
  have c2 : (nI (9 * f + 1)).toNatClampNeg = 9 * f + 1 := nI_clamp (by omega)
  have c3 : (nI (9 * f + 2)).toNatClampNeg = 9 * f + 2 := nI_clamp (by omega)
  unfold wpX_enter
  show vp_in (F 10) 168 ∧ _
  rw [hf, uu_m9, uu_a1, uu_a2, c0, c1, c2, c3, uu_b16 hp, uu_ns hp, uu_b16 hct, uu_ns hct]
  refine ⟨v, nm_e ⟨v, nm_e ⟨vp_in_nI (by omega) (by omega), nm_e ⟨vp_in_nI (by omega) (by omega), nm_e ⟨vp_in_nI (by omega) (by omega), nm_e ⟨v, nm_r (e' := upd (G 24) f 3) (by rw [vp_nar_byte]; rfl) (nm_r (e' := nI (f + 1)) (nI_1 f) h)⟩⟩⟩⟩⟩⟩
theorem xn_enterT {p ct : Nat} {a b c : Int32} {F' : Nat → Int32} (S : xr_S F G hot fz nr fs ms XC nc) (hp : p ≤ 1200) (hct : ct < 100) (hF : ∀ k, 11 ≤ k → k ≤ 15 → F' k = F k) (hf : F' 10 = nI (hot + 1)) :
    xr_T F' (xb_eG G hot p ct a b c) hot fz nr (p, ct, [c, b, a]) fs ms XC nc := by
  obtain ⟨s1, s2, s3, s4, s5, s6, s7⟩ := S
  have aG : ∀ k, 26 ≤ k → k ≤ 39 → xb_eG G hot p ct a b c k = G k := by
    intro k h1 h2
    unfold xb_eG
    rw [uu_Gn (by omega), uu_Gn (by omega), uu_Gn (by omega), uu_Gn (by omega)]
  have aH : ag_H G (xb_eG G hot p ct a b c) hot := by
    refine ⟨?_, ?_⟩
    · intro k h1 h2 f hf
      have hn : f ≠ hot := by omega
      obtain rfl | rfl | rfl : k = 22 ∨ k = 23 ∨ k = 24 := by omega
      all_goals exact pk_un hn
    · intro i hi
      show upd (upd (upd (G 25) (9 * hot) a) (9 * hot + 1) b) (9 * hot + 2) c i = _
      rw [pk_un (by omega), pk_un (by omega), pk_un (by omega)]
  refine ⟨hf, ⟨pk_us, pk_us, pk_us, by simp, hp, hct, ?_⟩, (hF _ (by decide) (by decide)).trans s1, (hF _ (by decide) (by decide)).trans s2, (hF _ (by decide) (by decide)).trans s3, (hF _ (by decide) (by decide)).trans s4, (hF _ (by decide) (by decide)).trans s5, ?_, ?_⟩
  · intro i hi
    show upd (upd (upd (G 25) (9 * hot) a) (9 * hot + 1) b) (9 * hot + 2) c (9 * hot + i) = wd_g [c, b, a] i
    simp only [List.length_cons, List.length_nil] at hi
    obtain rfl | rfl | rfl : i = 0 ∨ i = 1 ∨ i = 2 := by omega
    · rw [pk_un (by omega), pk_un (by omega)]; exact pk_us
    · rw [pk_un (by omega)]; exact pk_us
    · exact pk_us
  · exact sg_x (ag_Crf fun k a b => aG k a (by omega)) (Nat.le_refl _) _ _ _ (Nat.le_refl _) aH (ag_Srf fun k a b => aG k (by omega) (by omega)) s6
  · exact xr_Kx (ag_Crf fun k a b => aG k a (by omega)) (Nat.le_refl _) (Nat.le_refl _) (fun k a b j _ => by rw [aG k (by omega) (by omega)]) (fun k a b j _ => by rw [aG k (by omega) (by omega)]) s7
/-- the words of a frozen frame come back -/
theorem xb_thawL {c k f : Nat} (hc : c < 304) (hf : F 10 = nI f) (hfb : f < 168) (hk : G 28 c = nI k) (hkb : k ≤ 9) :
    ∀ (m i : Nat) (W : Nat → Int32), i + m = k → (∀ j, j < 9 * f → W j = G 25 j) → (∀ j, j < i → W (9 * f + j) = G 30 (9 * c + j)) →
      ∃ W' : Nat → Int32, (∀ j, j < 9 * f → W' j = G 25 j) ∧ (∀ j, j < k → W' (9 * f + j) = G 30 (9 * c + j))
        ∧ ∀ post : SX → Prop, post (xs_mk (upd F 10 (nI (f + 1))) (uu_G G 25 W')) → wX_thaw_72 post (nI c) (F 0) (F 1) (F 2) (F 3) (F 4) (F 5) (F 6) (F 7) (F 8) (F 9) (F 10) (F 11) (F 12) (F 13) (F 14) (F 15) (F 16) (F 17) (F 18) (F 19) (F 20) (F 21) (F 22) (m + 1) (nI i) (uu_G G 25 W 0) (uu_G G 25 W 1) (uu_G G 25 W 2) (uu_G G 25 W 3) (uu_G G 25 W 4) (uu_G G 25 W 5) (uu_G G 25 W 6) (uu_G G 25 W 7) (uu_G G 25 W 8) (uu_G G 25 W 9) (uu_G G 25 W 10) (uu_G G 25 W 11) (uu_G G 25 W 12) (uu_G G 25 W 13) (uu_G G 25 W 14) (uu_G G 25 W 15) (uu_G G 25 W 16) (uu_G G 25 W 17) (uu_G G 25 W 18) (uu_G G 25 W 19) (uu_G G 25 W 20) (uu_G G 25 W 21) (uu_G G 25 W 22) (uu_G G 25 W 23) (uu_G G 25 W 24) (uu_G G 25 W 25) (uu_G G 25 W 26) (uu_G G 25 W 27) (uu_G G 25 W 28) (uu_G G 25 W 29) (uu_G G 25 W 30) (uu_G G 25 W 31) (uu_G G 25 W 32) (uu_G G 25 W 33) (uu_G G 25 W 34) (uu_G G 25 W 35) (uu_G G 25 W 36) (uu_G G 25 W 37) (uu_G G 25 W 38) (uu_G G 25 W 39) (uu_G G 25 W 40) := by
  have cc : (nI c).toNatClampNeg = c := nI_clamp (by omega)
  intro m
  induction m with
  | zero =>
    intro i W hi h1 h2
    refine ⟨W, h1, fun j hj => h2 j (by omega), fun post h => ?_⟩
    unfold wX_thaw_72
    refine ⟨vp_in_nI hc (by omega), br_t ?_ (nm_r (e' := nI (f + 1)) (by rw [hf, nI_1]) h)⟩
    show G 28 (nI c).toNatClampNeg ≤ nI i
    rw [cc, hk]; exact nI_le (by omega) (by omega)
  | succ m ih =>
    intro i W hi h1 h2
    obtain ⟨W', g1, g2, g3⟩ := ih (i + 1) (upd W (9 * f + i) (G 30 (9 * c + i))) (by omega)
      (fun j hj => by rw [pk_un (by omega)]; exact h1 j hj)
      (fun j hj => by
        by_cases z : j = i
        · rw [z, pk_us]
        · rw [pk_un (by omega)]; exact h2 j (by omega))
    refine ⟨W', g1, g2, fun post h => ?_⟩
    have e1 : 9 * nI c + nI i = nI (9 * c + i) := by rw [uu_m9, nI_add]
    have e2 : 9 * F 10 + nI i = nI (9 * f + i) := by rw [hf, uu_m9, nI_add]
    have c1 : (nI (9 * c + i)).toNatClampNeg = 9 * c + i := nI_clamp (by omega)
    have c2 : (nI (9 * f + i)).toNatClampNeg = 9 * f + i := nI_clamp (by omega)
    unfold wX_thaw_72
    refine ⟨vp_in_nI hc (by omega), br_f ?_ ?_⟩
    · show ¬ G 28 (nI c).toNatClampNeg ≤ nI i
      rw [cc, hk]; exact nI_ge (by omega) (by omega)
    · rw [e1, e2, c1, c2]
      refine ⟨vp_in_nI (by omega) (by omega), vp_in_nI (by omega) (by omega), nm_e (nm_r (e' := nI (i + 1)) (nI_1 i) ?_)⟩
      exact g3 post h
end
section
variable {F : Nat → Int32} {G : Nat → Nat → Int32} {hot fz nr nc : Nat} {fs : List ct_F} {ms : List ct_XM} {XC : Nat → List ct_F × List ct_XM}
def xb_tG (G : Nat → Nat → Int32) (j c f : Nat) : Nat → Nat → Int32 :=
  uu_G (uu_G (uu_G (uu_G G 32 (upd (G 32) j (G 29 c))) 22 (upd (G 22) f (G 26 c))) 23 (upd (G 23) f (G 27 c))) 24 (upd (G 24) f (G 28 c))
theorem xb_thaw {j c f b p ct k : Nat} (hj : F 12 = nI j) (hjb : j < 7) (hc : G 32 j = nI c) (hcb : c < 304) (hb : G 29 c = nI b) (hbb : b < 32768) (hf : F 10 = nI f) (hfb : f < 168)
    (hp : G 26 c = nI p) (hpb : p < 32768) (hct : G 27 c = nI ct) (hctb : ct < 32768) (hk : G 28 c = nI k) (hkb : k ≤ 9) :
    ∃ W' : Nat → Int32, (∀ i, i < 9 * f → W' i = G 25 i) ∧ (∀ i, i < k → W' (9 * f + i) = G 30 (9 * c + i))
        ∧ ∀ post : SX → Prop, post (xs_mk (upd F 10 (nI (f + 1))) (uu_G (xb_tG G j c f) 25 W')) → wpX_thaw post (xs_mk F G) := by
  obtain ⟨W', g1, g2, g3⟩ := xb_thawL (F := F) (G := xb_tG G j c f) (c := c) (k := k) (f := f) hcb hf hfb hk hkb k 0 (G 25) (by omega) (fun _ _ => rfl) (fun i hi => absurd hi (by omega))
  refine ⟨W', g1, g2, fun post h => ?_⟩
  have vj : vp_in (F 12) 7 := by rw [hj]; exact vp_in_nI hjb (by omega)
  have vc : vp_in (nI c) 304 := vp_in_nI hcb (by omega)
  have vf : vp_in (F 10) 168 := by rw [hf]; exact vp_in_nI hfb (by omega)
  have cj : (F 12).toNatClampNeg = j := by rw [hj]; exact nI_clamp (by omega)
  have cc : (nI c).toNatClampNeg = c := nI_clamp (by omega)
  have cf : (F 10).toNatClampNeg = f := by rw [hf]; exact nI_clamp (by omega)
  unfold wpX_thaw
  simp only [cj, cf]
  refine ⟨vj, nm_r (e' := nI c) hc ?_⟩
  simp only [cc]
  refine ⟨vc, vj, nm_r (e' := upd (G 32) j (G 29 c)) (by rw [hb, uu_ns hbb]) ⟨vc, vf, nm_r (e' := upd (G 22) f (G 26 c)) (by rw [hp, uu_ns hpb]) ⟨vc, vf, nm_r (e' := upd (G 23) f (G 27 c)) (by rw [hct, uu_ns hctb]) ⟨vc, vf, nm_r (e' := upd (G 24) f (G 28 c)) (by rw [hk, uu_nb (by omega)]) ⟨k + 1, g3 post h⟩⟩⟩⟩⟩
/-- the first frozen frame of the first segment comes to work again -/
theorem xn_thaw {fr : ct_F} (S : xr_S F G hot fz nr (fr :: fs) ms XC nc) (hf : F 10 = nI hot) (hfb : hot < 168) (hfz : fz ≤ 303) (hm : ms.length < 7) (hlo : G 31 ms.length = nI hot) :
    ∃ F' G', (∀ post : SX → Prop, post (xs_mk F' G') → wpX_thaw post (xs_mk F G)) ∧ xr_T F' G' hot fz nr fr fs ms XC nc ∧ (∀ k, k < 10 ∨ 15 < k → F' k = F k) ∧ (∀ k, k < 22 ∨ 40 ≤ k → G' k = G k) := by
  obtain ⟨s1, s2, s3, s4, s5, s6, s7⟩ := S
  obtain ⟨lo, h0, h1, h2, h3⟩ := sg_top.mp s6
  obtain rfl : lo = hot := by
    have h2' := sl_ge _ _ h2
    rw [hlo] at h1
    by_cases z : lo < 2 ^ 31
    · exact ((nI_eq (by omega) z).mp h1).symm
    · omega
  rcases h2 with ⟨_, c, c1, c2, c3, ⟨d1, d2, d3, d4, d5, d6, d7⟩, c5⟩ | ⟨z, _⟩
  · obtain ⟨b, hb, hbb⟩ : ∃ b, G 29 c = nI b ∧ b < 32768 := by
      cases fs with
      | nil => exact ⟨0, c5.trans nI_0.symm, by omega⟩
      | cons _ _ =>
        obtain ⟨c', _, e2, e3, _⟩ := c5
        exact ⟨c', e3, by omega⟩
    obtain ⟨W', g1, g2, g3⟩ := xb_thaw (F := F) (G := G) s2 hm c3 (by omega) hb hbb hf hfb d1 (by omega) d2 (by omega) d3 d4
    have aG : ∀ k, (26 ≤ k ∧ k ≤ 31) ∨ 33 ≤ k ∨ k < 22 → uu_G (xb_tG G ms.length c lo) 25 W' k = G k := by
      intro k h
      unfold xb_tG
      rw [uu_Gn (by omega), uu_Gn (by omega), uu_Gn (by omega), uu_Gn (by omega), uu_Gn (by omega)]
    have aC : ag_C G (uu_G (xb_tG G ms.length c lo) 25 W') (fz + 1) := ag_Crf fun k a b => aG k (Or.inl ⟨a, by omega⟩)
    have aH : ag_H G (uu_G (xb_tG G ms.length c lo) 25 W') lo := by
      refine ⟨?_, g1⟩
      intro k h1 h2 f hf
      have hn : f ≠ lo := by omega
      obtain rfl | rfl | rfl : k = 22 ∨ k = 23 ∨ k = 24 := by omega
      all_goals exact pk_un hn
    refine ⟨_, _, g3, ⟨rfl, ⟨pk_us.trans d1, pk_us.trans d2, pk_us.trans d3, d4, d5, d6, ?_⟩, s1, s2, s3, s4, s5, ?_, ?_⟩, ?_, ?_⟩
    · intro i hi
      exact (g2 i hi).trans (d7 i hi)
    · refine sg_top.mpr ⟨lo, Nat.le_refl _, hlo, ?_, ?_⟩
      · have e : uu_G (xb_tG G ms.length c lo) 25 W' 32 ms.length = G 29 c := pk_us
        rw [e]
        cases fs with
        | nil => exact ⟨rfl, c5⟩
        | cons f1 fs => exact Or.inl ⟨rfl, cl_x aC _ _ _ _ (by omega) (by omega) c5⟩
      · refine sg_Bx aC (Nat.le_refl _) aH ?_ (by rw [aG _ (by decide)]) (by rw [aG _ (by decide)]) h3
        intro k h1 h2 i hi
        by_cases z : k = 32
        · subst z; exact pk_un (by omega)
        · rw [aG k (by omega)]
    · exact xr_Kx aC (Nat.le_refl _) (Nat.le_refl _) (fun k a b i _ => by rw [aG k (by omega)]) (fun k a b i _ => by rw [aG k (by omega)]) s7
    · intro k hk
      exact pk_un (by omega)
    · intro k hk
      exact aG k (by omega)
  · omega
end
end
section
/-! instructions inside a frame, over lists -/
section
variable {F : Nat → Int32} {G : Nat → Nat → Int32} {hot fz nr nc i : Nat} {p ct : Nat} {ws : List Int32} {fs : List ct_F} {ms : List ct_XM} {XC : Nat → List ct_F × List ct_XM}
theorem xr_w {F' : Nat → Int32} {p' : Nat} {ws' : List Int32} {W : Nat → Int32} (T : xr_T F G hot fz nr (p, ct, ws) fs ms XC nc) (hF : ∀ k, 10 ≤ k → k ≤ 15 → F' k = F k)
    (hp : p' ≤ 1200) (hl : ws'.length ≤ 9) (h1 : ∀ j, j < 9 * hot → W j = G 25 j) (h2 : ∀ j, j < ws'.length → W (9 * hot + j) = wd_g ws' j) :
    xr_T F' (xb_w G hot p' ws'.length W) hot fz nr (p', ct, ws') fs ms XC nc := by
  obtain ⟨t1, ⟨t2, t3, t4, t5, t6, t7, t8⟩, S⟩ := T
  refine xr_hot S hF ((hF _ (by decide) (by decide)).trans t1) ⟨?_, h1⟩ ?_ ⟨pk_us, t3, pk_us, hl, hp, t7, h2⟩
  · intro k a b f hf
    have hn : f ≠ hot := by omega
    obtain rfl | rfl | rfl : k = 22 ∨ k = 23 ∨ k = 24 := by omega
    · exact pk_un hn
    · rfl
    · exact pk_un hn
  · intro k a b
    unfold xb_w
    rw [uu_Gn (by omega), uu_Gn (by omega), uu_Gn (by omega)]
theorem xr_g {F' : Nat → Int32} {p' : Nat} (T : xr_T F G hot fz nr (p, ct, ws) fs ms XC nc) (hF : ∀ k, 10 ≤ k → k ≤ 15 → F' k = F k) (hp : p' ≤ 1200) :
    xr_T F' (xb_g G hot p') hot fz nr (p', ct, ws) fs ms XC nc := by
  obtain ⟨t1, ⟨t2, t3, t4, t5, t6, t7, t8⟩, S⟩ := T
  refine xr_hot S hF ((hF _ (by decide) (by decide)).trans t1) ⟨?_, fun _ _ => rfl⟩ ?_ ⟨pk_us, t3, t4, t5, hp, t7, t8⟩
  · intro k a b f hf
    have hn : f ≠ hot := by omega
    obtain rfl | rfl | rfl : k = 22 ∨ k = 23 ∨ k = 24 := by omega
    · exact pk_un hn
    · rfl
    · rfl
  · intro k a b
    unfold xb_g
    rw [uu_Gn (by omega)]
theorem xr_wI {p' k' : Nat} {W : Nat → Int32} : xr_I F G F (xb_w G hot p' k' W) := by
  refine ⟨fun _ _ => rfl, fun k hk => ?_⟩
  unfold xb_w
  rw [uu_Gn (by omega), uu_Gn (by omega), uu_Gn (by omega)]
theorem xr_gI {F' : Nat → Int32} {p' : Nat} (h : ∀ k, k < 10 → F' k = F k) : xr_I F G F' (xb_g G hot p') := by
  refine ⟨h, fun k hk => ?_⟩
  unfold xb_g
  rw [uu_Gn (by omega)]
variable {st pf rs mo no : Nat} {og : Nat → Int32} {v : Int32}
/-- a value is pushed: by PUSH -/
theorem xj_push (T : xr_T F G hot fz nr (p, ct, ws) fs ms XC nc) (N : xr_N F G st pf rs mo no og) (hi : i < 4000000) (hb : hot < 168) (hc : cg_at (G 11) p 4) (ho : G 12 p = v) (hw : ws.length < 9) :
    ∃ G', ex_go i F G (i + 1) F G' ∧ xr_T F G' hot fz nr (p + 1, ct, v :: ws) fs ms XC nc ∧ xr_N F G' st pf rs mo no og ∧ xr_I F G F G' := by
  have T' := T
  obtain ⟨t1, ⟨t2, t3, t4, t5, t6, t7, t8⟩, S⟩ := T
  dsimp only at t4 t5 t8
  refine ⟨_, ex_step hi S.2.2.2.2.1 (fun post h => xi_push t1 hb t2 hc.1 hc.2 ho t4 hw h), xr_w (ws' := v :: ws) T' (fun _ _ _ => rfl) (by have := hc.1; omega) (by simp only [List.length_cons]; omega) ?_ ?_, N, xr_wI⟩
  · intro j hj
    exact pk_un (by omega)
  · intro j hj
    simp only [List.length_cons] at hj
    by_cases z : j = ws.length
    · rw [z, pk_us, wd_top]
    · rw [pk_un (by omega), wd_low (by omega)]; exact t8 j (by show j < ws.length; omega)
/-- a variable is pushed -/
theorem xj_load {n : Nat} (T : xr_T F G hot fz nr (p, ct, ws) fs ms XC nc) (N : xr_N F G st pf rs mo no og) (hi : i < 4000000) (hb : hot < 168) (hc : cg_at (G 11) p 5) (ho : G 12 p = nI n) (hn : n < ws.length) (hw : ws.length < 9) :
    ∃ G', ex_go i F G (i + 1) F G' ∧ xr_T F G' hot fz nr (p + 1, ct, wd_g ws n :: ws) fs ms XC nc ∧ xr_N F G' st pf rs mo no og ∧ xr_I F G F G' := by
  have T' := T
  obtain ⟨t1, ⟨t2, t3, t4, t5, t6, t7, t8⟩, S⟩ := T
  dsimp only at t4 t5 t8
  refine ⟨_, ex_step hi S.2.2.2.2.1 (fun post h => xi_load t1 hb t2 hc.1 hc.2 ho (by omega) t4 hw h), xr_w (ws' := wd_g ws n :: ws) T' (fun _ _ _ => rfl) (by have := hc.1; omega) (by simp only [List.length_cons]; omega) ?_ ?_, N, xr_wI⟩
  · intro j hj
    exact pk_un (by omega)
  · intro j hj
    simp only [List.length_cons] at hj
    by_cases z : j = ws.length
    · rw [z, pk_us, wd_top]; exact t8 n hn
    · rw [pk_un (by omega), wd_low (by omega)]; exact t8 j (by show j < ws.length; omega)
theorem xj_calc {op : Nat} {x y : Int32} (T : xr_T F G hot fz nr (p, ct, y :: x :: ws) fs ms XC nc) (N : xr_N F G st pf rs mo no og) (hi : i < 4000000) (hb : hot < 168) (hc : cg_at (G 11) p (nI op)) (ho : op < 4) :
    ∃ G', ex_go i F G (i + 1) F G' ∧ xr_T F G' hot fz nr (p + 1, ct, kn_comb op x y :: ws) fs ms XC nc ∧ xr_N F G' st pf rs mo no og ∧ xr_I F G F G' := by
  have T' := T
  obtain ⟨t1, ⟨t2, t3, t4, t5, t6, t7, t8⟩, S⟩ := T
  simp only [List.length_cons] at t4 t5 t8
  have e1 : G 25 (9 * hot + ws.length) = x := by rw [t8 _ (by omega), wd_low (by simp), wd_top]
  have e2 : G 25 (9 * hot + (ws.length + 1)) = y := by rw [t8 _ (by omega)]; exact wd_top y (x :: ws)
  refine ⟨_, ex_step hi S.2.2.2.2.1 (fun post h => xi_calc t1 hb t2 hc.1 hc.2 ho t4 (by omega) h), xr_w (ws' := kn_comb op x y :: ws) T' (fun _ _ _ => rfl) (by have := hc.1; omega) (by simp only [List.length_cons]; omega) ?_ ?_, N, xr_wI⟩
  · intro j hj
    exact pk_un (by omega)
  · intro j hj
    simp only [List.length_cons] at hj
    by_cases z : j = ws.length
    · rw [z, pk_us, wd_top, e1, e2]
    · rw [pk_un (by omega), wd_low (by omega), t8 j (by omega), wd_low (by simp only [List.length_cons]; omega), wd_low (by omega)]
theorem xj_slide {x y : Int32} (T : xr_T F G hot fz nr (p, ct, y :: x :: ws) fs ms XC nc) (N : xr_N F G st pf rs mo no og) (hi : i < 4000000) (hb : hot < 168) (hc : cg_at (G 11) p 6) :
    ∃ G', ex_go i F G (i + 1) F G' ∧ xr_T F G' hot fz nr (p + 1, ct, y :: ws) fs ms XC nc ∧ xr_N F G' st pf rs mo no og ∧ xr_I F G F G' := by
  have T' := T
  obtain ⟨t1, ⟨t2, t3, t4, t5, t6, t7, t8⟩, S⟩ := T
  simp only [List.length_cons] at t4 t5 t8
  have e2 : G 25 (9 * hot + (ws.length + 1)) = y := by rw [t8 _ (by omega)]; exact wd_top y (x :: ws)
  refine ⟨_, ex_step hi S.2.2.2.2.1 (fun post h => xi_slide t1 hb t2 hc.1 hc.2 t4 (by omega) h), xr_w (ws' := y :: ws) T' (fun _ _ _ => rfl) (by have := hc.1; omega) (by simp only [List.length_cons]; omega) ?_ ?_, N, xr_wI⟩
  · intro j hj
    exact pk_un (by omega)
  · intro j hj
    simp only [List.length_cons] at hj
    by_cases z : j = ws.length
    · rw [z, pk_us, wd_top, e2]
    · rw [pk_un (by omega), wd_low (by omega), t8 j (by omega), wd_low (by simp only [List.length_cons]; omega), wd_low (by omega)]
theorem xj_jz {n : Nat} {x : Int32} (T : xr_T F G hot fz nr (p, ct, x :: ws) fs ms XC nc) (N : xr_N F G st pf rs mo no og) (hi : i < 4000000) (hb : hot < 168) (hc : cg_at (G 11) p 7) (ho : G 12 p = nI n) (hn : n < 1200) :
    ∃ G', ex_go i F G (i + 1) F G' ∧ xr_T F G' hot fz nr (if x = 0 then n else p + 1, ct, ws) fs ms XC nc ∧ xr_N F G' st pf rs mo no og ∧ xr_I F G F G' := by
  have T' := T
  obtain ⟨t1, ⟨t2, t3, t4, t5, t6, t7, t8⟩, S⟩ := T
  simp only [List.length_cons] at t4 t5 t8
  have e1 : G 25 (9 * hot + ws.length) = x := by rw [t8 _ (by omega), wd_top]
  refine ⟨_, ex_step hi S.2.2.2.2.1 (fun post h => xi_jz t1 hb t2 hc.1 hc.2 ho (by omega) t4 (by omega) (by rw [e1]; exact h)), xr_w (ws' := ws) T' (fun _ _ _ => rfl) (by have := hc.1; split <;> omega) (by omega) (fun _ _ => rfl) ?_, N, xr_wI⟩
  intro j hj
  rw [t8 j (by omega), wd_low (by omega)]
theorem xj_jump {e : Nat} (T : xr_T F G hot fz nr (p, ct, ws) fs ms XC nc) (N : xr_N F G st pf rs mo no og) (hi : i < 4000000) (hb : hot < 168) (hc : cg_at (G 11) p 8) (ho : G 12 p = nI e) (he : e < 1200) :
    ∃ G', ex_go i F G (i + 1) F G' ∧ xr_T F G' hot fz nr (e, ct, ws) fs ms XC nc ∧ xr_N F G' st pf rs mo no og ∧ xr_I F G F G' := by
  have T' := T
  obtain ⟨t1, ⟨t2, t3, t4, t5, t6, t7, t8⟩, S⟩ := T
  exact ⟨_, ex_step hi S.2.2.2.2.1 (fun post h => xi_jump t1 hb t2 hc.1 hc.2 ho (by omega) h), xr_g T' (fun _ _ _ => rfl) (by omega), N, xr_gI (fun _ _ => rfl)⟩
theorem xj_tick {n : Nat} (T : xr_T F G hot fz nr (p, ct, ws) fs ms XC nc) (N : xr_N F G st pf rs mo no og) (hi : i < 4000000) (hb : hot < 168) (hc : cg_at (G 11) p 9) (ho : G 12 p = nI n) (hn : st + n ≤ 150) :
    ∃ F' G', ex_go i F G (i + 1) F' G' ∧ xr_T F' G' hot fz nr (p + 1, ct, ws) fs ms XC nc ∧ xr_N F' G' (st + n) pf rs mo no og ∧ xr_I F G F' G' := by
  have T' := T
  obtain ⟨t1, ⟨t2, t3, t4, t5, t6, t7, t8⟩, S⟩ := T
  obtain ⟨n1, n2, n3, n4, n5, n6, n7, n8⟩ := N
  refine ⟨_, _, ex_step hi S.2.2.2.2.1 (fun post h => xi_tick t1 hb t2 hc.1 hc.2 ho n1 hn h), xr_g T' (fun k a b => pk_un (by omega)) (by have := hc.1; omega), ⟨rfl, n2, n3, n4, n5, n6, n7, n8⟩, xr_gI (fun k hk => pk_un (by omega))⟩
/-- too many steps -/
theorem xj_tickT {n : Nat} (T : xr_T F G hot fz nr (p, ct, ws) fs ms XC nc) (N : xr_N F G st pf rs mo no og) (hi : i < 4000000) (hb : hot < 168) (hc : cg_at (G 11) p 9) (ho : G 12 p = nI n) (hn : 150 < st + n) (hn2 : st + n < 10000) :
    ∃ F' G', ex_go i F G (i + 1) F' G' ∧ F' 15 = 2 ∧ xr_N F' G' 150 pf rs mo no og ∧ xr_I F G F' G' := by
  obtain ⟨t1, ⟨t2, t3, t4, t5, t6, t7, t8⟩, S⟩ := T
  obtain ⟨n1, n2, n3, n4, n5, n6, n7, n8⟩ := N
  refine ⟨_, _, ex_step hi S.2.2.2.2.1 (fun post h => xi_tickT t1 hb t2 hc.1 hc.2 ho n1 hn (by omega) h), rfl, ⟨rfl, n2, n3, n4, n5, n6, n7, n8⟩, xr_gI (fun k hk => ?_)⟩
  rw [pk_un (by omega), pk_un (by omega)]
theorem xj_show {x : Int32} (T : xr_T F G hot fz nr (p, ct, x :: ws) fs ms XC nc) (N : xr_N F G st pf rs mo no og) (hi : i < 4000000) (hb : hot < 168) (hc : cg_at (G 11) p 10) (hno : no < 150) :
    ∃ F' G', ex_go i F G (i + 1) F' G' ∧ xr_T F' G' hot fz nr (p + 1, ct, x :: ws) fs ms XC nc ∧ xr_N F' G' st pf rs mo (no + 1) (upd og no x) ∧ xr_I F G F' G' := by
  have T' := T
  obtain ⟨t1, ⟨t2, t3, t4, t5, t6, t7, t8⟩, S⟩ := T
  obtain ⟨n1, n2, n3, n4, n5, n6, n7, n8⟩ := N
  simp only [List.length_cons] at t4 t5 t8
  have e1 : G 25 (9 * hot + ws.length) = x := by rw [t8 _ (by omega), wd_top]
  have R := xr_w (F' := upd F 22 (nI (no + 1))) (p' := p + 1) (ws' := x :: ws) (W := upd (G 25) (9 * hot + ws.length) (G 25 (9 * hot + ws.length))) T' (fun k a b => pk_un (by omega)) (by have := hc.1; omega) (by simp only [List.length_cons]; omega)
    (fun j hj => pk_un (by omega)) (fun j hj => by
      by_cases z : j = ws.length
      · rw [z, pk_us, wd_top, e1]
      · rw [pk_un (by omega)]; simp only [List.length_cons] at hj; exact t8 j (by omega))
  refine ⟨_, _, ex_step hi S.2.2.2.2.1 (fun post h => xi_show t1 hb t2 hc.1 hc.2 t4 (by omega) n5 hno h), ?_, ⟨n1, n2, n3, n4, rfl, n6, n7, ?_⟩, ?_⟩
  · obtain ⟨r1, r2, S'⟩ := R
    refine xr_hot (F := upd F 22 (nI (no + 1))) (G := xb_w G hot (p + 1) (ws.length + 1) (upd (G 25) (9 * hot + ws.length) (G 25 (9 * hot + ws.length)))) S' (fun k a b => rfl) r1 (ag_Hrf fun k a b => uu_Gn (by omega)) (fun k a b => uu_Gn (by omega)) ?_
    exact hf_x (b := hot + 1) (ag_Hrf fun k a b => uu_Gn (by omega)) (by omega) r2
  · intro j hj
    show upd (G 40) no (G 25 (9 * hot + ws.length)) j = _
    rw [e1]
    by_cases z : j = no
    · rw [z, pk_us, pk_us]
    · rw [pk_un z, pk_un z]; exact n8 j (by omega)
  · refine ⟨fun k hk => pk_un (by omega), fun k hk => ?_⟩
    unfold xb_w
    rw [uu_Gn (by omega), uu_Gn (by omega), uu_Gn (by omega), uu_Gn (by omega)]
end
end
section
/-! a value is delivered -/
section
variable {F : Nat → Int32} {G : Nat → Nat → Int32} {hot fz nr nc : Nat} {p ct : Nat} {ws : List Int32} {fs : List ct_F} {ms : List ct_XM} {XC : Nat → List ct_F × List ct_XM} {v : Int32}
theorem xn_push (T : xr_T F G hot fz nr (p, ct, ws) fs ms XC nc) (hb : hot < 168) (hw : ws.length < 9) :
    ∃ G', (∀ post : SX → Prop, post (xs_mk F G') → wpX_push post (xs_mk F G) v) ∧ xr_T F G' hot fz nr (p, ct, v :: ws) fs ms XC nc ∧ (∀ k, k < 22 ∨ 40 ≤ k → G' k = G k) := by
  obtain ⟨t1, ⟨t2, t3, t4, t5, t6, t7, t8⟩, S⟩ := T
  dsimp only at t4 t5 t8
  refine ⟨_, fun post h => xb_push t1 t4 hb hw h, ?_, ?_⟩
  · refine xr_hot S (fun _ _ _ => rfl) t1 ⟨?_, ?_⟩ ?_ ⟨t2, t3, pk_us, by simp only [List.length_cons]; omega, t6, t7, ?_⟩
    · intro k a b f hf
      have hn : f ≠ hot := by omega
      obtain rfl | rfl | rfl : k = 22 ∨ k = 23 ∨ k = 24 := by omega
      · rfl
      · rfl
      · exact pk_un hn
    · intro i hi
      exact pk_un (by omega)
    · intro k a b
      rw [uu_Gn (by omega), uu_Gn (by omega)]
    · intro j hj
      simp only [List.length_cons] at hj
      show upd (G 25) (9 * hot + ws.length) v (9 * hot + j) = wd_g (v :: ws) j
      by_cases z : j = ws.length
      · rw [z, pk_us, wd_top]
      · rw [pk_un (by omega), wd_low (by omega)]; exact t8 j (by omega)
  · intro k hk
    rw [uu_Gn (by omega), uu_Gn (by omega)]
theorem xn_pop (T : xr_T F G hot fz nr (p, ct, v :: ws) fs ms XC nc) (hb : hot < 168) :
    ∃ G', (∀ post : Int32 → SX → Prop, post v (xs_mk F G') → wpX_pop post (xs_mk F G)) ∧ xr_T F G' hot fz nr (p, ct, ws) fs ms XC nc ∧ (∀ k, k < 22 ∨ 40 ≤ k → G' k = G k) := by
  obtain ⟨t1, ⟨t2, t3, t4, t5, t6, t7, t8⟩, S⟩ := T
  simp only [List.length_cons] at t4 t5 t8
  have e1 : G 25 (9 * hot + ws.length) = v := by rw [t8 _ (by omega), wd_top]
  refine ⟨_, fun post h => xb_pop (k := ws.length) t1 t4 hb (by omega) (by rw [e1]; exact h), ?_, ?_⟩
  · refine xr_hot S (fun _ _ _ => rfl) t1 ⟨?_, fun _ _ => rfl⟩ ?_ ⟨t2, t3, pk_us, by show ws.length ≤ 9; omega, t6, t7, ?_⟩
    · intro k a b f hf
      have hn : f ≠ hot := by omega
      obtain rfl | rfl | rfl : k = 22 ∨ k = 23 ∨ k = 24 := by omega
      · rfl
      · rfl
      · exact pk_un hn
    · intro k a b
      rw [uu_Gn (by omega)]
    · intro j hj
      show G 25 (9 * hot + j) = wd_g ws j
      have hj' : j < ws.length := hj
      rw [t8 j (by omega), wd_low hj']
  · intro k hk
    rw [uu_Gn (by omega)]
/-- where the value has come to -/
def dl_O (en : Nat → Nat) (F' : Nat → Int32) (G' : Nat → Nat → Int32) (hot fz nr : Nat) (XC : Nat → List ct_F × List ct_XM) (nc : Nat) (v : Int32) (r : List ct_F × List ct_XM) : Prop :=
  match r with
  | ((p, ct, ws) :: fs, ms) => F' 16 = 0 ∧ ∃ hot', hot' ≤ hot ∧ xr_T F' G' hot' fz nr (p, ct, v :: ws) fs ms XC nc
  | ([], []) => F' 15 = 0 ∧ F' 16 = v
  | ([], (h, s, fs) :: ms) => F' 16 = 0 ∧ xr_T F' G' hot fz nr (en (7 + 4 * h), 0, [0, s, v]) fs ms XC nc
theorem xb_cl {post : Int32 → Prop} {h o : Nat} (hp : post (nI (4 + 4 * h + o))) : wpX_clauseOf post (xs_mk F G) (nI h) (nI o) := by
  have e : 4 + 4 * nI h + nI o = nI (4 + 4 * h + o) := by rw [uu_m4, uu_a4, nI_add]
  unfold wpX_clauseOf
  show post (4 + 4 * nI h + nI o)
  rw [e]; exact hp
theorem xd_exit {post : SX → Prop} {n : Nat} {x3 : Int32} (h : post (xs_mk F G)) : wX_deliver_4 post v (n + 1) 0 x3 (F 0) (F 1) (F 2) (F 3) (F 4) (F 5) (F 6) (F 7) (F 8) (F 9) (F 10) (F 11) (F 12) (F 13) (F 14) (F 15) (F 16) (F 17) (F 18) (F 19) (F 20) (F 21) (F 22) (G 0) (G 1) (G 2) (G 3) (G 4) (G 5) (G 6) (G 7) (G 8) (G 9) (G 10) (G 11) (G 12) (G 13) (G 14) (G 15) (G 16) (G 17) (G 18) (G 19) (G 20) (G 21) (G 22) (G 23) (G 24) (G 25) (G 26) (G 27) (G 28) (G 29) (G 30) (G 31) (G 32) (G 33) (G 34) (G 35) (G 36) (G 37) (G 38) (G 39) (G 40) := by
  unfold wX_deliver_4
  exact br_c (fun _ => h) (fun _ => br_t rfl h)
theorem xd_ne {fr : ct_F} {k : Nat} (hfz : fz ≤ 303) (hb : hot < 168) (S : xr_S F G hot fz nr (fr :: fs) ms XC nc) (hf : F 10 = nI hot) (hk : k < 8) (hm : ms.length < 7) (hw : fr.2.2.length ≤ 8) :
    ∃ F' G', (∀ n, 2 ≤ n → ∀ post : SX → Prop, post (xs_mk F' G') → wX_deliver_4 post v n 1 (nI k) (F 0) (F 1) (F 2) (F 3) (F 4) (F 5) (F 6) (F 7) (F 8) (F 9) (F 10) (F 11) (F 12) (F 13) (F 14) (F 15) (F 16) (F 17) (F 18) (F 19) (F 20) (F 21) (F 22) (G 0) (G 1) (G 2) (G 3) (G 4) (G 5) (G 6) (G 7) (G 8) (G 9) (G 10) (G 11) (G 12) (G 13) (G 14) (G 15) (G 16) (G 17) (G 18) (G 19) (G 20) (G 21) (G 22) (G 23) (G 24) (G 25) (G 26) (G 27) (G 28) (G 29) (G 30) (G 31) (G 32) (G 33) (G 34) (G 35) (G 36) (G 37) (G 38) (G 39) (G 40))
      ∧ (∃ hot', hot' ≤ hot ∧ xr_T F' G' hot' fz nr (fr.1, fr.2.1, v :: fr.2.2) fs ms XC nc) ∧ (∀ i, i < 10 ∨ 15 < i → F' i = F i) ∧ (∀ i, i < 22 ∨ 40 ≤ i → G' i = G i) := by
  obtain ⟨p, ct, ws⟩ := fr
  have S' := S
  obtain ⟨s1, s2, s3, s4, s5, s6, s7⟩ := S
  have vt : vp_in (F 12) 7 := by rw [s2]; exact vp_in_nI hm (by omega)
  have ctp : (F 12).toNatClampNeg = ms.length := by rw [s2]; exact nI_clamp (by omega)
  obtain ⟨lo, l0, l1, l2, l3⟩ := sg_top.mp s6
  by_cases z : lo = hot
  · -- a frozen one
    subst z
    obtain ⟨F1, G1, g1, g2, g3, g4⟩ := xn_thaw S' hf hb hfz hm l1
    obtain ⟨G2, h1, h2, h3⟩ := xn_push (v := v) g2 hb (by show ws.length < 9; exact Nat.lt_succ_of_le hw)
    refine ⟨F1, G2, ?_, ⟨lo, Nat.le_refl _, h2⟩, g3, fun i hi => (h3 i hi).trans (g4 i hi)⟩
    intro n hn post h
    obtain ⟨n, rfl⟩ : ∃ n', n = n' + 2 := ⟨n - 2, by omega⟩
    rw [show n + 2 = (n + 1) + 1 from rfl]
    rcases l2 with ⟨_, c, c1, c2, c3, c4⟩ | ⟨z', _⟩
    · unfold wX_deliver_4
      refine br_f (nI_ge (b := 8) (by omega) (by omega)) (br_f (by decide) ⟨vt, br_t ?_ ⟨vt, br_f ?_ ?_⟩⟩)
      · rw [ctp, hf, l1]; exact nI_le (by omega) (by omega)
      · rw [ctp, c3]; exact nI_nle (by omega) (by omega)
      · refine g1 _ ?_
        refine h1 _ ?_
        exact nm_e (xd_exit (F := F1) (G := G2) h)
    · omega
  · rcases l2 with ⟨z', _⟩ | ⟨l2, l4, l5⟩
    · omega
    · obtain ⟨q, rfl⟩ : ∃ q, hot = q + 1 := ⟨hot - 1, by omega⟩
      have T : xr_T F G q fz nr (p, ct, ws) fs ms XC nc := ⟨hf, l4, s1, s2, s3, s4, s5, sg_top.mpr ⟨lo, by omega, l1, l5, l3⟩, s7⟩
      obtain ⟨G2, h1, h2, h3⟩ := xn_push (v := v) T (by omega) (by exact Nat.lt_succ_of_le hw)
      refine ⟨F, G2, ?_, ⟨q, by omega, h2⟩, fun _ _ => rfl, h3⟩
      intro n hn post h
      obtain ⟨n, rfl⟩ : ∃ n', n = n' + 2 := ⟨n - 2, by omega⟩
      rw [show n + 2 = (n + 1) + 1 from rfl]
      unfold wX_deliver_4
      refine br_f (nI_ge (b := 8) (by omega) (by omega)) (br_f (by decide) ⟨vt, br_f ?_ ?_⟩)
      · rw [ctp, hf, l1]; exact nI_ge (by omega) (by omega)
      · refine h1 _ ?_
        exact nm_e (xd_exit (F := F) (G := G2) h)
theorem xd_L {sz en : Nat → Nat} (hz : ∀ q, q < 16 → G 5 q = nI (sz q)) (hzb : ∀ q, sz q ≤ 12) (he : ∀ q, q < 16 → G 15 q = nI (en q)) (heb : ∀ q, en q ≤ 1200) (hfz : fz ≤ 303) (hb : hot < 168) :
    ∀ (ms : List ct_XM) (F : Nat → Int32) (fs : List ct_F) (k : Nat), xr_S F G hot fz nr fs ms XC nc → F 10 = nI hot → F 16 = 0 → k + ms.length < 8 → ms.length < 7 →
      (∀ q, q ∈ fs → q.2.2.length ≤ 8) → (∀ m, m ∈ ms → ∀ q, q ∈ m.2.2 → q.2.2.length ≤ 8) →
      ∃ F' G', (∀ n, ms.length + 2 ≤ n → ∀ post : SX → Prop, post (xs_mk F' G') → wX_deliver_4 post v n 1 (nI k) (F 0) (F 1) (F 2) (F 3) (F 4) (F 5) (F 6) (F 7) (F 8) (F 9) (F 10) (F 11) (F 12) (F 13) (F 14) (F 15) (F 16) (F 17) (F 18) (F 19) (F 20) (F 21) (F 22) (G 0) (G 1) (G 2) (G 3) (G 4) (G 5) (G 6) (G 7) (G 8) (G 9) (G 10) (G 11) (G 12) (G 13) (G 14) (G 15) (G 16) (G 17) (G 18) (G 19) (G 20) (G 21) (G 22) (G 23) (G 24) (G 25) (G 26) (G 27) (G 28) (G 29) (G 30) (G 31) (G 32) (G 33) (G 34) (G 35) (G 36) (G 37) (G 38) (G 39) (G 40))
        ∧ dl_O en F' G' hot fz nr XC nc v (dv_X sz ms fs) ∧ (∀ i, i < 10 ∨ 16 < i → F' i = F i) ∧ (∀ i, i < 22 ∨ 40 ≤ i → G' i = G i) := by
  intro ms
  induction ms with
  | nil =>
    intro F fs k S hf hr hk hm hw hw2
    have S' := S
    obtain ⟨s1, s2, s3, s4, s5, s6, s7⟩ := S
    have vt : vp_in (F 12) 7 := by rw [s2]; exact vp_in_nI (by simp) (by omega)
    have ct : (F 12).toNatClampNeg = 0 := by rw [s2]; rfl
    obtain ⟨lo, l0, l1, l2, l3⟩ := sg_top.mp s6
    cases fs with
    | nil =>
      obtain ⟨z1, z2⟩ := l2
      refine ⟨upd (upd F 15 0) 16 v, G, ?_, ⟨rfl, rfl⟩, ?_, fun _ _ => rfl⟩
      · intro n hn post h
        obtain ⟨n, rfl⟩ : ∃ n', n = n' + 2 := ⟨n - 2, by simp only [List.length_nil] at hn; omega⟩
        rw [show n + 2 = (n + 1) + 1 from rfl]
        unfold wX_deliver_4
        refine br_f (nI_ge (b := 8) (by omega) (by omega)) (br_f (by decide) ⟨vt, br_t ?_ ⟨vt, br_t ?_ (br_t s2 (nm_e (xd_exit (F := upd (upd F 15 0) 16 v) h)))⟩⟩)
        · rw [ct, hf, show G 31 0 = nI lo from l1]; exact nI_le (by omega) (by omega)
        · rw [ct, show G 32 0 = 0 from z2]; decide
      · intro i hi
        rw [pk_un (by omega), pk_un (by omega)]
    | cons fr fs =>
      obtain ⟨F', G', g1, g2, g3, g4⟩ := xd_ne (v := v) (k := k) hfz hb S' hf (by omega) hm (hw fr (by simp))
      exact ⟨F', G', fun n hn => g1 n (by omega), ⟨(g3 _ (by decide)).trans hr, g2⟩, fun i hi => g3 i (by omega), g4⟩
  | cons m ms ih =>
    obtain ⟨h, s, fs'⟩ := m
    intro F fs k S hf hr hk hm hw hw2
    have S' := S
    obtain ⟨s1, s2, s3, s4, s5, s6, s7⟩ := S
    simp only [List.length_cons] at hk hm s2
    have vt : vp_in (F 12) 7 := by rw [s2]; exact vp_in_nI hm (by omega)
    have ctp : (F 12).toNatClampNeg = ms.length + 1 := by rw [s2]; exact nI_clamp (by omega)
    cases fs with
    | cons fr fs =>
      obtain ⟨F', G', g1, g2, g3, g4⟩ := xd_ne (v := v) (k := k) hfz hb S' hf (by omega) (by simp only [List.length_cons]; omega) (hw fr (by simp))
      exact ⟨F', G', fun n hn => g1 n (by omega), ⟨(g3 _ (by decide)).trans hr, g2⟩, fun i hi => g3 i (by omega), g4⟩
    | nil =>
      obtain ⟨lo, l0, l1, ⟨z1, z2⟩, l3, l4, l5, l6⟩ := s6
      subst z1
      have e1 : F 12 - 1 = nI ms.length := by rw [s2]; exact nI_pred _
      have S2 : xr_S (upd F 12 (nI ms.length)) G hot fz nr fs' ms XC nc := ⟨s1, rfl, s3, s4, s5, l6, s7⟩
      have en7 : 4 + 4 * h + 3 = 7 + 4 * h := by omega
      by_cases zz : sz (7 + 4 * h) = 0
      · obtain ⟨F', G', g1, g2, g3, g4⟩ := ih (upd F 12 (nI ms.length)) fs' (k + 1) S2 hf hr (by omega) (by omega) (hw2 (h, s, fs') (by simp)) (fun m hm => hw2 m (by simp [hm]))
        refine ⟨F', G', ?_, ?_, fun i hi => ?_, g4⟩
        · intro n hn post hp
          simp only [List.length_cons] at hn
          obtain ⟨n, rfl⟩ : ∃ n', n = n' + 1 := ⟨n - 1, by omega⟩
          have g := g1 n (by omega) post hp
          unfold wX_deliver_4
          refine br_f (nI_ge (b := 8) (by omega) (by omega)) (br_f (by decide) ⟨vt, br_t ?_ ⟨vt, br_t ?_ (br_f ?_ ?_)⟩⟩)
          · rw [ctp, hf, l1]; exact nI_le (by omega) (by omega)
          · rw [ctp, z2]; decide
          · rw [s2]; exact nI_ne0 (by omega) (by omega)
          · unfold wpX_passMark
            refine ⟨vt, nm_r (e' := nI h) (by rw [ctp]; exact l3) ⟨vt, nm_r (e' := s) (by rw [ctp]; exact l4) (nm_r e1 ?_)⟩⟩
            refine xb_cl (F := upd F 12 (nI ms.length)) (G := G) (h := h) (o := 3) ?_
            rw [en7, nI_clamp (by omega)]
            refine ⟨vp_in_nI (by omega) (by omega), br_t ?_ ?_⟩
            · rw [hz _ (by omega), zz]; rfl
            · exact nm_r (e' := nI (k + 1)) (nI_1 k) g
        · have : dv_X sz ((h, s, fs') :: ms) [] = dv_X sz ms fs' := if_pos zz
          rw [this]; exact g2
        · rw [g3 i hi, pk_un (by omega)]
      · have T := xn_enterT (F' := upd (upd F 12 (nI ms.length)) 10 (nI (hot + 1))) (p := en (7 + 4 * h)) (ct := 0) (a := v) (b := s) (c := 0) S2 (heb _) (by omega) (fun k a b => pk_un (by omega)) rfl
        refine ⟨upd (upd F 12 (nI ms.length)) 10 (nI (hot + 1)), xb_eG G hot (en (7 + 4 * h)) 0 v s 0, ?_, ?_, ?_, ?_⟩
        rotate_left
        · have : dv_X sz ((h, s, fs') :: ms) [] = ([], (h, s, fs') :: ms) := if_neg zz
          rw [this]
          exact ⟨hr, T⟩
        · intro i hi
          rw [pk_un (by omega), pk_un (by omega)]
        · intro i hi
          unfold xb_eG
          rw [uu_Gn (by omega), uu_Gn (by omega), uu_Gn (by omega), uu_Gn (by omega)]
        · intro n hn post hp
          simp only [List.length_cons] at hn
          obtain ⟨n, rfl⟩ : ∃ n', n = n' + 2 := ⟨n - 2, by omega⟩
          rw [show n + 2 = (n + 1) + 1 from rfl]
          unfold wX_deliver_4
          refine br_f (nI_ge (b := 8) (by omega) (by omega)) (br_f (by decide) ⟨vt, br_t ?_ ⟨vt, br_t ?_ (br_f ?_ ?_)⟩⟩)
          · rw [ctp, hf, l1]; exact nI_le (by omega) (by omega)
          · rw [ctp, z2]; decide
          · rw [s2]; exact nI_ne0 (by omega) (by omega)
          · unfold wpX_passMark
            refine ⟨vt, nm_r (e' := nI h) (by rw [ctp]; exact l3) ⟨vt, nm_r (e' := s) (by rw [ctp]; exact l4) (nm_r e1 ?_)⟩⟩
            refine xb_cl (F := upd F 12 (nI ms.length)) (G := G) (h := h) (o := 3) ?_
            rw [en7, nI_clamp (by omega)]
            refine ⟨vp_in_nI (by omega) (by omega), br_f ?_ ⟨vp_in_nI (by omega) (by omega), ?_⟩⟩
            · rw [hz _ (by omega)]; exact nI_ne0 (by omega) (by have := hzb (7 + 4 * h); omega)
            · rw [he _ (by omega)]
              refine xb_enter (F := upd F 12 (nI ms.length)) (G := G) (ct := 0) hf hb (by have := heb (7 + 4 * h); omega) (by omega) ?_
              exact nm_e (xd_exit (F := upd (upd F 12 (nI ms.length)) 10 (nI (hot + 1))) hp)
theorem xd_del {sz en : Nat → Nat} (hz : ∀ q, q < 16 → G 5 q = nI (sz q)) (hzb : ∀ q, sz q ≤ 12) (he : ∀ q, q < 16 → G 15 q = nI (en q)) (heb : ∀ q, en q ≤ 1200) (hfz : fz ≤ 303) (hb : hot < 168)
    (S : xr_S F G hot fz nr fs ms XC nc) (hf : F 10 = nI hot) (hr : F 16 = 0) (hm : ms.length < 7) (hw : ∀ q, q ∈ fs → q.2.2.length ≤ 8) (hw2 : ∀ m, m ∈ ms → ∀ q, q ∈ m.2.2 → q.2.2.length ≤ 8) :
      ∃ F' G', (∀ post : SX → Prop, post (xs_mk F' G') → wpX_deliver post (xs_mk F G) v)
        ∧ dl_O en F' G' hot fz nr XC nc v (dv_X sz ms fs) ∧ (∀ i, i < 10 ∨ 16 < i → F' i = F i) ∧ (∀ i, i < 22 ∨ 40 ≤ i → G' i = G i) := by
  obtain ⟨F', G', g1, g2, g3, g4⟩ := xd_L (v := v) hz hzb he heb hfz hb ms F fs 0 S hf hr (by omega) hm hw hw2
  refine ⟨F', G', fun post h => ?_, g2, g3, g4⟩
  unfold wpX_deliver
  exact ⟨_, g1 _ (Nat.le_refl _) post h⟩
end
end
section
/-! transfers: which one -/
section
variable {F F' : Nat → Int32} {G G' : Nat → Nat → Int32} {o : Int32} {post : SX → Prop}
theorem xt_call0 (H : ∀ Q : SX → Prop, Q (xs_mk F' G') → wpX_call Q (xs_mk F G) o (nI 0)) (h : post (xs_mk F' G')) : wpX_transfer post (xs_mk F G) (nI 12) o := by
  unfold wpX_transfer
  exact br_t (by decide) (br_t (by decide) (br_f (by decide) (br_t (by decide) (H _ h))))
theorem xt_call1 (H : ∀ Q : SX → Prop, Q (xs_mk F' G') → wpX_call Q (xs_mk F G) o (nI 1)) (h : post (xs_mk F' G')) : wpX_transfer post (xs_mk F G) (nI 28) o := by
  unfold wpX_transfer
  exact br_f (by decide) (br_f (by decide) (br_f (by decide) (br_t (by decide) (H _ h))))
theorem xt_raise0 (H : ∀ Q : SX → Prop, Q (xs_mk F' G') → wpX_raise Q (xs_mk F G) o (nI 0)) (h : post (xs_mk F' G')) : wpX_transfer post (xs_mk F G) (nI 13) o := by
  unfold wpX_transfer
  exact br_t (by decide) (br_t (by decide) (br_f (by decide) (br_f (by decide) (br_t (by decide) (H _ h)))))
theorem xt_raise1 (H : ∀ Q : SX → Prop, Q (xs_mk F' G') → wpX_raise Q (xs_mk F G) o (nI 1)) (h : post (xs_mk F' G')) : wpX_transfer post (xs_mk F G) (nI 29) o := by
  unfold wpX_transfer
  exact br_f (by decide) (br_f (by decide) (br_f (by decide) (br_f (by decide) (br_t (by decide) (H _ h)))))
theorem xt_install0 (H : ∀ Q : SX → Prop, Q (xs_mk F' G') → wpX_install Q (xs_mk F G) o (nI 0)) (h : post (xs_mk F' G')) : wpX_transfer post (xs_mk F G) (nI 14) o := by
  unfold wpX_transfer
  exact br_t (by decide) (br_t (by decide) (br_f (by decide) (br_f (by decide) (br_f (by decide) (br_t (by decide) (H _ h))))))
theorem xt_install1 (H : ∀ Q : SX → Prop, Q (xs_mk F' G') → wpX_install Q (xs_mk F G) o (nI 1)) (h : post (xs_mk F' G')) : wpX_transfer post (xs_mk F G) (nI 30) o := by
  unfold wpX_transfer
  exact br_f (by decide) (br_f (by decide) (br_f (by decide) (br_f (by decide) (br_f (by decide) (br_t (by decide) (H _ h))))))
theorem xt_resume0 (H : ∀ Q : SX → Prop, Q (xs_mk F' G') → wpX_resume Q (xs_mk F G) (nI 0)) (h : post (xs_mk F' G')) : wpX_transfer post (xs_mk F G) (nI 15) o := by
  unfold wpX_transfer
  exact br_t (by decide) (br_t (by decide) (br_f (by decide) (br_f (by decide) (br_f (by decide) (br_f (by decide) (H _ h))))))
theorem xt_resume1 (H : ∀ Q : SX → Prop, Q (xs_mk F' G') → wpX_resume Q (xs_mk F G) (nI 1)) (h : post (xs_mk F' G')) : wpX_transfer post (xs_mk F G) (nI 31) o := by
  unfold wpX_transfer
  exact br_f (by decide) (br_f (by decide) (br_f (by decide) (br_f (by decide) (br_f (by decide) (br_f (by decide) (H _ h))))))
theorem xt_answer (H : ∀ Q : SX → Prop, Q (xs_mk F' G') → wpX_answer Q (xs_mk F G)) (h : post (xs_mk F' G')) : wpX_transfer post (xs_mk F G) (nI 16) o := by
  unfold wpX_transfer
  exact br_t (by decide) (br_t (by decide) (br_t (by decide) (H _ h)))
end
end
section
section
variable {F : Nat → Int32} {G : Nat → Nat → Int32} {hot fz nr nc i : Nat} {p ct : Nat} {ws : List Int32} {fs : List ct_F} {ms : List ct_XM} {XC : Nat → List ct_F × List ct_XM} {v : Int32}
variable {st pf rs mo no : Nat} {og : Nat → Int32} {sz en : Nat → Nat}
theorem xr_TS {fr : ct_F} (T : xr_T F G hot fz nr fr fs ms XC nc) : xr_S F G (hot + 1) fz nr (fr :: fs) ms XC nc := by
  obtain ⟨t1, t2, s1, s2, s3, s4, s5, s6, s7⟩ := T
  obtain ⟨lo, l0, l1, l2, l3⟩ := sg_top.mp s6
  exact ⟨s1, s2, s3, s4, s5, sg_top.mpr ⟨lo, by omega, l1, Or.inr ⟨by omega, t2, l2⟩, l3⟩, s7⟩
/-- the frame at work stays (l = 0) or ends (l = 1) -/
def xc_F (l hot : Nat) (F : Nat → Int32) : Nat → Int32 := if l = 0 then F else upd F 10 (nI hot)
def xc_h (l hot : Nat) : Nat := if l = 0 then hot + 1 else hot
def xc_f (l : Nat) (fr : ct_F) (fs : List ct_F) : List ct_F := if l = 0 then fr :: fs else fs
theorem xr_cut {l : Nat} {fr : ct_F} (hl : l < 2) (T : xr_T F G hot fz nr fr fs ms XC nc) :
    xr_S (xc_F l hot F) G (xc_h l hot) fz nr (xc_f l fr fs) ms XC nc ∧ xc_F l hot F 10 = nI (xc_h l hot) ∧ ∀ k, k ≠ 10 → xc_F l hot F k = F k := by
  obtain rfl | rfl : l = 0 ∨ l = 1 := by omega
  · exact ⟨xr_TS T, T.1, fun _ _ => rfl⟩
  · obtain ⟨t1, t2, S⟩ := T
    exact ⟨S, rfl, fun k hk => pk_un hk⟩
theorem xj_leave (T : xr_T F G hot fz nr (p, ct, v :: ws) fs ms XC nc) (N : xr_N F G st pf rs mo no og) (hi : i < 4000000) (hb : hot < 168) (hc : cg_at (G 11) p 11)
    (hz : ∀ q, q < 16 → G 5 q = nI (sz q)) (hzb : ∀ q, sz q ≤ 12) (he : ∀ q, q < 16 → G 15 q = nI (en q)) (heb : ∀ q, en q ≤ 1200) (hfz : fz ≤ 303)
    (hm : ms.length < 7) (hw : ∀ q, q ∈ fs → q.2.2.length ≤ 8) (hw2 : ∀ m, m ∈ ms → ∀ q, q ∈ m.2.2 → q.2.2.length ≤ 8) :
    ∃ F' G', ex_go i F G (i + 1) F' G' ∧ dl_O en F' G' hot fz nr XC nc v (dv_X sz ms fs) ∧ (∀ k, k < 10 ∨ 16 < k → F' k = F k) ∧ (∀ k, k < 22 ∨ 40 ≤ k → G' k = G k) := by
  have T1 := xr_g (p' := p + 1) T (fun _ _ _ => rfl) (by have := hc.1; omega)
  obtain ⟨G1, g1, g2, g3⟩ := xn_pop T1 hb
  have hG : ∀ k, k < 22 ∨ 40 ≤ k → G1 k = G k := fun k hk => by rw [g3 k hk]; unfold xb_g; rw [uu_Gn (by omega)]
  obtain ⟨S1, f1, r1⟩ := xr_cut (l := 1) (by omega) g2
  obtain ⟨F', G', d1, d2, d3, d4⟩ := xd_del (v := v) (fun q hq => by rw [hG 5 (by omega)]; exact hz q hq) hzb (fun q hq => by rw [hG 15 (by omega)]; exact he q hq) heb hfz hb S1 f1 ((r1 _ (by decide)).trans N.2.2.2.2.2.1) hm hw hw2
  refine ⟨F', G', ex_step hi T.2.2.2.2.2.2.1 (fun post h => xb_st11 (F := F) (G := G) T.1 hb T.2.1.1 hc.1 hc.2 rfl (fun Q q => ?_) h), d2, fun k hk => (d3 k hk).trans (r1 k (by omega)), fun k hk => (d4 k hk).trans (hG k hk)⟩
  unfold wpX_leave
  refine g1 _ ?_
  refine nm_r (e' := nI hot) ?_ (d1 _ q)
  rw [T.1]; exact nI_pred hot
theorem xj_call {l f : Nat} (hl : l < 2) (T : xr_T F G hot fz nr (p, ct, v :: ws) fs ms XC nc) (N : xr_N F G st pf rs mo no og) (hi : i < 4000000) (hb : hot + 1 < 168) (hc : cg_at (G 11) p (nI (if l = 0 then 12 else 28)))
    (ho : G 12 p = nI f) (hf : f < 16) (he : ∀ q, q < 16 → G 15 q = nI (en q)) (heb : ∀ q, en q ≤ 1200) :
    ∃ F' G', ex_go i F G (i + 1) F' G' ∧ xr_T F' G' (xc_h l hot) fz nr (en f, 0, [0, 0, v]) (xc_f l (p + 1, ct, ws) fs) ms XC nc ∧ xr_N F' G' st pf rs mo no og ∧ xr_I F G F' G' := by
  have T1 := xr_g (p' := p + 1) T (fun _ _ _ => rfl) (by have := hc.1; omega)
  obtain ⟨G1, g1, g2, g3⟩ := xn_pop T1 (by omega)
  have hG : ∀ k, k < 22 ∨ 40 ≤ k → G1 k = G k := fun k hk => by rw [g3 k hk]; unfold xb_g; rw [uu_Gn (by omega)]
  obtain ⟨S1, f1, r1⟩ := xr_cut hl g2
  have hh : xc_h l hot < 168 := by unfold xc_h; split <;> omega
  have T2 := xn_enterT (F' := upd (xc_F l hot F) 10 (nI (xc_h l hot + 1))) (p := en f) (ct := 0) (a := v) (b := 0) (c := 0) S1 (heb f) (by omega) (fun k a b => pk_un (by omega)) rfl
  have vf : vp_in (nI f) 96 := vp_in_nI (by omega) (by omega)
  have cf : (nI f).toNatClampNeg = f := nI_clamp (by omega)
  have ee : G1 15 f = nI (en f) := by rw [hG 15 (by omega)]; exact he f hf
  have fin : ∀ Q : SX → Prop, Q (xs_mk (upd (xc_F l hot F) 10 (nI (xc_h l hot + 1))) (xb_eG G1 (xc_h l hot) (en f) 0 v 0 0)) → wpX_call Q (xs_mk F (xb_g G hot (p + 1))) (nI f) (nI l) := by
    intro Q q
    unfold wpX_call
    refine g1 _ ?_
    obtain rfl | rfl : l = 0 ∨ l = 1 := by omega
    · refine br_t rfl (And.intro vf ?_)
      rw [cf, ee]
      exact xb_enter (F := F) (G := G1) (ct := 0) f1 hh (by have := heb f; omega) (by omega) q
    · refine br_f (by decide) (nm_r (e' := nI hot) (by rw [T.1]; exact nI_pred hot) (And.intro vf ?_))
      rw [cf, ee]
      exact xb_enter (F := upd F 10 (nI hot)) (G := G1) (ct := 0) f1 hh (by have := heb f; omega) (by omega) q
  refine ⟨_, _, ex_step hi T.2.2.2.2.2.2.1 (fun post h => ?_), T2, ?_, ?_⟩
  · obtain rfl | rfl : l = 0 ∨ l = 1 := by omega
    · exact xb_stT (F := F) (G := G) T.1 (by omega) T.2.1.1 hc.1 hc.2 (by decide) (by decide) rfl (fun Q q => by rw [ho]; exact xt_call0 fin q) h
    · exact xb_stT (F := F) (G := G) T.1 (by omega) T.2.1.1 hc.1 hc.2 (by decide) (by decide) rfl (fun Q q => by rw [ho]; exact xt_call1 fin q) h
  · obtain ⟨n1, n2, n3, n4, n5, n6, n7, n8⟩ := N
    have e : ∀ k, k ≠ 10 → upd (xc_F l hot F) 10 (nI (xc_h l hot + 1)) k = F k := fun k hk => by rw [pk_un hk, r1 k hk]
    refine ⟨(e _ (by decide)).trans n1, (e _ (by decide)).trans n2, (e _ (by decide)).trans n3, (e _ (by decide)).trans n4, (e _ (by decide)).trans n5, (e _ (by decide)).trans n6, (e _ (by decide)).trans n7, ?_⟩
    intro j hj
    have : xb_eG G1 (xc_h l hot) (en f) 0 v 0 0 40 = G 40 := by rw [← hG 40 (by omega)]; rfl
    rw [this]; exact n8 j hj
  · refine ⟨fun k hk => by rw [pk_un (by omega), r1 k (by omega)], fun k hk => ?_⟩
    rw [← hG k (by omega)]
    unfold xb_eG
    rw [uu_Gn (by omega), uu_Gn (by omega), uu_Gn (by omega), uu_Gn (by omega)]
end
end
section
section
variable {F : Nat → Int32} {G : Nat → Nat → Int32} {hot fz nr nc i : Nat} {p ct : Nat} {ws : List Int32} {fs : List ct_F} {ms : List ct_XM} {XC : Nat → List ct_F × List ct_XM} {v : Int32}
variable {st pf rs mo no : Nat} {og : Nat → Int32} {sz en : Nat → Nat}
def xm_G (G : Nat → Nat → Int32) (j f h : Nat) (s ch : Int32) : Nat → Nat → Int32 :=
  uu_G (uu_G (uu_G (uu_G G 31 (upd (G 31) j (nI f))) 32 (upd (G 32) j ch)) 33 (upd (G 33) j (nI h))) 34 (upd (G 34) j s)
def xm_F (F : Nat → Int32) (j mo : Nat) : Nat → Int32 := upd (upd F 12 (nI (j + 1))) 21 (nI (if j + 1 ≤ mo then mo else j + 1))
theorem xb_mark {j f h c : Nat} {s ch : Int32} {post : SX → Prop} (hj : F 12 = nI j) (hjb : j < 6) (hf : F 10 = nI f) (hfb : f < 32768) (hh : h < 128) (hch : ch = nI c) (hcb : c < 32768) (hmo : F 21 = nI mo) (hmob : mo < 1000)
    (H : post (xs_mk (xm_F F j mo) (xm_G G (j + 1) f h s ch))) : wpX_putMark post (xs_mk F G) (nI h) s ch := by
  have e : F 12 + 1 = nI (j + 1) := by rw [hj, nI_1]
  have v : vp_in (nI (j + 1)) 7 := vp_in_nI (by omega) (by omega)
  have cc : (nI (j + 1)).toNatClampNeg = j + 1 := nI_clamp (by omega)
  unfold wpX_putMark
  refine nm_r e ?_
  simp only [cc]
  refine ⟨v, nm_r (e' := upd (G 31) (j + 1) (nI f)) (by rw [hf, uu_b16 hfb, uu_ns hfb]) ⟨v, nm_r (e' := upd (G 32) (j + 1) ch) (by rw [hch, uu_b16 hcb, uu_ns hcb]) ⟨v, nm_r (e' := upd (G 33) (j + 1) (nI h)) (by rw [uu_b8 hh, uu_nb hh]) ⟨v, nm_e ?_⟩⟩⟩⟩
  unfold xm_F at H
  by_cases z : j + 1 ≤ mo
  · rw [if_pos z, ← hmo] at H
    refine br_t ?_ H
    rw [hmo]; exact nI_le z (by omega)
  · rw [if_neg z] at H
    refine br_f ?_ H
    rw [hmo]; exact nI_ge (by omega) (by omega)
theorem xn_mark {h : Nat} {s ch : Int32} {ctl : List ct_F} (S : xr_S F G hot fz nr fs ms XC nc) (hh : h < 3) (hl : cl_R G ctl (fz + 1) ch) :
    xr_S (xm_F F ms.length mo) (xm_G G (ms.length + 1) hot h s ch) hot fz nr ctl ((h, s, fs) :: ms) XC nc := by
  obtain ⟨s1, s2, s3, s4, s5, s6, s7⟩ := S
  have aG : ∀ k, k < 31 ∨ 34 < k → xm_G G (ms.length + 1) hot h s ch k = G k := by
    intro k hk
    unfold xm_G
    rw [uu_Gn (by omega), uu_Gn (by omega), uu_Gn (by omega), uu_Gn (by omega)]
  have aC : ag_C G (xm_G G (ms.length + 1) hot h s ch) (fz + 1) := ag_Crf fun k a b => aG k (by omega)
  refine ⟨s1, rfl, s3, s4, s5, ⟨hot, Nat.le_refl _, pk_us, ?_, pk_us, pk_us, hh, ?_⟩, ?_⟩
  · have e : xm_G G (ms.length + 1) hot h s ch 32 (ms.length + 1) = ch := pk_us
    rw [e]
    cases ctl with
    | nil => exact ⟨rfl, hl⟩
    | cons a b => exact Or.inl ⟨rfl, cl_x aC _ _ _ _ (Nat.le_refl _) (Nat.le_refl _) hl⟩
  · refine sg_x aC (Nat.le_refl _) _ _ _ (Nat.le_refl _) (ag_Hrf fun k a b => aG k (by omega)) ?_ s6
    intro k a b j hj
    have hn : j ≠ ms.length + 1 := by omega
    obtain rfl | rfl | rfl | rfl : k = 31 ∨ k = 32 ∨ k = 33 ∨ k = 34 := by omega
    all_goals exact pk_un hn
  · exact xr_Kx aC (Nat.le_refl _) (Nat.le_refl _) (fun k a b i _ => by rw [aG k (by omega)]) (fun k a b i _ => by rw [aG k (by omega)]) s7
theorem xm_sh {n a : Nat} (k q m : Nat) (hn : n < 2 ^ 31) (hs : (((nI k) &&& 31).toBitVec.smod 32).toNat = k) {mk : Int32} (hm : mk.toBitVec.toNat = 2 ^ m - 1) (e : n / 2 ^ k % 2 ^ m = a) :
    (nI n >>> ((nI k) &&& 31)) &&& mk = nI a := by
  rw [pk_shrN hn _ k hs, pk_andN (by have := Nat.div_le_self n (2 ^ k); omega) m hm, e]
/-- INSTALL: too deep -/
theorem xj_insD {l n : Nat} (hl : l < 2) (T : xr_T F G hot fz nr (p, ct, v :: ws) fs ms XC nc) (N : xr_N F G st pf rs mo no og) (hi : i < 4000000) (hb : hot + 1 < 168) (hc : cg_at (G 11) p (nI (if l = 0 then 14 else 30)))
    (hm : ms.length = 6) :
    ∃ F' G', ex_go i F G (i + 1) F' G' ∧ F' 15 = 3 ∧ xr_N F' G' st pf rs mo no og ∧ xr_I F G F' G' := by
  have T1 := xr_g (p' := p + 1) T (fun _ _ _ => rfl) (by have := hc.1; omega)
  obtain ⟨G1, g1, g2, g3⟩ := xn_pop T1 (by omega)
  have hG : ∀ k, k < 22 ∨ 40 ≤ k → G1 k = G k := fun k hk => by rw [g3 k hk]; unfold xb_g; rw [uu_Gn (by omega)]
  have ht : F 12 = 6 := by have := T.2.2.2.1; rw [hm] at this; exact this
  have fin : ∀ (o : Int32) (Q : SX → Prop), Q (xs_mk (upd F 15 3) G1) → wpX_install Q (xs_mk F (xb_g G hot (p + 1))) o (nI l) := by
    intro o Q q
    unfold wpX_install
    refine g1 _ ?_
    exact br_t ht q
  refine ⟨upd F 15 3, G1, ex_step hi T.2.2.2.2.2.2.1 (fun post h => ?_), rfl, ?_, ?_⟩
  · obtain rfl | rfl : l = 0 ∨ l = 1 := by omega
    · exact xb_stT (F := F) (G := G) T.1 (by omega) T.2.1.1 hc.1 hc.2 (by decide) (by decide) rfl (fun Q q => xt_install0 (fin _) q) h
    · exact xb_stT (F := F) (G := G) T.1 (by omega) T.2.1.1 hc.1 hc.2 (by decide) (by decide) rfl (fun Q q => xt_install1 (fin _) q) h
  · obtain ⟨n1, n2, n3, n4, n5, n6, n7, n8⟩ := N
    refine ⟨n1, n2, n3, n4, n5, n6, n7, ?_⟩
    rw [hG 40 (by omega)]; exact n8
  · exact ⟨fun k hk => pk_un (by omega), fun k hk => hG k (by omega)⟩
theorem xj_ins {l h b p0 p1 p2 : Nat} (hl : l < 2) (T : xr_T F G hot fz nr (p, ct, v :: ws) fs ms XC nc) (N : xr_N F G st pf rs mo no og) (hi : i < 4000000) (hb : hot + 1 < 168) (hc : cg_at (G 11) p (nI (if l = 0 then 14 else 30)))
    (ho : G 12 p = nI (h + 4 * b + 512 * p0 + 8192 * p1 + 131072 * p2)) (hh : h < 3) (hbb : b < 96) (h0 : p0 < ws.length) (h1 : p1 < ws.length) (h2 : p2 < ws.length) (hw : ws.length ≤ 8)
    (he : G 15 b = nI (en b)) (heb : en b ≤ 1200) (hm : ms.length < 6) (hmo : mo < 1000) :
    ∃ F' G', ex_go i F G (i + 1) F' G' ∧ xr_T F' G' (xc_h l hot) fz nr (en b, ct, [wd_g ws p2, wd_g ws p1, wd_g ws p0]) [] ((h, v, xc_f l (p + 1, ct, ws) fs) :: ms) XC nc
      ∧ xr_N F' G' st pf rs (if ms.length + 1 ≤ mo then mo else ms.length + 1) no og ∧ xr_I F G F' G' := by
  have T1 := xr_g (p' := p + 1) T (fun _ _ _ => rfl) (by have := hc.1; omega)
  obtain ⟨G1, g1, g2, g3⟩ := xn_pop T1 (by omega)
  have hG : ∀ k, k < 22 ∨ 40 ≤ k → G1 k = G k := fun k hk => by rw [g3 k hk]; unfold xb_g; rw [uu_Gn (by omega)]
  obtain ⟨S1, f1, r1⟩ := xr_cut hl g2
  have hhb : xc_h l hot < 168 := by unfold xc_h; split <;> omega
  have S2 := xn_mark (mo := mo) (h := h) (s := v) (ch := 0) (ctl := []) S1 hh rfl
  have T2 := xn_enterT (F' := upd (xm_F (xc_F l hot F) ms.length mo) 10 (nI (xc_h l hot + 1))) (p := en b) (ct := ct) (a := wd_g ws p0) (b := wd_g ws p1) (c := wd_g ws p2) S2 heb T.2.1.2.2.2.2.2.1 (fun k a b => pk_un (by omega)) rfl
  have ht : F 12 = nI ms.length := T.2.2.2.1
  have e9 : (nI (h + 4 * b + 512 * p0 + 8192 * p1 + 131072 * p2) >>> ((9 : Int32) &&& 31)) &&& 15 = nI p0 := xm_sh 9 0 4 (by omega) (by decide) (by decide) (by omega)
  have e13 : (nI (h + 4 * b + 512 * p0 + 8192 * p1 + 131072 * p2) >>> ((13 : Int32) &&& 31)) &&& 15 = nI p1 := xm_sh 13 0 4 (by omega) (by decide) (by decide) (by omega)
  have e17 : (nI (h + 4 * b + 512 * p0 + 8192 * p1 + 131072 * p2) >>> ((17 : Int32) &&& 31)) &&& 15 = nI p2 := xm_sh 17 0 4 (by omega) (by decide) (by decide) (by omega)
  have e2 : (nI (h + 4 * b + 512 * p0 + 8192 * p1 + 131072 * p2) >>> ((2 : Int32) &&& 31)) &&& 127 = nI b := xm_sh 2 0 7 (by omega) (by decide) (by decide) (by omega)
  have e0 : nI (h + 4 * b + 512 * p0 + 8192 * p1 + 131072 * p2) &&& 3 = nI h := by
    rw [pk_andN (by omega) 2 (by decide)]; exact congrArg nI (by omega)
  generalize h + 4 * b + 512 * p0 + 8192 * p1 + 131072 * p2 = n at *
  obtain ⟨t1, ⟨t2, t3, t4, t5, t6, t7, t8⟩, _⟩ := g2
  dsimp only at t3 t5 t6 t7 t8
  have ef : F 10 - 1 = nI hot := by rw [T.1]; exact nI_pred hot
  have vf : vp_in (nI hot) 168 := vp_in_nI (by omega) (by omega)
  have cf : (nI hot).toNatClampNeg = hot := nI_clamp (by omega)
  have w : ∀ a, a < ws.length → vp_in (9 * nI hot + nI a) 1512 ∧ G1 25 (9 * nI hot + nI a).toNatClampNeg = wd_g ws a := by
    intro a ha
    rw [uu_m9, nI_add, nI_clamp (by omega)]
    exact ⟨vp_in_nI (by omega) (by omega), t8 a ha⟩
  have vb : vp_in (nI b) 96 := vp_in_nI hbb (by omega)
  have cb : (nI b).toNatClampNeg = b := nI_clamp (by omega)
  have eb : G1 15 b = nI (en b) := by rw [hG 15 (by omega)]; exact he
  have fin : ∀ Q : SX → Prop, Q (xs_mk (upd (xm_F (xc_F l hot F) ms.length mo) 10 (nI (xc_h l hot + 1))) (xb_eG (xm_G G1 (ms.length + 1) (xc_h l hot) h v 0) (xc_h l hot) (en b) ct (wd_g ws p0) (wd_g ws p1) (wd_g ws p2))) → wpX_install Q (xs_mk F (xb_g G hot (p + 1))) (nI n) (nI l) := by
    intro Q q
    unfold wpX_install
    refine g1 _ ?_
    refine br_f ?_ (nm_r ef ?_)
    · rw [ht]; exact yb_soE (b := 6) (by omega) (by omega) (by omega)
    · rw [e9, e13, e17]
      refine ⟨(w p0 h0).1, nm_r (w p0 h0).2 ⟨(w p1 h1).1, nm_r (w p1 h1).2 ⟨(w p2 h2).1, nm_r (w p2 h2).2 ⟨vf, nm_r (e' := nI ct) (by rw [cf]; exact t3) ?_⟩⟩⟩⟩
      obtain rfl | rfl : l = 0 ∨ l = 1 := by omega
      · refine br_t rfl ?_
        unfold wX_install_111
        rw [e0, e2]
        refine xb_mark (F := F) (G := G1) (mo := mo) (c := 0) ht hm f1 (by omega) (by omega) rfl (by omega) N.2.2.2.1 hmo ?_
        refine And.intro vb ?_
        rw [cb, show xm_G G1 (ms.length + 1) (xc_h 0 hot) h v 0 15 b = nI (en b) from eb]
        exact xb_enter (F := xm_F F ms.length mo) (G := xm_G G1 (ms.length + 1) (xc_h 0 hot) h v 0) f1 hhb (by omega) (by omega) q
      · refine br_f (by decide) (nm_r (e' := nI hot) ef ?_)
        unfold wX_install_111
        rw [e0, e2]
        refine xb_mark (F := upd F 10 (nI hot)) (G := G1) (mo := mo) (c := 0) ht hm f1 (by omega) (by omega) rfl (by omega) N.2.2.2.1 hmo ?_
        refine And.intro vb ?_
        rw [cb, show xm_G G1 (ms.length + 1) (xc_h 1 hot) h v 0 15 b = nI (en b) from eb]
        exact xb_enter (F := xm_F (upd F 10 (nI hot)) ms.length mo) (G := xm_G G1 (ms.length + 1) (xc_h 1 hot) h v 0) f1 hhb (by omega) (by omega) q
  refine ⟨_, _, ex_step hi T.2.2.2.2.2.2.1 (fun post hp => ?_), T2, ?_, ?_⟩
  · obtain rfl | rfl : l = 0 ∨ l = 1 := by omega
    · exact xb_stT (F := F) (G := G) T.1 (by omega) T.2.1.1 hc.1 hc.2 (by decide) (by decide) rfl (fun Q q => by rw [ho]; exact xt_install0 fin q) hp
    · exact xb_stT (F := F) (G := G) T.1 (by omega) T.2.1.1 hc.1 hc.2 (by decide) (by decide) rfl (fun Q q => by rw [ho]; exact xt_install1 fin q) hp
  · obtain ⟨n1, n2, n3, n4, n5, n6, n7, n8⟩ := N
    have e : ∀ k, k ≠ 10 → k ≠ 12 → k ≠ 21 → upd (xm_F (xc_F l hot F) ms.length mo) 10 (nI (xc_h l hot + 1)) k = F k := fun k a b c => by
      unfold xm_F
      rw [pk_un a, pk_un c, pk_un b, r1 k a]
    refine ⟨(e _ (by decide) (by decide) (by decide)).trans n1, (e _ (by decide) (by decide) (by decide)).trans n2, (e _ (by decide) (by decide) (by decide)).trans n3, rfl, (e _ (by decide) (by decide) (by decide)).trans n5, (e _ (by decide) (by decide) (by decide)).trans n6, (e _ (by decide) (by decide) (by decide)).trans n7, ?_⟩
    intro j hj
    have : xb_eG (xm_G G1 (ms.length + 1) (xc_h l hot) h v 0) (xc_h l hot) (en b) ct (wd_g ws p0) (wd_g ws p1) (wd_g ws p2) 40 = G 40 := by rw [← hG 40 (by omega)]; rfl
    rw [this]; exact n8 j hj
  · refine ⟨fun k hk => by unfold xm_F; rw [pk_un (by omega), pk_un (by omega), pk_un (by omega), r1 k (by omega)], fun k hk => ?_⟩
    rw [← hG k (by omega)]
    unfold xb_eG xm_G
    rw [uu_Gn (by omega), uu_Gn (by omega), uu_Gn (by omega), uu_Gn (by omega), uu_Gn (by omega), uu_Gn (by omega), uu_Gn (by omega), uu_Gn (by omega)]
end
end
section
/-! frames are frozen -/
section
variable {F : Nat → Int32} {G : Nat → Nat → Int32} {hot fz nr nc i : Nat} {fs : List ct_F} {ms : List ct_XM} {XC : Nat → List ct_F × List ct_XM} {v : Int32}
theorem xb_freezeL {f z k : Nat} (hf : f < 168) (hz : F 11 = nI z) (hzb : z < 304) (hk : G 24 f = nI k) (hkb : k ≤ 9) :
    ∀ (m i : Nat) (W : Nat → Int32), i + m = k → (∀ j, j < 9 * z → W j = G 30 j) → (∀ j, j < i → W (9 * z + j) = G 25 (9 * f + j)) →
      ∃ W' : Nat → Int32, (∀ j, j < 9 * z → W' j = G 30 j) ∧ (∀ j, j < k → W' (9 * z + j) = G 25 (9 * f + j))
        ∧ ∀ post : Int32 → SX → Prop, post (nI z) (xs_mk F (uu_G G 30 W')) → wX_freeze_68 post (nI f) (F 0) (F 1) (F 2) (F 3) (F 4) (F 5) (F 6) (F 7) (F 8) (F 9) (F 10) (F 11) (F 12) (F 13) (F 14) (F 15) (F 16) (F 17) (F 18) (F 19) (F 20) (F 21) (F 22) (m + 1) (nI i) (uu_G G 30 W 0) (uu_G G 30 W 1) (uu_G G 30 W 2) (uu_G G 30 W 3) (uu_G G 30 W 4) (uu_G G 30 W 5) (uu_G G 30 W 6) (uu_G G 30 W 7) (uu_G G 30 W 8) (uu_G G 30 W 9) (uu_G G 30 W 10) (uu_G G 30 W 11) (uu_G G 30 W 12) (uu_G G 30 W 13) (uu_G G 30 W 14) (uu_G G 30 W 15) (uu_G G 30 W 16) (uu_G G 30 W 17) (uu_G G 30 W 18) (uu_G G 30 W 19) (uu_G G 30 W 20) (uu_G G 30 W 21) (uu_G G 30 W 22) (uu_G G 30 W 23) (uu_G G 30 W 24) (uu_G G 30 W 25) (uu_G G 30 W 26) (uu_G G 30 W 27) (uu_G G 30 W 28) (uu_G G 30 W 29) (uu_G G 30 W 30) (uu_G G 30 W 31) (uu_G G 30 W 32) (uu_G G 30 W 33) (uu_G G 30 W 34) (uu_G G 30 W 35) (uu_G G 30 W 36) (uu_G G 30 W 37) (uu_G G 30 W 38) (uu_G G 30 W 39) (uu_G G 30 W 40) := by
  have cc : (nI f).toNatClampNeg = f := nI_clamp (by omega)
  intro m
  induction m with
  | zero =>
    intro i W hi h1 h2
    refine ⟨W, h1, fun j hj => h2 j (by omega), fun post h => ?_⟩
    unfold wX_freeze_68
    rw [← hz] at h
    refine ⟨vp_in_nI hf (by omega), br_t ?_ h⟩
    show G 24 (nI f).toNatClampNeg ≤ nI i
    rw [cc, hk]; exact nI_le (by omega) (by omega)
  | succ m ih =>
    intro i W hi h1 h2
    obtain ⟨W', g1, g2, g3⟩ := ih (i + 1) (upd W (9 * z + i) (G 25 (9 * f + i))) (by omega)
      (fun j hj => by rw [pk_un (by omega)]; exact h1 j hj)
      (fun j hj => by
        by_cases z : j = i
        · rw [z, pk_us]
        · rw [pk_un (by omega)]; exact h2 j (by omega))
    refine ⟨W', g1, g2, fun post h => ?_⟩
    have e1 : 9 * nI f + nI i = nI (9 * f + i) := by rw [uu_m9, nI_add]
    have e2 : 9 * F 11 + nI i = nI (9 * z + i) := by rw [hz, uu_m9, nI_add]
    have c1 : (nI (9 * f + i)).toNatClampNeg = 9 * f + i := nI_clamp (by omega)
    have c2 : (nI (9 * z + i)).toNatClampNeg = 9 * z + i := nI_clamp (by omega)
    unfold wX_freeze_68
    refine ⟨vp_in_nI hf (by omega), br_f ?_ ?_⟩
    · show ¬ G 24 (nI f).toNatClampNeg ≤ nI i
      rw [cc, hk]; exact nI_ge (by omega) (by omega)
    · rw [e1, e2, c1, c2]
      refine ⟨vp_in_nI (by omega) (by omega), vp_in_nI (by omega) (by omega), nm_e (nm_r (e' := nI (i + 1)) (nI_1 i) ?_)⟩
      exact g3 post h
def xf_G (G : Nat → Nat → Int32) (f z : Nat) (nx : Int32) : Nat → Nat → Int32 :=
  uu_G (uu_G (uu_G (uu_G G 26 (upd (G 26) z (G 22 f))) 27 (upd (G 27) z (G 23 f))) 28 (upd (G 28) z (G 24 f))) 29 (upd (G 29) z nx)
/-- a frame at work becomes a frozen one -/
theorem xn_freeze {f b : Nat} {fr : ct_F} {nx : Int32} {cs : List ct_F} (hf : f < 168) (hz : F 11 = nI fz) (hzb : fz + 1 < 304) (h : hf_R G f fr) (hl : cl_R G cs (fz + 1) nx) :
    ∃ G', (∀ post : Int32 → SX → Prop, post (nI (fz + 1)) (xs_mk (upd F 11 (nI (fz + 1))) G') → wpX_freeze post (xs_mk F G) (nI f) nx)
      ∧ cl_R G' (fr :: cs) (fz + 2) (nI (fz + 1)) ∧ ag_C G G' (fz + 1) ∧ (∀ k, k < 26 ∨ 30 < k → G' k = G k) := by
  obtain ⟨h1, h2, h3, h4, h5, h6, h7⟩ := h
  obtain ⟨b, hb, hbb⟩ : ∃ b, nx = nI b ∧ b < 32768 := by
    cases cs with
    | nil => exact ⟨0, hl.trans nI_0.symm, by omega⟩
    | cons _ _ =>
      obtain ⟨c', _, e2, e3, _⟩ := hl
      exact ⟨c', e3, by omega⟩
  obtain ⟨W', g1, g2, g3⟩ := xb_freezeL (F := upd F 11 (nI (fz + 1))) (G := xf_G G f (fz + 1) nx) (f := f) (z := fz + 1) (k := fr.2.2.length) hf rfl hzb h3 h4 fr.2.2.length 0 (G 30) (by omega) (fun _ _ => rfl) (fun i hi => absurd hi (by omega))
  have aG : ∀ k, k < 26 ∨ 30 < k → uu_G (xf_G G f (fz + 1) nx) 30 W' k = G k := by
    intro k hk
    unfold xf_G
    rw [uu_Gn (by omega), uu_Gn (by omega), uu_Gn (by omega), uu_Gn (by omega), uu_Gn (by omega)]
  have aC : ag_C G (uu_G (xf_G G f (fz + 1) nx) 30 W') (fz + 1) := by
    refine ⟨?_, g1⟩
    intro k a b c hc
    have hn : c ≠ fz + 1 := by omega
    obtain rfl | rfl | rfl | rfl : k = 26 ∨ k = 27 ∨ k = 28 ∨ k = 29 := by omega
    all_goals exact pk_un hn
  refine ⟨_, ?_, ?_, aC, aG⟩
  · intro post hp
    have cf : (nI f).toNatClampNeg = f := nI_clamp (by omega)
    have cz : (nI (fz + 1)).toNatClampNeg = fz + 1 := nI_clamp (by omega)
    have vf : vp_in (nI f) 168 := vp_in_nI hf (by omega)
    have vz : vp_in (nI (fz + 1)) 304 := vp_in_nI hzb (by omega)
    unfold wpX_freeze
    refine nm_r (e' := nI (fz + 1)) (by rw [hz, nI_1]) ?_
    rw [cf, cz]
    refine ⟨vf, vz, nm_r (e' := upd (G 26) (fz + 1) (G 22 f)) (by rw [h1, uu_ns (by omega)]) ⟨vf, vz, nm_r (e' := upd (G 27) (fz + 1) (G 23 f)) (by rw [h2, uu_ns (by omega)]) ⟨vf, vz, nm_r (e' := upd (G 28) (fz + 1) (G 24 f)) (by rw [h3, uu_nb (by omega)]) ⟨vz, nm_r (e' := upd (G 29) (fz + 1) nx) (by rw [hb, uu_b16 hbb, uu_ns hbb]) ⟨fr.2.2.length + 1, g3 post hp⟩⟩⟩⟩⟩
  · refine ⟨fz + 1, by omega, by omega, rfl, ⟨pk_us.trans h1, pk_us.trans h2, pk_us.trans h3, h4, h5, h6, ?_⟩, ?_⟩
    · intro i hi
      exact (g2 i hi).trans (h7 i hi)
    · have e : uu_G (xf_G G f (fz + 1) nx) 30 W' 29 (fz + 1) = nx := pk_us
      rw [e]
      exact cl_x aC _ _ _ _ (Nat.le_refl _) (Nat.le_refl _) hl
/-- all frames at work of a segment -/
theorem xn_freezeL {lo e : Nat} {ch : Int32} (he : e ≤ 168) : ∀ (fs : List ct_F) (hi : Nat) (F : Nat → Int32) (G : Nat → Nat → Int32) (fz : Nat), hi ≤ e → sl_R G fz lo ch fs hi → F 11 = nI fz → fz + (hi - lo) < 304 →
    ∃ (F' : Nat → Int32) (G' : Nat → Nat → Int32) (cold : Int32), cl_R G' fs (fz + (hi - lo) + 1) cold ∧ ag_C G G' (fz + 1) ∧ (∀ k, k < 26 ∨ 30 < k → G' k = G k) ∧ F' 11 = nI (fz + (hi - lo)) ∧ (∀ k, k ≠ 11 → F' k = F k)
      ∧ ∀ (post : Int32 → SX → Prop) (n : Nat), wX_freezeAll_15 post (nI e) n cold (nI hi) (F' 0) (F' 1) (F' 2) (F' 3) (F' 4) (F' 5) (F' 6) (F' 7) (F' 8) (F' 9) (F' 10) (F' 11) (F' 12) (F' 13) (F' 14) (F' 15) (F' 16) (F' 17) (F' 18) (F' 19) (F' 20) (F' 21) (F' 22) (G' 0) (G' 1) (G' 2) (G' 3) (G' 4) (G' 5) (G' 6) (G' 7) (G' 8) (G' 9) (G' 10) (G' 11) (G' 12) (G' 13) (G' 14) (G' 15) (G' 16) (G' 17) (G' 18) (G' 19) (G' 20) (G' 21) (G' 22) (G' 23) (G' 24) (G' 25) (G' 26) (G' 27) (G' 28) (G' 29) (G' 30) (G' 31) (G' 32) (G' 33) (G' 34) (G' 35) (G' 36) (G' 37) (G' 38) (G' 39) (G' 40) → wX_freezeAll_15 post (nI e) (n + (hi - lo)) ch (nI lo) (F 0) (F 1) (F 2) (F 3) (F 4) (F 5) (F 6) (F 7) (F 8) (F 9) (F 10) (F 11) (F 12) (F 13) (F 14) (F 15) (F 16) (F 17) (F 18) (F 19) (F 20) (F 21) (F 22) (G 0) (G 1) (G 2) (G 3) (G 4) (G 5) (G 6) (G 7) (G 8) (G 9) (G 10) (G 11) (G 12) (G 13) (G 14) (G 15) (G 16) (G 17) (G 18) (G 19) (G 20) (G 21) (G 22) (G 23) (G 24) (G 25) (G 26) (G 27) (G 28) (G 29) (G 30) (G 31) (G 32) (G 33) (G 34) (G 35) (G 36) (G 37) (G 38) (G 39) (G 40) := by
  intro fs
  induction fs with
  | nil =>
    rintro hi F G fz hh ⟨rfl, rfl⟩ hz _
    rw [Nat.sub_self]
    exact ⟨F, G, 0, rfl, ag_Crf fun _ _ _ => rfl, fun _ _ => rfl, hz, fun _ _ => rfl, fun post n h => h⟩
  | cons fr fs ih =>
    rintro hi F G fz hh (⟨rfl, hc⟩ | ⟨h1, h2, h3⟩) hz hb
    · rw [Nat.sub_self]
      exact ⟨F, G, ch, hc, ag_Crf fun _ _ _ => rfl, fun _ _ => rfl, hz, fun _ _ => rfl, fun post n h => h⟩
    · obtain ⟨hi, rfl⟩ : ∃ q, hi = q + 1 := ⟨hi - 1, by omega⟩
      rw [Nat.add_sub_cancel] at h2 h3
      obtain ⟨F1, G1, cold, a1, a2, a3, a4, a5, a6⟩ := ih hi F G fz (by omega) h3 hz (by omega)
      obtain ⟨G2, b1, b2, b3, b4⟩ := xn_freeze (F := F1) (f := hi) (b := 0) (fr := fr) (by omega) a4 (by omega) (hf_x (b := hi + 1) (ag_Hrf fun k a b => a3 k (by omega)) (by omega) h2) a1
      have e1 : fz + (hi + 1 - lo) = fz + (hi - lo) + 1 := by omega
      refine ⟨upd F1 11 (nI (fz + (hi - lo) + 1)), G2, nI (fz + (hi - lo) + 1), ?_, ?_, ?_, ?_, ?_, ?_⟩
      · rw [e1]; exact b2
      · refine ⟨fun k a b c hc => ?_, fun i hi' => ?_⟩
        · rw [b3.1 k a b c (by omega), a2.1 k a b c hc]
        · rw [b3.2 i (by omega), a2.2 i hi']
      · intro k hk; rw [b4 k hk, a3 k hk]
      · rw [e1]; rfl
      · intro k hk; rw [pk_un hk, a5 k hk]
      · intro post n h
        rw [show n + (hi + 1 - lo) = n + 1 + (hi - lo) by omega]
        refine a6 post (n + 1) ?_
        unfold wX_freezeAll_15
        refine br_f (nI_ge (by omega) (by omega)) (b1 _ ?_)
        exact nm_r (e' := nI (hi + 1)) (nI_1 hi) h
end
end
section
/-! segments become a catch -/
def tk_u : List ct_XM → List ct_F → List ct_F
  | [] => fun fs => fs
  | (_, _, u) :: cms => fun _ => tk_u cms u
theorem cl_nI {G : Nat → Nat → Int32} {cs : List ct_F} {b : Nat} {ch : Int32} (hl : cl_R G cs b ch) (hb : b ≤ 32768) : ∃ c, ch = nI c ∧ c < 32768 := by
  cases cs with
  | nil => exact ⟨0, hl.trans nI_0.symm, by omega⟩
  | cons _ _ =>
    obtain ⟨c', _, e2, e3, _⟩ := hl
    exact ⟨c', e3, by omega⟩
section
variable {ms2 : List ct_XM}
theorem xn_take {tp hi0 : Nat} (htp : tp ≤ 6) (hhi : hi0 ≤ 168) : ∀ (cms : List ct_XM) (fs : List ct_F) (hi : Nat) (F : Nat → Int32) (G : Nat → Nat → Int32) (fz nr : Nat), sg_R G fz (cms ++ ms2) hi fs →
    F 11 = nI fz → F 14 = nI nr → F 12 = nI tp → F 10 = nI hi0 → hi ≤ hi0 →
    ((cms.length + ms2.length = tp ∧ hi = hi0) ∨ (cms.length + ms2.length < tp ∧ G 31 (cms.length + ms2.length + 1) = nI hi)) → fz + hi < 304 → nr + cms.length ≤ 480 →
    ∃ (F' : Nat → Int32) (G' : Nat → Nat → Int32) (fz' lo : Nat), fz ≤ fz' ∧ fz' + lo = fz + hi ∧ lo ≤ hi ∧ sg_R G' fz' ms2 lo (tk_u cms fs) ∧ rc_R G' fz' nr cms fs ∧ ag_C G G' (fz + 1)
      ∧ ((cms = [] → lo = hi) ∧ (cms ≠ [] → G' 31 (ms2.length + 1) = nI lo))
      ∧ (∀ k, k < 26 ∨ (31 ≤ k ∧ k ≤ 36) ∨ 39 < k → G' k = G k) ∧ (∀ k, 37 ≤ k → k ≤ 39 → ∀ j, j < nr → G' k j = G k j)
      ∧ F' 11 = nI fz' ∧ F' 14 = nI (nr + cms.length) ∧ (∀ k, k ≠ 11 → k ≠ 14 → F' k = F k)
      ∧ ∀ (post : SX → Prop) (n : Nat), wX_takeOff_44 post n (nI (ms2.length + cms.length + 1)) (F' 0) (F' 1) (F' 2) (F' 3) (F' 4) (F' 5) (F' 6) (F' 7) (F' 8) (F' 9) (F' 10) (F' 11) (F' 12) (F' 13) (F' 14) (F' 15) (F' 16) (F' 17) (F' 18) (F' 19) (F' 20) (F' 21) (F' 22) (G' 0) (G' 1) (G' 2) (G' 3) (G' 4) (G' 5) (G' 6) (G' 7) (G' 8) (G' 9) (G' 10) (G' 11) (G' 12) (G' 13) (G' 14) (G' 15) (G' 16) (G' 17) (G' 18) (G' 19) (G' 20) (G' 21) (G' 22) (G' 23) (G' 24) (G' 25) (G' 26) (G' 27) (G' 28) (G' 29) (G' 30) (G' 31) (G' 32) (G' 33) (G' 34) (G' 35) (G' 36) (G' 37) (G' 38) (G' 39) (G' 40) → wX_takeOff_44 post (n + cms.length) (nI (ms2.length + 1)) (F 0) (F 1) (F 2) (F 3) (F 4) (F 5) (F 6) (F 7) (F 8) (F 9) (F 10) (F 11) (F 12) (F 13) (F 14) (F 15) (F 16) (F 17) (F 18) (F 19) (F 20) (F 21) (F 22) (G 0) (G 1) (G 2) (G 3) (G 4) (G 5) (G 6) (G 7) (G 8) (G 9) (G 10) (G 11) (G 12) (G 13) (G 14) (G 15) (G 16) (G 17) (G 18) (G 19) (G 20) (G 21) (G 22) (G 23) (G 24) (G 25) (G 26) (G 27) (G 28) (G 29) (G 30) (G 31) (G 32) (G 33) (G 34) (G 35) (G 36) (G 37) (G 38) (G 39) (G 40) := by
  intro cms
  induction cms with
  | nil =>
    intro fs hi F G fz nr hs hz hr ht hf hh hend hb hn
    exact ⟨F, G, fz, hi, Nat.le_refl _, rfl, Nat.le_refl _, hs, trivial, ag_Crf fun _ _ _ => rfl, ⟨fun _ => rfl, fun h => absurd rfl h⟩, fun _ _ => rfl, fun _ _ _ _ _ => rfl, hz, hr, fun _ _ _ => rfl, fun post n h => h⟩
  | cons x cms ih =>
    obtain ⟨h, s, u⟩ := x
    intro fs hi F G fz nr hs hz hr ht hf hh hend hb hn
    obtain ⟨lo, l0, l1, l2, l3, l4, l5, l6⟩ := hs
    simp only [List.length_cons] at hend hn
    have hap : (cms.append ms2).length = cms.length + ms2.length := List.length_append
    rw [hap] at l1 l2 l3 l4
    obtain ⟨F1, G1, fz1, lo1, a0, a1, a2, a3, a4, a5, a6, a7, a8, a9, a10, a11, a12⟩ := ih u lo F G fz nr l6 hz hr ht hf (by omega) (Or.inr ⟨by omega, l1⟩) (by omega) (by omega)
    have hj : cms.length + ms2.length + 1 ≤ tp := by omega
    have sl1 : sl_R G1 fz1 lo (G 32 (cms.length + ms2.length + 1)) fs hi := sl_x (ag_Hrf fun k a b => a7 k (by omega)) a5 a0 fs hi (Nat.le_refl _) l2
    obtain ⟨F2, G2, cold, b1, b2, b3, b4, b5, b6⟩ := xn_freezeL (e := hi) (by omega) fs hi F1 G1 fz1 (Nat.le_refl _) sl1 a9 (by omega)
    obtain ⟨c, hc, hcb⟩ := cl_nI b1 (by omega)
    -- the records
    have e14 : F2 14 = nI (nr + cms.length) := by rw [b5 _ (by decide)]; exact a10
    have aC2 : ag_C G G2 (fz + 1) := ⟨fun k a b c hc => by rw [b2.1 k a b c (by omega), a5.1 k a b c hc], fun i hi' => by rw [b2.2 i (by omega), a5.2 i hi']⟩
    have fzz : fz1 + (hi - lo) + lo1 = fz + hi := by omega
    refine ⟨upd F2 14 (nI (nr + cms.length + 1)), uu_G (uu_G (uu_G G2 37 (upd (G2 37) (nr + cms.length) cold)) 38 (upd (G2 38) (nr + cms.length) (nI h))) 39 (upd (G2 39) (nr + cms.length) s), fz1 + (hi - lo), lo1, by omega, fzz, by omega, ?_, ?_, ?_, ?_, ?_, ?_, ?_, ?_, ?_, ?_⟩
    · refine sg_x (G := G1) (hi0 := lo1) ⟨fun k a b c hc => ?_, fun i hi' => ?_⟩ (by omega) ms2 lo1 _ (Nat.le_refl _) (ag_Hrf fun k a b => ?_) (ag_Srf fun k a b => ?_) a3
      · rw [uu_Gn (by omega), uu_Gn (by omega), uu_Gn (by omega)]; exact b2.1 k a b c hc
      · rw [uu_Gn (by omega), uu_Gn (by omega), uu_Gn (by omega)]; exact b2.2 i hi'
      · rw [uu_Gn (by omega), uu_Gn (by omega), uu_Gn (by omega)]; exact b3 k (by omega)
      · rw [uu_Gn (by omega), uu_Gn (by omega), uu_Gn (by omega)]; exact b3 k (by omega)
    · refine ⟨pk_us, pk_us, l5, ?_, ?_⟩
      · refine cl_x (b := fz1 + (hi - lo) + 1) (ag_Crf fun k a b => ?_) fs (fz1 + (hi - lo) + 1) (fz1 + (hi - lo) + 1) _ (Nat.le_refl _) (Nat.le_refl _) (G := G2) ?_
        · rw [uu_Gn (by omega), uu_Gn (by omega), uu_Gn (by omega)]
        · show cl_R G2 fs _ (upd (G2 37) (nr + cms.length) cold (nr + cms.length))
          rw [pk_us]; exact b1
      · refine rc_x (G := G1) (fz := fz1) (nr := nr + cms.length) ⟨fun k a b c hc => ?_, fun i hi' => ?_⟩ (by omega) (fun k a b j hj => ?_) cms u (Nat.le_refl _) a4
        · rw [uu_Gn (by omega), uu_Gn (by omega), uu_Gn (by omega)]; exact b2.1 k a b c hc
        · rw [uu_Gn (by omega), uu_Gn (by omega), uu_Gn (by omega)]; exact b2.2 i hi'
        · have hn : j ≠ nr + cms.length := by omega
          rw [← b3 k (by omega)]
          obtain rfl | rfl | rfl : k = 37 ∨ k = 38 ∨ k = 39 := by omega
          all_goals exact pk_un hn
    · refine ⟨fun k a b c hc => ?_, fun i hi' => ?_⟩
      · rw [uu_Gn (by omega), uu_Gn (by omega), uu_Gn (by omega)]; exact aC2.1 k a b c hc
      · rw [uu_Gn (by omega), uu_Gn (by omega), uu_Gn (by omega)]; exact aC2.2 i hi'
    · refine ⟨fun z => by simp at z, fun _ => ?_⟩
      rw [uu_Gn (by decide), uu_Gn (by decide), uu_Gn (by decide), b3 31 (by decide)]
      by_cases zz : cms = []
      · rw [a7 31 (by decide), a6.1 zz, ← l1, zz]; simp
      · exact a6.2 zz
    · intro k hk
      rw [uu_Gn (by omega), uu_Gn (by omega), uu_Gn (by omega), b3 k (by omega), a7 k hk]
    · intro k a b j hj
      have hn : j ≠ nr + cms.length := by omega
      rw [← a8 k a b j hj, ← b3 k (by omega)]
      obtain rfl | rfl | rfl : k = 37 ∨ k = 38 ∨ k = 39 := by omega
      all_goals exact pk_un hn
    · exact (pk_un (by decide)).trans b4
    · simp only [List.length_cons]; rw [← Nat.add_assoc]; exact pk_us
    · intro k a b
      rw [pk_un b, b5 k a, a11 k a b]
    · intro post n hp
      simp only [List.length_cons] at hp ⊢
      rw [show n + (cms.length + 1) = n + 1 + cms.length by omega]
      refine a12 post (n + 1) ?_
      have et : F1 12 = nI tp := by rw [a11 _ (by decide) (by decide)]; exact ht
      have ef : F1 10 = nI hi0 := by rw [a11 _ (by decide) (by decide)]; exact hf
      have ej : ms2.length + cms.length + 1 = cms.length + ms2.length + 1 := by omega
      rw [ej]
      have vj : vp_in (nI (cms.length + ms2.length + 1)) 7 := vp_in_nI (by omega) (by omega)
      have cj : (nI (cms.length + ms2.length + 1)).toNatClampNeg = cms.length + ms2.length + 1 := nI_clamp (by omega)
      have key : wX_takeOff_75 post (wX_takeOff_44 post n) (nI (cms.length + ms2.length + 1)) (nI hi) (F1 0) (F1 1) (F1 2) (F1 3) (F1 4) (F1 5) (F1 6) (F1 7) (F1 8) (F1 9) (F1 10) (F1 11) (F1 12) (F1 13) (F1 14) (F1 15) (F1 16) (F1 17) (F1 18) (F1 19) (F1 20) (F1 21) (F1 22) (G1 0) (G1 1) (G1 2) (G1 3) (G1 4) (G1 5) (G1 6) (G1 7) (G1 8) (G1 9) (G1 10) (G1 11) (G1 12) (G1 13) (G1 14) (G1 15) (G1 16) (G1 17) (G1 18) (G1 19) (G1 20) (G1 21) (G1 22) (G1 23) (G1 24) (G1 25) (G1 26) (G1 27) (G1 28) (G1 29) (G1 30) (G1 31) (G1 32) (G1 33) (G1 34) (G1 35) (G1 36) (G1 37) (G1 38) (G1 39) (G1 40) := by
        unfold wX_takeOff_75 wpX_freezeAll
        refine ⟨vj, nm_r (e' := G 32 (cms.length + ms2.length + 1)) ?_ ⟨vj, nm_r (e' := nI lo) ?_ ⟨1 + (hi - lo), ?_⟩⟩⟩
        · rw [cj, a7 32 (by decide)]
        · rw [cj, a7 31 (by decide)]; exact l1
        · refine b6 _ 1 ?_
          unfold wX_freezeAll_15
          refine br_t (nI_le (Nat.le_refl _) (by omega)) ?_
          have vr : vp_in (F2 14) 480 := by rw [e14]; exact vp_in_nI (by omega) (by omega)
          have cr : (F2 14).toNatClampNeg = nr + cms.length := by rw [e14]; exact nI_clamp (by omega)
          show vp_in (F2 14) 480 ∧ _
          simp only [cr, cj]
          refine ⟨vr, nm_r (e' := upd (G2 37) (nr + cms.length) cold) (by rw [hc, uu_b16 hcb, uu_ns hcb]) ⟨vj, vr, nm_r (e' := upd (G2 38) (nr + cms.length) (nI h)) ?_ ⟨vj, vr, nm_r (e' := upd (G2 39) (nr + cms.length) s) ?_ (nm_r (e' := nI (nr + cms.length + 1)) (by rw [e14, nI_1]) (nm_r (e' := nI (ms2.length + (cms.length + 1) + 1)) ?_ hp))⟩⟩⟩
          · rw [b3 33 (by decide), a7 33 (by decide), l3, uu_nb (by omega)]
          · rw [b3 34 (by decide), a7 34 (by decide), l4]
          · rw [nI_1]; exact congrArg nI (by omega)
      unfold wX_takeOff_44
      refine br_f ?_ ?_
      · rw [et]; exact nI_nlt (by omega) (by omega)
      · rcases hend with ⟨z1, z2⟩ | ⟨z1, z2⟩
        · refine br_t (by rw [et]; exact congrArg nI (by omega)) ?_
          have e : nI hi = F1 10 := by rw [ef, z2]
          rw [e] at key
          exact key
        · refine br_f (by rw [et]; exact yb_soE (by omega) (by omega) (by omega)) ?_
          have e : G1 31 (cms.length + ms2.length + 1 + 1) = nI hi := by rw [a7 31 (by decide), show cms.length + ms2.length + 1 + 1 = cms.length + 1 + ms2.length + 1 by omega, z2]
          rw [nI_1, nI_clamp (by omega), e]
          exact ⟨vp_in_nI (by omega) (by omega), key⟩
end
end
section
/-! performing -/
def fm_n (sz : Nat → Nat) (o : Nat) : List ct_XM → Nat
  | [] => 0
  | (h, _, _) :: ms => if sz (4 + 4 * h + o) = 0 then fm_n sz o ms else ms.length + 1
theorem fm_app {sz : Nat → Nat} {o h : Nat} {s : Int32} {fs' : List ct_F} {ms2 : List ct_XM} (hz : sz (4 + 4 * h + o) ≠ 0) : ∀ (a : List ct_XM), (∀ q, q ∈ a → sz (4 + 4 * q.1 + o) = 0) → fm_n sz o (a ++ (h, s, fs') :: ms2) = ms2.length + 1 := by
  intro a
  induction a with
  | nil => intro _; exact if_neg hz
  | cons x a ih =>
    obtain ⟨q, s1, f1⟩ := x
    intro hc
    have := hc (q, s1, f1) (by simp)
    exact (if_pos this).trans (ih fun q hq => hc q (by simp [hq]))
theorem fm_zero {sz : Nat → Nat} {o : Nat} : ∀ (a : List ct_XM), (∀ q, q ∈ a → sz (4 + 4 * q.1 + o) = 0) → fm_n sz o a = 0 := by
  intro a
  induction a with
  | nil => intro _; rfl
  | cons x a ih =>
    obtain ⟨q, s1, f1⟩ := x
    intro hc
    have := hc (q, s1, f1) (by simp)
    exact (if_pos this).trans (ih fun q hq => hc q (by simp [hq]))
theorem fm_split {sz : Nat → Nat} {o : Nat} : ∀ (ms : List ct_XM), (∀ q, q ∈ ms → sz (4 + 4 * q.1 + o) = 0) ∨ ∃ a h s fs' ms2, ms = a ++ (h, s, fs') :: ms2 ∧ (∀ q, q ∈ a → sz (4 + 4 * q.1 + o) = 0) ∧ sz (4 + 4 * h + o) ≠ 0 := by
  intro ms
  induction ms with
  | nil => exact Or.inl fun q hq => by simp at hq
  | cons x ms ih =>
    obtain ⟨h, s, fs'⟩ := x
    by_cases z : sz (4 + 4 * h + o) = 0
    · rcases ih with ih | ⟨a, h1, s1, f1, m1, e1, e2, e3⟩
      · refine Or.inl fun q hq => ?_
        rcases List.mem_cons.mp hq with rfl | hq
        · exact z
        · exact ih q hq
      · refine Or.inr ⟨(h, s, fs') :: a, h1, s1, f1, m1, by rw [e1]; rfl, fun q hq => ?_, e3⟩
        rcases List.mem_cons.mp hq with rfl | hq
        · exact z
        · exact e2 q hq
    · exact Or.inr ⟨[], h, s, fs', ms, rfl, fun q hq => by simp at hq, z⟩
theorem tk_app {h : Nat} {s : Int32} {fs' : List ct_F} : ∀ (a : List ct_XM) (fs : List ct_F), tk_u (a ++ [(h, s, fs')]) fs = fs' := by
  intro a
  induction a with
  | nil => intro fs; rfl
  | cons x a ih => obtain ⟨q, s1, f1⟩ := x; intro fs; exact ih f1
theorem sg_app {G : Nat → Nat → Int32} {fz h : Nat} {s : Int32} {fs' : List ct_F} {ms2 : List ct_XM} : ∀ (a : List ct_XM) (hi : Nat) (fs : List ct_F), sg_R G fz (a ++ (h, s, fs') :: ms2) hi fs →
    ∃ lo, lo ≤ hi ∧ G 31 (ms2.length + 1) = nI lo ∧ G 33 (ms2.length + 1) = nI h ∧ G 34 (ms2.length + 1) = s ∧ h < 3 ∧ sg_R G fz ms2 lo fs' := by
  intro a
  induction a with
  | nil =>
    rintro hi fs ⟨lo, h1, h2, h3, h4, h5, h6, h7⟩
    exact ⟨lo, h1, h2, h4, h5, h6, h7⟩
  | cons x a ih =>
    obtain ⟨q, s1, f1⟩ := x
    rintro hi fs ⟨lo, h1, h2, h3, h4, h5, h6, h7⟩
    obtain ⟨lo', g1, g⟩ := ih lo f1 h7
    exact ⟨lo', by omega, g⟩
section
variable {F : Nat → Int32} {G : Nat → Nat → Int32} {hot fz nr nc i o : Nat} {p ct : Nat} {ws : List Int32} {fs : List ct_F} {ms : List ct_XM} {XC : Nat → List ct_F × List ct_XM} {v : Int32}
variable {st pf rs mo no : Nat} {og : Nat → Int32} {sz en : Nat → Nat}
theorem xf_L (hz : ∀ q, q < 16 → G 5 q = nI (sz q)) (hzb : ∀ q, sz q ≤ 12) (ho : o < 3) {post : Int32 → Prop} : ∀ (ms : List ct_XM) (hi : Nat) (fs : List ct_F), sg_R G fz ms hi fs → ms.length < 7 → post (nI (fm_n sz o ms)) →
    wX_findMark_5 post (nI o) (F 0) (F 1) (F 2) (F 3) (F 4) (F 5) (F 6) (F 7) (F 8) (F 9) (F 10) (F 11) (F 12) (F 13) (F 14) (F 15) (F 16) (F 17) (F 18) (F 19) (F 20) (F 21) (F 22) (G 0) (G 1) (G 2) (G 3) (G 4) (G 5) (G 6) (G 7) (G 8) (G 9) (G 10) (G 11) (G 12) (G 13) (G 14) (G 15) (G 16) (G 17) (G 18) (G 19) (G 20) (G 21) (G 22) (G 23) (G 24) (G 25) (G 26) (G 27) (G 28) (G 29) (G 30) (G 31) (G 32) (G 33) (G 34) (G 35) (G 36) (G 37) (G 38) (G 39) (G 40) (ms.length + 1) (nI ms.length) := by
  intro ms
  induction ms with
  | nil =>
    intro hi fs _ _ hp
    unfold wX_findMark_5
    exact br_t (by decide) hp
  | cons x ms ih =>
    obtain ⟨h, s, fs'⟩ := x
    rintro hi fs ⟨lo, h1, h2, h3, h4, h5, h6, h7⟩ hl hp
    simp only [List.length_cons] at hl ⊢
    have c : (nI (ms.length + 1)).toNatClampNeg = ms.length + 1 := nI_clamp (by omega)
    have e : 4 + 4 * G 33 (ms.length + 1) + nI o = nI (4 + 4 * h + o) := by rw [h4, uu_m4, uu_a4, nI_add]
    have c2 : (nI (4 + 4 * h + o)).toNatClampNeg = 4 + 4 * h + o := nI_clamp (by omega)
    unfold wX_findMark_5
    refine br_f (nI_nle (by omega) (by omega)) ⟨vp_in_nI (by omega) (by omega), ?_⟩
    rw [c, e, c2]
    refine ⟨vp_in_nI (by omega) (by omega), ?_⟩
    by_cases z : sz (4 + 4 * h + o) = 0
    · refine br_t (by rw [hz _ (by omega), z]; rfl) (nm_r (pk_m1 _) (ih lo fs' h7 (by omega) ?_))
      have : fm_n sz o ((h, s, fs') :: ms) = fm_n sz o ms := if_pos z
      rw [this] at hp; exact hp
    · refine br_f (by rw [hz _ (by omega)]; exact nI_ne0 (by omega) (by have := hzb (4 + 4 * h + o); omega)) ?_
      have : fm_n sz o ((h, s, fs') :: ms) = ms.length + 1 := if_neg z
      rw [this] at hp; exact hp
theorem xf_F {post : Int32 → Prop} (hz : ∀ q, q < 16 → G 5 q = nI (sz q)) (hzb : ∀ q, sz q ≤ 12) (ho : o < 3) (S : xr_S F G hot fz nr fs ms XC nc) (hm : ms.length < 7) (hp : post (nI (fm_n sz o ms))) : wpX_findMark post (xs_mk F G) (nI o) := by
  have L := xf_L (F := F) (post := post) hz hzb ho ms hot fs S.2.2.2.2.2.1 hm hp
  rw [← S.2.1] at L
  unfold wpX_findMark
  exact ⟨_, L⟩
/-- RAISE up to the mark -/
theorem xb_rai {l : Nat} {Q : SX → Prop} {G0 G1 : Nat → Nat → Int32} (hl : l < 2) (g1 : ∀ post : Int32 → SX → Prop, post v (xs_mk F G1) → wpX_pop post (xs_mk F G0)) (T : xr_T F G1 hot fz nr (p, ct, ws) fs ms XC nc)
    (hz : ∀ q, q < 16 → G1 5 q = nI (sz q)) (hzb : ∀ q, sz q ≤ 12) (ho : o < 3) (hm : ms.length < 7) {m : Nat} (hfm : fm_n sz o ms = m) (hm0 : m ≠ 0) (hmb : m < 7)
    (H : wX_raise_47 Q (nI o) v (nI m) (xc_F l hot F 0) (xc_F l hot F 1) (xc_F l hot F 2) (xc_F l hot F 3) (xc_F l hot F 4) (xc_F l hot F 5) (xc_F l hot F 6) (xc_F l hot F 7) (xc_F l hot F 8) (xc_F l hot F 9) (xc_F l hot F 10) (xc_F l hot F 11) (xc_F l hot F 12) (xc_F l hot F 13) (xc_F l hot F 14) (xc_F l hot F 15) (xc_F l hot F 16) (xc_F l hot F 17) (xc_F l hot F 18) (xc_F l hot F 19) (xc_F l hot F 20) (xc_F l hot F 21) (xc_F l hot F 22) (G1 0) (G1 1) (G1 2) (G1 3) (G1 4) (G1 5) (G1 6) (G1 7) (G1 8) (G1 9) (G1 10) (G1 11) (G1 12) (G1 13) (G1 14) (G1 15) (G1 16) (G1 17) (G1 18) (G1 19) (G1 20) (G1 21) (G1 22) (G1 23) (G1 24) (G1 25) (G1 26) (G1 27) (G1 28) (G1 29) (G1 30) (G1 31) (G1 32) (G1 33) (G1 34) (G1 35) (G1 36) (G1 37) (G1 38) (G1 39) (G1 40)) : wpX_raise Q (xs_mk F G0) (nI o) (nI l) := by
  unfold wpX_raise
  refine g1 _ ?_
  refine xf_F (F := F) (G := G1) hz hzb ho T.2.2 hm ?_
  rw [hfm]
  refine br_f (nI_ne0 (by omega) (by omega)) ?_
  obtain rfl | rfl : l = 0 ∨ l = 1 := by omega
  · exact br_t rfl H
  · exact br_f (by decide) (nm_r (e' := nI hot) (by rw [T.1]; exact nI_pred hot) H)
theorem xj_raiU {l : Nat} (hl : l < 2) (T : xr_T F G hot fz nr (p, ct, v :: ws) fs ms XC nc) (N : xr_N F G st pf rs mo no og) (hi : i < 4000000) (hb : hot + 1 < 168) (hc : cg_at (G 11) p (nI (if l = 0 then 13 else 29)))
    (hop : G 12 p = nI o) (ho : o < 3) (hz : ∀ q, q < 16 → G 5 q = nI (sz q)) (hzb : ∀ q, sz q ≤ 12) (hm : ms.length < 7) (ha : ∀ q, q ∈ ms → sz (4 + 4 * q.1 + o) = 0) :
    ∃ F' G', ex_go i F G (i + 1) F' G' ∧ F' 15 = 1 ∧ F' 16 = v ∧ F' 17 = nI o ∧ (∀ k, k < 10 ∨ 17 < k → F' k = F k) ∧ (∀ k, k < 22 ∨ 40 ≤ k → G' k = G k) := by
  have T1 := xr_g (p' := p + 1) T (fun _ _ _ => rfl) (by have := hc.1; omega)
  obtain ⟨G1, g1, g2, g3⟩ := xn_pop T1 (by omega)
  have hG : ∀ k, k < 22 ∨ 40 ≤ k → G1 k = G k := fun k hk => by rw [g3 k hk]; unfold xb_g; rw [uu_Gn (by omega)]
  have fin : ∀ Q : SX → Prop, Q (xs_mk (upd (upd (upd F 15 1) 16 v) 17 (nI o)) G1) → wpX_raise Q (xs_mk F (xb_g G hot (p + 1))) (nI o) (nI l) := by
    intro Q q
    unfold wpX_raise
    refine g1 _ ?_
    refine xf_F (F := F) (G := G1) (fun q hq => by rw [hG 5 (by omega)]; exact hz q hq) hzb ho g2.2.2 hm ?_
    rw [fm_zero ms ha]
    exact br_t rfl q
  refine ⟨upd (upd (upd F 15 1) 16 v) 17 (nI o), G1, ex_step hi T.2.2.2.2.2.2.1 (fun post h => ?_), rfl, rfl, rfl, ?_, hG⟩
  · obtain rfl | rfl : l = 0 ∨ l = 1 := by omega
    · exact xb_stT (F := F) (G := G) T.1 (by omega) T.2.1.1 hc.1 hc.2 (by decide) (by decide) rfl (fun Q q => by rw [hop]; exact xt_raise0 fin q) h
    · exact xb_stT (F := F) (G := G) T.1 (by omega) T.2.1.1 hc.1 hc.2 (by decide) (by decide) rfl (fun Q q => by rw [hop]; exact xt_raise1 fin q) h
  · intro k hk
    rw [pk_un (by omega), pk_un (by omega), pk_un (by omega)]
/-- RAISE to a clause that resumes at once -/
theorem xj_raiA {l h se : Nat} {s : Int32} {a ms2 : List ct_XM} {fs' : List ct_F} (hl : l < 2) (T : xr_T F G hot fz nr (p, ct, v :: ws) fs (a ++ (h, s, fs') :: ms2) XC nc) (N : xr_N F G st pf rs mo no og) (hi : i < 4000000) (hb : hot + 1 < 168)
    (hc : cg_at (G 11) p (nI (if l = 0 then 13 else 29))) (hop : G 12 p = nI o) (ho : o < 3) (hz : ∀ q, q < 16 → G 5 q = nI (sz q)) (hzb : ∀ q, sz q ≤ 12) (hm : (a ++ (h, s, fs') :: ms2).length < 7)
    (ha : ∀ q, q ∈ a → sz (4 + 4 * q.1 + o) = 0) (hh : sz (4 + 4 * h + o) ≠ 0) (hha : G 7 (4 + 4 * h + o) = 1) (hse : G 16 (4 + 4 * h + o) = nI se) (hseb : se ≤ 1200) :
    ∃ F' G', ex_go i F G (i + 1) F' G' ∧ xr_T F' G' (xc_h l hot) fz nr (se, ms2.length + 1, [0, s, v]) (xc_f l (p + 1, ct, ws) fs) (a ++ (h, s, fs') :: ms2) XC nc ∧ xr_N F' G' st (pf + 1) rs mo no og ∧ xr_I F G F' G' := by
  have T1 := xr_g (p' := p + 1) T (fun _ _ _ => rfl) (by have := hc.1; omega)
  obtain ⟨G1, g1, g2, g3⟩ := xn_pop T1 (by omega)
  have hG : ∀ k, k < 22 ∨ 40 ≤ k → G1 k = G k := fun k hk => by rw [g3 k hk]; unfold xb_g; rw [uu_Gn (by omega)]
  obtain ⟨S1, f1, r1⟩ := xr_cut hl g2
  have hhb : xc_h l hot < 168 := by unfold xc_h; split <;> omega
  have hml : ms2.length + 1 < 7 := by simp only [List.length_append, List.length_cons] at hm; omega
  have T2 := xn_enterT (F' := upd (upd (xc_F l hot F) 19 (nI (pf + 1))) 10 (nI (xc_h l hot + 1))) (p := se) (ct := ms2.length + 1) (a := v) (b := s) (c := 0) S1 hseb (by omega) (fun k a b => by rw [pk_un (by omega), pk_un (by omega)]) rfl
  obtain ⟨lo, k1, k2, k3, k4, k5, k6⟩ := sg_app a _ _ g2.2.2.2.2.2.2.2.1
  have vm : vp_in (nI (ms2.length + 1)) 7 := vp_in_nI hml (by omega)
  have cm : (nI (ms2.length + 1)).toNatClampNeg = ms2.length + 1 := nI_clamp (by omega)
  have cd : (nI (4 + 4 * h + o)).toNatClampNeg = 4 + 4 * h + o := nI_clamp (by omega)
  have vd : vp_in (nI (4 + 4 * h + o)) 16 := vp_in_nI (by omega) (by omega)
  have fin : ∀ Q : SX → Prop, Q (xs_mk (upd (upd (xc_F l hot F) 19 (nI (pf + 1))) 10 (nI (xc_h l hot + 1))) (xb_eG G1 (xc_h l hot) se (ms2.length + 1) v s 0)) → wpX_raise Q (xs_mk F (xb_g G hot (p + 1))) (nI o) (nI l) := by
    intro Q q
    refine xb_rai hl g1 g2 (fun q hq => by rw [hG 5 (by omega)]; exact hz q hq) hzb ho hm (fm_app hh a ha) (by omega) hml ?_
    unfold wX_raise_47
    refine nm_r (e' := nI (pf + 1)) (by rw [r1 _ (by decide), N.2.1, nI_1]) ?_
    rw [cm, k3]
    refine ⟨vm, ?_⟩
    refine xb_cl (F := upd (xc_F l hot F) 19 (nI (pf + 1))) (G := G1) (h := h) (o := o) ?_
    refine ⟨vm, nm_r k4 ?_⟩
    rw [cd]
    refine ⟨vd, br_t (by rw [hG 7 (by omega)]; exact hha) ⟨vd, ?_⟩⟩
    rw [show G1 16 (4 + 4 * h + o) = nI se by rw [hG 16 (by omega)]; exact hse]
    exact xb_enter (F := upd (xc_F l hot F) 19 (nI (pf + 1))) (G := G1) f1 hhb (by omega) (by omega) q
  refine ⟨_, _, ex_step hi T.2.2.2.2.2.2.1 (fun post h => ?_), T2, ?_, ?_⟩
  · obtain rfl | rfl : l = 0 ∨ l = 1 := by omega
    · exact xb_stT (F := F) (G := G) T.1 (by omega) T.2.1.1 hc.1 hc.2 (by decide) (by decide) rfl (fun Q q => by rw [hop]; exact xt_raise0 fin q) h
    · exact xb_stT (F := F) (G := G) T.1 (by omega) T.2.1.1 hc.1 hc.2 (by decide) (by decide) rfl (fun Q q => by rw [hop]; exact xt_raise1 fin q) h
  · obtain ⟨n1, n2, n3, n4, n5, n6, n7, n8⟩ := N
    have e : ∀ k, k ≠ 10 → k ≠ 19 → upd (upd (xc_F l hot F) 19 (nI (pf + 1))) 10 (nI (xc_h l hot + 1)) k = F k := fun k hk h2 => by rw [pk_un hk, pk_un h2, r1 k hk]
    refine ⟨(e _ (by decide) (by decide)).trans n1, rfl, (e _ (by decide) (by decide)).trans n3, (e _ (by decide) (by decide)).trans n4, (e _ (by decide) (by decide)).trans n5, (e _ (by decide) (by decide)).trans n6, (e _ (by decide) (by decide)).trans n7, ?_⟩
    intro j hj
    have : xb_eG G1 (xc_h l hot) se (ms2.length + 1) v s 0 40 = G 40 := by rw [← hG 40 (by omega)]; rfl
    rw [this]; exact n8 j hj
  · refine ⟨fun k hk => by rw [pk_un (by omega), pk_un (by omega), r1 k (by omega)], fun k hk => ?_⟩
    rw [← hG k (by omega)]
    unfold xb_eG
    rw [uu_Gn (by omega), uu_Gn (by omega), uu_Gn (by omega), uu_Gn (by omega)]
/-- RAISE to a clause that never resumes -/
theorem xj_raiN {l h : Nat} {s : Int32} {a ms2 : List ct_XM} {fs' : List ct_F} (hl : l < 2) (T : xr_T F G hot fz nr (p, ct, v :: ws) fs (a ++ (h, s, fs') :: ms2) XC nc) (N : xr_N F G st pf rs mo no og) (hi : i < 4000000) (hb : hot + 1 < 168)
    (hc : cg_at (G 11) p (nI (if l = 0 then 13 else 29))) (hop : G 12 p = nI o) (ho : o < 3) (hz : ∀ q, q < 16 → G 5 q = nI (sz q)) (hzb : ∀ q, sz q ≤ 12) (hm : (a ++ (h, s, fs') :: ms2).length < 7)
    (ha : ∀ q, q ∈ a → sz (4 + 4 * q.1 + o) = 0) (hh : sz (4 + 4 * h + o) ≠ 0) (hha : G 7 (4 + 4 * h + o) = 0) (he : ∀ q, q < 16 → G 15 q = nI (en q)) (heb : ∀ q, en q ≤ 1200) :
    ∃ F' G' lo, lo ≤ xc_h l hot ∧ ex_go i F G (i + 1) F' G' ∧ xr_T F' G' lo fz nr (en (4 + 4 * h + o), 0, [0, s, v]) fs' ms2 XC nc ∧ xr_N F' G' st (pf + 1) rs mo no og ∧ xr_I F G F' G' := by
  have T1 := xr_g (p' := p + 1) T (fun _ _ _ => rfl) (by have := hc.1; omega)
  obtain ⟨G1, g1, g2, g3⟩ := xn_pop T1 (by omega)
  have hG : ∀ k, k < 22 ∨ 40 ≤ k → G1 k = G k := fun k hk => by rw [g3 k hk]; unfold xb_g; rw [uu_Gn (by omega)]
  obtain ⟨S1, f1, r1⟩ := xr_cut hl g2
  have hhb : xc_h l hot < 168 := by unfold xc_h; split <;> omega
  have hml : ms2.length + 1 < 7 := by simp only [List.length_append, List.length_cons] at hm; omega
  obtain ⟨s1, s2, s3, s4, s5, s6, s7⟩ := S1
  obtain ⟨lo, k1, k2, k3, k4, k5, k6⟩ := sg_app a _ _ s6
  have S2 : xr_S (upd (upd (upd (xc_F l hot F) 19 (nI (pf + 1))) 10 (nI lo)) 12 (nI ms2.length)) G1 lo fz nr fs' ms2 XC nc := ⟨s1, rfl, s3, s4, s5, k6, s7⟩
  have T2 := xn_enterT (F' := upd (upd (upd (upd (xc_F l hot F) 19 (nI (pf + 1))) 10 (nI lo)) 12 (nI ms2.length)) 10 (nI (lo + 1))) (p := en (4 + 4 * h + o)) (ct := 0) (a := v) (b := s) (c := 0) S2 (heb _) (by omega) (fun k a b => pk_un (by omega)) rfl
  have vm : vp_in (nI (ms2.length + 1)) 7 := vp_in_nI hml (by omega)
  have cm : (nI (ms2.length + 1)).toNatClampNeg = ms2.length + 1 := nI_clamp (by omega)
  have cd : (nI (4 + 4 * h + o)).toNatClampNeg = 4 + 4 * h + o := nI_clamp (by omega)
  have vd : vp_in (nI (4 + 4 * h + o)) 16 := vp_in_nI (by omega) (by omega)
  have ehb : G1 7 (4 + 4 * h + o) = 0 := by rw [hG 7 (by omega)]; exact hha
  have fin : ∀ Q : SX → Prop, Q (xs_mk (upd (upd (upd (upd (xc_F l hot F) 19 (nI (pf + 1))) 10 (nI lo)) 12 (nI ms2.length)) 10 (nI (lo + 1))) (xb_eG G1 lo (en (4 + 4 * h + o)) 0 v s 0)) → wpX_raise Q (xs_mk F (xb_g G hot (p + 1))) (nI o) (nI l) := by
    intro Q q
    refine xb_rai hl g1 g2 (fun q hq => by rw [hG 5 (by omega)]; exact hz q hq) hzb ho hm (fm_app hh a ha) (by omega) hml ?_
    unfold wX_raise_47
    refine nm_r (e' := nI (pf + 1)) (by rw [r1 _ (by decide), N.2.1, nI_1]) ?_
    rw [cm, k3]
    refine ⟨vm, ?_⟩
    refine xb_cl (F := upd (xc_F l hot F) 19 (nI (pf + 1))) (G := G1) (h := h) (o := o) ?_
    refine ⟨vm, nm_r k4 ?_⟩
    rw [cd]
    refine ⟨vd, br_f (by rw [ehb]; decide) ⟨vd, br_f (by rw [ehb]; decide) ?_⟩⟩
    unfold wX_raise_135
    refine ⟨vm, nm_r (e' := nI lo) (by rw [cm]; exact k2) (nm_r (e' := nI ms2.length) (nI_pred _) ⟨vp_in_nI (by omega) (by omega), ?_⟩)⟩
    rw [cd, show G1 15 (4 + 4 * h + o) = nI (en (4 + 4 * h + o)) by rw [hG 15 (by omega)]; exact he _ (by omega)]
    exact xb_enter (F := upd (upd (upd (xc_F l hot F) 19 (nI (pf + 1))) 10 (nI lo)) 12 (nI ms2.length)) (G := G1) (ct := 0) rfl (by omega) (by have := heb (4 + 4 * h + o); omega) (by omega) q
  refine ⟨_, _, lo, k1, ex_step hi T.2.2.2.2.2.2.1 (fun post h => ?_), T2, ?_, ?_⟩
  · obtain rfl | rfl : l = 0 ∨ l = 1 := by omega
    · exact xb_stT (F := F) (G := G) T.1 (by omega) T.2.1.1 hc.1 hc.2 (by decide) (by decide) rfl (fun Q q => by rw [hop]; exact xt_raise0 fin q) h
    · exact xb_stT (F := F) (G := G) T.1 (by omega) T.2.1.1 hc.1 hc.2 (by decide) (by decide) rfl (fun Q q => by rw [hop]; exact xt_raise1 fin q) h
  · obtain ⟨n1, n2, n3, n4, n5, n6, n7, n8⟩ := N
    have e : ∀ k, k ≠ 10 → k ≠ 19 → k ≠ 12 → upd (upd (upd (upd (xc_F l hot F) 19 (nI (pf + 1))) 10 (nI lo)) 12 (nI ms2.length)) 10 (nI (lo + 1)) k = F k := fun k hk h2 h3 => by rw [pk_un hk, pk_un h3, pk_un hk, pk_un h2, r1 k hk]
    refine ⟨(e _ (by decide) (by decide) (by decide)).trans n1, rfl, (e _ (by decide) (by decide) (by decide)).trans n3, (e _ (by decide) (by decide) (by decide)).trans n4, (e _ (by decide) (by decide) (by decide)).trans n5, (e _ (by decide) (by decide) (by decide)).trans n6, (e _ (by decide) (by decide) (by decide)).trans n7, ?_⟩
    intro j hj
    have : xb_eG G1 lo (en (4 + 4 * h + o)) 0 v s 0 40 = G 40 := by rw [← hG 40 (by omega)]; rfl
    rw [this]; exact n8 j hj
  · refine ⟨fun k hk => by rw [pk_un (by omega), pk_un (by omega), pk_un (by omega), pk_un (by omega), r1 k (by omega)], fun k hk => ?_⟩
    rw [← hG k (by omega)]
    unfold xb_eG
    rw [uu_Gn (by omega), uu_Gn (by omega), uu_Gn (by omega), uu_Gn (by omega)]
end
end
section
section
variable {F : Nat → Int32} {G : Nat → Nat → Int32} {hot fz nr nc i o : Nat} {p ct : Nat} {ws : List Int32} {fs : List ct_F} {ms : List ct_XM} {XC : Nat → List ct_F × List ct_XM} {v : Int32}
variable {st pf rs mo no : Nat} {og : Nat → Int32} {sz en : Nat → Nat}
def xt_G (G : Nat → Nat → Int32) (c r n : Nat) : Nat → Nat → Int32 := uu_G (uu_G G 35 (upd (G 35) c (nI r))) 36 (upd (G 36) c (nI n))
/-- all segments from a mark on become a catch -/
theorem xn_takeOff {h : Nat} {s : Int32} {a ms2 : List ct_XM} {fs' : List ct_F} (S : xr_S F G hot fz nr fs (a ++ (h, s, fs') :: ms2) XC nc) (hf : F 10 = nI hot) (hb : hot ≤ 168) (hm : (a ++ (h, s, fs') :: ms2).length ≤ 6)
    (hfz : fz + hot < 304) (hnr : nr + 6 ≤ 480) (hnc : nc + 1 < 80) :
    ∃ (F' : Nat → Int32) (G' : Nat → Nat → Int32) (fz' lo : Nat), fz' + lo = fz + hot ∧ lo ≤ hot ∧ (∀ post : SX → Prop, post (xs_mk F' G') → wpX_takeOff post (xs_mk F G) (nI (ms2.length + 1)))
      ∧ F' 11 = nI fz' ∧ F' 14 = nI (nr + (a.length + 1)) ∧ F' 13 = nI (nc + 1) ∧ (∀ k, k ≠ 11 → k ≠ 13 → k ≠ 14 → F' k = F k)
      ∧ sg_R G' fz' ms2 lo fs' ∧ G' 31 (ms2.length + 1) = nI lo ∧ (∀ k, k < 26 ∨ (31 ≤ k ∧ k ≤ 34) ∨ 39 < k → G' k = G k)
      ∧ xr_K G' fz' (nr + (a.length + 1)) (fun c => if c = nc + 1 then (fs, a ++ [(h, s, fs')]) else XC c) (nc + 1) := by
  obtain ⟨s1, s2, s3, s4, s5, s6, s7⟩ := S
  have hlen : (a ++ (h, s, fs') :: ms2).length = a.length + 1 + ms2.length := by simp only [List.length_append, List.length_cons]; omega
  rw [hlen] at s2 hm
  have hcl : (a ++ [(h, s, fs')]).length = a.length + 1 := by simp
  have s6' : sg_R G fz ((a ++ [(h, s, fs')]) ++ ms2) hot fs := by rw [List.append_assoc]; exact s6
  have aX : ∀ k, k ≠ 35 → k ≠ 36 → xt_G G (nc + 1) nr (a.length + 1) k = G k := by
    intro k h1 h2
    unfold xt_G
    rw [uu_Gn h2, uu_Gn h1]
  have s6x : sg_R (xt_G G (nc + 1) nr (a.length + 1)) fz ((a ++ [(h, s, fs')]) ++ ms2) hot fs :=
    sg_x (ag_Crf fun k a b => aX k (by omega) (by omega)) (Nat.le_refl _) _ _ _ (Nat.le_refl _) (ag_Hrf fun k a b => aX k (by omega) (by omega)) (ag_Srf fun k a b => aX k (by omega) (by omega)) s6'
  obtain ⟨F', G', fz', lo, a0, a1, a2, a3, a4, a5, a6, a7, a8, a9, a10, a11, a12⟩ := xn_take (ms2 := ms2) (tp := a.length + 1 + ms2.length) (hi0 := hot) hm hb (a ++ [(h, s, fs')]) fs hot (upd F 13 (nI (nc + 1))) (xt_G G (nc + 1) nr (a.length + 1)) fz nr s6x s1 s4 s2 hf (Nat.le_refl _) (Or.inl ⟨by rw [hcl], rfl⟩) hfz (by rw [hcl]; omega)
  rw [hcl] at a10 a12
  rw [tk_app] at a3
  refine ⟨F', G', fz', lo, a1, a2, ?_, a9, a10, ?_, ?_, a3, a6.2 (by simp), ?_, ?_⟩
  · intro post hp
    have cc : (nI (nc + 1)).toNatClampNeg = nc + 1 := nI_clamp (by omega)
    have vc : vp_in (nI (nc + 1)) 80 := vp_in_nI (by omega) (by omega)
    unfold wpX_takeOff
    refine nm_r (e' := nI (nc + 1)) (by rw [s3, nI_1]) ?_
    rw [cc]
    refine ⟨vc, nm_r (e' := upd (G 35) (nc + 1) (nI nr)) (by rw [s4, uu_b16 (by omega), uu_ns (by omega)]) ⟨vc, nm_r (e' := upd (G 36) (nc + 1) (nI (a.length + 1))) ?_ ⟨1 + (a.length + 1), ?_⟩⟩⟩
    · rw [s2, pk_sub (by omega), nI_1, show a.length + 1 + ms2.length - (ms2.length + 1) + 1 = a.length + 1 by omega, uu_b8 (by omega), uu_nb (by omega)]
    · refine a12 post 1 ?_
      unfold wX_takeOff_44
      refine br_t ?_ hp
      rw [show F' 12 = nI (a.length + 1 + ms2.length) from (a11 _ (by decide) (by decide)).trans s2]
      exact nI_lt (by omega) (by omega)
  · exact (a11 _ (by decide) (by decide)).trans rfl
  · intro k h1 h2 h3
    rw [a11 k h1 h3, pk_un h2]
  · intro k hk
    rw [a7 k (by omega), aX k (by omega) (by omega)]
  · intro c c1 c2
    by_cases z : c = nc + 1
    · subst z
      simp only [if_true]
      refine ⟨nr, ?_, ?_, by rw [hcl]; omega, by rw [hcl]; omega, by rw [hcl]; omega, a4⟩
      · rw [a7 _ (by decide)]; exact pk_us
      · rw [a7 _ (by decide), hcl]; exact pk_us
    · simp only [if_neg z]
      have K2 : xr_K G' fz' (nr + (a.length + 1)) XC nc := by
        refine xr_Kx (G := G) (fz := fz) (nr := nr) ⟨fun k e f c hc => ?_, fun j hj => ?_⟩ a0 (by omega) (fun k e f j hj => ?_) (fun k e f c hc => ?_) s7
        · rw [a5.1 k e f c hc, aX k (by omega) (by omega)]
        · rw [a5.2 j hj]; rfl
        · rw [a8 k e f j hj, aX k (by omega) (by omega)]
        · rw [a7 k (by omega)]
          have hn : c ≠ nc + 1 := by omega
          obtain rfl | rfl : k = 35 ∨ k = 36 := by omega
          all_goals exact pk_un hn
      exact K2 c c1 (by omega)
/-- RAISE to a clause that may resume -/
theorem xj_raiC {l h : Nat} {s : Int32} {a ms2 : List ct_XM} {fs' : List ct_F} (hl : l < 2) (T : xr_T F G hot fz nr (p, ct, v :: ws) fs (a ++ (h, s, fs') :: ms2) XC nc) (N : xr_N F G st pf rs mo no og) (hi : i < 4000000) (hb : hot + 1 < 168)
    (hc : cg_at (G 11) p (nI (if l = 0 then 13 else 29))) (hop : G 12 p = nI o) (ho : o < 3) (hz : ∀ q, q < 16 → G 5 q = nI (sz q)) (hzb : ∀ q, sz q ≤ 12) (hm : (a ++ (h, s, fs') :: ms2).length ≤ 6)
    (ha : ∀ q, q ∈ a → sz (4 + 4 * q.1 + o) = 0) (hh : sz (4 + 4 * h + o) ≠ 0) (hha : G 7 (4 + 4 * h + o) = 2) (he : ∀ q, q < 16 → G 15 q = nI (en q)) (heb : ∀ q, en q ≤ 1200)
    (hfz : fz + hot + 1 < 304) (hnr : nr + 6 ≤ 480) (hnc : nc + 1 < 80) :
    ∃ F' G' fz' lo, fz' + lo = fz + xc_h l hot ∧ lo ≤ xc_h l hot ∧ ex_go i F G (i + 1) F' G' ∧ xr_T F' G' lo fz' (nr + (a.length + 1)) (en (4 + 4 * h + o), nc + 1, [0, s, v]) fs' ms2
        (fun c => if c = nc + 1 then (xc_f l (p + 1, ct, ws) fs, a ++ [(h, s, fs')]) else XC c) (nc + 1) ∧ xr_N F' G' st (pf + 1) rs mo no og ∧ xr_I F G F' G' := by
  have T1 := xr_g (p' := p + 1) T (fun _ _ _ => rfl) (by have := hc.1; omega)
  obtain ⟨G1, g1, g2, g3⟩ := xn_pop T1 (by omega)
  have hG : ∀ k, k < 22 ∨ 40 ≤ k → G1 k = G k := fun k hk => by rw [g3 k hk]; unfold xb_g; rw [uu_Gn (by omega)]
  obtain ⟨S1, f1, r1⟩ := xr_cut hl g2
  have hhb : xc_h l hot < 168 ∧ xc_h l hot ≤ hot + 1 := by unfold xc_h; split <;> omega
  have hml : ms2.length + 1 < 7 := by simp only [List.length_append, List.length_cons] at hm; omega
  have S1' : xr_S (upd (xc_F l hot F) 19 (nI (pf + 1))) G1 (xc_h l hot) fz nr (xc_f l (p + 1, ct, ws) fs) (a ++ (h, s, fs') :: ms2) XC nc := by
    obtain ⟨s1, s2, s3, s4, s5, s6, s7⟩ := S1
    exact ⟨s1, s2, s3, s4, s5, s6, s7⟩
  obtain ⟨F2, G2, fz', lo, b1, b2, b3, b4, b5, b6, b7, b8, b9, b10, b11⟩ := xn_takeOff S1' f1 (by omega) hm (by omega) hnr hnc
  obtain ⟨s1, s2, s3, s4, s5, s6, s7⟩ := S1
  obtain ⟨lo', k1, k2, k3, k4, k5, k6⟩ := sg_app a _ _ s6
  have S2 : xr_S (upd (upd F2 10 (nI lo)) 12 (nI ms2.length)) G2 lo fz' (nr + (a.length + 1)) fs' ms2 (fun c => if c = nc + 1 then (xc_f l (p + 1, ct, ws) fs, a ++ [(h, s, fs')]) else XC c) (nc + 1) :=
    ⟨b4, rfl, b6, b5, (b7 _ (by decide) (by decide) (by decide)).trans s5, b8, b11⟩
  have T2 := xn_enterT (F' := upd (upd (upd F2 10 (nI lo)) 12 (nI ms2.length)) 10 (nI (lo + 1))) (p := en (4 + 4 * h + o)) (ct := nc + 1) (a := v) (b := s) (c := 0) S2 (heb _) (by omega) (fun k a b => pk_un (by omega)) rfl
  have vm : vp_in (nI (ms2.length + 1)) 7 := vp_in_nI hml (by omega)
  have cm : (nI (ms2.length + 1)).toNatClampNeg = ms2.length + 1 := nI_clamp (by omega)
  have cd : (nI (4 + 4 * h + o)).toNatClampNeg = 4 + 4 * h + o := nI_clamp (by omega)
  have vd : vp_in (nI (4 + 4 * h + o)) 16 := vp_in_nI (by omega) (by omega)
  have ehb : G1 7 (4 + 4 * h + o) = 2 := by rw [hG 7 (by omega)]; exact hha
  have fin : ∀ Q : SX → Prop, Q (xs_mk (upd (upd (upd F2 10 (nI lo)) 12 (nI ms2.length)) 10 (nI (lo + 1))) (xb_eG G2 lo (en (4 + 4 * h + o)) (nc + 1) v s 0)) → wpX_raise Q (xs_mk F (xb_g G hot (p + 1))) (nI o) (nI l) := by
    intro Q q
    refine xb_rai hl g1 g2 (fun q hq => by rw [hG 5 (by omega)]; exact hz q hq) hzb ho (by omega) (fm_app hh a ha) (by omega) hml ?_
    unfold wX_raise_47
    refine nm_r (e' := nI (pf + 1)) (by rw [r1 _ (by decide), N.2.1, nI_1]) ?_
    rw [cm, k3]
    refine ⟨vm, ?_⟩
    refine xb_cl (F := upd (xc_F l hot F) 19 (nI (pf + 1))) (G := G1) (h := h) (o := o) ?_
    refine ⟨vm, nm_r k4 ?_⟩
    rw [cd]
    refine ⟨vd, br_f (by rw [ehb]; decide) ⟨vd, br_t ehb ?_⟩⟩
    refine b3 _ ?_
    show wX_raise_135 _ v (nI (ms2.length + 1)) (nI (4 + 4 * h + o)) s (F2 13) (F2 0) (F2 1) (F2 2) (F2 3) (F2 4) (F2 5) (F2 6) (F2 7) (F2 8) (F2 9) (F2 10) (F2 11) (F2 12) (F2 13) (F2 14) (F2 15) (F2 16) (F2 17) (F2 18) (F2 19) (F2 20) (F2 21) (F2 22) (G2 0) (G2 1) (G2 2) (G2 3) (G2 4) (G2 5) (G2 6) (G2 7) (G2 8) (G2 9) (G2 10) (G2 11) (G2 12) (G2 13) (G2 14) (G2 15) (G2 16) (G2 17) (G2 18) (G2 19) (G2 20) (G2 21) (G2 22) (G2 23) (G2 24) (G2 25) (G2 26) (G2 27) (G2 28) (G2 29) (G2 30) (G2 31) (G2 32) (G2 33) (G2 34) (G2 35) (G2 36) (G2 37) (G2 38) (G2 39) (G2 40)
    unfold wX_raise_135
    refine ⟨vm, nm_r (e' := nI lo) (by rw [cm]; exact b9) (nm_r (e' := nI ms2.length) (nI_pred _) ⟨vp_in_nI (by omega) (by omega), ?_⟩)⟩
    rw [cd, show G2 15 (4 + 4 * h + o) = nI (en (4 + 4 * h + o)) by rw [b10 15 (by omega), hG 15 (by omega)]; exact he _ (by omega)]
    have E := xb_enter (F := upd (upd F2 10 (nI lo)) 12 (nI ms2.length)) (G := G2) (p := en (4 + 4 * h + o)) (ct := nc + 1) (a := v) (b := s) (c := 0) (post := Q) rfl (by omega) (by have := heb (4 + 4 * h + o); omega) (by omega) q
    rw [← b6] at E
    exact E
  refine ⟨_, _, fz', lo, b1, b2, ex_step hi T.2.2.2.2.2.2.1 (fun post h => ?_), T2, ?_, ?_⟩
  · obtain rfl | rfl : l = 0 ∨ l = 1 := by omega
    · exact xb_stT (F := F) (G := G) T.1 (by omega) T.2.1.1 hc.1 hc.2 (by decide) (by decide) rfl (fun Q q => by rw [hop]; exact xt_raise0 fin q) h
    · exact xb_stT (F := F) (G := G) T.1 (by omega) T.2.1.1 hc.1 hc.2 (by decide) (by decide) rfl (fun Q q => by rw [hop]; exact xt_raise1 fin q) h
  · obtain ⟨n1, n2, n3, n4, n5, n6, n7, n8⟩ := N
    have e : ∀ k, 15 < k → k ≠ 19 → upd (upd (upd F2 10 (nI lo)) 12 (nI ms2.length)) 10 (nI (lo + 1)) k = F k := fun k hk h2 => by
      rw [pk_un (by omega), pk_un (by omega), pk_un (by omega), b7 k (by omega) (by omega) (by omega), pk_un h2, r1 k (by omega)]
    refine ⟨(e _ (by decide) (by decide)).trans n1, ?_, (e _ (by decide) (by decide)).trans n3, (e _ (by decide) (by decide)).trans n4, (e _ (by decide) (by decide)).trans n5, (e _ (by decide) (by decide)).trans n6, (e _ (by decide) (by decide)).trans n7, ?_⟩
    · show F2 19 = _
      rw [b7 _ (by decide) (by decide) (by decide)]; rfl
    · intro j hj
      have : xb_eG G2 lo (en (4 + 4 * h + o)) (nc + 1) v s 0 40 = G 40 := by rw [← hG 40 (by omega), ← b10 40 (by omega)]; rfl
      rw [this]; exact n8 j hj
  · refine ⟨fun k hk => by rw [pk_un (by omega), pk_un (by omega), pk_un (by omega), b7 k (by omega) (by omega) (by omega), pk_un (by omega), r1 k (by omega)], fun k hk => ?_⟩
    rw [← hG k (by omega), ← b10 k (by omega)]
    unfold xb_eG
    rw [uu_Gn (by omega), uu_Gn (by omega), uu_Gn (by omega), uu_Gn (by omega)]
end
end
section
/-! answering and resuming -/
theorem sg_set {G : Nat → Nat → Int32} {fz h : Nat} {s0 s : Int32} {fs' : List ct_F} {ms2 : List ct_XM} : ∀ (a : List ct_XM) (hi : Nat) (fs : List ct_F), sg_R G fz (a ++ (h, s0, fs') :: ms2) hi fs →
    sg_R (uu_G G 34 (upd (G 34) (ms2.length + 1) s)) fz (a ++ (h, s, fs') :: ms2) hi fs := by
  have aC : ag_C G (uu_G G 34 (upd (G 34) (ms2.length + 1) s)) (fz + 1) := ag_Crf fun k a b => uu_Gn (by omega)
  intro a
  induction a with
  | nil =>
    rintro hi fs ⟨lo, h1, h2, h3, h4, h5, h6, h7⟩
    refine ⟨lo, h1, h2, sl_x (hi0 := hi) (ag_Hrf fun k a b => uu_Gn (by omega)) aC (Nat.le_refl _) fs hi (Nat.le_refl _) h3, h4, pk_us, h6, ?_⟩
    refine sg_x aC (Nat.le_refl _) _ _ _ (Nat.le_refl _) (ag_Hrf fun k a b => uu_Gn (by omega)) ?_ h7
    intro k a b j hj
    by_cases z : k = 34
    · subst z; exact pk_un (by omega)
    · rw [uu_Gn z]
  | cons x a ih =>
    obtain ⟨q, s1, f1⟩ := x
    rintro hi fs ⟨lo, h1, h2, h3, h4, h5, h6, h7⟩
    have hl : (a ++ (h, s, fs') :: ms2).length = (a ++ (h, s0, fs') :: ms2).length := by simp
    have hl2 : (a ++ (h, s0, fs') :: ms2).length = a.length + (ms2.length + 1) := by simp
    refine ⟨lo, h1, ?_, ?_, ?_, ?_, h6, ih lo f1 h7⟩
    · show G 31 ((a ++ (h, s, fs') :: ms2).length + 1) = _
      rw [hl]; exact h2
    · show sl_R _ fz lo (G 32 ((a ++ (h, s, fs') :: ms2).length + 1)) fs hi
      rw [hl]; exact sl_x (hi0 := hi) (ag_Hrf fun k a b => uu_Gn (by omega)) aC (Nat.le_refl _) fs hi (Nat.le_refl _) h3
    · show G 33 ((a ++ (h, s, fs') :: ms2).length + 1) = _
      rw [hl]; exact h4
    · show upd (G 34) (ms2.length + 1) s ((a ++ (h, s, fs') :: ms2).length + 1) = _
      rw [hl, pk_un (by omega)]; exact h5
section
variable {F : Nat → Int32} {G : Nat → Nat → Int32} {hot fz nr nc i o : Nat} {p ct : Nat} {ws : List Int32} {fs : List ct_F} {ms : List ct_XM} {XC : Nat → List ct_F × List ct_XM} {v s : Int32}
variable {st pf rs mo no : Nat} {og : Nat → Int32} {sz en : Nat → Nat}
theorem xj_ans {h : Nat} {s0 : Int32} {a ms2 : List ct_XM} {fs' : List ct_F} (T : xr_T F G hot fz nr (p, ms2.length + 1, s :: v :: ws) fs (a ++ (h, s0, fs') :: ms2) XC nc) (N : xr_N F G st pf rs mo no og) (hi : i < 4000000) (hb : hot < 168) (hc : cg_at (G 11) p (nI 16))
    (hz : ∀ q, q < 16 → G 5 q = nI (sz q)) (hzb : ∀ q, sz q ≤ 12) (he : ∀ q, q < 16 → G 15 q = nI (en q)) (heb : ∀ q, en q ≤ 1200) (hfz : fz ≤ 303)
    (hm : (a ++ (h, s, fs') :: ms2).length < 7) (hw : ∀ q, q ∈ fs → q.2.2.length ≤ 8) (hw2 : ∀ m, m ∈ (a ++ (h, s, fs') :: ms2) → ∀ q, q ∈ m.2.2 → q.2.2.length ≤ 8) :
    ∃ F' G', ex_go i F G (i + 1) F' G' ∧ dl_O en F' G' hot fz nr XC nc v (dv_X sz (a ++ (h, s, fs') :: ms2) fs) ∧ F' 20 = nI (rs + 1) ∧ (∀ k, k < 10 ∨ (16 < k ∧ k ≠ 20) → F' k = F k) ∧ (∀ k, k < 22 ∨ 40 ≤ k → G' k = G k) := by
  have T1 := xr_g (p' := p + 1) T (fun _ _ _ => rfl) (by have := hc.1; omega)
  obtain ⟨G1, g1, g2, g3⟩ := xn_pop T1 hb
  obtain ⟨G2, h1, h2, h3⟩ := xn_pop g2 hb
  have hG : ∀ k, k < 22 ∨ 40 ≤ k → G2 k = G k := fun k hk => by rw [h3 k hk, g3 k hk]; unfold xb_g; rw [uu_Gn (by omega)]
  have hml : ms2.length + 1 < 7 := by simp only [List.length_append, List.length_cons] at hm; omega
  have hlen : (a ++ (h, s, fs') :: ms2).length = (a ++ (h, s0, fs') :: ms2).length := by simp
  have S1 : xr_S (upd (upd F 10 (nI hot)) 20 (nI (rs + 1))) (uu_G G2 34 (upd (G2 34) (ms2.length + 1) s)) hot fz nr fs (a ++ (h, s, fs') :: ms2) XC nc := by
    obtain ⟨_, _, s1, s2, s3, s4, s5, s6, s7⟩ := h2
    refine ⟨s1, ?_, s3, s4, s5, sg_set a _ _ s6, ?_⟩
    · rw [hlen]; exact s2
    · exact xr_Kx (ag_Crf fun k a b => uu_Gn (by omega)) (Nat.le_refl _) (Nat.le_refl _) (fun k a b i _ => by rw [uu_Gn (by omega)]) (fun k a b i _ => by rw [uu_Gn (by omega)]) s7
  obtain ⟨F', G', d1, d2, d3, d4⟩ := xd_del (v := v) (fun q hq => by rw [uu_Gn (by decide), hG 5 (by omega)]; exact hz q hq) hzb (fun q hq => by rw [uu_Gn (by decide), hG 15 (by omega)]; exact he q hq) heb hfz hb S1 rfl N.2.2.2.2.2.1 hm hw hw2
  have ef : F 10 - 1 = nI hot := by rw [T.1]; exact nI_pred hot
  have cf : (nI hot).toNatClampNeg = hot := nI_clamp (by omega)
  have fin : ∀ Q : SX → Prop, Q (xs_mk F' G') → wpX_answer Q (xs_mk F (xb_g G hot (p + 1))) := by
    intro Q q
    unfold wpX_answer
    refine g1 _ ?_
    refine h1 _ ?_
    show vp_in (F 10 - 1) 168 ∧ _
    rw [ef, cf]
    refine ⟨vp_in_nI (by omega) (by omega), nm_r (e' := nI (ms2.length + 1)) h2.2.1.2.1 ⟨vp_in_nI (by omega) (by omega), ?_⟩⟩
    rw [nI_clamp (by omega)]
    refine nm_e (nm_e (nm_r (e' := nI (rs + 1)) (by rw [N.2.2.1, nI_1]) ?_))
    exact d1 _ q
  refine ⟨F', G', ex_step hi T.2.2.2.2.2.2.1 (fun post h => ?_), d2, (d3 _ (by decide)).trans rfl, fun k hk => ?_, fun k hk => ?_⟩
  · exact xb_stT (F := F) (G := G) T.1 hb T.2.1.1 hc.1 hc.2 (by decide) (by decide) rfl (fun Q q => xt_answer fin q) h
  · rw [d3 k (by omega), pk_un (by omega), pk_un (by omega)]
  · rw [d4 k hk, uu_Gn (by omega), hG k hk]
/-- CONTINUE without a catch -/
theorem xj_res0 {l : Nat} (hl : l < 2) (T : xr_T F G hot fz nr (p, 0, s :: v :: ws) fs ms XC nc) (N : xr_N F G st pf rs mo no og) (hi : i < 4000000) (hb : hot + 1 < 168) (hc : cg_at (G 11) p (nI (if l = 0 then 15 else 31)))
    (hz : ∀ q, q < 16 → G 5 q = nI (sz q)) (hzb : ∀ q, sz q ≤ 12) (he : ∀ q, q < 16 → G 15 q = nI (en q)) (heb : ∀ q, en q ≤ 1200) (hfz : fz ≤ 303)
    (hm : ms.length ≤ 6) (hw : ∀ q, q ∈ xc_f l (p + 1, 0, ws) fs → q.2.2.length ≤ 8) (hw2 : ∀ m, m ∈ ms → ∀ q, q ∈ m.2.2 → q.2.2.length ≤ 8) :
    ∃ F' G', ex_go i F G (i + 1) F' G' ∧ dl_O en F' G' (xc_h l hot) fz nr XC nc v (dv_X sz ms (xc_f l (p + 1, 0, ws) fs)) ∧ (∀ k, k < 10 ∨ 16 < k → F' k = F k) ∧ (∀ k, k < 22 ∨ 40 ≤ k → G' k = G k) := by
  have T1 := xr_g (p' := p + 1) T (fun _ _ _ => rfl) (by have := hc.1; omega)
  obtain ⟨G1, g1, g2, g3⟩ := xn_pop T1 (by omega)
  obtain ⟨G2, h1, h2, h3⟩ := xn_pop g2 (by omega)
  have hG : ∀ k, k < 22 ∨ 40 ≤ k → G2 k = G k := fun k hk => by rw [h3 k hk, g3 k hk]; unfold xb_g; rw [uu_Gn (by omega)]
  obtain ⟨S1, f1, r1⟩ := xr_cut hl h2
  have hhb : xc_h l hot < 168 := by unfold xc_h; split <;> omega
  obtain ⟨F', G', d1, d2, d3, d4⟩ := xd_del (v := v) (fun q hq => by rw [hG 5 (by omega)]; exact hz q hq) hzb (fun q hq => by rw [hG 15 (by omega)]; exact he q hq) heb hfz hhb S1 f1 ((r1 _ (by decide)).trans N.2.2.2.2.2.1) (by omega) hw hw2
  have ef : F 10 - 1 = nI hot := by rw [T.1]; exact nI_pred hot
  have cf : (nI hot).toNatClampNeg = hot := nI_clamp (by omega)
  have ht : F 12 = nI ms.length := T.2.2.2.1
  have key : ∀ Q : SX → Prop, Q (xs_mk F' G') → ∃ n, wX_resume_76 Q s v 0 0 n 0 (xc_F l hot F 0) (xc_F l hot F 1) (xc_F l hot F 2) (xc_F l hot F 3) (xc_F l hot F 4) (xc_F l hot F 5) (xc_F l hot F 6) (xc_F l hot F 7) (xc_F l hot F 8) (xc_F l hot F 9) (xc_F l hot F 10) (xc_F l hot F 11) (xc_F l hot F 12) (xc_F l hot F 13) (xc_F l hot F 14) (xc_F l hot F 15) (xc_F l hot F 16) (xc_F l hot F 17) (xc_F l hot F 18) (xc_F l hot F 19) (xc_F l hot F 20) (xc_F l hot F 21) (xc_F l hot F 22) (G2 0) (G2 1) (G2 2) (G2 3) (G2 4) (G2 5) (G2 6) (G2 7) (G2 8) (G2 9) (G2 10) (G2 11) (G2 12) (G2 13) (G2 14) (G2 15) (G2 16) (G2 17) (G2 18) (G2 19) (G2 20) (G2 21) (G2 22) (G2 23) (G2 24) (G2 25) (G2 26) (G2 27) (G2 28) (G2 29) (G2 30) (G2 31) (G2 32) (G2 33) (G2 34) (G2 35) (G2 36) (G2 37) (G2 38) (G2 39) (G2 40) := by
    intro Q q
    refine ⟨1, ?_⟩
    unfold wX_resume_76
    exact br_t (by decide) (br_t (by decide) (d1 _ q))
  have fin : ∀ Q : SX → Prop, Q (xs_mk F' G') → wpX_resume Q (xs_mk F (xb_g G hot (p + 1))) (nI l) := by
    intro Q q
    unfold wpX_resume
    refine g1 _ ?_
    refine h1 _ ?_
    show vp_in (F 10 - 1) 168 ∧ _
    rw [ef, cf]
    refine ⟨vp_in_nI (by omega) (by omega), nm_r (e' := 0) (h2.2.1.2.1.trans nI_0) (br_t (by decide) ?_)⟩
    unfold wX_resume_39
    refine br_t ?_ ?_
    · show F 12 + 0 ≤ 6
      rw [ht, Int32.add_zero]; exact nI_le (b := 6) hm (by omega)
    · obtain rfl | rfl : l = 0 ∨ l = 1 := by omega
      · exact br_t rfl (key Q q)
      · exact br_f (by decide) (nm_r (e' := nI hot) ef (key Q q))
  refine ⟨F', G', ex_step hi T.2.2.2.2.2.2.1 (fun post h => ?_), d2, fun k hk => ?_, fun k hk => ?_⟩
  · obtain rfl | rfl : l = 0 ∨ l = 1 := by omega
    · exact xb_stT (F := F) (G := G) T.1 (by omega) T.2.1.1 hc.1 hc.2 (by decide) (by decide) rfl (fun Q q => xt_resume0 fin q) h
    · exact xb_stT (F := F) (G := G) T.1 (by omega) T.2.1.1 hc.1 hc.2 (by decide) (by decide) rfl (fun Q q => xt_resume1 fin q) h
  · rw [d3 k hk, r1 k (by omega)]
  · rw [d4 k hk, hG k hk]
theorem xb_resP {l c n : Nat} {Q : SX → Prop} {G0 G1 G2 : Nat → Nat → Int32} (g1 : ∀ post : Int32 → SX → Prop, post s (xs_mk F G1) → wpX_pop post (xs_mk F G0)) (h1 : ∀ post : Int32 → SX → Prop, post v (xs_mk F G2) → wpX_pop post (xs_mk F G1))
    (T : xr_T F G2 hot fz nr (p, c, ws) fs ms XC nc) (hb : hot < 168) (hc1 : 1 ≤ c) (hc2 : c < 80) (hn : G2 36 c = nI n) (H : wX_resume_39 Q (nI l) s v (nI c) (nI n) (F 0) (F 1) (F 2) (F 3) (F 4) (F 5) (F 6) (F 7) (F 8) (F 9) (F 10) (F 11) (F 12) (F 13) (F 14) (F 15) (F 16) (F 17) (F 18) (F 19) (F 20) (F 21) (F 22) (G2 0) (G2 1) (G2 2) (G2 3) (G2 4) (G2 5) (G2 6) (G2 7) (G2 8) (G2 9) (G2 10) (G2 11) (G2 12) (G2 13) (G2 14) (G2 15) (G2 16) (G2 17) (G2 18) (G2 19) (G2 20) (G2 21) (G2 22) (G2 23) (G2 24) (G2 25) (G2 26) (G2 27) (G2 28) (G2 29) (G2 30) (G2 31) (G2 32) (G2 33) (G2 34) (G2 35) (G2 36) (G2 37) (G2 38) (G2 39) (G2 40)) : wpX_resume Q (xs_mk F G0) (nI l) := by
  have ef : F 10 - 1 = nI hot := by rw [T.1]; exact nI_pred hot
  have cf : (nI hot).toNatClampNeg = hot := nI_clamp (by omega)
  unfold wpX_resume
  refine g1 _ ?_
  refine h1 _ ?_
  show vp_in (F 10 - 1) 168 ∧ _
  rw [ef, cf]
  refine ⟨vp_in_nI (by omega) (by omega), nm_r (e' := nI c) T.2.1.2.1 (br_f (nI_nle (by omega) (by omega)) ⟨vp_in_nI (by omega) (by omega), ?_⟩)⟩
  rw [nI_clamp (by omega), hn]
  exact H
theorem xj_resD {l : Nat} (hl : l < 2) (T : xr_T F G hot fz nr (p, ct, s :: v :: ws) fs ms XC nc) (N : xr_N F G st pf rs mo no og) (hi : i < 4000000) (hb : hot + 1 < 168) (hc : cg_at (G 11) p (nI (if l = 0 then 15 else 31)))
    (hc1 : 1 ≤ ct) (hc2 : ct ≤ nc) (hnc : nc < 80) (hm : ms.length ≤ 6) (hd : 6 < ms.length + (XC ct).2.length) :
    ∃ F' G', ex_go i F G (i + 1) F' G' ∧ F' 15 = 3 ∧ xr_N F' G' st pf rs mo no og ∧ xr_I F G F' G' := by
  have T1 := xr_g (p' := p + 1) T (fun _ _ _ => rfl) (by have := hc.1; omega)
  obtain ⟨G1, g1, g2, g3⟩ := xn_pop T1 (by omega)
  obtain ⟨G2, h1, h2, h3⟩ := xn_pop g2 (by omega)
  have hG : ∀ k, k < 22 ∨ 40 ≤ k → G2 k = G k := fun k hk => by rw [h3 k hk, g3 k hk]; unfold xb_g; rw [uu_Gn (by omega)]
  obtain ⟨r0, k1, k2, k3, k4, k5, k6⟩ := h2.2.2.2.2.2.2.2.2 ct hc1 hc2
  have ht : F 12 = nI ms.length := T.2.2.2.1
  have fin : ∀ Q : SX → Prop, Q (xs_mk (upd F 15 3) G2) → wpX_resume Q (xs_mk F (xb_g G hot (p + 1))) (nI l) := by
    intro Q q
    refine xb_resP g1 h1 h2 (by omega) hc1 (by omega) k2 ?_
    unfold wX_resume_39
    refine br_f ?_ q
    rw [ht, nI_add]; exact nI_ge (a := 6) hd (by omega)
  refine ⟨upd F 15 3, G2, ex_step hi T.2.2.2.2.2.2.1 (fun post h => ?_), rfl, ?_, ⟨fun k hk => pk_un (by omega), fun k hk => hG k (by omega)⟩⟩
  · obtain rfl | rfl : l = 0 ∨ l = 1 := by omega
    · exact xb_stT (F := F) (G := G) T.1 (by omega) T.2.1.1 hc.1 hc.2 (by decide) (by decide) rfl (fun Q q => xt_resume0 fin q) h
    · exact xb_stT (F := F) (G := G) T.1 (by omega) T.2.1.1 hc.1 hc.2 (by decide) (by decide) rfl (fun Q q => xt_resume1 fin q) h
  · obtain ⟨n1, n2, n3, n4, n5, n6, n7, n8⟩ := N
    refine ⟨n1, n2, n3, n4, n5, n6, n7, ?_⟩
    rw [hG 40 (by omega)]; exact n8
end
end
section
def rs_c (fs : List ct_F) (cms : List ct_XM) (ctl : List ct_F) : List ct_F := match cms with
  | [] => fs
  | _ :: _ => ctl
section
variable {F : Nat → Int32} {G : Nat → Nat → Int32} {hot fz nr nc i o : Nat} {p ct : Nat} {ws : List Int32} {fs : List ct_F} {ms : List ct_XM} {XC : Nat → List ct_F × List ct_XM} {v s : Int32}
variable {st pf rs mo no : Nat} {og : Nat → Int32} {sz en : Nat → Nat}
theorem xn_resL {c r0 n : Nat} (S : xr_S F G hot fz nr fs ms XC nc) (hf : F 10 = nI hot) (hb : hot ≤ 168) (hmo : F 21 = nI mo) (hmob : mo < 1000) (hml : ms.length ≤ mo) (hc : c < 80) (hr : G 35 c = nI r0) (hrn : r0 + n ≤ 480) (hfz : fz ≤ 303) :
    ∀ (cms : List ct_XM) (ctl : List ct_F), rc_R G fz r0 cms ctl → cms.length ≤ n → ms.length + cms.length ≤ 6 →
      ∃ (F' : Nat → Int32) (G' : Nat → Nat → Int32), xr_S F' G' hot fz nr (rs_c fs cms ctl) (pg_X s fs ms cms) XC nc ∧ F' 21 = nI (if ms.length + cms.length ≤ mo then mo else ms.length + cms.length)
        ∧ (∀ k, k ≠ 12 → k ≠ 21 → F' k = F k) ∧ (∀ k, k < 31 ∨ 34 < k → G' k = G k)
        ∧ ∀ (post : SX → Prop) (f : Nat), wX_resume_76 post s v (nI c) (nI n) f (nI cms.length) (F' 0) (F' 1) (F' 2) (F' 3) (F' 4) (F' 5) (F' 6) (F' 7) (F' 8) (F' 9) (F' 10) (F' 11) (F' 12) (F' 13) (F' 14) (F' 15) (F' 16) (F' 17) (F' 18) (F' 19) (F' 20) (F' 21) (F' 22) (G' 0) (G' 1) (G' 2) (G' 3) (G' 4) (G' 5) (G' 6) (G' 7) (G' 8) (G' 9) (G' 10) (G' 11) (G' 12) (G' 13) (G' 14) (G' 15) (G' 16) (G' 17) (G' 18) (G' 19) (G' 20) (G' 21) (G' 22) (G' 23) (G' 24) (G' 25) (G' 26) (G' 27) (G' 28) (G' 29) (G' 30) (G' 31) (G' 32) (G' 33) (G' 34) (G' 35) (G' 36) (G' 37) (G' 38) (G' 39) (G' 40) → wX_resume_76 post s v (nI c) (nI n) (f + cms.length) 0 (F 0) (F 1) (F 2) (F 3) (F 4) (F 5) (F 6) (F 7) (F 8) (F 9) (F 10) (F 11) (F 12) (F 13) (F 14) (F 15) (F 16) (F 17) (F 18) (F 19) (F 20) (F 21) (F 22) (G 0) (G 1) (G 2) (G 3) (G 4) (G 5) (G 6) (G 7) (G 8) (G 9) (G 10) (G 11) (G 12) (G 13) (G 14) (G 15) (G 16) (G 17) (G 18) (G 19) (G 20) (G 21) (G 22) (G 23) (G 24) (G 25) (G 26) (G 27) (G 28) (G 29) (G 30) (G 31) (G 32) (G 33) (G 34) (G 35) (G 36) (G 37) (G 38) (G 39) (G 40) := by
  intro cms
  induction cms with
  | nil =>
    intro ctl _ _ _
    refine ⟨F, G, S, ?_, fun _ _ _ => rfl, fun _ _ => rfl, fun post f h => h⟩
    rw [List.length_nil, Nat.add_zero, if_pos hml]; exact hmo
  | cons x cms ih =>
    obtain ⟨h, sx, u⟩ := x
    rintro ctl ⟨q1, q2, q3, q4, q5⟩ hn hl
    simp only [List.length_cons] at hn hl ⊢
    obtain ⟨F1, G1, a1, a2, a3, a4, a5⟩ := ih u q5 (by omega) (by omega)
    have hpl : (pg_X s fs ms cms).length = cms.length + ms.length := pg_len cms
    have aC1 : ag_C G G1 (fz + 1) := ag_Crf fun k a b => a4 k (by omega)
    have hcl : cl_R G1 ctl (fz + 1) (G 37 (r0 + cms.length)) := cl_x aC1 _ _ _ _ (Nat.le_refl _) (Nat.le_refl _) q4
    obtain ⟨cc, hcc, hccb⟩ := cl_nI hcl (by omega)
    have hm1 : (if ms.length + cms.length ≤ mo then mo else ms.length + cms.length) < 1000 := by split <;> omega
    have S2 := xn_mark (mo := if ms.length + cms.length ≤ mo then mo else ms.length + cms.length) (h := h) (s := if cms.length = 0 then s else sx) (ch := G 37 (r0 + cms.length)) (ctl := ctl) a1 q3 hcl
    have e1 : F1 12 = nI (pg_X s fs ms cms).length := a1.2.1
    have hpg : (h, (if cms.length = 0 then s else sx), rs_c fs cms u) :: pg_X s fs ms cms = pg_X s fs ms ((h, sx, u) :: cms) := by
      cases cms with
      | nil => rfl
      | cons y cms => rfl
    rw [hpg] at S2
    refine ⟨_, _, S2, ?_, ?_, ?_, ?_⟩
    · have : xm_F F1 (pg_X s fs ms cms).length (if ms.length + cms.length ≤ mo then mo else ms.length + cms.length) 21
          = nI (if (pg_X s fs ms cms).length + 1 ≤ (if ms.length + cms.length ≤ mo then mo else ms.length + cms.length) then (if ms.length + cms.length ≤ mo then mo else ms.length + cms.length) else (pg_X s fs ms cms).length + 1) := rfl
      rw [this, hpl]
      refine congrArg nI ?_
      split <;> split <;> split <;> omega
    · intro k h1 h2
      unfold xm_F
      rw [pk_un h2, pk_un h1, a3 k h1 h2]
    · intro k hk
      unfold xm_G
      rw [uu_Gn (by omega), uu_Gn (by omega), uu_Gn (by omega), uu_Gn (by omega), a4 k hk]
    · intro post f hp
      rw [show f + (cms.length + 1) = f + 1 + cms.length by omega]
      refine a5 post (f + 1) ?_
      have e2 : G1 35 c = nI r0 := by rw [a4 _ (by decide)]; exact hr
      have vc : vp_in (nI c) 80 := vp_in_nI hc (by omega)
      have cN : (nI c).toNatClampNeg = c := nI_clamp (by omega)
      have vr : vp_in (nI (r0 + cms.length)) 480 := vp_in_nI (by omega) (by omega)
      have cr : (nI (r0 + cms.length)).toNatClampNeg = r0 + cms.length := nI_clamp (by omega)
      have mark : ∀ (Q : SX → Prop), Q (xs_mk (xm_F F1 (pg_X s fs ms cms).length (if ms.length + cms.length ≤ mo then mo else ms.length + cms.length)) (xm_G G1 ((pg_X s fs ms cms).length + 1) hot h (if cms.length = 0 then s else sx) (G 37 (r0 + cms.length)))) →
          wpX_putMark Q (xs_mk F1 G1) (nI h) (if cms.length = 0 then s else sx) (G 37 (r0 + cms.length)) := fun Q q =>
        xb_mark (F := F1) (G := G1) (c := cc) e1 (by omega) ((a3 _ (by decide) (by decide)).trans hf) (by omega) (by omega) hcc hccb a2 hm1 q
      unfold wX_resume_76
      refine br_f (nI_ge (by omega) (by omega)) ⟨vc, nm_r (e' := nI (r0 + cms.length)) (by rw [cN, e2, nI_add]) ?_⟩
      rw [cr]
      have g37 : G1 37 (r0 + cms.length) = G 37 (r0 + cms.length) := by rw [a4 _ (by decide)]
      have g38 : G1 38 (r0 + cms.length) = nI h := by rw [a4 _ (by decide)]; exact q1
      have g39 : G1 39 (r0 + cms.length) = sx := by rw [a4 _ (by decide)]; exact q2
      refine ⟨vr, br_c (fun z => ?_) (fun z => ⟨vr, ?_⟩)⟩
      · have hz : cms.length = 0 := (nI_eq (by omega) (by omega)).mp z
        rw [if_pos hz] at mark hp
        unfold wX_resume_119
        rw [cr, g37, g38]
        refine And.intro vr (mark _ ?_)
        exact nm_r (e' := nI (cms.length + 1)) (nI_1 _) hp
      · have hz : ¬ cms.length = 0 := fun w => z (by rw [w]; rfl)
        rw [if_neg hz] at mark hp
        unfold wX_resume_119
        rw [cr, g37, g38, g39]
        refine And.intro vr (mark _ ?_)
        exact nm_r (e' := nI (cms.length + 1)) (nI_1 _) hp
/-- CONTINUE with a catch -/
theorem xj_resG {l : Nat} (hl : l < 2) (T : xr_T F G hot fz nr (p, ct, s :: v :: ws) fs ms XC nc) (N : xr_N F G st pf rs mo no og) (hi : i < 4000000) (hb : hot + 1 < 168) (hc : cg_at (G 11) p (nI (if l = 0 then 15 else 31)))
    (hz : ∀ q, q < 16 → G 5 q = nI (sz q)) (hzb : ∀ q, sz q ≤ 12) (he : ∀ q, q < 16 → G 15 q = nI (en q)) (heb : ∀ q, en q ≤ 1200) (hfz : fz ≤ 303) (hnr : nr ≤ 480)
    (hc1 : 1 ≤ ct) (hc2 : ct ≤ nc) (hnc : nc < 80) (hd : ms.length + (XC ct).2.length ≤ 6) (hmo : mo < 1000) (hml : ms.length ≤ mo)
    (hw : ∀ q, q ∈ (XC ct).1 → q.2.2.length ≤ 8) (hw2 : ∀ m, m ∈ pg_X s (xc_f l (p + 1, ct, ws) fs) ms (XC ct).2 → ∀ q, q ∈ m.2.2 → q.2.2.length ≤ 8) :
    ∃ F' G', ex_go i F G (i + 1) F' G' ∧ dl_O en F' G' (xc_h l hot) fz nr XC nc v (dv_X sz (pg_X s (xc_f l (p + 1, ct, ws) fs) ms (XC ct).2) (XC ct).1)
      ∧ F' 20 = nI (rs + 1) ∧ F' 21 = nI (if ms.length + (XC ct).2.length ≤ mo then mo else ms.length + (XC ct).2.length)
      ∧ (∀ k, k < 10 ∨ (16 < k ∧ k ≠ 20 ∧ k ≠ 21) → F' k = F k) ∧ (∀ k, k < 22 ∨ 40 ≤ k → G' k = G k)
      ∧ (XC ct).1.length + sg_n (pg_X s (xc_f l (p + 1, ct, ws) fs) ms (XC ct).2) ≤ xc_h l hot + ((XC ct).2.length + ms.length + 1) * fz := by
  have T1 := xr_g (p' := p + 1) T (fun _ _ _ => rfl) (by have := hc.1; omega)
  obtain ⟨G1, g1, g2, g3⟩ := xn_pop T1 (by omega)
  obtain ⟨G2, h1, h2, h3⟩ := xn_pop g2 (by omega)
  have hG : ∀ k, k < 22 ∨ 40 ≤ k → G2 k = G k := fun k hk => by rw [h3 k hk, g3 k hk]; unfold xb_g; rw [uu_Gn (by omega)]
  obtain ⟨S1, f1, r1⟩ := xr_cut hl h2
  have hhb : xc_h l hot < 168 := by unfold xc_h; split <;> omega
  obtain ⟨r0, k1, k2, k3, k4, k5, k6⟩ := h2.2.2.2.2.2.2.2.2 ct hc1 hc2
  obtain ⟨F3, G3, b1, b2, b3, b4, b5⟩ := xn_resL (s := s) (v := v) (mo := mo) (n := (XC ct).2.length) S1 f1 (by omega) ((r1 _ (by decide)).trans N.2.2.2.1) hmo hml (c := ct) (by omega) k1 (by omega) hfz (XC ct).2 (XC ct).1 k6 (Nat.le_refl _) hd
  have hcs : rs_c (xc_f l (p + 1, ct, ws) fs) (XC ct).2 (XC ct).1 = (XC ct).1 := by
    cases h : (XC ct).2 with
    | nil => rw [h] at k4; simp at k4
    | cons _ _ => rfl
  rw [hcs] at b1
  have b1' : xr_S (upd F3 20 (nI (rs + 1))) G3 (xc_h l hot) fz nr (XC ct).1 (pg_X s (xc_f l (p + 1, ct, ws) fs) ms (XC ct).2) XC nc := by
    obtain ⟨s1, s2, s3, s4, s5, s6, s7⟩ := b1
    exact ⟨s1, s2, s3, s4, s5, s6, s7⟩
  obtain ⟨F', G', d1, d2, d3, d4⟩ := xd_del (v := v) (fun q hq => by rw [b4 5 (by omega), hG 5 (by omega)]; exact hz q hq) hzb (fun q hq => by rw [b4 15 (by omega), hG 15 (by omega)]; exact he q hq) heb hfz hhb b1' ((b3 _ (by decide) (by decide)).trans f1)
    ((b3 _ (by decide) (by decide)).trans ((r1 _ (by decide)).trans N.2.2.2.2.2.1)) (by rw [pg_len]; omega) hw hw2
  have ef : F 10 - 1 = nI hot := by rw [T.1]; exact nI_pred hot
  have ht : F 12 = nI ms.length := T.2.2.2.1
  have key : ∀ Q : SX → Prop, Q (xs_mk F' G') → ∃ n, wX_resume_76 Q s v (nI ct) (nI (XC ct).2.length) n 0 (xc_F l hot F 0) (xc_F l hot F 1) (xc_F l hot F 2) (xc_F l hot F 3) (xc_F l hot F 4) (xc_F l hot F 5) (xc_F l hot F 6) (xc_F l hot F 7) (xc_F l hot F 8) (xc_F l hot F 9) (xc_F l hot F 10) (xc_F l hot F 11) (xc_F l hot F 12) (xc_F l hot F 13) (xc_F l hot F 14) (xc_F l hot F 15) (xc_F l hot F 16) (xc_F l hot F 17) (xc_F l hot F 18) (xc_F l hot F 19) (xc_F l hot F 20) (xc_F l hot F 21) (xc_F l hot F 22) (G2 0) (G2 1) (G2 2) (G2 3) (G2 4) (G2 5) (G2 6) (G2 7) (G2 8) (G2 9) (G2 10) (G2 11) (G2 12) (G2 13) (G2 14) (G2 15) (G2 16) (G2 17) (G2 18) (G2 19) (G2 20) (G2 21) (G2 22) (G2 23) (G2 24) (G2 25) (G2 26) (G2 27) (G2 28) (G2 29) (G2 30) (G2 31) (G2 32) (G2 33) (G2 34) (G2 35) (G2 36) (G2 37) (G2 38) (G2 39) (G2 40) := by
    intro Q q
    refine ⟨1 + (XC ct).2.length, b5 Q 1 ?_⟩
    unfold wX_resume_76
    refine br_t (nI_le (Nat.le_refl _) (by omega)) (br_f (nI_nle (by omega) (by omega)) ?_)
    have e20 : F3 20 + 1 = nI (rs + 1) := by rw [b3 _ (by decide) (by decide), r1 _ (by decide), N.2.2.1, nI_1]
    rw [e20]
    exact d1 _ q
  have fin : ∀ Q : SX → Prop, Q (xs_mk F' G') → wpX_resume Q (xs_mk F (xb_g G hot (p + 1))) (nI l) := by
    intro Q q
    refine xb_resP g1 h1 h2 (by omega) hc1 (by omega) k2 ?_
    unfold wX_resume_39
    refine br_t ?_ ?_
    · rw [ht, nI_add]; exact nI_le (b := 6) hd (by omega)
    · obtain rfl | rfl : l = 0 ∨ l = 1 := by omega
      · exact br_t rfl (key Q q)
      · exact br_f (by decide) (nm_r (e' := nI hot) ef (key Q q))
  refine ⟨F', G', ex_step hi T.2.2.2.2.2.2.1 (fun post h => ?_), d2, (d3 _ (by decide)).trans rfl, (d3 _ (by decide)).trans b2, fun k hk => ?_, fun k hk => ?_, ?_⟩
  · obtain rfl | rfl : l = 0 ∨ l = 1 := by omega
    · exact xb_stT (F := F) (G := G) T.1 (by omega) T.2.1.1 hc.1 hc.2 (by decide) (by decide) rfl (fun Q q => xt_resume0 fin q) h
    · exact xb_stT (F := F) (G := G) T.1 (by omega) T.2.1.1 hc.1 hc.2 (by decide) (by decide) rfl (fun Q q => xt_resume1 fin q) h
  · rw [d3 k (by omega), pk_un (by omega), b3 k (by omega) (by omega), r1 k (by omega)]
  · rw [d4 k hk, b4 k (by omega), hG k hk]
  · have := sg_len _ _ _ b1.2.2.2.2.2.1
    rw [pg_len] at this; exact this
end
end
section
/-! frames against things, marks against marks, catches against catches -/
/-- the catch of a frame of definition d against the reference's -/
def fl_H (kd sz : Nat → Nat) (nc : Nat) (ym : Nat → Nat) (d ct yh : Nat) : Prop :=
  (∀ t, t < sz d → kd (12 * d + t) ≠ 6) ∨ (ct = 0 ∧ yh = 0) ∨ (1 ≤ ct ∧ ct ≤ nc ∧ yh = ym ct)
def fl_R (kd pa pb pc nn sz : Nat → Nat) (N : Nat → Int32) (C O BD BT : Nat → Int32) (nb nc : Nat) (ym : Nat → Nat) : List ct_F → List ct_T → Prop
  | [] => fun L => L = []
  | (p, ct, ws) :: fs => fun L => ∃ n d yh ths L', L = ths ++ L' ∧ n ≤ 12 ∧ d < 16 ∧ ws.length ≤ 8 ∧ yh < 152 ∧ ct_K kd pa pb pc nn N d C O BD BT nb (sz d) false yh n p 0 ws ths ∧ fl_H kd sz nc ym d ct yh ∧ fl_R kd pa pb pc nn sz N C O BD BT nb nc ym fs L'
def mk_R (kd pa pb pc nn sz : Nat → Nat) (N : Nat → Int32) (C O BD BT : Nat → Int32) (nb nc : Nat) (ym : Nat → Nat) : List ct_XM → List ct_YM → Prop
  | [] => fun yms => yms = []
  | (h, s, fs) :: ms => fun yms => ∃ L yms', yms = (h, s, L) :: yms' ∧ fl_R kd pa pb pc nn sz N C O BD BT nb nc ym fs L ∧ mk_R kd pa pb pc nn sz N C O BD BT nb nc ym ms yms'
/-- the marks of a catch: what is under the last one does not count -/
def mp_R (kd pa pb pc nn sz : Nat → Nat) (N : Nat → Int32) (C O BD BT : Nat → Int32) (nb nc : Nat) (ym : Nat → Nat) : List ct_XM → List ct_YM → Prop
  | [] => fun _ => False
  | (h, s, fs) :: ms => fun yms => ∃ s' L yms', yms = (h, s', L) :: yms' ∧ ((ms = [] ∧ yms' = []) ∨ (s' = s ∧ fl_R kd pa pb pc nn sz N C O BD BT nb nc ym fs L ∧ mp_R kd pa pb pc nn sz N C O BD BT nb nc ym ms yms'))
theorem fl_mono {kd pa pb pc nn sz : Nat → Nat} {N : Nat → Int32} {C O BD BT : Nat → Int32} {nb nc : Nat} {ym : Nat → Nat} {nc' : Nat} {ym' : Nat → Nat} (hn : nc ≤ nc') (hy : ∀ c, c ≤ nc → ym' c = ym c) : ∀ (fs : List ct_F) (L : List ct_T), fl_R kd pa pb pc nn sz N C O BD BT nb nc ym fs L → fl_R kd pa pb pc nn sz N C O BD BT nb nc' ym' fs L := by
  intro fs
  induction fs with
  | nil => intro L h; exact h
  | cons fr fs ih =>
    obtain ⟨p, ct, ws⟩ := fr
    rintro L ⟨n, d, yh, ths, L', h1, h2, h3, h4, h5, h6, h7, h8⟩
    refine ⟨n, d, yh, ths, L', h1, h2, h3, h4, h5, h6, ?_, ih _ h8⟩
    rcases h7 with h | h | ⟨a, b, c⟩
    · exact Or.inl h
    · exact Or.inr (Or.inl h)
    · exact Or.inr (Or.inr ⟨a, by omega, by rw [hy ct b]; exact c⟩)
theorem mk_mono {kd pa pb pc nn sz : Nat → Nat} {N : Nat → Int32} {C O BD BT : Nat → Int32} {nb nc : Nat} {ym : Nat → Nat} {nc' : Nat} {ym' : Nat → Nat} (hn : nc ≤ nc') (hy : ∀ c, c ≤ nc → ym' c = ym c) : ∀ (ms : List ct_XM) (yms : List ct_YM), mk_R kd pa pb pc nn sz N C O BD BT nb nc ym ms yms → mk_R kd pa pb pc nn sz N C O BD BT nb nc' ym' ms yms := by
  intro ms
  induction ms with
  | nil => intro L h; exact h
  | cons m ms ih =>
    obtain ⟨h, s, fs⟩ := m
    rintro yms ⟨L, yms', h1, h2, h3⟩
    exact ⟨L, yms', h1, fl_mono hn hy _ _ h2, ih _ h3⟩
theorem mp_mono {kd pa pb pc nn sz : Nat → Nat} {N : Nat → Int32} {C O BD BT : Nat → Int32} {nb nc : Nat} {ym : Nat → Nat} {nc' : Nat} {ym' : Nat → Nat} (hn : nc ≤ nc') (hy : ∀ c, c ≤ nc → ym' c = ym c) : ∀ (ms : List ct_XM) (yms : List ct_YM), mp_R kd pa pb pc nn sz N C O BD BT nb nc ym ms yms → mp_R kd pa pb pc nn sz N C O BD BT nb nc' ym' ms yms := by
  intro ms
  induction ms with
  | nil => intro L h; exact h
  | cons m ms ih =>
    obtain ⟨h, s, fs⟩ := m
    rintro yms ⟨s', L, yms', h1, h2 | ⟨h2, h3, h4⟩⟩
    · exact ⟨s', L, yms', h1, Or.inl h2⟩
    · exact ⟨s', L, yms', h1, Or.inr ⟨h2, fl_mono hn hy _ _ h3, ih _ h4⟩⟩
theorem mk_len {kd pa pb pc nn sz : Nat → Nat} {N : Nat → Int32} {C O BD BT : Nat → Int32} {nb nc : Nat} {ym : Nat → Nat} : ∀ (ms : List ct_XM) (yms : List ct_YM), mk_R kd pa pb pc nn sz N C O BD BT nb nc ym ms yms → yms.length = ms.length := by
  intro ms
  induction ms with
  | nil => rintro _ rfl; rfl
  | cons m ms ih =>
    obtain ⟨h, s, fs⟩ := m
    rintro yms ⟨L, yms', rfl, _, h3⟩
    simp only [List.length_cons, ih _ h3]
theorem mp_len {kd pa pb pc nn sz : Nat → Nat} {N : Nat → Int32} {C O BD BT : Nat → Int32} {nb nc : Nat} {ym : Nat → Nat} : ∀ (ms : List ct_XM) (yms : List ct_YM), mp_R kd pa pb pc nn sz N C O BD BT nb nc ym ms yms → yms.length = ms.length ∧ 1 ≤ ms.length := by
  intro ms
  induction ms with
  | nil => intro _ h; exact h.elim
  | cons m ms ih =>
    obtain ⟨h, s, fs⟩ := m
    rintro yms ⟨s', L, yms', rfl, ⟨rfl, rfl⟩ | ⟨_, _, h4⟩⟩
    · exact ⟨rfl, by simp⟩
    · have := ih _ h4
      simp only [List.length_cons]; omega
theorem pg_R {kd pa pb pc nn sz : Nat → Nat} {N : Nat → Int32} {C O BD BT : Nat → Int32} {nb nc : Nat} {ym : Nat → Nat} {s' : Int32} {fs : List ct_F} {L : List ct_T} {ms : List ct_XM} {yms : List ct_YM} (hf : fl_R kd pa pb pc nn sz N C O BD BT nb nc ym fs L) (hm : mk_R kd pa pb pc nn sz N C O BD BT nb nc ym ms yms) :
    ∀ (cx : List ct_XM) (cy : List ct_YM), mp_R kd pa pb pc nn sz N C O BD BT nb nc ym cx cy → mk_R kd pa pb pc nn sz N C O BD BT nb nc ym (pg_X s' fs ms cx) (pg_Y s' L yms cy) := by
  intro cx
  induction cx with
  | nil => intro _ h; exact h.elim
  | cons m cx ih =>
    obtain ⟨h, s, u⟩ := m
    rintro cy ⟨s1, L1, yms', rfl, ⟨rfl, rfl⟩ | ⟨rfl, h3, h4⟩⟩
    · exact ⟨L, yms, rfl, hf, hm⟩
    · have l := mp_len _ _ h4
      cases cx with
      | nil => exact h4.elim
      | cons c2 cx =>
        cases yms' with
        | nil => simp at l
        | cons y2 yms' => exact ⟨L1, _, rfl, h3, ih _ h4⟩
end
section
/-! statics; the class when there are too many steps -/
/-- a node of definition d, as far as the run is concerned -/
def tm_r (kd pa pb pc nn : Nat → Nat) (d t : Nat) : Prop :=
  kd (12 * d + t) ≤ 12 ∧ (kd (12 * d + t) ≤ 10 → pa (12 * d + t) < t) ∧ (kd (12 * d + t) ≤ 6 ∨ kd (12 * d + t) = 10 → pb (12 * d + t) < t) ∧ (kd (12 * d + t) = 10 → pc (12 * d + t) < t)
  ∧ (kd (12 * d + t) = 12 → nn (12 * d + t) < 3) ∧ (kd (12 * d + t) = 8 → nn (12 * d + t) < 4) ∧ (kd (12 * d + t) = 9 → nn (12 * d + t) < 3) ∧ (kd (12 * d + t) = 4 → nn (12 * d + t) < 3) ∧ (kd (12 * d + t) = 5 → nn (12 * d + t) < 3)
def ty_so (k n : Nat) : Nat := if k = 11 then 0 else if k = 12 then 1 else if k = 7 then 2 else if k = 8 then 3 + n else if k = 9 then 7 + n else if k ≤ 3 then 10 + k else if k = 4 then 14 + n else if k = 5 then 17 + n else if k = 6 then 20 else 21
/-- the reference's terms -/
def sy_R (kd pa pb pc nn sz : Nat → Nat) (N : Nat → Int32) (G : Nat → Nat → Int32) : Prop :=
  (∀ q, q < 16 → G 4 q = nI (sz q)) ∧ ∀ d t, d < 16 → t < sz d → G 0 (12 * d + t) = nI (ty_so (kd (12 * d + t)) (nn (12 * d + t)))
    ∧ G 1 (12 * d + t) = (if kd (12 * d + t) = 11 then N (12 * d + t) else if kd (12 * d + t) = 12 then nI (nn (12 * d + t)) else nI (pa (12 * d + t)))
    ∧ (kd (12 * d + t) ≤ 6 ∨ kd (12 * d + t) = 10 → G 2 (12 * d + t) = nI (pb (12 * d + t))) ∧ (kd (12 * d + t) = 10 → G 3 (12 * d + t) = nI (pc (12 * d + t)))
/-- the class's code -/
def sx_R (sz en se hb : Nat → Nat) (C O : Nat → Int32) (G : Nat → Nat → Int32) : Prop :=
  G 11 = C ∧ G 12 = O ∧ (∀ q, q < 16 → G 5 q = nI (sz q)) ∧ (∀ q, q < 96 → G 15 q = nI (en q)) ∧ (∀ q, q < 16 → sz q ≠ 0 → G 7 q = nI (hb q)) ∧ (∀ q, 4 ≤ q → q < 16 → sz q ≠ 0 → hb q = 1 → G 16 q = nI (se q))
theorem sx_I {sz en se hb : Nat → Nat} {C O : Nat → Int32} {F F' : Nat → Int32} {G G' : Nat → Nat → Int32} (h : sx_R sz en se hb C O G) (I : ∀ k, k < 22 → G' k = G k) : sx_R sz en se hb C O G' := by
  obtain ⟨h1, h2, h3, h4, h5, h6⟩ := h
  refine ⟨(I _ (by decide)).trans h1, (I _ (by decide)).trans h2, ?_, ?_, ?_, ?_⟩
  · rw [I _ (by decide)]; exact h3
  · rw [I _ (by decide)]; exact h4
  · rw [I _ (by decide)]; exact h5
  · rw [I _ (by decide)]; exact h6
theorem sy_I {kd pa pb pc nn sz : Nat → Nat} {N : Nat → Int32} {G G' : Nat → Nat → Int32} (h : sy_R kd pa pb pc nn sz N G) (I : ∀ k, k < 6 → G' k = G k) : sy_R kd pa pb pc nn sz N G' := by
  obtain ⟨h1, h2⟩ := h
  refine ⟨?_, ?_⟩
  · rw [I _ (by decide)]; exact h1
  · rw [I 0 (by decide), I 1 (by decide), I 2 (by decide), I 3 (by decide)]; exact h2
def cg_p0 (v : Nat) : Nat := v
/-- the compiled program -/
def sp_R (kd pa pb pc nn sz en se hb : Nat → Nat) (N C O BD BT : Nat → Int32) (nb : Nat) : Prop :=
  (∀ q, sz q ≤ 12) ∧ (∀ f, f < 4 → 0 < sz f) ∧ (∀ q, en q ≤ 1200) ∧ (∀ q, se q ≤ 1200)
  ∧ (∀ d t, d < 16 → t < sz d → tm_r kd pa pb pc nn d t)
  ∧ (∀ b d t, b < nb → b < 96 → d < 16 → t < sz d → BD b = nI d → BT b = nI t → cg_E kd pa pb pc nn N d C O BD BT nb 12 1 t cg_p0 3 0 (en b) (ct_R C O))
  ∧ (∀ d, d < 16 → sz d ≠ 0 → d < nb ∧ BD d = nI d ∧ BT d = nI (sz d - 1))
  ∧ (∀ d, 4 ≤ d → d < 16 → sz d ≠ 0 → hb d ≤ 2 ∧ (hb d = 0 → ∀ t, t < sz d → kd (12 * d + t) ≠ 6)
      ∧ (hb d = 1 → kd (12 * d + (sz d - 1)) = 6 ∧ (∀ t, t < sz d → kd (12 * d + t) ≠ 5 ∧ kd (12 * d + t) ≠ 8 ∧ kd (12 * d + t) ≠ 9 ∧ (kd (12 * d + t) = 6 → t + 1 = sz d)) ∧ ∀ ka, cg_E kd pa pb pc nn N d C O BD BT nb 12 2 (sz d - 1) cg_p0 3 0 (se d) ka))
/-- too many steps -/
def dm_T (i b : Nat) (F : Nat → Int32) (G : Nat → Nat → Int32) (pf rs mo no : Nat) (og : Nat → Int32) : Prop :=
  ∃ i' F' G', ex_go i F G i' F' G' ∧ i' ≤ i + b ∧ F' 15 = 2 ∧ xr_N F' G' 150 pf rs mo no og ∧ xr_I F G F' G'
section
variable {kd pa pb pc nn sz : Nat → Nat} {N C O BD BT : Nat → Int32} {nb d : Nat}
variable {hot fz nr nc : Nat} {ct : Nat} {fs : List ct_F} {ms : List ct_XM} {XC : Nat → List ct_F × List ct_XM}
variable {st pf rs mo no : Nat} {og : Nat → Int32}
theorem dm_tr {i i' b b' : Nat} {F F' : Nat → Int32} {G G' : Nat → Nat → Int32} (a : ex_go i F G i' F' G') (I : xr_I F G F' G') (h : dm_T i' b' F' G' pf rs mo no og) (hb : i' + b' ≤ i + b) : dm_T i b F G pf rs mo no og := by
  obtain ⟨j, F2, G2, h1, h2, h3, h4, h5⟩ := h
  exact ⟨j, F2, G2, ex_tr a h1, by omega, h3, h4, xr_Itr I h5⟩
theorem dm_fl {i q q1 pi : Nat} {F : Nat → Int32} {G : Nat → Nat → Int32} {ws : List Int32} (T : xr_T F G hot fz nr (q, ct, ws) fs ms XC nc) (Nn : xr_N F G st pf rs mo no og) (hi : i < 4000000) (hb : hot < 168)
    (hC : G 11 = C) (hO : G 12 = O) (hs : st ≤ 150) (h : cg_Fl C O pi q q1) (hp : 150 < st + pi) : dm_T i 1 F G pf rs mo no og := by
  rcases h with ⟨h, _⟩ | ⟨h1, h2, h3, h4, h5⟩
  · omega
  · obtain ⟨F', G', g1, g2, g3, g4⟩ := xj_tickT T Nn hi hb (by rw [hC]; exact h3) (by rw [hO]; exact h4) hp (by omega)
    exact ⟨_, F', G', g1, Nat.le_refl _, g2, g3, g4⟩
/-- where a doomed value has come to -/
def dm_O (hot fz nr nc ct : Nat) (fs : List ct_F) (ms : List ct_XM) (XC : Nat → List ct_F × List ct_XM) (st pf rs mo no : Nat) (og : Nat → Int32) (i b : Nat) (F : Nat → Int32) (G : Nat → Nat → Int32) (md : Nat) (ws : List Int32) (ka : Nat → Nat → Prop) : Prop :=
  dm_T i b F G pf rs mo no og ∨ ∃ i' F' G' q pi y ws', ex_go i F G i' F' G' ∧ i' ≤ i + b ∧ xr_T F' G' hot fz nr (q, ct, y :: ws') fs ms XC nc ∧ xr_N F' G' st pf rs mo no og ∧ xr_I F G F' G'
    ∧ ka q pi ∧ 150 < st + pi ∧ (md = 0 → ws' = ws)
theorem dm_E (hsz : sz d ≤ 12) (htm : ∀ t, t < sz d → tm_r kd pa pb pc nn d t) (hs : st ≤ 150) (hb : hot < 168) : ∀ (m md t : Nat) (pl : Nat → Nat) (pi p : Nat) (ka : Nat → Nat → Prop) (ws : List Int32) (i : Nat) (F : Nat → Int32) (G : Nat → Nat → Int32),
    cg_E kd pa pb pc nn N d C O BD BT nb m md t pl ws.length pi p ka → t < sz d → (∀ v, v < 3 → pl v < ws.length) → xr_T F G hot fz nr (p, ct, ws) fs ms XC nc → xr_N F G st pf rs mo no og → G 11 = C → G 12 = O → i + 2 ^ (m + 1) ≤ 4000000 → 150 ≤ st + pi →
    dm_O hot fz nr nc ct fs ms XC st pf rs mo no og i (2 ^ (m + 1) - 1) F G md ws ka := by
  intro m
  induction m with
  | zero => intro _ _ _ _ _ _ _ _ _ _ h; exact h.elim
  | succ m ih =>
    intro md t pl pi p ka ws i F G H ht hpl T Nn hC hO hi hp
    have h2 : 2 ^ (m + 1 + 1) = 2 * 2 ^ (m + 1) := by rw [Nat.pow_succ, Nat.mul_comm]
    have h1 : 2 ≤ 2 ^ (m + 1) := by rw [Nat.pow_succ]; have := Nat.one_le_two_pow (n := m); omega
    obtain ⟨k1, k2, k3, k4, k5, k6, k7, k8, k9⟩ := htm t ht
    obtain ⟨hw, H⟩ := H
    rcases H with ⟨v, s, a1, a2, a3, a4, a5⟩ | ⟨a1, a2, a3, a4⟩ | ⟨a1, x, j, a2, a3, a4⟩ | ⟨a1, a2⟩
    · obtain ⟨G', g1, g2, g3, g4⟩ := xj_push (i := i) T Nn (by omega) hb (by rw [hC]; exact a3) ((congrFun hO p).trans a4) hw
      have := kn_pos a1
      exact Or.inr ⟨_, F, G', _, _, _, ws, g1, by omega, g2, g3, g4, a5, by omega, fun _ => rfl⟩
    · obtain ⟨G', g1, g2, g3, g4⟩ := xj_load (i := i) T Nn (by omega) hb (by rw [hC]; exact a2) ((congrFun hO p).trans a3) (hpl _ (k5 a1)) hw
      exact Or.inr ⟨_, F, G', _, _, _, ws, g1, by omega, g2, g3, g4, a4, by omega, fun _ => rfl⟩
    · have hq : (if x = 0 then pc (12 * d + t) else pb (12 * d + t)) < sz d := by
        have := k4 a1; have := k3 (Or.inr a1)
        split <;> omega
      have r := ih md _ pl (pi + 1 + j) p ka ws i F G a4 hq hpl T Nn hC hO (by omega) (by omega)
      rcases r with r | ⟨i', F', G', q, pi', y, ws', r1, r2, r3⟩
      · exact Or.inl (dm_tr ex_rf xr_Irf r (by omega))
      · exact Or.inr ⟨i', F', G', q, pi', y, ws', r1, by omega, r3⟩
    · have hq := k2 a1
      have r := ih 0 _ pl (pi + 1) p _ ws i F G a2 (by omega) hpl T Nn hC hO (by omega) (by omega)
      rcases r with r | ⟨i', F', G', q, pi', y, ws', r1, r2, r3, r4, r5, r6, r7, r8⟩
      · exact Or.inl (dm_tr ex_rf xr_Irf r (by omega))
      · obtain rfl := r8 rfl
        have hC' : G' 11 = C := (r5.2 _ (by decide)).trans hC
        have hO' : G' 12 = O := (r5.2 _ (by decide)).trans hO
        have fl : ∀ pi2 p2, 150 < st + pi2 → cg_Fl C O pi2 q p2 → dm_O hot fz nr nc ct fs ms XC st pf rs mo no og i (2 ^ (m + 1 + 1) - 1) F G md ws' ka := fun pi2 p2 z w =>
          Or.inl (dm_tr r1 r5 (dm_fl (i := i') r3 r4 (by omega) hb hC' hO' hs w z) (by omega))
        rcases r6 with ⟨b1, b2⟩ | ⟨b1, b2⟩ | ⟨b1, p2, e, b2, b3⟩ | ⟨b1, p2, b2, b3⟩ | ⟨b1, p2, b2, b3⟩ | ⟨b1, p2, b2, b3⟩ | ⟨b1, p2, b, b2, b3⟩
        · have hqb := k3 (by omega)
          have r := ih 0 _ pl pi' q _ (y :: ws') i' F' G' b2 (by omega) (fun v hv => by have := hpl v hv; simp only [List.length_cons]; omega) r3 r4 hC' hO' (by omega) (by omega)
          rcases r with r | ⟨i2, F2, G2, q2, pi2, y2, ws2, s1, s2, s3, s4, s5, s6, s7, s8⟩
          · exact Or.inl (dm_tr r1 r5 r (by omega))
          · obtain rfl := s8 rfl
            have hC2 : G2 11 = C := (s5.2 _ (by decide)).trans hC'
            have hO2 : G2 12 = O := (s5.2 _ (by decide)).trans hO'
            rcases s6 with ⟨c1, c2, c3⟩ | ⟨c1, p3, c2, c3⟩
            · obtain ⟨G3, g1, g2, g3, g4⟩ := xj_calc (i := i2) s3 s4 (by omega) hb (by rw [hC2]; exact c2) (by omega)
              exact Or.inr ⟨_, F2, G3, _, _, _, ws', ex_tr r1 (ex_tr s1 g1), by omega, g2, g3, xr_Itr r5 (xr_Itr s5 g4), c3, s7, fun _ => rfl⟩
            · exact Or.inl (dm_tr (ex_tr r1 s1) (xr_Itr r5 s5) (dm_fl (i := i2) s3 s4 (by omega) hb hC2 hO2 hs c2 (by omega)) (by omega))
        · have hqb := k3 (by omega)
          have r := ih md _ _ pi' q _ (y :: ws') i' F' G' b2 (by omega) (fun v hv => by
            have := hpl v hv; simp only [List.length_cons]; unfold cg_pl; split <;> omega) r3 r4 hC' hO' (by omega) (by omega)
          rcases r with r | ⟨i2, F2, G2, q2, pi2, y2, ws2, s1, s2, s3, s4, s5, s6, s7, s8⟩
          · exact Or.inl (dm_tr r1 r5 r (by omega))
          · have hC2 : G2 11 = C := (s5.2 _ (by decide)).trans hC'
            rcases s6 with ⟨c1, c2⟩ | ⟨c1, c2, c3⟩
            · exact Or.inr ⟨i2, F2, G2, _, _, _, ws2, ex_tr r1 s1, by omega, s3, s4, xr_Itr r5 s5, c2, s7, fun z => absurd z c1⟩
            · obtain rfl := s8 c1
              obtain ⟨G3, g1, g2, g3, g4⟩ := xj_slide (i := i2) s3 s4 (by omega) hb (by rw [hC2]; exact c2)
              exact Or.inr ⟨_, F2, G3, _, _, _, ws', ex_tr r1 (ex_tr s1 g1), by omega, g2, g3, xr_Itr r5 (xr_Itr s5 g4), c3, s7, fun _ => rfl⟩
        · exact fl _ _ r7 b2
        · exact fl _ _ (by omega) b2
        · exact fl _ _ r7 b2
        · exact fl _ _ (by omega) b2
        · exact fl _ _ r7 b2
end
end
section
section
variable {kd pa pb pc nn sz : Nat → Nat} {N C O BD BT : Nat → Int32} {nb d : Nat} {sh : Bool} {yh : Nat}
variable {hot fz nr nc : Nat} {ct : Nat} {fs : List ct_F} {ms : List ct_XM} {XC : Nat → List ct_F × List ct_XM}
variable {st pf rs mo no : Nat} {og : Nat → Int32}
theorem dm_R {i q pi : Nat} {F : Nat → Int32} {G : Nat → Nat → Int32} {ws : List Int32} (T : xr_T F G hot fz nr (q, ct, ws) fs ms XC nc) (Nn : xr_N F G st pf rs mo no og) (hi : i < 4000000) (hb : hot < 168)
    (hC : G 11 = C) (hO : G 12 = O) (hs : st ≤ 150) (h : ct_R C O q pi) (hp : 150 < st + pi) : dm_T i 1 F G pf rs mo no og := by
  obtain ⟨q', h, _⟩ := h
  exact dm_fl T Nn hi hb hC hO hs h hp
theorem dm_le {i b b' : Nat} {F : Nat → Int32} {G : Nat → Nat → Int32} (h : dm_T i b F G pf rs mo no og) (hb : b ≤ b') : dm_T i b' F G pf rs mo no og := dm_tr ex_rf xr_Irf h (by omega)
theorem wd_envb {pl : Nat → Nat} {ws : List Int32} {x0 x1 x2 : Int32} (h : wd_env pl ws x0 x1 x2) : ∀ v, v < 3 → pl v < ws.length := by
  obtain ⟨⟨h0, _⟩, ⟨h1, _⟩, ⟨h2, _⟩⟩ := h
  intro v hv
  obtain rfl | rfl | rfl : v = 0 ∨ v = 1 ∨ v = 2 := by omega
  · exact h0
  · exact h1
  · exact h2
theorem dm_pw {m : Nat} (h : m ≤ 12) : 2 ^ (m + 1) ≤ 8192 := Nat.pow_le_pow_right (n := 2) (j := 13) (by omega) (by omega)
theorem dm_K (hsz : sz d ≤ 12) (htm : ∀ t, t < sz d → tm_r kd pa pb pc nn d t) (hs : st ≤ 150) (hb : hot < 168) : ∀ (n q pi : Nat) (ws : List Int32) (ths : List ct_T) (i : Nat) (F : Nat → Int32) (G : Nat → Nat → Int32) (v : Int32),
    ct_K kd pa pb pc nn N d C O BD BT nb (sz d) sh yh n q pi ws ths → xr_T F G hot fz nr (q, ct, v :: ws) fs ms XC nc → xr_N F G st pf rs mo no og → G 11 = C → G 12 = O → i + n * 8200 < 4000000 → 150 < st + pi → dm_T i (n * 8200) F G pf rs mo no og := by
  intro n
  induction n with
  | zero => intro _ _ _ _ _ _ _ _ h; exact h.elim
  | succ n ih =>
    intro q pi ws ths i F G v H T Nn hC hO hi hp
    rw [Nat.add_mul, Nat.one_mul] at hi ⊢
    have fl : ∀ pi2 p2, 150 < st + pi2 → cg_Fl C O pi2 q p2 → dm_T i (n * 8200 + 8200) F G pf rs mo no og := fun pi2 p2 z w =>
      dm_le (dm_fl (i := i) T Nn (by omega) hb hC hO hs w z) (by omega)
    -- what comes behind a part
    have bk : ∀ (md : Nat) (ws1 ws2 : List Int32) (ths' : List ct_T) (i' : Nat) (F' : Nat → Int32) (G' : Nat → Nat → Int32) (q' pi' : Nat) (y : Int32), ex_go i F G i' F' G' → xr_I F G F' G' → i' ≤ i + 8194 → xr_T F' G' hot fz nr (q', ct, y :: ws2) fs ms XC nc → xr_N F' G' st pf rs mo no og →
        ct_k C O md (fun q pi => ct_K kd pa pb pc nn N d C O BD BT nb (sz d) sh yh n q pi ws1 ths') q' pi' → (md = 0 → ws2 = ws1) → 150 < st + pi' → dm_T i (n * 8200 + 8200) F G pf rs mo no og := by
      intro md ws1 ws2 ths' i' F' G' q' pi' y e1 e2 e3 e4 e5 e6 e7 e8
      have hC' : G' 11 = C := (e2.2 _ (by decide)).trans hC
      have hO' : G' 12 = O := (e2.2 _ (by decide)).trans hO
      rcases e6 with ⟨z, e6⟩ | ⟨z, e6⟩
      · obtain rfl := e7 z
        exact dm_tr e1 e2 (ih q' pi' _ ths' i' F' G' y e6 e4 e5 hC' hO' (by omega) e8) (by omega)
      · exact dm_tr e1 e2 (dm_R (i := i') e4 e5 (by omega) hb hC' hO' hs e6 e8) (by omega)
    rcases H with ⟨h1, h2, h3⟩ | ⟨x, ws', rfl, h2, h3⟩ | ⟨q1, e, h1, h2⟩ | ⟨q1, h1, h2⟩ | ⟨t, sv, x0, x1, x2, ths', m, md, pl, h1, h2, h3, h4, h5, h6, h7, h8, h9, h10⟩ | ⟨t, sv, x0, x1, x2, ths', md, ws', h1, h2, h3, rfl, h5, h6, h7, h8, h9⟩
    · exact dm_le (dm_R (i := i) T Nn (by omega) hb hC hO hs h3 hp) (by omega)
    · obtain ⟨G3, g1, g2, g3, g4⟩ := xj_slide (i := i) T Nn (by omega) hb (by rw [hC]; exact h2)
      exact dm_tr g1 g4 (ih _ pi ws' ths _ F G3 v h3 g2 g3 ((g4.2 _ (by decide)).trans hC) ((g4.2 _ (by decide)).trans hO) (by omega) hp) (by omega)
    · exact fl _ _ hp h1
    · exact fl _ _ hp h1
    · obtain ⟨k1, k2, k3, k4, k5, k6, k7, k8, k9⟩ := htm t h2
      have pw := dm_pw h4
      have hpl := wd_envb h5
      rcases h10 with ⟨b1, b2⟩ | ⟨b1, b2⟩ | ⟨b1, p2, e, b2, b3⟩ | ⟨b1, p2, b2, b3⟩ | ⟨b1, p2, b2, b3⟩ | ⟨b1, p2, b2, b3⟩ | ⟨b1, p2, b, b2, b3⟩
      · have hqb := k3 (by omega)
        have r := dm_E hsz htm hs hb m 0 _ pl pi q _ (v :: ws) i F G b2 (by omega) (fun w hw => by have := hpl w hw; simp only [List.length_cons]; omega) T Nn hC hO (by omega) (by omega)
        rcases r with r | ⟨i2, F2, G2, q2, pi2, y2, ws2, s1, s2, s3, s4, s5, s6, s7, s8⟩
        · exact dm_le r (by omega)
        · obtain rfl := s8 rfl
          have hC2 : G2 11 = C := (s5.2 _ (by decide)).trans hC
          have hO2 : G2 12 = O := (s5.2 _ (by decide)).trans hO
          rcases s6 with ⟨c1, c2, c3⟩ | ⟨c1, p3, c2, c3⟩
          · obtain ⟨G3, g1, g2, g3, g4⟩ := xj_calc (i := i2) s3 s4 (by omega) hb (by rw [hC2]; exact c2) (by omega)
            exact bk md ws ws ths' _ F2 G3 _ _ _ (ex_tr s1 g1) (xr_Itr s5 g4) (by omega) g2 g3 c3 (fun _ => rfl) s7
          · exact dm_tr s1 s5 (dm_fl (i := i2) s3 s4 (by omega) hb hC2 hO2 hs c2 (by omega)) (by omega)
      · have hqb := k3 (by omega)
        have r := dm_E hsz htm hs hb m md _ _ pi q _ (v :: ws) i F G b2 (by omega) (fun w hw => by
            have := hpl w hw; simp only [List.length_cons]; unfold cg_pl; split <;> omega) T Nn hC hO (by omega) (by omega)
        rcases r with r | ⟨i2, F2, G2, q2, pi2, y2, ws2, s1, s2, s3, s4, s5, s6, s7, s8⟩
        · exact dm_le r (by omega)
        · have hC2 : G2 11 = C := (s5.2 _ (by decide)).trans hC
          rcases s6 with ⟨c1, c2⟩ | ⟨c1, c2, c3⟩
          · exact bk md ws ws2 ths' _ F2 G2 _ _ _ s1 s5 (by omega) s3 s4 c2 (fun z => absurd z c1) s7
          · obtain rfl := s8 c1
            obtain ⟨G3, g1, g2, g3, g4⟩ := xj_slide (i := i2) s3 s4 (by omega) hb (by rw [hC2]; exact c2)
            exact bk md ws ws ths' _ F2 G3 _ _ _ (ex_tr s1 g1) (xr_Itr s5 g4) (by omega) g2 g3 c3 (fun _ => rfl) s7
      · exact fl _ _ hp b2
      · exact fl _ _ (by omega) b2
      · exact fl _ _ hp b2
      · exact fl _ _ (by omega) b2
      · exact fl _ _ hp b2
    · rcases h9 with ⟨c1, c2, c3⟩ | ⟨c1, p3, c2, c3⟩
      · obtain ⟨G3, g1, g2, g3, g4⟩ := xj_calc (i := i) T Nn (by omega) hb (by rw [hC]; exact c2) (by omega)
        exact bk md ws' ws' ths' _ F G3 _ _ _ g1 g4 (by omega) g2 g3 c3 (fun _ => rfl) hp
      · exact fl _ _ (by omega) c2
/-- a node that begins, too late -/
theorem dm_B (hsz : sz d ≤ 12) (htm : ∀ t, t < sz d → tm_r kd pa pb pc nn d t) (hs : st ≤ 150) (hb : hot < 168) {n m md t : Nat} {pl : Nat → Nat} {pi p : Nat} {ws : List Int32} {ths : List ct_T} {i : Nat} {F : Nat → Int32} {G : Nat → Nat → Int32}
    (H : cg_E kd pa pb pc nn N d C O BD BT nb m md t pl ws.length pi p (ct_k C O md (fun q pi => ct_K kd pa pb pc nn N d C O BD BT nb (sz d) sh yh n q pi ws ths))) (hm : m ≤ 12) (hn : n ≤ 12) (ht : t < sz d) (hpl : ∀ v, v < 3 → pl v < ws.length) (T : xr_T F G hot fz nr (p, ct, ws) fs ms XC nc) (Nn : xr_N F G st pf rs mo no og)
    (hC : G 11 = C) (hO : G 12 = O) (hi : i + 110000 < 4000000) (hp : 150 ≤ st + pi) : dm_T i 110000 F G pf rs mo no og := by
  have pw := dm_pw hm
  have r := dm_E hsz htm hs hb m md t pl pi p _ ws i F G H ht hpl T Nn hC hO (by omega) hp
  rcases r with r | ⟨i2, F2, G2, q2, pi2, y2, ws2, s1, s2, s3, s4, s5, s6, s7, s8⟩
  · exact dm_le r (by omega)
  · have hC2 : G2 11 = C := (s5.2 _ (by decide)).trans hC
    have hO2 : G2 12 = O := (s5.2 _ (by decide)).trans hO
    rcases s6 with ⟨z, s6⟩ | ⟨z, s6⟩
    · obtain rfl := s8 z
      exact dm_tr s1 s5 (dm_K hsz htm hs hb n q2 pi2 _ ths i2 F2 G2 y2 s6 s3 s4 hC2 hO2 (by omega) s7) (by omega)
    · exact dm_tr s1 s5 (dm_R (i := i2) s3 s4 (by omega) hb hC2 hO2 hs s6 s7) (by omega)
end
end
section
/-! the reference works out a known term -/
theorem yk_ix {d t a : Nat} (h : t < 12) : 12 * ((12 * d + t) / 12) + a = 12 * d + a := by omega
section
variable {kd pa pb pc nn sz : Nat → Nat} {N : Nat → Int32} {d : Nat}
variable {nM : Nat} {yms : List ct_YM} {YC : Nat → List ct_T × List ct_YM} {nc pf rs dp no : Nat} {og : Nat → Int32}
/-- the reference is tired -/
def yk_T (F : Nat → Int32) (G : Nat → Nat → Int32) (pf rs dp no : Nat) (og : Nat → Int32) : Prop :=
  ∃ F' G', ey_go F G F' G' ∧ F' 13 = 2 ∧ F' 15 = nI 150 ∧ ry_N F' G' pf rs dp no og ∧ ry_I F G F' G'
theorem yk_tr {F F' : Nat → Int32} {G G' : Nat → Nat → Int32} (a : ey_go F G F' G') (I : ry_I F G F' G') (h : yk_T F' G' pf rs dp no og) : yk_T F G pf rs dp no og := by
  obtain ⟨F2, G2, h1, h2, h3, h4, h5⟩ := h
  exact ⟨F2, G2, ey_tr a h1, h2, h3, h4, ry_Itr I h5⟩
def yk_O (F : Nat → Int32) (G : Nat → Nat → Int32) (nM : Nat) (L : List ct_T) (yms : List ct_YM) (YC : Nat → List ct_T × List ct_YM) (nc pf rs dp no : Nat) (og : Nat → Int32) (v : Int32) (st : Nat) : Prop :=
  ∃ F' G' nT', ey_go F G F' G' ∧ ry_S F' G' nT' nM L yms YC nc st ∧ ry_N F' G' pf rs dp no og ∧ ry_V F' v ∧ ry_I F G F' G' ∧ nT' ≤ st
theorem yk_Otr {F F' : Nat → Int32} {G G' : Nat → Nat → Int32} {L : List ct_T} {v : Int32} {st : Nat} (a : ey_go F G F' G') (I : ry_I F G F' G') (h : yk_O F' G' nM L yms YC nc pf rs dp no og v st) : yk_O F G nM L yms YC nc pf rs dp no og v st := by
  obtain ⟨F2, G2, nT', h1, h2, h3, h4, h5, h6⟩ := h
  exact ⟨F2, G2, nT', ey_tr a h1, h2, h3, h4, ry_Itr I h5, h6⟩
theorem yk_run (hd : d < 16) (hsz : sz d ≤ 12) (htm : ∀ t, t < sz d → tm_r kd pa pb pc nn d t) : ∀ (n t : Nat) (v : Int32) (s : Nat), kn_S kd pa pb pc N d n t v s → t < sz d →
    ∀ (F : Nat → Int32) (G : Nat → Nat → Int32) (nT : Nat) (L : List ct_T) (st : Nat) (x0 x1 x2 : Int32) (h : Nat), sy_R kd pa pb pc nn sz N G → ry_S F G nT nM L yms YC nc st → ry_N F G pf rs dp no og → ry_B F (12 * d + t) x0 x1 x2 h → nT ≤ st + 1 → st ≤ 150 →
      (st + s ≤ 150 ∧ yk_O F G nM L yms YC nc pf rs dp no og v (st + s)) ∨ (150 < st + s ∧ yk_T F G pf rs dp no og) := by
  intro n
  induction n with
  | zero => intro _ _ _ h; exact h.elim
  | succ n ih =>
    intro t v s H ht F G nT L st x0 x1 x2 h hsy S Nn B hT hst
    have hs := kn_pos H
    obtain ⟨k1, k2, k3, k4, k5, k6, k7, k8, k9⟩ := htm t ht
    obtain ⟨y1, y2, y3, y4⟩ := hsy.2 d t hd ht
    have hj : 12 * d + t < 192 := by omega
    by_cases h150 : st = 150
    · subst h150
      obtain ⟨F', a1, a2, a3, a4, a5⟩ := yr_tired S Nn B (by omega)
      exact Or.inr ⟨by omega, F', G, a1, a2, a3, a4, a5⟩
    have hb : st < 150 := by omega
    simp only [kn_S] at H
    have nd : 1 < ty_so (kd (12 * d + t)) (nn (12 * d + t)) → ty_so (kd (12 * d + t)) (nn (12 * d + t)) < 1000 → kd (12 * d + t) ≤ 10 → ∃ F' G', ey_go F G F' G' ∧ ry_S F' G' (nT + 1) nM ((12 * d + t, 1, 0, x0, x1, x2, h) :: L) yms YC nc (st + 1) ∧ ry_N F' G' pf rs dp no og ∧ ry_B F' (12 * d + pa (12 * d + t)) x0 x1 x2 h ∧ ry_I F G F' G' := by
      intro e1 e2 e3
      rw [if_neg (by omega), if_neg (by omega)] at y2
      obtain ⟨F', G', g1, g2, g3, g4, g5⟩ := yr_node S Nn B hb hj (by omega) y1 e1 e2 y2
      rw [yk_ix (by omega)] at g4
      exact ⟨F', G', g1, g2, g3, g4, g5⟩
    rcases H with ⟨a1, rfl, rfl⟩ | ⟨a1, x, i, y, j, a2, a3, rfl, rfl⟩ | ⟨a1, x, i, j, a2, a3, rfl⟩ | ⟨a1, x, i, j, a2, a3, rfl⟩
    · rw [if_pos a1] at y2
      obtain ⟨F', g1, g2, g3, g4, g5⟩ := yr_num S Nn B hb (by omega) (by rw [y1, a1]; rfl)
      rw [y2] at g4
      exact Or.inl ⟨by omega, F', G, nT, g1, g2, g3, g4, g5, hT⟩
    · have e : ty_so (kd (12 * d + t)) (nn (12 * d + t)) = 10 + kd (12 * d + t) := by unfold ty_so; rw [if_neg (by omega), if_neg (by omega), if_neg (by omega), if_neg (by omega), if_neg (by omega), if_pos a1]
      obtain ⟨F1, G1, g1, g2, g3, g4, g5⟩ := nd (by omega) (by omega) (by omega)
      have hsy1 := sy_I hsy g5.2
      rcases ih _ x i a2 (by have := k2 (by omega); omega) F1 G1 (nT + 1) _ (st + 1) x0 x1 x2 h hsy1 g2 g3 g4 (by omega) (by omega) with ⟨b0, F2, G2, nT2, b1, b2, b3, b4, b5, b6⟩ | ⟨b0, b1⟩
      · have hsy2 := sy_I hsy1 b5.2
        obtain ⟨z1, z2, z3, z4⟩ := hsy2.2 d t hd ht
        obtain ⟨F3, G3, c1, c2, c3, c4, c5⟩ := yr_bin b2 b3 b4 (by omega) (z1.trans (by rw [e])) (Or.inl ⟨by omega, by omega⟩) (z3 (by omega))
        rw [yk_ix (by omega)] at c4
        have hsy3 := sy_I hsy2 c5.2
        rcases ih _ y j a3 (by have := k3 (by omega); omega) F3 G3 (nT2 + 1) _ (st + 1 + i) x0 x1 x2 h hsy3 c2 c3 c4 (by omega) (by omega) with ⟨d0, F4, G4, nT4, d1, d2, d3, d4, d5, d6⟩ | ⟨d0, d1⟩
        · have hsy4 := sy_I hsy3 d5.2
          obtain ⟨w1, w2, w3, w4⟩ := hsy4.2 d t hd ht
          obtain ⟨F5, e1, e2, e3, e4, e5⟩ := yr_ari d2 d3 d4 (by omega) (w1.trans (by rw [e])) (by omega)
          refine Or.inl ⟨by omega, F5, G4, nT4, ey_tr g1 (ey_tr b1 (ey_tr c1 (ey_tr d1 e1))), ?_, e3, e4, ry_Itr g5 (ry_Itr b5 (ry_Itr c5 (ry_Itr d5 e5))), by omega⟩
          rw [show st + (1 + i + j) = st + 1 + i + j by omega]; exact e2
        · exact Or.inr ⟨by omega, yk_tr g1 g5 (yk_tr b1 b5 (yk_tr c1 c5 d1))⟩
      · exact Or.inr ⟨by omega, yk_tr g1 g5 b1⟩
    · have e : ty_so (kd (12 * d + t)) (nn (12 * d + t)) = 14 + nn (12 * d + t) := by unfold ty_so; rw [if_neg (by omega), if_neg (by omega), if_neg (by omega), if_neg (by omega), if_neg (by omega), if_neg (by omega), if_pos a1]
      have hn := k8 a1
      obtain ⟨F1, G1, g1, g2, g3, g4, g5⟩ := nd (by omega) (by omega) (by omega)
      have hsy1 := sy_I hsy g5.2
      rcases ih _ x i a2 (by have := k2 (by omega); omega) F1 G1 (nT + 1) _ (st + 1) x0 x1 x2 h hsy1 g2 g3 g4 (by omega) (by omega) with ⟨b0, F2, G2, nT2, b1, b2, b3, b4, b5, b6⟩ | ⟨b0, b1⟩
      · have hsy2 := sy_I hsy1 b5.2
        obtain ⟨z1, z2, z3, z4⟩ := hsy2.2 d t hd ht
        obtain ⟨F3, c1, c2, c3, c4, c5⟩ := yr_let b2 b3 b4 (by omega) (z1.trans (by rw [e])) hn (z3 (by omega))
        rw [yk_ix (by omega)] at c4
        have hsy3 := sy_I hsy2 c5.2
        rcases ih _ v j a3 (by have := k3 (by omega); omega) F3 G2 nT2 _ (st + 1 + i) _ _ _ h hsy3 c2 c3 c4 (by omega) (by omega) with ⟨d0, d1⟩ | ⟨d0, d1⟩
        · refine Or.inl ⟨by omega, yk_Otr g1 g5 (yk_Otr b1 b5 (yk_Otr c1 c5 ?_))⟩
          rw [show st + (1 + i + j) = st + 1 + i + j by omega]; exact d1
        · exact Or.inr ⟨by omega, yk_tr g1 g5 (yk_tr b1 b5 (yk_tr c1 c5 d1))⟩
      · exact Or.inr ⟨by omega, yk_tr g1 g5 b1⟩
    · have e : ty_so (kd (12 * d + t)) (nn (12 * d + t)) = 21 := by unfold ty_so; rw [if_neg (by omega), if_neg (by omega), if_neg (by omega), if_neg (by omega), if_neg (by omega), if_neg (by omega), if_neg (by omega), if_neg (by omega), if_neg (by omega)]
      obtain ⟨F1, G1, g1, g2, g3, g4, g5⟩ := nd (by omega) (by omega) (by omega)
      have hsy1 := sy_I hsy g5.2
      rcases ih _ x i a2 (by have := k2 (by omega); omega) F1 G1 (nT + 1) _ (st + 1) x0 x1 x2 h hsy1 g2 g3 g4 (by omega) (by omega) with ⟨b0, F2, G2, nT2, b1, b2, b3, b4, b5, b6⟩ | ⟨b0, b1⟩
      · have hsy2 := sy_I hsy1 b5.2
        obtain ⟨z1, z2, z3, z4⟩ := hsy2.2 d t hd ht
        have hq : (if x = 0 then pc (12 * d + t) else pb (12 * d + t)) < sz d := by
          have := k4 a1; have := k3 (Or.inr a1)
          split <;> omega
        obtain ⟨F3, c1, c2, c3, c4, c5⟩ := yr_cho (b := if x = 0 then pc (12 * d + t) else pb (12 * d + t)) b2 b3 b4 (by omega) (z1.trans (by rw [e]; rfl)) (by
          by_cases zx : x = 0
          · rw [if_pos zx, if_pos zx]; exact z4 a1
          · rw [if_neg zx, if_neg zx]; exact z3 (Or.inr a1))
        rw [yk_ix (by omega)] at c4
        have hsy3 := sy_I hsy2 c5.2
        rcases ih _ v j a3 hq F3 G2 nT2 _ (st + 1 + i) _ _ _ h hsy3 c2 c3 c4 (by omega) (by omega) with ⟨d0, d1⟩ | ⟨d0, d1⟩
        · refine Or.inl ⟨by omega, yk_Otr g1 g5 (yk_Otr b1 b5 (yk_Otr c1 c5 ?_))⟩
          rw [show st + (1 + i + j) = st + 1 + i + j by omega]; exact d1
        · exact Or.inr ⟨by omega, yk_tr g1 g5 (yk_tr b1 b5 (yk_tr c1 c5 d1))⟩
      · exact Or.inr ⟨by omega, yk_tr g1 g5 b1⟩
end
end
section
/-! both runs side by side -/
/-- both runs have ended alike -/
def sm_E (F : Nat → Int32) (G : Nat → Nat → Int32) (FY : Nat → Int32) (GY : Nat → Nat → Int32) : Prop :=
  F 15 = FY 13 ∧ ¬ F 15 = -5 ∧ ¬ FY 13 = -1 ∧ F 17 = FY 14 ∧ F 18 = FY 15 ∧ F 19 = FY 16 ∧ F 20 = FY 17 ∧ F 21 = FY 18
  ∧ (∃ no, no ≤ 150 ∧ F 22 = nI no ∧ FY 19 = nI no ∧ ∀ i, i < no → G 40 i = GY 22 i) ∧ F 16 = (if FY 13 = 0 then FY 2 else if FY 13 = 1 then FY 2 else 0)
def sm_F (i : Nat) (F : Nat → Int32) (G : Nat → Nat → Int32) (FY : Nat → Int32) (GY : Nat → Nat → Int32) : Prop :=
  ∃ i' F' G' FY' GY', ex_go i F G i' F' G' ∧ i' < 4000000 ∧ ey_go FY GY FY' GY' ∧ xr_I F G F' G' ∧ ry_I FY GY FY' GY' ∧ sm_E F' G' FY' GY'
theorem sm_tr {F : Nat → Int32} {G : Nat → Nat → Int32} {FY : Nat → Int32} {GY : Nat → Nat → Int32} {F' : Nat → Int32} {G' : Nat → Nat → Int32} {FY' : Nat → Int32} {GY' : Nat → Nat → Int32} {i i' : Nat} (a : ex_go i F G i' F' G') (b : ey_go FY GY FY' GY') (I : xr_I F G F' G') (J : ry_I FY GY FY' GY') (h : sm_F i' F' G' FY' GY') : sm_F i F G FY GY := by
  obtain ⟨i2, F2, G2, FY2, GY2, h1, h2, h3, h4, h5, h6⟩ := h
  exact ⟨i2, F2, G2, FY2, GY2, ex_tr a h1, h2, ey_tr b h3, xr_Itr I h4, ry_Itr J h5, h6⟩
/-- both are tired -/
theorem sm_tired {F : Nat → Int32} {G : Nat → Nat → Int32} {FY : Nat → Int32} {GY : Nat → Nat → Int32} {i b pf rs mo no : Nat} {og : Nat → Int32} (hx : dm_T i b F G pf rs mo no og) (hy : yk_T FY GY pf rs mo no og) (hi : i + b < 4000000) (hno : no ≤ 150) : sm_F i F G FY GY := by
  obtain ⟨i', F', G', x1, x2, x3, ⟨n1, n2, n3, n4, n5, n6, n7, n8⟩, x5⟩ := hx
  obtain ⟨FY', GY', y1, y2, y3, ⟨m1, m2, m3, m4, m5, m6⟩, y5⟩ := hy
  refine ⟨i', F', G', FY', GY', x1, by omega, y1, x5, y5, x3.trans y2.symm, ?_, ?_, n7.trans m5.symm, n1.trans y3.symm, n2.trans m1.symm, n3.trans m2.symm, n4.trans m3.symm, ⟨no, hno, n5, m4, fun j hj => (n8 j hj).trans (m6 j hj).symm⟩, ?_⟩
  · rw [x3]; decide
  · rw [y2]; decide
  · rw [n6, y2, if_neg (by decide), if_neg (by decide)]
/-- both are too deep -/
theorem sm_deep {F : Nat → Int32} {G : Nat → Nat → Int32} {FY : Nat → Int32} {GY : Nat → Nat → Int32} {F' : Nat → Int32} {G' : Nat → Nat → Int32} {FY' : Nat → Int32} {GY' : Nat → Nat → Int32} {i i' st pf rs mo no : Nat} {og : Nat → Int32} (x1 : ex_go i F G i' F' G') (hi : i' < 4000000) (x3 : F' 15 = 3) (xN : xr_N F' G' st pf rs mo no og) (x5 : xr_I F G F' G')
    (y1 : ey_go FY GY FY' GY') (y2 : FY' 13 = 3) (y3 : FY' 15 = nI st) (yN : ry_N FY' GY' pf rs mo no og) (y5 : ry_I FY GY FY' GY') (hno : no ≤ 150) : sm_F i F G FY GY := by
  obtain ⟨n1, n2, n3, n4, n5, n6, n7, n8⟩ := xN
  obtain ⟨m1, m2, m3, m4, m5, m6⟩ := yN
  refine ⟨i', F', G', FY', GY', x1, hi, y1, x5, y5, x3.trans y2.symm, ?_, ?_, n7.trans m5.symm, n1.trans y3.symm, n2.trans m1.symm, n3.trans m2.symm, n4.trans m3.symm, ⟨no, hno, n5, m4, fun j hj => (n8 j hj).trans (m6 j hj).symm⟩, ?_⟩
  · rw [x3]; decide
  · rw [y2]; decide
  · rw [n6, y2, if_neg (by decide), if_neg (by decide)]
/-- the counts -/
def sm_b (b st xst pi hot fz nc nr nT nM ncY no mo ml : Nat) : Prop :=
  st = xst + pi ∧ st ≤ 150 ∧ hot + 1 ≤ st + b ∧ fz + hot + 1 ≤ 2 * st + b ∧ 2 * nc ≤ st + b ∧ nr ≤ 6 * nc ∧ nT ≤ st + b ∧ nM ≤ 6 * st + b ∧ ncY ≤ st ∧ no ≤ st ∧ mo ≤ 6 ∧ ml ≤ mo
/-- the catches -/
def cr_R (kd pa pb pc nn sz : Nat → Nat) (N C O BD BT : Nat → Int32) (nb nc : Nat) (ym : Nat → Nat) (XC : Nat → List ct_F × List ct_XM) (YC : Nat → List ct_T × List ct_YM) (ncY : Nat) : Prop :=
  ∀ c, 1 ≤ c → c ≤ nc → 1 ≤ ym c ∧ ym c ≤ ncY ∧ fl_R kd pa pb pc nn sz N C O BD BT nb nc ym (XC c).1 (YC (ym c)).1 ∧ mp_R kd pa pb pc nn sz N C O BD BT nb nc ym (XC c).2 (YC (ym c)).2
/-- what both states have in common -/
def sm_Q (kd pa pb pc nn sz en se hb : Nat → Nat) (N C O BD BT : Nat → Int32) (nb : Nat) (b : Nat) (F : Nat → Int32) (G : Nat → Nat → Int32) (FY : Nat → Int32) (GY : Nat → Nat → Int32) (hot fz nr nc : Nat) (XC : Nat → List ct_F × List ct_XM) (nT nM ncY : Nat) (YC : Nat → List ct_T × List ct_YM) (ym : Nat → Nat) (st xst pf rs mo no : Nat) (og : Nat → Int32) (pi : Nat) (fr : ct_F) (fs : List ct_F) (ms : List ct_XM) (L : List ct_T) (yms : List ct_YM) : Prop :=
  xr_T F G hot fz nr fr fs ms XC nc ∧ xr_N F G xst pf rs mo no og ∧ ry_S FY GY nT nM L yms YC ncY st ∧ ry_N FY GY pf rs mo no og ∧ sx_R sz en se hb C O G ∧ sy_R kd pa pb pc nn sz N GY
  ∧ cr_R kd pa pb pc nn sz N C O BD BT nb nc ym XC YC ncY ∧ sm_b b st xst pi hot fz nc nr nT nM ncY no mo ms.length
/-- the rest behind the frame at work -/
def rs_R (kd pa pb pc nn sz : Nat → Nat) (N C O BD BT : Nat → Int32) (nb nc : Nat) (ym : Nat → Nat) (YC : Nat → List ct_T × List ct_YM) (ncY : Nat) (sh : Bool) (d ct yh : Nat) (fs : List ct_F) (ms : List ct_XM) (L : List ct_T) (yms : List ct_YM) : Prop :=
  (sh = false ∧ fl_R kd pa pb pc nn sz N C O BD BT nb nc ym fs L ∧ mk_R kd pa pb pc nn sz N C O BD BT nb nc ym ms yms ∧ fl_H kd sz nc ym d ct yh)
  ∨ (sh = true ∧ ∃ a h s fs' ms2, ms = a ++ (h, s, fs') :: ms2 ∧ ct = ms2.length + 1 ∧ 1 ≤ yh ∧ yh ≤ ncY ∧ fl_R kd pa pb pc nn sz N C O BD BT nb nc ym fs (YC yh).1 ∧ mp_R kd pa pb pc nn sz N C O BD BT nb nc ym (a ++ [(h, s, fs')]) (YC yh).2 ∧ fl_R kd pa pb pc nn sz N C O BD BT nb nc ym fs' L ∧ mk_R kd pa pb pc nn sz N C O BD BT nb nc ym ms2 yms)
def sm_s (kd sz : Nat → Nat) (sh : Bool) (d : Nat) : Prop := sh = true → ∀ t, t < sz d → kd (12 * d + t) ≠ 5 ∧ kd (12 * d + t) ≠ 8 ∧ kd (12 * d + t) ≠ 9 ∧ (kd (12 * d + t) = 6 → t + 1 = sz d)
/-- a node is about to begin -/
def sm_B (kd pa pb pc nn sz en se hb : Nat → Nat) (N C O BD BT : Nat → Int32) (nb : Nat) (i : Nat) (F : Nat → Int32) (G : Nat → Nat → Int32) (FY : Nat → Int32) (GY : Nat → Nat → Int32) (st : Nat) : Prop :=
  ∃ hot fz nr nc XC nT nM ncY YC ym xst pf rs mo no og pi, ∃ p ct ws fs ms ths L yms d t n m md pl x0 x1 x2 yh sh,
    sm_Q kd pa pb pc nn sz en se hb N C O BD BT nb 1 F G FY GY hot fz nr nc XC nT nM ncY YC ym st xst pf rs mo no og pi (p, ct, ws) fs ms (ths ++ L) yms ∧ ry_B FY (12 * d + t) x0 x1 x2 yh ∧ (d < 16 ∧ t < sz d ∧ n + t ≤ 12 ∧ m ≤ 12 ∧ yh < 152 ∧ i ≤ 25300 * (st + 1) + xst)
    ∧ cg_E kd pa pb pc nn N d C O BD BT nb m md t pl ws.length pi p (ct_k C O md (fun q pi => ct_K kd pa pb pc nn N d C O BD BT nb (sz d) sh yh n q pi ws ths)) ∧ wd_env pl ws x0 x1 x2
    ∧ ((md ≠ 0 → ths = [] ∧ 1 ≤ n) ∧ (md = 1 → sh = false) ∧ (2 ≤ md → sh = true ∧ kd (12 * d + t) = 6) ∧ (sh = true → t + 1 = sz d → 2 ≤ md)) ∧ sm_s kd sz sh d
    ∧ rs_R kd pa pb pc nn sz N C O BD BT nb nc ym YC ncY sh d ct yh fs ms L yms
/-- a value has come to a frame -/
def sm_R (kd pa pb pc nn sz en se hb : Nat → Nat) (N C O BD BT : Nat → Int32) (nb : Nat) (i : Nat) (F : Nat → Int32) (G : Nat → Nat → Int32) (FY : Nat → Int32) (GY : Nat → Nat → Int32) (st phi : Nat) : Prop :=
  ∃ hot fz nr nc XC nT nM ncY YC ym xst pf rs mo no og pi, ∃ q ct v ws fs ms ths L yms d n yh sh,
    sm_Q kd pa pb pc nn sz en se hb N C O BD BT nb 0 F G FY GY hot fz nr nc XC nT nM ncY YC ym st xst pf rs mo no og pi (q, ct, v :: ws) fs ms (ths ++ L) yms ∧ ry_V FY v ∧ (d < 16 ∧ n ≤ 12 ∧ yh < 152 ∧ phi = n + 12 * (fs.length + sg_n ms) ∧ i + phi ≤ 25300 * (st + 1) + xst)
    ∧ ct_K kd pa pb pc nn N d C O BD BT nb (sz d) sh yh n q pi ws ths ∧ sm_s kd sz sh d ∧ rs_R kd pa pb pc nn sz N C O BD BT nb nc ym YC ncY sh d ct yh fs ms L yms
section
variable {kd pa pb pc nn sz en se hb : Nat → Nat} {N C O BD BT : Nat → Int32} {nb : Nat} {F : Nat → Int32} {G : Nat → Nat → Int32} {FY : Nat → Int32} {GY : Nat → Nat → Int32} {hot fz nr nc : Nat} {XC : Nat → List ct_F × List ct_XM} {nT nM ncY : Nat} {YC : Nat → List ct_T × List ct_YM} {ym : Nat → Nat} {st xst pf rs mo no : Nat} {og : Nat → Int32} {pi : Nat}
theorem sm_W {fs : List ct_F} {ms : List ct_XM} {b ml : Nat} (S : sg_R G fz ms hot fs) (hml : ms.length ≤ 6) (h : fz + hot + 1 ≤ 2 * st + b) (hs : st ≤ 150) (hb : b ≤ 1) : 12 * (fs.length + sg_n ms) ≤ 25200 := by
  have a := sg_len _ _ _ S
  have c : (ms.length + 1) * fz ≤ 7 * fz := Nat.mul_le_mul_right fz (by omega)
  omega
/-- where a state goes -/
def sm_X (kd pa pb pc nn sz en se hb : Nat → Nat) (N C O BD BT : Nat → Int32) (nb : Nat) (i : Nat) (F : Nat → Int32) (G : Nat → Nat → Int32) (FY : Nat → Int32) (GY : Nat → Nat → Int32) (st phi : Nat) : Prop :=
  sm_F i F G FY GY ∨ ∃ i' F' G' FY' GY' st', ex_go i F G i' F' G' ∧ ey_go FY GY FY' GY' ∧ xr_I F G F' G' ∧ ry_I FY GY FY' GY'
    ∧ ((st < st' ∧ (sm_B kd pa pb pc nn sz en se hb N C O BD BT nb i' F' G' FY' GY' st' ∨ ∃ phi', sm_R kd pa pb pc nn sz en se hb N C O BD BT nb i' F' G' FY' GY' st' phi')) ∨ (st' = st ∧ (sm_B kd pa pb pc nn sz en se hb N C O BD BT nb i' F' G' FY' GY' st ∨ ∃ phi', phi' < phi ∧ sm_R kd pa pb pc nn sz en se hb N C O BD BT nb i' F' G' FY' GY' st phi')))
def sm_Y (kd pa pb pc nn sz en se hb : Nat → Nat) (N C O BD BT : Nat → Int32) (nb : Nat) (i : Nat) (F : Nat → Int32) (G : Nat → Nat → Int32) (FY : Nat → Int32) (GY : Nat → Nat → Int32) (st : Nat) : Prop :=
  sm_F i F G FY GY ∨ ∃ i' F' G' FY' GY' st', ex_go i F G i' F' G' ∧ ey_go FY GY FY' GY' ∧ xr_I F G F' G' ∧ ry_I FY GY FY' GY' ∧ st < st' ∧ (sm_B kd pa pb pc nn sz en se hb N C O BD BT nb i' F' G' FY' GY' st' ∨ ∃ phi', sm_R kd pa pb pc nn sz en se hb N C O BD BT nb i' F' G' FY' GY' st' phi')
end
theorem sm_st {kd pa pb pc nn sz en se hb : Nat → Nat} {N C O BD BT : Nat → Int32} {nb : Nat} {i : Nat} {F : Nat → Int32} {G : Nat → Nat → Int32} {FY : Nat → Int32} {GY : Nat → Nat → Int32} {st : Nat} (h : sm_B kd pa pb pc nn sz en se hb N C O BD BT nb i F G FY GY st) : st ≤ 150 := by
  obtain ⟨hot, fz, nr, nc, XC, nT, nM, ncY, YC, ym, xst, pf, rs, mo, no, og, pi, p, ct, ws, fs, ms, ths, L, yms, d, t, n, m, md, pl, x0, x1, x2, yh, sh, ⟨_, _, _, _, _, _, _, h⟩, _⟩ := h
  exact h.2.1
theorem sm_st2 {kd pa pb pc nn sz en se hb : Nat → Nat} {N C O BD BT : Nat → Int32} {nb : Nat} {i : Nat} {F : Nat → Int32} {G : Nat → Nat → Int32} {FY : Nat → Int32} {GY : Nat → Nat → Int32} {st phi : Nat} (h : sm_R kd pa pb pc nn sz en se hb N C O BD BT nb i F G FY GY st phi) : st ≤ 150 := by
  obtain ⟨hot, fz, nr, nc, XC, nT, nM, ncY, YC, ym, xst, pf, rs, mo, no, og, pi, q, ct, v, ws, fs, ms, ths, L, yms, d, n, yh, sh, ⟨_, _, _, _, _, _, _, h⟩, _⟩ := h
  exact h.2.1
/-- if every state goes on, the runs end alike -/
theorem sm_main {kd pa pb pc nn sz en se hb : Nat → Nat} {N C O BD BT : Nat → Int32} {nb : Nat} (hB : ∀ i F G FY GY st, sm_B kd pa pb pc nn sz en se hb N C O BD BT nb i F G FY GY st → sm_Y kd pa pb pc nn sz en se hb N C O BD BT nb i F G FY GY st) (hR : ∀ i F G FY GY st phi, sm_R kd pa pb pc nn sz en se hb N C O BD BT nb i F G FY GY st phi → sm_X kd pa pb pc nn sz en se hb N C O BD BT nb i F G FY GY st phi) :
    ∀ k, (∀ i F G FY GY st, 150 ≤ st + k → sm_B kd pa pb pc nn sz en se hb N C O BD BT nb i F G FY GY st → sm_F i F G FY GY) ∧ (∀ phi i F G FY GY st, 150 ≤ st + k → sm_R kd pa pb pc nn sz en se hb N C O BD BT nb i F G FY GY st phi → sm_F i F G FY GY) := by
  intro k
  induction k with
  | zero =>
    have b : ∀ i F G FY GY st, 150 ≤ st + 0 → sm_B kd pa pb pc nn sz en se hb N C O BD BT nb i F G FY GY st → sm_F i F G FY GY := by
      intro i F G FY GY st hk h
      rcases hB i F G FY GY st h with h | ⟨i', F', G', FY', GY', st', h1, h2, h3, h4, h5, h6 | ⟨phi', h6⟩⟩
      · exact h
      · have := sm_st h6; omega
      · have := sm_st2 h6; omega
    refine ⟨b, ?_⟩
    intro phi
    induction phi using Nat.strongRecOn with
    | ind phi ih =>
      intro i F G FY GY st hk h
      rcases hR i F G FY GY st phi h with h | ⟨i', F', G', FY', GY', st', h1, h2, h3, h4, ⟨h5, h6 | ⟨phi', h6⟩⟩ | ⟨rfl, h6 | ⟨phi', h5, h6⟩⟩⟩
      · exact h
      · have := sm_st h6; omega
      · have := sm_st2 h6; omega
      · exact sm_tr h1 h2 h3 h4 (b _ _ _ _ _ _ hk h6)
      · exact sm_tr h1 h2 h3 h4 (ih phi' h5 _ _ _ _ _ _ hk h6)
  | succ k ihk =>
    obtain ⟨ib, ir⟩ := ihk
    have b : ∀ i F G FY GY st, 150 ≤ st + (k + 1) → sm_B kd pa pb pc nn sz en se hb N C O BD BT nb i F G FY GY st → sm_F i F G FY GY := by
      intro i F G FY GY st hk h
      rcases hB i F G FY GY st h with h | ⟨i', F', G', FY', GY', st', h1, h2, h3, h4, h5, h6 | ⟨phi', h6⟩⟩
      · exact h
      · exact sm_tr h1 h2 h3 h4 (ib _ _ _ _ _ _ (by omega) h6)
      · exact sm_tr h1 h2 h3 h4 (ir _ _ _ _ _ _ _ (by omega) h6)
    refine ⟨b, ?_⟩
    intro phi
    induction phi using Nat.strongRecOn with
    | ind phi ih =>
      intro i F G FY GY st hk h
      rcases hR i F G FY GY st phi h with h | ⟨i', F', G', FY', GY', st', h1, h2, h3, h4, ⟨h5, h6 | ⟨phi', h6⟩⟩ | ⟨rfl, h6 | ⟨phi', h5, h6⟩⟩⟩
      · exact h
      · exact sm_tr h1 h2 h3 h4 (ib _ _ _ _ _ _ (by omega) h6)
      · exact sm_tr h1 h2 h3 h4 (ir _ _ _ _ _ _ _ (by omega) h6)
      · exact sm_tr h1 h2 h3 h4 (b _ _ _ _ _ _ hk h6)
      · exact sm_tr h1 h2 h3 h4 (ih phi' h5 _ _ _ _ _ _ hk h6)
end
section
/-! a node begins -/
theorem wd_cons {pl : Nat → Nat} {ws : List Int32} {x0 x1 x2 v : Int32} (h : wd_env pl ws x0 x1 x2) : wd_env pl (v :: ws) x0 x1 x2 := by
  obtain ⟨⟨a0, b0⟩, ⟨a1, b1⟩, ⟨a2, b2⟩⟩ := h
  refine ⟨⟨?_, (wd_low a0).trans b0⟩, ⟨?_, (wd_low a1).trans b1⟩, ⟨?_, (wd_low a2).trans b2⟩⟩ <;> simp only [List.length_cons] <;> omega
theorem wd_let {pl : Nat → Nat} {ws : List Int32} {x0 x1 x2 v : Int32} {w : Nat} (h : wd_env pl ws x0 x1 x2) (hw : w < 3) :
    wd_env (cg_pl pl w ws.length) (v :: ws) (if w = 0 then v else x0) (if w = 1 then v else x1) (if w = 2 then v else x2) := by
  obtain ⟨⟨a0, b0⟩, ⟨a1, b1⟩, ⟨a2, b2⟩⟩ := wd_cons (v := v) h
  have t : wd_g (v :: ws) ws.length = v := wd_top v ws
  have l : ws.length < (v :: ws).length := by simp
  obtain rfl | rfl | rfl : w = 0 ∨ w = 1 ∨ w = 2 := by omega
  · exact ⟨⟨l, t⟩, ⟨a1, b1⟩, ⟨a2, b2⟩⟩
  · exact ⟨⟨a0, b0⟩, ⟨l, t⟩, ⟨a2, b2⟩⟩
  · exact ⟨⟨a0, b0⟩, ⟨a1, b1⟩, ⟨l, t⟩⟩
theorem wd_get {pl : Nat → Nat} {ws : List Int32} {x0 x1 x2 : Int32} {w : Nat} (h : wd_env pl ws x0 x1 x2) (hw : w < 3) : wd_g ws (pl w) = (if w = 0 then x0 else if w = 1 then x1 else x2) := by
  obtain ⟨⟨a0, b0⟩, ⟨a1, b1⟩, ⟨a2, b2⟩⟩ := h
  obtain rfl | rfl | rfl : w = 0 ∨ w = 1 ∨ w = 2 := by omega
  · exact b0
  · exact b1
  · exact b2
theorem kn_kd {kd pa pb pc : Nat → Nat} {N : Nat → Int32} {d : Nat} {n t : Nat} {v : Int32} {s : Nat} (h : kn_S kd pa pb pc N d n t v s) : kd (12 * d + t) ≠ 6 := by
  cases n with
  | zero => exact h.elim
  | succ n =>
    simp only [kn_S] at h
    rcases h with ⟨a, _⟩ | ⟨a, _⟩ | ⟨a, _⟩ | ⟨a, _⟩ <;> omega
theorem sm_B1 {kd pa pb pc nn sz en se hb : Nat → Nat} {N C O BD BT : Nat → Int32} {nb : Nat} (hP : sp_R kd pa pb pc nn sz en se hb N C O BD BT nb) {i : Nat} {F : Nat → Int32} {G : Nat → Nat → Int32} {FY : Nat → Int32} {GY : Nat → Nat → Int32} {st : Nat} (H : sm_B kd pa pb pc nn sz en se hb N C O BD BT nb i F G FY GY st) : sm_Y kd pa pb pc nn sz en se hb N C O BD BT nb i F G FY GY st := by
  obtain ⟨hot, fz, nr, nc, XC, nT, nM, ncY, YC, ym, xst, pf, rs, mo, no, og, pi, p, ct, ws, fs, ms, ths, L, yms, d, t, n, m, md, pl, x0, x1, x2, yh, sh, ⟨T, Nx, S, Ny, sx, sy, cr, bd⟩, B, ⟨hd, ht, hnt, hm, hyh, hi⟩, E, env, ⟨hc1, hc2, hc3, hc4⟩, hs, rest⟩ := H
  have bd' := bd
  obtain ⟨b1, b2, b3, b4, b5, b6, b7, b8, b9, b10, b11, b12⟩ := bd
  obtain ⟨P1, P2, P3, P4, P5, P6, P7, P8⟩ := hP
  have htm := fun t => P5 d t hd
  have hsz := P1 d
  have hpl := wd_envb env
  have hhot : hot < 168 := by omega
  have hW := sm_W (ml := 0) (b := 1) T.2.2.2.2.2.2.2.1 (by omega) b4 b2 (Nat.le_refl _)
  by_cases h150 : st = 150
  · subst h150
    obtain ⟨FY', y1, y2, y3, y4, y5⟩ := yr_tired S Ny B (by omega)
    exact Or.inl (sm_tired (dm_B hsz htm (by omega) hhot E hm (by omega) ht hpl T Nx sx.1 sx.2.1 (by omega) (by omega)) ⟨FY', GY, y1, y2, y3, y4, y5⟩ (by omega) (by omega))
  have hb9 : st < 150 := by omega
  obtain ⟨k1, k2, k3, k4, k5, k6, k7, k8, k9⟩ := htm t ht
  obtain ⟨y1, y2, y3, y4⟩ := sy.2 d t hd ht
  cases m with
  | zero => exact E.elim
  | succ m =>
  -- a value comes out at once
  have val : ∀ (v : Int32) (s : Nat), 0 < s → s < 128 → st + s ≤ 150 → (∃ G1, ex_go i F G (i + 1) F G1 ∧ xr_T F G1 hot fz nr (p + 1, ct, v :: ws) fs ms XC nc ∧ xr_N F G1 xst pf rs mo no og ∧ xr_I F G F G1) → ct_k C O md (fun q pi => ct_K kd pa pb pc nn N d C O BD BT nb (sz d) sh yh n q pi ws ths) (p + 1) (pi + s) → kd (12 * d + t) ≠ 6 →
      yk_O FY GY nM (ths ++ L) yms YC ncY pf rs mo no og v (st + s) → sm_Y kd pa pb pc nn sz en se hb N C O BD BT nb i F G FY GY st := by
    rintro v s hs0 hs1 hs2 ⟨G1, g1, g2, g3, g4⟩ hk hk6 ⟨FY', GY', nT', r1, r2, r3, r4, r5, r6⟩
    refine Or.inr ⟨i + 1, F, G1, FY', GY', st + s, g1, r1, g4, r5, by omega, Or.inr ?_⟩
    have hsh : md ≠ 0 → sh = false := by
      intro z
      by_cases z1 : md = 1
      · exact hc2 z1
      · exact absurd (hc3 (by omega)).2 hk6
    obtain ⟨n', hn', hK⟩ : ∃ n', n' ≤ 12 ∧ ct_K kd pa pb pc nn N d C O BD BT nb (sz d) sh yh n' (p + 1) (pi + s) ws ths := by
      rcases hk with ⟨z, hk⟩ | ⟨z, hk⟩
      · exact ⟨n, by omega, hk⟩
      · exact ⟨1, by omega, Or.inl ⟨hsh z, (hc1 z).1, hk⟩⟩
    exact ⟨n' + 12 * (fs.length + sg_n ms), hot, fz, nr, nc, XC, nT', nM, ncY, YC, ym, xst, pf, rs, mo, no, og, pi + s, p + 1, ct, v, ws, fs, ms, ths, L, yms, d, n', yh, sh, ⟨g2, g3, r2, r3, sx_I (F := F) (F' := F) sx g4.2, sy_I sy r5.2, cr, by omega, by omega, by omega, by omega, by omega, by omega, by omega, by omega, by omega, by omega, by omega, by omega⟩, r4, ⟨hd, hn', hyh, rfl, by omega⟩, hK, hs, rest⟩
  obtain ⟨hw, E⟩ := E
  rcases E with ⟨v, s, a1, a2, a3, a4, a5⟩ | ⟨a1, a2, a3, a4⟩ | ⟨a1, x, j, a2, a3, a4⟩ | ⟨a1, a2⟩
  · obtain ⟨G1, g1, g2, g3, g4⟩ := xj_push (i := i) T Nx (by omega) hhot (by rw [sx.1]; exact a3) ((congrFun sx.2.1 p).trans a4) hw
    rcases yk_run hd hsz htm 12 t v s a1 ht FY GY nT (ths ++ L) st x0 x1 x2 yh sy S Ny B (by omega) (by omega) with ⟨z, r⟩ | ⟨z, r⟩
    · exact val v s (kn_pos a1) a2 z ⟨G1, g1, g2, g3, g4⟩ a5 (kn_kd a1) r
    · refine Or.inl (sm_tired (b := 110000) (dm_tr g1 g4 (b' := 100000) ?_ (by omega)) r (by omega) (by omega))
      have hC' : G1 11 = C := (g4.2 _ (by decide)).trans sx.1
      have hO' : G1 12 = O := (g4.2 _ (by decide)).trans sx.2.1
      rcases a5 with ⟨z1, hk⟩ | ⟨z1, hk⟩
      · exact dm_le (dm_K hsz htm (by omega) hhot n _ _ ws ths (i + 1) F G1 v hk g2 g3 hC' hO' (by omega) (by omega)) (by omega)
      · exact dm_le (dm_R (i := i + 1) g2 g3 (by omega) hhot hC' hO' (by omega) hk (by omega)) (by omega)
  · rw [if_neg (by omega), if_pos a1] at y2
    have hv := k5 a1
    have so : ty_so (kd (12 * d + t)) (nn (12 * d + t)) = 1 := by rw [a1]; rfl
    obtain ⟨FY', r1, r2, r3, r4, r5⟩ := yr_var S Ny B hb9 (by omega) (by rw [y1, so]; rfl) y2 hv
    refine val _ 1 (by omega) (by omega) (by omega) ?_ a4 (by omega) ⟨FY', GY, nT, r1, r2, r3, r4, r5, by omega⟩
    rw [← wd_get env hv]
    obtain ⟨G1, g⟩ := xj_load (i := i) T Nx (by omega) hhot (by rw [sx.1]; exact a2) ((congrFun sx.2.1 p).trans a3) (hpl _ hv) hw
    exact ⟨G1, g⟩
  · -- a choose by a known term
    have e : ty_so (kd (12 * d + t)) (nn (12 * d + t)) = 21 := by rw [a1]; rfl
    rw [if_neg (by omega), if_neg (by omega)] at y2
    have hq : (if x = 0 then pc (12 * d + t) else pb (12 * d + t)) < t := by
      have := k4 a1; have := k3 (Or.inr a1)
      split <;> omega
    have doom : 150 ≤ xst + (pi + 1 + j) → dm_T i 110000 F G pf rs mo no og := fun z => dm_B hsz htm (by omega) hhot a4 (by omega) (by omega) (by omega) hpl T Nx sx.1 sx.2.1 (by omega) z
    obtain ⟨F1, G1, g1, g2, g3, g4, g5⟩ := yr_node S Ny B hb9 (by omega) (by omega) y1 (by rw [e]; decide) (by rw [e]; decide) y2
    rw [yk_ix (by omega)] at g4
    have sy1 := sy_I sy g5.2
    rcases yk_run hd hsz htm 12 _ x j a2 (by have := k2 (by omega); omega) F1 G1 (nT + 1) _ (st + 1) x0 x1 x2 yh sy1 g2 g3 g4 (by omega) (by omega) with ⟨z, F2, G2, nT2, r1, r2, r3, r4, r5, r6⟩ | ⟨z, r⟩
    · have sy2 := sy_I sy1 r5.2
      obtain ⟨z1, z2, z3, z4⟩ := sy2.2 d t hd ht
      obtain ⟨F3, c1, c2, c3, c4, c5⟩ := yr_cho (b := if x = 0 then pc (12 * d + t) else pb (12 * d + t)) r2 r3 r4 (by omega) (z1.trans (by rw [e]; rfl)) (by
          by_cases zx : x = 0
          · rw [if_pos zx, if_pos zx]; exact z4 a1
          · rw [if_neg zx, if_neg zx]; exact z3 (Or.inr a1))
      rw [yk_ix (by omega)] at c4
      refine Or.inr ⟨i, F, G, F3, G2, st + 1 + j, ex_rf, ey_tr g1 (ey_tr r1 c1), xr_Irf, ry_Itr g5 (ry_Itr r5 c5), by omega, Or.inl ?_⟩
      exact ⟨hot, fz, nr, nc, XC, nT2, nM, ncY, YC, ym, xst, pf, rs, mo, no, og, pi + 1 + j, p, ct, ws, fs, ms, ths, L, yms, d, (if x = 0 then pc (12 * d + t) else pb (12 * d + t)), n, m, md, pl, x0, x1, x2, yh, sh,
        ⟨T, Nx, c2, c3, sx, sy_I sy2 c5.2, cr, by omega, by omega, by omega, by omega, by omega, by omega, by omega, by omega, by omega, by omega, by omega, by omega⟩, c4, ⟨hd, by omega, by omega, by omega, hyh, by omega⟩, a4, env,
        ⟨hc1, hc2, fun z => absurd (hc3 z).2 (by omega), fun _ z => absurd z (by omega)⟩, hs, rest⟩
    · exact Or.inl (sm_tr ex_rf g1 xr_Irf g5 (sm_tired (b := 110000) (doom (by omega)) r (by omega) (by omega)))
  · -- a node with parts
    have e : 1 < ty_so (kd (12 * d + t)) (nn (12 * d + t)) ∧ ty_so (kd (12 * d + t)) (nn (12 * d + t)) < 1000 := by
      unfold ty_so
      have h1 : kd (12 * d + t) ≠ 11 := by omega
      have h2 : kd (12 * d + t) ≠ 12 := by omega
      rw [if_neg h1, if_neg h2]
      by_cases q8 : kd (12 * d + t) = 8
      · have := k6 q8
        rw [if_neg (by omega), if_pos q8]; omega
      · by_cases q9 : kd (12 * d + t) = 9
        · have := k7 q9
          rw [if_neg (by omega), if_neg q8, if_pos q9]; omega
        · by_cases q4 : kd (12 * d + t) = 4
          · have := k8 q4
            rw [if_neg (by omega), if_neg q8, if_neg q9, if_neg (by omega), if_pos q4]; omega
          · by_cases q5 : kd (12 * d + t) = 5
            · have := k9 q5
              rw [if_neg (by omega), if_neg q8, if_neg q9, if_neg (by omega), if_neg q4, if_pos q5]; omega
            · rw [if_neg q8, if_neg q9, if_neg q4, if_neg q5]
              split
              · omega
              · split
                · omega
                · split <;> omega
    rw [if_neg (by omega), if_neg (by omega)] at y2
    obtain ⟨F1, G1, g1, g2, g3, g4, g5⟩ := yr_node S Ny B hb9 (by omega) (by omega) y1 e.1 e.2 y2
    rw [yk_ix (by omega)] at g4
    have ha := k2 a1
    refine Or.inr ⟨i, F, G, F1, G1, st + 1, ex_rf, g1, xr_Irf, g5, by omega, Or.inl ?_⟩
    have hsk : sh = true → kd (12 * d + t) ≠ 5 ∧ kd (12 * d + t) ≠ 8 ∧ kd (12 * d + t) ≠ 9 ∧ (kd (12 * d + t) = 6 → 2 ≤ md) := fun z => ⟨(hs z t ht).1, (hs z t ht).2.1, (hs z t ht).2.2.1, fun w => hc4 z ((hs z t ht).2.2.2 w)⟩
    have E1 : cg_E kd pa pb pc nn N d C O BD BT nb m 0 (pa (12 * d + t)) pl ws.length (pi + 1) p (ct_k C O 0 (fun q pi => ct_K kd pa pb pc nn N d C O BD BT nb (sz d) sh yh (n + 1) q pi ws ((12 * d + t, 1, 0, x0, x1, x2, yh) :: ths))) := by
      refine cg_Emono _ _ _ _ _ _ _ _ _ (fun q pi' hq => Or.inl ⟨rfl, ?_⟩) a2
      exact Or.inr (Or.inr (Or.inr (Or.inr (Or.inl ⟨t, 0, x0, x1, x2, ths, m, md, pl, rfl, ht, hnt, by omega, env, hc1, hc2, hc3, hsk, hq⟩))))
    exact ⟨hot, fz, nr, nc, XC, nT + 1, nM, ncY, YC, ym, xst, pf, rs, mo, no, og, pi + 1, p, ct, ws, fs, ms, (12 * d + t, 1, 0, x0, x1, x2, yh) :: ths, L, yms, d, pa (12 * d + t), n + 1, m, 0, pl, x0, x1, x2, yh, sh,
      ⟨T, Nx, g2, g3, sx, sy_I sy g5.2, cr, by omega, by omega, by omega, by omega, by omega, by omega, by omega, by omega, by omega, by omega, by omega, by omega⟩, g4, ⟨hd, by omega, by omega, by omega, hyh, by omega⟩, E1, env,
      ⟨fun z => absurd rfl z, fun z => absurd z (by omega), fun z => absurd z (by omega), fun _ z => absurd z (by omega)⟩, hs, rest⟩
end
section
/-! a value is delivered: both -/
theorem dv_n {sz : Nat → Nat} : ∀ (ms : List ct_XM) (fs : List ct_F), (dv_X sz ms fs).1.length + sg_n (dv_X sz ms fs).2 ≤ fs.length + sg_n ms ∧ (dv_X sz ms fs).2.length ≤ ms.length := by
  intro ms
  induction ms with
  | nil => intro fs; exact ⟨Nat.le_refl _, Nat.le_refl _⟩
  | cons m ms ih =>
    obtain ⟨h, s, fs'⟩ := m
    intro fs
    cases fs with
    | cons fr fs => exact ⟨Nat.le_refl _, Nat.le_refl _⟩
    | nil =>
      by_cases z : sz (7 + 4 * h) = 0
      · have e : dv_X sz ((h, s, fs') :: ms) [] = dv_X sz ms fs' := if_pos z
        rw [e]
        have := ih fs'
        simp only [sg_n, List.length_cons, List.length_nil]; omega
      · have e : dv_X sz ((h, s, fs') :: ms) [] = ([], (h, s, fs') :: ms) := if_neg z
        rw [e]
        exact ⟨Nat.le_refl _, Nat.le_refl _⟩
theorem dv_sh {sz : Nat → Nat} : ∀ (ms : List ct_XM) (fs : List ct_F), (dv_X sz ms fs).1 = [] → (dv_X sz ms fs).2 = [] ∨ ∃ h s fs' ms', (dv_X sz ms fs).2 = (h, s, fs') :: ms' ∧ sz (7 + 4 * h) ≠ 0 := by
  intro ms
  induction ms with
  | nil => intro fs _; exact Or.inl rfl
  | cons m ms ih =>
    obtain ⟨h, s, fs'⟩ := m
    intro fs hf
    cases fs with
    | cons fr fs => exact absurd hf (by simp [dv_X])
    | nil =>
      by_cases z : sz (7 + 4 * h) = 0
      · have e : dv_X sz ((h, s, fs') :: ms) [] = dv_X sz ms fs' := if_pos z
        rw [e] at hf ⊢
        exact ih fs' hf
      · have e : dv_X sz ((h, s, fs') :: ms) [] = ([], (h, s, fs') :: ms) := if_neg z
        rw [e]
        exact Or.inr ⟨h, s, fs', ms, rfl, z⟩
theorem dv_Y {kd pa pb pc nn sz : Nat → Nat} {N : Nat → Int32} {C O BD BT : Nat → Int32} {nb nc : Nat} {ym : Nat → Nat} {G : Nat → Nat → Int32} {nT nM ncY st pf rs dp no : Nat} {YC : Nat → List ct_T × List ct_YM} {og : Nat → Int32} {v : Int32} (hz : ∀ q, q < 16 → G 4 q = nI (sz q)) (hM : nM ≤ 1056) :
    ∀ (ms : List ct_XM) (fs : List ct_F) (L : List ct_T) (yms : List ct_YM) (F : Nat → Int32), fl_R kd pa pb pc nn sz N C O BD BT nb nc ym fs L → mk_R kd pa pb pc nn sz N C O BD BT nb nc ym ms yms → ry_S F G nT nM L yms YC ncY st → ry_N F G pf rs dp no og → ry_V F v →
      ∃ F' L2 yms2, ey_go F G F' G ∧ ry_S F' G nT nM L2 yms2 YC ncY st ∧ ry_N F' G pf rs dp no og ∧ ry_V F' v ∧ ry_I F G F' G ∧ fl_R kd pa pb pc nn sz N C O BD BT nb nc ym (dv_X sz ms fs).1 L2 ∧ mk_R kd pa pb pc nn sz N C O BD BT nb nc ym (dv_X sz ms fs).2 yms2 := by
  intro ms
  induction ms with
  | nil =>
    intro fs L yms F hf hm S Nn V
    exact ⟨F, L, yms, ey_rf, S, Nn, V, ry_Irf, hf, hm⟩
  | cons m ms ih =>
    obtain ⟨h, s, fs'⟩ := m
    intro fs L yms F hf hm S Nn V
    cases fs with
    | cons fr fs => exact ⟨F, L, yms, ey_rf, S, Nn, V, ry_Irf, hf, hm⟩
    | nil =>
      by_cases z : sz (7 + 4 * h) = 0
      · have e : dv_X sz ((h, s, fs') :: ms) [] = dv_X sz ms fs' := if_pos z
        obtain rfl : L = [] := hf
        obtain ⟨L', yms', rfl, q1, q2⟩ := hm
        obtain ⟨m, m1, m2, m3, m4, m5, _⟩ := yr_mark S
        obtain ⟨F1, g1, g2, g3, g4, g5⟩ := yr_pass0 S Nn V hM (by rw [hz _ (by omega), z]; rfl)
        obtain ⟨F2, L2, yms2, h1, h2, h3, h4, h5, h6, h7⟩ := ih fs' L' yms' F1 q1 q2 g2 g3 g4
        rw [e]
        exact ⟨F2, L2, yms2, ey_tr g1 h1, h2, h3, h4, ry_Itr g5 h5, h6, h7⟩
      · have e : dv_X sz ((h, s, fs') :: ms) [] = ([], (h, s, fs') :: ms) := if_neg z
        rw [e]
        exact ⟨F, L, yms, ey_rf, S, Nn, V, ry_Irf, hf, hm⟩
/-- the code of a block -/
theorem en_E {kd pa pb pc nn sz en se hb : Nat → Nat} {N C O BD BT : Nat → Int32} {nb : Nat} (hP : sp_R kd pa pb pc nn sz en se hb N C O BD BT nb) {b d t yh : Nat} {x0 x1 x2 : Int32} (h1 : b < nb) (h2 : b < 96) (hd : d < 16) (ht : t < sz d) (h3 : BD b = nI d) (h4 : BT b = nI t) :
    cg_E kd pa pb pc nn N d C O BD BT nb 12 1 t cg_p0 [x2, x1, x0].length 0 (en b) (ct_k C O 1 (fun q pi => ct_K kd pa pb pc nn N d C O BD BT nb (sz d) false yh 1 q pi [x2, x1, x0] [])) ∧ wd_env cg_p0 [x2, x1, x0] x0 x1 x2 := by
  obtain ⟨P1, P2, P3, P4, P5, P6, P7, P8⟩ := hP
  refine ⟨cg_Emono _ _ _ _ _ _ _ _ _ (fun q pi hq => Or.inr ⟨by decide, hq⟩) (P6 b d t h1 h2 hd ht h3 h4), ⟨?_, ?_⟩, ⟨?_, ?_⟩, ⟨?_, ?_⟩⟩
  · show 0 < 3; decide
  · rfl
  · show 1 < 3; decide
  · rfl
  · show 2 < 3; decide
  · rfl
/-- the code of a definition -/
theorem en_D {kd pa pb pc nn sz en se hb : Nat → Nat} {N C O BD BT : Nat → Int32} {nb : Nat} (hP : sp_R kd pa pb pc nn sz en se hb N C O BD BT nb) {d yh : Nat} {x0 x1 x2 : Int32} (hd : d < 16) (hz : sz d ≠ 0) :
    cg_E kd pa pb pc nn N d C O BD BT nb 12 1 (sz d - 1) cg_p0 [x2, x1, x0].length 0 (en d) (ct_k C O 1 (fun q pi => ct_K kd pa pb pc nn N d C O BD BT nb (sz d) false yh 1 q pi [x2, x1, x0] [])) ∧ wd_env cg_p0 [x2, x1, x0] x0 x1 x2 := by
  have h := hP.2.2.2.2.2.2.1 d hd hz
  exact en_E hP h.1 (by omega) hd (by omega) h.2.1 h.2.2
def xr_0 (F : Nat → Int32) (G : Nat → Nat → Int32) (st pf rs mo no : Nat) (og : Nat → Int32) : Prop :=
  F 18 = nI st ∧ F 19 = nI pf ∧ F 20 = nI rs ∧ F 21 = nI mo ∧ F 22 = nI no ∧ F 17 = -4 ∧ ∀ i, i < no → G 40 i = og i
theorem xr_0N {F : Nat → Int32} {G : Nat → Nat → Int32} {st pf rs mo no : Nat} {og : Nat → Int32} (h : xr_0 F G st pf rs mo no og) (r : F 16 = 0) : xr_N F G st pf rs mo no og :=
  ⟨h.1, h.2.1, h.2.2.1, h.2.2.2.1, h.2.2.2.2.1, r, h.2.2.2.2.2.1, h.2.2.2.2.2.2⟩
theorem xr_N0 {F F' : Nat → Int32} {G G' : Nat → Nat → Int32} {st pf rs mo no : Nat} {og : Nat → Int32} (h : xr_N F G st pf rs mo no og) (r : ∀ k, 16 < k → F' k = F k) (g : G' 40 = G 40) : xr_0 F' G' st pf rs mo no og := by
  obtain ⟨n1, n2, n3, n4, n5, n6, n7, n8⟩ := h
  refine ⟨(r _ (by decide)).trans n1, (r _ (by decide)).trans n2, (r _ (by decide)).trans n3, (r _ (by decide)).trans n4, (r _ (by decide)).trans n5, (r _ (by decide)).trans n7, ?_⟩
  show ∀ i, i < no → G' 40 i = og i
  rw [g]; exact n8
theorem sm_del {kd pa pb pc nn sz en se hb : Nat → Nat} {N C O BD BT : Nat → Int32} {nb : Nat} (hP : sp_R kd pa pb pc nn sz en se hb N C O BD BT nb) {i : Nat} {F : Nat → Int32} {G : Nat → Nat → Int32} {FY : Nat → Int32} {GY : Nat → Nat → Int32} {hot fz nr nc : Nat} {XC : Nat → List ct_F × List ct_XM} {nT nM ncY : Nat} {YC : Nat → List ct_T × List ct_YM} {ym : Nat → Nat} {st pf rs mo no : Nat} {og : Nat → Int32} {fs : List ct_F} {ms : List ct_XM} {L : List ct_T} {yms : List ct_YM} {v : Int32} (D : dl_O en F G hot fz nr XC nc v (dv_X sz ms fs)) (N0 : xr_0 F G st pf rs mo no og)
    (S : ry_S FY GY nT nM L yms YC ncY st) (Ny : ry_N FY GY pf rs mo no og) (V : ry_V FY v) (hfl : fl_R kd pa pb pc nn sz N C O BD BT nb nc ym fs L) (hmk : mk_R kd pa pb pc nn sz N C O BD BT nb nc ym ms yms) (cr : cr_R kd pa pb pc nn sz N C O BD BT nb nc ym XC YC ncY) (sx : sx_R sz en se hb C O G) (sy : sy_R kd pa pb pc nn sz N GY)
    (bd : sm_b 0 st st 0 hot fz nc nr nT nM ncY no mo ms.length) (hi : i + 12 * (fs.length + sg_n ms) ≤ 25300 * (st + 1) + st) :
    sm_F i F G FY GY ∨ ∃ FY', ey_go FY GY FY' GY ∧ ry_I FY GY FY' GY ∧ (sm_B kd pa pb pc nn sz en se hb N C O BD BT nb i F G FY' GY st ∨ ∃ phi', phi' ≤ 12 * (fs.length + sg_n ms) ∧ sm_R kd pa pb pc nn sz en se hb N C O BD BT nb i F G FY' GY st phi') := by
  obtain ⟨b1, b2, b3, b4, b5, b6, b7, b8, b9, b10, b11, b12⟩ := bd
  obtain ⟨FY', L2, yms2, h1, h2, h3, h4, h5, h6, h7⟩ := dv_Y sy.1 (by omega) ms fs L yms FY hfl hmk S Ny V
  have hn := dv_n (sz := sz) ms fs
  have hsh := dv_sh (sz := sz) ms fs
  generalize dv_X sz ms fs = r at *
  obtain ⟨r1, r2⟩ := r
  cases r1 with
  | cons fr fs2 =>
    obtain ⟨p, ct, ws⟩ := fr
    obtain ⟨d0, hot', d1, d2⟩ := D
    obtain ⟨n, d, yh, ths, L', rfl, q1, q2, q3, q4, q5, q6, q7⟩ := h6
    simp only [List.length_cons] at hn
    refine Or.inr ⟨FY', h1, h5, Or.inr ⟨n + 12 * (fs2.length + sg_n r2), by omega, ?_⟩⟩
    exact ⟨hot', fz, nr, nc, XC, nT, nM, ncY, YC, ym, st, pf, rs, mo, no, og, 0, p, ct, v, ws, fs2, r2, ths, L', yms2, d, n, yh, false,
      ⟨d2, xr_0N N0 d0, h2, h3, sx, sy, cr, by omega, by omega, by omega, by omega, by omega, by omega, by omega, by omega, by omega, by omega, by omega, by omega⟩, h4, ⟨q2, q1, q4, rfl, by omega⟩, q5, fun z => absurd z (by decide), Or.inl ⟨rfl, q7, h7, q6⟩⟩
  | nil =>
    obtain rfl : L2 = [] := h6
    rcases hsh rfl with rfl | ⟨h, s, fs', ms', rfl, hz⟩
    · obtain rfl : yms2 = [] := h7
      obtain ⟨d1, d2⟩ := D
      obtain ⟨F2, g1, g2, g3, g4, g5, g6⟩ := yr_done h2 h3 h4
      obtain ⟨n1, n2, n3, n4, n5, n6, n7⟩ := N0
      obtain ⟨m1, m2, m3, m4, m5, m6⟩ := g5
      refine Or.inl ⟨i, F, G, F2, GY, ex_rf, by omega, ey_tr h1 g1, xr_Irf, ry_Itr h5 g6, d1.trans g2.symm, ?_, ?_, n6.trans m5.symm, n1.trans g4.symm, n2.trans m1.symm, n3.trans m2.symm, n4.trans m3.symm, ⟨no, by omega, n5, m4, fun j hj => (n7 j hj).trans (m6 j hj).symm⟩, ?_⟩
      · rw [d1]; decide
      · rw [g2]; decide
      · rw [d2, g2, if_pos rfl, g3]
    · obtain ⟨d0, d1⟩ := D
      obtain ⟨L', yms', rfl, q1, q2⟩ := h7
      obtain ⟨m, m1, m2, m3, m4, m5, _⟩ := yr_mark h2
      have hsz := hP.1 (7 + 4 * h)
      obtain ⟨F1, g1, g2, g3, g4, g5⟩ := yr_pass1 (z := sz (7 + 4 * h) - 1) h2 h3 h4 (by omega) (by rw [sy.1 _ (by omega)]; exact congrArg nI (by omega)) (by omega)
      obtain ⟨E, env⟩ := en_D hP (d := 7 + 4 * h) (yh := 0) (x0 := v) (x1 := s) (x2 := 0) (by omega) hz
      simp only [List.length_cons] at hn
      refine Or.inr ⟨F1, ey_tr h1 g1, ry_Itr h5 g5, Or.inl ?_⟩
      exact ⟨hot, fz, nr, nc, XC, nT, nM, ncY, YC, ym, st, pf, rs, mo, no, og, 0, en (7 + 4 * h), 0, [0, s, v], fs', ms', [], L', yms', 7 + 4 * h, sz (7 + 4 * h) - 1, 1, 12, 1, cg_p0, v, s, 0, 0, false,
        ⟨d1, xr_0N N0 d0, g2, g3, sx, sy, cr, by omega, by omega, by omega, by omega, by omega, by omega, by omega, by omega, by omega, by omega, by omega, by omega⟩, g4, ⟨by omega, by omega, by omega, by omega, by omega, by omega⟩, E, env,
        ⟨fun _ => ⟨rfl, Nat.le_refl _⟩, fun _ => rfl, fun z => absurd z (by decide), fun z => absurd z (by decide)⟩, fun z => absurd z (by decide), Or.inl ⟨rfl, q1, q2, Or.inr (Or.inl ⟨rfl, rfl⟩)⟩⟩
end
section
/-! a value has come to a frame: inside the frame -/
theorem sm_tick {C O : Nat → Int32} {F : Nat → Int32} {G : Nat → Nat → Int32} {hot fz nr nc i pi q q1 ct xst pf rs mo no : Nat} {og : Nat → Int32} {ws : List Int32} {fs : List ct_F} {ms : List ct_XM} {XC : Nat → List ct_F × List ct_XM}
    (T : xr_T F G hot fz nr (q, ct, ws) fs ms XC nc) (Nx : xr_N F G xst pf rs mo no og) (hi : i < 4000000) (hb : hot < 168) (hC : G 11 = C) (hO : G 12 = O) (h : cg_Fl C O pi q q1) (hs : xst + pi ≤ 150) :
    ∃ i' F' G', ex_go i F G i' F' G' ∧ xr_T F' G' hot fz nr (q1, ct, ws) fs ms XC nc ∧ xr_N F' G' (xst + pi) pf rs mo no og ∧ xr_I F G F' G' ∧ i' ≤ i + pi ∧ i' ≤ i + 1 := by
  rcases h with ⟨rfl, rfl⟩ | ⟨h1, h2, h3, h4, rfl⟩
  · exact ⟨i, F, G, ex_rf, T, Nx, xr_Irf, by omega, by omega⟩
  · obtain ⟨F', G', g1, g2, g3, g4⟩ := xj_tick (i := i) T Nx hi hb (by rw [hC]; exact h3) ((congrFun hO q).trans h4) hs
    exact ⟨i + 1, F', G', g1, g2, g3, g4, by omega, by omega⟩
section
variable {kd pa pb pc nn sz en se hb : Nat → Nat} {N C O BD BT : Nat → Int32} {nb : Nat} {F : Nat → Int32} {G : Nat → Nat → Int32} {FY : Nat → Int32} {GY : Nat → Nat → Int32} {hot fz nr nc : Nat} {XC : Nat → List ct_F × List ct_XM} {nT nM ncY : Nat} {YC : Nat → List ct_T × List ct_YM} {ym : Nat → Nat} {st xst pf rs mo no : Nat} {og : Nat → Int32} {pi : Nat}
theorem fl_w {kd pa pb pc nn sz : Nat → Nat} {N C O BD BT : Nat → Int32} {nb nc : Nat} {ym : Nat → Nat} : ∀ (fs : List ct_F) (L : List ct_T), fl_R kd pa pb pc nn sz N C O BD BT nb nc ym fs L → ∀ q, q ∈ fs → q.2.2.length ≤ 8 := by
  intro fs
  induction fs with
  | nil => intro L _ q hq; simp at hq
  | cons fr fs ih =>
    obtain ⟨p, ct, ws⟩ := fr
    rintro L ⟨n, d, yh, ths, L', _, _, _, h4, _, _, _, h8⟩ q hq
    rcases List.mem_cons.mp hq with rfl | hq
    · exact h4
    · exact ih L' h8 q hq
theorem mk_w {kd pa pb pc nn sz : Nat → Nat} {N C O BD BT : Nat → Int32} {nb nc : Nat} {ym : Nat → Nat} : ∀ (ms : List ct_XM) (yms : List ct_YM), mk_R kd pa pb pc nn sz N C O BD BT nb nc ym ms yms → ∀ m, m ∈ ms → ∀ q, q ∈ m.2.2 → q.2.2.length ≤ 8 := by
  intro ms
  induction ms with
  | nil => intro L _ q hq; simp at hq
  | cons m ms ih =>
    obtain ⟨h, s, fs⟩ := m
    rintro yms ⟨L, yms', _, h2, h3⟩ m hm
    rcases List.mem_cons.mp hm with rfl | hm
    · exact fl_w _ _ h2
    · exact ih _ h3 m hm
/-- a R-state made anew at the same step -/
theorem sm_Xr {F' : Nat → Int32} {G' : Nat → Nat → Int32} {FY' : Nat → Int32} {GY' : Nat → Nat → Int32} {i i' phi phi' : Nat} (a : ex_go i F G i' F' G') (b : ey_go FY GY FY' GY') (I : xr_I F G F' G') (J : ry_I FY GY FY' GY') (h : phi' < phi) (H : sm_R kd pa pb pc nn sz en se hb N C O BD BT nb i' F' G' FY' GY' st phi') : sm_X kd pa pb pc nn sz en se hb N C O BD BT nb i F G FY GY st phi :=
  Or.inr ⟨i', F', G', FY', GY', st, a, b, I, J, Or.inr ⟨rfl, Or.inr ⟨phi', h, H⟩⟩⟩
theorem sm_Xb {F' : Nat → Int32} {G' : Nat → Nat → Int32} {FY' : Nat → Int32} {GY' : Nat → Nat → Int32} {i i' phi : Nat} (a : ex_go i F G i' F' G') (b : ey_go FY GY FY' GY') (I : xr_I F G F' G') (J : ry_I FY GY FY' GY') (H : sm_B kd pa pb pc nn sz en se hb N C O BD BT nb i' F' G' FY' GY' st) : sm_X kd pa pb pc nn sz en se hb N C O BD BT nb i F G FY GY st phi :=
  Or.inr ⟨i', F', G', FY', GY', st, a, b, I, J, Or.inr ⟨rfl, Or.inl H⟩⟩
theorem sm_Xb1 {F' : Nat → Int32} {G' : Nat → Nat → Int32} {FY' : Nat → Int32} {GY' : Nat → Nat → Int32} {i i' phi st' : Nat} (a : ex_go i F G i' F' G') (b : ey_go FY GY FY' GY') (I : xr_I F G F' G') (J : ry_I FY GY FY' GY') (h : st < st') (H : sm_B kd pa pb pc nn sz en se hb N C O BD BT nb i' F' G' FY' GY' st') : sm_X kd pa pb pc nn sz en se hb N C O BD BT nb i F G FY GY st phi :=
  Or.inr ⟨i', F', G', FY', GY', st', a, b, I, J, Or.inl ⟨h, Or.inl H⟩⟩
theorem sm_Xr1 {F' : Nat → Int32} {G' : Nat → Nat → Int32} {FY' : Nat → Int32} {GY' : Nat → Nat → Int32} {i i' phi phi' st' : Nat} (a : ex_go i F G i' F' G') (b : ey_go FY GY FY' GY') (I : xr_I F G F' G') (J : ry_I FY GY FY' GY') (h : st < st') (H : sm_R kd pa pb pc nn sz en se hb N C O BD BT nb i' F' G' FY' GY' st' phi') : sm_X kd pa pb pc nn sz en se hb N C O BD BT nb i F G FY GY st phi :=
  Or.inr ⟨i', F', G', FY', GY', st', a, b, I, J, Or.inl ⟨h, Or.inr ⟨phi', H⟩⟩⟩
variable {i q ct : Nat} {v : Int32} {ws : List Int32} {fs : List ct_F} {ms : List ct_XM} {ths L : List ct_T} {yms : List ct_YM} {d n yh phi : Nat} {sh : Bool}
/-- the end of a frame -/
theorem sr_E (hP : sp_R kd pa pb pc nn sz en se hb N C O BD BT nb) (Q : sm_Q kd pa pb pc nn sz en se hb N C O BD BT nb 0 F G FY GY hot fz nr nc XC nT nM ncY YC ym st xst pf rs mo no og pi (q, ct, v :: ws) fs ms L yms) (V : ry_V FY v) (hphi : phi = (n + 1) + 12 * (fs.length + sg_n ms)) (hi : i + phi ≤ 25300 * (st + 1) + xst) (rest : rs_R kd pa pb pc nn sz N C O BD BT nb nc ym YC ncY false d ct yh fs ms L yms)
    (hR : ct_R C O q pi) : sm_X kd pa pb pc nn sz en se hb N C O BD BT nb i F G FY GY st phi := by
  obtain ⟨T, Nx, S, Ny, sx, sy, cr, b1, b2, b3, b4, b5, b6, b7, b8, b9, b10, b11, b12⟩ := Q
  obtain ⟨q1, h1, h2⟩ := hR
  rcases rest with ⟨_, hfl, hmk, _⟩ | ⟨z, _⟩
  · have hW := sm_W (ml := 0) (b := 0) T.2.2.2.2.2.2.2.1 (by omega) b4 b2 (by omega)
    obtain ⟨i1, F1, G1, g1, g2, g3, g4, g5, g6⟩ := sm_tick (i := i) T Nx (by omega) (by omega) sx.1 sx.2.1 h1 (by omega)
    have sx1 := sx_I (F := F) (F' := F) sx g4.2
    obtain ⟨F2, G2, e1, e2, e3, e4⟩ := xj_leave (i := i1) (sz := sz) (en := en) g2 g3 (by omega) (by omega) (by rw [sx1.1]; exact h2) sx1.2.2.1 hP.1 (fun q hq => sx1.2.2.2.1 q (by omega)) hP.2.2.1 (by omega) (by omega) (fl_w _ _ hfl) (mk_w _ _ hmk)
    have I2 : xr_I F1 G1 F2 G2 := ⟨fun k hk => e3 k (Or.inl hk), fun k hk => e4 k (Or.inl hk)⟩
    rw [← b1] at g3
    rcases sm_del hP (i := i1 + 1) e2 (xr_N0 g3 (fun k hk => e3 k (Or.inr hk)) (e4 _ (by decide))) S Ny V hfl hmk cr (sx_I (F := F) (F' := F) sx1 I2.2) sy ⟨rfl, b2, b3, b4, b5, b6, b7, b8, b9, b10, b11, b12⟩ (by omega) with r | ⟨FY', r1, r2, r3 | ⟨phi', r3, r4⟩⟩
    · exact Or.inl (sm_tr (ex_tr g1 e1) ey_rf (xr_Itr g4 I2) ry_Irf r)
    · exact sm_Xb (ex_tr g1 e1) r1 (xr_Itr g4 I2) r2 r3
    · exact sm_Xr (ex_tr g1 e1) r1 (xr_Itr g4 I2) r2 (by omega) r4
  · exact absurd z (by decide)
/-- behind a let -/
theorem sr_S {x : Int32} (Q : sm_Q kd pa pb pc nn sz en se hb N C O BD BT nb 0 F G FY GY hot fz nr nc XC nT nM ncY YC ym st xst pf rs mo no og pi (q, ct, v :: x :: ws) fs ms (ths ++ L) yms) (V : ry_V FY v) (hd : d < 16) (hn : n + 1 ≤ 12) (hyh : yh < 152) (hphi : phi = (n + 1) + 12 * (fs.length + sg_n ms)) (hi : i + phi ≤ 25300 * (st + 1) + xst) (hs : sm_s kd sz sh d)
    (rest : rs_R kd pa pb pc nn sz N C O BD BT nb nc ym YC ncY sh d ct yh fs ms L yms) (h1 : cg_at C q 6) (hK : ct_K kd pa pb pc nn N d C O BD BT nb (sz d) sh yh n (q + 1) pi ws ths) : sm_X kd pa pb pc nn sz en se hb N C O BD BT nb i F G FY GY st phi := by
  obtain ⟨T, Nx, S, Ny, sx, sy, cr, b1, b2, b3, b4, b5, b6, b7, b8, b9, b10, b11, b12⟩ := Q
  obtain ⟨G1, g1, g2, g3, g4⟩ := xj_slide (i := i) T Nx (by omega) (by omega) (by rw [sx.1]; exact h1)
  exact sm_Xr (phi' := n + 12 * (fs.length + sg_n ms)) g1 ey_rf g4 ry_Irf (by omega) ⟨hot, fz, nr, nc, XC, nT, nM, ncY, YC, ym, xst, pf, rs, mo, no, og, pi, q + 1, ct, v, ws, fs, ms, ths, L, yms, d, n, yh, sh,
    ⟨g2, g3, S, Ny, sx_I (F := F) (F' := F) sx g4.2, sy, cr, b1, b2, b3, b4, b5, b6, b7, b8, b9, b10, b11, b12⟩, V, ⟨hd, by omega, hyh, rfl, by omega⟩, hK, hs, rest⟩
/-- behind a side of a choose -/
theorem sr_J1 {q1 e : Nat} (Q : sm_Q kd pa pb pc nn sz en se hb N C O BD BT nb 0 F G FY GY hot fz nr nc XC nT nM ncY YC ym st xst pf rs mo no og pi (q, ct, v :: ws) fs ms (ths ++ L) yms) (V : ry_V FY v) (hd : d < 16) (hn : n + 1 ≤ 12) (hyh : yh < 152) (hphi : phi = (n + 1) + 12 * (fs.length + sg_n ms)) (hi : i + phi ≤ 25300 * (st + 1) + xst) (hs : sm_s kd sz sh d)
    (rest : rs_R kd pa pb pc nn sz N C O BD BT nb nc ym YC ncY sh d ct yh fs ms L yms) (h1 : cg_Fl C O pi q q1) (h2 : cg_at C q1 8) (h3 : O q1 = nI e) (h4 : e < 1200) (hK : ct_K kd pa pb pc nn N d C O BD BT nb (sz d) sh yh n e 0 ws ths) : sm_X kd pa pb pc nn sz en se hb N C O BD BT nb i F G FY GY st phi := by
  obtain ⟨T, Nx, S, Ny, sx, sy, cr, b1, b2, b3, b4, b5, b6, b7, b8, b9, b10, b11, b12⟩ := Q
  obtain ⟨i1, F1, G1, g1, g2, g3, g4, g5, g6⟩ := sm_tick (i := i) T Nx (by omega) (by omega) sx.1 sx.2.1 h1 (by omega)
  have sx1 := sx_I (F := F) (F' := F) sx g4.2
  obtain ⟨G2, e1, e2, e3, e4⟩ := xj_jump (i := i1) g2 g3 (by omega) (by omega) (by rw [sx1.1]; exact h2) ((congrFun sx1.2.1 q1).trans h3) h4
  exact sm_Xr (phi' := n + 12 * (fs.length + sg_n ms)) (ex_tr g1 e1) ey_rf (xr_Itr g4 e4) ry_Irf (by omega) ⟨hot, fz, nr, nc, XC, nT, nM, ncY, YC, ym, xst + pi, pf, rs, mo, no, og, 0, e, ct, v, ws, fs, ms, ths, L, yms, d, n, yh, sh,
    ⟨e2, e3, S, Ny, sx_I (F := F) (F' := F) sx1 e4.2, sy, cr, b1, b2, b3, b4, b5, b6, b7, b8, b9, b10, b11, b12⟩, V, ⟨hd, by omega, hyh, rfl, by omega⟩, hK, hs, rest⟩
theorem sr_J2 {q1 : Nat} (Q : sm_Q kd pa pb pc nn sz en se hb N C O BD BT nb 0 F G FY GY hot fz nr nc XC nT nM ncY YC ym st xst pf rs mo no og pi (q, ct, v :: ws) fs ms (ths ++ L) yms) (V : ry_V FY v) (hd : d < 16) (hn : n + 1 ≤ 12) (hyh : yh < 152) (hphi : phi = (n + 1) + 12 * (fs.length + sg_n ms)) (hi : i + phi ≤ 25300 * (st + 1) + xst) (hs : sm_s kd sz sh d)
    (rest : rs_R kd pa pb pc nn sz N C O BD BT nb nc ym YC ncY sh d ct yh fs ms L yms) (h1 : cg_Fl C O pi q q1) (hK : ct_K kd pa pb pc nn N d C O BD BT nb (sz d) sh yh n q1 0 ws ths) : sm_X kd pa pb pc nn sz en se hb N C O BD BT nb i F G FY GY st phi := by
  obtain ⟨T, Nx, S, Ny, sx, sy, cr, b1, b2, b3, b4, b5, b6, b7, b8, b9, b10, b11, b12⟩ := Q
  obtain ⟨i1, F1, G1, g1, g2, g3, g4, g5, g6⟩ := sm_tick (i := i) T Nx (by omega) (by omega) sx.1 sx.2.1 h1 (by omega)
  exact sm_Xr (phi' := n + 12 * (fs.length + sg_n ms)) g1 ey_rf g4 ry_Irf (by omega) ⟨hot, fz, nr, nc, XC, nT, nM, ncY, YC, ym, xst + pi, pf, rs, mo, no, og, 0, q1, ct, v, ws, fs, ms, ths, L, yms, d, n, yh, sh,
    ⟨g2, g3, S, Ny, sx_I (F := F) (F' := F) sx g4.2, sy, cr, b1, b2, b3, b4, b5, b6, b7, b8, b9, b10, b11, b12⟩, V, ⟨hd, by omega, hyh, rfl, by omega⟩, hK, hs, rest⟩
end
end
section
/-! a value has come to the first part of a node -/
theorem ty_6 {k n : Nat} (h : k ≤ 3) : ty_so k n = 10 + k := by unfold ty_so; rw [if_neg (by omega), if_neg (by omega), if_neg (by omega), if_neg (by omega), if_neg (by omega), if_pos h]
theorem ty_4 {k n : Nat} (h : k = 4) : ty_so k n = 14 + n := by rw [h]; rfl
theorem ty_5 {k n : Nat} (h : k = 5) : ty_so k n = 17 + n := by rw [h]; rfl
theorem ty_s6 {k n : Nat} (h : k = 6) : ty_so k n = 20 := by rw [h]; rfl
theorem ty_7 {k n : Nat} (h : k = 7) : ty_so k n = 2 := by rw [h]; rfl
theorem ty_8 {k n : Nat} (h : k = 8) : ty_so k n = 3 + n := by rw [h]; rfl
theorem ty_9 {k n : Nat} (h : k = 9) : ty_so k n = 7 + n := by rw [h]; rfl
theorem ty_10 {k n : Nat} (h : k = 10) : ty_so k n = 21 := by rw [h]; rfl
section
variable {kd pa pb pc nn sz en se hb : Nat → Nat} {N C O BD BT : Nat → Int32} {nb : Nat} {F : Nat → Int32} {G : Nat → Nat → Int32} {FY : Nat → Int32} {GY : Nat → Nat → Int32} {hot fz nr nc : Nat} {XC : Nat → List ct_F × List ct_XM} {nT nM ncY : Nat} {YC : Nat → List ct_T × List ct_YM} {ym : Nat → Nat} {st xst pf rs mo no : Nat} {og : Nat → Int32} {pi : Nat}
variable {i q ct : Nat} {v : Int32} {ws : List Int32} {fs : List ct_F} {ms : List ct_XM} {L : List ct_T} {yms : List ct_YM} {d n yh phi : Nat} {sh : Bool}
variable {t m md : Nat} {sv x0 x1 x2 : Int32} {ths' : List ct_T} {pl : Nat → Nat}
theorem sr_1b (hP : sp_R kd pa pb pc nn sz en se hb N C O BD BT nb) (Q : sm_Q kd pa pb pc nn sz en se hb N C O BD BT nb 0 F G FY GY hot fz nr nc XC nT nM ncY YC ym st xst pf rs mo no og pi (q, ct, v :: ws) fs ms (((12 * d + t, 1, sv, x0, x1, x2, yh) :: ths') ++ L) yms) (V : ry_V FY v) (hd : d < 16) (hyh : yh < 152) (hi : i + phi ≤ 25300 * (st + 1) + xst) (hs : sm_s kd sz sh d)
    (rest : rs_R kd pa pb pc nn sz N C O BD BT nb nc ym YC ncY sh d ct yh fs ms L yms) (ht : t < sz d) (hnt : n + t ≤ 12) (hm : m ≤ 12) (env : wd_env pl ws x0 x1 x2) (c1 : md ≠ 0 → ths' = [] ∧ 1 ≤ n) (c2 : md = 1 → sh = false) (c3 : 2 ≤ md → sh = true ∧ kd (12 * d + t) = 6)
    (c4 : sh = true → kd (12 * d + t) ≠ 5 ∧ kd (12 * d + t) ≠ 8 ∧ kd (12 * d + t) ≠ 9 ∧ (kd (12 * d + t) = 6 → 2 ≤ md)) (hk : kd (12 * d + t) ≤ 3 ∨ kd (12 * d + t) = 6) (hE : cg_E kd pa pb pc nn N d C O BD BT nb m 0 (pb (12 * d + t)) pl (ws.length + 1) pi q (cg_2 kd d C O md t (ct_k C O md (fun q pi => ct_K kd pa pb pc nn N d C O BD BT nb (sz d) sh yh n q pi ws ths')))) : sm_X kd pa pb pc nn sz en se hb N C O BD BT nb i F G FY GY st phi := by
  obtain ⟨T, Nx, S, Ny, sx, sy, cr, b1, b2, b3, b4, b5, b6, b7, b8, b9, b10, b11, b12⟩ := Q
  obtain ⟨k1, k2, k3, k4, k5, k6, k7, k8, k9⟩ := hP.2.2.2.2.1 d t hd ht
  obtain ⟨y1, y2, y3, y4⟩ := sy.2 d t hd ht
  have hsz := hP.1 d
  have hb3 := k3 (by omega)
  obtain ⟨FY', GY', g1, g2, g3, g4, g5⟩ := yr_bin (so := ty_so (kd (12 * d + t)) (nn (12 * d + t))) S Ny V (by omega) y1 (by
    rcases hk with h | h
    · rw [ty_6 h]; omega
    · rw [ty_s6 h]; omega) (y3 (by omega))
  rw [yk_ix (by omega)] at g4
  refine sm_Xb ex_rf g1 xr_Irf g5 ?_
  have E1 : cg_E kd pa pb pc nn N d C O BD BT nb m 0 (pb (12 * d + t)) pl (v :: ws).length pi q (ct_k C O 0 (fun q pi => ct_K kd pa pb pc nn N d C O BD BT nb (sz d) sh yh (n + 1) q pi (v :: ws) ((12 * d + t, 2, v, x0, x1, x2, yh) :: ths'))) := by
    refine cg_Emono _ _ _ _ _ _ _ _ _ (fun q pi' hq => Or.inl ⟨rfl, ?_⟩) hE
    exact Or.inr (Or.inr (Or.inr (Or.inr (Or.inr ⟨t, v, x0, x1, x2, ths', md, ws, rfl, ht, hnt, rfl, c1, c2, c3, fun z => (c4 z).2.2.2, hq⟩))))
  exact ⟨hot, fz, nr, nc, XC, nT + 1, nM, ncY, YC, ym, xst, pf, rs, mo, no, og, pi, q, ct, v :: ws, fs, ms, (12 * d + t, 2, v, x0, x1, x2, yh) :: ths', L, yms, d, pb (12 * d + t), n + 1, m, 0, pl, x0, x1, x2, yh, sh,
      ⟨T, Nx, g2, g3, sx, sy_I sy g5.2, cr, by omega, by omega, by omega, by omega, by omega, by omega, by omega, by omega, by omega, by omega, by omega, by omega⟩, g4, ⟨hd, by omega, by omega, hm, hyh, by omega⟩, E1, wd_cons env,
      ⟨fun z => absurd rfl z, fun z => absurd z (by omega), fun z => absurd z (by omega), fun _ z => absurd z (by omega)⟩, hs, rest⟩
theorem sr_1l (hP : sp_R kd pa pb pc nn sz en se hb N C O BD BT nb) (Q : sm_Q kd pa pb pc nn sz en se hb N C O BD BT nb 0 F G FY GY hot fz nr nc XC nT nM ncY YC ym st xst pf rs mo no og pi (q, ct, v :: ws) fs ms (((12 * d + t, 1, sv, x0, x1, x2, yh) :: ths') ++ L) yms) (V : ry_V FY v) (hd : d < 16) (hyh : yh < 152) (hi : i + phi ≤ 25300 * (st + 1) + xst) (hs : sm_s kd sz sh d)
    (rest : rs_R kd pa pb pc nn sz N C O BD BT nb nc ym YC ncY sh d ct yh fs ms L yms) (ht : t < sz d) (hnt : n + t ≤ 12) (hm : m ≤ 12) (env : wd_env pl ws x0 x1 x2) (c1 : md ≠ 0 → ths' = [] ∧ 1 ≤ n) (c2 : md = 1 → sh = false) (c3 : 2 ≤ md → sh = true ∧ kd (12 * d + t) = 6)
    (hk : kd (12 * d + t) = 4) (hE : cg_E kd pa pb pc nn N d C O BD BT nb m md (pb (12 * d + t)) (cg_pl pl (nn (12 * d + t)) ws.length) (ws.length + 1) pi q (fun p2 pi2 => (md ≠ 0 ∧ ct_k C O md (fun q pi => ct_K kd pa pb pc nn N d C O BD BT nb (sz d) sh yh n q pi ws ths') p2 pi2) ∨ (md = 0 ∧ cg_at C p2 6 ∧ ct_k C O md (fun q pi => ct_K kd pa pb pc nn N d C O BD BT nb (sz d) sh yh n q pi ws ths') (p2 + 1) pi2))) : sm_X kd pa pb pc nn sz en se hb N C O BD BT nb i F G FY GY st phi := by
  obtain ⟨T, Nx, S, Ny, sx, sy, cr, b1, b2, b3, b4, b5, b6, b7, b8, b9, b10, b11, b12⟩ := Q
  obtain ⟨k1, k2, k3, k4, k5, k6, k7, k8, k9⟩ := hP.2.2.2.2.1 d t hd ht
  obtain ⟨y1, y2, y3, y4⟩ := sy.2 d t hd ht
  have hsz := hP.1 d
  have hb3 := k3 (by omega)
  have hn := k8 hk
  obtain ⟨FY', g1, g2, g3, g4, g5⟩ := yr_let S Ny V (by omega) (y1.trans (by rw [ty_4 hk])) hn (y3 (by omega))
  rw [yk_ix (by omega)] at g4
  refine sm_Xb ex_rf g1 xr_Irf g5 ?_
  have E1 : cg_E kd pa pb pc nn N d C O BD BT nb m md (pb (12 * d + t)) (cg_pl pl (nn (12 * d + t)) ws.length) (v :: ws).length pi q (ct_k C O md (fun q pi => ct_K kd pa pb pc nn N d C O BD BT nb (sz d) sh yh (n + 1) q pi (v :: ws) ths')) := by
    refine cg_Emono _ _ _ _ _ _ _ _ _ (fun q pi' hq => ?_) hE
    rcases hq with ⟨z, hq⟩ | ⟨z, h6, hq⟩
    · rcases hq with ⟨z', _⟩ | ⟨_, hq⟩
      · exact absurd z' z
      · exact Or.inr ⟨z, hq⟩
    · rcases hq with ⟨_, hq⟩ | ⟨z', _⟩
      · exact Or.inl ⟨z, Or.inr (Or.inl ⟨v, ws, rfl, h6, hq⟩)⟩
      · exact absurd z z'
  exact ⟨hot, fz, nr, nc, XC, nT, nM, ncY, YC, ym, xst, pf, rs, mo, no, og, pi, q, ct, v :: ws, fs, ms, ths', L, yms, d, pb (12 * d + t), n + 1, m, md, cg_pl pl (nn (12 * d + t)) ws.length, _, _, _, yh, sh,
      ⟨T, Nx, g2, g3, sx, sy, cr, by omega, by omega, by omega, by omega, by omega, by omega, by omega, by omega, by omega, by omega, by omega, by omega⟩, g4, ⟨hd, by omega, by omega, hm, hyh, by omega⟩, E1, wd_let env hn,
      ⟨fun z => ⟨(c1 z).1, by omega⟩, c2, fun z => absurd (c3 z).2 (by omega), fun _ z => absurd z (by omega)⟩, hs, rest⟩
theorem sr_1x {p2 e : Nat} (hP : sp_R kd pa pb pc nn sz en se hb N C O BD BT nb) (Q : sm_Q kd pa pb pc nn sz en se hb N C O BD BT nb 0 F G FY GY hot fz nr nc XC nT nM ncY YC ym st xst pf rs mo no og pi (q, ct, v :: ws) fs ms (((12 * d + t, 1, sv, x0, x1, x2, yh) :: ths') ++ L) yms) (V : ry_V FY v) (hd : d < 16) (hyh : yh < 152) (hi : i + phi ≤ 25300 * (st + 1) + xst) (hphi : 1 ≤ phi) (hs : sm_s kd sz sh d)
    (rest : rs_R kd pa pb pc nn sz N C O BD BT nb nc ym YC ncY sh d ct yh fs ms L yms) (ht : t < sz d) (hnt : n + t ≤ 12) (hm : m ≤ 12) (env : wd_env pl ws x0 x1 x2) (c1 : md ≠ 0 → ths' = [] ∧ 1 ≤ n) (c2 : md = 1 → sh = false) (c3 : 2 ≤ md → sh = true ∧ kd (12 * d + t) = 6)
    (hk : kd (12 * d + t) = 10) (hF : cg_Fl C O pi q p2) (h7 : cg_at C p2 7) (hO : O p2 = nI e) (he : e < 1200)
    (hE1 : cg_E kd pa pb pc nn N d C O BD BT nb m md (pb (12 * d + t)) pl ws.length 0 (p2 + 1) (fun p3 pi3 => (md ≠ 0 ∧ ct_k C O md (fun q pi => ct_K kd pa pb pc nn N d C O BD BT nb (sz d) sh yh n q pi ws ths') p3 pi3) ∨ (md = 0 ∧ ∃ p4 q', cg_Fl C O pi3 p3 p4 ∧ cg_at C p4 8 ∧ O p4 = nI q' ∧ q' < 1200 ∧ ct_k C O md (fun q pi => ct_K kd pa pb pc nn N d C O BD BT nb (sz d) sh yh n q pi ws ths') q' 0)))
    (hE2 : cg_E kd pa pb pc nn N d C O BD BT nb m md (pc (12 * d + t)) pl ws.length 0 e (fun p5 pi5 => (md ≠ 0 ∧ ct_k C O md (fun q pi => ct_K kd pa pb pc nn N d C O BD BT nb (sz d) sh yh n q pi ws ths') p5 pi5) ∨ (md = 0 ∧ ∃ q', cg_Fl C O pi5 p5 q' ∧ ct_k C O md (fun q pi => ct_K kd pa pb pc nn N d C O BD BT nb (sz d) sh yh n q pi ws ths') q' 0))) : sm_X kd pa pb pc nn sz en se hb N C O BD BT nb i F G FY GY st phi := by
  obtain ⟨T, Nx, S, Ny, sx, sy, cr, b1, b2, b3, b4, b5, b6, b7, b8, b9, b10, b11, b12⟩ := Q
  obtain ⟨k1, k2, k3, k4, k5, k6, k7, k8, k9⟩ := hP.2.2.2.2.1 d t hd ht
  obtain ⟨y1, y2, y3, y4⟩ := sy.2 d t hd ht
  have hsz := hP.1 d
  have hb3 := k3 (by omega)
  have hb4 := k4 hk
  obtain ⟨i1, F1, G1, g1, g2, g3, g4, g5, g6⟩ := sm_tick (i := i) T Nx (by omega) (by omega) sx.1 sx.2.1 hF (by omega)
  have sx1 := sx_I (F := F) (F' := F) sx g4.2
  obtain ⟨G2, e1, e2, e3, e4⟩ := xj_jz (i := i1) g2 g3 (by omega) (by omega) (by rw [sx1.1]; exact h7) ((congrFun sx1.2.1 p2).trans hO) he
  obtain ⟨FY', r1, r2, r3, r4, r5⟩ := yr_cho (b := if v = 0 then pc (12 * d + t) else pb (12 * d + t)) S Ny V (by omega) (y1.trans (by rw [ty_10 hk]; rfl)) (by
          by_cases zx : v = 0
          · rw [if_pos zx, if_pos zx]; exact y4 hk
          · rw [if_neg zx, if_neg zx]; exact y3 (Or.inr hk))
  rw [yk_ix (by omega)] at r4
  refine sm_Xb (ex_tr g1 e1) r1 (xr_Itr g4 e4) r5 ?_
  have hq : (if v = 0 then pc (12 * d + t) else pb (12 * d + t)) < t := by split <;> omega
  have E1 : cg_E kd pa pb pc nn N d C O BD BT nb m md (if v = 0 then pc (12 * d + t) else pb (12 * d + t)) pl ws.length 0 (if v = 0 then e else p2 + 1) (ct_k C O md (fun q pi => ct_K kd pa pb pc nn N d C O BD BT nb (sz d) sh yh (n + 1) q pi ws ths')) := by
    by_cases zx : v = 0
    · rw [if_pos zx, if_pos zx]
      refine cg_Emono _ _ _ _ _ _ _ _ _ (fun q pi' hq => ?_) hE2
      rcases hq with ⟨z, hq⟩ | ⟨z, q', h6, hq⟩
      · rcases hq with ⟨z', _⟩ | ⟨_, hq⟩
        · exact absurd z' z
        · exact Or.inr ⟨z, hq⟩
      · rcases hq with ⟨_, hq⟩ | ⟨z', _⟩
        · exact Or.inl ⟨z, Or.inr (Or.inr (Or.inr (Or.inl ⟨q', h6, hq⟩)))⟩
        · exact absurd z z'
    · rw [if_neg zx, if_neg zx]
      refine cg_Emono _ _ _ _ _ _ _ _ _ (fun q pi' hq => ?_) hE1
      rcases hq with ⟨z, hq⟩ | ⟨z, p4, q', h6, h7, h8, h9, hq⟩
      · rcases hq with ⟨z', _⟩ | ⟨_, hq⟩
        · exact absurd z' z
        · exact Or.inr ⟨z, hq⟩
      · rcases hq with ⟨_, hq⟩ | ⟨z', _⟩
        · exact Or.inl ⟨z, Or.inr (Or.inr (Or.inl ⟨p4, q', h6, h7, h8, h9, hq⟩))⟩
        · exact absurd z z'
  exact ⟨hot, fz, nr, nc, XC, nT, nM, ncY, YC, ym, xst + pi, pf, rs, mo, no, og, 0, _, ct, ws, fs, ms, ths', L, yms, d, (if v = 0 then pc (12 * d + t) else pb (12 * d + t)), n + 1, m, md, pl, x0, x1, x2, yh, sh,
      ⟨e2, e3, r2, r3, sx_I (F := F) (F' := F) sx1 e4.2, sy, cr, by omega, by omega, by omega, by omega, by omega, by omega, by omega, by omega, by omega, by omega, by omega, by omega⟩, r4, ⟨hd, by omega, by omega, hm, hyh, by omega⟩, E1, env,
      ⟨fun z => ⟨(c1 z).1, by omega⟩, c2, fun z => absurd (c3 z).2 (by omega), fun _ z => absurd z (by omega)⟩, hs, rest⟩
theorem sr_1p {p2 : Nat} (hP : sp_R kd pa pb pc nn sz en se hb N C O BD BT nb) (Q : sm_Q kd pa pb pc nn sz en se hb N C O BD BT nb 0 F G FY GY hot fz nr nc XC nT nM ncY YC ym st xst pf rs mo no og pi (q, ct, v :: ws) fs ms (((12 * d + t, 1, sv, x0, x1, x2, yh) :: ths') ++ L) yms) (V : ry_V FY v) (hd : d < 16) (hyh : yh < 152) (hi : i + phi ≤ 25300 * (st + 1) + xst) (hs : sm_s kd sz sh d)
    (rest : rs_R kd pa pb pc nn sz N C O BD BT nb nc ym YC ncY sh d ct yh fs ms L yms) (ht : t < sz d) (hnt : n + t ≤ 12) (c1 : md ≠ 0 → ths' = [] ∧ 1 ≤ n) (c2 : md = 1 → sh = false) (c3 : 2 ≤ md → sh = true ∧ kd (12 * d + t) = 6)
    (hk : kd (12 * d + t) = 7) (hF : cg_Fl C O (pi + 1) q p2) (h10 : cg_at C p2 10) (hka : ct_k C O md (fun q pi => ct_K kd pa pb pc nn N d C O BD BT nb (sz d) sh yh n q pi ws ths') (p2 + 1) 0) : sm_X kd pa pb pc nn sz en se hb N C O BD BT nb i F G FY GY st phi := by
  obtain ⟨T, Nx, S, Ny, sx, sy, cr, b1, b2, b3, b4, b5, b6, b7, b8, b9, b10, b11, b12⟩ := Q
  obtain ⟨y1, y2, y3, y4⟩ := sy.2 d t hd ht
  have hW := sm_W (ml := 0) (b := 0) T.2.2.2.2.2.2.2.1 (by omega) b4 b2 (by omega)
  by_cases h150 : st = 150
  · subst h150
    obtain ⟨FY', r1, r2, r3, r4, r5⟩ := yr_putT S Ny V (by omega) (y1.trans (by rw [ty_7 hk]; rfl))
    exact Or.inl (sm_tired (dm_fl (i := i) T Nx (by omega) (by omega) sx.1 sx.2.1 (by omega) hF (by omega)) ⟨FY', GY, r1, r2, r3, r4, r5⟩ (by omega) (by omega))
  obtain ⟨i1, F1, G1, g1, g2, g3, g4, g5, g6⟩ := sm_tick (i := i) T Nx (by omega) (by omega) sx.1 sx.2.1 hF (by omega)
  have sx1 := sx_I (F := F) (F' := F) sx g4.2
  obtain ⟨F2, G2, e1, e2, e3, e4⟩ := xj_show (i := i1) g2 g3 (by omega) (by omega) (by rw [sx1.1]; exact h10) (by omega)
  obtain ⟨FY', GY', r1, r2, r3, r4, r5⟩ := yr_put S Ny V (by omega) (y1.trans (by rw [ty_7 hk]; rfl)) (by omega) (by omega)
  obtain ⟨n', hn', hK⟩ : ∃ n', n' ≤ 12 ∧ ct_K kd pa pb pc nn N d C O BD BT nb (sz d) sh yh n' (p2 + 1) 0 ws ths' := by
    rcases hka with ⟨z, hk⟩ | ⟨z, hk'⟩
    · exact ⟨n, by omega, hk⟩
    · have hsh : sh = false := by
        by_cases z1 : md = 1
        · exact c2 z1
        · exact absurd (c3 (by omega)).2 (by omega)
      exact ⟨1, by omega, Or.inl ⟨hsh, (c1 z).1, hk'⟩⟩
  refine sm_Xr1 (phi' := n' + 12 * (fs.length + sg_n ms)) (ex_tr g1 e1) r1 (xr_Itr g4 e4) r5 (Nat.lt_succ_self st) ?_
  exact ⟨hot, fz, nr, nc, XC, nT, nM, ncY, YC, ym, xst + (pi + 1), pf, rs, mo, no + 1, upd og no v, 0, p2 + 1, ct, v, ws, fs, ms, ths', L, yms, d, n', yh, sh,
    ⟨e2, e3, r2, r3, sx_I (F := F) (F' := F) sx1 e4.2, sy_I sy r5.2, cr, by omega, by omega, by omega, by omega, by omega, by omega, by omega, by omega, by omega, by omega, by omega, by omega⟩, r4, ⟨hd, hn', hyh, rfl, by omega⟩, hK, hs, rest⟩
/-- the frames behind a transfer -/
theorem fl_cut {l p2 : Nat} (hl : (l = 0 ∧ ct_K kd pa pb pc nn N d C O BD BT nb (sz d) false yh n p2 0 ws ths') ∨ (l = 1 ∧ ths' = [])) (hn : n ≤ 12) (hd : d < 16) (hw : ws.length ≤ 8) (hyh : yh < 152) (hH : fl_H kd sz nc ym d ct yh) (hf : fl_R kd pa pb pc nn sz N C O BD BT nb nc ym fs L) : fl_R kd pa pb pc nn sz N C O BD BT nb nc ym (xc_f l (p2, ct, ws) fs) (ths' ++ L) := by
  rcases hl with ⟨rfl, hK⟩ | ⟨rfl, rfl⟩
  · exact ⟨n, d, yh, ths', L, rfl, hn, hd, hw, hyh, hK, hH, hf⟩
  · exact hf
theorem xc_le {l hot : Nat} : xc_h l hot ≤ hot + 1 := by unfold xc_h; split <;> omega
theorem xc_n {l : Nat} {fr : ct_F} : (xc_f l fr fs).length ≤ fs.length + 1 := by unfold xc_f; split <;> simp
theorem sr_1c {p2 : Nat} (hP : sp_R kd pa pb pc nn sz en se hb N C O BD BT nb) (Q : sm_Q kd pa pb pc nn sz en se hb N C O BD BT nb 0 F G FY GY hot fz nr nc XC nT nM ncY YC ym st xst pf rs mo no og pi (q, ct, v :: ws) fs ms (((12 * d + t, 1, sv, x0, x1, x2, yh) :: ths') ++ L) yms) (V : ry_V FY v) (hd : d < 16) (hyh : yh < 152) (hi : i + phi ≤ 25300 * (st + 1) + xst) (hphi : 1 ≤ phi)
    (rest : rs_R kd pa pb pc nn sz N C O BD BT nb nc ym YC ncY sh d ct yh fs ms L yms) (ht : t < sz d) (hnt : n + t ≤ 12) (c1 : md ≠ 0 → ths' = [] ∧ 1 ≤ n) (hsh : sh = false)
    (hk : kd (12 * d + t) = 8) (hF : cg_Fl C O pi q p2) (h12 : cg_at C p2 (nI (if md = 0 then 12 else 28))) (hO : O p2 = nI (nn (12 * d + t))) (hka : md = 0 → ct_k C O md (fun q pi => ct_K kd pa pb pc nn N d C O BD BT nb (sz d) sh yh n q pi ws ths') (p2 + 1) 0) : sm_X kd pa pb pc nn sz en se hb N C O BD BT nb i F G FY GY st phi := by
  subst hsh
  obtain ⟨T, Nx, S, Ny, sx, sy, cr, b1, b2, b3, b4, b5, b6, b7, b8, b9, b10, b11, b12⟩ := Q
  obtain ⟨k1, k2, k3, k4, k5, k6, k7, k8, k9⟩ := hP.2.2.2.2.1 d t hd ht
  obtain ⟨y1, y2, y3, y4⟩ := sy.2 d t hd ht
  have hf := k6 hk
  have hfz := hP.2.1 (nn (12 * d + t)) hf
  have hsz := hP.1 (nn (12 * d + t))
  have hwl : ws.length ≤ 8 := by have := T.2.1.2.2.2.1; simp only [List.length_cons] at this; omega
  obtain ⟨l, hl2, hl, hop⟩ : ∃ l, l < 2 ∧ ((l = 0 ∧ ct_K kd pa pb pc nn N d C O BD BT nb (sz d) false yh n (p2 + 1) 0 ws ths') ∨ (l = 1 ∧ ths' = [])) ∧ (if md = 0 then 12 else 28) = (if l = 0 then 12 else 28) := by
    by_cases z : md = 0
    · rcases hka z with ⟨_, h⟩ | ⟨h, _⟩
      · exact ⟨0, by omega, Or.inl ⟨rfl, h⟩, by rw [if_pos z, if_pos rfl]⟩
      · exact absurd z h
    · exact ⟨1, by omega, Or.inr ⟨rfl, (c1 z).1⟩, by rw [if_neg z, if_neg (by decide)]⟩
  rcases rest with ⟨_, hfl, hmk, hH⟩ | ⟨z, _⟩
  · obtain ⟨i1, F1, G1, g1, g2, g3, g4, g5, g6⟩ := sm_tick (i := i) T Nx (by omega) (by omega) sx.1 sx.2.1 hF (by omega)
    have sx1 := sx_I (F := F) (F' := F) sx g4.2
    obtain ⟨F2, G2, e1, e2, e3, e4⟩ := xj_call (i := i1) (en := en) (f := nn (12 * d + t)) hl2 g2 g3 (by omega) (by omega) (by rw [sx1.1, ← hop]; exact h12) ((congrFun sx1.2.1 p2).trans hO) (by omega) (fun q hq => sx1.2.2.2.1 q (by omega)) hP.2.2.1
    obtain ⟨FY', r1, r2, r3, r4, r5⟩ := yr_call (s := sz (nn (12 * d + t)) - 1) S Ny V (by omega) (y1.trans (by rw [ty_8 hk])) hf (by rw [sy.1 _ (by omega)]; exact congrArg nI (by omega))
    obtain ⟨E, env⟩ := en_D hP (d := nn (12 * d + t)) (yh := 0) (x0 := v) (x1 := 0) (x2 := 0) (by omega) (by omega)
    have hx := xc_le (l := l) (hot := hot)
    refine sm_Xb (ex_tr g1 e1) r1 (xr_Itr g4 e4) r5 ?_
    exact ⟨xc_h l hot, fz, nr, nc, XC, nT, nM, ncY, YC, ym, xst + pi, pf, rs, mo, no, og, 0, en (nn (12 * d + t)), 0, [0, 0, v], xc_f l (p2 + 1, ct, ws) fs, ms, [], ths' ++ L, yms, nn (12 * d + t), sz (nn (12 * d + t)) - 1, 1, 12, 1, cg_p0, v, 0, 0, 0, false,
        ⟨e2, e3, r2, r3, sx_I (F := F) (F' := F) sx1 e4.2, sy, cr, by omega, by omega, by omega, by omega, by omega, by omega, by omega, by omega, by omega, by omega, by omega, by omega⟩, r4, ⟨by omega, by omega, by omega, by omega, by omega, by omega⟩, E, env,
        ⟨fun _ => ⟨rfl, Nat.le_refl _⟩, fun _ => rfl, fun z => absurd z (by decide), fun z => absurd z (by decide)⟩, fun z => absurd z (by decide), Or.inl ⟨rfl, fl_cut hl (by omega) hd hwl hyh hH hfl, hmk, Or.inr (Or.inl ⟨rfl, rfl⟩)⟩⟩
  · exact absurd z (by decide)
theorem sr_1h {p2 b : Nat} (hP : sp_R kd pa pb pc nn sz en se hb N C O BD BT nb) (Q : sm_Q kd pa pb pc nn sz en se hb N C O BD BT nb 0 F G FY GY hot fz nr nc XC nT nM ncY YC ym st xst pf rs mo no og pi (q, ct, v :: ws) fs ms (((12 * d + t, 1, sv, x0, x1, x2, yh) :: ths') ++ L) yms) (V : ry_V FY v) (hd : d < 16) (hyh : yh < 152) (hi : i + phi ≤ 25300 * (st + 1) + xst) (hphi : 1 ≤ phi)
    (rest : rs_R kd pa pb pc nn sz N C O BD BT nb nc ym YC ncY sh d ct yh fs ms L yms) (ht : t < sz d) (hnt : n + t ≤ 12) (env : wd_env pl ws x0 x1 x2) (c1 : md ≠ 0 → ths' = [] ∧ 1 ≤ n) (hsh : sh = false)
    (hk : kd (12 * d + t) = 5) (hF : cg_Fl C O pi q p2) (h14 : cg_at C p2 (nI (if md = 0 then 14 else 30))) (hb1 : b < nb) (hb2 : b < 96) (hbd : BD b = nI d) (hbt : BT b = nI (pb (12 * d + t))) (hO : O p2 = nI (nn (12 * d + t) + 4 * b + 512 * pl 0 + 8192 * pl 1 + 131072 * pl 2))
    (hka : md = 0 → ct_k C O md (fun q pi => ct_K kd pa pb pc nn N d C O BD BT nb (sz d) sh yh n q pi ws ths') (p2 + 1) 0) : sm_X kd pa pb pc nn sz en se hb N C O BD BT nb i F G FY GY st phi := by
  subst hsh
  obtain ⟨T, Nx, S, Ny, sx, sy, cr, b1, b2, b3, b4, b5, b6, b7, b8, b9, b10, b11, b12⟩ := Q
  obtain ⟨k1, k2, k3, k4, k5, k6, k7, k8, k9⟩ := hP.2.2.2.2.1 d t hd ht
  obtain ⟨y1, y2, y3, y4⟩ := sy.2 d t hd ht
  have hh := k9 hk
  have hbt' := k3 (by omega)
  have hsz := hP.1 d
  have hwl : ws.length ≤ 8 := by have := T.2.1.2.2.2.1; simp only [List.length_cons] at this; omega
  obtain ⟨l, hl2, hl, hop⟩ : ∃ l, l < 2 ∧ ((l = 0 ∧ ct_K kd pa pb pc nn N d C O BD BT nb (sz d) false yh n (p2 + 1) 0 ws ths') ∨ (l = 1 ∧ ths' = [])) ∧ (if md = 0 then 14 else 30) = (if l = 0 then 14 else 30) := by
    by_cases z : md = 0
    · rcases hka z with ⟨_, h⟩ | ⟨h, _⟩
      · exact ⟨0, by omega, Or.inl ⟨rfl, h⟩, by rw [if_pos z, if_pos rfl]⟩
      · exact absurd z h
    · exact ⟨1, by omega, Or.inr ⟨rfl, (c1 z).1⟩, by rw [if_neg z, if_neg (by decide)]⟩
  rcases rest with ⟨_, hfl, hmk, hH⟩ | ⟨z, _⟩
  · obtain ⟨i1, F1, G1, g1, g2, g3, g4, g5, g6⟩ := sm_tick (i := i) T Nx (by omega) (by omega) sx.1 sx.2.1 hF (by omega)
    have sx1 := sx_I (F := F) (F' := F) sx g4.2
    have hml := mk_len _ _ hmk
    by_cases h6 : ms.length = 6
    · obtain ⟨F2, G2, e1, e2, e3, e4⟩ := xj_insD (i := i1) (n := 0) hl2 g2 g3 (by omega) (by omega) (by rw [sx1.1, ← hop]; exact h14) h6
      obtain ⟨FY', r1, r2, r3, r4, r5⟩ := yr_hanD S Ny V (by omega) (y1.trans (by rw [ty_5 hk])) hh (by omega)
      rw [← b1] at e3
      exact Or.inl (sm_deep (ex_tr g1 e1) (by omega) e2 e3 (xr_Itr g4 e4) r1 r2 r3 r4 r5 (by omega))
    · have hpl := wd_envb env
      obtain ⟨F2, G2, e1, e2, e3, e4⟩ := xj_ins (i := i1) (en := en) hl2 g2 g3 (by omega) (by omega) (by rw [sx1.1, ← hop]; exact h14) ((congrFun sx1.2.1 p2).trans hO) hh hb2 (hpl 0 (by omega)) (hpl 1 (by omega)) (hpl 2 (by omega)) hwl (sx1.2.2.2.1 b hb2) (hP.2.2.1 b) (by omega) (by omega)
      obtain ⟨FY', GY', r1, r2, r3, r4, r5⟩ := yr_hanG S Ny V (by omega) (by omega) (y1.trans (by rw [ty_5 hk])) hh (by omega) (y3 (by omega)) (by omega)
      rw [yk_ix (by omega)] at r4
      rw [hml] at r3
      rw [env.1.2, env.2.1.2, env.2.2.2] at e2
      obtain ⟨E, env'⟩ := en_E hP (b := b) (d := d) (t := pb (12 * d + t)) (yh := yh) (x0 := x0) (x1 := x1) (x2 := x2) hb1 hb2 hd (by omega) hbd hbt
      have hx := xc_le (l := l) (hot := hot)
      have hmo : (if ms.length + 1 ≤ mo then mo else ms.length + 1) ≤ 6 ∧ ms.length + 1 ≤ (if ms.length + 1 ≤ mo then mo else ms.length + 1) := by split <;> omega
      refine sm_Xb (ex_tr g1 e1) r1 (xr_Itr g4 e4) r5 ?_
      exact ⟨xc_h l hot, fz, nr, nc, XC, nT, nM + 1, ncY, YC, ym, xst + pi, pf, rs, (if ms.length + 1 ≤ mo then mo else ms.length + 1), no, og, 0, en b, ct, [x2, x1, x0], [], (nn (12 * d + t), v, xc_f l (p2 + 1, ct, ws) fs) :: ms, [], [], (nn (12 * d + t), v, ths' ++ L) :: yms, d, pb (12 * d + t), 1, 12, 1, cg_p0, x0, x1, x2, yh, false,
        ⟨e2, e3, r2, r3, sx_I (F := F) (F' := F) sx1 e4.2, sy_I sy r5.2, cr, by omega, by omega, by omega, by omega, by omega, by omega, by omega, by omega, by omega, by omega, by omega, by simp only [List.length_cons]; omega⟩, r4, ⟨by omega, by omega, by omega, by omega, by omega, by omega⟩, E, env',
        ⟨fun _ => ⟨rfl, Nat.le_refl _⟩, fun _ => rfl, fun z => absurd z (by decide), fun z => absurd z (by decide)⟩, fun z => absurd z (by decide), Or.inl ⟨rfl, rfl, ⟨_, yms, rfl, fl_cut hl (by omega) hd hwl hyh hH hfl, hmk⟩, hH⟩⟩
  · exact absurd z (by decide)
end
end
section
/-! performing: both -/
theorem mk_app {kd pa pb pc nn sz : Nat → Nat} {N : Nat → Int32} {C O BD BT : Nat → Int32} {nb nc : Nat} {ym : Nat → Nat} {h : Nat} {s : Int32} {fs' : List ct_F} {ms2 : List ct_XM} : ∀ (a : List ct_XM) (yms : List ct_YM), mk_R kd pa pb pc nn sz N C O BD BT nb nc ym (a ++ (h, s, fs') :: ms2) yms →
    ∃ ya L' y2, yms = ya ++ (h, s, L') :: y2 ∧ mk_R kd pa pb pc nn sz N C O BD BT nb nc ym a ya ∧ fl_R kd pa pb pc nn sz N C O BD BT nb nc ym fs' L' ∧ mk_R kd pa pb pc nn sz N C O BD BT nb nc ym ms2 y2 := by
  intro a
  induction a with
  | nil =>
    rintro yms ⟨L, yms', rfl, h1, h2⟩
    exact ⟨[], L, yms', rfl, rfl, h1, h2⟩
  | cons x a ih =>
    obtain ⟨q, s1, f1⟩ := x
    rintro yms ⟨L, yms', rfl, h1, h2⟩
    obtain ⟨ya, L', y2, rfl, g1, g2, g3⟩ := ih yms' h2
    exact ⟨(q, s1, L) :: ya, L', y2, rfl, ⟨L, ya, rfl, h1, g1⟩, g2, g3⟩
theorem mk_all {kd pa pb pc nn sz : Nat → Nat} {N : Nat → Int32} {C O BD BT : Nat → Int32} {nb nc : Nat} {ym : Nat → Nat} {P : Nat → Prop} : ∀ (ms : List ct_XM) (yms : List ct_YM), mk_R kd pa pb pc nn sz N C O BD BT nb nc ym ms yms → (∀ q, q ∈ ms → P q.1) → ∀ q, q ∈ yms → P q.1 := by
  intro ms
  induction ms with
  | nil => rintro _ rfl _ q hq; simp at hq
  | cons x ms ih =>
    obtain ⟨h, s, f1⟩ := x
    rintro yms ⟨L, yms', rfl, h1, h2⟩ hp q hq
    rcases List.mem_cons.mp hq with rfl | hq
    · exact hp (h, s, f1) (by simp)
    · exact ih yms' h2 (fun q hq => hp q (by simp [hq])) q hq
theorem mk_mp {kd pa pb pc nn sz : Nat → Nat} {N : Nat → Int32} {C O BD BT : Nat → Int32} {nb nc : Nat} {ym : Nat → Nat} {h : Nat} {s : Int32} {fs' : List ct_F} {L' : List ct_T} (hf : fl_R kd pa pb pc nn sz N C O BD BT nb nc ym fs' L') : ∀ (a : List ct_XM) (ya : List ct_YM), mk_R kd pa pb pc nn sz N C O BD BT nb nc ym a ya → mp_R kd pa pb pc nn sz N C O BD BT nb nc ym (a ++ [(h, s, fs')]) (ya ++ [(h, s, L')]) := by
  intro a
  induction a with
  | nil => rintro _ rfl; exact ⟨s, L', [], rfl, Or.inl ⟨rfl, rfl⟩⟩
  | cons x a ih =>
    obtain ⟨q, s1, f1⟩ := x
    rintro yms ⟨L, yms', rfl, h1, h2⟩
    exact ⟨s1, L, _, rfl, Or.inr ⟨rfl, h1, ih yms' h2⟩⟩
section
variable {kd pa pb pc nn sz en se hb : Nat → Nat} {N C O BD BT : Nat → Int32} {nb : Nat} {F : Nat → Int32} {G : Nat → Nat → Int32} {FY : Nat → Int32} {GY : Nat → Nat → Int32} {hot fz nr nc : Nat} {XC : Nat → List ct_F × List ct_XM} {nT nM ncY : Nat} {YC : Nat → List ct_T × List ct_YM} {ym : Nat → Nat} {st xst pf rs mo no : Nat} {og : Nat → Int32} {pi : Nat}
variable {i q ct : Nat} {v : Int32} {ws : List Int32} {fs : List ct_F} {ms : List ct_XM} {L : List ct_T} {yms : List ct_YM} {d n yh phi : Nat} {sh : Bool}
variable {t m md : Nat} {sv x0 x1 x2 : Int32} {ths' : List ct_T} {pl : Nat → Nat}
/-- the catches of the reference grow -/
theorem cr_Y {Z : List ct_T × List ct_YM} (h : cr_R kd pa pb pc nn sz N C O BD BT nb nc ym XC YC ncY) : cr_R kd pa pb pc nn sz N C O BD BT nb nc ym XC (fun c => if c = ncY + 1 then Z else YC c) (ncY + 1) := by
  intro c h1 h2
  obtain ⟨a1, a2, a3, a4⟩ := h c h1 h2
  refine ⟨a1, by omega, ?_, ?_⟩
  · dsimp only; rw [if_neg (by omega)]; exact a3
  · dsimp only; rw [if_neg (by omega)]; exact a4
theorem sr_1f {p2 o : Nat} (hP : sp_R kd pa pb pc nn sz en se hb N C O BD BT nb) (Q : sm_Q kd pa pb pc nn sz en se hb N C O BD BT nb 0 F G FY GY hot fz nr nc XC nT nM ncY YC ym st xst pf rs mo no og pi (q, ct, v :: ws) fs ms (((12 * d + t, 1, sv, x0, x1, x2, yh) :: ths') ++ L) yms) (V : ry_V FY v) (hd : d < 16) (hyh : yh < 152) (hi : i + phi ≤ 25300 * (st + 1) + xst) (hphi : 1 ≤ phi)
    (rest : rs_R kd pa pb pc nn sz N C O BD BT nb nc ym YC ncY sh d ct yh fs ms L yms) (ht : t < sz d) (hnt : n + t ≤ 12) (c1 : md ≠ 0 → ths' = [] ∧ 1 ≤ n) (hsh : sh = false)
    (hk : kd (12 * d + t) = 9) (hF : cg_Fl C O (pi + 1) q p2) (h13 : cg_at C p2 (nI (if md = 0 then 13 else 29))) (ho : nn (12 * d + t) = o) (hO : O p2 = nI (nn (12 * d + t))) (hka : md = 0 → ct_k C O md (fun q pi => ct_K kd pa pb pc nn N d C O BD BT nb (sz d) sh yh n q pi ws ths') (p2 + 1) 0) : sm_X kd pa pb pc nn sz en se hb N C O BD BT nb i F G FY GY st phi := by
  subst hsh
  obtain ⟨T, Nx, S, Ny, sx, sy, cr, b1, b2, b3, b4, b5, b6, b7, b8, b9, b10, b11, b12⟩ := Q
  obtain ⟨k1, k2, k3, k4, k5, k6, k7, k8, k9⟩ := hP.2.2.2.2.1 d t hd ht
  obtain ⟨y1, y2, y3, y4⟩ := sy.2 d t hd ht
  have ho3 := k7 hk
  rw [ty_9 hk] at y1
  rw [ho] at ho3 hO y1
  clear k1 k2 k3 k4 k5 k6 k7 k8 k9 y2 y3 y4
  have hW := sm_W (ml := 0) (b := 0) T.2.2.2.2.2.2.2.1 (by omega) b4 b2 (by omega)
  have hwl : ws.length ≤ 8 := by have := T.2.1.2.2.2.1; simp only [List.length_cons] at this; omega
  obtain ⟨l, hl2, hl, hop⟩ : ∃ l, l < 2 ∧ ((l = 0 ∧ ct_K kd pa pb pc nn N d C O BD BT nb (sz d) false yh n (p2 + 1) 0 ws ths') ∨ (l = 1 ∧ ths' = [])) ∧ (if md = 0 then 13 else 29) = (if l = 0 then 13 else 29) := by
    by_cases z : md = 0
    · rcases hka z with ⟨_, h⟩ | ⟨h, _⟩
      · exact ⟨0, by omega, Or.inl ⟨rfl, h⟩, by rw [if_pos z, if_pos rfl]⟩
      · exact absurd z h
    · exact ⟨1, by omega, Or.inr ⟨rfl, (c1 z).1⟩, by rw [if_neg z, if_neg (by decide)]⟩
  by_cases h150 : st = 150
  · subst h150
    obtain ⟨FY', r1, r2, r3, r4, r5⟩ := yr_perT S Ny V (by omega) y1 ho3
    exact Or.inl (sm_tired (dm_fl (i := i) T Nx (by omega) (by omega) sx.1 sx.2.1 (by omega) hF (by omega)) ⟨FY', GY, r1, r2, r3, r4, r5⟩ (by omega) (by omega))
  rcases rest with ⟨_, hfl, hmk, hH⟩ | ⟨z, _⟩
  · obtain ⟨i1, F1, G1, g1, g2, g3, g4, g5, g6⟩ := sm_tick (i := i) T Nx (by omega) (by omega) sx.1 sx.2.1 hF (by omega)
    have sx1 := sx_I (F := F) (F' := F) sx g4.2
    have hml := mk_len _ _ hmk
    have hx := xc_le (l := l) (hot := hot)
    have hfl1 : fl_R kd pa pb pc nn sz N C O BD BT nb nc ym (xc_f l (p2 + 1, ct, ws) fs) (ths' ++ L) := fl_cut hl (by omega) hd hwl hyh hH hfl
    have hcode : cg_at (G1 11) p2 (nI (if l = 0 then 13 else 29)) := by rw [sx1.1, ← hop]; exact h13
    have hoper : G1 12 p2 = nI o := (congrFun sx1.2.1 p2).trans hO
    rcases fm_split (sz := sz) (o := o) ms with hz | ⟨a, h, s, fs', ms2, rfl, ha, hz⟩
    · obtain ⟨F2, G2, e1, e2, e3, e4, e5, e6⟩ := xj_raiU (i := i1) hl2 g2 g3 (by omega) (by omega) hcode hoper ho3 sx1.2.2.1 hP.1 (by omega) hz
      obtain ⟨FY', r1, r2, r3, r4, r5, r6, r7, r8, r9, r10, r11⟩ := yr_perU S Ny V (by omega) (by omega) (by omega) y1 ho3 (by omega) sy.1 hP.1 (mk_all (P := fun q => sz (4 + 4 * q + o) = 0) _ _ hmk hz)
      obtain ⟨n1, n2, n3, n4, n5, n6, n7, n8⟩ := g3
      refine Or.inl ⟨i1 + 1, F2, G2, FY', GY, ex_tr g1 e1, by omega, r1, xr_Itr g4 ⟨fun k hk => e5 k (Or.inl hk), fun k hk => e6 k (Or.inl hk)⟩, r11, e2.trans r2.symm, ?_, ?_, e4.trans r4.symm, ?_, (e5 _ (by decide)).trans (n2.trans r6.symm), (e5 _ (by decide)).trans (n3.trans r7.symm), (e5 _ (by decide)).trans (n4.trans r8.symm), ⟨no, by omega, (e5 _ (by decide)).trans n5, r9, fun j hj => ?_⟩, ?_⟩
      · rw [e2]; decide
      · rw [r2]; decide
      · rw [e5 _ (by decide), n1, r5]; exact congrArg nI (by omega)
      · rw [e6 _ (by decide), n8 j hj, r10 j hj]
      · rw [e3, r2, if_neg (by decide), if_pos rfl, r3]
    · obtain ⟨ya, L', y2, rfl, hma, hfl', hmk2⟩ := mk_app a yms hmk
      obtain ⟨lo0, _, _, _, _, hh3, _⟩ := sg_app a _ _ g2.2.2.2.2.2.2.2.1
      have hlx : (a ++ (h, s, fs') :: ms2).length = a.length + 1 + ms2.length := by simp only [List.length_append, List.length_cons]; omega
      have hly : (ya ++ (h, s, L') :: y2).length = ya.length + 1 + y2.length := by simp only [List.length_append, List.length_cons]; omega
      have hlya := mk_len _ _ hma
      have hly2 := mk_len _ _ hmk2
      have hd' : 4 + 4 * h + o < 16 := by omega
      have hszd := hP.1 (4 + 4 * h + o)
      obtain ⟨P81, P82, P83⟩ := hP.2.2.2.2.2.2.2 (4 + 4 * h + o) (by omega) hd' hz
      obtain ⟨FY', GY', r1, r2, r3, r4, r5⟩ := yr_perG (z := sz (4 + 4 * h + o) - 1) S Ny V (by omega) (by omega) (by omega) y1 ho3 (by omega) sy.1 hP.1 (mk_all (P := fun q => sz (4 + 4 * q + o) = 0) _ _ hma ha) hh3 (by omega) (by omega)
      have hbx := sx1.2.2.2.2.1 (4 + 4 * h + o) hd' hz
      obtain hc | hc | hc : hb (4 + 4 * h + o) = 0 ∨ hb (4 + 4 * h + o) = 1 ∨ hb (4 + 4 * h + o) = 2 := by omega
      · -- it never resumes
        rw [hc] at hbx
        obtain ⟨F2, G2, lo, q1, e1, e2, e3, e4⟩ := xj_raiN (i := i1) (en := en) hl2 g2 g3 (by omega) (by omega) hcode hoper ho3 sx1.2.2.1 hP.1 (by omega) ha hz hbx (fun q hq => sx1.2.2.2.1 q (by omega)) hP.2.2.1
        obtain ⟨E, env⟩ := en_D hP (d := 4 + 4 * h + o) (yh := ncY + 1) (x0 := v) (x1 := s) (x2 := 0) hd' hz
        refine sm_Xb1 (ex_tr g1 e1) r1 (xr_Itr g4 e4) r5 (Nat.lt_succ_self st) ?_
        exact ⟨lo, fz, nr, nc, XC, nT, nM, ncY + 1, _, ym, xst + (pi + 1), pf + 1, rs, mo, no, og, 0, en (4 + 4 * h + o), 0, [0, s, v], fs', ms2, [], L', y2, 4 + 4 * h + o, sz (4 + 4 * h + o) - 1, 1, 12, 1, cg_p0, v, s, 0, ncY + 1, false,
          ⟨e2, e3, r2, r3, sx_I (F := F) (F' := F) sx1 e4.2, sy_I sy r5.2, cr_Y cr, by omega, by omega, by omega, by omega, by omega, by omega, by omega, by omega, by omega, by omega, by omega, by omega⟩, r4, ⟨by omega, by omega, by omega, by omega, by omega, by omega⟩, E, env,
          ⟨fun _ => ⟨rfl, Nat.le_refl _⟩, fun _ => rfl, fun z => absurd z (by decide), fun z => absurd z (by decide)⟩, fun z => absurd z (by decide), Or.inl ⟨rfl, hfl', hmk2, Or.inl (P82 hc)⟩⟩
      · -- it resumes at once
        rw [hc] at hbx
        obtain ⟨P831, P832, P833⟩ := P83 hc
        obtain ⟨F2, G2, e1, e2, e3, e4⟩ := xj_raiA (i := i1) hl2 g2 g3 (by omega) (by omega) hcode hoper ho3 sx1.2.2.1 hP.1 (by omega) ha hz hbx (sx1.2.2.2.2.2 _ (by omega) hd' hz hc) (hP.2.2.2.1 _)
        obtain ⟨_, env⟩ := en_D hP (d := 4 + 4 * h + o) (yh := ncY + 1) (x0 := v) (x1 := s) (x2 := 0) hd' hz
        refine sm_Xb1 (ex_tr g1 e1) r1 (xr_Itr g4 e4) r5 (Nat.lt_succ_self st) ?_
        refine ⟨xc_h l hot, fz, nr, nc, XC, nT, nM, ncY + 1, _, ym, xst + (pi + 1), pf + 1, rs, mo, no, og, 0, se (4 + 4 * h + o), ms2.length + 1, [0, s, v], _, a ++ (h, s, fs') :: ms2, [], L', y2, 4 + 4 * h + o, sz (4 + 4 * h + o) - 1, 1, 12, 2, cg_p0, v, s, 0, ncY + 1, true,
          ⟨e2, e3, r2, r3, sx_I (F := F) (F' := F) sx1 e4.2, sy_I sy r5.2, cr_Y cr, by omega, by omega, by omega, by omega, by omega, by omega, by omega, by omega, by omega, by omega, by omega, by omega⟩, r4, ⟨by omega, by omega, by omega, by omega, by omega, by omega⟩, P833 _, env,
          ⟨fun _ => ⟨rfl, Nat.le_refl _⟩, fun z => absurd z (by decide), fun _ => ⟨rfl, P831⟩, fun _ _ => Nat.le_refl _⟩, fun _ => P832, Or.inr ⟨rfl, a, h, s, fs', ms2, rfl, rfl, by omega, Nat.le_refl _, ?_, ?_, hfl', hmk2⟩⟩
        · dsimp only; rw [if_pos rfl]; exact hfl1
        · dsimp only; rw [if_pos rfl]; exact mk_mp hfl' _ _ hma
      · -- it may resume
        rw [hc] at hbx
        obtain ⟨F2, G2, fz', lo, q1, q2, e1, e2, e3, e4⟩ := xj_raiC (i := i1) (en := en) hl2 g2 g3 (by omega) (by omega) hcode hoper ho3 sx1.2.2.1 hP.1 (by omega) ha hz hbx (fun q hq => sx1.2.2.2.1 q (by omega)) hP.2.2.1 (by omega) (by omega) (by omega)
        obtain ⟨E, env⟩ := en_D hP (d := 4 + 4 * h + o) (yh := ncY + 1) (x0 := v) (x1 := s) (x2 := 0) hd' hz
        have hy : ∀ c, c ≤ nc → (fun c => if c = nc + 1 then ncY + 1 else ym c) c = ym c := fun c hc => if_neg (by omega)
        have hnn : nc ≤ nc + 1 := by omega
        refine sm_Xb1 (ex_tr g1 e1) r1 (xr_Itr g4 e4) r5 (Nat.lt_succ_self st) ?_
        refine ⟨lo, fz', nr + (a.length + 1), nc + 1, _, nT, nM, ncY + 1, _, (fun c => if c = nc + 1 then ncY + 1 else ym c), xst + (pi + 1), pf + 1, rs, mo, no, og, 0, en (4 + 4 * h + o), nc + 1, [0, s, v], fs', ms2, [], L', y2, 4 + 4 * h + o, sz (4 + 4 * h + o) - 1, 1, 12, 1, cg_p0, v, s, 0, ncY + 1, false,
          ⟨e2, e3, r2, r3, sx_I (F := F) (F' := F) sx1 e4.2, sy_I sy r5.2, ?_, by omega, by omega, by omega, by omega, by omega, by omega, by omega, by omega, by omega, by omega, by omega, by omega⟩, r4, ⟨by omega, by omega, by omega, by omega, by omega, by omega⟩, E, env,
          ⟨fun _ => ⟨rfl, Nat.le_refl _⟩, fun _ => rfl, fun z => absurd z (by decide), fun z => absurd z (by decide)⟩, fun z => absurd z (by decide), Or.inl ⟨rfl, fl_mono hnn hy _ _ hfl', mk_mono hnn hy _ _ hmk2, Or.inr (Or.inr ⟨by omega, Nat.le_refl _, (if_pos rfl).symm⟩)⟩⟩
        intro c h1 h2
        by_cases zc : c = nc + 1
        · subst zc
          dsimp only
          rw [if_pos rfl, if_pos rfl, if_pos rfl]
          exact ⟨by omega, Nat.le_refl _, fl_mono hnn hy _ _ hfl1, mp_mono hnn hy _ _ (mk_mp hfl' _ _ hma)⟩
        · obtain ⟨a1, a2, a3, a4⟩ := cr c h1 (by omega)
          dsimp only
          rw [if_neg zc, if_neg zc, if_neg (by omega)]
          exact ⟨a1, by omega, fl_mono hnn hy _ _ a3, mp_mono hnn hy _ _ a4⟩
  · exact absurd z (by decide)
end
end
section
/-! a value has come to the second part of a node -/
theorem pg_snoc {h : Nat} {s s0 : Int32} {fs' : List ct_F} {ms2 : List ct_XM} {u : List ct_F} : ∀ (a : List ct_XM), pg_X s fs' ms2 (a ++ [(h, s0, u)]) = a ++ (h, s, fs') :: ms2 := by
  intro a
  induction a with
  | nil => rfl
  | cons x a ih =>
    obtain ⟨q, s1, f1⟩ := x
    cases a with
    | nil => rfl
    | cons y a =>
      have : pg_X s fs' ms2 (((q, s1, f1) :: y :: a) ++ [(h, s0, u)]) = (q, s1, f1) :: pg_X s fs' ms2 ((y :: a) ++ [(h, s0, u)]) := rfl
      rw [this, ih]; rfl
theorem sg_nset {h : Nat} {s s0 : Int32} {fs' : List ct_F} {ms2 : List ct_XM} : ∀ (a : List ct_XM), sg_n (a ++ (h, s, fs') :: ms2) = sg_n (a ++ (h, s0, fs') :: ms2) := by
  intro a
  induction a with
  | nil => rfl
  | cons x a ih => obtain ⟨q1, q2, q3⟩ := x; exact congrArg (q3.length + ·) ih
section
variable {kd pa pb pc nn sz en se hb : Nat → Nat} {N C O BD BT : Nat → Int32} {nb : Nat} {F : Nat → Int32} {G : Nat → Nat → Int32} {FY : Nat → Int32} {GY : Nat → Nat → Int32} {hot fz nr nc : Nat} {XC : Nat → List ct_F × List ct_XM} {nT nM ncY : Nat} {YC : Nat → List ct_T × List ct_YM} {ym : Nat → Nat} {st xst pf rs mo no : Nat} {og : Nat → Int32} {pi : Nat}
variable {i q ct : Nat} {v : Int32} {ws' : List Int32} {fs : List ct_F} {ms : List ct_XM} {L : List ct_T} {yms : List ct_YM} {d n yh phi : Nat} {sh : Bool}
variable {t md : Nat} {sv x0 x1 x2 : Int32} {ths' : List ct_T}
theorem sr_2a (hP : sp_R kd pa pb pc nn sz en se hb N C O BD BT nb) (Q : sm_Q kd pa pb pc nn sz en se hb N C O BD BT nb 0 F G FY GY hot fz nr nc XC nT nM ncY YC ym st xst pf rs mo no og pi (q, ct, v :: sv :: ws') fs ms (((12 * d + t, 2, sv, x0, x1, x2, yh) :: ths') ++ L) yms) (V : ry_V FY v) (hd : d < 16) (hyh : yh < 152) (hphi : phi = (n + 1) + 12 * (fs.length + sg_n ms)) (hi : i + phi ≤ 25300 * (st + 1) + xst) (hs : sm_s kd sz sh d)
    (rest : rs_R kd pa pb pc nn sz N C O BD BT nb nc ym YC ncY sh d ct yh fs ms L yms) (ht : t < sz d) (hnt : n + t ≤ 12) (c1 : md ≠ 0 → ths' = [] ∧ 1 ≤ n) (c2 : md = 1 → sh = false) (c3 : 2 ≤ md → sh = true ∧ kd (12 * d + t) = 6)
    (hk : kd (12 * d + t) ≤ 3) (hc : cg_at C q (nI (kd (12 * d + t)))) (hka : ct_k C O md (fun q pi => ct_K kd pa pb pc nn N d C O BD BT nb (sz d) sh yh n q pi ws' ths') (q + 1) pi) : sm_X kd pa pb pc nn sz en se hb N C O BD BT nb i F G FY GY st phi := by
  obtain ⟨T, Nx, S, Ny, sx, sy, cr, b1, b2, b3, b4, b5, b6, b7, b8, b9, b10, b11, b12⟩ := Q
  obtain ⟨y1, y2, y3, y4⟩ := sy.2 d t hd ht
  have hW := sm_W (ml := 0) (b := 0) T.2.2.2.2.2.2.2.1 (by omega) b4 b2 (by omega)
  obtain ⟨G1, g1, g2, g3, g4⟩ := xj_calc (i := i) T Nx (by omega) (by omega) (by rw [sx.1]; exact hc) (by omega)
  obtain ⟨FY', r1, r2, r3, r4, r5⟩ := yr_ari S Ny V (by omega) (y1.trans (by rw [ty_6 hk])) (by omega)
  obtain ⟨n', hn', hK⟩ : ∃ n', n' ≤ n ∧ ct_K kd pa pb pc nn N d C O BD BT nb (sz d) sh yh n' (q + 1) pi ws' ths' := by
    rcases hka with ⟨z, hk⟩ | ⟨z, hk'⟩
    · exact ⟨n, Nat.le_refl _, hk⟩
    · have hsh : sh = false := by
        by_cases z1 : md = 1
        · exact c2 z1
        · exact absurd (c3 (by omega)).2 (by omega)
      exact ⟨1, (c1 z).2, Or.inl ⟨hsh, (c1 z).1, hk'⟩⟩
  refine sm_Xr (phi' := n' + 12 * (fs.length + sg_n ms)) g1 r1 g4 r5 (by omega) ?_
  exact ⟨hot, fz, nr, nc, XC, nT, nM, ncY, YC, ym, xst, pf, rs, mo, no, og, pi, q + 1, ct, _, ws', fs, ms, ths', L, yms, d, n', yh, sh,
    ⟨g2, g3, r2, r3, sx_I (F := F) (F' := F) sx g4.2, sy, cr, b1, b2, b3, b4, b5, b6, b7, b8, b9, b10, b11, b12⟩, r4, ⟨hd, by omega, hyh, rfl, by omega⟩, hK, hs, rest⟩
/-- out of a delivery at the next step -/
theorem sm_Xd {F' : Nat → Int32} {G' : Nat → Nat → Int32} {FY' : Nat → Int32} {GY' : Nat → Nat → Int32} {i' w st' : Nat} (a : ex_go i F G i' F' G') (b : ey_go FY GY FY' GY') (I : xr_I F G F' G') (J : ry_I FY GY FY' GY') (hst : st < st')
    (r : sm_F i' F' G' FY' GY' ∨ ∃ FY2, ey_go FY' GY' FY2 GY' ∧ ry_I FY' GY' FY2 GY' ∧ (sm_B kd pa pb pc nn sz en se hb N C O BD BT nb i' F' G' FY2 GY' st' ∨ ∃ phi', phi' ≤ w ∧ sm_R kd pa pb pc nn sz en se hb N C O BD BT nb i' F' G' FY2 GY' st' phi')) : sm_X kd pa pb pc nn sz en se hb N C O BD BT nb i F G FY GY st phi := by
  rcases r with r | ⟨FY2, r1, r2, r3 | ⟨phi', _, r4⟩⟩
  · exact Or.inl (sm_tr a b I J r)
  · exact sm_Xb1 a (ey_tr b r1) I (ry_Itr J r2) hst r3
  · exact sm_Xr1 a (ey_tr b r1) I (ry_Itr J r2) hst r4
theorem sr_2r {p3 : Nat} (hP : sp_R kd pa pb pc nn sz en se hb N C O BD BT nb) (Q : sm_Q kd pa pb pc nn sz en se hb N C O BD BT nb 0 F G FY GY hot fz nr nc XC nT nM ncY YC ym st xst pf rs mo no og pi (q, ct, v :: sv :: ws') fs ms (((12 * d + t, 2, sv, x0, x1, x2, yh) :: ths') ++ L) yms) (V : ry_V FY v) (hd : d < 16) (hyh : yh < 152) (hi : i + phi ≤ 25300 * (st + 1) + xst) (hphi : 1 ≤ phi)
    (rest : rs_R kd pa pb pc nn sz N C O BD BT nb nc ym YC ncY sh d ct yh fs ms L yms) (ht : t < sz d) (hnt : n + t ≤ 12) (c1 : md ≠ 0 → ths' = [] ∧ 1 ≤ n) (c2 : md = 1 → sh = false) (c3 : 2 ≤ md → sh = true ∧ kd (12 * d + t) = 6) (c4 : sh = true → (kd (12 * d + t) = 6 → 2 ≤ md))
    (hk : kd (12 * d + t) = 6) (hF : cg_Fl C O (pi + 1) q p3) (hop : cg_at C p3 (nI (if md = 0 then 15 else if md = 1 then 31 else 16))) (hka : md = 0 → ct_k C O md (fun q pi => ct_K kd pa pb pc nn N d C O BD BT nb (sz d) sh yh n q pi ws' ths') (p3 + 1) 0) : sm_X kd pa pb pc nn sz en se hb N C O BD BT nb i F G FY GY st phi := by
  obtain ⟨T, Nx, S, Ny, sx, sy, cr, b1, b2, b3, b4, b5, b6, b7, b8, b9, b10, b11, b12⟩ := Q
  have y1 := (sy.2 d t hd ht).1
  rw [ty_s6 hk] at y1
  have hW := sm_W (ml := 0) (b := 0) T.2.2.2.2.2.2.2.1 (by omega) b4 b2 (by omega)
  have hwl : ws'.length ≤ 8 := by have := T.2.1.2.2.2.1; simp only [List.length_cons] at this; omega
  by_cases h150 : st = 150
  · subst h150
    obtain ⟨FY', r1, r2, r3, r4, r5⟩ := yr_resT S Ny V (by omega) y1
    exact Or.inl (sm_tired (dm_fl (i := i) T Nx (by omega) (by omega) sx.1 sx.2.1 (by omega) hF (by omega)) ⟨FY', GY, r1, r2, r3, r4, r5⟩ (by omega) (by omega))
  obtain ⟨i1, F1, G1, g1, g2, g3, g4, g5, g6⟩ := sm_tick (i := i) T Nx (by omega) (by omega) sx.1 sx.2.1 hF (by omega)
  have sx1 := sx_I (F := F) (F' := F) sx g4.2
  have g3' : xr_N F1 G1 (st + 1) pf rs mo no og := by rw [show st + 1 = xst + (pi + 1) by omega]; exact g3
  by_cases hmd : 2 ≤ md
  · -- a short clause
    obtain ⟨hsh, _⟩ := c3 hmd
    subst hsh
    rw [if_neg (by omega), if_neg (by omega)] at hop
    rcases rest with ⟨z, _⟩ | ⟨_, a, h, s, fs', ms2, rfl, rfl, hy1, hy2, hfl, hmp, hfl', hmk2⟩
    · exact absurd z (by decide)
    · obtain rfl := (c1 (by omega)).1
      have hlx : ∀ s0 : Int32, (a ++ (h, s0, fs') :: ms2).length = a.length + 1 + ms2.length := fun s0 => by simp only [List.length_append, List.length_cons]; omega
      have hlp := mp_len _ _ hmp
      have hl2 := mk_len _ _ hmk2
      have hlc : (a ++ [(h, s, fs')]).length = a.length + 1 := by simp
      have hb12 := b12
      rw [hlx] at hb12
      rw [hlc] at hlp
      have hmk : mk_R kd pa pb pc nn sz N C O BD BT nb nc ym (a ++ (h, v, fs') :: ms2) (pg_Y v L yms (YC yh).2) := by
        have := pg_R (s' := v) hfl' hmk2 _ _ hmp
        rw [pg_snoc] at this; exact this
      obtain ⟨F2, G2, e1, e2, e3, e4, e5⟩ := xj_ans (i := i1) (sz := sz) (en := en) g2 g3' (by omega) (by omega) (by rw [sx1.1]; exact hop) sx1.2.2.1 hP.1 (fun q hq => sx1.2.2.2.1 q (by omega)) hP.2.2.1 (by omega) (by rw [hlx]; omega) (fl_w _ _ hfl) (mk_w _ _ hmk)
      obtain ⟨FY', GY', r1, r2, r3, r4, r5⟩ := yr_resR S Ny V (by omega) y1 (by omega) hy1 hy2 (by omega) (by omega) (by omega) (by omega)
      rw [if_pos (by omega)] at r3
      have I2 : xr_I F1 G1 F2 G2 := ⟨fun k hk => e4 k (Or.inl hk), fun k hk => e5 k (Or.inl hk)⟩
      have N2 : xr_0 F2 G2 (st + 1) pf (rs + 1) mo no og := by
        obtain ⟨n1, n2, n3, n4, n5, n6, n7, n8⟩ := g3'
        refine ⟨(e4 _ (by decide)).trans n1, (e4 _ (by decide)).trans n2, e3, (e4 _ (by decide)).trans n4, (e4 _ (by decide)).trans n5, (e4 _ (by decide)).trans n7, ?_⟩
        rw [e5 _ (by decide)]; exact n8
      have hsg : sg_n (a ++ (h, v, fs') :: ms2) = sg_n (a ++ (h, s, fs') :: ms2) := sg_nset a
      refine sm_Xd (ex_tr g1 e1) r1 (xr_Itr g4 I2) r5 (Nat.lt_succ_self st) (sm_del hP (i := i1 + 1) e2 N2 r2 r3 r4 hfl hmk cr (sx_I (F := F) (F' := F) sx1 I2.2) (sy_I sy r5.2) ⟨rfl, by omega, by omega, by omega, by omega, by omega, by omega, by omega, by omega, by omega, by omega, by rw [hlx]; omega⟩ ?_)
      rw [hsg]; omega
  · have hsh : sh = false := by
      cases sh with
      | false => rfl
      | true => exact absurd (c4 rfl hk) hmd
    subst hsh
    obtain ⟨l, hl2, hl, hop'⟩ : ∃ l, l < 2 ∧ ((l = 0 ∧ ct_K kd pa pb pc nn N d C O BD BT nb (sz d) false yh n (p3 + 1) 0 ws' ths') ∨ (l = 1 ∧ ths' = [])) ∧ (if md = 0 then 15 else if md = 1 then 31 else 16) = (if l = 0 then 15 else 31) := by
      by_cases z : md = 0
      · rcases hka z with ⟨_, h⟩ | ⟨h, _⟩
        · exact ⟨0, by omega, Or.inl ⟨rfl, h⟩, by rw [if_pos z, if_pos rfl]⟩
        · exact absurd z h
      · exact ⟨1, by omega, Or.inr ⟨rfl, (c1 z).1⟩, by rw [if_neg z, if_pos (by omega), if_neg (by decide)]⟩
    rcases rest with ⟨_, hfl, hmk, hH⟩ | ⟨z, _⟩
    · have hml := mk_len _ _ hmk
      have hx := xc_le (l := l) (hot := hot)
      have hxn := xc_n (l := l) (fr := (p3 + 1, ct, ws')) (fs := fs)
      have hfl1 : fl_R kd pa pb pc nn sz N C O BD BT nb nc ym (xc_f l (p3 + 1, ct, ws') fs) (ths' ++ L) := fl_cut hl (by omega) hd hwl hyh hH hfl
      have hcode : cg_at (G1 11) p3 (nI (if l = 0 then 15 else 31)) := by rw [sx1.1, ← hop']; exact hop
      rcases hH with hH | ⟨rfl, rfl⟩ | ⟨h1, h2, h3⟩
      · exact absurd hk (hH t ht)
      · -- without a catch
        obtain ⟨F2, G2, e1, e2, e3, e4⟩ := xj_res0 (i := i1) (sz := sz) (en := en) hl2 g2 g3' (by omega) (by omega) hcode sx1.2.2.1 hP.1 (fun q hq => sx1.2.2.2.1 q (by omega)) hP.2.2.1 (by omega) (by omega) (fl_w _ _ hfl1) (mk_w _ _ hmk)
        obtain ⟨FY', r1, r2, r3, r4, r5⟩ := yr_res0 S Ny V (by omega) y1 (by omega)
        have I2 : xr_I F1 G1 F2 G2 := ⟨fun k hk => e3 k (Or.inl hk), fun k hk => e4 k (Or.inl hk)⟩
        exact sm_Xd (ex_tr g1 e1) r1 (xr_Itr g4 I2) r5 (Nat.lt_succ_self st) (sm_del hP (i := i1 + 1) e2 (xr_N0 g3' (fun k hk => e3 k (Or.inr hk)) (e4 _ (by decide))) r2 r3 r4 hfl1 hmk cr (sx_I (F := F) (F' := F) sx1 I2.2) (sy_I sy r5.2) ⟨rfl, by omega, by omega, by omega, by omega, by omega, by omega, by omega, by omega, by omega, by omega, by omega⟩ (by omega))
      · -- with a catch
        subst h3
        obtain ⟨a1, a2, a3, a4⟩ := cr ct h1 h2
        have hlp := mp_len _ _ a4
        by_cases hdp : ms.length + (XC ct).2.length ≤ 6
        · obtain ⟨FY', GY', r1, r2, r3, r4, r5⟩ := yr_resR S Ny V (by omega) y1 (by omega) a1 a2 (by omega) (by omega) (by omega) (by omega)
          have hmk1 : mk_R kd pa pb pc nn sz N C O BD BT nb nc ym (pg_X v (xc_f l (p3 + 1, ct, ws') fs) ms (XC ct).2) (pg_Y v (ths' ++ L) yms (YC (ym ct)).2) := pg_R hfl1 hmk _ _ a4
          obtain ⟨F2, G2, e1, e2, e3, e3', e4, e5, e6⟩ := xj_resG (i := i1) (sz := sz) (en := en) hl2 g2 g3' (by omega) (by omega) hcode sx1.2.2.1 hP.1 (fun q hq => sx1.2.2.2.1 q (by omega)) hP.2.2.1 (by omega) (by omega) h1 h2 (by omega) hdp (by omega) b12 (fl_w _ _ a3) (mk_w _ _ hmk1)
          have I2 : xr_I F1 G1 F2 G2 := ⟨fun k hk => e4 k (Or.inl hk), fun k hk => e5 k (Or.inl hk)⟩
          rw [hml, hlp.1] at r3
          have N2 : xr_0 F2 G2 (st + 1) pf (rs + 1) (if ms.length + (XC ct).2.length ≤ mo then mo else ms.length + (XC ct).2.length) no og := by
            obtain ⟨n1, n2, n3, n4, n5, n6, n7, n8⟩ := g3'
            refine ⟨(e4 _ (by decide)).trans n1, (e4 _ (by decide)).trans n2, e3, e3', (e4 _ (by decide)).trans n5, (e4 _ (by decide)).trans n7, ?_⟩
            rw [e5 _ (by decide)]; exact n8
          have hmo : (if ms.length + (XC ct).2.length ≤ mo then mo else ms.length + (XC ct).2.length) ≤ 6 ∧ ms.length + (XC ct).2.length ≤ (if ms.length + (XC ct).2.length ≤ mo then mo else ms.length + (XC ct).2.length) := by split <;> omega
          have hpl := pg_len (s' := v) (fs := xc_f l (p3 + 1, ct, ws') fs) (ms := ms) (XC ct).2
          refine sm_Xd (w := 12 * ((XC ct).1.length + sg_n (pg_X v (xc_f l (p3 + 1, ct, ws') fs) ms (XC ct).2))) (ex_tr g1 e1) r1 (xr_Itr g4 I2) r5 (Nat.lt_succ_self st) (sm_del hP (i := i1 + 1) e2 N2 r2 r3 r4 a3 hmk1 cr (sx_I (F := F) (F' := F) sx1 I2.2) (sy_I sy r5.2) ⟨rfl, by omega, by omega, by omega, by omega, by omega, by omega, by omega, by omega, by omega, by omega, by rw [hpl]; omega⟩ ?_)
          have hq7 : ((XC ct).2.length + ms.length + 1) * fz ≤ 7 * fz := Nat.mul_le_mul_right fz (by omega)
          omega
        · obtain ⟨F2, G2, e1, e2, e3, e4⟩ := xj_resD (i := i1) hl2 g2 g3' (by omega) (by omega) hcode h1 h2 (by omega) (by omega) (by omega)
          obtain ⟨FY', r1, r2, r3, r4, r5⟩ := yr_resD S Ny V (by omega) y1 (by omega) a1 a2 (by omega) (by omega) (by omega)
          exact Or.inl (sm_deep (ex_tr g1 e1) (by omega) e2 e3 (xr_Itr g4 e4) r1 r2 r3 r4 r5 (by omega))
    · exact absurd z (by decide)
end
end
section
/-! the runs of a compiled program end alike -/
theorem sm_R1 {kd pa pb pc nn sz en se hb : Nat → Nat} {N C O BD BT : Nat → Int32} {nb : Nat} (hP : sp_R kd pa pb pc nn sz en se hb N C O BD BT nb) {i : Nat} {F : Nat → Int32} {G : Nat → Nat → Int32} {FY : Nat → Int32} {GY : Nat → Nat → Int32} {st phi : Nat} (H : sm_R kd pa pb pc nn sz en se hb N C O BD BT nb i F G FY GY st phi) : sm_X kd pa pb pc nn sz en se hb N C O BD BT nb i F G FY GY st phi := by
  obtain ⟨hot, fz, nr, nc, XC, nT, nM, ncY, YC, ym, xst, pf, rs, mo, no, og, pi, q, ct, v, ws, fs, ms, ths, L, yms, d, n, yh, sh, Q, V, ⟨hd, hn, hyh, hphi, hi⟩, K, hs, rest⟩ := H
  cases n with
  | zero => exact K.elim
  | succ n =>
  have hp1 : 1 ≤ phi := by omega
  rcases K with ⟨h1, h2, h3⟩ | ⟨x, ws', rfl, h2, h3⟩ | ⟨q1, e, h1, h2, h3, h4, h5⟩ | ⟨q1, h1, h2⟩ | ⟨t, sv, x0, x1, x2, ths', m, md, pl, rfl, h2, h3, h4, h5, h6, h7, h8, h9, h10⟩ | ⟨t, sv, x0, x1, x2, ths', md, ws', rfl, h2, h3, rfl, h5, h6, h7, h8, h9⟩
  · subst h1 h2
    exact sr_E hP Q V hphi hi rest h3
  · exact sr_S Q V hd hn hyh hphi hi hs rest h2 h3
  · exact sr_J1 Q V hd hn hyh hphi hi hs rest h1 h2 h3 h4 h5
  · exact sr_J2 Q V hd hn hyh hphi hi hs rest h1 h2
  · have nsh : kd (12 * d + t) = 5 ∨ kd (12 * d + t) = 8 ∨ kd (12 * d + t) = 9 → sh = false := by
      intro z
      cases sh with
      | false => rfl
      | true => have := h9 rfl; omega
    rcases h10 with ⟨b1, b2⟩ | ⟨b1, b2⟩ | ⟨b1, p2, e, b2, b3, b4, b5, b6, b7⟩ | ⟨b1, p2, b2, b3, b4⟩ | ⟨b1, p2, b2, b3, b4, b5⟩ | ⟨b1, p2, b2, b3, b4, b5⟩ | ⟨b1, p2, b, b2, b3, b4, b5, b6, b7, b8, b9⟩
    · exact sr_1b hP Q V hd hyh hi hs rest h2 h3 h4 h5 h6 h7 h8 h9 b1 b2
    · exact sr_1l hP Q V hd hyh hi hs rest h2 h3 h4 h5 h6 h7 h8 b1 b2
    · exact sr_1x hP Q V hd hyh hi hp1 hs rest h2 h3 h4 h5 h6 h7 h8 b1 b2 b3 b4 b5 b6 b7
    · exact sr_1p hP Q V hd hyh hi hs rest h2 h3 h6 h7 h8 b1 b2 b3 b4
    · exact sr_1c hP Q V hd hyh hi hp1 rest h2 h3 h6 (nsh (by omega)) b1 b2 b3 b4 b5
    · exact sr_1f hP Q V hd hyh hi hp1 rest h2 h3 h6 (nsh (by omega)) b1 b2 b3 rfl b4 b5
    · exact sr_1h hP Q V hd hyh hi hp1 rest h2 h3 h5 h6 (nsh (by omega)) b1 b2 b3 b4 b5 b6 b7 b8 b9
  · rcases h9 with ⟨c1, c2, c3⟩ | ⟨c1, p3, c2, c3, c4⟩
    · exact sr_2a hP Q V hd hyh hphi hi hs rest h2 h3 h5 h6 h7 c1 c2 c3
    · exact sr_2r hP Q V hd hyh hi hp1 rest h2 h3 h5 h6 h7 h8 c1 c2 c3 c4
theorem sm_all {kd pa pb pc nn sz en se hb : Nat → Nat} {N C O BD BT : Nat → Int32} {nb : Nat} (hP : sp_R kd pa pb pc nn sz en se hb N C O BD BT nb) {i : Nat} {F : Nat → Int32} {G : Nat → Nat → Int32} {FY : Nat → Int32} {GY : Nat → Nat → Int32} {st : Nat} (H : sm_B kd pa pb pc nn sz en se hb N C O BD BT nb i F G FY GY st) : sm_F i F G FY GY :=
  (sm_main (fun _ _ _ _ _ _ h => sm_B1 hP h) (fun _ _ _ _ _ _ _ h => sm_R1 hP h) 150).1 _ _ _ _ _ _ (by omega) H
end
section
/-! terms: the class against the reference -/
/-- a node of a term in postfix order; l t: where its term begins -/
def tm_L (k a b c n l : Nat → Nat) (t : Nat) : Prop :=
  k t ≤ 12 ∧ l t ≤ t ∧ (k t = 11 ∨ k t = 12 → l t = t) ∧ (k t = 7 ∨ k t = 8 ∨ k t = 9 → a t + 1 = t ∧ l t = l (a t)) ∧ (k t ≤ 6 → b t + 1 = t ∧ a t + 1 = l (b t) ∧ l t = l (a t) ∧ a t < t)
  ∧ (k t = 10 → c t + 1 = t ∧ b t + 1 = l (c t) ∧ a t + 1 = l (b t) ∧ l t = l (a t) ∧ a t < t ∧ b t < t)
  ∧ (k t = 12 → n t < 3) ∧ (k t = 8 → n t < 4) ∧ (k t = 9 → n t < 3) ∧ (k t = 4 → n t < 3) ∧ (k t = 5 → n t < 3)
/-- the class's arrays at j -/
def tx_R (G : Nat → Nat → Int32) (j k a b c n : Nat) (x : Int32) : Prop :=
  G 0 j = nI k ∧ G 1 j = nI a ∧ G 2 j = nI b ∧ G 3 j = nI c ∧ G 4 j = x ∧ (k ≠ 11 → x = nI n) ∧ vp_nar .byte x = x ∧ a < 12 ∧ b < 12 ∧ c < 12
/-- the reference's arrays at j -/
def ty_R (G : Nat → Nat → Int32) (j k a b c n : Nat) (x : Int32) : Prop :=
  G 0 j = nI (ty_so k n) ∧ G 1 j = (if k = 11 then x else if k = 12 then nI n else nI a) ∧ (k ≤ 6 ∨ k = 10 → G 2 j = nI b) ∧ (k = 10 → G 3 j = nI c)
def sk_R (A : Nat → Int32) : List Nat → Prop
  | [] => True
  | t :: r => A r.length = nI t ∧ sk_R A r
/-- the terms on the stack fill the nodes below m -/
def st_R (l : Nat → Nat) : List Nat → Nat → Prop
  | [] => fun m => m = 0
  | t :: r => fun m => t + 1 = m ∧ l t ≤ t ∧ st_R l r (l t)
theorem sk_x {A A' : Nat → Int32} : ∀ (s : List Nat), (∀ i, i < s.length → A' i = A i) → sk_R A s → sk_R A' s := by
  intro s
  induction s with
  | nil => intro _ _; trivial
  | cons t r ih =>
    rintro h ⟨h1, h2⟩
    simp only [List.length_cons] at h
    exact ⟨(h _ (by omega)).trans h1, ih (fun i hi => h i (by omega)) h2⟩
theorem st_x {l l' : Nat → Nat} : ∀ (s : List Nat) (m : Nat), (∀ i, i < m → l' i = l i) → st_R l s m → st_R l' s m := by
  intro s
  induction s with
  | nil => intro _ _ h; exact h
  | cons t r ih =>
    rintro m h ⟨h1, h2, h3⟩
    refine ⟨h1, ?_, ?_⟩
    · rw [h t (by omega)]; exact h2
    · rw [h t (by omega)]; exact ih _ (fun i hi => h i (by omega)) h3
theorem st_len {l : Nat → Nat} : ∀ (s : List Nat) (m : Nat), st_R l s m → s.length ≤ m := by
  intro s
  induction s with
  | nil => intro _ _; exact Nat.zero_le _
  | cons t r ih =>
    rintro m ⟨h1, h2, h3⟩
    have := ih _ h3
    simp only [List.length_cons]; omega
/-- definitions -/
def ir_D (G GY : Nat → Nat → Int32) (kd pa pb pc nn lo sz : Nat → Nat) (N : Nat → Int32) : Prop :=
  (∀ q, sz q ≤ 12) ∧ (∀ f, f < 4 → 0 < sz f) ∧ (∀ q, q < 16 → G 5 q = nI (sz q)) ∧ (∀ q, q < 16 → GY 4 q = nI (sz q))
  ∧ (∀ d t, d < 16 → t < sz d → tm_L (fun t => kd (12 * d + t)) (fun t => pa (12 * d + t)) (fun t => pb (12 * d + t)) (fun t => pc (12 * d + t)) (fun t => nn (12 * d + t)) (fun t => lo (12 * d + t)) t
      ∧ tx_R G (12 * d + t) (kd (12 * d + t)) (pa (12 * d + t)) (pb (12 * d + t)) (pc (12 * d + t)) (nn (12 * d + t)) (N (12 * d + t)) ∧ ty_R GY (12 * d + t) (kd (12 * d + t)) (pa (12 * d + t)) (pb (12 * d + t)) (pc (12 * d + t)) (nn (12 * d + t)) (N (12 * d + t)))
  ∧ (∀ d, d < 16 → sz d ≠ 0 → lo (12 * d + (sz d - 1)) = 0)
/-- what is being made -/
def ir_M (F : Nat → Int32) (G : Nat → Nat → Int32) (FY : Nat → Int32) (GY : Nat → Nat → Int32) (k a b c n l : Nat → Nat) (X : Nat → Int32) (m : Nat) (s : List Nat) : Prop :=
  F 0 = nI m ∧ GY 4 16 = nI m ∧ m ≤ 12 ∧ F 1 = nI s.length ∧ FY 0 = nI s.length ∧ sk_R (G 6) s ∧ sk_R (GY 5) s ∧ st_R l s m
  ∧ ∀ t, t < m → tm_L k a b c n l t ∧ tx_R G (192 + t) (k t) (a t) (b t) (c t) (n t) (X t) ∧ ty_R GY (192 + t) (k t) (a t) (b t) (c t) (n t) (X t)
/-- entries lie in the code -/
def en_R (G : Nat → Nat → Int32) : Prop := ∀ q, ∃ e, e ≤ 1200 ∧ G 15 q = nI e
/-- the compiled code -/
def ir_C (F : Nat → Int32) (G : Nat → Nat → Int32) (kd pa pb pc nn sz : Nat → Nat) (N : Nat → Int32) : Prop :=
  en_R G ∧ (F 2 = 0 ∨ (¬ F 2 = 0 ∧ ∃ en se hb BD BT nb, sp_R kd pa pb pc nn sz en se hb N (G 11) (G 12) BD BT nb ∧ sx_R sz en se hb (G 11) (G 12) G))
/-- the last run -/
def ir_E (F : Nat → Int32) (G : Nat → Nat → Int32) (FY : Nat → Int32) (GY : Nat → Nat → Int32) : Prop :=
  F 15 = FY 13 ∧ F 17 = FY 14 ∧ F 18 = FY 15 ∧ F 19 = FY 16 ∧ F 20 = FY 17 ∧ F 21 = FY 18
  ∧ (∃ no, no ≤ 150 ∧ F 22 = nI no ∧ FY 19 = nI no ∧ ∀ i, i < no → G 40 i = GY 22 i) ∧ F 16 = (if FY 13 = 0 then FY 2 else if FY 13 = 1 then FY 2 else 0)
/-- the relation -/
def i_Rel (_ : Nat) (u : SX) (v : SY) : Prop :=
  ∃ F G FY GY, u = xs_mk F G ∧ v = ys_mk FY GY ∧ (∃ kd pa pb pc nn lo sz N, ir_D G GY kd pa pb pc nn lo sz N ∧ ir_C F G kd pa pb pc nn sz N)
    ∧ (∃ k a b c n l X m s, ir_M F G FY GY k a b c n l X m s) ∧ ir_E F G FY GY
theorem i_up {k : Nat} {u : SX} {v : SY} (h : i_Rel k u v) : i_Rel (k + 3) u v := h
theorem sx_x {sz en se hb : Nat → Nat} {C O : Nat → Int32} {G G' : Nat → Nat → Int32} (h : sx_R sz en se hb C O G) (h5 : ∀ q, q < 16 → G' 5 q = G 5 q) (I : ∀ k, 6 < k → k < 22 → G' k = G k) : sx_R sz en se hb C O G' := by
  obtain ⟨h1, h2, h3, h4, h5', h6⟩ := h
  refine ⟨(I _ (by decide) (by decide)).trans h1, (I _ (by decide) (by decide)).trans h2, fun q hq => (h5 q hq).trans (h3 q hq), ?_, ?_, ?_⟩
  · rw [I 15 (by decide) (by decide)]; exact h4
  · rw [I 7 (by decide) (by decide)]; exact h5'
  · rw [I 16 (by decide) (by decide)]; exact h6
/-- the code stays while nothing that is compiled changes -/
theorem ir_Cx {F F' : Nat → Int32} {G G' : Nat → Nat → Int32} {kd pa pb pc nn sz : Nat → Nat} {N : Nat → Int32} (h : ir_C F G kd pa pb pc nn sz N) (hF : F' 2 = F 2) (h5 : ∀ q, q < 16 → G' 5 q = G 5 q) (I : ∀ k, 6 < k → k < 22 → G' k = G k) : ir_C F' G' kd pa pb pc nn sz N := by
  obtain ⟨h0, h⟩ := h
  refine ⟨fun q => by rw [I 15 (by decide) (by decide)]; exact h0 q, ?_⟩
  rcases h with h | ⟨h, en, se, hb, BD, BT, nb, h1, h2⟩
  · exact Or.inl (hF.trans h)
  · refine Or.inr ⟨by rw [hF]; exact h, en, se, hb, BD, BT, nb, ?_, ?_⟩
    · rw [I 11 (by decide) (by decide), I 12 (by decide) (by decide)]; exact h1
    · rw [I 11 (by decide) (by decide), I 12 (by decide) (by decide)]; exact sx_x h2 h5 I
/-- definitions do not see what is being made -/
theorem ir_Dx {G GY G' GY' : Nat → Nat → Int32} {kd pa pb pc nn lo sz : Nat → Nat} {N : Nat → Int32} (h : ir_D G GY kd pa pb pc nn lo sz N) (hX : ∀ k, k < 5 → ∀ j, j < 192 → G' k j = G k j) (hX5 : ∀ q, q < 16 → G' 5 q = G 5 q)
    (hY : ∀ k, k < 4 → ∀ j, j < 192 → GY' k j = GY k j) (hY4 : ∀ q, q < 16 → GY' 4 q = GY 4 q) : ir_D G' GY' kd pa pb pc nn lo sz N := by
  obtain ⟨h1, h2, h3, h4, h5, h6⟩ := h
  refine ⟨h1, h2, fun q hq => (hX5 q hq).trans (h3 q hq), fun q hq => (hY4 q hq).trans (h4 q hq), ?_, h6⟩
  intro d t hd ht
  have hj : 12 * d + t < 192 := by have := h1 d; omega
  obtain ⟨a1, ⟨b1, b2, b3, b4, b5, b6⟩, ⟨c1, c2, c3, c4⟩⟩ := h5 d t hd ht
  refine ⟨a1, ⟨(hX 0 (by decide) _ hj).trans b1, (hX 1 (by decide) _ hj).trans b2, (hX 2 (by decide) _ hj).trans b3, (hX 3 (by decide) _ hj).trans b4, (hX 4 (by decide) _ hj).trans b5, b6⟩, (hY 0 (by decide) _ hj).trans c1, (hY 1 (by decide) _ hj).trans c2, fun z => (hY 2 (by decide) _ hj).trans (c3 z), fun z => (hY 3 (by decide) _ hj).trans (c4 z)⟩
end
section
/-! making terms -/
theorem cg_ps {f : Nat → Nat} {i v : Nat} : cg_pl f i v i = v := if_pos rfl
theorem cg_pn {f : Nat → Nat} {i j v : Nat} (h : j ≠ i) : cg_pl f i v j = f j := if_neg h
theorem tm_Lx {k a b c n l k' a' b' c' n' l' : Nat → Nat} {t : Nat} (h : tm_L k a b c n l t) (e : ∀ i, i ≤ t → k' i = k i ∧ a' i = a i ∧ b' i = b i ∧ c' i = c i ∧ n' i = n i ∧ l' i = l i) : tm_L k' a' b' c' n' l' t := by
  obtain ⟨h1, h2, h3, h4, h5, h6, h7⟩ := h
  obtain ⟨e1, e2, e3, e4, e5, e6⟩ := e t (Nat.le_refl _)
  unfold tm_L
  rw [e1, e2, e3, e4, e5, e6]
  refine ⟨h1, h2, h3, fun z => ?_, fun z => ?_, fun z => ?_, h7⟩
  · obtain ⟨g1, g2⟩ := h4 z
    rw [(e (a t) (by omega)).2.2.2.2.2]; exact ⟨g1, g2⟩
  · obtain ⟨g1, g2, g3, g4⟩ := h5 z
    rw [(e (a t) (by omega)).2.2.2.2.2, (e (b t) (by omega)).2.2.2.2.2]; exact ⟨g1, g2, g3, g4⟩
  · obtain ⟨g1, g2, g3, g4, g5, g6⟩ := h6 z
    rw [(e (a t) (by omega)).2.2.2.2.2, (e (b t) (by omega)).2.2.2.2.2, (e (c t) (by omega)).2.2.2.2.2]; exact ⟨g1, g2, g3, g4, g5, g6⟩
def xk_G (G : Nat → Nat → Int32) (j w a b c h m : Nat) (x : Int32) : Nat → Nat → Int32 :=
  uu_G (uu_G (uu_G (uu_G (uu_G (uu_G G 0 (upd (G 0) j (nI w))) 4 (upd (G 4) j x)) 1 (upd (G 1) j (nI a))) 2 (upd (G 2) j (nI b))) 3 (upd (G 3) j (nI c))) 6 (upd (G 6) h (nI m))
def xk_F (F : Nat → Int32) (m h : Nat) : Nat → Int32 := upd (upd F 0 (nI (m + 1))) 1 (nI (h + 1))
theorem xk_make {F : Nat → Int32} {G : Nat → Nat → Int32} {m h kk w a b c : Nat} {x : Int32} {post : Int32 → SX → Prop} (hm : F 0 = nI m) (hmb : m < 12) (hh : F 1 = nI (h + kk)) (hk : kk ≤ 3) (hb : h + kk ≤ 12) (hb2 : h < 12) (hw : w < 13)
    (hA : (0 < kk ∧ G 6 h = nI a) ∨ (kk = 0 ∧ a = 0)) (hB : (1 < kk ∧ G 6 (h + 1) = nI b) ∨ (kk ≤ 1 ∧ b = 0)) (hC : (2 < kk ∧ G 6 (h + 2) = nI c) ∨ (kk ≤ 2 ∧ c = 0)) (ha : a < 12) (hbb : b < 12) (hc : c < 12) (hx : vp_nar .byte x.toInt8.toInt32 = x)
    (H : post (nI (h + 1)) (xs_mk (xk_F F m h) (xk_G G (192 + m) w a b c h m x))) : wpX_make post (xs_mk F G) (nI w) x (nI kk) := by
  have e1 : 192 + F 0 = nI (192 + m) := by rw [hm, uu_a192]
  have e2 : F 1 - nI kk = nI h := by rw [hh, pk_sub (by omega)]; exact congrArg nI (by omega)
  have v : vp_in (nI (192 + m)) 204 := vp_in_nI (by omega) (by omega)
  have cj : (nI (192 + m)).toNatClampNeg = 192 + m := nI_clamp (by omega)
  have vh : vp_in (nI h) 12 := vp_in_nI hb2 (by omega)
  have ch : (nI h).toNatClampNeg = h := nI_clamp (by omega)
  have l115 : ∀ F1 : Nat → Int32, F1 = upd F 1 (nI h) → wX_make_115 post (nI c) (nI (192 + m)) (F1 0) (F1 1) (F1 2) (F1 3) (F1 4) (F1 5) (F1 6) (F1 7) (F1 8) (F1 9) (F1 10) (F1 11) (F1 12) (F1 13) (F1 14) (F1 15) (F1 16) (F1 17) (F1 18) (F1 19) (F1 20) (F1 21) (F1 22) (uu_G (uu_G (uu_G (uu_G G 0 (upd (G 0) (192 + m) (nI w))) 4 (upd (G 4) (192 + m) x)) 1 (upd (G 1) (192 + m) (nI a))) 2 (upd (G 2) (192 + m) (nI b)) 0) (uu_G (uu_G (uu_G (uu_G G 0 (upd (G 0) (192 + m) (nI w))) 4 (upd (G 4) (192 + m) x)) 1 (upd (G 1) (192 + m) (nI a))) 2 (upd (G 2) (192 + m) (nI b)) 1) (uu_G (uu_G (uu_G (uu_G G 0 (upd (G 0) (192 + m) (nI w))) 4 (upd (G 4) (192 + m) x)) 1 (upd (G 1) (192 + m) (nI a))) 2 (upd (G 2) (192 + m) (nI b)) 2) (uu_G (uu_G (uu_G (uu_G G 0 (upd (G 0) (192 + m) (nI w))) 4 (upd (G 4) (192 + m) x)) 1 (upd (G 1) (192 + m) (nI a))) 2 (upd (G 2) (192 + m) (nI b)) 3) (uu_G (uu_G (uu_G (uu_G G 0 (upd (G 0) (192 + m) (nI w))) 4 (upd (G 4) (192 + m) x)) 1 (upd (G 1) (192 + m) (nI a))) 2 (upd (G 2) (192 + m) (nI b)) 4) (uu_G (uu_G (uu_G (uu_G G 0 (upd (G 0) (192 + m) (nI w))) 4 (upd (G 4) (192 + m) x)) 1 (upd (G 1) (192 + m) (nI a))) 2 (upd (G 2) (192 + m) (nI b)) 5) (uu_G (uu_G (uu_G (uu_G G 0 (upd (G 0) (192 + m) (nI w))) 4 (upd (G 4) (192 + m) x)) 1 (upd (G 1) (192 + m) (nI a))) 2 (upd (G 2) (192 + m) (nI b)) 6) (uu_G (uu_G (uu_G (uu_G G 0 (upd (G 0) (192 + m) (nI w))) 4 (upd (G 4) (192 + m) x)) 1 (upd (G 1) (192 + m) (nI a))) 2 (upd (G 2) (192 + m) (nI b)) 7) (uu_G (uu_G (uu_G (uu_G G 0 (upd (G 0) (192 + m) (nI w))) 4 (upd (G 4) (192 + m) x)) 1 (upd (G 1) (192 + m) (nI a))) 2 (upd (G 2) (192 + m) (nI b)) 8) (uu_G (uu_G (uu_G (uu_G G 0 (upd (G 0) (192 + m) (nI w))) 4 (upd (G 4) (192 + m) x)) 1 (upd (G 1) (192 + m) (nI a))) 2 (upd (G 2) (192 + m) (nI b)) 9) (uu_G (uu_G (uu_G (uu_G G 0 (upd (G 0) (192 + m) (nI w))) 4 (upd (G 4) (192 + m) x)) 1 (upd (G 1) (192 + m) (nI a))) 2 (upd (G 2) (192 + m) (nI b)) 10) (uu_G (uu_G (uu_G (uu_G G 0 (upd (G 0) (192 + m) (nI w))) 4 (upd (G 4) (192 + m) x)) 1 (upd (G 1) (192 + m) (nI a))) 2 (upd (G 2) (192 + m) (nI b)) 11) (uu_G (uu_G (uu_G (uu_G G 0 (upd (G 0) (192 + m) (nI w))) 4 (upd (G 4) (192 + m) x)) 1 (upd (G 1) (192 + m) (nI a))) 2 (upd (G 2) (192 + m) (nI b)) 12) (uu_G (uu_G (uu_G (uu_G G 0 (upd (G 0) (192 + m) (nI w))) 4 (upd (G 4) (192 + m) x)) 1 (upd (G 1) (192 + m) (nI a))) 2 (upd (G 2) (192 + m) (nI b)) 13) (uu_G (uu_G (uu_G (uu_G G 0 (upd (G 0) (192 + m) (nI w))) 4 (upd (G 4) (192 + m) x)) 1 (upd (G 1) (192 + m) (nI a))) 2 (upd (G 2) (192 + m) (nI b)) 14) (uu_G (uu_G (uu_G (uu_G G 0 (upd (G 0) (192 + m) (nI w))) 4 (upd (G 4) (192 + m) x)) 1 (upd (G 1) (192 + m) (nI a))) 2 (upd (G 2) (192 + m) (nI b)) 15) (uu_G (uu_G (uu_G (uu_G G 0 (upd (G 0) (192 + m) (nI w))) 4 (upd (G 4) (192 + m) x)) 1 (upd (G 1) (192 + m) (nI a))) 2 (upd (G 2) (192 + m) (nI b)) 16) (uu_G (uu_G (uu_G (uu_G G 0 (upd (G 0) (192 + m) (nI w))) 4 (upd (G 4) (192 + m) x)) 1 (upd (G 1) (192 + m) (nI a))) 2 (upd (G 2) (192 + m) (nI b)) 17) (uu_G (uu_G (uu_G (uu_G G 0 (upd (G 0) (192 + m) (nI w))) 4 (upd (G 4) (192 + m) x)) 1 (upd (G 1) (192 + m) (nI a))) 2 (upd (G 2) (192 + m) (nI b)) 18) (uu_G (uu_G (uu_G (uu_G G 0 (upd (G 0) (192 + m) (nI w))) 4 (upd (G 4) (192 + m) x)) 1 (upd (G 1) (192 + m) (nI a))) 2 (upd (G 2) (192 + m) (nI b)) 19) (uu_G (uu_G (uu_G (uu_G G 0 (upd (G 0) (192 + m) (nI w))) 4 (upd (G 4) (192 + m) x)) 1 (upd (G 1) (192 + m) (nI a))) 2 (upd (G 2) (192 + m) (nI b)) 20) (uu_G (uu_G (uu_G (uu_G G 0 (upd (G 0) (192 + m) (nI w))) 4 (upd (G 4) (192 + m) x)) 1 (upd (G 1) (192 + m) (nI a))) 2 (upd (G 2) (192 + m) (nI b)) 21) (uu_G (uu_G (uu_G (uu_G G 0 (upd (G 0) (192 + m) (nI w))) 4 (upd (G 4) (192 + m) x)) 1 (upd (G 1) (192 + m) (nI a))) 2 (upd (G 2) (192 + m) (nI b)) 22) (uu_G (uu_G (uu_G (uu_G G 0 (upd (G 0) (192 + m) (nI w))) 4 (upd (G 4) (192 + m) x)) 1 (upd (G 1) (192 + m) (nI a))) 2 (upd (G 2) (192 + m) (nI b)) 23) (uu_G (uu_G (uu_G (uu_G G 0 (upd (G 0) (192 + m) (nI w))) 4 (upd (G 4) (192 + m) x)) 1 (upd (G 1) (192 + m) (nI a))) 2 (upd (G 2) (192 + m) (nI b)) 24) (uu_G (uu_G (uu_G (uu_G G 0 (upd (G 0) (192 + m) (nI w))) 4 (upd (G 4) (192 + m) x)) 1 (upd (G 1) (192 + m) (nI a))) 2 (upd (G 2) (192 + m) (nI b)) 25) (uu_G (uu_G (uu_G (uu_G G 0 (upd (G 0) (192 + m) (nI w))) 4 (upd (G 4) (192 + m) x)) 1 (upd (G 1) (192 + m) (nI a))) 2 (upd (G 2) (192 + m) (nI b)) 26) (uu_G (uu_G (uu_G (uu_G G 0 (upd (G 0) (192 + m) (nI w))) 4 (upd (G 4) (192 + m) x)) 1 (upd (G 1) (192 + m) (nI a))) 2 (upd (G 2) (192 + m) (nI b)) 27) (uu_G (uu_G (uu_G (uu_G G 0 (upd (G 0) (192 + m) (nI w))) 4 (upd (G 4) (192 + m) x)) 1 (upd (G 1) (192 + m) (nI a))) 2 (upd (G 2) (192 + m) (nI b)) 28) (uu_G (uu_G (uu_G (uu_G G 0 (upd (G 0) (192 + m) (nI w))) 4 (upd (G 4) (192 + m) x)) 1 (upd (G 1) (192 + m) (nI a))) 2 (upd (G 2) (192 + m) (nI b)) 29) (uu_G (uu_G (uu_G (uu_G G 0 (upd (G 0) (192 + m) (nI w))) 4 (upd (G 4) (192 + m) x)) 1 (upd (G 1) (192 + m) (nI a))) 2 (upd (G 2) (192 + m) (nI b)) 30) (uu_G (uu_G (uu_G (uu_G G 0 (upd (G 0) (192 + m) (nI w))) 4 (upd (G 4) (192 + m) x)) 1 (upd (G 1) (192 + m) (nI a))) 2 (upd (G 2) (192 + m) (nI b)) 31) (uu_G (uu_G (uu_G (uu_G G 0 (upd (G 0) (192 + m) (nI w))) 4 (upd (G 4) (192 + m) x)) 1 (upd (G 1) (192 + m) (nI a))) 2 (upd (G 2) (192 + m) (nI b)) 32) (uu_G (uu_G (uu_G (uu_G G 0 (upd (G 0) (192 + m) (nI w))) 4 (upd (G 4) (192 + m) x)) 1 (upd (G 1) (192 + m) (nI a))) 2 (upd (G 2) (192 + m) (nI b)) 33) (uu_G (uu_G (uu_G (uu_G G 0 (upd (G 0) (192 + m) (nI w))) 4 (upd (G 4) (192 + m) x)) 1 (upd (G 1) (192 + m) (nI a))) 2 (upd (G 2) (192 + m) (nI b)) 34) (uu_G (uu_G (uu_G (uu_G G 0 (upd (G 0) (192 + m) (nI w))) 4 (upd (G 4) (192 + m) x)) 1 (upd (G 1) (192 + m) (nI a))) 2 (upd (G 2) (192 + m) (nI b)) 35) (uu_G (uu_G (uu_G (uu_G G 0 (upd (G 0) (192 + m) (nI w))) 4 (upd (G 4) (192 + m) x)) 1 (upd (G 1) (192 + m) (nI a))) 2 (upd (G 2) (192 + m) (nI b)) 36) (uu_G (uu_G (uu_G (uu_G G 0 (upd (G 0) (192 + m) (nI w))) 4 (upd (G 4) (192 + m) x)) 1 (upd (G 1) (192 + m) (nI a))) 2 (upd (G 2) (192 + m) (nI b)) 37) (uu_G (uu_G (uu_G (uu_G G 0 (upd (G 0) (192 + m) (nI w))) 4 (upd (G 4) (192 + m) x)) 1 (upd (G 1) (192 + m) (nI a))) 2 (upd (G 2) (192 + m) (nI b)) 38) (uu_G (uu_G (uu_G (uu_G G 0 (upd (G 0) (192 + m) (nI w))) 4 (upd (G 4) (192 + m) x)) 1 (upd (G 1) (192 + m) (nI a))) 2 (upd (G 2) (192 + m) (nI b)) 39) (uu_G (uu_G (uu_G (uu_G G 0 (upd (G 0) (192 + m) (nI w))) 4 (upd (G 4) (192 + m) x)) 1 (upd (G 1) (192 + m) (nI a))) 2 (upd (G 2) (192 + m) (nI b)) 40) := by
    rintro F1 rfl
    unfold wX_make_115
    rw [cj]
    refine ⟨v, nm_r (e' := upd (G 3) (192 + m) (nI c)) (by rw [uu_nb (by omega)]; rfl) ⟨vh, nm_r (e' := upd (G 6) h (nI m)) ?_ (nm_r (e' := nI (h + 1)) (nI_1 h) (nm_r (e' := nI (m + 1)) ?_ H))⟩⟩
    · show upd (G 6) (nI h).toNatClampNeg (vp_nar .byte (F 0).toInt8.toInt32) = _
      rw [ch, hm, uu_b8 (by omega), uu_nb (by omega)]
    · show F 0 + 1 = _
      rw [hm, nI_1]
  have l88 : ∀ F1 : Nat → Int32, F1 = upd F 1 (nI h) → wX_make_88 post (nI kk) (nI (192 + m)) (nI b) (nI (192 + m)) (F1 0) (F1 1) (F1 2) (F1 3) (F1 4) (F1 5) (F1 6) (F1 7) (F1 8) (F1 9) (F1 10) (F1 11) (F1 12) (F1 13) (F1 14) (F1 15) (F1 16) (F1 17) (F1 18) (F1 19) (F1 20) (F1 21) (F1 22) (uu_G (uu_G (uu_G G 0 (upd (G 0) (192 + m) (nI w))) 4 (upd (G 4) (192 + m) x)) 1 (upd (G 1) (192 + m) (nI a)) 0) (uu_G (uu_G (uu_G G 0 (upd (G 0) (192 + m) (nI w))) 4 (upd (G 4) (192 + m) x)) 1 (upd (G 1) (192 + m) (nI a)) 1) (uu_G (uu_G (uu_G G 0 (upd (G 0) (192 + m) (nI w))) 4 (upd (G 4) (192 + m) x)) 1 (upd (G 1) (192 + m) (nI a)) 2) (uu_G (uu_G (uu_G G 0 (upd (G 0) (192 + m) (nI w))) 4 (upd (G 4) (192 + m) x)) 1 (upd (G 1) (192 + m) (nI a)) 3) (uu_G (uu_G (uu_G G 0 (upd (G 0) (192 + m) (nI w))) 4 (upd (G 4) (192 + m) x)) 1 (upd (G 1) (192 + m) (nI a)) 4) (uu_G (uu_G (uu_G G 0 (upd (G 0) (192 + m) (nI w))) 4 (upd (G 4) (192 + m) x)) 1 (upd (G 1) (192 + m) (nI a)) 5) (uu_G (uu_G (uu_G G 0 (upd (G 0) (192 + m) (nI w))) 4 (upd (G 4) (192 + m) x)) 1 (upd (G 1) (192 + m) (nI a)) 6) (uu_G (uu_G (uu_G G 0 (upd (G 0) (192 + m) (nI w))) 4 (upd (G 4) (192 + m) x)) 1 (upd (G 1) (192 + m) (nI a)) 7) (uu_G (uu_G (uu_G G 0 (upd (G 0) (192 + m) (nI w))) 4 (upd (G 4) (192 + m) x)) 1 (upd (G 1) (192 + m) (nI a)) 8) (uu_G (uu_G (uu_G G 0 (upd (G 0) (192 + m) (nI w))) 4 (upd (G 4) (192 + m) x)) 1 (upd (G 1) (192 + m) (nI a)) 9) (uu_G (uu_G (uu_G G 0 (upd (G 0) (192 + m) (nI w))) 4 (upd (G 4) (192 + m) x)) 1 (upd (G 1) (192 + m) (nI a)) 10) (uu_G (uu_G (uu_G G 0 (upd (G 0) (192 + m) (nI w))) 4 (upd (G 4) (192 + m) x)) 1 (upd (G 1) (192 + m) (nI a)) 11) (uu_G (uu_G (uu_G G 0 (upd (G 0) (192 + m) (nI w))) 4 (upd (G 4) (192 + m) x)) 1 (upd (G 1) (192 + m) (nI a)) 12) (uu_G (uu_G (uu_G G 0 (upd (G 0) (192 + m) (nI w))) 4 (upd (G 4) (192 + m) x)) 1 (upd (G 1) (192 + m) (nI a)) 13) (uu_G (uu_G (uu_G G 0 (upd (G 0) (192 + m) (nI w))) 4 (upd (G 4) (192 + m) x)) 1 (upd (G 1) (192 + m) (nI a)) 14) (uu_G (uu_G (uu_G G 0 (upd (G 0) (192 + m) (nI w))) 4 (upd (G 4) (192 + m) x)) 1 (upd (G 1) (192 + m) (nI a)) 15) (uu_G (uu_G (uu_G G 0 (upd (G 0) (192 + m) (nI w))) 4 (upd (G 4) (192 + m) x)) 1 (upd (G 1) (192 + m) (nI a)) 16) (uu_G (uu_G (uu_G G 0 (upd (G 0) (192 + m) (nI w))) 4 (upd (G 4) (192 + m) x)) 1 (upd (G 1) (192 + m) (nI a)) 17) (uu_G (uu_G (uu_G G 0 (upd (G 0) (192 + m) (nI w))) 4 (upd (G 4) (192 + m) x)) 1 (upd (G 1) (192 + m) (nI a)) 18) (uu_G (uu_G (uu_G G 0 (upd (G 0) (192 + m) (nI w))) 4 (upd (G 4) (192 + m) x)) 1 (upd (G 1) (192 + m) (nI a)) 19) (uu_G (uu_G (uu_G G 0 (upd (G 0) (192 + m) (nI w))) 4 (upd (G 4) (192 + m) x)) 1 (upd (G 1) (192 + m) (nI a)) 20) (uu_G (uu_G (uu_G G 0 (upd (G 0) (192 + m) (nI w))) 4 (upd (G 4) (192 + m) x)) 1 (upd (G 1) (192 + m) (nI a)) 21) (uu_G (uu_G (uu_G G 0 (upd (G 0) (192 + m) (nI w))) 4 (upd (G 4) (192 + m) x)) 1 (upd (G 1) (192 + m) (nI a)) 22) (uu_G (uu_G (uu_G G 0 (upd (G 0) (192 + m) (nI w))) 4 (upd (G 4) (192 + m) x)) 1 (upd (G 1) (192 + m) (nI a)) 23) (uu_G (uu_G (uu_G G 0 (upd (G 0) (192 + m) (nI w))) 4 (upd (G 4) (192 + m) x)) 1 (upd (G 1) (192 + m) (nI a)) 24) (uu_G (uu_G (uu_G G 0 (upd (G 0) (192 + m) (nI w))) 4 (upd (G 4) (192 + m) x)) 1 (upd (G 1) (192 + m) (nI a)) 25) (uu_G (uu_G (uu_G G 0 (upd (G 0) (192 + m) (nI w))) 4 (upd (G 4) (192 + m) x)) 1 (upd (G 1) (192 + m) (nI a)) 26) (uu_G (uu_G (uu_G G 0 (upd (G 0) (192 + m) (nI w))) 4 (upd (G 4) (192 + m) x)) 1 (upd (G 1) (192 + m) (nI a)) 27) (uu_G (uu_G (uu_G G 0 (upd (G 0) (192 + m) (nI w))) 4 (upd (G 4) (192 + m) x)) 1 (upd (G 1) (192 + m) (nI a)) 28) (uu_G (uu_G (uu_G G 0 (upd (G 0) (192 + m) (nI w))) 4 (upd (G 4) (192 + m) x)) 1 (upd (G 1) (192 + m) (nI a)) 29) (uu_G (uu_G (uu_G G 0 (upd (G 0) (192 + m) (nI w))) 4 (upd (G 4) (192 + m) x)) 1 (upd (G 1) (192 + m) (nI a)) 30) (uu_G (uu_G (uu_G G 0 (upd (G 0) (192 + m) (nI w))) 4 (upd (G 4) (192 + m) x)) 1 (upd (G 1) (192 + m) (nI a)) 31) (uu_G (uu_G (uu_G G 0 (upd (G 0) (192 + m) (nI w))) 4 (upd (G 4) (192 + m) x)) 1 (upd (G 1) (192 + m) (nI a)) 32) (uu_G (uu_G (uu_G G 0 (upd (G 0) (192 + m) (nI w))) 4 (upd (G 4) (192 + m) x)) 1 (upd (G 1) (192 + m) (nI a)) 33) (uu_G (uu_G (uu_G G 0 (upd (G 0) (192 + m) (nI w))) 4 (upd (G 4) (192 + m) x)) 1 (upd (G 1) (192 + m) (nI a)) 34) (uu_G (uu_G (uu_G G 0 (upd (G 0) (192 + m) (nI w))) 4 (upd (G 4) (192 + m) x)) 1 (upd (G 1) (192 + m) (nI a)) 35) (uu_G (uu_G (uu_G G 0 (upd (G 0) (192 + m) (nI w))) 4 (upd (G 4) (192 + m) x)) 1 (upd (G 1) (192 + m) (nI a)) 36) (uu_G (uu_G (uu_G G 0 (upd (G 0) (192 + m) (nI w))) 4 (upd (G 4) (192 + m) x)) 1 (upd (G 1) (192 + m) (nI a)) 37) (uu_G (uu_G (uu_G G 0 (upd (G 0) (192 + m) (nI w))) 4 (upd (G 4) (192 + m) x)) 1 (upd (G 1) (192 + m) (nI a)) 38) (uu_G (uu_G (uu_G G 0 (upd (G 0) (192 + m) (nI w))) 4 (upd (G 4) (192 + m) x)) 1 (upd (G 1) (192 + m) (nI a)) 39) (uu_G (uu_G (uu_G G 0 (upd (G 0) (192 + m) (nI w))) 4 (upd (G 4) (192 + m) x)) 1 (upd (G 1) (192 + m) (nI a)) 40) := by
    rintro F1 rfl
    have L := l115 _ rfl
    unfold wX_make_88
    rw [cj]
    refine ⟨v, nm_r (e' := upd (G 2) (192 + m) (nI b)) (by rw [uu_nb (by omega)]; rfl) ?_⟩
    rcases hC with ⟨z, hC⟩ | ⟨z, rfl⟩
    · refine br_f (nI_ge (a := 2) z (by omega)) ?_
      have e : G 6 (nI h + 2).toNatClampNeg = nI c := by rw [uu_a2, nI_clamp (by omega), hC]
      rw [← e] at L
      exact And.intro (show vp_in (nI h + 2) 12 by rw [uu_a2]; exact vp_in_nI (by omega) (by omega)) L
    · exact br_t (nI_le (b := 2) z (by omega)) L
  have l61 : ∀ F1 : Nat → Int32, F1 = upd F 1 (nI h) → wX_make_61 post (nI kk) (nI (192 + m)) (nI a) (nI (192 + m)) (F1 0) (F1 1) (F1 2) (F1 3) (F1 4) (F1 5) (F1 6) (F1 7) (F1 8) (F1 9) (F1 10) (F1 11) (F1 12) (F1 13) (F1 14) (F1 15) (F1 16) (F1 17) (F1 18) (F1 19) (F1 20) (F1 21) (F1 22) (uu_G (uu_G G 0 (upd (G 0) (192 + m) (nI w))) 4 (upd (G 4) (192 + m) x) 0) (uu_G (uu_G G 0 (upd (G 0) (192 + m) (nI w))) 4 (upd (G 4) (192 + m) x) 1) (uu_G (uu_G G 0 (upd (G 0) (192 + m) (nI w))) 4 (upd (G 4) (192 + m) x) 2) (uu_G (uu_G G 0 (upd (G 0) (192 + m) (nI w))) 4 (upd (G 4) (192 + m) x) 3) (uu_G (uu_G G 0 (upd (G 0) (192 + m) (nI w))) 4 (upd (G 4) (192 + m) x) 4) (uu_G (uu_G G 0 (upd (G 0) (192 + m) (nI w))) 4 (upd (G 4) (192 + m) x) 5) (uu_G (uu_G G 0 (upd (G 0) (192 + m) (nI w))) 4 (upd (G 4) (192 + m) x) 6) (uu_G (uu_G G 0 (upd (G 0) (192 + m) (nI w))) 4 (upd (G 4) (192 + m) x) 7) (uu_G (uu_G G 0 (upd (G 0) (192 + m) (nI w))) 4 (upd (G 4) (192 + m) x) 8) (uu_G (uu_G G 0 (upd (G 0) (192 + m) (nI w))) 4 (upd (G 4) (192 + m) x) 9) (uu_G (uu_G G 0 (upd (G 0) (192 + m) (nI w))) 4 (upd (G 4) (192 + m) x) 10) (uu_G (uu_G G 0 (upd (G 0) (192 + m) (nI w))) 4 (upd (G 4) (192 + m) x) 11) (uu_G (uu_G G 0 (upd (G 0) (192 + m) (nI w))) 4 (upd (G 4) (192 + m) x) 12) (uu_G (uu_G G 0 (upd (G 0) (192 + m) (nI w))) 4 (upd (G 4) (192 + m) x) 13) (uu_G (uu_G G 0 (upd (G 0) (192 + m) (nI w))) 4 (upd (G 4) (192 + m) x) 14) (uu_G (uu_G G 0 (upd (G 0) (192 + m) (nI w))) 4 (upd (G 4) (192 + m) x) 15) (uu_G (uu_G G 0 (upd (G 0) (192 + m) (nI w))) 4 (upd (G 4) (192 + m) x) 16) (uu_G (uu_G G 0 (upd (G 0) (192 + m) (nI w))) 4 (upd (G 4) (192 + m) x) 17) (uu_G (uu_G G 0 (upd (G 0) (192 + m) (nI w))) 4 (upd (G 4) (192 + m) x) 18) (uu_G (uu_G G 0 (upd (G 0) (192 + m) (nI w))) 4 (upd (G 4) (192 + m) x) 19) (uu_G (uu_G G 0 (upd (G 0) (192 + m) (nI w))) 4 (upd (G 4) (192 + m) x) 20) (uu_G (uu_G G 0 (upd (G 0) (192 + m) (nI w))) 4 (upd (G 4) (192 + m) x) 21) (uu_G (uu_G G 0 (upd (G 0) (192 + m) (nI w))) 4 (upd (G 4) (192 + m) x) 22) (uu_G (uu_G G 0 (upd (G 0) (192 + m) (nI w))) 4 (upd (G 4) (192 + m) x) 23) (uu_G (uu_G G 0 (upd (G 0) (192 + m) (nI w))) 4 (upd (G 4) (192 + m) x) 24) (uu_G (uu_G G 0 (upd (G 0) (192 + m) (nI w))) 4 (upd (G 4) (192 + m) x) 25) (uu_G (uu_G G 0 (upd (G 0) (192 + m) (nI w))) 4 (upd (G 4) (192 + m) x) 26) (uu_G (uu_G G 0 (upd (G 0) (192 + m) (nI w))) 4 (upd (G 4) (192 + m) x) 27) (uu_G (uu_G G 0 (upd (G 0) (192 + m) (nI w))) 4 (upd (G 4) (192 + m) x) 28) (uu_G (uu_G G 0 (upd (G 0) (192 + m) (nI w))) 4 (upd (G 4) (192 + m) x) 29) (uu_G (uu_G G 0 (upd (G 0) (192 + m) (nI w))) 4 (upd (G 4) (192 + m) x) 30) (uu_G (uu_G G 0 (upd (G 0) (192 + m) (nI w))) 4 (upd (G 4) (192 + m) x) 31) (uu_G (uu_G G 0 (upd (G 0) (192 + m) (nI w))) 4 (upd (G 4) (192 + m) x) 32) (uu_G (uu_G G 0 (upd (G 0) (192 + m) (nI w))) 4 (upd (G 4) (192 + m) x) 33) (uu_G (uu_G G 0 (upd (G 0) (192 + m) (nI w))) 4 (upd (G 4) (192 + m) x) 34) (uu_G (uu_G G 0 (upd (G 0) (192 + m) (nI w))) 4 (upd (G 4) (192 + m) x) 35) (uu_G (uu_G G 0 (upd (G 0) (192 + m) (nI w))) 4 (upd (G 4) (192 + m) x) 36) (uu_G (uu_G G 0 (upd (G 0) (192 + m) (nI w))) 4 (upd (G 4) (192 + m) x) 37) (uu_G (uu_G G 0 (upd (G 0) (192 + m) (nI w))) 4 (upd (G 4) (192 + m) x) 38) (uu_G (uu_G G 0 (upd (G 0) (192 + m) (nI w))) 4 (upd (G 4) (192 + m) x) 39) (uu_G (uu_G G 0 (upd (G 0) (192 + m) (nI w))) 4 (upd (G 4) (192 + m) x) 40) := by
    rintro F1 rfl
    have L := l88 _ rfl
    unfold wX_make_61
    rw [cj]
    refine ⟨v, nm_r (e' := upd (G 1) (192 + m) (nI a)) (by rw [uu_nb (by omega)]; rfl) ?_⟩
    rcases hB with ⟨z, hB⟩ | ⟨z, rfl⟩
    · refine br_f (nI_ge (a := 1) z (by omega)) ?_
      have e : G 6 (nI h + 1).toNatClampNeg = nI b := by rw [uu_a1, nI_clamp (by omega), hB]
      rw [← e] at L
      exact And.intro (show vp_in (nI h + 1) 12 by rw [uu_a1]; exact vp_in_nI (by omega) (by omega)) L
    · exact br_t (nI_le (b := 1) z (by omega)) L
  have L := l61 _ rfl
  unfold wpX_make
  refine nm_r e1 (nm_r e2 ?_)
  rw [cj]
  refine ⟨v, nm_r (e' := upd (G 0) (192 + m) (nI w)) (by rw [uu_b8 (by omega), uu_nb (by omega)]) ⟨v, nm_r (e' := upd (G 4) (192 + m) x) (by rw [hx]) ?_⟩⟩
  rcases hA with ⟨z, hA⟩ | ⟨rfl, rfl⟩
  · refine br_f (nI_ge (a := 0) z (by omega)) ⟨vh, ?_⟩
    rw [ch, hA]; exact L
  · exact br_t (by decide) L
def yk_G (G : Nat → Nat → Int32) (j h m : Nat) (s f e t : Int32) : Nat → Nat → Int32 :=
  uu_G (uu_G (uu_G (uu_G (uu_G (uu_G G 0 (upd (G 0) j s)) 1 (upd (G 1) j f)) 2 (upd (G 2) j e)) 3 (upd (G 3) j t)) 5 (upd (G 5) h (nI m))) 4 (upd (G 4) 16 (nI (m + 1)))
theorem yk_make {F : Nat → Int32} {G : Nat → Nat → Int32} {m h : Nat} {s f e t : Int32} {post : Int32 → SY → Prop} (hm : G 4 16 = nI m) (hmb : m < 12) (hh : F 0 = nI h) (hb : h < 12)
    (H : post (nI (h + 1)) (ys_mk (upd F 0 (nI (h + 1))) (yk_G G (192 + m) h m s f e t))) : wpY_make post (ys_mk F G) s f e t := by
  have e1 : 192 + G 4 16 = nI (192 + m) := by rw [hm, uu_a192]
  have v : vp_in (nI (192 + m)) 204 := vp_in_nI (by omega) (by omega)
  have cj : (nI (192 + m)).toNatClampNeg = 192 + m := nI_clamp (by omega)
  have vh : vp_in (F 0) 12 := by rw [hh]; exact vp_in_nI hb (by omega)
  have ch : (F 0).toNatClampNeg = h := by rw [hh]; exact nI_clamp (by omega)
  unfold wpY_make
  refine nm_r e1 ?_
  simp only [cj, ch]
  exact ⟨v, nm_e ⟨v, nm_e ⟨v, nm_e ⟨v, nm_e ⟨vh, nm_r (e' := upd (G 5) h (nI m)) (by rw [hm]) (nm_r (e' := upd (G 4) 16 (nI (m + 1))) (by rw [hm, nI_1]) (nm_r (e' := nI (h + 1)) (by rw [hh, nI_1]) H))⟩⟩⟩⟩⟩
/-- a node more on both sides -/
theorem ir_make {q : Nat} {F : Nat → Int32} {G : Nat → Nat → Int32} {FY : Nat → Int32} {GY : Nat → Nat → Int32} {kd pa pb pc nn lo sz : Nat → Nat} {N : Nat → Int32} {k a b c n l : Nat → Nat} {X : Nat → Int32} {m : Nat} {s r : List Nat} {w na nb nc nv lv : Nat} {x sY fY eY tY : Int32}
    (hD : ir_D G GY kd pa pb pc nn lo sz N) (hC : ir_C F G kd pa pb pc nn sz N) (hM : ir_M F G FY GY k a b c n l X m s) (hE : ir_E F G FY GY) (hm : m < 12) (hr : r.length < 12) (hrs : ∀ A, sk_R A s → sk_R A r)
    (hst : st_R l r lv) (hlv : lv ≤ m) (hL : tm_L (cg_pl k m w) (cg_pl a m na) (cg_pl b m nb) (cg_pl c m nc) (cg_pl n m nv) (cg_pl l m lv) m)
    (hx : (w ≠ 11 → x = nI nv) ∧ vp_nar .byte x = x) (hna : na < 12) (hnb : nb < 12) (hnc : nc < 12)
    (h1 : sY = nI (ty_so w nv)) (h2 : fY = (if w = 11 then x else if w = 12 then nI nv else nI na)) (h3 : w ≤ 6 ∨ w = 10 → eY = nI nb) (h4 : w = 10 → tY = nI nc) :
    i_Rel q (xs_mk (xk_F F m r.length) (xk_G G (192 + m) w na nb nc r.length m x)) (ys_mk (upd FY 0 (nI (r.length + 1))) (yk_G GY (192 + m) r.length m sY fY eY tY)) := by
  have gX : ∀ i, 6 < i → xk_G G (192 + m) w na nb nc r.length m x i = G i := fun i hi => by
    unfold xk_G
    rw [uu_Gn (by omega), uu_Gn (by omega), uu_Gn (by omega), uu_Gn (by omega), uu_Gn (by omega), uu_Gn (by omega)]
  have gY : ∀ i, 5 < i → yk_G GY (192 + m) r.length m sY fY eY tY i = GY i := fun i hi => by
    unfold yk_G
    rw [uu_Gn (by omega), uu_Gn (by omega), uu_Gn (by omega), uu_Gn (by omega), uu_Gn (by omega), uu_Gn (by omega)]
  have lX : ∀ i, i < 5 → ∀ j, j ≠ 192 + m → xk_G G (192 + m) w na nb nc r.length m x i j = G i j := by
    intro i hi j hj
    obtain rfl | rfl | rfl | rfl | rfl : i = 0 ∨ i = 1 ∨ i = 2 ∨ i = 3 ∨ i = 4 := by omega
    all_goals exact pk_un hj
  have lY : ∀ i, i < 4 → ∀ j, j ≠ 192 + m → yk_G GY (192 + m) r.length m sY fY eY tY i j = GY i j := by
    intro i hi j hj
    obtain rfl | rfl | rfl | rfl : i = 0 ∨ i = 1 ∨ i = 2 ∨ i = 3 := by omega
    all_goals exact pk_un hj
  obtain ⟨m1, m2, m3, m4, m5, m6, m7, m8, m9⟩ := hM
  refine ⟨_, _, _, _, rfl, rfl, ⟨kd, pa, pb, pc, nn, lo, sz, N, ir_Dx hD (fun i hi j hj => lX i hi j (by omega)) (fun _ _ => rfl) (fun i hi j hj => lY i hi j (by omega)) (fun i hi => pk_un (by omega)), ir_Cx hC rfl (fun _ _ => rfl) (fun i hi _ => gX i hi)⟩,
    ⟨cg_pl k m w, cg_pl a m na, cg_pl b m nb, cg_pl c m nc, cg_pl n m nv, cg_pl l m lv, upd X m x, m + 1, m :: r, rfl, (pk_us (f := GY 4) (k := 16) (x := nI (m + 1))), by omega, rfl, rfl, ⟨pk_us, ?_⟩, ⟨pk_us, ?_⟩, ⟨rfl, ?_, ?_⟩, ?_⟩, ?_⟩
  · exact sk_x r (fun i hi => pk_un (by omega)) (hrs _ m6)
  · exact sk_x r (fun i hi => pk_un (by omega)) (hrs _ m7)
  · rw [cg_ps]; exact hlv
  · rw [cg_ps]; exact st_x r lv (fun i hi => cg_pn (by omega)) hst
  · intro t ht
    by_cases z : t = m
    · subst z
      rw [cg_ps, cg_ps, cg_ps, cg_ps, cg_ps, pk_us]
      refine ⟨hL, ⟨pk_us, pk_us, pk_us, pk_us, pk_us, hx.1, hx.2, hna, hnb, hnc⟩, ⟨?_, ?_, ?_, ?_⟩⟩
      · exact pk_us.trans h1
      · exact pk_us.trans h2
      · exact fun z => pk_us.trans (h3 z)
      · exact fun z => pk_us.trans (h4 z)
    · obtain ⟨a1, ⟨b1, b2, b3, b4, b5, b6⟩, ⟨c1, c2, c3, c4⟩⟩ := m9 t (by omega)
      have hn : 192 + t ≠ 192 + m := by omega
      rw [cg_pn z, cg_pn z, cg_pn z, cg_pn z, cg_pn z, pk_un z]
      refine ⟨tm_Lx a1 fun i hi => ?_, ⟨(lX 0 (by decide) _ hn).trans b1, (lX 1 (by decide) _ hn).trans b2, (lX 2 (by decide) _ hn).trans b3, (lX 3 (by decide) _ hn).trans b4, (lX 4 (by decide) _ hn).trans b5, b6⟩, (lY 0 (by decide) _ hn).trans c1, (lY 1 (by decide) _ hn).trans c2, fun z => (lY 2 (by decide) _ hn).trans (c3 z), fun z => (lY 3 (by decide) _ hn).trans (c4 z)⟩
      have hi' : i ≠ m := by omega
      exact ⟨cg_pn hi', cg_pn hi', cg_pn hi', cg_pn hi', cg_pn hi', cg_pn hi'⟩
  · obtain ⟨e1, e2, e3, e4, e5, e6, ⟨no, e7, e8, e9, e10⟩, e11⟩ := hE
    exact ⟨e1, e2, e3, e4, e5, e6, ⟨no, e7, e8, e9, fun i hi => by rw [gX _ (by decide), gY _ (by decide)]; exact e10 i hi⟩, e11⟩
end
section
/-! the simple calls -/
theorem nr_8 {x : Int32} (h1 : -128 ≤ x.toInt) (h2 : x.toInt < 128) : x.toInt8.toInt32 = x := by
  apply Int32.toInt_inj.mp
  rw [Int8.toInt_toInt32, Int32.toInt_toInt8]
  exact Int.bmod_eq_of_le (by omega) (by omega)
theorem nr_v {x : Int32} (h1 : -128 ≤ x.toInt) (h2 : x.toInt < 128) : vp_nar .byte x.toInt8.toInt32 = x ∧ vp_nar .byte x = x := by
  rw [pk_vb, vp_nar_byte, nr_8 h1 h2]; exact ⟨rfl, rfl⟩
theorem nr_n {n : Nat} (h : n < 128) : vp_nar .byte (nI n).toInt8.toInt32 = nI n ∧ vp_nar .byte (nI n) = nI n := by
  rw [uu_b8 h, uu_nb h]; exact ⟨rfl, rfl⟩
theorem ir_go {k : Nat} {F : Nat → Int32} {G : Nat → Nat → Int32} {FY : Nat → Int32} {GY : Nat → Nat → Int32} {r : Int32} (I : i_Rel k (xs_mk F G) (ys_mk FY GY)) : r = r ∧ i_Rel (k + 3) (xs_mk F G) (ys_mk FY GY) := ⟨rfl, I⟩
theorem i_vc_number {k : Nat} {u : SX} {v : SY} (I : i_Rel k u v) (hk : k + 3 ≤ 1536) (v1 : Int32) : wpX_number (fun r u' => wpY_number (fun r' v' => r' = r ∧ i_Rel (k + 3) u' v') v v1) u v1 := by
  have I0 := I
  obtain ⟨F, G, FY, GY, rfl, rfl, ⟨kd, pa, pb, pc, nn, lo, sz, N, hD, hC⟩, ⟨tk, ta, tb, tc, tn, tl, X, m, s, hM⟩, hE⟩ := I
  by_cases h1 : v1 < -20
  · exact br_t h1 (br_t h1 (ir_go I0))
  by_cases h2 : v1 ≤ 20
  · have hM' := hM
    obtain ⟨m1, m2, m3, m4, m5, m6, m7, m8, m9⟩ := hM
    have hl := st_len _ _ m8
    by_cases h3 : m = 12
    · subst h3
      exact br_f h1 (br_t h2 (br_t m1 (br_f h1 (br_t h2 (br_t m2 (ir_go I0))))))
    · have n1 : ¬ F 0 = 12 := by rw [m1]; exact yb_soE (b := 12) (by omega) (by omega) h3
      have n2 : ¬ GY 4 16 = 12 := by rw [m2]; exact yb_soE (b := 12) (by omega) (by omega) h3
      have i1 : -128 ≤ v1.toInt := by
        have := mt Int32.lt_iff_toInt_lt.mpr h1
        rw [show (-20 : Int32).toInt = -20 from by decide] at this; omega
      have i2 : v1.toInt < 128 := by
        have := Int32.le_iff_toInt_le.mp h2
        rw [show (20 : Int32).toInt = 20 from by decide] at this; omega
      obtain ⟨q1, q2⟩ := nr_v i1 i2
      refine br_f h1 (br_t h2 (br_f n1 ?_))
      refine xk_make (w := 11) (kk := 0) (h := s.length) (a := 0) (b := 0) (c := 0) (x := v1) m1 (by omega) m4 (by omega) (by omega) (by omega) (by omega) (Or.inr ⟨rfl, rfl⟩) (Or.inr ⟨by omega, rfl⟩) (Or.inr ⟨by omega, rfl⟩) (by omega) (by omega) (by omega) q1 ?_
      refine br_f h1 (br_t h2 (br_f n2 ?_))
      refine yk_make m2 (by omega) m5 (by omega) ⟨rfl, ?_⟩
      refine ir_make (r := s) (nv := 0) (lv := m) hD hC hM' hE (by omega) (by omega) (fun _ h => h) m8 (Nat.le_refl _) ?_ ⟨fun z => absurd rfl z, q2⟩ (by omega) (by omega) (by omega) rfl rfl (fun z => absurd z (by omega)) (fun z => absurd z (by omega))
      unfold tm_L
      rw [cg_ps, cg_ps, cg_ps]
      exact ⟨by omega, by omega, fun _ => rfl, fun z => by omega, fun z => by omega, fun z => by omega, fun z => by omega, fun z => by omega, fun z => by omega, fun z => by omega, fun z => by omega⟩
  · exact br_f h1 (br_f h2 (br_f h1 (br_f h2 (ir_go I0))))
theorem i_vc_variable {k : Nat} {u : SX} {v : SY} (I : i_Rel k u v) (hk : k + 3 ≤ 1536) (v1 : Int32) : wpX_variable (fun r u' => wpY_variable (fun r' v' => r' = r ∧ i_Rel (k + 3) u' v') v v1) u v1 := by
  have I0 := I
  obtain ⟨F, G, FY, GY, rfl, rfl, ⟨kd, pa, pb, pc, nn, lo, sz, N, hD, hC⟩, ⟨tk, ta, tb, tc, tn, tl, X, m, s, hM⟩, hE⟩ := I
  by_cases h1 : v1 < 0
  · exact br_t h1 (br_t h1 (ir_go I0))
  by_cases h2 : v1 ≤ 2
  · have hM' := hM
    obtain ⟨m1, m2, m3, m4, m5, m6, m7, m8, m9⟩ := hM
    have hl := st_len _ _ m8
    by_cases h3 : m = 12
    · subst h3
      exact br_f h1 (br_t h2 (br_t m1 (br_f h1 (br_t h2 (br_t m2 (ir_go I0))))))
    · have n1 : ¬ F 0 = 12 := by rw [m1]; exact yb_soE (b := 12) (by omega) (by omega) h3
      have n2 : ¬ GY 4 16 = 12 := by rw [m2]; exact yb_soE (b := 12) (by omega) (by omega) h3
      obtain ⟨j, hj, rfl⟩ := nI_of2 (M := 2) (n := 2) (by decide) h1 h2
      obtain ⟨q1, q2⟩ := nr_n (n := j) (by omega)
      refine br_f h1 (br_t h2 (br_f n1 ?_))
      refine xk_make (w := 12) (kk := 0) (h := s.length) (a := 0) (b := 0) (c := 0) (x := nI j) m1 (by omega) m4 (by omega) (by omega) (by omega) (by omega) (Or.inr ⟨rfl, rfl⟩) (Or.inr ⟨by omega, rfl⟩) (Or.inr ⟨by omega, rfl⟩) (by omega) (by omega) (by omega) q1 ?_
      refine br_f h1 (br_t h2 (br_f n2 ?_))
      refine yk_make m2 (by omega) m5 (by omega) ⟨rfl, ?_⟩
      refine ir_make (r := s) (nv := j) (lv := m) hD hC hM' hE (by omega) (by omega) (fun _ h => h) m8 (Nat.le_refl _) ?_ ⟨fun _ => rfl, q2⟩ (by omega) (by omega) (by omega) rfl rfl (fun z => absurd z (by omega)) (fun z => absurd z (by omega))
      unfold tm_L
      rw [cg_ps, cg_ps, cg_ps]
      exact ⟨by omega, by omega, fun _ => rfl, fun z => by omega, fun z => by omega, fun z => by omega, fun z => by rw [cg_ps]; omega, fun z => by omega, fun z => by omega, fun z => by omega, fun z => by omega⟩
  · exact br_f h1 (br_f h2 (br_f h1 (br_f h2 (ir_go I0))))
theorem i_vc_depth {k : Nat} {u : SX} {v : SY} (I : i_Rel k u v) (hk : k + 3 ≤ 1536) : wpX_depth (fun r => wpY_depth (fun r' => r' = r ∧ i_Rel (k + 3) u v) v) u := by
  have I0 := I
  obtain ⟨F, G, FY, GY, rfl, rfl, ⟨kd, pa, pb, pc, nn, lo, sz, N, hD, hC⟩, ⟨tk, ta, tb, tc, tn, tl, X, m, s, hM⟩, hE⟩ := I
  exact ⟨hM.2.2.2.2.1.trans hM.2.2.2.1.symm, I0⟩
theorem i_vc_outcome {k : Nat} {u : SX} {v : SY} (I : i_Rel k u v) (hk : k + 3 ≤ 1536) : wpX_outcome (fun r => wpY_outcome (fun r' => r' = r ∧ i_Rel (k + 3) u v) v) u := by
  have I0 := I
  obtain ⟨F, G, FY, GY, rfl, rfl, _, _, hE⟩ := I
  exact ⟨hE.1.symm, I0⟩
theorem i_vc_value {k : Nat} {u : SX} {v : SY} (I : i_Rel k u v) (hk : k + 3 ≤ 1536) : wpX_value (fun r => wpY_value (fun r' => r' = r ∧ i_Rel (k + 3) u v) v) u := by
  have I0 := I
  obtain ⟨F, G, FY, GY, rfl, rfl, _, _, hE⟩ := I
  have e := hE.2.2.2.2.2.2.2
  show wpY_value (fun r' => r' = F 16 ∧ _) (ys_mk FY GY)
  by_cases h0 : FY 13 = 0
  · rw [if_pos h0] at e
    exact br_t h0 ⟨e.symm, I0⟩
  · rw [if_neg h0] at e
    by_cases h1 : FY 13 = 1
    · rw [if_pos h1] at e
      exact br_f h0 (br_t h1 ⟨e.symm, I0⟩)
    · rw [if_neg h1] at e
      exact br_f h0 (br_f h1 ⟨e.symm, I0⟩)
theorem i_vc_operation {k : Nat} {u : SX} {v : SY} (I : i_Rel k u v) (hk : k + 3 ≤ 1536) : wpX_operation (fun r => wpY_operation (fun r' => r' = r ∧ i_Rel (k + 3) u v) v) u := by
  have I0 := I
  obtain ⟨F, G, FY, GY, rfl, rfl, _, _, hE⟩ := I
  exact ⟨hE.2.1.symm, I0⟩
theorem i_vc_steps {k : Nat} {u : SX} {v : SY} (I : i_Rel k u v) (hk : k + 3 ≤ 1536) : wpX_steps (fun r => wpY_steps (fun r' => r' = r ∧ i_Rel (k + 3) u v) v) u := by
  have I0 := I
  obtain ⟨F, G, FY, GY, rfl, rfl, _, _, hE⟩ := I
  exact ⟨hE.2.2.1.symm, I0⟩
theorem i_vc_performs {k : Nat} {u : SX} {v : SY} (I : i_Rel k u v) (hk : k + 3 ≤ 1536) : wpX_performs (fun r => wpY_performs (fun r' => r' = r ∧ i_Rel (k + 3) u v) v) u := by
  have I0 := I
  obtain ⟨F, G, FY, GY, rfl, rfl, _, _, hE⟩ := I
  exact ⟨hE.2.2.2.1.symm, I0⟩
theorem i_vc_resumes {k : Nat} {u : SX} {v : SY} (I : i_Rel k u v) (hk : k + 3 ≤ 1536) : wpX_resumes (fun r => wpY_resumes (fun r' => r' = r ∧ i_Rel (k + 3) u v) v) u := by
  have I0 := I
  obtain ⟨F, G, FY, GY, rfl, rfl, _, _, hE⟩ := I
  exact ⟨hE.2.2.2.2.1.symm, I0⟩
theorem i_vc_deepest {k : Nat} {u : SX} {v : SY} (I : i_Rel k u v) (hk : k + 3 ≤ 1536) : wpX_deepest (fun r => wpY_deepest (fun r' => r' = r ∧ i_Rel (k + 3) u v) v) u := by
  have I0 := I
  obtain ⟨F, G, FY, GY, rfl, rfl, _, _, hE⟩ := I
  exact ⟨hE.2.2.2.2.2.1.symm, I0⟩
theorem i_vc_outs {k : Nat} {u : SX} {v : SY} (I : i_Rel k u v) (hk : k + 3 ≤ 1536) : wpX_outs (fun r => wpY_outs (fun r' => r' = r ∧ i_Rel (k + 3) u v) v) u := by
  have I0 := I
  obtain ⟨F, G, FY, GY, rfl, rfl, _, _, hE⟩ := I
  obtain ⟨no, _, h1, h2, _⟩ := hE.2.2.2.2.2.2.1
  exact ⟨h2.trans h1.symm, I0⟩
theorem i_vc_out {k : Nat} {u : SX} {v : SY} (I : i_Rel k u v) (hk : k + 3 ≤ 1536) (v1 : Int32) : wpX_out (fun r => wpY_out (fun r' => r' = r ∧ i_Rel (k + 3) u v) v v1) u v1 := by
  have I0 := I
  obtain ⟨F, G, FY, GY, rfl, rfl, _, _, hE⟩ := I
  obtain ⟨no, hb, h1, h2, h3⟩ := hE.2.2.2.2.2.2.1
  by_cases z : v1 < 0
  · exact br_t z (br_t z ⟨rfl, I0⟩)
  · obtain ⟨j, hj, rfl⟩ := nI_of z
    have cj : (nI j).toNatClampNeg = j := nI_clamp hj
    by_cases y : j < no
    · have a1 : nI j < F 22 := by rw [h1]; exact nI_lt y (by omega)
      have a2 : nI j < FY 19 := by rw [h2]; exact nI_lt y (by omega)
      have e : GY 22 (nI j).toNatClampNeg = G 40 (nI j).toNatClampNeg := by rw [cj]; exact (h3 j y).symm
      exact br_f z (br_t a1 ⟨vp_in_nI (by omega) (by omega), br_f z (br_t a2 ⟨vp_in_nI (by omega) (by omega), e, I0⟩)⟩)
    · have a1 : ¬ nI j < F 22 := by rw [h1]; exact nI_nlt (by omega) hj
      have a2 : ¬ nI j < FY 19 := by rw [h2]; exact nI_nlt (by omega) hj
      exact br_f z (br_f a1 (br_f z (br_f a2 ⟨rfl, I0⟩)))
theorem i_vc_discard {k : Nat} {u : SX} {v : SY} (I : i_Rel k u v) (hk : k + 3 ≤ 1536) : wpX_discard (fun r u' => wpY_discard (fun r' v' => r' = r ∧ i_Rel (k + 3) u' v') v) u := by
  obtain ⟨F, G, FY, GY, rfl, rfl, ⟨kd, pa, pb, pc, nn, lo, sz, N, hD, hC⟩, ⟨tk, ta, tb, tc, tn, tl, X, m, s, hM⟩, hE⟩ := I
  show wpY_discard (fun r' v' => r' = F 1 ∧ i_Rel (k + 3) (xs_mk (upd (upd F 0 0) 1 0) G) v') (ys_mk FY GY)
  refine nm_e ⟨hM.2.2.2.2.1.trans hM.2.2.2.1.symm, ?_⟩
  refine ⟨_, _, upd FY 0 0, uu_G GY 4 (upd (GY 4) 16 0), rfl, rfl, ⟨kd, pa, pb, pc, nn, lo, sz, N, ?_, ?_⟩, ⟨tk, ta, tb, tc, tn, tl, X, 0, [], rfl, rfl, by omega, rfl, rfl, trivial, trivial, rfl, fun t ht => absurd ht (by omega)⟩, hE⟩
  · exact ir_Dx hD (fun _ _ _ _ => rfl) (fun _ _ => rfl) (fun i hi j hj => by rw [uu_Gn (by omega)]) (fun i hi => pk_un (by omega))
  · exact ir_Cx hC rfl (fun _ _ => rfl) (fun _ _ _ => rfl)
end
section
/-! nodes with parts -/
section
variable {q : Nat} {F : Nat → Int32} {G : Nat → Nat → Int32} {FY : Nat → Int32} {GY : Nat → Nat → Int32} {kd pa pb pc nn lo sz : Nat → Nat} {N : Nat → Int32} {k a b c n l : Nat → Nat} {X : Nat → Int32} {m : Nat} {r : List Nat} {w nv t1 t2 t3 : Nat}
/-- a node of one part -/
theorem mk_one (hD : ir_D G GY kd pa pb pc nn lo sz N) (hC : ir_C F G kd pa pb pc nn sz N) (hM : ir_M F G FY GY k a b c n l X m (t1 :: r)) (hE : ir_E F G FY GY) (hm : m < 12) (hw : w = 7 ∨ w = 8 ∨ w = 9) (hv : (w = 8 → nv < 4) ∧ (w = 9 → nv < 3) ∧ nv < 128)
    {P : Int32 → SX → Prop} (hP : ∀ r1 F' G', wpY_make (fun r' v' => r' = r1 ∧ i_Rel q (xs_mk F' G') v') (ys_mk (upd FY 0 (nI r.length)) GY) (nI (ty_so w nv)) (GY 5 r.length) 0 0 → P r1 (xs_mk F' G')) : wpX_make P (xs_mk F G) (nI w) (nI nv) 1 := by
  have hM' := hM
  obtain ⟨m1, m2, m3, m4, m5, ⟨m6, m6'⟩, ⟨m7, m7'⟩, ⟨m8, m8', m8''⟩, m9⟩ := hM
  have hl := st_len _ _ m8''
  obtain ⟨q1, q2⟩ := nr_n (n := nv) hv.2.2
  refine xk_make (kk := 1) (h := r.length) (a := t1) (b := 0) (c := 0) (x := nI nv) m1 hm m4 (by omega) (by omega) (by omega) (by omega) (Or.inl ⟨by omega, m6⟩) (Or.inr ⟨by omega, rfl⟩) (Or.inr ⟨by omega, rfl⟩) (by omega) (by omega) (by omega) q1 ?_
  refine hP _ _ _ ?_
  refine yk_make (F := upd FY 0 (nI r.length)) (h := r.length) m2 hm rfl (by omega) ⟨rfl, ?_⟩
  have e1 : upd (upd FY 0 (nI r.length)) 0 (nI (r.length + 1)) = upd FY 0 (nI (r.length + 1)) := uu_uu
  rw [e1]
  refine ir_make (r := r) (nv := nv) (lv := l t1) hD hC hM' hE hm (by omega) (fun _ h => h.2) m8'' (by omega) ?_ ⟨fun _ => rfl, q2⟩ (by omega) (by omega) (by omega) rfl ?_ (fun z => absurd z (by omega)) (fun z => absurd z (by omega))
  · unfold tm_L
    rw [cg_ps, cg_ps, cg_ps, cg_ps, cg_pn (by omega : t1 ≠ m)]
    exact ⟨by omega, by omega, fun z => by omega, fun z => ⟨m8, rfl⟩, fun z => by omega, fun z => by omega, fun z => by omega, fun z => by rw [cg_ps]; exact hv.1 z, fun z => by rw [cg_ps]; exact hv.2.1 z, fun z => by omega, fun z => by omega⟩
  · rw [if_neg (by omega), if_neg (by omega)]; exact m7
/-- a node of two parts -/
theorem mk_two (hD : ir_D G GY kd pa pb pc nn lo sz N) (hC : ir_C F G kd pa pb pc nn sz N) (hM : ir_M F G FY GY k a b c n l X m (t2 :: t1 :: r)) (hE : ir_E F G FY GY) (hm : m < 12) (hw : w ≤ 6) (hv : (w = 4 → nv < 3) ∧ (w = 5 → nv < 3) ∧ nv < 128)
    {P : Int32 → SX → Prop} (hP : ∀ r1 F' G', wpY_make (fun r' v' => r' = r1 ∧ i_Rel q (xs_mk F' G') v') (ys_mk (upd FY 0 (nI r.length)) GY) (nI (ty_so w nv)) (GY 5 r.length) (GY 5 (r.length + 1)) 0 → P r1 (xs_mk F' G')) : wpX_make P (xs_mk F G) (nI w) (nI nv) 2 := by
  have hM' := hM
  obtain ⟨m1, m2, m3, m4, m5, ⟨m6, m6', m6''⟩, ⟨m7, m7', m7''⟩, ⟨m8, m8', m80, m81, m82⟩, m9⟩ := hM
  have hl := st_len _ _ m82
  simp only [List.length_cons] at m4 m5 m6 m7
  obtain ⟨q1, q2⟩ := nr_n (n := nv) hv.2.2
  refine xk_make (kk := 2) (h := r.length) (a := t1) (b := t2) (c := 0) (x := nI nv) m1 hm m4 (by omega) (by omega) (by omega) (by omega) (Or.inl ⟨by omega, m6'⟩) (Or.inl ⟨by omega, m6⟩) (Or.inr ⟨by omega, rfl⟩) (by omega) (by omega) (by omega) q1 ?_
  refine hP _ _ _ ?_
  refine yk_make (F := upd FY 0 (nI r.length)) (h := r.length) m2 hm rfl (by omega) ⟨rfl, ?_⟩
  have e1 : upd (upd FY 0 (nI r.length)) 0 (nI (r.length + 1)) = upd FY 0 (nI (r.length + 1)) := uu_uu
  rw [e1]
  refine ir_make (r := r) (nv := nv) (lv := l t1) hD hC hM' hE hm (by omega) (fun _ h => h.2.2) m82 (by omega) ?_ ⟨fun _ => rfl, q2⟩ (by omega) (by omega) (by omega) rfl ?_ (fun z => m7) (fun z => absurd z (by omega))
  · unfold tm_L
    rw [cg_ps, cg_ps, cg_ps, cg_ps, cg_ps, cg_pn (by omega : t1 ≠ m), cg_pn (by omega : t2 ≠ m)]
    exact ⟨by omega, by omega, fun z => by omega, fun z => by omega, fun z => ⟨m8, m80, rfl, by omega⟩, fun z => by omega, fun z => by omega, fun z => by omega, fun z => by omega, fun z => by rw [cg_ps]; exact hv.1 z, fun z => by rw [cg_ps]; exact hv.2.1 z⟩
  · rw [if_neg (by omega), if_neg (by omega)]; exact m7'
theorem mk_three (hD : ir_D G GY kd pa pb pc nn lo sz N) (hC : ir_C F G kd pa pb pc nn sz N) (hM : ir_M F G FY GY k a b c n l X m (t3 :: t2 :: t1 :: r)) (hE : ir_E F G FY GY) (hm : m < 12)
    {P : Int32 → SX → Prop} (hP : ∀ r1 F' G', wpY_make (fun r' v' => r' = r1 ∧ i_Rel q (xs_mk F' G') v') (ys_mk (upd FY 0 (nI r.length)) GY) 21 (GY 5 r.length) (GY 5 (r.length + 1)) (GY 5 (r.length + 2)) → P r1 (xs_mk F' G')) : wpX_make P (xs_mk F G) 10 0 3 := by
  have hM' := hM
  obtain ⟨m1, m2, m3, m4, m5, ⟨m6, m6', m6'', m6o⟩, ⟨m7, m7', m7'', m7o⟩, ⟨m8, m8', m80, m81, m83, m84, m82⟩, m9⟩ := hM
  have hl := st_len _ _ m82
  simp only [List.length_cons] at m4 m5 m6 m7 m6' m7'
  obtain ⟨q1, q2⟩ := nr_n (n := 0) (by omega)
  refine xk_make (w := 10) (kk := 3) (h := r.length) (a := t1) (b := t2) (c := t3) (x := nI 0) m1 hm m4 (by omega) (by omega) (by omega) (by omega) (Or.inl ⟨by omega, m6''⟩) (Or.inl ⟨by omega, m6'⟩) (Or.inl ⟨by omega, m6⟩) (by omega) (by omega) (by omega) q1 ?_
  refine hP _ _ _ ?_
  refine yk_make (F := upd FY 0 (nI r.length)) (h := r.length) m2 hm rfl (by omega) ⟨rfl, ?_⟩
  have e1 : upd (upd FY 0 (nI r.length)) 0 (nI (r.length + 1)) = upd FY 0 (nI (r.length + 1)) := uu_uu
  rw [e1]
  refine ir_make (r := r) (w := 10) (nv := 0) (lv := l t1) hD hC hM' hE hm (by omega) (fun _ h => h.2.2.2) m82 (by omega) ?_ ⟨fun _ => rfl, q2⟩ (by omega) (by omega) (by omega) rfl ?_ (fun z => m7') (fun z => m7)
  · unfold tm_L
    rw [cg_ps, cg_ps, cg_ps, cg_ps, cg_ps, cg_ps, cg_pn (by omega : t1 ≠ m), cg_pn (by omega : t2 ≠ m), cg_pn (by omega : t3 ≠ m)]
    exact ⟨by omega, by omega, fun z => by omega, fun z => by omega, fun z => by omega, fun z => ⟨m8, m80, m83, rfl, by omega, by omega⟩, fun z => by omega, fun z => by omega, fun z => by omega, fun z => by omega, fun z => by omega⟩
  · rw [if_neg (by omega), if_neg (by omega)]; exact m7''
end
theorem i_vc_one {k : Nat} {u : SX} {v : SY} (I : i_Rel k u v) (hk : k + 3 ≤ 1536) (v1 : Int32) : wpX_one (fun r u' => wpY_one (fun r' v' => r' = r ∧ i_Rel (k + 3) u' v') v v1) u v1 := by
  have I0 := I
  obtain ⟨F, G, FY, GY, rfl, rfl, ⟨kd, pa, pb, pc, nn, lo, sz, N, hD, hC⟩, ⟨tk, ta, tb, tc, tn, tl, X, m, s, hM⟩, hE⟩ := I
  by_cases h1 : v1 < 0
  · exact br_t h1 (br_t h1 (ir_go I0))
  by_cases h2 : v1 ≤ 7
  · have hM' := hM
    obtain ⟨m1, m2, m3, m4, m5, m6, m7, m8, m9⟩ := hM
    by_cases h3 : m = 12
    · subst h3
      exact br_f h1 (br_t h2 (br_t m1 (br_f h1 (br_t h2 (br_t m2 (ir_go I0))))))
    have n1 : ¬ F 0 = 12 := by rw [m1]; exact yb_soE (b := 12) (by omega) (by omega) h3
    have n2 : ¬ GY 4 16 = 12 := by rw [m2]; exact yb_soE (b := 12) (by omega) (by omega) h3
    have hl := st_len _ _ m8
    cases s with
    | nil =>
      have z1 : ¬ 1 ≤ F 1 := by rw [m4]; decide
      have z2 : ¬ 1 ≤ FY 0 := by rw [m5]; decide
      exact br_f h1 (br_t h2 (br_f n1 (br_f z1 (br_f h1 (br_t h2 (br_f n2 (br_f z2 (ir_go I0))))))))
    | cons t1 r =>
      simp only [List.length_cons] at m4 m5 hl
      have z1 : 1 ≤ F 1 := by rw [m4]; exact nI_le (a := 1) (by omega) (by omega)
      have z2 : 1 ≤ FY 0 := by rw [m5]; exact nI_le (a := 1) (by omega) (by omega)
      have ed : FY 0 - 1 = nI r.length := by rw [m5]; exact nI_pred _
      have cr : (nI r.length).toNatClampNeg = r.length := nI_clamp (by omega)
      obtain ⟨j, hj, rfl⟩ := nI_of2 (M := 7) (n := 7) (by decide) h1 h2
      -- the reference
      have yy : ∀ (w nv : Nat) (F' : Nat → Int32) (G' : Nat → Nat → Int32) (r1 : Int32), ty_so w nv = 2 + j → wpY_make (fun r' v' => r' = r1 ∧ i_Rel (k + 3) (xs_mk F' G') v') (ys_mk (upd FY 0 (nI r.length)) GY) (nI (ty_so w nv)) (GY 5 r.length) 0 0 → wpY_one (fun r' v' => r' = r1 ∧ i_Rel (k + 3) (xs_mk F' G') v') (ys_mk FY GY) (nI j) := by
        intro w nv F' G' r1 e H
        unfold wpY_one
        refine br_f h1 (br_t h2 (br_f n2 (br_t z2 (nm_r ed ⟨vp_in_nI (by omega) (by omega), ?_⟩))))
        rw [cr, show 2 + nI j = nI (ty_so w nv) by rw [e]; exact nI_add 2 j]
        exact H
      refine br_f h1 (br_t h2 (br_f n1 (br_t z1 ?_)))
      by_cases j0 : j = 0
      · subst j0
        refine br_t rfl ?_
        exact mk_one (q := k + 3) (w := 7) (nv := 0) hD hC hM' hE (by omega) (by omega) ⟨by omega, by omega, by omega⟩ (fun r1 F' G' H => yy 7 0 F' G' r1 rfl H)
      · refine br_f (yb_soE (b := 0) (by omega) (by omega) j0) ?_
        by_cases j5 : 5 ≤ j
        · refine br_t (nI_le (a := 5) j5 (by omega)) ?_
          have e : nI j - 5 = nI (j - 5) := pk_sub (b := 5) j5
          rw [e]
          exact mk_one (q := k + 3) (w := 9) (nv := j - 5) hD hC hM' hE (by omega) (by omega) ⟨by omega, by omega, by omega⟩ (fun r1 F' G' H => yy 9 (j - 5) F' G' r1 (by rw [ty_9 rfl]; omega) H)
        · refine br_f (nI_ge (b := 5) (by omega) (by omega)) ?_
          have e : nI j - 1 = nI (j - 1) := pk_sub (b := 1) (by omega)
          rw [e]
          exact mk_one (q := k + 3) (w := 8) (nv := j - 1) hD hC hM' hE (by omega) (by omega) ⟨by omega, by omega, by omega⟩ (fun r1 F' G' H => yy 8 (j - 1) F' G' r1 (by rw [ty_8 rfl]; omega) H)
  · exact br_f h1 (br_f h2 (br_f h1 (br_f h2 (ir_go I0))))
theorem i_vc_two {k : Nat} {u : SX} {v : SY} (I : i_Rel k u v) (hk : k + 3 ≤ 1536) (v1 : Int32) : wpX_two (fun r u' => wpY_two (fun r' v' => r' = r ∧ i_Rel (k + 3) u' v') v v1) u v1 := by
  have I0 := I
  obtain ⟨F, G, FY, GY, rfl, rfl, ⟨kd, pa, pb, pc, nn, lo, sz, N, hD, hC⟩, ⟨tk, ta, tb, tc, tn, tl, X, m, s, hM⟩, hE⟩ := I
  by_cases h1 : v1 < 0
  · exact br_t h1 (br_t h1 (ir_go I0))
  by_cases h2 : v1 ≤ 10
  · have hM' := hM
    obtain ⟨m1, m2, m3, m4, m5, m6, m7, m8, m9⟩ := hM
    by_cases h3 : m = 12
    · subst h3
      exact br_f h1 (br_t h2 (br_t m1 (br_f h1 (br_t h2 (br_t m2 (ir_go I0))))))
    have n1 : ¬ F 0 = 12 := by rw [m1]; exact yb_soE (b := 12) (by omega) (by omega) h3
    have n2 : ¬ GY 4 16 = 12 := by rw [m2]; exact yb_soE (b := 12) (by omega) (by omega) h3
    have hl := st_len _ _ m8
    by_cases hs : s.length < 2
    · have z1 : ¬ 2 ≤ F 1 := by rw [m4]; exact nI_ge (b := 2) hs (by omega)
      have z2 : ¬ 2 ≤ FY 0 := by rw [m5]; exact nI_ge (b := 2) hs (by omega)
      exact br_f h1 (br_t h2 (br_f n1 (br_f z1 (br_f h1 (br_t h2 (br_f n2 (br_f z2 (ir_go I0))))))))
    · obtain ⟨t2, t1, r, rfl⟩ : ∃ t2 t1 r, s = t2 :: t1 :: r := by
        cases s with
        | nil => simp at hs
        | cons t2 s => cases s with
          | nil => simp at hs
          | cons t1 r => exact ⟨t2, t1, r, rfl⟩
      simp only [List.length_cons] at m4 m5 hl
      have z1 : 2 ≤ F 1 := by rw [m4]; exact nI_le (a := 2) (by omega) (by omega)
      have z2 : 2 ≤ FY 0 := by rw [m5]; exact nI_le (a := 2) (by omega) (by omega)
      have ed : FY 0 - 2 = nI r.length := by rw [m5]; exact pk_sub (a := r.length + 1 + 1) (b := 2) (by omega)
      have cr : (nI r.length).toNatClampNeg = r.length := nI_clamp (by omega)
      have cr1 : (nI (r.length + 1)).toNatClampNeg = r.length + 1 := nI_clamp (by omega)
      obtain ⟨j, hj, rfl⟩ := nI_of2 (M := 10) (n := 10) (by decide) h1 h2
      have yy : ∀ (w nv : Nat) (F' : Nat → Int32) (G' : Nat → Nat → Int32) (r1 : Int32), ty_so w nv = 10 + j → wpY_make (fun r' v' => r' = r1 ∧ i_Rel (k + 3) (xs_mk F' G') v') (ys_mk (upd FY 0 (nI r.length)) GY) (nI (ty_so w nv)) (GY 5 r.length) (GY 5 (r.length + 1)) 0 → wpY_two (fun r' v' => r' = r1 ∧ i_Rel (k + 3) (xs_mk F' G') v') (ys_mk FY GY) (nI j) := by
        intro w nv F' G' r1 e H
        unfold wpY_two
        refine br_f h1 (br_t h2 (br_f n2 (br_t z2 (nm_r ed ⟨vp_in_nI (by omega) (by omega), ?_⟩))))
        rw [uu_a1, cr, cr1, show 10 + nI j = nI (ty_so w nv) by rw [e]; exact nI_add 10 j]
        exact ⟨vp_in_nI (by omega) (by omega), H⟩
      refine br_f h1 (br_t h2 (br_f n1 (br_t z1 ?_)))
      by_cases j4 : 4 ≤ j
      · refine br_t (nI_le (a := 4) j4 (by omega)) ?_
        by_cases j7 : 7 ≤ j
        · refine br_t (nI_le (a := 7) j7 (by omega)) ?_
          by_cases j10 : 10 ≤ j
          · refine br_t (nI_le (a := 10) j10 (by omega)) ?_
            obtain rfl : j = 10 := by omega
            exact mk_two (q := k + 3) (w := 6) (nv := 0) hD hC hM' hE (by omega) (by omega) ⟨by omega, by omega, by omega⟩ (fun r1 F' G' H => yy 6 0 F' G' r1 rfl H)
          · refine br_f (nI_ge (b := 10) (by omega) (by omega)) ?_
            have e : nI j - 7 = nI (j - 7) := pk_sub (b := 7) j7
            rw [e]
            exact mk_two (q := k + 3) (w := 5) (nv := j - 7) hD hC hM' hE (by omega) (by omega) ⟨by omega, by omega, by omega⟩ (fun r1 F' G' H => yy 5 (j - 7) F' G' r1 (by rw [ty_5 rfl]; omega) H)
        · refine br_f (nI_ge (b := 7) (by omega) (by omega)) ?_
          have e : nI j - 4 = nI (j - 4) := pk_sub (b := 4) j4
          rw [e]
          exact mk_two (q := k + 3) (w := 4) (nv := j - 4) hD hC hM' hE (by omega) (by omega) ⟨by omega, by omega, by omega⟩ (fun r1 F' G' H => yy 4 (j - 4) F' G' r1 (by rw [ty_4 rfl]; omega) H)
      · refine br_f (nI_ge (b := 4) (by omega) (by omega)) ?_
        exact mk_two (q := k + 3) (w := j) (nv := 0) hD hC hM' hE (by omega) (by omega) ⟨by omega, by omega, by omega⟩ (fun r1 F' G' H => yy j 0 F' G' r1 (by rw [ty_6 (by omega)]) H)
  · exact br_f h1 (br_f h2 (br_f h1 (br_f h2 (ir_go I0))))
theorem i_vc_choose {k : Nat} {u : SX} {v : SY} (I : i_Rel k u v) (hk : k + 3 ≤ 1536) : wpX_choose (fun r u' => wpY_choose (fun r' v' => r' = r ∧ i_Rel (k + 3) u' v') v) u := by
  have I0 := I
  obtain ⟨F, G, FY, GY, rfl, rfl, ⟨kd, pa, pb, pc, nn, lo, sz, N, hD, hC⟩, ⟨tk, ta, tb, tc, tn, tl, X, m, s, hM⟩, hE⟩ := I
  have hM' := hM
  obtain ⟨m1, m2, m3, m4, m5, m6, m7, m8, m9⟩ := hM
  by_cases h3 : m = 12
  · subst h3
    exact br_t m1 (br_t m2 (ir_go I0))
  have n1 : ¬ F 0 = 12 := by rw [m1]; exact yb_soE (b := 12) (by omega) (by omega) h3
  have n2 : ¬ GY 4 16 = 12 := by rw [m2]; exact yb_soE (b := 12) (by omega) (by omega) h3
  have hl := st_len _ _ m8
  by_cases hs : s.length < 3
  · have z1 : ¬ 3 ≤ F 1 := by rw [m4]; exact nI_ge (b := 3) hs (by omega)
    have z2 : ¬ 3 ≤ FY 0 := by rw [m5]; exact nI_ge (b := 3) hs (by omega)
    exact br_f n1 (br_f z1 (br_f n2 (br_f z2 (ir_go I0))))
  · obtain ⟨t3, t2, t1, r, rfl⟩ : ∃ t3 t2 t1 r, s = t3 :: t2 :: t1 :: r := by
      cases s with
      | nil => simp at hs
      | cons t3 s => cases s with
        | nil => simp at hs
        | cons t2 s => cases s with
          | nil => simp at hs
          | cons t1 r => exact ⟨t3, t2, t1, r, rfl⟩
    simp only [List.length_cons] at m4 m5 hl
    have z1 : 3 ≤ F 1 := by rw [m4]; exact nI_le (a := 3) (by omega) (by omega)
    have z2 : 3 ≤ FY 0 := by rw [m5]; exact nI_le (a := 3) (by omega) (by omega)
    have ed : FY 0 - 3 = nI r.length := by rw [m5]; exact pk_sub (a := r.length + 1 + 1 + 1) (b := 3) (by omega)
    have cr : (nI r.length).toNatClampNeg = r.length := nI_clamp (by omega)
    have cr1 : (nI (r.length + 1)).toNatClampNeg = r.length + 1 := nI_clamp (by omega)
    have cr2 : (nI (r.length + 2)).toNatClampNeg = r.length + 2 := nI_clamp (by omega)
    refine br_f n1 (br_t z1 ?_)
    refine mk_three (q := k + 3) hD hC hM' hE (by omega) (fun r1 F' G' H => ?_)
    show wpY_choose _ (ys_mk FY GY)
    unfold wpY_choose
    refine br_f n2 (br_t z2 (nm_r ed ⟨vp_in_nI (by omega) (by omega), ?_⟩))
    rw [uu_a1, uu_a2, cr, cr1, cr2]
    exact ⟨vp_in_nI (by omega) (by omega), vp_in_nI (by omega) (by omega), H⟩
end
section
/-! definitions -/
def cp_A (A : Nat → Int32) (d i : Nat) : Nat → Int32 := fun j => if 12 * d ≤ j ∧ j < 12 * d + i then A (192 + (j - 12 * d)) else A j
theorem cp_s {A : Nat → Int32} {d i : Nat} (hd : d < 16) (hi : i < 12) : upd (cp_A A d i) (12 * d + i) (cp_A A d i (192 + i)) = cp_A A d (i + 1) := by
  funext j
  have e : cp_A A d i (192 + i) = A (192 + i) := if_neg (by omega)
  by_cases z : j = 12 * d + i
  · subst z
    rw [pk_us, e]
    unfold cp_A
    rw [if_pos (by omega)]
    exact congrArg A (by omega)
  · rw [pk_un z]
    unfold cp_A
    by_cases y : 12 * d ≤ j ∧ j < 12 * d + i
    · rw [if_pos y, if_pos (by omega)]
    · rw [if_neg y, if_neg (by omega)]
theorem cp_0 {A : Nat → Int32} {d : Nat} : cp_A A d 0 = A := by
  funext j; exact if_neg (by omega)
def cp_X (G : Nat → Nat → Int32) (d i : Nat) : Nat → Nat → Int32 := fun k => if k < 5 then cp_A (G k) d i else G k
def cp_Y (G : Nat → Nat → Int32) (d i : Nat) : Nat → Nat → Int32 := fun k => if k < 4 then cp_A (G k) d i else G k
theorem cp_X0 {G : Nat → Nat → Int32} {d : Nat} : cp_X G d 0 = G := by
  funext k; unfold cp_X; rw [cp_0]; split <;> rfl
theorem cp_Y0 {G : Nat → Nat → Int32} {d : Nat} : cp_Y G d 0 = G := by
  funext k; unfold cp_Y; rw [cp_0]; split <;> rfl
theorem cp_e {A : Nat → Int32} {d i x : Nat} (hx : 192 ≤ x) (hd : d < 16) (hi : i ≤ 12) : cp_A A d i x = A x := if_neg (by omega)
theorem xk_defL {F : Nat → Int32} {G : Nat → Nat → Int32} {d m : Nat} {post : Int32 → SX → Prop} (hd : d < 16) (hm : F 0 = nI m) (hmb : m ≤ 12) (hn : ∀ k, k < 5 → ∀ t, t < m → vp_nar .byte (G k (192 + t)) = G k (192 + t)) :
    ∀ (j i n : Nat), i + j = m → wX_define_13 post (nI d) (F 0) (F 1) (F 2) (F 3) (F 4) (F 5) (F 6) (F 7) (F 8) (F 9) (F 10) (F 11) (F 12) (F 13) (F 14) (F 15) (F 16) (F 17) (F 18) (F 19) (F 20) (F 21) (F 22) n (nI m) (cp_X G d m 0) (cp_X G d m 1) (cp_X G d m 2) (cp_X G d m 3) (cp_X G d m 4) (cp_X G d m 5) (cp_X G d m 6) (cp_X G d m 7) (cp_X G d m 8) (cp_X G d m 9) (cp_X G d m 10) (cp_X G d m 11) (cp_X G d m 12) (cp_X G d m 13) (cp_X G d m 14) (cp_X G d m 15) (cp_X G d m 16) (cp_X G d m 17) (cp_X G d m 18) (cp_X G d m 19) (cp_X G d m 20) (cp_X G d m 21) (cp_X G d m 22) (cp_X G d m 23) (cp_X G d m 24) (cp_X G d m 25) (cp_X G d m 26) (cp_X G d m 27) (cp_X G d m 28) (cp_X G d m 29) (cp_X G d m 30) (cp_X G d m 31) (cp_X G d m 32) (cp_X G d m 33) (cp_X G d m 34) (cp_X G d m 35) (cp_X G d m 36) (cp_X G d m 37) (cp_X G d m 38) (cp_X G d m 39) (cp_X G d m 40) → wX_define_13 post (nI d) (F 0) (F 1) (F 2) (F 3) (F 4) (F 5) (F 6) (F 7) (F 8) (F 9) (F 10) (F 11) (F 12) (F 13) (F 14) (F 15) (F 16) (F 17) (F 18) (F 19) (F 20) (F 21) (F 22) (n + j) (nI i) (cp_X G d i 0) (cp_X G d i 1) (cp_X G d i 2) (cp_X G d i 3) (cp_X G d i 4) (cp_X G d i 5) (cp_X G d i 6) (cp_X G d i 7) (cp_X G d i 8) (cp_X G d i 9) (cp_X G d i 10) (cp_X G d i 11) (cp_X G d i 12) (cp_X G d i 13) (cp_X G d i 14) (cp_X G d i 15) (cp_X G d i 16) (cp_X G d i 17) (cp_X G d i 18) (cp_X G d i 19) (cp_X G d i 20) (cp_X G d i 21) (cp_X G d i 22) (cp_X G d i 23) (cp_X G d i 24) (cp_X G d i 25) (cp_X G d i 26) (cp_X G d i 27) (cp_X G d i 28) (cp_X G d i 29) (cp_X G d i 30) (cp_X G d i 31) (cp_X G d i 32) (cp_X G d i 33) (cp_X G d i 34) (cp_X G d i 35) (cp_X G d i 36) (cp_X G d i 37) (cp_X G d i 38) (cp_X G d i 39) (cp_X G d i 40) := by
  intro j
  induction j with
  | zero =>
    intro i n hi h
    obtain rfl : i = m := by omega
    exact h
  | succ j ih =>
    intro i n hi h
    have g := ih (i + 1) n (by omega) h
    have e1 : 192 + nI i = nI (192 + i) := uu_a192 i
    have c1 : (nI (192 + i)).toNatClampNeg = 192 + i := nI_clamp (by omega)
    have e2 : 12 * nI d + nI i = nI (12 * d + i) := by rw [uu_m12, nI_add]
    have c2 : (nI (12 * d + i)).toNatClampNeg = 12 * d + i := nI_clamp (by omega)
    have v1 : vp_in (nI (192 + i)) 204 := vp_in_nI (by omega) (by omega)
    have v2 : vp_in (nI (12 * d + i)) 204 := vp_in_nI (by omega) (by omega)
    have st : ∀ k, k < 5 → upd (cp_A (G k) d i) (12 * d + i) (vp_nar .byte (cp_A (G k) d i (192 + i))) = cp_A (G k) d (i + 1) := by
      intro k hk
      rw [cp_e (by omega) hd (by omega), hn k hk i (by omega), ← cp_s hd (by omega), cp_e (by omega) hd (by omega)]
    rw [show n + (j + 1) = n + j + 1 from rfl]
    unfold wX_define_13
    refine br_f ?_ ?_
    · rw [hm]; exact nI_ge (by omega) (by omega)
    · rw [e1, e2, c1, c2]
      exact ⟨v1, v2, nm_r (st 0 (by decide)) ⟨v1, v2, nm_r (st 1 (by decide)) ⟨v1, v2, nm_r (st 2 (by decide)) ⟨v1, v2, nm_r (st 3 (by decide)) ⟨v1, v2, nm_r (st 4 (by decide)) (nm_r (e' := nI (i + 1)) (nI_1 i) g)⟩⟩⟩⟩⟩
theorem xk_def {F : Nat → Int32} {G : Nat → Nat → Int32} {d m : Nat} {post : Int32 → SX → Prop} (hd : d < 16) (hh : F 1 = 1) (hm : F 0 = nI m) (hmb : m ≤ 12) (hn : ∀ k, k < 5 → ∀ t, t < m → vp_nar .byte (G k (192 + t)) = G k (192 + t))
    (H : post (nI m) (xs_mk (upd (upd (upd F 2 0) 0 0) 1 0) (uu_G (cp_X G d m) 5 (upd (G 5) d (nI m))))) : wpX_define post (xs_mk F G) (nI d) := by
  unfold wpX_define
  refine br_t hh ⟨1 + m, ?_⟩
  have L := xk_defL (F := F) (G := G) (post := post) hd hm hmb hn m 0 1 (by omega) ?_
  · rw [cp_X0] at L; exact L
  · unfold wX_define_13
    refine br_t (by rw [hm]; exact nI_le (Nat.le_refl _) (by omega)) ⟨vp_in_nI hd (by omega), nm_r (e' := upd (G 5) d (nI m)) ?_ ?_⟩
    · rw [nI_clamp (by omega), hm, uu_b8 (by omega), uu_nb (by omega)]; rfl
    · show post (F 0) _
      rw [hm]; exact H
theorem yk_keepL {F : Nat → Int32} {G : Nat → Nat → Int32} {d m : Nat} {post : Int32 → SY → Prop} (hd : d < 16) (hmb : m ≤ 12) :
    ∀ (j i n : Nat), i + j = m → wY_keep_21 post (nI d) (nI m) (F 0) (F 1) (F 2) (F 3) (F 4) (F 5) (F 6) (F 7) (F 8) (F 9) (F 10) (F 11) (F 12) (F 13) (F 14) (F 15) (F 16) (F 17) (F 18) (F 19) n (nI m) (cp_Y G d m 0) (cp_Y G d m 1) (cp_Y G d m 2) (cp_Y G d m 3) (cp_Y G d m 4) (cp_Y G d m 5) (cp_Y G d m 6) (cp_Y G d m 7) (cp_Y G d m 8) (cp_Y G d m 9) (cp_Y G d m 10) (cp_Y G d m 11) (cp_Y G d m 12) (cp_Y G d m 13) (cp_Y G d m 14) (cp_Y G d m 15) (cp_Y G d m 16) (cp_Y G d m 17) (cp_Y G d m 18) (cp_Y G d m 19) (cp_Y G d m 20) (cp_Y G d m 21) (cp_Y G d m 22) → wY_keep_21 post (nI d) (nI m) (F 0) (F 1) (F 2) (F 3) (F 4) (F 5) (F 6) (F 7) (F 8) (F 9) (F 10) (F 11) (F 12) (F 13) (F 14) (F 15) (F 16) (F 17) (F 18) (F 19) (n + j) (nI i) (cp_Y G d i 0) (cp_Y G d i 1) (cp_Y G d i 2) (cp_Y G d i 3) (cp_Y G d i 4) (cp_Y G d i 5) (cp_Y G d i 6) (cp_Y G d i 7) (cp_Y G d i 8) (cp_Y G d i 9) (cp_Y G d i 10) (cp_Y G d i 11) (cp_Y G d i 12) (cp_Y G d i 13) (cp_Y G d i 14) (cp_Y G d i 15) (cp_Y G d i 16) (cp_Y G d i 17) (cp_Y G d i 18) (cp_Y G d i 19) (cp_Y G d i 20) (cp_Y G d i 21) (cp_Y G d i 22) := by
  intro j
  induction j with
  | zero =>
    intro i n hi h
    obtain rfl : i = m := by omega
    exact h
  | succ j ih =>
    intro i n hi h
    have g := ih (i + 1) n (by omega) h
    have e1 : 192 + nI i = nI (192 + i) := uu_a192 i
    have c1 : (nI (192 + i)).toNatClampNeg = 192 + i := nI_clamp (by omega)
    have e2 : 12 * nI d + nI i = nI (12 * d + i) := by rw [uu_m12, nI_add]
    have c2 : (nI (12 * d + i)).toNatClampNeg = 12 * d + i := nI_clamp (by omega)
    have v1 : vp_in (nI (192 + i)) 204 := vp_in_nI (by omega) (by omega)
    have v2 : vp_in (nI (12 * d + i)) 204 := vp_in_nI (by omega) (by omega)
    have st : ∀ k, upd (cp_A (G k) d i) (12 * d + i) (cp_A (G k) d i (192 + i)) = cp_A (G k) d (i + 1) := fun k => cp_s hd (by omega)
    rw [show n + (j + 1) = n + j + 1 from rfl]
    unfold wY_keep_21
    refine br_f (nI_ge (by omega) (by omega)) ?_
    rw [e1, e2, c1, c2]
    exact ⟨v1, v2, nm_r (st 0) ⟨v1, v2, nm_r (st 1) ⟨v1, v2, nm_r (st 2) ⟨v1, v2, nm_r (st 3) (nm_r (e' := nI (i + 1)) (nI_1 i) g)⟩⟩⟩⟩
theorem yk_keep {F : Nat → Int32} {G : Nat → Nat → Int32} {d m : Nat} {post : Int32 → SY → Prop} (hd : d < 16) (hh : F 0 = 1) (hm : G 4 16 = nI m) (hmb : m ≤ 12)
    (H : post (nI m) (ys_mk (upd F 0 0) (uu_G (cp_Y G d m) 4 (upd (upd (G 4) d (nI m)) 16 0)))) : wpY_keep post (ys_mk F G) (nI d) := by
  unfold wpY_keep
  refine br_t hh (nm_r (e' := nI m) hm ⟨1 + m, ?_⟩)
  have L := yk_keepL (F := F) (G := G) (post := post) hd hmb m 0 1 (by omega) ?_
  · rw [cp_Y0] at L; exact L
  · unfold wY_keep_21
    refine br_t (nI_le (Nat.le_refl _) (by omega)) ⟨vp_in_nI (by omega) (by omega), nm_r (e' := upd (G 4) d (nI m)) ?_ (nm_e H)⟩
    rw [nI_clamp (by omega)]; rfl
def cp_N (f g : Nat → Nat) (d : Nat) : Nat → Nat := fun j => if 12 * d ≤ j ∧ j < 12 * d + 12 then g (j - 12 * d) else f j
def cp_I (f g : Nat → Int32) (d : Nat) : Nat → Int32 := fun j => if 12 * d ≤ j ∧ j < 12 * d + 12 then g (j - 12 * d) else f j
theorem cp_Ny {f g : Nat → Nat} {d t : Nat} (h : t < 12) : cp_N f g d (12 * d + t) = g t := by
  unfold cp_N; rw [if_pos (by omega)]; exact congrArg g (by omega)
theorem cp_Nn {f g : Nat → Nat} {d e t : Nat} (h : t < 12) (hn : e ≠ d) : cp_N f g d (12 * e + t) = f (12 * e + t) := if_neg (by omega)
theorem cp_Iy {f g : Nat → Int32} {d t : Nat} (h : t < 12) : cp_I f g d (12 * d + t) = g t := by
  unfold cp_I; rw [if_pos (by omega)]; exact congrArg g (by omega)
theorem cp_In {f g : Nat → Int32} {d e t : Nat} (h : t < 12) (hn : e ≠ d) : cp_I f g d (12 * e + t) = f (12 * e + t) := if_neg (by omega)
theorem ir_def {q d : Nat} {F : Nat → Int32} {G : Nat → Nat → Int32} {FY : Nat → Int32} {GY : Nat → Nat → Int32} {kd pa pb pc nn lo sz : Nat → Nat} {N : Nat → Int32} {k a b c n l : Nat → Nat} {X : Nat → Int32} {m t0 : Nat}
    (hD : ir_D G GY kd pa pb pc nn lo sz N) (hM : ir_M F G FY GY k a b c n l X m [t0]) (hE : ir_E F G FY GY) (hN : en_R G) (hd : d < 16) :
    i_Rel q (xs_mk (upd (upd (upd F 2 0) 0 0) 1 0) (uu_G (cp_X G d m) 5 (upd (G 5) d (nI m)))) (ys_mk (upd FY 0 0) (uu_G (cp_Y GY d m) 4 (upd (upd (GY 4) d (nI m)) 16 0))) := by
  obtain ⟨h1, h2, h3, h4, h5, h6⟩ := hD
  obtain ⟨m1, m2, m3, m4, m5, m6, m7, ⟨m8, m8', m8''⟩, m9⟩ := hM
  have cx : ∀ i, i < 5 → ∀ e t, e < 16 → t < 12 → (uu_G (cp_X G d m) 5 (upd (G 5) d (nI m))) i (12 * e + t) = if e = d ∧ t < m then G i (192 + t) else G i (12 * e + t) := by
    intro i hi e t he ht
    rw [uu_Gn (by omega)]
    unfold cp_X cp_A
    rw [if_pos hi]
    by_cases z : e = d ∧ t < m
    · obtain ⟨rfl, z⟩ := z
      rw [if_pos (by omega), if_pos ⟨rfl, z⟩]
      exact congrArg (G i) (by omega)
    · rw [if_neg (by omega), if_neg z]
  have cy : ∀ i, i < 4 → ∀ e t, e < 16 → t < 12 → (uu_G (cp_Y GY d m) 4 (upd (upd (GY 4) d (nI m)) 16 0)) i (12 * e + t) = if e = d ∧ t < m then GY i (192 + t) else GY i (12 * e + t) := by
    intro i hi e t he ht
    rw [uu_Gn (by omega)]
    unfold cp_Y cp_A
    rw [if_pos hi]
    by_cases z : e = d ∧ t < m
    · obtain ⟨rfl, z⟩ := z
      rw [if_pos (by omega), if_pos ⟨rfl, z⟩]
      exact congrArg (GY i) (by omega)
    · rw [if_neg (by omega), if_neg z]
  refine ⟨_, _, _, _, rfl, rfl, ⟨cp_N kd k d, cp_N pa a d, cp_N pb b d, cp_N pc c d, cp_N nn n d, cp_N lo l d, cg_pl sz d m, cp_I N X d, ⟨?_, ?_, ?_, ?_, ?_, ?_⟩, ⟨fun q => hN q, Or.inl rfl⟩⟩,
    ⟨k, a, b, c, n, l, X, 0, [], rfl, rfl, by omega, rfl, rfl, trivial, trivial, rfl, fun t ht => absurd ht (by omega)⟩, ?_⟩
  · intro e
    unfold cg_pl
    split
    · exact m3
    · exact h1 e
  · intro f hf
    unfold cg_pl
    split
    · omega
    · exact h2 f hf
  · intro e he
    by_cases z : e = d
    · subst z; rw [cg_ps]; exact pk_us
    · rw [cg_pn z]; exact (pk_un z).trans (h3 e he)
  · intro e he
    have hn : e ≠ 16 := by omega
    by_cases z : e = d
    · subst z; rw [cg_ps]; exact (pk_un hn).trans pk_us
    · rw [cg_pn z]; exact (pk_un hn).trans ((pk_un z).trans (h4 e he))
  · intro e t he ht
    by_cases z : e = d
    · subst z
      rw [cg_ps] at ht
      have ht12 : t < 12 := by omega
      obtain ⟨a1, ⟨b1, b2, b3, b4, b5, b6⟩, ⟨c1, c2, c3, c4⟩⟩ := m9 t ht
      have ex : ∀ i, i < 5 → (uu_G (cp_X G e m) 5 (upd (G 5) e (nI m))) i (12 * e + t) = G i (192 + t) := fun i hi => by rw [cx i hi e t he ht12, if_pos ⟨rfl, ht⟩]
      have ey : ∀ i, i < 4 → (uu_G (cp_Y GY e m) 4 (upd (upd (GY 4) e (nI m)) 16 0)) i (12 * e + t) = GY i (192 + t) := fun i hi => by rw [cy i hi e t he ht12, if_pos ⟨rfl, ht⟩]
      refine ⟨tm_Lx a1 fun i hi => ⟨cp_Ny (by omega), cp_Ny (by omega), cp_Ny (by omega), cp_Ny (by omega), cp_Ny (by omega), cp_Ny (by omega)⟩, ?_, ?_⟩
      · rw [cp_Ny ht12, cp_Ny ht12, cp_Ny ht12, cp_Ny ht12, cp_Ny ht12, cp_Iy ht12]
        exact ⟨(ex 0 (by decide)).trans b1, (ex 1 (by decide)).trans b2, (ex 2 (by decide)).trans b3, (ex 3 (by decide)).trans b4, (ex 4 (by decide)).trans b5, b6⟩
      · rw [cp_Ny ht12, cp_Ny ht12, cp_Ny ht12, cp_Ny ht12, cp_Ny ht12, cp_Iy ht12]
        exact ⟨(ey 0 (by decide)).trans c1, (ey 1 (by decide)).trans c2, fun z => (ey 2 (by decide)).trans (c3 z), fun z => (ey 3 (by decide)).trans (c4 z)⟩
    · rw [cg_pn z] at ht
      have ht12 : t < 12 := by have := h1 e; omega
      obtain ⟨a1, ⟨b1, b2, b3, b4, b5, b6⟩, ⟨c1, c2, c3, c4⟩⟩ := h5 e t he ht
      have ex : ∀ i, i < 5 → (uu_G (cp_X G d m) 5 (upd (G 5) d (nI m))) i (12 * e + t) = G i (12 * e + t) := fun i hi => by rw [cx i hi e t he ht12, if_neg (fun w => z w.1)]
      have ey : ∀ i, i < 4 → (uu_G (cp_Y GY d m) 4 (upd (upd (GY 4) d (nI m)) 16 0)) i (12 * e + t) = GY i (12 * e + t) := fun i hi => by rw [cy i hi e t he ht12, if_neg (fun w => z w.1)]
      refine ⟨tm_Lx a1 fun i hi => ⟨cp_Nn (by omega) z, cp_Nn (by omega) z, cp_Nn (by omega) z, cp_Nn (by omega) z, cp_Nn (by omega) z, cp_Nn (by omega) z⟩, ?_, ?_⟩
      · rw [cp_Nn ht12 z, cp_Nn ht12 z, cp_Nn ht12 z, cp_Nn ht12 z, cp_Nn ht12 z, cp_In ht12 z]
        exact ⟨(ex 0 (by decide)).trans b1, (ex 1 (by decide)).trans b2, (ex 2 (by decide)).trans b3, (ex 3 (by decide)).trans b4, (ex 4 (by decide)).trans b5, b6⟩
      · rw [cp_Nn ht12 z, cp_Nn ht12 z, cp_Nn ht12 z, cp_Nn ht12 z, cp_Nn ht12 z, cp_In ht12 z]
        exact ⟨(ey 0 (by decide)).trans c1, (ey 1 (by decide)).trans c2, fun z => (ey 2 (by decide)).trans (c3 z), fun z => (ey 3 (by decide)).trans (c4 z)⟩
  · intro e he hz
    by_cases z : e = d
    · subst z
      rw [cg_ps] at hz ⊢
      rw [cp_Ny (by omega), show m - 1 = t0 by omega]; exact m8''
    · rw [cg_pn z] at hz ⊢
      have := h1 e
      rw [cp_Nn (by omega) z]; exact h6 e he hz
  · obtain ⟨e1, e2, e3, e4, e5, e6, ⟨no, e7, e8, e9, e10⟩, e11⟩ := hE
    exact ⟨e1, e2, e3, e4, e5, e6, ⟨no, e7, e8, e9, e10⟩, e11⟩
/-- define against keep -/
theorem ir_keep {k d : Nat} {F : Nat → Int32} {G : Nat → Nat → Int32} {FY : Nat → Int32} {GY : Nat → Nat → Int32} {kd pa pb pc nn lo sz : Nat → Nat} {N : Nat → Int32} {tk a b c n l : Nat → Nat} {X : Nat → Int32} {m : Nat} {s : List Nat}
    (I0 : i_Rel k (xs_mk F G) (ys_mk FY GY)) (hD : ir_D G GY kd pa pb pc nn lo sz N) (hM : ir_M F G FY GY tk a b c n l X m s) (hE : ir_E F G FY GY) (hN : en_R G) (hd : d < 16) {P : Int32 → SX → Prop}
    (hP : ∀ r1 F' G', wpY_keep (fun r' v' => r' = r1 ∧ i_Rel (k + 3) (xs_mk F' G') v') (ys_mk FY GY) (nI d) → P r1 (xs_mk F' G')) : wpX_define P (xs_mk F G) (nI d) := by
  have hM' := hM
  obtain ⟨m1, m2, m3, m4, m5, m6, m7, m8, m9⟩ := hM
  have hl := st_len _ _ m8
  by_cases h : s.length = 1
  · obtain ⟨t0, rfl⟩ : ∃ t0, s = [t0] := by
      cases s with
      | nil => simp at h
      | cons t0 r =>
        cases r with
        | nil => exact ⟨t0, rfl⟩
        | cons _ _ => simp at h
    refine xk_def hd m4 m1 m3 ?_ ?_
    · intro i hi t ht
      obtain ⟨_, ⟨b1, b2, b3, b4, b5, b6, b7, b8, b9, b10⟩, _⟩ := m9 t ht
      obtain ⟨a1, _⟩ := m9 t ht
      obtain rfl | rfl | rfl | rfl | rfl : i = 0 ∨ i = 1 ∨ i = 2 ∨ i = 3 ∨ i = 4 := by omega
      · rw [b1, uu_nb (by have := a1.1; omega)]
      · rw [b2, uu_nb (by omega)]
      · rw [b3, uu_nb (by omega)]
      · rw [b4, uu_nb (by omega)]
      · rw [b5, b7]
    · refine hP _ _ _ ?_
      exact yk_keep hd m5 m2 m3 ⟨rfl, ir_def hD hM' hE hN hd⟩
  · have n1 : ¬ F 1 = 1 := by rw [m4]; exact yb_soE (b := 1) (by omega) (by omega) h
    have n2 : ¬ FY 0 = 1 := by rw [m5]; exact yb_soE (b := 1) (by omega) (by omega) h
    unfold wpX_define
    refine br_f n1 (hP _ _ _ ?_)
    unfold wpY_keep
    exact br_f n2 ⟨rfl, I0⟩
theorem i_vc_function {k : Nat} {u : SX} {v : SY} (I : i_Rel k u v) (hk : k + 3 ≤ 1536) (v1 : Int32) : wpX_function (fun r u' => wpY_function (fun r' v' => r' = r ∧ i_Rel (k + 3) u' v') v v1) u v1 := by
  have I0 := I
  obtain ⟨F, G, FY, GY, rfl, rfl, ⟨kd, pa, pb, pc, nn, lo, sz, N, hD, hC⟩, ⟨tk, ta, tb, tc, tn, tl, X, m, s, hM⟩, hE⟩ := I
  by_cases h1 : v1 < 0
  · exact br_t h1 (br_t h1 (ir_go I0))
  obtain ⟨j, hj, rfl⟩ := nI_of h1
  by_cases h2 : j < 4
  · refine br_f h1 (br_t (nI_lt (b := 4) h2 (by omega)) ?_)
    refine ir_keep I0 hD hM hE hC.1 (by omega) (fun r1 F' G' H => ?_)
    exact br_f h1 (br_t (nI_le (b := 3) (by omega) (by omega)) H)
  · exact br_f h1 (br_f (nI_nlt (b := 4) (by omega) hj) (br_f h1 (br_f (nI_ge (a := 3) (by omega) hj) (ir_go I0))))
theorem bc_X {F : Nat → Int32} {G : Nat → Nat → Int32} {p0 p1 : Int32} : (∃ h o : Nat, h < 3 ∧ o < 4 ∧ p0 = nI h ∧ p1 = nI o ∧ ∀ post : Int32 → Prop, post 0 → wpX_badClause post (xs_mk F G) p0 p1) ∨ ((¬ ∃ h o : Nat, h < 3 ∧ o < 4 ∧ p0 = nI h ∧ p1 = nI o) ∧ ∀ post : Int32 → Prop, post 1 → wpX_badClause post (xs_mk F G) p0 p1) := by
  by_cases h1 : p0 < 0
  · refine Or.inr ⟨?_, fun _ q => br_t h1 q⟩
    rintro ⟨h, o, a, b, rfl, rfl⟩
    exact nI_pos (by omega) h1
  obtain ⟨h, hh, rfl⟩ := nI_of h1
  by_cases h2 : h < 3
  · have z2 : ¬ (3 : Int32) ≤ nI h := nI_ge (b := 3) h2 (by omega)
    by_cases h3 : p1 < 0
    · refine Or.inr ⟨?_, fun _ q => br_f h1 (br_f z2 (br_t h3 q))⟩
      rintro ⟨h, o, a, b, _, rfl⟩
      exact nI_pos (by omega) h3
    obtain ⟨o, ho, rfl⟩ := nI_of h3
    by_cases h4 : o < 4
    · exact Or.inl ⟨h, o, h2, h4, rfl, rfl, fun _ q => br_f h1 (br_f z2 (br_f h3 (br_t (nI_le (b := 3) (by omega) (by omega)) q)))⟩
    · refine Or.inr ⟨?_, fun _ q => br_f h1 (br_f z2 (br_f h3 (br_f (nI_ge (a := 3) (by omega) ho) q)))⟩
      rintro ⟨h', o', a, b, _, e⟩
      have := (nI_eq ho (by omega)).mp e
      omega
  · refine Or.inr ⟨?_, fun _ q => br_f h1 (br_t (nI_le (a := 3) (by omega) hh) q)⟩
    rintro ⟨h', o', a, b, e, _⟩
    have := (nI_eq hh (by omega)).mp e
    omega
theorem bc_Y {F : Nat → Int32} {G : Nat → Nat → Int32} {h o : Nat} {post : Int32 → Prop} (h2 : h < 3) (h4 : o < 4) (q : post 0) : wpY_bad post (ys_mk F G) (nI h) (nI o) :=
  br_f (nI_pos (by omega)) (br_f (nI_nlt (a := 2) (by omega) (by omega)) (br_f (nI_pos (by omega)) (br_t (nI_le (b := 3) (by omega) (by omega)) q)))
theorem bc_Yn {F : Nat → Int32} {G : Nat → Nat → Int32} {p0 p1 : Int32} {post : Int32 → Prop} (hn : ¬ ∃ h o : Nat, h < 3 ∧ o < 4 ∧ p0 = nI h ∧ p1 = nI o) (q : post 1) : wpY_bad post (ys_mk F G) p0 p1 := by
  by_cases h1 : p0 < 0
  · exact br_t h1 q
  obtain ⟨h, hh, rfl⟩ := nI_of h1
  by_cases h2 : h < 3
  · have z2 : ¬ (2 : Int32) < nI h := nI_nlt (a := 2) (by omega) (by omega)
    by_cases h3 : p1 < 0
    · exact br_f h1 (br_f z2 (br_t h3 q))
    obtain ⟨o, ho, rfl⟩ := nI_of h3
    by_cases h4 : o < 4
    · exact absurd ⟨h, o, h2, h4, rfl, rfl⟩ hn
    · exact br_f h1 (br_f z2 (br_f h3 (br_f (nI_ge (a := 3) (by omega) ho) q)))
  · exact br_f h1 (br_t (nI_lt (a := 2) (by omega) hh) q)
theorem i_vc_clause {k : Nat} {u : SX} {v : SY} (I : i_Rel k u v) (hk : k + 3 ≤ 1536) (v1 : Int32) (v2 : Int32) : wpX_clause (fun r u' => wpY_clause (fun r' v' => r' = r ∧ i_Rel (k + 3) u' v') v v1 v2) u v1 v2 := by
  have I0 := I
  obtain ⟨F, G, FY, GY, rfl, rfl, ⟨kd, pa, pb, pc, nn, lo, sz, N, hD, hC⟩, ⟨tk, ta, tb, tc, tn, tl, X, m, s, hM⟩, hE⟩ := I
  unfold wpX_clause
  rcases bc_X (F := F) (G := G) (p0 := v1) (p1 := v2) with ⟨h, o, h1, h2, rfl, rfl, H⟩ | ⟨hn, H⟩
  · refine H _ (br_t rfl ?_)
    refine xb_cl (F := F) (G := G) ?_
    refine ir_keep I0 hD hM hE hC.1 (by omega) (fun r1 F' G' H => ?_)
    show wpY_clause _ (ys_mk FY GY) (nI h) (nI o)
    unfold wpY_clause
    refine bc_Y (F := FY) (G := GY) h1 h2 (br_t rfl ?_)
    rw [uu_m4, uu_a4, nI_add]
    exact H
  · refine H _ (br_f (by decide) ?_)
    show wpY_clause _ (ys_mk FY GY) v1 v2
    unfold wpY_clause
    exact bc_Yn (F := FY) (G := GY) hn (br_f (by decide) (ir_go I0))
theorem i_vc_forget {k : Nat} {u : SX} {v : SY} (I : i_Rel k u v) (hk : k + 3 ≤ 1536) (v1 : Int32) (v2 : Int32) : wpX_forget (fun r u' => wpY_forget (fun r' v' => r' = r ∧ i_Rel (k + 3) u' v') v v1 v2) u v1 v2 := by
  have I0 := I
  obtain ⟨F, G, FY, GY, rfl, rfl, ⟨kd, pa, pb, pc, nn, lo, sz, N, hD, hC⟩, ⟨tk, ta, tb, tc, tn, tl, X, m, s, hM⟩, hE⟩ := I
  unfold wpX_forget
  rcases bc_X (F := F) (G := G) (p0 := v1) (p1 := v2) with ⟨h, o, h1, h2, rfl, rfl, H⟩ | ⟨hn, H⟩
  · refine H _ (br_t rfl ?_)
    refine xb_cl (F := F) (G := G) ?_
    have cd : (nI (4 + 4 * h + o)).toNatClampNeg = 4 + 4 * h + o := nI_clamp (by omega)
    have e : 4 + 4 * nI h + nI o = nI (4 + 4 * h + o) := by rw [uu_m4, uu_a4, nI_add]
    have hd : 4 + 4 * h + o < 16 := by omega
    obtain ⟨d1, d2, d3, d4, d5, d6⟩ := hD
    have hz12 := d1 (4 + 4 * h + o)
    rw [cd]
    refine ⟨vp_in_nI hd (by omega), ?_⟩
    by_cases z : sz (4 + 4 * h + o) = 0
    · refine br_t (by rw [d3 _ hd, z]; rfl) ?_
      show wpY_forget _ (ys_mk FY GY) (nI h) (nI o)
      unfold wpY_forget
      refine bc_Y (F := FY) (G := GY) h1 h2 (br_t rfl ?_)
      rw [e, cd]
      exact ⟨vp_in_nI (by omega) (by omega), br_t (by rw [d4 _ hd, z]; rfl) (ir_go I0)⟩
    · refine br_f (by rw [d3 _ hd]; exact nI_ne0 (by omega) (by omega)) ⟨vp_in_nI hd (by omega), nm_r (e' := upd (G 5) (4 + 4 * h + o) 0) rfl ?_⟩
      show wpY_forget (fun r' v' => r' = 0 ∧ i_Rel (k + 3) (xs_mk (upd F 2 0) (uu_G G 5 (upd (G 5) (4 + 4 * h + o) 0))) v') (ys_mk FY GY) (nI h) (nI o)
      unfold wpY_forget
      refine bc_Y (F := FY) (G := GY) h1 h2 (br_t rfl ?_)
      rw [e, cd]
      refine ⟨vp_in_nI (by omega) (by omega), br_f (by rw [d4 _ hd]; exact nI_ne0 (by omega) (by omega)) ⟨vp_in_nI (by omega) (by omega), nm_e ⟨rfl, ?_⟩⟩⟩
      refine ⟨_, _, FY, uu_G GY 4 (upd (GY 4) (4 + 4 * h + o) 0), rfl, rfl, ⟨kd, pa, pb, pc, nn, lo, cg_pl sz (4 + 4 * h + o) 0, N, ⟨?_, ?_, ?_, ?_, ?_, ?_⟩, ⟨fun q => hC.1 q, Or.inl rfl⟩⟩, ⟨tk, ta, tb, tc, tn, tl, X, m, s, ?_⟩, hE⟩
      · intro q; unfold cg_pl; split
        · omega
        · exact d1 q
      · intro f hf; rw [cg_pn (by omega)]; exact d2 f hf
      · intro q hq
        by_cases y : q = 4 + 4 * h + o
        · subst y; rw [cg_ps]; exact pk_us
        · rw [cg_pn y]; exact (pk_un y).trans (d3 q hq)
      · intro q hq
        by_cases y : q = 4 + 4 * h + o
        · subst y; rw [cg_ps]; exact pk_us
        · rw [cg_pn y]; exact (pk_un y).trans (d4 q hq)
      · intro d t hdd ht
        by_cases y : d = 4 + 4 * h + o
        · subst y; rw [cg_ps] at ht; omega
        · rw [cg_pn y] at ht; exact d5 d t hdd ht
      · intro d hdd hz
        by_cases y : d = 4 + 4 * h + o
        · subst y; rw [cg_ps] at hz; omega
        · rw [cg_pn y] at hz ⊢; exact d6 d hdd hz
      · obtain ⟨m1, m2, m3, m4, m5, m6, m7, m8, m9⟩ := hM
        exact ⟨m1, (pk_un (by omega)).trans m2, m3, m4, m5, m6, m7, m8, m9⟩
  · refine H _ (br_f (by decide) ?_)
    show wpY_forget _ (ys_mk FY GY) v1 v2
    unfold wpY_forget
    exact bc_Yn (F := FY) (G := GY) hn (br_f (by decide) (ir_go I0))
/-- the constructors -/
def in_K : Nat → Nat → Int32
  | 0 => fun _ => 0
  | n + 1 => upd (in_K n) (12 * n) (nI 11)
def in_S : Nat → Nat → Int32
  | 0 => fun _ => 0
  | n + 1 => upd (in_S n) n (nI 1)
theorem in_Xs {F : Nat → Int32} {n i : Nat} {post : SX → Prop} (hi : i < 4) (h : wX_init_353 post (F 0) (F 1) (F 2) (F 3) (F 4) (F 5) (F 6) (F 7) (F 8) (F 9) (F 10) (F 11) (F 12) (F 13) (F 14) (F 15) (F 16) (F 17) (F 18) (F 19) (F 20) (F 21) (F 22) n (nI (i + 1)) (uu_G (uu_G (fun _ _ => 0) 0 (in_K (i + 1))) 5 (in_S (i + 1)) 0) (uu_G (uu_G (fun _ _ => 0) 0 (in_K (i + 1))) 5 (in_S (i + 1)) 1) (uu_G (uu_G (fun _ _ => 0) 0 (in_K (i + 1))) 5 (in_S (i + 1)) 2) (uu_G (uu_G (fun _ _ => 0) 0 (in_K (i + 1))) 5 (in_S (i + 1)) 3) (uu_G (uu_G (fun _ _ => 0) 0 (in_K (i + 1))) 5 (in_S (i + 1)) 4) (uu_G (uu_G (fun _ _ => 0) 0 (in_K (i + 1))) 5 (in_S (i + 1)) 5) (uu_G (uu_G (fun _ _ => 0) 0 (in_K (i + 1))) 5 (in_S (i + 1)) 6) (uu_G (uu_G (fun _ _ => 0) 0 (in_K (i + 1))) 5 (in_S (i + 1)) 7) (uu_G (uu_G (fun _ _ => 0) 0 (in_K (i + 1))) 5 (in_S (i + 1)) 8) (uu_G (uu_G (fun _ _ => 0) 0 (in_K (i + 1))) 5 (in_S (i + 1)) 9) (uu_G (uu_G (fun _ _ => 0) 0 (in_K (i + 1))) 5 (in_S (i + 1)) 10) (uu_G (uu_G (fun _ _ => 0) 0 (in_K (i + 1))) 5 (in_S (i + 1)) 11) (uu_G (uu_G (fun _ _ => 0) 0 (in_K (i + 1))) 5 (in_S (i + 1)) 12) (uu_G (uu_G (fun _ _ => 0) 0 (in_K (i + 1))) 5 (in_S (i + 1)) 13) (uu_G (uu_G (fun _ _ => 0) 0 (in_K (i + 1))) 5 (in_S (i + 1)) 14) (uu_G (uu_G (fun _ _ => 0) 0 (in_K (i + 1))) 5 (in_S (i + 1)) 15) (uu_G (uu_G (fun _ _ => 0) 0 (in_K (i + 1))) 5 (in_S (i + 1)) 16) (uu_G (uu_G (fun _ _ => 0) 0 (in_K (i + 1))) 5 (in_S (i + 1)) 17) (uu_G (uu_G (fun _ _ => 0) 0 (in_K (i + 1))) 5 (in_S (i + 1)) 18) (uu_G (uu_G (fun _ _ => 0) 0 (in_K (i + 1))) 5 (in_S (i + 1)) 19) (uu_G (uu_G (fun _ _ => 0) 0 (in_K (i + 1))) 5 (in_S (i + 1)) 20) (uu_G (uu_G (fun _ _ => 0) 0 (in_K (i + 1))) 5 (in_S (i + 1)) 21) (uu_G (uu_G (fun _ _ => 0) 0 (in_K (i + 1))) 5 (in_S (i + 1)) 22) (uu_G (uu_G (fun _ _ => 0) 0 (in_K (i + 1))) 5 (in_S (i + 1)) 23) (uu_G (uu_G (fun _ _ => 0) 0 (in_K (i + 1))) 5 (in_S (i + 1)) 24) (uu_G (uu_G (fun _ _ => 0) 0 (in_K (i + 1))) 5 (in_S (i + 1)) 25) (uu_G (uu_G (fun _ _ => 0) 0 (in_K (i + 1))) 5 (in_S (i + 1)) 26) (uu_G (uu_G (fun _ _ => 0) 0 (in_K (i + 1))) 5 (in_S (i + 1)) 27) (uu_G (uu_G (fun _ _ => 0) 0 (in_K (i + 1))) 5 (in_S (i + 1)) 28) (uu_G (uu_G (fun _ _ => 0) 0 (in_K (i + 1))) 5 (in_S (i + 1)) 29) (uu_G (uu_G (fun _ _ => 0) 0 (in_K (i + 1))) 5 (in_S (i + 1)) 30) (uu_G (uu_G (fun _ _ => 0) 0 (in_K (i + 1))) 5 (in_S (i + 1)) 31) (uu_G (uu_G (fun _ _ => 0) 0 (in_K (i + 1))) 5 (in_S (i + 1)) 32) (uu_G (uu_G (fun _ _ => 0) 0 (in_K (i + 1))) 5 (in_S (i + 1)) 33) (uu_G (uu_G (fun _ _ => 0) 0 (in_K (i + 1))) 5 (in_S (i + 1)) 34) (uu_G (uu_G (fun _ _ => 0) 0 (in_K (i + 1))) 5 (in_S (i + 1)) 35) (uu_G (uu_G (fun _ _ => 0) 0 (in_K (i + 1))) 5 (in_S (i + 1)) 36) (uu_G (uu_G (fun _ _ => 0) 0 (in_K (i + 1))) 5 (in_S (i + 1)) 37) (uu_G (uu_G (fun _ _ => 0) 0 (in_K (i + 1))) 5 (in_S (i + 1)) 38) (uu_G (uu_G (fun _ _ => 0) 0 (in_K (i + 1))) 5 (in_S (i + 1)) 39) (uu_G (uu_G (fun _ _ => 0) 0 (in_K (i + 1))) 5 (in_S (i + 1)) 40)) :
    wX_init_353 post (F 0) (F 1) (F 2) (F 3) (F 4) (F 5) (F 6) (F 7) (F 8) (F 9) (F 10) (F 11) (F 12) (F 13) (F 14) (F 15) (F 16) (F 17) (F 18) (F 19) (F 20) (F 21) (F 22) (n + 1) (nI i) (uu_G (uu_G (fun _ _ => 0) 0 (in_K i)) 5 (in_S i) 0) (uu_G (uu_G (fun _ _ => 0) 0 (in_K i)) 5 (in_S i) 1) (uu_G (uu_G (fun _ _ => 0) 0 (in_K i)) 5 (in_S i) 2) (uu_G (uu_G (fun _ _ => 0) 0 (in_K i)) 5 (in_S i) 3) (uu_G (uu_G (fun _ _ => 0) 0 (in_K i)) 5 (in_S i) 4) (uu_G (uu_G (fun _ _ => 0) 0 (in_K i)) 5 (in_S i) 5) (uu_G (uu_G (fun _ _ => 0) 0 (in_K i)) 5 (in_S i) 6) (uu_G (uu_G (fun _ _ => 0) 0 (in_K i)) 5 (in_S i) 7) (uu_G (uu_G (fun _ _ => 0) 0 (in_K i)) 5 (in_S i) 8) (uu_G (uu_G (fun _ _ => 0) 0 (in_K i)) 5 (in_S i) 9) (uu_G (uu_G (fun _ _ => 0) 0 (in_K i)) 5 (in_S i) 10) (uu_G (uu_G (fun _ _ => 0) 0 (in_K i)) 5 (in_S i) 11) (uu_G (uu_G (fun _ _ => 0) 0 (in_K i)) 5 (in_S i) 12) (uu_G (uu_G (fun _ _ => 0) 0 (in_K i)) 5 (in_S i) 13) (uu_G (uu_G (fun _ _ => 0) 0 (in_K i)) 5 (in_S i) 14) (uu_G (uu_G (fun _ _ => 0) 0 (in_K i)) 5 (in_S i) 15) (uu_G (uu_G (fun _ _ => 0) 0 (in_K i)) 5 (in_S i) 16) (uu_G (uu_G (fun _ _ => 0) 0 (in_K i)) 5 (in_S i) 17) (uu_G (uu_G (fun _ _ => 0) 0 (in_K i)) 5 (in_S i) 18) (uu_G (uu_G (fun _ _ => 0) 0 (in_K i)) 5 (in_S i) 19) (uu_G (uu_G (fun _ _ => 0) 0 (in_K i)) 5 (in_S i) 20) (uu_G (uu_G (fun _ _ => 0) 0 (in_K i)) 5 (in_S i) 21) (uu_G (uu_G (fun _ _ => 0) 0 (in_K i)) 5 (in_S i) 22) (uu_G (uu_G (fun _ _ => 0) 0 (in_K i)) 5 (in_S i) 23) (uu_G (uu_G (fun _ _ => 0) 0 (in_K i)) 5 (in_S i) 24) (uu_G (uu_G (fun _ _ => 0) 0 (in_K i)) 5 (in_S i) 25) (uu_G (uu_G (fun _ _ => 0) 0 (in_K i)) 5 (in_S i) 26) (uu_G (uu_G (fun _ _ => 0) 0 (in_K i)) 5 (in_S i) 27) (uu_G (uu_G (fun _ _ => 0) 0 (in_K i)) 5 (in_S i) 28) (uu_G (uu_G (fun _ _ => 0) 0 (in_K i)) 5 (in_S i) 29) (uu_G (uu_G (fun _ _ => 0) 0 (in_K i)) 5 (in_S i) 30) (uu_G (uu_G (fun _ _ => 0) 0 (in_K i)) 5 (in_S i) 31) (uu_G (uu_G (fun _ _ => 0) 0 (in_K i)) 5 (in_S i) 32) (uu_G (uu_G (fun _ _ => 0) 0 (in_K i)) 5 (in_S i) 33) (uu_G (uu_G (fun _ _ => 0) 0 (in_K i)) 5 (in_S i) 34) (uu_G (uu_G (fun _ _ => 0) 0 (in_K i)) 5 (in_S i) 35) (uu_G (uu_G (fun _ _ => 0) 0 (in_K i)) 5 (in_S i) 36) (uu_G (uu_G (fun _ _ => 0) 0 (in_K i)) 5 (in_S i) 37) (uu_G (uu_G (fun _ _ => 0) 0 (in_K i)) 5 (in_S i) 38) (uu_G (uu_G (fun _ _ => 0) 0 (in_K i)) 5 (in_S i) 39) (uu_G (uu_G (fun _ _ => 0) 0 (in_K i)) 5 (in_S i) 40) := by
  unfold wX_init_353
  refine br_f (nI_ge (b := 4) hi (by omega)) ?_
  rw [uu_m12, nI_clamp (by omega), nI_clamp (by omega)]
  exact ⟨vp_in_nI (by omega) (by omega), nm_r (e' := in_K (i + 1)) rfl ⟨vp_in_nI (by omega) (by omega), nm_r (e' := in_S (i + 1)) rfl (nm_r (e' := nI (i + 1)) (nI_1 i) h)⟩⟩
theorem in_Ys {F : Nat → Int32} {n i : Nat} {post : SY → Prop} (hi : i < 4) (h : wY_init_210 post (F 0) (F 1) (F 2) (F 3) (F 4) (F 5) (F 6) (F 7) (F 8) (F 9) (F 10) (F 11) (F 12) (F 13) (F 14) (F 15) (F 16) (F 17) (F 18) (F 19) n (nI (i + 1)) (uu_G (fun _ _ => 0) 4 (in_S (i + 1)) 0) (uu_G (fun _ _ => 0) 4 (in_S (i + 1)) 1) (uu_G (fun _ _ => 0) 4 (in_S (i + 1)) 2) (uu_G (fun _ _ => 0) 4 (in_S (i + 1)) 3) (uu_G (fun _ _ => 0) 4 (in_S (i + 1)) 4) (uu_G (fun _ _ => 0) 4 (in_S (i + 1)) 5) (uu_G (fun _ _ => 0) 4 (in_S (i + 1)) 6) (uu_G (fun _ _ => 0) 4 (in_S (i + 1)) 7) (uu_G (fun _ _ => 0) 4 (in_S (i + 1)) 8) (uu_G (fun _ _ => 0) 4 (in_S (i + 1)) 9) (uu_G (fun _ _ => 0) 4 (in_S (i + 1)) 10) (uu_G (fun _ _ => 0) 4 (in_S (i + 1)) 11) (uu_G (fun _ _ => 0) 4 (in_S (i + 1)) 12) (uu_G (fun _ _ => 0) 4 (in_S (i + 1)) 13) (uu_G (fun _ _ => 0) 4 (in_S (i + 1)) 14) (uu_G (fun _ _ => 0) 4 (in_S (i + 1)) 15) (uu_G (fun _ _ => 0) 4 (in_S (i + 1)) 16) (uu_G (fun _ _ => 0) 4 (in_S (i + 1)) 17) (uu_G (fun _ _ => 0) 4 (in_S (i + 1)) 18) (uu_G (fun _ _ => 0) 4 (in_S (i + 1)) 19) (uu_G (fun _ _ => 0) 4 (in_S (i + 1)) 20) (uu_G (fun _ _ => 0) 4 (in_S (i + 1)) 21) (uu_G (fun _ _ => 0) 4 (in_S (i + 1)) 22)) :
    wY_init_210 post (F 0) (F 1) (F 2) (F 3) (F 4) (F 5) (F 6) (F 7) (F 8) (F 9) (F 10) (F 11) (F 12) (F 13) (F 14) (F 15) (F 16) (F 17) (F 18) (F 19) (n + 1) (nI i) (uu_G (fun _ _ => 0) 4 (in_S i) 0) (uu_G (fun _ _ => 0) 4 (in_S i) 1) (uu_G (fun _ _ => 0) 4 (in_S i) 2) (uu_G (fun _ _ => 0) 4 (in_S i) 3) (uu_G (fun _ _ => 0) 4 (in_S i) 4) (uu_G (fun _ _ => 0) 4 (in_S i) 5) (uu_G (fun _ _ => 0) 4 (in_S i) 6) (uu_G (fun _ _ => 0) 4 (in_S i) 7) (uu_G (fun _ _ => 0) 4 (in_S i) 8) (uu_G (fun _ _ => 0) 4 (in_S i) 9) (uu_G (fun _ _ => 0) 4 (in_S i) 10) (uu_G (fun _ _ => 0) 4 (in_S i) 11) (uu_G (fun _ _ => 0) 4 (in_S i) 12) (uu_G (fun _ _ => 0) 4 (in_S i) 13) (uu_G (fun _ _ => 0) 4 (in_S i) 14) (uu_G (fun _ _ => 0) 4 (in_S i) 15) (uu_G (fun _ _ => 0) 4 (in_S i) 16) (uu_G (fun _ _ => 0) 4 (in_S i) 17) (uu_G (fun _ _ => 0) 4 (in_S i) 18) (uu_G (fun _ _ => 0) 4 (in_S i) 19) (uu_G (fun _ _ => 0) 4 (in_S i) 20) (uu_G (fun _ _ => 0) 4 (in_S i) 21) (uu_G (fun _ _ => 0) 4 (in_S i) 22) := by
  unfold wY_init_210
  refine br_f (nI_ge (b := 4) hi (by omega)) ?_
  rw [nI_clamp (by omega)]
  exact ⟨vp_in_nI (by omega) (by omega), nm_r (e' := in_S (i + 1)) rfl (nm_r (e' := nI (i + 1)) (nI_1 i) h)⟩
theorem i_vc0 : wpX_init (fun u => wpY_init (fun v => i_Rel 0 u v)) := by
  unfold wpX_init
  refine ⟨5, ?_⟩
  refine in_Xs (F := fun _ => 0) (i := 0) (by omega) (in_Xs (F := fun _ => 0) (i := 1) (by omega) (in_Xs (F := fun _ => 0) (i := 2) (by omega) (in_Xs (F := fun _ => 0) (i := 3) (by omega) ?_)))
  unfold wX_init_353
  refine br_t (by decide) ?_
  show wpY_init (fun v => i_Rel 0 (xs_mk (upd (upd (fun _ => 0) 15 (-4)) 17 (-4)) (uu_G (uu_G (fun _ _ => 0) 0 (in_K 4)) 5 (in_S 4))) v)
  unfold wpY_init
  refine ⟨5, ?_⟩
  refine in_Ys (F := fun _ => 0) (i := 0) (by omega) (in_Ys (F := fun _ => 0) (i := 1) (by omega) (in_Ys (F := fun _ => 0) (i := 2) (by omega) (in_Ys (F := fun _ => 0) (i := 3) (by omega) ?_)))
  unfold wY_init_210
  refine br_t (by decide) ?_
  have hS : ∀ q, in_S 4 q = nI (if q < 4 then 1 else 0) := by
    intro q
    show upd (upd (upd (upd (fun _ => 0) 0 (nI 1)) 1 (nI 1)) 2 (nI 1)) 3 (nI 1) q = _
    unfold upd
    by_cases z : q < 4
    · obtain rfl | rfl | rfl | rfl : q = 0 ∨ q = 1 ∨ q = 2 ∨ q = 3 := by omega
      all_goals rfl
    · rw [if_neg (by omega), if_neg (by omega), if_neg (by omega), if_neg (by omega), if_neg z]; rfl
  refine ⟨_, _, upd (upd (fun _ => 0) 13 (-4)) 14 (-4), uu_G (fun _ _ => 0) 4 (in_S 4), rfl, rfl, ⟨fun _ => 11, fun _ => 0, fun _ => 0, fun _ => 0, fun _ => 0, fun _ => 0, fun q => if q < 4 then 1 else 0, fun _ => 0, ⟨?_, ?_, fun q _ => hS q, fun q _ => hS q, ?_, fun _ _ _ => rfl⟩, ⟨fun q => ⟨0, by omega, rfl⟩, Or.inl rfl⟩⟩,
    ⟨fun _ => 0, fun _ => 0, fun _ => 0, fun _ => 0, fun _ => 0, fun _ => 0, fun _ => 0, 0, [], rfl, ?_, by omega, rfl, rfl, trivial, trivial, rfl, fun t ht => absurd ht (by omega)⟩, rfl, rfl, rfl, rfl, rfl, rfl, ⟨0, by omega, rfl, rfl, fun i hi => absurd hi (by omega)⟩, ?_⟩
  · intro q; dsimp only; split <;> omega
  · intro f hf; dsimp only; rw [if_pos hf]; omega
  · intro d t hd ht
    dsimp only at ht ⊢
    have hd4 : d < 4 ∧ t = 0 := by
      by_cases z : d < 4
      · rw [if_pos z] at ht; omega
      · rw [if_neg z] at ht; omega
    obtain ⟨z, rfl⟩ := hd4
    refine ⟨?_, ⟨?_, rfl, rfl, rfl, rfl, fun z => absurd rfl z, rfl, by omega, by omega, by omega⟩, ⟨rfl, rfl, fun z => by omega, fun z => by omega⟩⟩
    · unfold tm_L
      dsimp only
      exact ⟨by omega, by omega, fun _ => rfl, fun z => by omega, fun z => by omega, fun z => by omega, fun z => by omega, fun z => by omega, fun z => by omega, fun z => by omega, fun z => by omega⟩
    · show in_K 4 (12 * d + 0) = nI 11
      obtain rfl | rfl | rfl | rfl : d = 0 ∨ d = 1 ∨ d = 2 ∨ d = 3 := by omega
      all_goals rfl
  · exact hS 16
  · show (0 : Int32) = if (-4 : Int32) = 0 then 0 else if (-4 : Int32) = 1 then 0 else 0
    decide
end
section
/-! the compiler, one piece of work at a time -/
def em_G (G : Nat → Nat → Int32) (p op : Nat) (n : Int32) : Nat → Nat → Int32 := uu_G (uu_G G 11 (upd (G 11) p (nI op))) 12 (upd (G 12) p n)
theorem xe_emit {F : Nat → Int32} {G : Nat → Nat → Int32} {p op : Nat} {n : Int32} {post : SX → Prop} (hp : F 3 = nI p) (hpb : p < 1200) (ho : op < 128)
    (h : post (xs_mk (upd F 3 (nI (p + 1))) (em_G G p op n))) : wpX_emit post (xs_mk F G) (nI op) n := by
  have v : vp_in (F 3) 1200 := by rw [hp]; exact vp_in_nI hpb (by omega)
  have c : (F 3).toNatClampNeg = p := by rw [hp]; exact nI_clamp (by omega)
  unfold wpX_emit
  simp only [c]
  exact ⟨v, nm_r (e' := upd (G 11) p (nI op)) (by rw [uu_b8 ho, uu_nb ho]) ⟨v, nm_e (nm_r (e' := nI (p + 1)) (by rw [hp, nI_1]) h)⟩⟩
def fs_F (F : Nat → Int32) (p pi : Nat) : Nat → Int32 := if pi = 0 then upd F 8 0 else upd (upd F 3 (nI (p + 1))) 8 0
def fs_G (G : Nat → Nat → Int32) (p pi : Nat) : Nat → Nat → Int32 := if pi = 0 then G else em_G G p 9 (nI pi)
def fs_p (p pi : Nat) : Nat := if pi = 0 then p else p + 1
theorem xe_flush {F : Nat → Int32} {G : Nat → Nat → Int32} {p pi : Nat} {post : SX → Prop} (hp : F 3 = nI p) (hpi : F 8 = nI pi) (hpb : p < 1200) (hb : pi < 1000)
    (h : post (xs_mk (fs_F F p pi) (fs_G G p pi))) : wpX_flush post (xs_mk F G) := by
  unfold wpX_flush
  unfold fs_F fs_G at h
  by_cases z : pi = 0
  · rw [if_pos z, if_pos z] at h
    exact br_t (by rw [hpi, z]; decide) h
  · rw [if_neg z, if_neg z, ← hpi] at h
    refine br_f (by rw [hpi]; exact nI_nle (by omega) (by omega)) ?_
    exact xe_emit (F := F) (G := G) (op := 9) hp hpb (by omega) h
theorem xe_finish {F : Nat → Int32} {G : Nat → Nat → Int32} {p pi : Nat} {post : SX → Prop} (hp : F 3 = nI p) (hpi : F 8 = nI pi) (hpb : p + 1 < 1200) (hb : pi < 1000)
    (h : post (xs_mk (upd (fs_F F p pi) 3 (nI (fs_p p pi + 1))) (em_G (fs_G G p pi) (fs_p p pi) 11 0))) : wpX_finish post (xs_mk F G) := by
  unfold wpX_finish
  refine xe_flush hp hpi (by omega) hb ?_
  refine xe_emit (F := fs_F F p pi) (G := fs_G G p pi) (p := fs_p p pi) (op := 11) ?_ ?_ (by omega) h
  · unfold fs_F fs_p
    split
    · exact hp
    · rfl
  · unfold fs_p; split <;> omega
def ak_G (G : Nat → Nat → Int32) (k a t r : Nat) : Nat → Nat → Int32 := uu_G (uu_G (uu_G G 17 (upd (G 17) k (nI a))) 18 (upd (G 18) k (nI t))) 19 (upd (G 19) k (nI r))
theorem xe_ask {F : Nat → Int32} {G : Nat → Nat → Int32} {k a t r : Nat} {post : SX → Prop} (hk : F 5 = nI k) (hkb : k < 96) (ha : a < 128) (ht : t < 128) (hr : r < 128)
    (h : post (xs_mk (upd F 5 (nI (k + 1))) (ak_G G k a t r))) : wpX_ask post (xs_mk F G) (nI a) (nI t) (nI r) := by
  have v : vp_in (F 5) 96 := by rw [hk]; exact vp_in_nI hkb (by omega)
  have c : (F 5).toNatClampNeg = k := by rw [hk]; exact nI_clamp (by omega)
  unfold wpX_ask
  simp only [c]
  exact ⟨v, nm_r (e' := upd (G 17) k (nI a)) (by rw [uu_b8 ha, uu_nb ha]) ⟨v, nm_r (e' := upd (G 18) k (nI t)) (by rw [uu_b8 ht, uu_nb ht]) ⟨v, nm_r (e' := upd (G 19) k (nI r)) (by rw [uu_b8 hr, uu_nb hr]) (nm_r (e' := nI (k + 1)) (by rw [hk, nI_1]) h)⟩⟩⟩
theorem xe_askFor {F : Nat → Int32} {G : Nat → Nat → Int32} {k md t : Nat} {post : SX → Prop} (hk : F 5 = nI k) (hkb : k < 96) (hm : md < 2) (ht : t < 128)
    (h : post (xs_mk (upd F 5 (nI (k + 1))) (ak_G G k md t 0))) : wpX_askFor post (xs_mk F G) (nI t) (nI md) := by
  unfold wpX_askFor
  obtain rfl | rfl : md = 0 ∨ md = 1 := by omega
  · refine br_t rfl ?_
    unfold wX_askFor_10
    exact xe_ask (F := F) (G := G) (a := 0) (r := 0) hk hkb (by omega) ht (by omega) h
  · refine br_f (by decide) ?_
    unfold wX_askFor_10
    exact xe_ask (F := F) (G := G) (a := 1) (r := 0) hk hkb (by omega) ht (by omega) h
theorem xe_dig {F : Nat → Int32} {G : Nat → Nat → Int32} {k p : Nat} {post : SX → Prop} (hk : F 9 = nI k) (hkb : k < 16) (hp : F 3 = nI (p + 1)) (hpb : p < 1200)
    (h : post (xs_mk (upd F 9 (nI (k + 1))) (uu_G G 21 (upd (G 21) k (nI p))))) : wpX_dig post (xs_mk F G) := by
  have v : vp_in (F 9) 16 := by rw [hk]; exact vp_in_nI hkb (by omega)
  have c : (F 9).toNatClampNeg = k := by rw [hk]; exact nI_clamp (by omega)
  unfold wpX_dig
  simp only [c]
  exact ⟨v, nm_r (e' := upd (G 21) k (nI p)) (by rw [hp, nI_pred, uu_b16 (by omega), uu_ns (by omega)]) (nm_r (e' := nI (k + 1)) (by rw [hk, nI_1]) h)⟩
theorem xe_fill {F : Nat → Int32} {G : Nat → Nat → Int32} {k h0 p : Nat} {post : SX → Prop} (hk : F 9 = nI (k + 1)) (hkb : k < 16) (hh : G 21 k = nI h0) (hhb : h0 < 1200) (hp : F 3 = nI p)
    (h : post (xs_mk (upd F 9 (nI k)) (uu_G G 12 (upd (G 12) h0 (nI p))))) : wpX_fill post (xs_mk F G) := by
  unfold wpX_fill
  refine nm_r (e' := nI k) (by rw [hk]; exact nI_pred k) ?_
  rw [nI_clamp (by omega), show G 21 k = nI h0 from hh, nI_clamp (by omega)]
  exact ⟨vp_in_nI hkb (by omega), vp_in_nI hhb (by omega), nm_r (e' := upd (G 12) h0 (nI p)) (by rw [hp]) h⟩
/-- pieces of work, the next one first -/
def wk_R (G : Nat → Nat → Int32) : List (Nat × Nat × Nat) → Prop
  | [] => True
  | (a, t, r) :: W => G 17 W.length = nI a ∧ G 18 W.length = nI t ∧ G 19 W.length = nI r ∧ wk_R G W
def ho_R (G : Nat → Nat → Int32) : List Nat → Prop
  | [] => True
  | h :: H => G 21 H.length = nI h ∧ h < 1200 ∧ ho_R G H
theorem wk_x {G G' : Nat → Nat → Int32} : ∀ (W : List (Nat × Nat × Nat)), (∀ k, 17 ≤ k → k ≤ 19 → ∀ i, i < W.length → G' k i = G k i) → wk_R G W → wk_R G' W := by
  intro W
  induction W with
  | nil => intro _ _; trivial
  | cons x W ih =>
    obtain ⟨a, t, r⟩ := x
    rintro h ⟨h1, h2, h3, h4⟩
    simp only [List.length_cons] at h
    exact ⟨(h 17 (by decide) (by decide) _ (by omega)).trans h1, (h 18 (by decide) (by decide) _ (by omega)).trans h2, (h 19 (by decide) (by decide) _ (by omega)).trans h3, ih (fun k a b i hi => h k a b i (by omega)) h4⟩
theorem ho_x {G G' : Nat → Nat → Int32} : ∀ (H : List Nat), (∀ i, i < H.length → G' 21 i = G 21 i) → ho_R G H → ho_R G' H := by
  intro H
  induction H with
  | nil => intro _ _; trivial
  | cons x H ih =>
    rintro h ⟨h1, h2, h3⟩
    simp only [List.length_cons] at h
    exact ⟨(h _ (by omega)).trans h1, h2, ih (fun i hi => h i (by omega)) h3⟩
/-- the state of the compiler -/
def rc_S (F : Nat → Int32) (G : Nat → Nat → Int32) (d : Nat) (W : List (Nat × Nat × Nat)) (H : List Nat) (pl : Nat → Nat) (w pi p nb : Nat) : Prop :=
  F 6 = nI d ∧ F 5 = nI W.length ∧ wk_R G W ∧ F 7 = nI w ∧ F 8 = nI pi ∧ F 9 = nI H.length ∧ ho_R G H ∧ (∀ v, v < 3 → G 20 v = nI (pl v)) ∧ F 3 = nI p ∧ F 4 = nI nb
section
variable {F : Nat → Int32} {G : Nat → Nat → Int32} {d : Nat} {W : List (Nat × Nat × Nat)} {H : List Nat} {pl : Nat → Nat} {w pi p nb : Nat}
theorem rp_G {G' : Nat → Nat → Int32} (S : rc_S F G d W H pl w pi p nb) (h : ∀ k, 17 ≤ k → k ≤ 21 → G' k = G k) : rc_S F G' d W H pl w pi p nb := by
  obtain ⟨s1, s2, s3, s4, s5, s6, s7, s8, s9, s10⟩ := S
  refine ⟨s1, s2, wk_x W (fun k a b i _ => by rw [h k a (by omega)]) s3, s4, s5, s6, ho_x H (fun i _ => by rw [h 21 (by decide) (by decide)]) s7, ?_, s9, s10⟩
  rw [h 20 (by decide) (by decide)]; exact s8
theorem rp_emit {op : Nat} {n : Int32} (S : rc_S F G d W H pl w pi p nb) : rc_S (upd F 3 (nI (p + 1))) (em_G G p op n) d W H pl w pi (p + 1) nb := by
  obtain ⟨s1, s2, s3, s4, s5, s6, s7, s8, s9, s10⟩ := rp_G (G' := em_G G p op n) S (fun k a b => by unfold em_G; rw [uu_Gn (by omega), uu_Gn (by omega)])
  exact ⟨s1, s2, s3, s4, s5, s6, s7, s8, rfl, s10⟩
theorem rp_words {w' : Nat} (S : rc_S F G d W H pl w pi p nb) : rc_S (upd F 7 (nI w')) G d W H pl w' pi p nb := by
  obtain ⟨s1, s2, s3, s4, s5, s6, s7, s8, s9, s10⟩ := S
  exact ⟨s1, s2, s3, rfl, s5, s6, s7, s8, s9, s10⟩
theorem rp_pend {pi' : Nat} (S : rc_S F G d W H pl w pi p nb) : rc_S (upd F 8 (nI pi')) G d W H pl w pi' p nb := by
  obtain ⟨s1, s2, s3, s4, s5, s6, s7, s8, s9, s10⟩ := S
  exact ⟨s1, s2, s3, s4, rfl, s6, s7, s8, s9, s10⟩
theorem rp_flush (S : rc_S F G d W H pl w pi p nb) : rc_S (fs_F F p pi) (fs_G G p pi) d W H pl w 0 (fs_p p pi) nb := by
  unfold fs_F fs_G fs_p
  by_cases z : pi = 0
  · rw [if_pos z, if_pos z, if_pos z]; exact rp_pend (pi' := 0) S
  · rw [if_neg z, if_neg z, if_neg z]; exact rp_pend (pi' := 0) (rp_emit S)
theorem rp_pop {x : Nat × Nat × Nat} (S : rc_S F G d (x :: W) H pl w pi p nb) : rc_S (upd F 5 (nI W.length)) G d W H pl w pi p nb := by
  obtain ⟨a, t, r⟩ := x
  obtain ⟨s1, s2, ⟨_, _, _, s3⟩, s4, s5, s6, s7, s8, s9, s10⟩ := S
  exact ⟨s1, rfl, s3, s4, s5, s6, s7, s8, s9, s10⟩
theorem rp_ask {a t r : Nat} (S : rc_S F G d W H pl w pi p nb) : rc_S (upd F 5 (nI (W.length + 1))) (ak_G G W.length a t r) d ((a, t, r) :: W) H pl w pi p nb := by
  obtain ⟨s1, s2, s3, s4, s5, s6, s7, s8, s9, s10⟩ := S
  refine ⟨s1, rfl, ⟨pk_us, pk_us, pk_us, wk_x W (fun k h1 h2 i hi => ?_) s3⟩, s4, s5, s6, ho_x (G := G) H (fun i _ => rfl) s7, s8, s9, s10⟩
  have hn : i ≠ W.length := by omega
  obtain rfl | rfl | rfl : k = 17 ∨ k = 18 ∨ k = 19 := by omega
  all_goals exact pk_un hn
theorem rp_place {v x : Nat} (S : rc_S F G d W H pl w pi p nb) : rc_S F (uu_G G 20 (upd (G 20) v (nI x))) d W H (cg_pl pl v x) w pi p nb := by
  obtain ⟨s1, s2, s3, s4, s5, s6, s7, s8, s9, s10⟩ := S
  refine ⟨s1, s2, wk_x W (fun k h1 h2 i hi => by rw [uu_Gn (by omega)]) s3, s4, s5, s6, ho_x (G := G) H (fun i _ => rfl) s7, ?_, s9, s10⟩
  intro u hu
  show upd (G 20) v (nI x) u = nI (cg_pl pl v x u)
  by_cases z : u = v
  · rw [z, pk_us, cg_ps]
  · rw [pk_un z, cg_pn z]; exact s8 u hu
theorem rp_plx {pl' : Nat → Nat} (S : rc_S F G d W H pl w pi p nb) (h : ∀ v, v < 3 → pl' v = pl v) : rc_S F G d W H pl' w pi p nb := by
  obtain ⟨s1, s2, s3, s4, s5, s6, s7, s8, s9, s10⟩ := S
  exact ⟨s1, s2, s3, s4, s5, s6, s7, fun v hv => by rw [h v hv]; exact s8 v hv, s9, s10⟩
theorem rp_dig {x : Nat} (S : rc_S F G d W H pl w pi p nb) (hx : x < 1200) : rc_S (upd F 9 (nI (H.length + 1))) (uu_G G 21 (upd (G 21) H.length (nI x))) d W (x :: H) pl w pi p nb := by
  obtain ⟨s1, s2, s3, s4, s5, s6, s7, s8, s9, s10⟩ := S
  refine ⟨s1, s2, wk_x W (fun k h1 h2 i hi => by rw [uu_Gn (by omega)]) s3, s4, s5, rfl, ⟨pk_us, hx, ho_x H (fun i hi => ?_) s7⟩, s8, s9, s10⟩
  exact pk_un (by omega)
theorem rp_fill {x y : Nat} (S : rc_S F G d W (x :: H) pl w pi p nb) : rc_S (upd F 9 (nI H.length)) (uu_G G 12 (upd (G 12) x (nI y))) d W H pl w pi p nb := by
  obtain ⟨s1, s2, s3, s4, s5, s6, ⟨_, _, s7⟩, s8, s9, s10⟩ := S
  exact ⟨s1, s2, wk_x W (fun k h1 h2 i hi => by rw [uu_Gn (by omega)]) s3, s4, s5, rfl, ho_x H (fun i hi => by rw [uu_Gn (by decide)]) s7, s8, s9, s10⟩
end
/-- what the compiler leaves as it is -/
def cc_I (F : Nat → Int32) (G : Nat → Nat → Int32) (F' : Nat → Int32) (G' : Nat → Nat → Int32) : Prop := (∀ k, k < 3 ∨ k = 6 → F' k = F k) ∧ ∀ k, k ≤ 10 ∨ k = 15 ∨ k = 16 → G' k = G k
theorem cc_rf {F : Nat → Int32} {G : Nat → Nat → Int32} : cc_I F G F G := ⟨fun _ _ => rfl, fun _ _ => rfl⟩
theorem cc_tr {F F' F'' : Nat → Int32} {G G' G'' : Nat → Nat → Int32} (a : cc_I F G F' G') (b : cc_I F' G' F'' G'') : cc_I F G F'' G'' :=
  ⟨fun k hk => (b.1 k hk).trans (a.1 k hk), fun k hk => (b.2 k hk).trans (a.2 k hk)⟩
def ew_W (post : SX → Prop) (n i : Nat) (F : Nat → Int32) (G : Nat → Nat → Int32) : Prop := wX_workAll_2 post n (nI i) (F 0) (F 1) (F 2) (F 3) (F 4) (F 5) (F 6) (F 7) (F 8) (F 9) (F 10) (F 11) (F 12) (F 13) (F 14) (F 15) (F 16) (F 17) (F 18) (F 19) (F 20) (F 21) (F 22) (G 0) (G 1) (G 2) (G 3) (G 4) (G 5) (G 6) (G 7) (G 8) (G 9) (G 10) (G 11) (G 12) (G 13) (G 14) (G 15) (G 16) (G 17) (G 18) (G 19) (G 20) (G 21) (G 22) (G 23) (G 24) (G 25) (G 26) (G 27) (G 28) (G 29) (G 30) (G 31) (G 32) (G 33) (G 34) (G 35) (G 36) (G 37) (G 38) (G 39) (G 40)
def ew_go (i : Nat) (F : Nat → Int32) (G : Nat → Nat → Int32) (i' : Nat) (F' : Nat → Int32) (G' : Nat → Nat → Int32) : Prop :=
  ∀ post : SX → Prop, (∃ n, ew_W post n i' F' G') → ∃ n, ew_W post n i F G
theorem ew_tr {i i' i'' : Nat} {F F' F'' : Nat → Int32} {G G' G'' : Nat → Nat → Int32} (a : ew_go i F G i' F' G') (b : ew_go i' F' G' i'' F'' G'') : ew_go i F G i'' F'' G'' := fun post h => a post (b post h)
theorem ew_step {i k : Nat} {F F' : Nat → Int32} {G G' : Nat → Nat → Int32} (hi : i < 96) (hk : F 5 = nI (k + 1)) (hkb : k < 1000) (h : ∀ post : SX → Prop, post (xs_mk F' G') → wpX_workOn post (xs_mk F G)) : ew_go i F G (i + 1) F' G' := by
  rintro post ⟨n, hn⟩
  refine ⟨n + 1, ?_⟩
  unfold ew_W wX_workAll_2
  refine br_f (nI_ge (b := 96) hi (by omega)) (br_f (by rw [hk]; exact nI_nle (by omega) (by omega)) (h _ ?_))
  exact nm_r (e' := nI (i + 1)) (nI_1 i) hn
end
section
/-! which piece of work -/
section
variable {F F' : Nat → Int32} {G G' : Nat → Nat → Int32} {k t r : Nat} {post : SX → Prop}
theorem xw_0 (hk : F 5 = nI (k + 1)) (hkb : k < 96) (h1 : G 17 k = nI 0) (h2 : G 18 k = nI t) (h3 : G 19 k = nI r)
    (H : ∀ Q : SX → Prop, Q (xs_mk F' G') → wpX_begin Q (xs_mk (upd F 5 (nI k)) G) (nI t) (nI 0)) (h : post (xs_mk F' G')) : wpX_workOn post (xs_mk F G) := by
  have v : vp_in (nI k) 96 := vp_in_nI hkb (by omega)
  have c : (nI k).toNatClampNeg = k := nI_clamp (by omega)
  unfold wpX_workOn
  refine nm_r (e' := nI k) (by rw [hk]; exact nI_pred k) ?_
  rw [c]
  refine ⟨v, nm_r (e' := 0) h1 ⟨v, nm_r (e' := nI t) h2 ⟨v, nm_r (e' := nI r) h3 ?_⟩⟩⟩
  exact br_t rfl (br_f (by decide) (H _ h))
theorem xw_1 (hk : F 5 = nI (k + 1)) (hkb : k < 96) (h1 : G 17 k = nI 1) (h2 : G 18 k = nI t) (h3 : G 19 k = nI r)
    (H : ∀ Q : SX → Prop, Q (xs_mk F' G') → wpX_begin Q (xs_mk (upd F 5 (nI k)) G) (nI t) (nI 1)) (h : post (xs_mk F' G')) : wpX_workOn post (xs_mk F G) := by
  have v : vp_in (nI k) 96 := vp_in_nI hkb (by omega)
  have c : (nI k).toNatClampNeg = k := nI_clamp (by omega)
  unfold wpX_workOn
  refine nm_r (e' := nI k) (by rw [hk]; exact nI_pred k) ?_
  rw [c]
  refine ⟨v, nm_r (e' := 1) h1 ⟨v, nm_r (e' := nI t) h2 ⟨v, nm_r (e' := nI r) h3 ?_⟩⟩⟩
  exact br_f (by decide) (br_t rfl (br_t rfl (H _ h)))
theorem xw_3 (hk : F 5 = nI (k + 1)) (hkb : k < 96) (h1 : G 17 k = nI 3) (h2 : G 18 k = nI t) (h3 : G 19 k = nI r)
    (H : ∀ Q : SX → Prop, Q (xs_mk F' G') → wpX_unbind Q (xs_mk (upd F 5 (nI k)) G) (nI r) (nI 0)) (h : post (xs_mk F' G')) : wpX_workOn post (xs_mk F G) := by
  have v : vp_in (nI k) 96 := vp_in_nI hkb (by omega)
  have c : (nI k).toNatClampNeg = k := nI_clamp (by omega)
  unfold wpX_workOn
  refine nm_r (e' := nI k) (by rw [hk]; exact nI_pred k) ?_
  rw [c]
  refine ⟨v, nm_r (e' := 3) h1 ⟨v, nm_r (e' := nI t) h2 ⟨v, nm_r (e' := nI r) h3 ?_⟩⟩⟩
  exact (br_f (by decide) (br_f (by decide) (br_f (by decide) (br_t rfl (br_f (by decide) (H _ h))))))
theorem xw_4 (hk : F 5 = nI (k + 1)) (hkb : k < 96) (h1 : G 17 k = nI 4) (h2 : G 18 k = nI t) (h3 : G 19 k = nI r)
    (H : ∀ Q : SX → Prop, Q (xs_mk F' G') → wpX_unbind Q (xs_mk (upd F 5 (nI k)) G) (nI r) (nI 1)) (h : post (xs_mk F' G')) : wpX_workOn post (xs_mk F G) := by
  have v : vp_in (nI k) 96 := vp_in_nI hkb (by omega)
  have c : (nI k).toNatClampNeg = k := nI_clamp (by omega)
  unfold wpX_workOn
  refine nm_r (e' := nI k) (by rw [hk]; exact nI_pred k) ?_
  rw [c]
  refine ⟨v, nm_r (e' := 4) h1 ⟨v, nm_r (e' := nI t) h2 ⟨v, nm_r (e' := nI r) h3 ?_⟩⟩⟩
  exact (br_f (by decide) (br_f (by decide) (br_f (by decide) (br_f (by decide) (br_t rfl (br_t rfl (H _ h)))))))
theorem xw_5 (hk : F 5 = nI (k + 1)) (hkb : k < 96) (h1 : G 17 k = nI 5) (h2 : G 18 k = nI t) (h3 : G 19 k = nI r)
    (H : ∀ Q : SX → Prop, Q (xs_mk F' G') → wpX_branch Q (xs_mk (upd F 5 (nI k)) G)) (h : post (xs_mk F' G')) : wpX_workOn post (xs_mk F G) := by
  have v : vp_in (nI k) 96 := vp_in_nI hkb (by omega)
  have c : (nI k).toNatClampNeg = k := nI_clamp (by omega)
  unfold wpX_workOn
  refine nm_r (e' := nI k) (by rw [hk]; exact nI_pred k) ?_
  rw [c]
  refine ⟨v, nm_r (e' := 5) h1 ⟨v, nm_r (e' := nI t) h2 ⟨v, nm_r (e' := nI r) h3 ?_⟩⟩⟩
  exact (br_f (by decide) (br_f (by decide) (br_f (by decide) (br_f (by decide) (br_f (by decide) (br_t rfl (H _ h)))))))
theorem xw_6 (hk : F 5 = nI (k + 1)) (hkb : k < 96) (h1 : G 17 k = nI 6) (h2 : G 18 k = nI t) (h3 : G 19 k = nI r)
    (H : ∀ Q : SX → Prop, Q (xs_mk F' G') → wpX_otherwise Q (xs_mk (upd F 5 (nI k)) G) (nI r) (nI 0)) (h : post (xs_mk F' G')) : wpX_workOn post (xs_mk F G) := by
  have v : vp_in (nI k) 96 := vp_in_nI hkb (by omega)
  have c : (nI k).toNatClampNeg = k := nI_clamp (by omega)
  unfold wpX_workOn
  refine nm_r (e' := nI k) (by rw [hk]; exact nI_pred k) ?_
  rw [c]
  refine ⟨v, nm_r (e' := 6) h1 ⟨v, nm_r (e' := nI t) h2 ⟨v, nm_r (e' := nI r) h3 ?_⟩⟩⟩
  exact (br_f (by decide) (br_f (by decide) (br_f (by decide) (br_f (by decide) (br_f (by decide) (br_f (by decide) (br_t rfl (br_f (by decide) (H _ h)))))))))
theorem xw_7 (hk : F 5 = nI (k + 1)) (hkb : k < 96) (h1 : G 17 k = nI 7) (h2 : G 18 k = nI t) (h3 : G 19 k = nI r)
    (H : ∀ Q : SX → Prop, Q (xs_mk F' G') → wpX_otherwise Q (xs_mk (upd F 5 (nI k)) G) (nI r) (nI 1)) (h : post (xs_mk F' G')) : wpX_workOn post (xs_mk F G) := by
  have v : vp_in (nI k) 96 := vp_in_nI hkb (by omega)
  have c : (nI k).toNatClampNeg = k := nI_clamp (by omega)
  unfold wpX_workOn
  refine nm_r (e' := nI k) (by rw [hk]; exact nI_pred k) ?_
  rw [c]
  refine ⟨v, nm_r (e' := 7) h1 ⟨v, nm_r (e' := nI t) h2 ⟨v, nm_r (e' := nI r) h3 ?_⟩⟩⟩
  exact (br_f (by decide) (br_f (by decide) (br_f (by decide) (br_f (by decide) (br_f (by decide) (br_f (by decide) (br_f (by decide) (br_t rfl (br_t rfl (H _ h))))))))))
theorem xw_9 (hk : F 5 = nI (k + 1)) (hkb : k < 96) (h1 : G 17 k = nI 9) (h2 : G 18 k = nI t) (h3 : G 19 k = nI r)
    (H : ∀ Q : SX → Prop, Q (xs_mk F' G') → wpX_apply Q (xs_mk (upd F 5 (nI k)) G) (nI t) (nI 0)) (h : post (xs_mk F' G')) : wpX_workOn post (xs_mk F G) := by
  have v : vp_in (nI k) 96 := vp_in_nI hkb (by omega)
  have c : (nI k).toNatClampNeg = k := nI_clamp (by omega)
  unfold wpX_workOn
  refine nm_r (e' := nI k) (by rw [hk]; exact nI_pred k) ?_
  rw [c]
  refine ⟨v, nm_r (e' := 9) h1 ⟨v, nm_r (e' := nI t) h2 ⟨v, nm_r (e' := nI r) h3 ?_⟩⟩⟩
  exact (br_f (by decide) (br_f (by decide) (br_f (by decide) (br_f (by decide) (br_f (by decide) (br_f (by decide) (br_f (by decide) (br_f (by decide) (br_f (by decide) (br_f (by decide) (br_f (by decide) (H _ h))))))))))))
theorem xw_10 (hk : F 5 = nI (k + 1)) (hkb : k < 96) (h1 : G 17 k = nI 10) (h2 : G 18 k = nI t) (h3 : G 19 k = nI r)
    (H : ∀ Q : SX → Prop, Q (xs_mk F' G') → wpX_apply Q (xs_mk (upd F 5 (nI k)) G) (nI t) (nI 1)) (h : post (xs_mk F' G')) : wpX_workOn post (xs_mk F G) := by
  have v : vp_in (nI k) 96 := vp_in_nI hkb (by omega)
  have c : (nI k).toNatClampNeg = k := nI_clamp (by omega)
  unfold wpX_workOn
  refine nm_r (e' := nI k) (by rw [hk]; exact nI_pred k) ?_
  rw [c]
  refine ⟨v, nm_r (e' := 10) h1 ⟨v, nm_r (e' := nI t) h2 ⟨v, nm_r (e' := nI r) h3 ?_⟩⟩⟩
  exact (br_f (by decide) (br_f (by decide) (br_f (by decide) (br_f (by decide) (br_f (by decide) (br_f (by decide) (br_f (by decide) (br_f (by decide) (br_f (by decide) (br_f (by decide) (br_t rfl (H _ h))))))))))))
theorem xw_2 {w : Nat} (hk : F 5 = nI (k + 1)) (hkb : k < 96) (h1 : G 17 k = nI 2) (h2 : G 18 k = nI t) (h3 : G 19 k = nI r) (hr : r < 3) (hw : F 7 = nI (w + 1)) (hwb : w < 128)
    (h : post (xs_mk (upd F 5 (nI k)) (uu_G G 20 (upd (G 20) r (nI w))))) : wpX_workOn post (xs_mk F G) := by
  have v : vp_in (nI k) 96 := vp_in_nI hkb (by omega)
  have c : (nI k).toNatClampNeg = k := nI_clamp (by omega)
  unfold wpX_workOn
  refine nm_r (e' := nI k) (by rw [hk]; exact nI_pred k) ?_
  rw [c]
  refine ⟨v, nm_r (e' := 2) h1 ⟨v, nm_r (e' := nI t) h2 ⟨v, nm_r (e' := nI r) h3 ?_⟩⟩⟩
  refine br_f (by decide) (br_f (by decide) (br_t rfl ⟨vp_in_nI hr (by omega), nm_r (e' := upd (G 20) r (nI w)) ?_ h⟩))
  rw [nI_clamp (by omega), hw, nI_pred, uu_b8 hwb, uu_nb hwb]
theorem xw_8 {p pi j h0 : Nat} (hk : F 5 = nI (k + 1)) (hkb : k < 96) (h1 : G 17 k = nI 8) (h2 : G 18 k = nI t) (h3 : G 19 k = nI r) (hp : F 3 = nI p) (hpi : F 8 = nI pi) (hpb : p < 1200) (hb : pi < 1000)
    (hj : F 9 = nI (j + 1)) (hjb : j < 16) (hh : G 21 j = nI h0) (hhb : h0 < 1200)
    (h : post (xs_mk (upd (fs_F (upd F 5 (nI k)) p pi) 9 (nI j)) (uu_G (fs_G G p pi) 12 (upd (fs_G G p pi 12) h0 (nI (fs_p p pi)))))) : wpX_workOn post (xs_mk F G) := by
  have v : vp_in (nI k) 96 := vp_in_nI hkb (by omega)
  have c : (nI k).toNatClampNeg = k := nI_clamp (by omega)
  unfold wpX_workOn
  refine nm_r (e' := nI k) (by rw [hk]; exact nI_pred k) ?_
  rw [c]
  refine ⟨v, nm_r (e' := 8) h1 ⟨v, nm_r (e' := nI t) h2 ⟨v, nm_r (e' := nI r) h3 ?_⟩⟩⟩
  refine (br_f (by decide) (br_f (by decide) (br_f (by decide) (br_f (by decide) (br_f (by decide) (br_f (by decide) (br_f (by decide) (br_f (by decide) (br_t rfl ?_)))))))))
  refine xe_flush (F := upd F 5 (nI k)) (G := G) hp hpi hpb hb ?_
  refine xe_fill (F := fs_F (upd F 5 (nI k)) p pi) (G := fs_G G p pi) (k := j) (h0 := h0) (p := fs_p p pi) ?_ hjb ?_ hhb ?_ h
  · unfold fs_F; split <;> exact hj
  · unfold fs_G; split <;> exact hh
  · unfold fs_F fs_p; split
    · exact hp
    · rfl
theorem xw_11 {p pi : Nat} (hk : F 5 = nI (k + 1)) (hkb : k < 96) (h1 : G 17 k = nI 11) (h2 : G 18 k = nI t) (h3 : G 19 k = nI r) (hp : F 3 = nI p) (hpi : F 8 = nI pi) (hpb : p + 1 < 1200) (hb : pi + 1 < 1000)
    (h : post (xs_mk (upd (fs_F (upd (upd F 5 (nI k)) 8 (nI (pi + 1))) p (pi + 1)) 3 (nI (fs_p p (pi + 1) + 1))) (em_G (fs_G G p (pi + 1)) (fs_p p (pi + 1)) 16 0))) : wpX_workOn post (xs_mk F G) := by
  have v : vp_in (nI k) 96 := vp_in_nI hkb (by omega)
  have c : (nI k).toNatClampNeg = k := nI_clamp (by omega)
  unfold wpX_workOn
  refine nm_r (e' := nI k) (by rw [hk]; exact nI_pred k) ?_
  rw [c]
  refine ⟨v, nm_r (e' := 11) h1 ⟨v, nm_r (e' := nI t) h2 ⟨v, nm_r (e' := nI r) h3 ?_⟩⟩⟩
  refine (br_f (by decide) (br_f (by decide) (br_f (by decide) (br_f (by decide) (br_f (by decide) (br_f (by decide) (br_f (by decide) (br_f (by decide) (br_f (by decide) (br_t rfl (nm_r (e' := nI (pi + 1)) (by rw [hpi, nI_1]) ?_)))))))))))
  refine xe_flush (F := upd (upd F 5 (nI k)) 8 (nI (pi + 1))) (G := G) hp rfl (by omega) hb ?_
  refine xe_emit (F := fs_F (upd (upd F 5 (nI k)) 8 (nI (pi + 1))) p (pi + 1)) (G := fs_G G p (pi + 1)) (p := fs_p p (pi + 1)) (op := 16) ?_ ?_ (by omega) h
  · unfold fs_F fs_p; split
    · exact hp
    · rfl
  · unfold fs_p; split <;> omega
end
end
section
/-! asking and writing, over lists -/
section
variable {F : Nat → Int32} {G : Nat → Nat → Int32} {d : Nat} {W : List (Nat × Nat × Nat)} {H : List Nat} {pl : Nat → Nat} {w pi p nb : Nat}
theorem ra_ask {a t r : Nat} (S : rc_S F G d W H pl w pi p nb) (hk : W.length < 96) (ha : a < 128) (ht : t < 128) (hr : r < 128) :
    ∃ F' G', (∀ Q : SX → Prop, Q (xs_mk F' G') → wpX_ask Q (xs_mk F G) (nI a) (nI t) (nI r)) ∧ rc_S F' G' d ((a, t, r) :: W) H pl w pi p nb ∧ (∀ k, k ≠ 5 → F' k = F k) ∧ (∀ k, k < 17 ∨ 19 < k → G' k = G k) :=
  ⟨_, _, fun Q q => xe_ask S.2.1 hk ha ht hr q, rp_ask S, fun k hk => pk_un hk, fun k hk => by unfold ak_G; rw [uu_Gn (by omega), uu_Gn (by omega), uu_Gn (by omega)]⟩
theorem ra_askF {md t : Nat} (S : rc_S F G d W H pl w pi p nb) (hk : W.length < 96) (hm : md < 2) (ht : t < 128) :
    ∃ F' G', (∀ Q : SX → Prop, Q (xs_mk F' G') → wpX_askFor Q (xs_mk F G) (nI t) (nI md)) ∧ rc_S F' G' d ((md, t, 0) :: W) H pl w pi p nb ∧ (∀ k, k ≠ 5 → F' k = F k) ∧ (∀ k, k < 17 ∨ 19 < k → G' k = G k) :=
  ⟨_, _, fun Q q => xe_askFor S.2.1 hk hm ht q, rp_ask S, fun k hk => pk_un hk, fun k hk => by unfold ak_G; rw [uu_Gn (by omega), uu_Gn (by omega), uu_Gn (by omega)]⟩
theorem ra_emit {op : Nat} {n : Int32} (S : rc_S F G d W H pl w pi p nb) (hp : p < 1200) (ho : op < 128) :
    ∃ F' G', (∀ Q : SX → Prop, Q (xs_mk F' G') → wpX_emit Q (xs_mk F G) (nI op) n) ∧ rc_S F' G' d W H pl w pi (p + 1) nb ∧ (∀ k, k ≠ 3 → F' k = F k) ∧ (∀ k, k ≠ 11 → k ≠ 12 → G' k = G k)
      ∧ G' 11 = upd (G 11) p (nI op) ∧ G' 12 = upd (G 12) p n :=
  ⟨_, _, fun Q q => xe_emit S.2.2.2.2.2.2.2.2.1 hp ho q, rp_emit S, fun k hk => pk_un hk, fun k h1 h2 => by unfold em_G; rw [uu_Gn h2, uu_Gn h1], rfl, rfl⟩
/-- steps are counted; the code below stays -/
theorem ra_flush (S : rc_S F G d W H pl w pi p nb) (hp : p < 1200) (hb : pi < 1000) :
    ∃ F' G' q, (∀ Q : SX → Prop, Q (xs_mk F' G') → wpX_flush Q (xs_mk F G)) ∧ rc_S F' G' d W H pl w 0 q nb ∧ (∀ k, k ≠ 3 → k ≠ 8 → F' k = F k) ∧ (∀ k, k ≠ 11 → k ≠ 12 → G' k = G k)
      ∧ (∀ j, j < p → G' 11 j = G 11 j ∧ G' 12 j = G 12 j) ∧ p ≤ q ∧ q ≤ p + 1 ∧ ∀ C O : Nat → Int32, (∀ j, p ≤ j → j < q → C j = G' 11 j ∧ O j = G' 12 j) → cg_Fl C O pi p q := by
  refine ⟨_, _, _, fun Q q => xe_flush S.2.2.2.2.2.2.2.2.1 S.2.2.2.2.1 hp hb q, rp_flush S, ?_, ?_, ?_, ?_, ?_, ?_⟩
  · intro k h1 h2
    unfold fs_F
    split
    · exact pk_un h2
    · rw [pk_un h2, pk_un h1]
  · intro k h1 h2
    unfold fs_G
    split
    · rfl
    · unfold em_G; rw [uu_Gn h2, uu_Gn h1]
  · intro j hj
    unfold fs_G
    split
    · exact ⟨rfl, rfl⟩
    · exact ⟨pk_un (by omega), pk_un (by omega)⟩
  · unfold fs_p; split <;> omega
  · unfold fs_p; split <;> omega
  · intro C O h
    unfold fs_p fs_G at h
    unfold fs_p
    by_cases z : pi = 0
    · rw [if_pos z]; exact Or.inl ⟨z, rfl⟩
    · rw [if_neg z, if_neg z] at h
      rw [if_neg z]
      obtain ⟨h1, h2⟩ := h p (Nat.le_refl _) (by omega)
      exact Or.inr ⟨by omega, hb, ⟨hp, h1.trans pk_us⟩, h2.trans pk_us, rfl⟩
theorem ra_finish (S : rc_S F G d W H pl w pi p nb) (hp : p + 1 < 1200) (hb : pi < 1000) :
    ∃ F' G' q, (∀ Q : SX → Prop, Q (xs_mk F' G') → wpX_finish Q (xs_mk F G)) ∧ rc_S F' G' d W H pl w 0 q nb ∧ (∀ k, k ≠ 3 → k ≠ 8 → F' k = F k) ∧ (∀ k, k ≠ 11 → k ≠ 12 → G' k = G k)
      ∧ (∀ j, j < p → G' 11 j = G 11 j ∧ G' 12 j = G 12 j) ∧ p ≤ q ∧ q ≤ p + 2 ∧ ∀ C O : Nat → Int32, (∀ j, p ≤ j → j < q → C j = G' 11 j ∧ O j = G' 12 j) → ct_R C O p pi := by
  obtain ⟨F1, G1, q1, a1, a2, a3, a4, a5, a6, a7, a8⟩ := ra_flush S (by omega) hb
  obtain ⟨F2, G2, b1, b2, b3, b4, b5, b6⟩ := ra_emit (op := 11) (n := 0) a2 (by omega) (by omega)
  refine ⟨F2, G2, q1 + 1, ?_, b2, ?_, ?_, ?_, by omega, by omega, ?_⟩
  · intro Q q
    unfold wpX_finish
    refine a1 _ ?_
    exact b1 _ q
  · intro k h1 h2; rw [b3 k h1, a3 k h1 h2]
  · intro k h1 h2; rw [b4 k h1 h2, a4 k h1 h2]
  · intro j hj
    rw [b5, b6, pk_un (by omega), pk_un (by omega)]; exact a5 j hj
  · intro C O h
    refine ⟨q1, a8 C O fun j h1 h2 => ?_, by omega, ?_⟩
    · obtain ⟨e1, e2⟩ := h j h1 (by omega)
      rw [e1, e2, b5, b6, pk_un (by omega), pk_un (by omega)]; exact ⟨rfl, rfl⟩
    · rw [(h q1 a6 (by omega)).1, b5, pk_us]; rfl
theorem ra_dig {x : Nat} (S : rc_S F G d W H pl w pi (x + 1) nb) (hk : H.length < 16) (hx : x < 1200) :
    ∃ F' G', (∀ Q : SX → Prop, Q (xs_mk F' G') → wpX_dig Q (xs_mk F G)) ∧ rc_S F' G' d W (x :: H) pl w pi (x + 1) nb ∧ (∀ k, k ≠ 9 → F' k = F k) ∧ (∀ k, k ≠ 21 → G' k = G k) :=
  ⟨_, _, fun Q q => xe_dig S.2.2.2.2.2.1 hk S.2.2.2.2.2.2.2.2.1 hx q, rp_dig S hx, fun k hk => pk_un hk, fun k hk => uu_Gn hk⟩
theorem ra_fill {x : Nat} (S : rc_S F G d W (x :: H) pl w pi p nb) (hk : H.length < 16) :
    ∃ F' G', (∀ Q : SX → Prop, Q (xs_mk F' G') → wpX_fill Q (xs_mk F G)) ∧ rc_S F' G' d W H pl w pi p nb ∧ (∀ k, k ≠ 9 → F' k = F k) ∧ (∀ k, k ≠ 12 → G' k = G k) ∧ G' 12 = upd (G 12) x (nI p) :=
  ⟨_, _, fun Q q => xe_fill S.2.2.2.2.2.1 hk S.2.2.2.2.2.2.1.1 S.2.2.2.2.2.2.1.2.1 S.2.2.2.2.2.2.2.2.1 q, rp_fill S, fun k hk => pk_un hk, fun k hk => uu_Gn hk, rfl⟩
end
end
section
/-! a term begins -/
def sZ (lo : Nat → Nat) (d t : Nat) : Nat := t + 1 - lo (12 * d + t)
/-- what is written lies behind p and behind nb -/
def cx_O (F : Nat → Int32) (G : Nat → Nat → Int32) (F' : Nat → Int32) (G' : Nat → Nat → Int32) (p q nb nb' : Nat) : Prop :=
  cc_I F G F' G' ∧ (∀ j, j < p → G' 11 j = G 11 j ∧ G' 12 j = G 12 j) ∧ (∀ b, b < nb → G' 13 b = G 13 b ∧ G' 14 b = G 14 b) ∧ p ≤ q ∧ nb ≤ nb'
theorem cx_tr {F F1 F2 : Nat → Int32} {G G1 G2 : Nat → Nat → Int32} {p q r nb n1 n2 : Nat} (a : cx_O F G F1 G1 p q nb n1) (b : cx_O F1 G1 F2 G2 q r n1 n2) : cx_O F G F2 G2 p r nb n2 := by
  obtain ⟨a1, a2, a3, a4, a5⟩ := a
  obtain ⟨b1, b2, b3, b4, b5⟩ := b
  refine ⟨cc_tr a1 b1, fun j hj => ?_, fun j hj => ?_, by omega, by omega⟩
  · rw [(b2 j (by omega)).1, (b2 j (by omega)).2]; exact a2 j hj
  · rw [(b3 j (by omega)).1, (b3 j (by omega)).2]; exact a3 j hj
theorem cx_sm {F F' : Nat → Int32} {G G' : Nat → Nat → Int32} {p nb : Nat} (h1 : ∀ k, k < 3 ∨ k = 6 → F' k = F k) (h2 : ∀ k, k < 17 → G' k = G k) : cx_O F G F' G' p p nb nb :=
  ⟨⟨h1, fun k hk => h2 k (by omega)⟩, fun j _ => by rw [h2 11 (by decide), h2 12 (by decide)]; exact ⟨rfl, rfl⟩, fun j _ => by rw [h2 13 (by decide), h2 14 (by decide)]; exact ⟨rfl, rfl⟩, Nat.le_refl _, Nat.le_refl _⟩
/-- the code from p to q is as in G -/
def ag_c (C O : Nat → Int32) (G : Nat → Nat → Int32) (p q : Nat) : Prop := ∀ j, p ≤ j → j < q → C j = G 11 j ∧ O j = G 12 j
def ag_b (BD BT : Nat → Int32) (G : Nat → Nat → Int32) (nb nb' : Nat) : Prop := ∀ b, nb ≤ b → b < nb' → BD b = G 13 b ∧ BT b = G 14 b
theorem ag_cl {C O : Nat → Int32} {F F' : Nat → Int32} {G G' : Nat → Nat → Int32} {p q r nb nb' : Nat} (h : ag_c C O G' p r) (x : cx_O F G F' G' q r nb nb') : ag_c C O G p q := by
  intro j h1 h2
  have := x.2.2.2.1
  obtain ⟨a, b⟩ := h j h1 (by omega)
  rw [a, b]; exact x.2.1 j h2
theorem ag_bl {BD BT : Nat → Int32} {F F' : Nat → Int32} {G G' : Nat → Nat → Int32} {p q nb n1 n2 : Nat} (h : ag_b BD BT G' nb n2) (x : cx_O F G F' G' p q n1 n2) : ag_b BD BT G nb n1 := by
  intro j h1 h2
  have := x.2.2.2.2
  obtain ⟨a, b⟩ := h j h1 (by omega)
  rw [a, b]; exact x.2.2.1 j h2
theorem ag_cr {C O : Nat → Int32} {G : Nat → Nat → Int32} {p q r : Nat} (h : ag_c C O G p r) (hq : p ≤ q) : ag_c C O G q r := fun j h1 h2 => h j (by omega) h2
theorem ag_br {BD BT : Nat → Int32} {G : Nat → Nat → Int32} {p q r : Nat} (h : ag_b BD BT G p r) (hq : p ≤ q) : ag_b BD BT G q r := fun j h1 h2 => h j (by omega) h2
/-- the known terms -/
def kt_R (kd pa pb pc lo sz : Nat → Nat) (N : Nat → Int32) (d : Nat) (G : Nat → Nat → Int32) : Prop :=
  ∀ t, t < sz d → (G 8 t = 0 ∧ kd (12 * d + t) ≠ 11) ∨ (¬ G 8 t = 0 ∧ ∃ s, (∀ n, t < n → kn_S kd pa pb pc N d n t (G 9 t) s) ∧ G 10 t = nI s ∧ s ≤ sZ lo d t)
/-- terms of definition d in the class -/
def td_R (kd pa pb pc nn lo sz : Nat → Nat) (N : Nat → Int32) (d : Nat) (G : Nat → Nat → Int32) : Prop :=
  ∀ t, t < sz d → tm_L (fun t => kd (12 * d + t)) (fun t => pa (12 * d + t)) (fun t => pb (12 * d + t)) (fun t => pc (12 * d + t)) (fun t => nn (12 * d + t)) (fun t => lo (12 * d + t)) t ∧ tx_R G (12 * d + t) (kd (12 * d + t)) (pa (12 * d + t)) (pb (12 * d + t)) (pc (12 * d + t)) (nn (12 * d + t)) (N (12 * d + t))
theorem td_x {kd pa pb pc nn lo sz : Nat → Nat} {N : Nat → Int32} {d : Nat} {G G' : Nat → Nat → Int32} (h : td_R kd pa pb pc nn lo sz N d G) (e : ∀ k, k ≤ 10 → G' k = G k) : td_R kd pa pb pc nn lo sz N d G' := by
  intro t ht
  obtain ⟨a, b⟩ := h t ht
  refine ⟨a, ?_⟩
  unfold tx_R at b ⊢
  rw [e 0 (by decide), e 1 (by decide), e 2 (by decide), e 3 (by decide), e 4 (by decide)]; exact b
theorem kt_x {kd pa pb pc lo sz : Nat → Nat} {N : Nat → Int32} {d : Nat} {G G' : Nat → Nat → Int32} (h : kt_R kd pa pb pc lo sz N d G) (e : ∀ k, k ≤ 10 → G' k = G k) : kt_R kd pa pb pc lo sz N d G' := by
  intro t ht
  rw [e 8 (by decide), e 9 (by decide), e 10 (by decide)]; exact h t ht
section
variable {F : Nat → Int32} {G : Nat → Nat → Int32} {d : Nat} {W : List (Nat × Nat × Nat)} {H : List Nat} {pl : Nat → Nat} {w pi p nb t md : Nat}
/-- an instruction, and the end of the frame behind it if the term is the last thing -/
theorem rt_tail (S : rc_S F G d W H pl w pi p nb) (hm : md < 2) (hp : p + 1 < 1200) (hb : pi < 1000) :
    ∃ F' G' q po, ((md = 0 ∧ F' = F ∧ G' = G) ∨ (md = 1 ∧ ∀ Q : SX → Prop, Q (xs_mk F' G') → wpX_finish Q (xs_mk F G))) ∧ rc_S F' G' d W H pl w po q nb ∧ cx_O F G F' G' p q nb nb ∧ q ≤ p + 2 * md ∧ po ≤ pi ∧ (md = 1 → po = 0)
      ∧ ∀ C O : Nat → Int32, ag_c C O G' p q → ∀ ka : Nat → Nat → Prop, (md = 0 → ka q po) → (md = 1 → ∀ q pi, ct_R C O q pi → ka q pi) → ka p pi := by
  obtain rfl | rfl : md = 0 ∨ md = 1 := by omega
  · exact ⟨F, G, p, pi, Or.inl ⟨rfl, rfl, rfl⟩, S, cx_sm (fun _ _ => rfl) (fun _ _ => rfl), by omega, Nat.le_refl _, by omega, fun C O _ ka h _ => h rfl⟩
  · obtain ⟨F', G', q, a1, a2, a3, a4, a5, a6, a7, a8⟩ := ra_finish S hp hb
    refine ⟨F', G', q, 0, Or.inr ⟨rfl, a1⟩, a2, ⟨⟨fun k hk => a3 k (by omega) (by omega), fun k hk => a4 k (by omega) (by omega)⟩, a5, fun b _ => by rw [a4 _ (by decide) (by decide), a4 _ (by decide) (by decide)]; exact ⟨rfl, rfl⟩, a6, Nat.le_refl _⟩, by omega, by omega, fun _ => rfl, ?_⟩
    intro C O h ka _ h2
    exact h2 rfl _ _ (a8 C O h)
end
end
section
theorem cx_em {F F' : Nat → Int32} {G G' : Nat → Nat → Int32} {p nb : Nat} {x y : Int32} (h1 : ∀ k, k ≠ 3 → F' k = F k) (h2 : ∀ k, k ≠ 11 → k ≠ 12 → G' k = G k) (h3 : G' 11 = upd (G 11) p x) (h4 : G' 12 = upd (G 12) p y) : cx_O F G F' G' p (p + 1) nb nb :=
  ⟨⟨fun k hk => h1 k (by omega), fun k hk => h2 k (by omega) (by omega)⟩, fun j hj => by rw [h3, h4, pk_un (by omega), pk_un (by omega)]; exact ⟨rfl, rfl⟩, fun b _ => by rw [h2 _ (by decide) (by decide), h2 _ (by decide) (by decide)]; exact ⟨rfl, rfl⟩, by omega, Nat.le_refl _⟩
theorem cx_F {F : Nat → Int32} {G : Nat → Nat → Int32} {p nb i : Nat} {x : Int32} (hi : 3 ≤ i) (h6 : i ≠ 6) : cx_O F G (upd F i x) G p p nb nb := cx_sm (fun k hk => pk_un (by omega)) (fun _ _ => rfl)
theorem ag_at {C O : Nat → Int32} {F F' : Nat → Int32} {G G' : Nat → Nat → Int32} {p q nb nb' op : Nat} {y : Int32} (h : ag_c C O G' p q) (x : cx_O F G F' G' (p + 1) q nb nb') (h3 : ∃ A : Nat → Int32, G 11 = upd A p (nI op)) (h4 : ∃ B : Nat → Int32, G 12 = upd B p y) (hp : p < 1200) : cg_at C p (nI op) ∧ O p = y := by
  obtain ⟨A, h3⟩ := h3
  obtain ⟨B, h4⟩ := h4
  have := x.2.2.2.1
  obtain ⟨a, b⟩ := h p (Nat.le_refl _) (by omega)
  obtain ⟨c, e⟩ := x.2.1 p (by omega)
  exact ⟨⟨hp, by rw [a, c, h3, pk_us]⟩, by rw [b, e, h4, pk_us]⟩
section
variable {F : Nat → Int32} {G : Nat → Nat → Int32} {d : Nat} {W : List (Nat × Nat × Nat)} {H : List Nat} {pl : Nat → Nat} {w pi p nb t md : Nat}
theorem rg_known {k s : Nat} {v : Int32} (S : rc_S F G d W H pl w pi p nb) (hd : d < 16) (ht : t < 12) (hk : G 0 (12 * d + t) = nI k) (hn : ¬ G 8 t = 0) (hg : G 10 t = nI s) (hv : G 9 t = v) (hm : md < 2) (hp : p + 2 < 1200) (hb : pi + s < 1000) :
    ∃ F' G' q po, (∀ Q : SX → Prop, Q (xs_mk F' G') → wpX_begin Q (xs_mk F G) (nI t) (nI md)) ∧ rc_S F' G' d W H pl (w + 1) po q nb ∧ cx_O F G F' G' p q nb nb ∧ q ≤ p + 1 + 2 * md ∧ po ≤ pi + s ∧ (md = 1 → po = 0)
      ∧ ∀ C O : Nat → Int32, ag_c C O G' p q → ∀ ka : Nat → Nat → Prop, (md = 0 → ka q po) → (md = 1 → ∀ q pi, ct_R C O q pi → ka q pi) → cg_at C p 4 ∧ O p = v ∧ ka (p + 1) (pi + s) := by
  obtain ⟨F1, G1, b1, b2, b3, b4, b5, b6⟩ := ra_emit (op := 4) (n := v) (rp_pend (pi' := pi + s) S) (by omega) (by omega)
  obtain ⟨F2, G2, q, po, t1, t2, t3, t4, t5, t6, t7⟩ := rt_tail (md := md) (rp_words (w' := w + 1) b2) hm (by omega) hb
  have x1 : cx_O F G F1 G1 p (p + 1) nb nb := cx_tr (cx_F (i := 8) (x := nI (pi + s)) (by decide) (by decide)) (cx_em b3 b4 b5 b6)
  have x2 : cx_O F1 G1 F2 G2 (p + 1) q nb nb := cx_tr (cx_F (i := 7) (x := nI (w + 1)) (by decide) (by decide)) t3
  refine ⟨F2, G2, q, po, ?_, t2, cx_tr x1 x2, by omega, t5, t6, ?_⟩
  · intro Q qq
    have e3 : 12 * F 6 + nI t = nI (12 * d + t) := by rw [S.1, uu_m12, nI_add]
    have v3 : vp_in (nI (12 * d + t)) 204 := vp_in_nI (by omega) (by omega)
    have c3 : (nI (12 * d + t)).toNatClampNeg = 12 * d + t := nI_clamp (by omega)
    have vt : vp_in (nI t) 12 := vp_in_nI ht (by omega)
    have ctt : (nI t).toNatClampNeg = t := nI_clamp (by omega)
    unfold wpX_begin
    refine nm_r e3 ?_
    rw [c3, ctt]
    refine ⟨v3, nm_r hk ⟨vt, br_f hn ⟨vt, nm_r (e' := nI (pi + s)) (by rw [S.2.2.2.2.1, hg, nI_add]) ⟨vt, ?_⟩⟩⟩⟩
    rw [hv]
    refine b1 _ ?_
    refine nm_r (e' := nI (w + 1)) (by rw [b2.2.2.2.1, nI_1]) ?_
    rcases t1 with ⟨rfl, rfl, rfl⟩ | ⟨rfl, fin⟩
    · exact br_t rfl qq
    · exact br_f (by decide) (fin _ qq)
  · intro C O h ka h1 h2
    obtain ⟨a1, a2⟩ := ag_at (op := 4) h x2 ⟨_, b5⟩ ⟨_, b6⟩ (by omega)
    exact ⟨a1, a2, t7 C O (ag_cr h (by omega)) ka h1 h2⟩
theorem rg_var {u : Nat} (S : rc_S F G d W H pl w pi p nb) (hd : d < 16) (ht : t < 12) (hk : G 0 (12 * d + t) = nI 12) (hn : G 8 t = 0) (hu : G 4 (12 * d + t) = nI u) (hub : u < 3) (hm : md < 2) (hp : p + 2 < 1200) (hb : pi + 1 < 1000) :
    ∃ F' G' q po, (∀ Q : SX → Prop, Q (xs_mk F' G') → wpX_begin Q (xs_mk F G) (nI t) (nI md)) ∧ rc_S F' G' d W H pl (w + 1) po q nb ∧ cx_O F G F' G' p q nb nb ∧ q ≤ p + 1 + 2 * md ∧ po ≤ pi + 1 ∧ (md = 1 → po = 0)
      ∧ ∀ C O : Nat → Int32, ag_c C O G' p q → ∀ ka : Nat → Nat → Prop, (md = 0 → ka q po) → (md = 1 → ∀ q pi, ct_R C O q pi → ka q pi) → cg_at C p 5 ∧ O p = nI (pl u) ∧ ka (p + 1) (pi + 1) := by
  obtain ⟨F1, G1, b1, b2, b3, b4, b5, b6⟩ := ra_emit (op := 5) (n := nI (pl u)) (rp_pend (pi' := pi + 1) S) (by omega) (by omega)
  obtain ⟨F2, G2, q, po, t1, t2, t3, t4, t5, t6, t7⟩ := rt_tail (md := md) (rp_words (w' := w + 1) b2) hm (by omega) hb
  have x1 : cx_O F G F1 G1 p (p + 1) nb nb := cx_tr (cx_F (i := 8) (x := nI (pi + 1)) (by decide) (by decide)) (cx_em b3 b4 b5 b6)
  have x2 : cx_O F1 G1 F2 G2 (p + 1) q nb nb := cx_tr (cx_F (i := 7) (x := nI (w + 1)) (by decide) (by decide)) t3
  refine ⟨F2, G2, q, po, ?_, t2, cx_tr x1 x2, by omega, t5, t6, ?_⟩
  · intro Q qq
    have e3 : 12 * F 6 + nI t = nI (12 * d + t) := by rw [S.1, uu_m12, nI_add]
    have v3 : vp_in (nI (12 * d + t)) 204 := vp_in_nI (by omega) (by omega)
    have c3 : (nI (12 * d + t)).toNatClampNeg = 12 * d + t := nI_clamp (by omega)
    have vt : vp_in (nI t) 12 := vp_in_nI ht (by omega)
    have ctt : (nI t).toNatClampNeg = t := nI_clamp (by omega)
    unfold wpX_begin
    refine nm_r e3 ?_
    rw [c3, ctt]
    refine ⟨v3, nm_r hk ⟨vt, br_t hn (nm_r (e' := nI (pi + 1)) (by rw [S.2.2.2.2.1, nI_1]) (br_t rfl ⟨v3, ?_⟩))⟩⟩
    rw [hu, nI_clamp (by omega), S.2.2.2.2.2.2.2.1 u hub]
    refine ⟨vp_in_nI hub (by omega), ?_⟩
    refine b1 _ ?_
    refine nm_r (e' := nI (w + 1)) (by rw [b2.2.2.2.1, nI_1]) ?_
    rcases t1 with ⟨rfl, rfl, rfl⟩ | ⟨rfl, fin⟩
    · exact br_t rfl qq
    · exact br_f (by decide) (fin _ qq)
  · intro C O h ka h1 h2
    obtain ⟨a1, a2⟩ := ag_at (op := 5) h x2 ⟨_, b5⟩ ⟨_, b6⟩ (by omega)
    exact ⟨a1, a2, t7 C O (ag_cr h (by omega)) ka h1 h2⟩
/-- nothing is written -/
def cz_O (F : Nat → Int32) (G : Nat → Nat → Int32) (F' : Nat → Int32) (G' : Nat → Nat → Int32) : Prop := (∀ k, k < 3 ∨ k = 6 → F' k = F k) ∧ ∀ k, k < 17 → G' k = G k
theorem cz_x {F F' : Nat → Int32} {G G' : Nat → Nat → Int32} {p nb : Nat} (h : cz_O F G F' G') : cx_O F G F' G' p p nb nb := cx_sm h.1 h.2
theorem rg_let {v a b : Nat} (S : rc_S F G d W H pl w pi p nb) (hd : d < 16) (ht : t < 12) (hk : G 0 (12 * d + t) = nI 4) (hn : G 8 t = 0) (hu : G 4 (12 * d + t) = nI v) (hvb : v < 3) (ha : G 1 (12 * d + t) = nI a) (hab : a < 12) (hb : G 2 (12 * d + t) = nI b) (hbb : b < 12)
    (hpl : pl v < 16) (hm : md < 2) (hW : W.length + 4 ≤ 96) :
    ∃ F' G', (∀ Q : SX → Prop, Q (xs_mk F' G') → wpX_begin Q (xs_mk F G) (nI t) (nI md)) ∧ rc_S F' G' d ((0, a, 0) :: (2, t, v) :: (md, b, 0) :: (3 + md, t, v + 4 * pl v) :: W) H pl w (pi + 1) p nb ∧ cz_O F G F' G' := by
  obtain ⟨F1, G1, a1, a2, a3, a4⟩ := ra_ask (a := 3 + md) (t := t) (r := v + 4 * pl v) (rp_pend (pi' := pi + 1) S) (by omega) (by omega) (by omega) (by omega)
  obtain ⟨F2, G2, b1, b2, b3, b4⟩ := ra_askF (md := md) (t := b) a2 (by simp only [List.length_cons]; omega) hm (by omega)
  obtain ⟨F3, G3, c1, c2, c3, c4⟩ := ra_ask (a := 2) (t := t) (r := v) b2 (by simp only [List.length_cons]; omega) (by omega) (by omega) (by omega)
  obtain ⟨F4, G4, d1, d2, d3, d4⟩ := ra_ask (a := 0) (t := a) (r := 0) c2 (by simp only [List.length_cons]; omega) (by omega) (by omega) (by omega)
  refine ⟨F4, G4, ?_, d2, ?_, ?_⟩
  · intro Q qq
    have e3 : 12 * F 6 + nI t = nI (12 * d + t) := by rw [S.1, uu_m12, nI_add]
    have v3 : vp_in (nI (12 * d + t)) 204 := vp_in_nI (by omega) (by omega)
    have cc3 : (nI (12 * d + t)).toNatClampNeg = 12 * d + t := nI_clamp (by omega)
    have vt : vp_in (nI t) 12 := vp_in_nI ht (by omega)
    have ctt : (nI t).toNatClampNeg = t := nI_clamp (by omega)
    have vv : vp_in (nI v) 3 := vp_in_nI hvb (by omega)
    have key : ∀ z0 : Int32, z0 = nI (3 + md) → wX_begin_166 Q (nI t) (nI md) (nI (12 * d + t)) (nI v) z0 (upd F 8 (nI (pi + 1)) 0) (upd F 8 (nI (pi + 1)) 1) (upd F 8 (nI (pi + 1)) 2) (upd F 8 (nI (pi + 1)) 3) (upd F 8 (nI (pi + 1)) 4) (upd F 8 (nI (pi + 1)) 5) (upd F 8 (nI (pi + 1)) 6) (upd F 8 (nI (pi + 1)) 7) (upd F 8 (nI (pi + 1)) 8) (upd F 8 (nI (pi + 1)) 9) (upd F 8 (nI (pi + 1)) 10) (upd F 8 (nI (pi + 1)) 11) (upd F 8 (nI (pi + 1)) 12) (upd F 8 (nI (pi + 1)) 13) (upd F 8 (nI (pi + 1)) 14) (upd F 8 (nI (pi + 1)) 15) (upd F 8 (nI (pi + 1)) 16) (upd F 8 (nI (pi + 1)) 17) (upd F 8 (nI (pi + 1)) 18) (upd F 8 (nI (pi + 1)) 19) (upd F 8 (nI (pi + 1)) 20) (upd F 8 (nI (pi + 1)) 21) (upd F 8 (nI (pi + 1)) 22) (G 0) (G 1) (G 2) (G 3) (G 4) (G 5) (G 6) (G 7) (G 8) (G 9) (G 10) (G 11) (G 12) (G 13) (G 14) (G 15) (G 16) (G 17) (G 18) (G 19) (G 20) (G 21) (G 22) (G 23) (G 24) (G 25) (G 26) (G 27) (G 28) (G 29) (G 30) (G 31) (G 32) (G 33) (G 34) (G 35) (G 36) (G 37) (G 38) (G 39) (G 40) := by
      rintro _ rfl
      unfold wX_begin_166
      rw [cc3, nI_clamp (by omega), S.2.2.2.2.2.2.2.1 v hvb, uu_m4, nI_add]
      refine ⟨vv, ?_⟩
      refine a1 _ ?_
      refine And.intro v3 ?_
      rw [show G1 2 (12 * d + t) = nI b by rw [a4 _ (by decide)]; exact hb]
      refine b1 _ ?_
      refine c1 _ ?_
      refine And.intro v3 ?_
      rw [show G3 1 (12 * d + t) = nI a by rw [c4 _ (by decide), b4 _ (by decide), a4 _ (by decide)]; exact ha]
      exact d1 _ qq
    unfold wpX_begin
    refine nm_r e3 ?_
    rw [cc3, ctt]
    refine ⟨v3, nm_r hk ⟨vt, br_t hn (nm_r (e' := nI (pi + 1)) (by rw [S.2.2.2.2.1, nI_1]) (br_f (by decide) (br_f (by decide) (br_t rfl ⟨v3, nm_r hu ?_⟩))))⟩⟩
    obtain rfl | rfl : md = 0 ∨ md = 1 := by omega
    · exact br_t rfl (key _ rfl)
    · exact br_f (by decide) (key _ rfl)
  · intro k hk
    rw [d3 k (by omega), c3 k (by omega), b3 k (by omega), a3 k (by omega), pk_un (by omega)]
  · intro k hk
    rw [d4 k (by omega), c4 k (by omega), b4 k (by omega), a4 k (by omega)]
/-- a node whose instruction comes behind its parts -/
theorem rg_oth {k a b : Nat} (S : rc_S F G d W H pl w pi p nb) (hd : d < 16) (ht : t < 12) (hk : G 0 (12 * d + t) = nI k) (hk1 : k < 10) (hk4 : k ≠ 4) (hn : G 8 t = 0) (ha : G 1 (12 * d + t) = nI a) (hab : a < 12) (hb : G 2 (12 * d + t) = nI b) (hbb : b < 12)
    (hm : md < 2) (hW : W.length + 3 ≤ 96) :
    ∃ F' G', (∀ Q : SX → Prop, Q (xs_mk F' G') → wpX_begin Q (xs_mk F G) (nI t) (nI md)) ∧ rc_S F' G' d ((0, a, 0) :: (if k ≤ 3 ∨ k = 6 then (0, b, 0) :: (9 + md, t, 0) :: W else (9 + md, t, 0) :: W)) H pl w (pi + 1) p nb ∧ cz_O F G F' G' := by
  obtain ⟨F1, G1, a1, a2, a3, a4⟩ := ra_ask (a := 9 + md) (t := t) (r := 0) (rp_pend (pi' := pi + 1) S) (by omega) (by omega) (by omega) (by omega)
  have e3 : 12 * F 6 + nI t = nI (12 * d + t) := by rw [S.1, uu_m12, nI_add]
  have v3 : vp_in (nI (12 * d + t)) 204 := vp_in_nI (by omega) (by omega)
  have cc3 : (nI (12 * d + t)).toNatClampNeg = 12 * d + t := nI_clamp (by omega)
  have vt : vp_in (nI t) 12 := vp_in_nI ht (by omega)
  have ctt : (nI t).toNatClampNeg = t := nI_clamp (by omega)
  have pre : ∀ (Q : SX → Prop), (∀ z0 : Int32, z0 = nI (9 + md) → wX_begin_228 Q (nI t) (nI (12 * d + t)) (nI k) z0 (upd F 8 (nI (pi + 1)) 0) (upd F 8 (nI (pi + 1)) 1) (upd F 8 (nI (pi + 1)) 2) (upd F 8 (nI (pi + 1)) 3) (upd F 8 (nI (pi + 1)) 4) (upd F 8 (nI (pi + 1)) 5) (upd F 8 (nI (pi + 1)) 6) (upd F 8 (nI (pi + 1)) 7) (upd F 8 (nI (pi + 1)) 8) (upd F 8 (nI (pi + 1)) 9) (upd F 8 (nI (pi + 1)) 10) (upd F 8 (nI (pi + 1)) 11) (upd F 8 (nI (pi + 1)) 12) (upd F 8 (nI (pi + 1)) 13) (upd F 8 (nI (pi + 1)) 14) (upd F 8 (nI (pi + 1)) 15) (upd F 8 (nI (pi + 1)) 16) (upd F 8 (nI (pi + 1)) 17) (upd F 8 (nI (pi + 1)) 18) (upd F 8 (nI (pi + 1)) 19) (upd F 8 (nI (pi + 1)) 20) (upd F 8 (nI (pi + 1)) 21) (upd F 8 (nI (pi + 1)) 22) (G 0) (G 1) (G 2) (G 3) (G 4) (G 5) (G 6) (G 7) (G 8) (G 9) (G 10) (G 11) (G 12) (G 13) (G 14) (G 15) (G 16) (G 17) (G 18) (G 19) (G 20) (G 21) (G 22) (G 23) (G 24) (G 25) (G 26) (G 27) (G 28) (G 29) (G 30) (G 31) (G 32) (G 33) (G 34) (G 35) (G 36) (G 37) (G 38) (G 39) (G 40)) → wpX_begin Q (xs_mk F G) (nI t) (nI md) := by
    intro Q key
    unfold wpX_begin
    refine nm_r e3 ?_
    rw [cc3, ctt]
    refine ⟨v3, nm_r hk ⟨vt, br_t hn (nm_r (e' := nI (pi + 1)) (by rw [S.2.2.2.2.1, nI_1]) (br_f (yb_soE (b := 12) (by omega) (by omega) (by omega)) (br_f (yb_soE (b := 10) (by omega) (by omega) (by omega)) (br_f (yb_soE (b := 4) (by omega) (by omega) hk4) ?_))))⟩⟩
    obtain rfl | rfl : md = 0 ∨ md = 1 := by omega
    · exact br_t rfl (key _ rfl)
    · exact br_f (by decide) (key _ rfl)
  by_cases z : k ≤ 3 ∨ k = 6
  · rw [if_pos z]
    obtain ⟨F2, G2, b1, b2, b3, b4⟩ := ra_ask (a := 0) (t := b) (r := 0) a2 (by simp only [List.length_cons]; omega) (by omega) (by omega) (by omega)
    obtain ⟨F3, G3, c1, c2, c3, c4⟩ := ra_ask (a := 0) (t := a) (r := 0) b2 (by simp only [List.length_cons]; omega) (by omega) (by omega) (by omega)
    refine ⟨F3, G3, fun Q qq => pre Q ?_, c2, ?_, ?_⟩
    · rintro _ rfl
      have l246 : wX_begin_246 Q (nI (12 * d + t)) (F1 0) (F1 1) (F1 2) (F1 3) (F1 4) (F1 5) (F1 6) (F1 7) (F1 8) (F1 9) (F1 10) (F1 11) (F1 12) (F1 13) (F1 14) (F1 15) (F1 16) (F1 17) (F1 18) (F1 19) (F1 20) (F1 21) (F1 22) (G1 0) (G1 1) (G1 2) (G1 3) (G1 4) (G1 5) (G1 6) (G1 7) (G1 8) (G1 9) (G1 10) (G1 11) (G1 12) (G1 13) (G1 14) (G1 15) (G1 16) (G1 17) (G1 18) (G1 19) (G1 20) (G1 21) (G1 22) (G1 23) (G1 24) (G1 25) (G1 26) (G1 27) (G1 28) (G1 29) (G1 30) (G1 31) (G1 32) (G1 33) (G1 34) (G1 35) (G1 36) (G1 37) (G1 38) (G1 39) (G1 40) := by
        unfold wX_begin_246
        rw [cc3, show G1 2 (12 * d + t) = nI b by rw [a4 _ (by decide)]; exact hb]
        refine ⟨v3, ?_⟩
        refine b1 _ ?_
        show wX_begin_258 Q (nI (12 * d + t)) (F2 0) (F2 1) (F2 2) (F2 3) (F2 4) (F2 5) (F2 6) (F2 7) (F2 8) (F2 9) (F2 10) (F2 11) (F2 12) (F2 13) (F2 14) (F2 15) (F2 16) (F2 17) (F2 18) (F2 19) (F2 20) (F2 21) (F2 22) (G2 0) (G2 1) (G2 2) (G2 3) (G2 4) (G2 5) (G2 6) (G2 7) (G2 8) (G2 9) (G2 10) (G2 11) (G2 12) (G2 13) (G2 14) (G2 15) (G2 16) (G2 17) (G2 18) (G2 19) (G2 20) (G2 21) (G2 22) (G2 23) (G2 24) (G2 25) (G2 26) (G2 27) (G2 28) (G2 29) (G2 30) (G2 31) (G2 32) (G2 33) (G2 34) (G2 35) (G2 36) (G2 37) (G2 38) (G2 39) (G2 40)
        unfold wX_begin_258
        rw [cc3, show G2 1 (12 * d + t) = nI a by rw [b4 _ (by decide), a4 _ (by decide)]; exact ha]
        exact ⟨v3, c1 _ qq⟩
      unfold wX_begin_228
      refine a1 _ ?_
      by_cases y : k ≤ 3
      · exact br_t (nI_le (b := 3) y (by omega)) l246
      · exact br_f (nI_ge (a := 3) (by omega) (by omega)) (br_t (congrArg nI (by omega : k = 6)) l246)
    · intro k hk
      rw [c3 k (by omega), b3 k (by omega), a3 k (by omega), pk_un (by omega)]
    · intro k hk
      rw [c4 k (by omega), b4 k (by omega), a4 k (by omega)]
  · rw [if_neg z]
    obtain ⟨F3, G3, c1, c2, c3, c4⟩ := ra_ask (a := 0) (t := a) (r := 0) a2 (by simp only [List.length_cons]; omega) (by omega) (by omega) (by omega)
    refine ⟨F3, G3, fun Q qq => pre Q ?_, c2, ?_, ?_⟩
    · rintro _ rfl
      unfold wX_begin_228
      refine a1 _ ?_
      refine br_f (nI_ge (a := 3) (by omega) (by omega)) (br_f (yb_soE (b := 6) (by omega) (by omega) (by omega)) ?_)
      show wX_begin_258 Q (nI (12 * d + t)) (F1 0) (F1 1) (F1 2) (F1 3) (F1 4) (F1 5) (F1 6) (F1 7) (F1 8) (F1 9) (F1 10) (F1 11) (F1 12) (F1 13) (F1 14) (F1 15) (F1 16) (F1 17) (F1 18) (F1 19) (F1 20) (F1 21) (F1 22) (G1 0) (G1 1) (G1 2) (G1 3) (G1 4) (G1 5) (G1 6) (G1 7) (G1 8) (G1 9) (G1 10) (G1 11) (G1 12) (G1 13) (G1 14) (G1 15) (G1 16) (G1 17) (G1 18) (G1 19) (G1 20) (G1 21) (G1 22) (G1 23) (G1 24) (G1 25) (G1 26) (G1 27) (G1 28) (G1 29) (G1 30) (G1 31) (G1 32) (G1 33) (G1 34) (G1 35) (G1 36) (G1 37) (G1 38) (G1 39) (G1 40)
      unfold wX_begin_258
      rw [cc3, show G1 1 (12 * d + t) = nI a by rw [a4 _ (by decide)]; exact ha]
      exact ⟨v3, c1 _ qq⟩
    · intro k hk
      rw [c3 k (by omega), a3 k (by omega), pk_un (by omega)]
    · intro k hk
      rw [c4 k (by omega), a4 k (by omega)]
end
end
section
section
variable {F : Nat → Int32} {G : Nat → Nat → Int32} {d : Nat} {W : List (Nat × Nat × Nat)} {H : List Nat} {pl : Nat → Nat} {w pi p nb t md : Nat}
/-- begin comes to beginChoose -/
theorem rg_bc {Q : SX → Prop} (S : rc_S F G d W H pl w pi p nb) (hd : d < 16) (ht : t < 12) (hk : G 0 (12 * d + t) = nI 10) (hn : G 8 t = 0) {F' : Nat → Int32} {G' : Nat → Nat → Int32}
    (h : ∀ Q : SX → Prop, Q (xs_mk F' G') → wpX_beginChoose Q (xs_mk (upd F 8 (nI (pi + 1))) G) (nI (12 * d + t)) (nI md)) (q : Q (xs_mk F' G')) : wpX_begin Q (xs_mk F G) (nI t) (nI md) := by
  have e3 : 12 * F 6 + nI t = nI (12 * d + t) := by rw [S.1, uu_m12, nI_add]
  have v3 : vp_in (nI (12 * d + t)) 204 := vp_in_nI (by omega) (by omega)
  have cc3 : (nI (12 * d + t)).toNatClampNeg = 12 * d + t := nI_clamp (by omega)
  have vt : vp_in (nI t) 12 := vp_in_nI ht (by omega)
  have ctt : (nI t).toNatClampNeg = t := nI_clamp (by omega)
  unfold wpX_begin
  refine nm_r e3 ?_
  rw [cc3, ctt]
  exact ⟨v3, nm_r hk ⟨vt, br_t hn (nm_r (e' := nI (pi + 1)) (by rw [S.2.2.2.2.1, nI_1]) (br_f (by decide) (br_t rfl (h _ q))))⟩⟩
theorem rg_chk {a b c s : Nat} {v : Int32} (S : rc_S F G d W H pl w pi p nb) (hd : d < 16) (ht : t < 12) (hk : G 0 (12 * d + t) = nI 10) (hn : G 8 t = 0) (ha : G 1 (12 * d + t) = nI a) (hab : a < 12) (hb : G 2 (12 * d + t) = nI b) (hbb : b < 12)
    (hc : G 3 (12 * d + t) = nI c) (hcb : c < 12) (hka : ¬ G 8 a = 0) (hg : G 10 a = nI s) (hv : G 9 a = v) (hm : md < 2) (hW : W.length + 1 ≤ 96) :
    ∃ F' G', (∀ Q : SX → Prop, Q (xs_mk F' G') → wpX_begin Q (xs_mk F G) (nI t) (nI md)) ∧ rc_S F' G' d ((md, if v = 0 then c else b, 0) :: W) H pl w (pi + 1 + s) p nb ∧ cz_O F G F' G' := by
  have hs12 : (if v = 0 then c else b) < 128 := by split <;> omega
  obtain ⟨F1, G1, a1, a2, a3, a4⟩ := ra_askF (md := md) (t := if v = 0 then c else b) (rp_pend (pi' := pi + 1 + s) (rp_pend (pi' := pi + 1) S)) (by omega) hm hs12
  have v3 : vp_in (nI (12 * d + t)) 204 := vp_in_nI (by omega) (by omega)
  have cc3 : (nI (12 * d + t)).toNatClampNeg = 12 * d + t := nI_clamp (by omega)
  have va : vp_in (nI a) 12 := vp_in_nI hab (by omega)
  have ca : (nI a).toNatClampNeg = a := nI_clamp (by omega)
  refine ⟨F1, G1, fun Q qq => rg_bc S hd ht hk hn (fun Q qq => ?_) qq, a2, ?_, fun k hk => a4 k (by omega)⟩
  · unfold wpX_beginChoose
    rw [cc3]
    refine ⟨v3, nm_r ha ?_⟩
    rw [ca]
    refine ⟨va, br_f hka ⟨va, nm_r (e' := nI (pi + 1 + s)) (by rw [hg]; exact nI_add _ _) ⟨va, ?_⟩⟩⟩
    rw [hv]
    by_cases z : v = 0
    · rw [if_pos z] at a1
      refine br_t z ⟨v3, ?_⟩
      unfold wX_beginChoose_56
      rw [hc]
      exact a1 _ qq
    · rw [if_neg z] at a1
      refine br_f z ⟨v3, ?_⟩
      unfold wX_beginChoose_56
      rw [hb]
      exact a1 _ qq
  · intro k hk
    rw [a3 k (by omega), pk_un (by omega), pk_un (by omega)]
theorem rg_cho {a b c : Nat} (S : rc_S F G d W H pl w pi p nb) (hd : d < 16) (ht : t < 12) (hk : G 0 (12 * d + t) = nI 10) (hn : G 8 t = 0) (ha : G 1 (12 * d + t) = nI a) (hab : a < 12) (hb : G 2 (12 * d + t) = nI b) (hbb : b < 12)
    (hc : G 3 (12 * d + t) = nI c) (hcb : c < 12) (hka : G 8 a = 0) (hm : md < 2) (hW : W.length + 6 ≤ 96) (hw : w < 128) :
    ∃ F' G', (∀ Q : SX → Prop, Q (xs_mk F' G') → wpX_begin Q (xs_mk F G) (nI t) (nI md)) ∧ rc_S F' G' d ((0, a, 0) :: (5, 0, 0) :: (md, b, 0) :: (6 + md, 0, w) :: (md, c, 0) :: (if md = 0 then (8, 0, 0) :: W else W)) H pl w (pi + 1) p nb ∧ cz_O F G F' G' := by
  have v3 : vp_in (nI (12 * d + t)) 204 := vp_in_nI (by omega) (by omega)
  have cc3 : (nI (12 * d + t)).toNatClampNeg = 12 * d + t := nI_clamp (by omega)
  have va : vp_in (nI a) 12 := vp_in_nI hab (by omega)
  have ca : (nI a).toNatClampNeg = a := nI_clamp (by omega)
  -- the join
  obtain ⟨F0, G0, j1, j2, j3, j4⟩ : ∃ F0 G0, (∀ Q : SX → Prop, wX_beginChoose_73 Q (nI (12 * d + t)) (nI md) (nI a) (F0 0) (F0 1) (F0 2) (F0 3) (F0 4) (F0 5) (F0 6) (F0 7) (F0 8) (F0 9) (F0 10) (F0 11) (F0 12) (F0 13) (F0 14) (F0 15) (F0 16) (F0 17) (F0 18) (F0 19) (F0 20) (F0 21) (F0 22) (G0 0) (G0 1) (G0 2) (G0 3) (G0 4) (G0 5) (G0 6) (G0 7) (G0 8) (G0 9) (G0 10) (G0 11) (G0 12) (G0 13) (G0 14) (G0 15) (G0 16) (G0 17) (G0 18) (G0 19) (G0 20) (G0 21) (G0 22) (G0 23) (G0 24) (G0 25) (G0 26) (G0 27) (G0 28) (G0 29) (G0 30) (G0 31) (G0 32) (G0 33) (G0 34) (G0 35) (G0 36) (G0 37) (G0 38) (G0 39) (G0 40) → wpX_beginChoose Q (xs_mk (upd F 8 (nI (pi + 1))) G) (nI (12 * d + t)) (nI md))
      ∧ rc_S F0 G0 d (if md = 0 then (8, 0, 0) :: W else W) H pl w (pi + 1) p nb ∧ (∀ k, k ≠ 5 → F0 k = upd F 8 (nI (pi + 1)) k) ∧ (∀ k, k < 17 ∨ 19 < k → G0 k = G k) := by
    obtain rfl | rfl : md = 0 ∨ md = 1 := by omega
    · obtain ⟨F0, G0, a1, a2, a3, a4⟩ := ra_ask (a := 8) (t := 0) (r := 0) (rp_pend (pi' := pi + 1) S) (by omega) (by omega) (by omega) (by omega)
      refine ⟨F0, G0, fun Q qq => ?_, a2, a3, a4⟩
      unfold wpX_beginChoose
      rw [cc3]
      refine ⟨v3, nm_r ha ?_⟩
      rw [ca]
      refine ⟨va, br_t hka (br_t rfl ?_)⟩
      exact a1 _ qq
    · refine ⟨upd F 8 (nI (pi + 1)), G, fun Q qq => ?_, rp_pend S, fun _ _ => rfl, fun _ _ => rfl⟩
      unfold wpX_beginChoose
      rw [cc3]
      refine ⟨v3, nm_r ha ?_⟩
      rw [ca]
      exact ⟨va, br_t hka (br_f (by decide) qq)⟩
  have hWl : (if md = 0 then (8, 0, 0) :: W else W).length ≤ W.length + 1 := by split <;> simp
  obtain ⟨F1, G1, a1, a2, a3, a4⟩ := ra_askF (md := md) (t := c) j2 (by omega) hm (by omega)
  obtain ⟨F2, G2, b1, b2, b3, b4⟩ := ra_ask (a := 6 + md) (t := 0) (r := w) a2 (by simp only [List.length_cons]; omega) (by omega) (by omega) hw
  obtain ⟨F3, G3, c1, c2, c3, c4⟩ := ra_askF (md := md) (t := b) b2 (by simp only [List.length_cons]; omega) hm (by omega)
  obtain ⟨F4, G4, d1, d2, d3, d4⟩ := ra_ask (a := 5) (t := 0) (r := 0) c2 (by simp only [List.length_cons]; omega) (by omega) (by omega) (by omega)
  obtain ⟨F5, G5, e1, e2, e3, e4⟩ := ra_ask (a := 0) (t := a) (r := 0) d2 (by simp only [List.length_cons]; omega) (by omega) (by omega) (by omega)
  refine ⟨F5, G5, fun Q qq => rg_bc S hd ht hk hn (fun Q qq => j1 Q ?_) qq, e2, ?_, ?_⟩
  · have key : ∀ z0 : Int32, z0 = nI (6 + md) → wX_beginChoose_96 Q (nI (12 * d + t)) (nI md) (nI a) z0 (F1 0) (F1 1) (F1 2) (F1 3) (F1 4) (F1 5) (F1 6) (F1 7) (F1 8) (F1 9) (F1 10) (F1 11) (F1 12) (F1 13) (F1 14) (F1 15) (F1 16) (F1 17) (F1 18) (F1 19) (F1 20) (F1 21) (F1 22) (G1 0) (G1 1) (G1 2) (G1 3) (G1 4) (G1 5) (G1 6) (G1 7) (G1 8) (G1 9) (G1 10) (G1 11) (G1 12) (G1 13) (G1 14) (G1 15) (G1 16) (G1 17) (G1 18) (G1 19) (G1 20) (G1 21) (G1 22) (G1 23) (G1 24) (G1 25) (G1 26) (G1 27) (G1 28) (G1 29) (G1 30) (G1 31) (G1 32) (G1 33) (G1 34) (G1 35) (G1 36) (G1 37) (G1 38) (G1 39) (G1 40) := by
      rintro _ rfl
      unfold wX_beginChoose_96
      have b1' := b1
      rw [← a2.2.2.2.1] at b1'
      refine b1' _ ?_
      rw [cc3]
      refine And.intro v3 ?_
      rw [show G2 2 (12 * d + t) = nI b by rw [b4 _ (by decide), a4 _ (by decide), j4 _ (by decide)]; exact hb]
      refine c1 _ ?_
      refine d1 _ ?_
      exact e1 _ qq
    unfold wX_beginChoose_73
    rw [cc3, show G0 3 (12 * d + t) = nI c by rw [j4 _ (by decide)]; exact hc]
    refine ⟨v3, ?_⟩
    refine a1 _ ?_
    obtain rfl | rfl : md = 0 ∨ md = 1 := by omega
    · exact br_t rfl (key _ rfl)
    · exact br_f (by decide) (key _ rfl)
  · intro k hk
    rw [e3 k (by omega), d3 k (by omega), c3 k (by omega), b3 k (by omega), a3 k (by omega), j3 k (by omega), pk_un (by omega)]
  · intro k hk
    rw [e4 k (by omega), d4 k (by omega), c4 k (by omega), b4 k (by omega), a4 k (by omega), j4 k (by omega)]
/-- a let's variable goes out of sight -/
theorem rg_unb {v x : Nat} (S : rc_S F G d W H pl w pi p nb) (hv : v < 3) (hx : x < 16) (hp : p < 1200) (hw : 1 ≤ w) :
    ∃ F' G', (∀ Q : SX → Prop, Q (xs_mk F' G') → wpX_unbind Q (xs_mk F G) (nI (v + 4 * x)) (nI 0)) ∧ rc_S F' G' d W H (cg_pl pl v x) (w - 1) pi (p + 1) nb ∧ cx_O F G F' G' p (p + 1) nb nb ∧ ∀ C O : Nat → Int32, ag_c C O G' p (p + 1) → cg_at C p 6 := by
  obtain ⟨F1, G1, b1, b2, b3, b4, b5, b6⟩ := ra_emit (op := 6) (n := 0) S hp (by omega)
  have e1 : nI (v + 4 * x) &&& 3 = nI v := by rw [pk_andN (by omega) 2 (by decide)]; exact congrArg nI (by omega)
  have e2 : nI (v + 4 * x) >>> ((2 : Int32) &&& 31) = nI x := by rw [pk_shrN (by omega) _ 2 (by decide)]; exact congrArg nI (by omega)
  refine ⟨_, _, ?_, rp_place (v := v) (x := x) (rp_words (w' := w - 1) b2), ?_, ?_⟩
  · intro Q qq
    unfold wpX_unbind
    refine br_t rfl ?_
    refine b1 _ ?_
    refine nm_r (e' := nI (w - 1)) (by rw [b2.2.2.2.1]; exact uu_s1 hw) ?_
    unfold wX_unbind_21
    rw [e1, e2, nI_clamp (by omega), uu_b8 (by omega), uu_nb (by omega)]
    exact ⟨vp_in_nI hv (by omega), nm_e qq⟩
  · refine cx_tr (cx_em b3 b4 b5 b6) (cx_sm (fun k hk => pk_un (by omega)) (fun k hk => uu_Gn (by omega)))
  · intro C O h
    refine ⟨hp, ?_⟩
    rw [(h p (Nat.le_refl _) (by omega)).1]
    show G1 11 p = 6
    rw [b5, pk_us]; rfl
theorem rg_rel {v x : Nat} (S : rc_S F G d W H pl w pi p nb) (hv : v < 3) (hx : x < 16) :
    ∃ F' G', (∀ Q : SX → Prop, Q (xs_mk F' G') → wpX_unbind Q (xs_mk F G) (nI (v + 4 * x)) (nI 1)) ∧ rc_S F' G' d W H (cg_pl pl v x) w pi p nb ∧ cz_O F G F' G' := by
  have e1 : nI (v + 4 * x) &&& 3 = nI v := by rw [pk_andN (by omega) 2 (by decide)]; exact congrArg nI (by omega)
  have e2 : nI (v + 4 * x) >>> ((2 : Int32) &&& 31) = nI x := by rw [pk_shrN (by omega) _ 2 (by decide)]; exact congrArg nI (by omega)
  refine ⟨_, _, ?_, rp_place (v := v) (x := x) S, fun _ _ => rfl, fun k hk => uu_Gn (by omega)⟩
  intro Q qq
  unfold wpX_unbind
  refine br_f (by decide) ?_
  unfold wX_unbind_21
  rw [e1, e2, nI_clamp (by omega), uu_b8 (by omega), uu_nb (by omega)]
  exact ⟨vp_in_nI hv (by omega), nm_e qq⟩
/-- the branch of a choose: the jump is set right later -/
theorem rg_bra (S : rc_S F G d W H pl w pi p nb) (hp : p + 1 < 1200) (hb : pi < 1000) (hH : H.length < 16) (hw : 1 ≤ w) :
    ∃ F' G' q, (∀ Q : SX → Prop, Q (xs_mk F' G') → wpX_branch Q (xs_mk F G)) ∧ rc_S F' G' d W (q :: H) pl (w - 1) 0 (q + 1) nb ∧ cx_O F G F' G' p (q + 1) nb nb ∧ p ≤ q ∧ q ≤ p + 1 ∧ G' 11 q = nI 7 ∧ (∀ C O : Nat → Int32, ag_c C O G' p q → cg_Fl C O pi p q) := by
  obtain ⟨F1, G1, q, a1, a2, a3, a4, a5, a6, a7, a8⟩ := ra_flush S (by omega) hb
  obtain ⟨F2, G2, b1, b2, b3, b4, b5, b6⟩ := ra_emit (op := 7) (n := 0) a2 (by omega) (by omega)
  obtain ⟨F3, G3, c1, c2, c3, c4⟩ := ra_dig b2 hH (by omega)
  have x1 : cx_O F G F1 G1 p q nb nb := ⟨⟨fun k hk => a3 k (by omega) (by omega), fun k hk => a4 k (by omega) (by omega)⟩, a5, fun b _ => by rw [a4 _ (by decide) (by decide), a4 _ (by decide) (by decide)]; exact ⟨rfl, rfl⟩, a6, Nat.le_refl _⟩
  have x2 : cx_O F1 G1 F2 G2 q (q + 1) nb nb := cx_em b3 b4 b5 b6
  have x3 : cx_O F2 G2 (upd F3 7 (nI (w - 1))) G3 (q + 1) (q + 1) nb nb := cx_sm (fun k hk => by rw [pk_un (by omega)]; exact c3 k (by omega)) (fun k hk => c4 k (by omega))
  refine ⟨_, G3, q, ?_, rp_words (w' := w - 1) c2, cx_tr x1 (cx_tr x2 x3), a6, a7, ?_, ?_⟩
  · intro Q qq
    unfold wpX_branch
    refine a1 _ ?_
    refine b1 _ ?_
    refine c1 _ ?_
    exact nm_r (e' := nI (w - 1)) (by rw [c2.2.2.2.1]; exact uu_s1 hw) qq
  · rw [c4 _ (by decide), b5, pk_us]
  · intro C O h
    exact a8 C O (ag_cl h (cx_tr x2 x3 |> fun x => (⟨x.1, fun j hj => x.2.1 j hj, x.2.2.1, Nat.le_refl _, x.2.2.2.2⟩ : cx_O F1 G1 (upd F3 7 (nI (w - 1))) G3 q q nb nb)))
end
end
section
/-- as before, but for one jump that is set right -/
def cy_O (F : Nat → Int32) (G : Nat → Nat → Int32) (F' : Nat → Int32) (G' : Nat → Nat → Int32) (p q h0 x nb : Nat) : Prop :=
  cc_I F G F' G' ∧ (∀ j, j < p → G' 11 j = G 11 j ∧ (j ≠ h0 → G' 12 j = G 12 j)) ∧ G' 12 h0 = nI x ∧ (∀ b, b < nb → G' 13 b = G 13 b ∧ G' 14 b = G 14 b) ∧ p ≤ q
section
variable {F : Nat → Int32} {G : Nat → Nat → Int32} {d : Nat} {W : List (Nat × Nat × Nat)} {H : List Nat} {pl : Nat → Nat} {w pi p nb t md h0 : Nat}
theorem rg_els {w0 : Nat} (S : rc_S F G d W (h0 :: H) pl w pi p nb) (hH : H.length < 16) :
    ∃ F' G', (∀ Q : SX → Prop, Q (xs_mk F' G') → wpX_otherwise Q (xs_mk F G) (nI w0) (nI 1)) ∧ rc_S F' G' d W H pl w0 pi p nb ∧ cy_O F G F' G' p p h0 p nb := by
  obtain ⟨F1, G1, a1, a2, a3, a4, a5⟩ := ra_fill S hH
  refine ⟨_, G1, ?_, rp_words (w' := w0) a2, ⟨fun k hk => by rw [pk_un (by omega)]; exact a3 k (by omega), fun k hk => a4 k (by omega)⟩, ?_, ?_, ?_, Nat.le_refl _⟩
  · intro Q qq
    unfold wpX_otherwise
    refine br_f (by decide) ?_
    exact a1 _ qq
  · intro j hj
    rw [a4 _ (by decide), a5]
    exact ⟨rfl, fun z => pk_un z⟩
  · rw [a5, pk_us]
  · intro b _
    rw [a4 _ (by decide), a4 _ (by decide)]; exact ⟨rfl, rfl⟩
theorem rg_join {tt rr : Nat} (S : rc_S F G d ((8, tt, rr) :: W) (h0 :: H) pl w pi p nb) (hW : W.length < 96) (hH : H.length < 16) (hp : p < 1200) (hb : pi < 1000) :
    ∃ F' G' q, (∀ Q : SX → Prop, Q (xs_mk F' G') → wpX_workOn Q (xs_mk F G)) ∧ rc_S F' G' d W H pl w 0 q nb ∧ (h0 < p → cy_O F G F' G' p q h0 q nb) ∧ q ≤ p + 1 ∧ ∀ C O : Nat → Int32, h0 < p → ag_c C O G' p q → cg_Fl C O pi p q := by
  obtain ⟨F1, G1, q, a1, a2, a3, a4, a5, a6, a7, a8⟩ := ra_flush (rp_pop S) hp hb
  obtain ⟨F2, G2, b1, b2, b3, b4, b5⟩ := ra_fill a2 hH
  have hw := S.2.2.1
  refine ⟨F2, G2, q, ?_, b2, ?_, a7, ?_⟩
  · intro Q qq
    have v : vp_in (nI W.length) 96 := vp_in_nI hW (by omega)
    have c : (nI W.length).toNatClampNeg = W.length := nI_clamp (by omega)
    unfold wpX_workOn
    refine nm_r (e' := nI W.length) (by rw [S.2.1]; exact nI_pred _) ?_
    rw [c]
    refine ⟨v, nm_r (e' := 8) hw.1 ⟨v, nm_r (e' := nI tt) hw.2.1 ⟨v, nm_r (e' := nI rr) hw.2.2.1 ?_⟩⟩⟩
    refine br_f (by decide) (br_f (by decide) (br_f (by decide) (br_f (by decide) (br_f (by decide) (br_f (by decide) (br_f (by decide) (br_f (by decide) (br_t rfl ?_))))))))
    refine a1 _ ?_
    exact b1 _ qq
  · intro hh
    refine ⟨⟨fun k hk => by rw [b3 k (by omega), a3 k (by omega) (by omega), pk_un (by omega)], fun k hk => by rw [b4 k (by omega), a4 k (by omega) (by omega)]⟩, ?_, ?_, ?_, a6⟩
    · intro j hj
      rw [b4 _ (by decide), b5]
      refine ⟨(a5 j hj).1, fun z => ?_⟩
      rw [pk_un z]; exact (a5 j hj).2
    · rw [b5, pk_us]
    · intro b _
      rw [b4 _ (by decide), b4 _ (by decide), a4 _ (by decide) (by decide), a4 _ (by decide) (by decide)]; exact ⟨rfl, rfl⟩
  · intro C O hh h
    refine a8 C O fun j h1 h2 => ?_
    obtain ⟨e1, e2⟩ := h j h1 h2
    rw [e1, e2, b4 _ (by decide), b5, pk_un (by omega)]; exact ⟨rfl, rfl⟩
theorem rg_otw {w0 : Nat} (S : rc_S F G d W (h0 :: H) pl w pi p nb) (hH : H.length < 16) (hp : p + 1 < 1200) (hb : pi < 1000) (hh : h0 < p) :
    ∃ F' G' q, (∀ Q : SX → Prop, Q (xs_mk F' G') → wpX_otherwise Q (xs_mk F G) (nI w0) (nI 0)) ∧ rc_S F' G' d W (q :: H) pl w0 0 (q + 1) nb ∧ cy_O F G F' G' p (q + 1) h0 (q + 1) nb ∧ p ≤ q ∧ q ≤ p + 1 ∧ G' 11 q = nI 8 ∧ ∀ C O : Nat → Int32, ag_c C O G' p q → cg_Fl C O pi p q := by
  obtain ⟨F1, G1, q, a1, a2, a3, a4, a5, a6, a7, a8⟩ := ra_flush S (by omega) hb
  obtain ⟨F2, G2, b1, b2, b3, b4, b5, b6⟩ := ra_emit (op := 8) (n := 0) a2 (by omega) (by omega)
  have hho := b2.2.2.2.2.2.2.1
  have S3 : rc_S (upd F2 9 (nI H.length)) G2 d W H pl w 0 (q + 1) nb := by
    obtain ⟨s1, s2, s3, s4, s5, s6, s7, s8, s9, s10⟩ := b2
    exact ⟨s1, s2, s3, s4, s5, rfl, s7.2.2, s8, s9, s10⟩
  obtain ⟨F3, G3, c1, c2, c3, c4⟩ := ra_dig S3 hH (by omega)
  have G3o : G3 12 = upd (G1 12) q 0 := by rw [c4 _ (by decide), b6]
  refine ⟨upd F3 7 (nI w0), uu_G G3 12 (upd (G3 12) h0 (nI (q + 1))), q, ?_, ?_, ⟨⟨?_, ?_⟩, ?_, ?_, ?_, by omega⟩, a6, a7, ?_, ?_⟩
  · intro Q qq
    unfold wpX_otherwise
    refine br_t rfl ?_
    refine a1 _ ?_
    refine b1 _ ?_
    refine nm_r (e' := nI H.length) (by rw [b2.2.2.2.2.2.1]; exact nI_pred _) ?_
    rw [nI_clamp (by omega)]
    refine ⟨vp_in_nI hH (by omega), nm_r (e' := nI h0) hho.1 ?_⟩
    refine c1 _ ?_
    rw [nI_clamp (by omega)]
    refine And.intro (vp_in_nI (by omega) (by omega)) (nm_r (e' := upd (G3 12) h0 (nI (q + 1))) ?_ qq)
    rw [c2.2.2.2.2.2.2.2.2.1]
  · exact rp_G (rp_words (w' := w0) c2) (fun k h1 h2 => uu_Gn (by omega))
  · intro k hk
    rw [pk_un (by omega), c3 k (by omega), pk_un (by omega), b3 k (by omega), a3 k (by omega) (by omega)]
  · intro k hk
    rw [uu_Gn (by omega), c4 k (by omega), b4 k (by omega) (by omega), a4 k (by omega) (by omega)]
  · intro j hj
    refine ⟨?_, fun z => ?_⟩
    · rw [uu_Gn (by decide), c4 _ (by decide), b5, pk_un (by omega)]; exact (a5 j hj).1
    · show upd (G3 12) h0 (nI (q + 1)) j = _
      rw [pk_un z, G3o, pk_un (by omega)]; exact (a5 j hj).2
  · exact pk_us
  · intro b _
    rw [uu_Gn (by decide), uu_Gn (by decide), c4 _ (by decide), c4 _ (by decide), b4 _ (by decide) (by decide), b4 _ (by decide) (by decide), a4 _ (by decide) (by decide), a4 _ (by decide) (by decide)]; exact ⟨rfl, rfl⟩
  · rw [uu_Gn (by decide), c4 _ (by decide), b5, pk_us]
  · intro C O h
    refine a8 C O fun j h1 h2 => ?_
    obtain ⟨e1, e2⟩ := h j h1 h2
    refine ⟨?_, ?_⟩
    · rw [e1, uu_Gn (by decide), c4 _ (by decide), b5, pk_un (by omega)]
    · rw [e2]
      show upd (G3 12) h0 (nI (q + 1)) j = _
      rw [pk_un (by omega), G3o, pk_un (by omega)]
end
end
section
/-! the instruction of a term -/
theorem nx_or (a b : Nat) : nI a ||| nI b = nI (a ||| b) := by
  apply Int32.toBitVec_inj.1
  show BitVec.ofNat 32 a ||| BitVec.ofNat 32 b = BitVec.ofNat 32 (a ||| b)
  apply BitVec.eq_of_getLsbD_eq
  intro i hi
  simp [hi]
theorem nx_add {a b k : Nat} (h : a < 2 ^ k) : a ||| b * 2 ^ k = a + b * 2 ^ k := by
  rw [Nat.or_comm, Nat.mul_comm b, ← Nat.two_pow_add_eq_or_of_lt h, Nat.add_comm]
theorem nx_ins {v b p0 p1 p2 : Nat} (hv : v < 4) (hb : b < 128) (h0 : p0 < 16) (h1 : p1 < 16) (h2 : p2 < 16) :
    (((nI v ||| (nI b <<< ((2 : Int32) &&& 31))) ||| (nI p0 <<< ((9 : Int32) &&& 31))) ||| (nI p1 <<< ((13 : Int32) &&& 31))) ||| (nI p2 <<< ((17 : Int32) &&& 31)) = nI (v + 4 * b + 512 * p0 + 8192 * p1 + 131072 * p2) := by
  rw [pk_shlN _ 2 (by decide) (by omega), pk_shlN _ 9 (by decide) (by omega), pk_shlN _ 13 (by decide) (by omega), pk_shlN _ 17 (by decide) (by omega)]
  rw [nx_or, nx_add (by omega), nx_or, nx_add (by omega), nx_or, nx_add (by omega), nx_or, nx_add (by omega)]
  exact congrArg nI (by omega)
section
variable {F : Nat → Int32} {G : Nat → Nat → Int32} {d : Nat} {W : List (Nat × Nat × Nat)} {H : List Nat} {pl : Nat → Nat} {w pi p nb t md : Nat}
/-- apply up to the kind -/
theorem rq_pre {k : Nat} {Q : SX → Prop} (S : rc_S F G d W H pl w pi p nb) (hd : d < 16) (ht : t < 12) (hk : G 0 (12 * d + t) = nI k) (hm : md < 2) (h : wX_apply_28 Q (nI md) (nI (12 * d + t)) (nI k) (nI (16 * md)) (F 0) (F 1) (F 2) (F 3) (F 4) (F 5) (F 6) (F 7) (F 8) (F 9) (F 10) (F 11) (F 12) (F 13) (F 14) (F 15) (F 16) (F 17) (F 18) (F 19) (F 20) (F 21) (F 22) (G 0) (G 1) (G 2) (G 3) (G 4) (G 5) (G 6) (G 7) (G 8) (G 9) (G 10) (G 11) (G 12) (G 13) (G 14) (G 15) (G 16) (G 17) (G 18) (G 19) (G 20) (G 21) (G 22) (G 23) (G 24) (G 25) (G 26) (G 27) (G 28) (G 29) (G 30) (G 31) (G 32) (G 33) (G 34) (G 35) (G 36) (G 37) (G 38) (G 39) (G 40)) : wpX_apply Q (xs_mk F G) (nI t) (nI md) := by
  have e3 : 12 * F 6 + nI t = nI (12 * d + t) := by rw [S.1, uu_m12, nI_add]
  unfold wpX_apply
  refine nm_r e3 ?_
  rw [nI_clamp (by omega)]
  refine ⟨vp_in_nI (by omega) (by omega), nm_r hk ?_⟩
  obtain rfl | rfl : md = 0 ∨ md = 1 := by omega
  · exact br_t rfl h
  · exact br_f (by decide) h
theorem rq_ari {k : Nat} (S : rc_S F G d W H pl (w + 1) pi p nb) (hd : d < 16) (ht : t < 12) (hk : G 0 (12 * d + t) = nI k) (hk3 : k ≤ 3) (hm : md < 2) (hp : p + 2 < 1200) (hb : pi < 1000) :
    ∃ F' G' q po, (∀ Q : SX → Prop, Q (xs_mk F' G') → wpX_apply Q (xs_mk F G) (nI t) (nI md)) ∧ rc_S F' G' d W H pl w po q nb ∧ cx_O F G F' G' p q nb nb ∧ q ≤ p + 1 + 2 * md ∧ po ≤ pi ∧ (md = 1 → po = 0)
      ∧ ∀ C O : Nat → Int32, ag_c C O G' p q → ∀ ka : Nat → Nat → Prop, (md = 0 → ka q po) → (md = 1 → ∀ q pi, ct_R C O q pi → ka q pi) → cg_at C p (nI k) ∧ ka (p + 1) pi := by
  obtain ⟨F1, G1, b1, b2, b3, b4, b5, b6⟩ := ra_emit (op := k) (n := 0) S (by omega) (by omega)
  obtain ⟨F2, G2, q, po, t1, t2, t3, t4, t5, t6, t7⟩ := rt_tail (md := md) (rp_words (w' := w) b2) hm (by omega) hb
  have x1 : cx_O F G F1 G1 p (p + 1) nb nb := cx_em b3 b4 b5 b6
  have x2 : cx_O F1 G1 F2 G2 (p + 1) q nb nb := cx_tr (cx_F (i := 7) (x := nI w) (by decide) (by decide)) t3
  refine ⟨F2, G2, q, po, ?_, t2, cx_tr x1 x2, by omega, t5, t6, ?_⟩
  · intro Q qq
    refine rq_pre S hd ht hk hm ?_
    unfold wX_apply_28
    refine br_f (nI_nlt (a := 3) (b := k) hk3 (by omega)) ?_
    refine b1 _ ?_
    refine nm_r (e' := nI w) (by rw [b2.2.2.2.1]; exact nI_pred w) ?_
    rcases t1 with ⟨rfl, rfl, rfl⟩ | ⟨rfl, fin⟩
    · exact br_t rfl qq
    · exact br_f (by decide) (fin _ qq)
  · intro C O h ka h1 h2
    obtain ⟨a1, a2⟩ := ag_at (op := k) h x2 ⟨_, b5⟩ ⟨_, b6⟩ (by omega)
    exact ⟨a1, t7 C O (ag_cr h (by omega)) ka h1 h2⟩
/-- apply behind the counting of steps -/
theorem rq_97 {k e : Nat} {Q : SX → Prop} (S : rc_S F G d W H pl w pi p nb) (hd : d < 16) (ht : t < 12) (hk : G 0 (12 * d + t) = nI k) (hk3 : 3 < k) (hk10 : k < 10) (hm : md < 2) (he : e = if k = 7 ∨ k = 9 ∨ k = 6 then pi + 1 else pi)
    (h : wX_apply_97 Q (nI md) (nI (12 * d + t)) (nI k) (nI (16 * md)) (nI e) (F 0) (F 1) (F 2) (F 3) (F 4) (F 5) (F 6) (F 7) (F 8) (F 9) (F 10) (F 11) (F 12) (F 13) (F 14) (F 15) (F 16) (F 17) (F 18) (F 19) (F 20) (F 21) (F 22) (G 0) (G 1) (G 2) (G 3) (G 4) (G 5) (G 6) (G 7) (G 8) (G 9) (G 10) (G 11) (G 12) (G 13) (G 14) (G 15) (G 16) (G 17) (G 18) (G 19) (G 20) (G 21) (G 22) (G 23) (G 24) (G 25) (G 26) (G 27) (G 28) (G 29) (G 30) (G 31) (G 32) (G 33) (G 34) (G 35) (G 36) (G 37) (G 38) (G 39) (G 40)) : wpX_apply Q (xs_mk F G) (nI t) (nI md) := by
  refine rq_pre S hd ht hk hm ?_
  unfold wX_apply_28
  refine br_t (nI_lt (a := 3) hk3 (by omega)) ?_
  have hpd := S.2.2.2.2.1
  have l84 : k = 7 ∨ k = 9 ∨ k = 6 → wX_apply_84 Q (nI md) (nI (12 * d + t)) (nI k) (nI (16 * md)) (F 0) (F 1) (F 2) (F 3) (F 4) (F 5) (F 6) (F 7) (F 8) (F 9) (F 10) (F 11) (F 12) (F 13) (F 14) (F 15) (F 16) (F 17) (F 18) (F 19) (F 20) (F 21) (F 22) (G 0) (G 1) (G 2) (G 3) (G 4) (G 5) (G 6) (G 7) (G 8) (G 9) (G 10) (G 11) (G 12) (G 13) (G 14) (G 15) (G 16) (G 17) (G 18) (G 19) (G 20) (G 21) (G 22) (G 23) (G 24) (G 25) (G 26) (G 27) (G 28) (G 29) (G 30) (G 31) (G 32) (G 33) (G 34) (G 35) (G 36) (G 37) (G 38) (G 39) (G 40) := by
    intro z
    rw [if_pos z] at he
    unfold wX_apply_84
    have e1 : F 8 + 1 = nI e := by rw [hpd, nI_1, he]
    rw [e1]; exact h
  by_cases z7 : k = 7
  · subst z7; exact br_t rfl (l84 (by omega))
  · refine br_f (yb_soE (b := 7) (by omega) (by omega) z7) ?_
    by_cases z9 : k = 9
    · subst z9; exact br_t rfl (l84 (by omega))
    · refine br_f (yb_soE (b := 9) (by omega) (by omega) z9) ?_
      by_cases z6 : k = 6
      · subst z6; exact br_t rfl (l84 (by omega))
      · refine br_f (yb_soE (b := 6) (by omega) (by omega) z6) ?_
        rw [if_neg (by omega)] at he
        rw [he, ← hpd] at h
        exact h
theorem rq_put (S : rc_S F G d W H pl w pi p nb) (hd : d < 16) (ht : t < 12) (hk : G 0 (12 * d + t) = nI 7) (hm : md < 2) (hp : p + 3 < 1200) (hb : pi + 1 < 1000) :
    ∃ F' G' q po p2, (∀ Q : SX → Prop, Q (xs_mk F' G') → wpX_apply Q (xs_mk F G) (nI t) (nI md)) ∧ rc_S F' G' d W H pl w po q nb ∧ cx_O F G F' G' p q nb nb ∧ q ≤ p + 2 + 2 * md ∧ po ≤ 0 ∧ (md = 1 → po = 0)
      ∧ ∀ C O : Nat → Int32, ag_c C O G' p q → ∀ ka : Nat → Nat → Prop, (md = 0 → ka q po) → (md = 1 → ∀ q pi, ct_R C O q pi → ka q pi) → cg_Fl C O (pi + 1) p p2 ∧ cg_at C p2 10 ∧ ka (p2 + 1) 0 := by
  obtain ⟨F0, G0, p2, a1, a2, a3, a4, a5, a6, a7, a8⟩ := ra_flush (rp_pend (pi' := pi + 1) S) (by omega) hb
  obtain ⟨F1, G1, b1, b2, b3, b4, b5, b6⟩ := ra_emit (op := 10) (n := 0) a2 (by omega) (by omega)
  obtain ⟨F2, G2, q, po, t1, t2, t3, t4, t5, t6, t7⟩ := rt_tail (md := md) b2 hm (by omega) (by omega)
  have x0 : cx_O F G F0 G0 p p2 nb nb := cx_tr (cx_F (i := 8) (x := nI (pi + 1)) (by decide) (by decide)) ⟨⟨fun k hk => a3 k (by omega) (by omega), fun k hk => a4 k (by omega) (by omega)⟩, a5, fun b _ => by rw [a4 _ (by decide) (by decide), a4 _ (by decide) (by decide)]; exact ⟨rfl, rfl⟩, a6, Nat.le_refl _⟩
  have x1 : cx_O F0 G0 F1 G1 p2 (p2 + 1) nb nb := cx_em b3 b4 b5 b6
  refine ⟨F2, G2, q, po, p2, ?_, t2, cx_tr x0 (cx_tr x1 t3), by omega, t5, t6, ?_⟩
  · intro Q qq
    refine rq_97 (e := pi + 1) S hd ht hk (by omega) (by omega) hm rfl ?_
    unfold wX_apply_97
    refine a1 _ ?_
    refine br_t rfl ?_
    refine b1 _ ?_
    rcases t1 with ⟨rfl, rfl, rfl⟩ | ⟨rfl, fin⟩
    · exact br_t rfl qq
    · exact br_f (by decide) (fin _ qq)
  · intro C O h ka h1 h2
    obtain ⟨e1, e2⟩ := ag_at (op := 10) (ag_cr h a6) t3 ⟨_, b5⟩ ⟨_, b6⟩ (by omega)
    exact ⟨a8 C O (ag_cl h (cx_tr x1 t3)), e1, t7 C O (ag_cr h (by omega)) ka h1 h2⟩
/-- CALL and PERFORM -/
theorem rq_cp {k v e : Nat} (S : rc_S F G d W H pl w pi p nb) (hd : d < 16) (ht : t < 12) (hk : G 0 (12 * d + t) = nI k) (hk8 : k = 8 ∨ k = 9) (hv : G 4 (12 * d + t) = nI v) (hm : md < 2) (hp : p + 1 < 1200) (hb : pi + 1 < 1000) (he : e = if k = 9 then pi + 1 else pi) :
    ∃ F' G' p2, (∀ Q : SX → Prop, Q (xs_mk F' G') → wpX_apply Q (xs_mk F G) (nI t) (nI md)) ∧ rc_S F' G' d W H pl w 0 (p2 + 1) nb ∧ cx_O F G F' G' p (p2 + 1) nb nb ∧ p2 ≤ p + 1
      ∧ ∀ C O : Nat → Int32, ag_c C O G' p (p2 + 1) → cg_Fl C O e p p2 ∧ cg_at C p2 (nI (k + 4 + 16 * md)) ∧ O p2 = nI v := by
  have heb : e < 1000 := by rw [he]; split <;> omega
  obtain ⟨F0, G0, p2, a1, a2, a3, a4, a5, a6, a7, a8⟩ := ra_flush (rp_pend (pi' := e) S) (by omega) heb
  obtain ⟨F1, G1, b1, b2, b3, b4, b5, b6⟩ := ra_emit (op := k + 4 + 16 * md) (n := nI v) a2 (by omega) (by omega)
  have x0 : cx_O F G F0 G0 p p2 nb nb := cx_tr (cx_F (i := 8) (x := nI e) (by decide) (by decide)) ⟨⟨fun k hk => a3 k (by omega) (by omega), fun k hk => a4 k (by omega) (by omega)⟩, a5, fun b _ => by rw [a4 _ (by decide) (by decide), a4 _ (by decide) (by decide)]; exact ⟨rfl, rfl⟩, a6, Nat.le_refl _⟩
  have x1 : cx_O F0 G0 F1 G1 p2 (p2 + 1) nb nb := cx_em b3 b4 b5 b6
  refine ⟨F1, G1, p2, ?_, b2, cx_tr x0 x1, a7, ?_⟩
  · intro Q qq
    refine rq_97 (e := e) S hd ht hk (by omega) (by omega) hm (by rw [he]; rcases hk8 with rfl | rfl <;> rfl) ?_
    unfold wX_apply_97
    refine a1 _ ?_
    have v3 : vp_in (nI (12 * d + t)) 204 := vp_in_nI (by omega) (by omega)
    have cc3 : (nI (12 * d + t)).toNatClampNeg = 12 * d + t := nI_clamp (by omega)
    have hv0 : G0 4 (12 * d + t) = nI v := by rw [a4 _ (by decide) (by decide)]; exact hv
    rw [cc3]
    rcases hk8 with rfl | rfl
    · refine br_f (by decide) (br_t rfl (And.intro v3 ?_))
      rw [hv0, show 12 + nI (16 * md) = nI (8 + 4 + 16 * md) from nI_add 12 (16 * md)]
      exact b1 _ qq
    · refine br_f (by decide) (br_f (by decide) (br_t rfl (And.intro v3 ?_)))
      rw [hv0, show 13 + nI (16 * md) = nI (9 + 4 + 16 * md) from nI_add 13 (16 * md)]
      exact b1 _ qq
  · intro C O h
    obtain ⟨e1, e2⟩ := ag_at (q := p2 + 1) (op := k + 4 + 16 * md) (F := F1) (F' := F1) (G := G1) (nb := nb) (nb' := nb) (ag_cr h a6) (cx_sm (fun _ _ => rfl) (fun _ _ => rfl)) ⟨_, b5⟩ ⟨_, b6⟩ (by omega)
    exact ⟨a8 C O (ag_cl h x1), e1, e2⟩
theorem rq_res (S : rc_S F G d W H pl (w + 1) pi p nb) (hd : d < 16) (ht : t < 12) (hk : G 0 (12 * d + t) = nI 6) (hm : md < 2) (hp : p + 1 < 1200) (hb : pi + 1 < 1000) :
    ∃ F' G' p2, (∀ Q : SX → Prop, Q (xs_mk F' G') → wpX_apply Q (xs_mk F G) (nI t) (nI md)) ∧ rc_S F' G' d W H pl w 0 (p2 + 1) nb ∧ cx_O F G F' G' p (p2 + 1) nb nb ∧ p2 ≤ p + 1
      ∧ ∀ C O : Nat → Int32, ag_c C O G' p (p2 + 1) → cg_Fl C O (pi + 1) p p2 ∧ cg_at C p2 (nI (15 + 16 * md)) := by
  obtain ⟨F0, G0, p2, a1, a2, a3, a4, a5, a6, a7, a8⟩ := ra_flush (rp_pend (pi' := pi + 1) S) (by omega) hb
  obtain ⟨F1, G1, b1, b2, b3, b4, b5, b6⟩ := ra_emit (op := 15 + 16 * md) (n := 0) a2 (by omega) (by omega)
  have x0 : cx_O F G F0 G0 p p2 nb nb := cx_tr (cx_F (i := 8) (x := nI (pi + 1)) (by decide) (by decide)) ⟨⟨fun k hk => a3 k (by omega) (by omega), fun k hk => a4 k (by omega) (by omega)⟩, a5, fun b _ => by rw [a4 _ (by decide) (by decide), a4 _ (by decide) (by decide)]; exact ⟨rfl, rfl⟩, a6, Nat.le_refl _⟩
  have x1 : cx_O F0 G0 F1 G1 p2 (p2 + 1) nb nb := cx_em b3 b4 b5 b6
  have x2 : cx_O F1 G1 (upd F1 7 (nI w)) G1 (p2 + 1) (p2 + 1) nb nb := cx_F (by decide) (by decide)
  refine ⟨_, G1, p2, ?_, rp_words (w' := w) b2, cx_tr x0 (cx_tr x1 x2), a7, ?_⟩
  · intro Q qq
    refine rq_97 (e := pi + 1) S hd ht hk (by omega) (by omega) hm rfl ?_
    unfold wX_apply_97
    refine a1 _ ?_
    refine br_f (by decide) (br_f (by decide) (br_f (by decide) (br_t rfl ?_)))
    rw [show 15 + nI (16 * md) = nI (15 + 16 * md) from nI_add 15 (16 * md)]
    refine b1 _ ?_
    exact nm_r (e' := nI w) (by rw [b2.2.2.2.1]; exact nI_pred w) qq
  · intro C O h
    obtain ⟨e1, e2⟩ := ag_at (q := p2 + 1) (op := 15 + 16 * md) (F := F1) (F' := F1) (G := G1) (nb := nb) (nb' := nb) (ag_cr h a6) (cx_sm (fun _ _ => rfl) (fun _ _ => rfl)) ⟨_, b5⟩ ⟨_, b6⟩ (by omega)
    exact ⟨a8 C O (ag_cl h x1), e1⟩
theorem rq_han {v b : Nat} (S : rc_S F G d W H pl w pi p nb) (hd : d < 16) (ht : t < 12) (hk : G 0 (12 * d + t) = nI 5) (hv : G 4 (12 * d + t) = nI v) (hvb : v < 3) (hbt : G 2 (12 * d + t) = nI b) (hbb : b < 12) (hm : md < 2) (hp : p + 1 < 1200) (hb : pi < 1000) (hnb : nb < 96) (hpl : ∀ u, u < 3 → pl u < 16) :
    ∃ F' G' p2, (∀ Q : SX → Prop, Q (xs_mk F' G') → wpX_apply Q (xs_mk F G) (nI t) (nI md)) ∧ rc_S F' G' d W H pl w 0 (p2 + 1) (nb + 1) ∧ cx_O F G F' G' p (p2 + 1) nb (nb + 1) ∧ p2 ≤ p + 1 ∧ G' 13 nb = nI d ∧ G' 14 nb = nI b
      ∧ ∀ C O : Nat → Int32, ag_c C O G' p (p2 + 1) → cg_Fl C O pi p p2 ∧ cg_at C p2 (nI (14 + 16 * md)) ∧ O p2 = nI (v + 4 * nb + 512 * pl 0 + 8192 * pl 1 + 131072 * pl 2) := by
  obtain ⟨F0, G0, p2, a1, a2, a3, a4, a5, a6, a7, a8⟩ := ra_flush (rp_pend (pi' := pi) S) (by omega) hb
  have S1 : rc_S (upd F0 4 (nI (nb + 1))) (uu_G (uu_G G0 13 (upd (G0 13) nb (nI d))) 14 (upd (G0 14) nb (nI b))) d W H pl w 0 p2 (nb + 1) := by
    obtain ⟨s1, s2, s3, s4, s5, s6, s7, s8, s9, s10⟩ := rp_G (G' := uu_G (uu_G G0 13 (upd (G0 13) nb (nI d))) 14 (upd (G0 14) nb (nI b))) a2 (fun k h1 h2 => by rw [uu_Gn (by omega), uu_Gn (by omega)])
    exact ⟨s1, s2, s3, s4, s5, s6, s7, s8, s9, rfl⟩
  obtain ⟨F1, G1, b1, b2, b3, b4, b5, b6⟩ := ra_emit (op := 14 + 16 * md) (n := nI (v + 4 * nb + 512 * pl 0 + 8192 * pl 1 + 131072 * pl 2)) S1 (by omega) (by omega)
  have x0 : cx_O F G F0 G0 p p2 nb nb := cx_tr (cx_F (i := 8) (x := nI pi) (by decide) (by decide)) ⟨⟨fun k hk => a3 k (by omega) (by omega), fun k hk => a4 k (by omega) (by omega)⟩, a5, fun b _ => by rw [a4 _ (by decide) (by decide), a4 _ (by decide) (by decide)]; exact ⟨rfl, rfl⟩, a6, Nat.le_refl _⟩
  have x1 : cx_O F0 G0 (upd F0 4 (nI (nb + 1))) (uu_G (uu_G G0 13 (upd (G0 13) nb (nI d))) 14 (upd (G0 14) nb (nI b))) p2 p2 nb (nb + 1) :=
    ⟨⟨fun k hk => pk_un (by omega), fun k hk => by rw [uu_Gn (by omega), uu_Gn (by omega)]⟩, fun j _ => ⟨rfl, rfl⟩, fun j hj => ⟨pk_un (by omega), pk_un (by omega)⟩, Nat.le_refl _, by omega⟩
  have x2 : cx_O _ _ F1 G1 p2 (p2 + 1) (nb + 1) (nb + 1) := cx_em b3 b4 b5 b6
  refine ⟨F1, G1, p2, ?_, b2, cx_tr x0 (cx_tr x1 x2), a7, ?_, ?_, ?_⟩
  · intro Q qq
    refine rq_97 (e := pi) S hd ht hk (by omega) (by omega) hm rfl ?_
    have v3 : vp_in (nI (12 * d + t)) 204 := vp_in_nI (by omega) (by omega)
    have cc3 : (nI (12 * d + t)).toNatClampNeg = 12 * d + t := nI_clamp (by omega)
    unfold wX_apply_97
    refine a1 _ ?_
    rw [cc3]
    refine br_f (by decide) (br_f (by decide) (br_f (by decide) (br_f (by decide) (And.intro v3 ?_))))
    rw [show G0 2 (12 * d + t) = nI b by rw [a4 _ (by decide) (by decide)]; exact hbt]
    have cnb : (F0 4).toNatClampNeg = nb := by rw [a2.2.2.2.2.2.2.2.2.2]; exact nI_clamp (by omega)
    have vnb : vp_in (F0 4) 96 := by rw [a2.2.2.2.2.2.2.2.2.2]; exact vp_in_nI hnb (by omega)
    unfold wpX_blockFor
    simp only [cnb]
    refine ⟨vnb, nm_r (e' := upd (G0 13) nb (nI d)) (by rw [a2.1, uu_b8 (by omega), uu_nb (by omega)]) ⟨vnb, nm_r (e' := upd (G0 14) nb (nI b)) (by rw [uu_b8 (by omega), uu_nb (by omega)]) (nm_r (e' := nI (nb + 1)) (by rw [a2.2.2.2.2.2.2.2.2.2, nI_1]) (And.intro v3 ?_))⟩⟩
    rw [nI_pred, show G0 4 (12 * d + t) = nI v by rw [a4 _ (by decide) (by decide)]; exact hv, a2.2.2.2.2.2.2.2.1 0 (by omega), a2.2.2.2.2.2.2.2.1 1 (by omega), a2.2.2.2.2.2.2.2.1 2 (by omega),
      nx_ins (by omega) (by omega) (hpl 0 (by omega)) (hpl 1 (by omega)) (hpl 2 (by omega)), show 14 + nI (16 * md) = nI (14 + 16 * md) from nI_add 14 (16 * md)]
    exact b1 _ qq
  · rw [b4 _ (by decide) (by decide)]; exact pk_us
  · rw [b4 _ (by decide) (by decide)]; exact pk_us
  · intro C O h
    obtain ⟨e1, e2⟩ := ag_at (q := p2 + 1) (op := 14 + 16 * md) (F := F1) (F' := F1) (G := G1) (nb := nb) (nb' := nb) (ag_cr h a6) (cx_sm (fun _ _ => rfl) (fun _ _ => rfl)) ⟨_, b5⟩ ⟨_, b6⟩ (by omega)
    refine ⟨a8 C O fun j h1 h2 => ?_, e1, e2⟩
    obtain ⟨e3, e4⟩ := h j h1 (by omega)
    obtain ⟨e5, e6⟩ := x2.2.1 j h2
    rw [e3, e4, e5, e6]; exact ⟨rfl, rfl⟩
end
end
section
/-! the code of a term, by its parts -/
def bs_n (lo : Nat → Nat) (d : Nat) : List Nat → Nat
  | [] => 0
  | x :: r => sZ lo d x + bs_n lo d r
def bh_n (lo : Nat → Nat) (d : Nat) : List Nat → Nat
  | [] => 0
  | x :: r => (sZ lo d x - 1) / 2 + bh_n lo d r
def bk_R (kd : Nat → Nat) (G : Nat → Nat → Int32) (d z : Nat) : List Nat → Nat → Prop
  | [] => fun _ => True
  | x :: r => fun k => G 13 k = nI d ∧ G 14 k = nI x ∧ x < z ∧ (∃ y, y < z ∧ kd (12 * d + y) = 5) ∧ bk_R kd G d z r (k + 1)
theorem bs_app {lo : Nat → Nat} {d : Nat} (a b : List Nat) : bs_n lo d (a ++ b) = bs_n lo d a + bs_n lo d b := by
  induction a with
  | nil => simp [bs_n]
  | cons x a ih => simp only [List.cons_append, bs_n, ih]; omega
theorem bh_app {lo : Nat → Nat} {d : Nat} (a b : List Nat) : bh_n lo d (a ++ b) = bh_n lo d a + bh_n lo d b := by
  induction a with
  | nil => simp [bh_n]
  | cons x a ih => simp only [List.cons_append, bh_n, ih]; omega
theorem bk_x {kd : Nat → Nat} {G G' : Nat → Nat → Int32} {d z : Nat} : ∀ (bl : List Nat) (k : Nat), (∀ b, b < k + bl.length → G' 13 b = G 13 b ∧ G' 14 b = G 14 b) → bk_R kd G d z bl k → bk_R kd G' d z bl k := by
  intro bl
  induction bl with
  | nil => intro _ _ _; trivial
  | cons x r ih =>
    rintro k h ⟨h1, h2, h3, h3', h4⟩
    simp only [List.length_cons] at h
    exact ⟨(h k (by omega)).1.trans h1, (h k (by omega)).2.trans h2, h3, h3', ih (k + 1) (fun b hb => h b (by omega)) h4⟩
theorem bk_app {kd : Nat → Nat} {G : Nat → Nat → Int32} {d z : Nat} : ∀ (a b : List Nat) (k : Nat), bk_R kd G d z a k → bk_R kd G d z b (k + a.length) → bk_R kd G d z (a ++ b) k := by
  intro a
  induction a with
  | nil => intro b k _ h; exact h
  | cons x r ih =>
    rintro b k ⟨h1, h2, h3, h3', h4⟩ h
    refine ⟨h1, h2, h3, h3', ih b (k + 1) h4 ?_⟩
    rw [show k + 1 + r.length = k + (x :: r).length by simp only [List.length_cons]; omega]; exact h
/-- the bounds of a term's code -/
def cw_b (lo : Nat → Nat) (d t i : Nat) (W : List (Nat × Nat × Nat)) (H : List Nat) (pl : Nat → Nat) (w pi p k0 : Nat) : Prop :=
  W.length + 6 * sZ lo d t ≤ 96 ∧ H.length + sZ lo d t ≤ 16 ∧ w + (sZ lo d t + 1) / 2 ≤ 9 ∧ p + 3 * sZ lo d t ≤ 1100 ∧ k0 + (sZ lo d t - 1) / 2 ≤ 96 ∧ pi + sZ lo d t ≤ 100 ∧ i + 4 * sZ lo d t ≤ 96 ∧ ∀ v, v < 3 → pl v < w
def cw_O (kd pa pb pc nn lo sz : Nat → Nat) (N : Nat → Int32) (d md t i : Nat) (F : Nat → Int32) (G : Nat → Nat → Int32) (W : List (Nat × Nat × Nat)) (H : List Nat) (pl : Nat → Nat) (w pi p k0 : Nat) : Prop :=
  ∃ i' F' G' w' po q bl, ew_go i F G i' F' G' ∧ rc_S F' G' d W H pl w' po q (k0 + bl.length) ∧ cx_O F G F' G' p q k0 (k0 + bl.length) ∧ i' ≤ i + 4 * sZ lo d t ∧ ((md = 0 → w' = w + 1) ∧ w' ≤ 12) ∧ ((md = 1 → po = 0) ∧ po ≤ pi + sZ lo d t)
    ∧ q + 3 * bs_n lo d bl + 2 ≤ p + 3 * sZ lo d t + 2 * md ∧ bl.length + bh_n lo d bl ≤ (sZ lo d t - 1) / 2 ∧ bk_R kd G' d (sz d) bl k0
    ∧ ∀ (C O BD BT : Nat → Int32) (nb : Nat), ag_c C O G' p q → ag_b BD BT G' k0 (k0 + bl.length) → k0 + bl.length ≤ nb → ∀ m, t < m → ∀ ka : Nat → Nat → Prop, (md = 0 → ka q po) → (md = 1 → ∀ q pi, ct_R C O q pi → ka q pi) → cg_E kd pa pb pc nn N d C O BD BT nb m md t pl w pi p ka
def cw_P (kd pa pb pc nn lo sz : Nat → Nat) (N : Nat → Int32) (d t : Nat) : Prop :=
  ∀ md i F G W H pl w pi p k0, md < 2 → t < sz d → rc_S F G d ((md, t, 0) :: W) H pl w pi p k0 → td_R kd pa pb pc nn lo sz N d G → kt_R kd pa pb pc lo sz N d G → cw_b lo d t i W H pl w pi p k0 →
    cw_O kd pa pb pc nn lo sz N d md t i F G W H pl w pi p k0
section
variable {kd pa pb pc nn lo sz : Nat → Nat} {N : Nat → Int32} {d md t i : Nat} {F : Nat → Int32} {G : Nat → Nat → Int32} {W : List (Nat × Nat × Nat)} {H : List Nat} {pl : Nat → Nat} {w pi p k0 : Nat}
/-- VALUE or FINAL -/
theorem cw_beg {F' : Nat → Int32} {G' : Nat → Nat → Int32} (S : rc_S F G d ((md, t, 0) :: W) H pl w pi p k0) (hm : md < 2) (hW : W.length < 96) (hi : i < 96)
    (h : ∀ Q : SX → Prop, Q (xs_mk F' G') → wpX_begin Q (xs_mk (upd F 5 (nI W.length)) G) (nI t) (nI md)) : ew_go i F G (i + 1) F' G' := by
  obtain ⟨w1, w2, w3, _⟩ := S.2.2.1
  obtain rfl | rfl : md = 0 ∨ md = 1 := by omega
  · exact ew_step hi S.2.1 (by omega) (fun post q => xw_0 S.2.1 hW w1 w2 w3 h q)
  · exact ew_step hi S.2.1 (by omega) (fun post q => xw_1 S.2.1 hW w1 w2 w3 h q)
theorem cw_app {F' : Nat → Int32} {G' : Nat → Nat → Int32} (S : rc_S F G d ((9 + md, t, 0) :: W) H pl w pi p k0) (hm : md < 2) (hW : W.length < 96) (hi : i < 96)
    (h : ∀ Q : SX → Prop, Q (xs_mk F' G') → wpX_apply Q (xs_mk (upd F 5 (nI W.length)) G) (nI t) (nI md)) : ew_go i F G (i + 1) F' G' := by
  obtain ⟨w1, w2, w3, _⟩ := S.2.2.1
  obtain rfl | rfl : md = 0 ∨ md = 1 := by omega
  · exact ew_step hi S.2.1 (by omega) (fun post q => xw_9 S.2.1 hW w1 w2 w3 h q)
  · exact ew_step hi S.2.1 (by omega) (fun post q => xw_10 S.2.1 hW w1 w2 w3 h q)
theorem cx_W {n x p k0 : Nat} {F : Nat → Int32} {G : Nat → Nat → Int32} : cx_O F G (upd F 5 (nI n)) G p p k0 k0 := cx_F (by decide) (by decide)
theorem cw_tdx {F' : Nat → Int32} {G' : Nat → Nat → Int32} {q k1 : Nat} (h : td_R kd pa pb pc nn lo sz N d G) (x : cx_O F G F' G' p q k0 k1) : td_R kd pa pb pc nn lo sz N d G' := td_x h fun k hk => x.1.2 k (Or.inl hk)
theorem cw_ktx {F' : Nat → Int32} {G' : Nat → Nat → Int32} {q k1 : Nat} (h : kt_R kd pa pb pc lo sz N d G) (x : cx_O F G F' G' p q k0 k1) : kt_R kd pa pb pc lo sz N d G' := kt_x h fun k hk => x.1.2 k (Or.inl hk)
theorem cw_s1 (td : td_R kd pa pb pc nn lo sz N d G) (ht : t < sz d) : 1 ≤ sZ lo d t := by
  have := (td t ht).1.2.1
  dsimp only at this
  unfold sZ; omega
/-- sizes of parts -/
theorem cw_sb (td : td_R kd pa pb pc nn lo sz N d G) (ht : t < sz d) (hk : kd (12 * d + t) ≤ 6) : pa (12 * d + t) < t ∧ pb (12 * d + t) < t ∧ sZ lo d t = 1 + sZ lo d (pa (12 * d + t)) + sZ lo d (pb (12 * d + t)) ∧ 1 ≤ sZ lo d (pa (12 * d + t)) ∧ 1 ≤ sZ lo d (pb (12 * d + t)) := by
  have h0 := (td t ht).1.2.1
  have h1 := (td t ht).1.2.2.2.2.1 hk
  dsimp only at h0 h1
  have hb2 := (td (pb (12 * d + t)) (by omega)).1.2.1
  have ha2 := (td (pa (12 * d + t)) (by omega)).1.2.1
  dsimp only at ha2 hb2
  unfold sZ; omega
theorem cw_su (td : td_R kd pa pb pc nn lo sz N d G) (ht : t < sz d) (hk : kd (12 * d + t) = 7 ∨ kd (12 * d + t) = 8 ∨ kd (12 * d + t) = 9) : pa (12 * d + t) < t ∧ sZ lo d t = 1 + sZ lo d (pa (12 * d + t)) ∧ 1 ≤ sZ lo d (pa (12 * d + t)) := by
  have h0 := (td t ht).1.2.1
  have h1 := (td t ht).1.2.2.2.1 hk
  dsimp only at h0 h1
  have ha2 := (td (pa (12 * d + t)) (by omega)).1.2.1
  dsimp only at ha2
  unfold sZ; omega
theorem cw_sc (td : td_R kd pa pb pc nn lo sz N d G) (ht : t < sz d) (hk : kd (12 * d + t) = 10) : pa (12 * d + t) < t ∧ pb (12 * d + t) < t ∧ pc (12 * d + t) < t ∧ sZ lo d t = 1 + sZ lo d (pa (12 * d + t)) + sZ lo d (pb (12 * d + t)) + sZ lo d (pc (12 * d + t)) ∧ 1 ≤ sZ lo d (pa (12 * d + t)) ∧ 1 ≤ sZ lo d (pb (12 * d + t)) ∧ 1 ≤ sZ lo d (pc (12 * d + t)) := by
  have h0 := (td t ht).1.2.1
  have h1 := (td t ht).1.2.2.2.2.2.1 hk
  dsimp only at h0 h1
  have hc2 := (td (pc (12 * d + t)) (by omega)).1.2.1
  have hb2 := (td (pb (12 * d + t)) (by omega)).1.2.1
  have ha2 := (td (pa (12 * d + t)) (by omega)).1.2.1
  dsimp only at ha2 hb2 hc2
  unfold sZ; omega
/-- terms that are one instruction -/
theorem cw_leaf (hd : d < 16) (hsz : sz d ≤ 12) (hm : md < 2) (ht : t < sz d) (S : rc_S F G d ((md, t, 0) :: W) H pl w pi p k0) (td : td_R kd pa pb pc nn lo sz N d G) (kt : kt_R kd pa pb pc lo sz N d G) (hb : cw_b lo d t i W H pl w pi p k0)
    (hl : ¬ G 8 t = 0 ∨ kd (12 * d + t) = 12) : cw_O kd pa pb pc nn lo sz N d md t i F G W H pl w pi p k0 := by
  obtain ⟨h1, h2, h3, h4, h5, h6, h7, h8⟩ := hb
  obtain ⟨_, ⟨x1, x2, x3, x4, x5, x6, x7, x8, x9, x10⟩⟩ := td t ht
  have hs1 := cw_s1 td ht
  rcases kt t ht with ⟨z, zk⟩ | ⟨z, s, q1, q2, q3⟩
  · rcases hl with hl | hl
    · exact absurd z hl
    · rw [hl] at x1
      obtain ⟨F', G', q, po, a1, a2, a3, a4, a5, a6, a7⟩ := rg_var (md := md) (rp_pop S) hd (by omega) x1 z (x5.trans (x6 (by omega))) ((td t ht).1.2.2.2.2.2.2.1 hl) hm (by omega) (by omega)
      refine ⟨i + 1, F', G', w + 1, po, q, [], cw_beg S hm (by omega) (by omega) a1, a2, cx_tr (cx_W (x := 0)) a3, by omega, ⟨fun _ => rfl, by omega⟩, ⟨a6, by omega⟩, by simp only [bs_n]; omega, by simp only [bh_n, List.length_nil]; omega, trivial, ?_⟩
      intro C O BD BT nb hc _ _ m hm' ka k1 k2
      obtain ⟨m, rfl⟩ : ∃ m', m = m' + 1 := ⟨m - 1, by omega⟩
      obtain ⟨e1, e2, e3⟩ := a7 C O hc ka k1 k2
      exact ⟨by omega, Or.inr (Or.inl ⟨hl, e1, e2, e3⟩)⟩
  · obtain ⟨F', G', q, po, a1, a2, a3, a4, a5, a6, a7⟩ := rg_known (md := md) (v := G 9 t) (rp_pop S) hd (by omega) x1 z q2 rfl hm (by omega) (by omega)
    refine ⟨i + 1, F', G', w + 1, po, q, [], cw_beg S hm (by omega) (by omega) a1, a2, cx_tr (cx_W (x := 0)) a3, by omega, ⟨fun _ => rfl, by omega⟩, ⟨a6, by omega⟩, by simp only [bs_n]; omega, by simp only [bh_n, List.length_nil]; omega, trivial, ?_⟩
    intro C O BD BT nb hc _ _ m hm' ka k1 k2
    obtain ⟨m, rfl⟩ : ∃ m', m = m' + 1 := ⟨m - 1, by omega⟩
    obtain ⟨e1, e2, e3⟩ := a7 C O hc ka k1 k2
    exact ⟨by omega, Or.inl ⟨_, s, q1 12 (by omega), by omega, e1, e2, e3⟩⟩
end
end
section
section
variable {kd pa pb pc nn lo sz : Nat → Nat} {N : Nat → Int32} {d md t i : Nat} {F : Nat → Int32} {G : Nat → Nat → Int32} {W : List (Nat × Nat × Nat)} {H : List Nat} {pl : Nat → Nat} {w pi p k0 : Nat}
/-- before the instruction of a term with two parts -/
theorem cw_b2 (ih : ∀ x, x < t → cw_P kd pa pb pc nn lo sz N d x) (hd : d < 16) (hsz : sz d ≤ 12) (hm : md < 2) (ht : t < sz d) (S : rc_S F G d ((md, t, 0) :: W) H pl w pi p k0) (td : td_R kd pa pb pc nn lo sz N d G) (kt : kt_R kd pa pb pc lo sz N d G) (hb : cw_b lo d t i W H pl w pi p k0)
    (hn : G 8 t = 0) (hk : kd (12 * d + t) ≤ 3 ∨ kd (12 * d + t) = 6) :
    ∃ i' F' G' po q bl, ew_go i F G i' F' G' ∧ rc_S F' G' d ((9 + md, t, 0) :: W) H pl (w + 1 + 1) po q (k0 + bl.length) ∧ cx_O F G F' G' p q k0 (k0 + bl.length) ∧ i' + 3 ≤ i + 4 * sZ lo d t ∧ po ≤ pi + sZ lo d t
      ∧ q + 3 * bs_n lo d bl + 7 ≤ p + 3 * sZ lo d t ∧ bl.length + bh_n lo d bl ≤ (sZ lo d t - 1) / 2 ∧ bk_R kd G' d (sz d) bl k0
      ∧ ∀ (C O BD BT : Nat → Int32) (nb : Nat), ag_c C O G' p q → ag_b BD BT G' k0 (k0 + bl.length) → k0 + bl.length ≤ nb → ∀ m, t ≤ m → ∀ ka : Nat → Nat → Prop, ka q po → cg_E kd pa pb pc nn N d C O BD BT nb m 0 (pa (12 * d + t)) pl w (pi + 1) p (fun p1 pi1 => cg_E kd pa pb pc nn N d C O BD BT nb m 0 (pb (12 * d + t)) pl (w + 1) pi1 p1 ka) := by
  obtain ⟨h1, h2, h3, h4, h5, h6, h7, h8⟩ := hb
  obtain ⟨_, ⟨x1, x2, x3, x4, x5, x6, x7, x8, x9, x10⟩⟩ := td t ht
  have sz1 := cw_sb td ht (by omega)
  have lt1 : t < 12 := by omega
  clear x4 x5 x6 x7 x10
  obtain ⟨F1, G1, a1, a2, a3⟩ := rg_oth (md := md) (rp_pop S) hd (by omega) x1 (by omega) (by omega) hn x2 x8 x3 x9 hm (by omega)
  rw [if_pos hk] at a2
  have y1 : cx_O F G F1 G1 p p k0 k0 := cx_tr (cx_W (n := W.length) (x := 0)) (cz_x a3)
  have td1 := cw_tdx td y1
  have kt1 := cw_ktx kt y1
  have A := ih (pa (12 * d + t)) (by omega) 0 (i + 1) F1 G1 _ H pl w (pi + 1) p k0 (by omega) (by omega) a2 td1 kt1 ⟨by simp only [List.length_cons]; omega, by omega, by omega, by omega, by omega, by omega, by omega, h8⟩
  obtain ⟨i2, F2, G2, w2, po2, p2, bl2, b1, b2, b3, b4, ⟨b5, _⟩, ⟨_, b6⟩, b7, b8, b9, b10⟩ := A
  obtain rfl := b5 rfl
  have B := ih (pb (12 * d + t)) (by omega) 0 i2 F2 G2 _ H pl (w + 1) po2 p2 _ (by omega) (by omega) b2 (cw_tdx td1 b3) (cw_ktx kt1 b3) ⟨by simp only [List.length_cons]; omega, by omega, by omega, by omega, by omega, by omega, by omega, fun v hv => by have := h8 v hv; omega⟩
  obtain ⟨i3, F3, G3, w3, po3, p3, bl3, d1, d2, d3, d4, ⟨d5, _⟩, ⟨_, d6⟩, d7, d8, d9, d10⟩ := B
  obtain rfl := d5 rfl
  have hlen : (bl2 ++ bl3).length = bl2.length + bl3.length := List.length_append
  have hkk : k0 + bl2.length + bl3.length = k0 + (bl2 ++ bl3).length := by rw [hlen]; omega
  have d3' := d3
  rw [hkk] at d2 d3'
  refine ⟨i3, F3, G3, po3, p3, bl2 ++ bl3, ew_tr (cw_beg S hm (by omega) (by omega) a1) (ew_tr b1 d1), d2, cx_tr y1 (cx_tr b3 d3'), by omega, by omega, by rw [bs_app]; omega, by rw [hlen, bh_app]; omega, ?_, ?_⟩
  · exact bk_app _ _ _ (bk_x bl2 k0 (fun b hb => d3.2.2.1 b hb) b9) d9
  · intro C O BD BT nb hc hbl hnb m hm' ka k1
    rw [← hkk] at hbl hnb
    refine b10 C O BD BT nb (ag_cl hc d3) (ag_bl hbl d3) (by omega) m (by omega) _ (fun _ => ?_) (fun z => absurd z (by omega))
    exact d10 C O BD BT nb (ag_cr hc b3.2.2.2.1) (ag_br hbl (by omega)) hnb m (by omega) _ (fun _ => k1) (fun z => absurd z (by omega))
theorem cw_ari (ih : ∀ x, x < t → cw_P kd pa pb pc nn lo sz N d x) (hd : d < 16) (hsz : sz d ≤ 12) (hm : md < 2) (ht : t < sz d) (S : rc_S F G d ((md, t, 0) :: W) H pl w pi p k0) (td : td_R kd pa pb pc nn lo sz N d G) (kt : kt_R kd pa pb pc lo sz N d G) (hb : cw_b lo d t i W H pl w pi p k0)
    (hn : G 8 t = 0) (hk : kd (12 * d + t) ≤ 3) : cw_O kd pa pb pc nn lo sz N d md t i F G W H pl w pi p k0 := by
  obtain ⟨i3, F3, G3, po3, p3, bl, d1, d2, d3, d4, d5, d6, d7, d8, d9⟩ := cw_b2 ih hd hsz hm ht S td kt hb hn (Or.inl hk)
  have hs1 := cw_s1 td ht
  obtain ⟨h1, h2, h3, h4, h5, h6, h7, h8⟩ := hb
  have kx := (cw_tdx td d3 t ht).2.1
  obtain ⟨F4, G4, q, po, e1, e2, e3, e4, e5, e6, e7⟩ := rq_ari (md := md) (rp_pop d2) hd (by omega) kx hk hm (by omega) (by omega)
  have y4 : cx_O F3 G3 F4 G4 p3 q _ _ := cx_tr (cx_W (n := W.length) (x := 0)) e3
  refine ⟨i3 + 1, F4, G4, w + 1, po, q, bl, ew_tr d1 (cw_app d2 hm (by omega) (by omega) e1), e2, cx_tr d3 y4, by omega, ⟨fun _ => rfl, by omega⟩, ⟨e6, by omega⟩, by omega, d7, bk_x bl k0 (fun b hb => y4.2.2.1 b hb) d8, ?_⟩
  intro C O BD BT nb hc hbl hnb m hm' ka k1 k2
  obtain ⟨m, rfl⟩ : ∃ m', m = m' + 1 := ⟨m - 1, by omega⟩
  obtain ⟨f1, f2⟩ := e7 C O (ag_cr hc d3.2.2.2.1) ka k1 k2
  refine ⟨by omega, Or.inr (Or.inr (Or.inr ⟨by omega, ?_⟩))⟩
  refine cg_Emono _ _ _ _ _ _ _ _ _ (fun q' pi' hq => Or.inl ⟨Or.inl hk, hq⟩) (d9 C O BD BT nb (ag_cl hc y4) (ag_bl hbl y4) hnb m (by omega) _ ?_)
  exact Or.inl ⟨hk, f1, f2⟩
theorem cw_res (ih : ∀ x, x < t → cw_P kd pa pb pc nn lo sz N d x) (hd : d < 16) (hsz : sz d ≤ 12) (hm : md < 2) (ht : t < sz d) (S : rc_S F G d ((md, t, 0) :: W) H pl w pi p k0) (td : td_R kd pa pb pc nn lo sz N d G) (kt : kt_R kd pa pb pc lo sz N d G) (hb : cw_b lo d t i W H pl w pi p k0)
    (hn : G 8 t = 0) (hk : kd (12 * d + t) = 6) : cw_O kd pa pb pc nn lo sz N d md t i F G W H pl w pi p k0 := by
  obtain ⟨i3, F3, G3, po3, p3, bl, d1, d2, d3, d4, d5, d6, d7, d8, d9⟩ := cw_b2 ih hd hsz hm ht S td kt hb hn (Or.inr hk)
  have hs1 := cw_s1 td ht
  obtain ⟨h1, h2, h3, h4, h5, h6, h7, h8⟩ := hb
  have kx := (cw_tdx td d3 t ht).2.1
  rw [hk] at kx
  obtain ⟨F4, G4, p4, e1, e2, e3, e4, e5⟩ := rq_res (md := md) (rp_pop d2) hd (by omega) kx hm (by omega) (by omega)
  have y4 : cx_O F3 G3 F4 G4 p3 (p4 + 1) _ _ := cx_tr (cx_W (n := W.length) (x := 0)) e3
  refine ⟨i3 + 1, F4, G4, w + 1, 0, p4 + 1, bl, ew_tr d1 (cw_app d2 hm (by omega) (by omega) e1), e2, cx_tr d3 y4, by omega, ⟨fun _ => rfl, by omega⟩, ⟨fun _ => rfl, by omega⟩, by omega, d7, bk_x bl k0 (fun b hb => y4.2.2.1 b hb) d8, ?_⟩
  intro C O BD BT nb hc hbl hnb m hm' ka k1 k2
  obtain ⟨m, rfl⟩ : ∃ m', m = m' + 1 := ⟨m - 1, by omega⟩
  obtain ⟨f1, f2⟩ := e5 C O (ag_cr hc d3.2.2.2.1)
  refine ⟨by omega, Or.inr (Or.inr (Or.inr ⟨by omega, ?_⟩))⟩
  refine cg_Emono _ _ _ _ _ _ _ _ _ (fun q' pi' hq => Or.inl ⟨Or.inr hk, hq⟩) (d9 C O BD BT nb (ag_cl hc y4) (ag_bl hbl y4) hnb m (by omega) _ ?_)
  refine Or.inr ⟨hk, p4, f1, ?_, k1⟩
  obtain rfl | rfl : md = 0 ∨ md = 1 := by omega
  · exact f2
  · exact f2
/-- before the instruction of a term with one part (a handle's body comes in a block of its own) -/
theorem cw_b1 (ih : ∀ x, x < t → cw_P kd pa pb pc nn lo sz N d x) (hd : d < 16) (hsz : sz d ≤ 12) (hm : md < 2) (ht : t < sz d) (S : rc_S F G d ((md, t, 0) :: W) H pl w pi p k0) (td : td_R kd pa pb pc nn lo sz N d G) (kt : kt_R kd pa pb pc lo sz N d G) (hb : cw_b lo d t i W H pl w pi p k0)
    (hn : G 8 t = 0) (hk : kd (12 * d + t) = 5 ∨ kd (12 * d + t) = 7 ∨ kd (12 * d + t) = 8 ∨ kd (12 * d + t) = 9) (z : Nat) (hz : z = if kd (12 * d + t) = 5 then sZ lo d (pb (12 * d + t)) else 0) :
    ∃ i' F' G' po q bl, ew_go i F G i' F' G' ∧ rc_S F' G' d ((9 + md, t, 0) :: W) H pl (w + 1) po q (k0 + bl.length) ∧ cx_O F G F' G' p q k0 (k0 + bl.length) ∧ i' + 3 ≤ i + 4 * sZ lo d t ∧ po ≤ pi + sZ lo d t
      ∧ q + 3 * bs_n lo d bl + 3 * z + 5 ≤ p + 3 * sZ lo d t ∧ 2 * (bl.length + bh_n lo d bl) + z + 2 ≤ sZ lo d t ∧ (sZ lo d (pa (12 * d + t)) - 1) / 2 + z + 2 ≤ sZ lo d t ∧ bl.length + bh_n lo d bl ≤ (sZ lo d (pa (12 * d + t)) - 1) / 2 ∧ bk_R kd G' d (sz d) bl k0
      ∧ ∀ (C O BD BT : Nat → Int32) (nb : Nat), ag_c C O G' p q → ag_b BD BT G' k0 (k0 + bl.length) → k0 + bl.length ≤ nb → ∀ m, t ≤ m → ∀ ka : Nat → Nat → Prop, ka q po → cg_E kd pa pb pc nn N d C O BD BT nb m 0 (pa (12 * d + t)) pl w (pi + 1) p ka := by
  obtain ⟨h1, h2, h3, h4, h5, h6, h7, h8⟩ := hb
  obtain ⟨_, ⟨x1, x2, x3, x4, x5, x6, x7, x8, x9, x10⟩⟩ := td t ht
  have lt1 : pa (12 * d + t) < t ∧ t < 12 ∧ sZ lo d t = 1 + sZ lo d (pa (12 * d + t)) + z ∧ 1 ≤ sZ lo d (pa (12 * d + t)) := by
    clear h8 x6
    by_cases z5 : kd (12 * d + t) = 5
    · rw [if_pos z5] at hz
      have := cw_sb td ht (by omega)
      omega
    · rw [if_neg z5] at hz
      have := cw_su td ht (by omega)
      omega
  clear x4 x5 x6 x7 x10 hz
  obtain ⟨F1, G1, a1, a2, a3⟩ := rg_oth (md := md) (rp_pop S) hd (by omega) x1 (by omega) (by omega) hn x2 x8 x3 x9 hm (by omega)
  rw [if_neg (by omega)] at a2
  have y1 : cx_O F G F1 G1 p p k0 k0 := cx_tr (cx_W (n := W.length) (x := 0)) (cz_x a3)
  have td1 := cw_tdx td y1
  have kt1 := cw_ktx kt y1
  have A := ih (pa (12 * d + t)) (by omega) 0 (i + 1) F1 G1 _ H pl w (pi + 1) p k0 (by omega) (by omega) a2 td1 kt1 ⟨by simp only [List.length_cons]; omega, by omega, by omega, by omega, by omega, by omega, by omega, h8⟩
  obtain ⟨i2, F2, G2, w2, po2, p2, bl2, b1, b2, b3, b4, ⟨b5, _⟩, ⟨_, b6⟩, b7, b8, b9, b10⟩ := A
  obtain rfl := b5 rfl
  refine ⟨i2, F2, G2, po2, p2, bl2, ew_tr (cw_beg S hm (by omega) (by omega) a1) b1, b2, cx_tr y1 b3, by omega, by omega, by omega, by omega, by omega, b8, b9, ?_⟩
  intro C O BD BT nb hc hbl hnb m hm' ka k1
  exact b10 C O BD BT nb hc hbl hnb m (by omega) _ (fun _ => k1) (fun z => absurd z (by omega))
theorem cw_put (ih : ∀ x, x < t → cw_P kd pa pb pc nn lo sz N d x) (hd : d < 16) (hsz : sz d ≤ 12) (hm : md < 2) (ht : t < sz d) (S : rc_S F G d ((md, t, 0) :: W) H pl w pi p k0) (td : td_R kd pa pb pc nn lo sz N d G) (kt : kt_R kd pa pb pc lo sz N d G) (hb : cw_b lo d t i W H pl w pi p k0)
    (hn : G 8 t = 0) (hk : kd (12 * d + t) = 7) : cw_O kd pa pb pc nn lo sz N d md t i F G W H pl w pi p k0 := by
  obtain ⟨i3, F3, G3, po3, p3, bl, d1, d2, d3, d4, d5, d6, d7, d7', d7'', d8, d9⟩ := cw_b1 ih hd hsz hm ht S td kt hb hn (by omega) 0 (by rw [if_neg (by omega)])
  have hs1 := cw_s1 td ht
  obtain ⟨h1, h2, h3, h4, h5, h6, h7, h8⟩ := hb
  have kx := (cw_tdx td d3 t ht).2.1
  rw [hk] at kx
  obtain ⟨F4, G4, q, po, p2, e1, e2, e3, e4, e5, e6, e7⟩ := rq_put (md := md) (rp_pop d2) hd (by omega) kx hm (by omega) (by omega)
  have y4 : cx_O F3 G3 F4 G4 p3 q _ _ := cx_tr (cx_W (n := W.length) (x := 0)) e3
  refine ⟨i3 + 1, F4, G4, w + 1, po, q, bl, ew_tr d1 (cw_app d2 hm (by omega) (by omega) e1), e2, cx_tr d3 y4, by omega, ⟨fun _ => rfl, by omega⟩, ⟨e6, by omega⟩, by omega, by omega, bk_x bl k0 (fun b hb => y4.2.2.1 b hb) d8, ?_⟩
  intro C O BD BT nb hc hbl hnb m hm' ka k1 k2
  obtain ⟨m, rfl⟩ : ∃ m', m = m' + 1 := ⟨m - 1, by omega⟩
  obtain ⟨f1, f2, f3⟩ := e7 C O (ag_cr hc d3.2.2.2.1) ka k1 k2
  refine ⟨by omega, Or.inr (Or.inr (Or.inr ⟨by omega, ?_⟩))⟩
  refine d9 C O BD BT nb (ag_cl hc y4) (ag_bl hbl y4) hnb m (by omega) _ ?_
  exact Or.inr (Or.inr (Or.inr (Or.inl ⟨hk, p2, f1, f2, f3⟩)))
theorem cw_cp (ih : ∀ x, x < t → cw_P kd pa pb pc nn lo sz N d x) (hd : d < 16) (hsz : sz d ≤ 12) (hm : md < 2) (ht : t < sz d) (S : rc_S F G d ((md, t, 0) :: W) H pl w pi p k0) (td : td_R kd pa pb pc nn lo sz N d G) (kt : kt_R kd pa pb pc lo sz N d G) (hb : cw_b lo d t i W H pl w pi p k0)
    (hn : G 8 t = 0) (hk : kd (12 * d + t) = 8 ∨ kd (12 * d + t) = 9) : cw_O kd pa pb pc nn lo sz N d md t i F G W H pl w pi p k0 := by
  obtain ⟨i3, F3, G3, po3, p3, bl, d1, d2, d3, d4, d5, d6, d7, d7', d7'', d8, d9⟩ := cw_b1 ih hd hsz hm ht S td kt hb hn (by omega) 0 (by rw [if_neg (by omega)])
  have hs1 := cw_s1 td ht
  obtain ⟨h1, h2, h3, h4, h5, h6, h7, h8⟩ := hb
  obtain ⟨_, kx, _, _, _, nx, nx', _⟩ := cw_tdx td d3 t ht
  obtain ⟨F4, G4, p2, e1, e2, e3, e4, e5⟩ := rq_cp (md := md) (e := if kd (12 * d + t) = 9 then po3 + 1 else po3) (rp_pop d2) hd (by omega) kx hk (nx.trans (nx' (by omega))) hm (by omega) (by omega) rfl
  have y4 : cx_O F3 G3 F4 G4 p3 (p2 + 1) _ _ := cx_tr (cx_W (n := W.length) (x := 0)) e3
  refine ⟨i3 + 1, F4, G4, w + 1, 0, p2 + 1, bl, ew_tr d1 (cw_app d2 hm (by omega) (by omega) e1), e2, cx_tr d3 y4, by omega, ⟨fun _ => rfl, by omega⟩, ⟨fun _ => rfl, by omega⟩, by omega, by omega, bk_x bl k0 (fun b hb => y4.2.2.1 b hb) d8, ?_⟩
  intro C O BD BT nb hc hbl hnb m hm' ka k1 k2
  obtain ⟨m, rfl⟩ : ∃ m', m = m' + 1 := ⟨m - 1, by omega⟩
  obtain ⟨f1, f2, f3⟩ := e5 C O (ag_cr hc d3.2.2.2.1)
  refine ⟨by omega, Or.inr (Or.inr (Or.inr ⟨by omega, ?_⟩))⟩
  refine d9 C O BD BT nb (ag_cl hc y4) (ag_bl hbl y4) hnb m (by omega) _ ?_
  rcases hk with hk | hk
  · rw [if_neg (by omega)] at f1
    refine Or.inr (Or.inr (Or.inr (Or.inr (Or.inl ⟨hk, p2, f1, ?_, f3, k1⟩))))
    rw [hk] at f2
    obtain rfl | rfl : md = 0 ∨ md = 1 := by omega
    · exact f2
    · exact f2
  · rw [if_pos hk] at f1
    refine Or.inr (Or.inr (Or.inr (Or.inr (Or.inr (Or.inl ⟨hk, p2, f1, ?_, f3, k1⟩)))))
    rw [hk] at f2
    obtain rfl | rfl : md = 0 ∨ md = 1 := by omega
    · exact f2
    · exact f2
theorem cw_han (ih : ∀ x, x < t → cw_P kd pa pb pc nn lo sz N d x) (hd : d < 16) (hsz : sz d ≤ 12) (hm : md < 2) (ht : t < sz d) (S : rc_S F G d ((md, t, 0) :: W) H pl w pi p k0) (td : td_R kd pa pb pc nn lo sz N d G) (kt : kt_R kd pa pb pc lo sz N d G) (hb : cw_b lo d t i W H pl w pi p k0)
    (hn : G 8 t = 0) (hk : kd (12 * d + t) = 5) : cw_O kd pa pb pc nn lo sz N d md t i F G W H pl w pi p k0 := by
  obtain ⟨i3, F3, G3, po3, p3, bl, d1, d2, d3, d4, d5, d6, d7, d7', d7'', d8, d9⟩ := cw_b1 ih hd hsz hm ht S td kt hb hn (by omega) (sZ lo d (pb (12 * d + t))) (by rw [if_pos hk])
  have hs1 := cw_s1 td ht
  obtain ⟨h1, h2, h3, h4, h5, h6, h7, h8⟩ := hb
  obtain ⟨_, kx, _, bx, _, nx, nx', _, _, bx', _⟩ := cw_tdx td d3 t ht
  have l11 := (td t ht).1.2.2.2.2.2.2.2.2.2.2 hk
  have sz1 := cw_sb td ht (by omega)
  have hbs : pb (12 * d + t) < sz d := by omega
  rw [hk] at kx
  obtain ⟨F4, G4, p2, e1, e2, e3, e4, e4', e4'', e5⟩ := rq_han (md := md) (rp_pop d2) hd (by omega) kx (nx.trans (nx' (by omega))) l11 bx bx' hm (by omega) (by omega) (by omega) (fun u hu => by have := h8 u hu; omega)
  have hlen : (bl ++ [pb (12 * d + t)]).length = bl.length + 1 := by simp
  have y4 : cx_O F3 G3 F4 G4 p3 (p2 + 1) (k0 + bl.length) (k0 + (bl ++ [pb (12 * d + t)]).length) := by rw [hlen]; exact cx_tr (cx_W (n := W.length) (x := 0)) e3
  refine ⟨i3 + 1, F4, G4, w + 1, 0, p2 + 1, bl ++ [pb (12 * d + t)], ew_tr d1 (cw_app d2 hm (by omega) (by omega) e1), by rw [hlen]; exact e2, cx_tr d3 y4, by omega, ⟨fun _ => rfl, by omega⟩, ⟨fun _ => rfl, by omega⟩, ?_, ?_, ?_, ?_⟩
  · rw [bs_app]; simp only [bs_n]; omega
  · rw [hlen, bh_app]; simp only [bh_n]; omega
  · exact bk_app _ _ _ (bk_x bl k0 (fun b hb => y4.2.2.1 b hb) d8) ⟨e4', e4'', hbs, ⟨t, ht, hk⟩, trivial⟩
  · intro C O BD BT nb hc hbl hnb m hm' ka k1 k2
    obtain ⟨m, rfl⟩ : ∃ m', m = m' + 1 := ⟨m - 1, by omega⟩
    obtain ⟨f1, f2, f3⟩ := e5 C O (ag_cr hc d3.2.2.2.1)
    rw [hlen] at hnb hbl
    obtain ⟨g1, g2⟩ := hbl (k0 + bl.length) (by omega) (by omega)
    refine ⟨by omega, Or.inr (Or.inr (Or.inr ⟨by omega, ?_⟩))⟩
    refine d9 C O BD BT nb (ag_cl hc y4) (fun b z1 z2 => by rw [(hbl b z1 (by omega)).1, (hbl b z1 (by omega)).2]; exact y4.2.2.1 b z2) (by omega) m (by omega) _ ?_
    refine Or.inr (Or.inr (Or.inr (Or.inr (Or.inr (Or.inr ⟨hk, p2, k0 + bl.length, f1, ?_, by omega, by omega, g1.trans e4', g2.trans e4'', f3, k1⟩)))))
    obtain rfl | rfl : md = 0 ∨ md = 1 := by omega
    · exact f2
    · exact f2
end
end
section
section
variable {kd pa pb pc nn lo sz : Nat → Nat} {N : Nat → Int32} {d md t i : Nat} {F : Nat → Int32} {G : Nat → Nat → Int32} {W : List (Nat × Nat × Nat)} {H : List Nat} {pl : Nat → Nat} {w pi p k0 : Nat}
theorem cw_let (ih : ∀ x, x < t → cw_P kd pa pb pc nn lo sz N d x) (hd : d < 16) (hsz : sz d ≤ 12) (hm : md < 2) (ht : t < sz d) (S : rc_S F G d ((md, t, 0) :: W) H pl w pi p k0) (td : td_R kd pa pb pc nn lo sz N d G) (kt : kt_R kd pa pb pc lo sz N d G) (hb : cw_b lo d t i W H pl w pi p k0)
    (hn : G 8 t = 0) (hk : kd (12 * d + t) = 4) : cw_O kd pa pb pc nn lo sz N d md t i F G W H pl w pi p k0 := by
  obtain ⟨h1, h2, h3, h4, h5, h6, h7, h8⟩ := hb
  obtain ⟨_, ⟨x1, x2, x3, x4, x5, x6, x7, x8, x9, x10⟩⟩ := td t ht
  have hv := (td t ht).1.2.2.2.2.2.2.2.2.2.1 hk
  have hnum := x5.trans (x6 (by omega))
  dsimp only at hv
  have sz1 := cw_sb td ht (by omega)
  have lt1 : t < 12 := by omega
  rw [hk] at x1
  clear x4 x5 x6 x7 x10
  have hplv := h8 _ hv
  obtain ⟨F1, G1, a1, a2, a3⟩ := rg_let (md := md) (rp_pop S) hd (by omega) x1 hn hnum hv x2 x8 x3 x9 (by omega) hm (by omega)
  have y1 : cx_O F G F1 G1 p p k0 k0 := cx_tr (cx_W (n := W.length) (x := 0)) (cz_x a3)
  have td1 := cw_tdx td y1
  have kt1 := cw_ktx kt y1
  have A := ih (pa (12 * d + t)) (by omega) 0 (i + 1) F1 G1 _ H pl w (pi + 1) p k0 (by omega) (by omega) a2 td1 kt1 ⟨by simp only [List.length_cons]; omega, by omega, by omega, by omega, by omega, by omega, by omega, h8⟩
  obtain ⟨i2, F2, G2, w2, po2, p2, bl2, b1, b2, b3, b4, ⟨b5, _⟩, ⟨_, b6⟩, b7, b8, b9, b10⟩ := A
  obtain rfl := b5 rfl
  -- the variable
  have S3 : rc_S (upd F2 5 (nI ((md, pb (12 * d + t), 0) :: (3 + md, t, nn (12 * d + t) + 4 * pl (nn (12 * d + t))) :: W).length)) (uu_G G2 20 (upd (G2 20) (nn (12 * d + t)) (nI w))) d ((md, pb (12 * d + t), 0) :: (3 + md, t, nn (12 * d + t) + 4 * pl (nn (12 * d + t))) :: W) H (cg_pl pl (nn (12 * d + t)) w) (w + 1) po2 p2 (k0 + bl2.length) := rp_place (rp_pop b2)
  have g3 : ew_go i2 F2 G2 (i2 + 1) _ _ := ew_step (by omega) b2.2.1 (by simp only [List.length_cons]; omega) (fun post q => xw_2 b2.2.1 (by simp only [List.length_cons]; omega) b2.2.2.1.1 b2.2.2.1.2.1 b2.2.2.1.2.2.1 hv b2.2.2.2.1 (by omega) q)
  have y3 : cx_O F2 G2 (upd F2 5 (nI ((md, pb (12 * d + t), 0) :: (3 + md, t, nn (12 * d + t) + 4 * pl (nn (12 * d + t))) :: W).length)) (uu_G G2 20 (upd (G2 20) (nn (12 * d + t)) (nI w))) p2 p2 (k0 + bl2.length) (k0 + bl2.length) := cx_sm (fun k hk => pk_un (by omega)) (fun k hk => uu_Gn (by omega))
  have td2 := cw_tdx (cw_tdx td1 b3) y3
  have kt2 := cw_ktx (cw_ktx kt1 b3) y3
  have B := ih (pb (12 * d + t)) (by omega) md (i2 + 1) _ _ _ H (cg_pl pl (nn (12 * d + t)) w) (w + 1) po2 p2 _ hm (by omega) S3 td2 kt2 ⟨by simp only [List.length_cons]; omega, by omega, by omega, by omega, by omega, by omega, by omega, fun v hv => by have := h8 v hv; unfold cg_pl; split <;> omega⟩
  obtain ⟨i4, F4, G4, w4, po4, p4, bl4, d1, d2, d3, d4, ⟨d5, d5'⟩, ⟨d6', d6⟩, d7, d8, d9, d10⟩ := B
  have hlen : (bl2 ++ bl4).length = bl2.length + bl4.length := List.length_append
  have hkk : k0 + bl2.length + bl4.length = k0 + (bl2 ++ bl4).length := by rw [hlen]; omega
  have hpl' : ∀ v, v < 3 → pl v = cg_pl (cg_pl pl (nn (12 * d + t)) w) (nn (12 * d + t)) (pl (nn (12 * d + t))) v := fun v _ => by
    by_cases z : v = nn (12 * d + t)
    · rw [z, cg_ps]
    · rw [cg_pn z, cg_pn z]
  obtain ⟨q1, q2, q3, _⟩ := d2.2.2.1
  obtain rfl | rfl : md = 0 ∨ md = 1 := by omega
  · obtain rfl := d5 rfl
    obtain ⟨F5, G5, e1, e2, e3, e4⟩ := rg_unb (v := nn (12 * d + t)) (x := pl (nn (12 * d + t))) (rp_pop d2) hv (by omega) (by omega) (by omega)
    have y5 : cx_O F4 G4 F5 G5 p4 (p4 + 1) _ _ := cx_tr (cx_W (n := W.length) (x := 0)) e3
    have g5 : ew_go i4 F4 G4 (i4 + 1) F5 G5 := ew_step (by omega) d2.2.1 (by omega) (fun post q => xw_3 d2.2.1 (by omega) q1 q2 q3 e1 q)
    have e2' := rp_plx e2 hpl'
    rw [hkk] at e2'
    have d3' := d3
    rw [hkk] at d3' y5
    refine ⟨i4 + 1, F5, G5, _, po4, p4 + 1, bl2 ++ bl4, ew_tr (cw_beg S hm (by omega) (by omega) a1) (ew_tr b1 (ew_tr g3 (ew_tr d1 g5))), e2', cx_tr y1 (cx_tr b3 (cx_tr y3 (cx_tr d3' y5))), by omega, ⟨fun _ => by omega, by omega⟩, ⟨fun z => absurd z (by omega), by omega⟩, by rw [bs_app]; omega, by rw [hlen, bh_app]; omega, ?_, ?_⟩
    · refine bk_app _ _ _ (bk_x bl2 k0 (fun b hb => ?_) b9) (bk_x bl4 _ (fun b hb => y5.2.2.1 b (by omega)) d9)
      rw [(y5.2.2.1 b (by omega)).1, (y5.2.2.1 b (by omega)).2, (d3.2.2.1 b hb).1, (d3.2.2.1 b hb).2]; exact ⟨rfl, rfl⟩
    · intro C O BD BT nb hc hbl hnb m hm' ka k1 k2
      obtain ⟨m, rfl⟩ : ∃ m', m = m' + 1 := ⟨m - 1, by omega⟩
      have zz := b3.2.2.2.1
      have zz2 := d3.2.2.2.1
      have f6 := e4 C O (ag_cr hc (by omega))
      have hbl4 : ag_b BD BT G4 k0 (k0 + bl2.length + bl4.length) := fun b z1 z2 => by
        rw [(hbl b z1 (by omega)).1, (hbl b z1 (by omega)).2]; exact y5.2.2.1 b (by omega)
      have hc4 : ag_c C O G4 p p4 := ag_cl hc y5
      have hb3 : ag_b BD BT (uu_G G2 20 (upd (G2 20) (nn (12 * d + t)) (nI w))) k0 (k0 + bl2.length) := ag_bl hbl4 d3
      have hc3 : ag_c C O (uu_G G2 20 (upd (G2 20) (nn (12 * d + t)) (nI w))) p p2 := ag_cl hc4 d3
      refine ⟨by omega, Or.inr (Or.inr (Or.inr ⟨by omega, ?_⟩))⟩
      refine b10 C O BD BT nb hc3 hb3 (by omega) m (by omega) _ (fun _ => ?_) (fun z => absurd z (by omega))
      refine Or.inr (Or.inl ⟨hk, ?_⟩)
      exact d10 C O BD BT nb (ag_cr hc4 zz) (ag_br hbl4 (by omega)) (by omega) m (by omega) _ (fun _ => Or.inr ⟨rfl, f6, k1 rfl⟩) (fun z => absurd z (by omega))
  · obtain rfl := d6' rfl
    obtain ⟨F5, G5, e1, e2, e3⟩ := rg_rel (v := nn (12 * d + t)) (x := pl (nn (12 * d + t))) (rp_pop d2) hv (by omega)
    have y5 : cx_O F4 G4 F5 G5 p4 p4 _ _ := cx_tr (cx_W (n := W.length) (x := 0)) (cz_x (nb := k0 + bl2.length + bl4.length) e3)
    have g5 : ew_go i4 F4 G4 (i4 + 1) F5 G5 := ew_step (by omega) d2.2.1 (by omega) (fun post q => xw_4 d2.2.1 (by omega) q1 q2 q3 e1 q)
    have e2' := rp_plx e2 hpl'
    rw [hkk] at e2'
    have d3' := d3
    rw [hkk] at d3' y5
    refine ⟨i4 + 1, F5, G5, w4, 0, p4, bl2 ++ bl4, ew_tr (cw_beg S hm (by omega) (by omega) a1) (ew_tr b1 (ew_tr g3 (ew_tr d1 g5))), e2', cx_tr y1 (cx_tr b3 (cx_tr y3 (cx_tr d3' y5))), by omega, ⟨fun z => absurd z (by omega), d5'⟩, ⟨fun _ => rfl, by omega⟩, by rw [bs_app]; omega, by rw [hlen, bh_app]; omega, ?_, ?_⟩
    · refine bk_app _ _ _ (bk_x bl2 k0 (fun b hb => ?_) b9) (bk_x bl4 _ (fun b hb => y5.2.2.1 b (by omega)) d9)
      rw [(y5.2.2.1 b (by omega)).1, (y5.2.2.1 b (by omega)).2, (d3.2.2.1 b hb).1, (d3.2.2.1 b hb).2]; exact ⟨rfl, rfl⟩
    · intro C O BD BT nb hc hbl hnb m hm' ka k1 k2
      obtain ⟨m, rfl⟩ : ∃ m', m = m' + 1 := ⟨m - 1, by omega⟩
      have zz := b3.2.2.2.1
      have hbl4 : ag_b BD BT G4 k0 (k0 + bl2.length + bl4.length) := fun b z1 z2 => by
        rw [(hbl b z1 (by omega)).1, (hbl b z1 (by omega)).2]; exact y5.2.2.1 b (by omega)
      have hc4 : ag_c C O G4 p p4 := ag_cl hc y5
      have hb3 : ag_b BD BT (uu_G G2 20 (upd (G2 20) (nn (12 * d + t)) (nI w))) k0 (k0 + bl2.length) := ag_bl hbl4 d3
      have hc3 : ag_c C O (uu_G G2 20 (upd (G2 20) (nn (12 * d + t)) (nI w))) p p2 := ag_cl hc4 d3
      refine ⟨by omega, Or.inr (Or.inr (Or.inr ⟨by omega, ?_⟩))⟩
      refine b10 C O BD BT nb hc3 hb3 (by omega) m (by omega) _ (fun _ => ?_) (fun z => absurd z (by omega))
      refine Or.inr (Or.inl ⟨hk, ?_⟩)
      exact d10 C O BD BT nb (ag_cr hc4 zz) (ag_br hbl4 (by omega)) (by omega) m (by omega) _ (fun z => absurd z (by omega)) (fun _ q' pi' hq => Or.inl ⟨by omega, k2 rfl q' pi' hq⟩)
/-- a choose by a known term -/
theorem cw_chk (ih : ∀ x, x < t → cw_P kd pa pb pc nn lo sz N d x) (hd : d < 16) (hsz : sz d ≤ 12) (hm : md < 2) (ht : t < sz d) (S : rc_S F G d ((md, t, 0) :: W) H pl w pi p k0) (td : td_R kd pa pb pc nn lo sz N d G) (kt : kt_R kd pa pb pc lo sz N d G) (hb : cw_b lo d t i W H pl w pi p k0)
    (hn : G 8 t = 0) (hk : kd (12 * d + t) = 10) (hka : ¬ G 8 (pa (12 * d + t)) = 0) : cw_O kd pa pb pc nn lo sz N d md t i F G W H pl w pi p k0 := by
  obtain ⟨h1, h2, h3, h4, h5, h6, h7, h8⟩ := hb
  obtain ⟨_, ⟨x1, x2, x3, x4, x5, x6, x7, x8, x9, x10⟩⟩ := td t ht
  have sz1 := cw_sc td ht hk
  have lt1 : t < 12 := by omega
  rw [hk] at x1
  clear x5 x6 x7
  rcases kt (pa (12 * d + t)) (by omega) with ⟨z, _⟩ | ⟨_, s, q1, q2, q3⟩
  · exact absurd z hka
  obtain ⟨F1, G1, a1, a2, a3⟩ := rg_chk (md := md) (v := G 9 (pa (12 * d + t))) (rp_pop S) hd (by omega) x1 hn x2 x8 x3 x9 x4 x10 hka q2 rfl hm (by omega)
  have y1 : cx_O F G F1 G1 p p k0 k0 := cx_tr (cx_W (n := W.length) (x := 0)) (cz_x a3)
  have hs : (if G 9 (pa (12 * d + t)) = 0 then pc (12 * d + t) else pb (12 * d + t)) < t ∧ sZ lo d (if G 9 (pa (12 * d + t)) = 0 then pc (12 * d + t) else pb (12 * d + t)) + sZ lo d (pa (12 * d + t)) + 2 ≤ sZ lo d t ∧ 1 ≤ sZ lo d (if G 9 (pa (12 * d + t)) = 0 then pc (12 * d + t) else pb (12 * d + t)) := by split <;> omega
  generalize hgx : (if G 9 (pa (12 * d + t)) = 0 then pc (12 * d + t) else pb (12 * d + t)) = x at *
  have B := ih x (by omega) md (i + 1) F1 G1 W H pl w (pi + 1 + s) p k0 hm (by omega) a2 (cw_tdx td y1) (cw_ktx kt y1) ⟨by omega, by omega, by omega, by omega, by omega, by omega, by omega, h8⟩
  obtain ⟨i4, F4, G4, w4, po4, p4, bl4, d1, d2, d3, d4, d5, ⟨d6', d6⟩, d7, d8, d9, d10⟩ := B
  refine ⟨i4, F4, G4, w4, po4, p4, bl4, ew_tr (cw_beg S hm (by omega) (by omega) a1) d1, d2, cx_tr y1 d3, by omega, d5, ⟨d6', by omega⟩, by omega, by omega, d9, ?_⟩
  intro C O BD BT nb hc hbl hnb m hm' ka k1 k2
  obtain ⟨m, rfl⟩ : ∃ m', m = m' + 1 := ⟨m - 1, by omega⟩
  refine ⟨by omega, Or.inr (Or.inr (Or.inl ⟨hk, _, s, q1 12 (by omega), by omega, ?_⟩))⟩
  rw [hgx]
  exact d10 C O BD BT nb hc hbl hnb m (by omega) _ k1 k2
end
end
section
section
variable {kd pa pb pc nn lo sz : Nat → Nat} {N : Nat → Int32} {d md t i : Nat} {F : Nat → Int32} {G : Nat → Nat → Int32} {W : List (Nat × Nat × Nat)} {H : List Nat} {pl : Nat → Nat} {w pi p k0 : Nat}
/-- a choose up to its first side -/
theorem cw_c1 (ih : ∀ x, x < t → cw_P kd pa pb pc nn lo sz N d x) (hd : d < 16) (hsz : sz d ≤ 12) (hm : md < 2) (ht : t < sz d) (S : rc_S F G d ((md, t, 0) :: W) H pl w pi p k0) (td : td_R kd pa pb pc nn lo sz N d G) (kt : kt_R kd pa pb pc lo sz N d G) (hb : cw_b lo d t i W H pl w pi p k0)
    (hn : G 8 t = 0) (hk : kd (12 * d + t) = 10) (hka : G 8 (pa (12 * d + t)) = 0) :
    ∃ i' F' G' w' po p2 q bl, ew_go i F G i' F' G' ∧ rc_S F' G' d ((6 + md, 0, w) :: (md, pc (12 * d + t), 0) :: (if md = 0 then (8, 0, 0) :: W else W)) (p2 :: H) pl w' po q (k0 + bl.length) ∧ cx_O F G F' G' p q k0 (k0 + bl.length) ∧ i' ≤ i + 2 + 4 * sZ lo d (pa (12 * d + t)) + 4 * sZ lo d (pb (12 * d + t))
      ∧ ((md = 0 → w' = w + 1) ∧ w' ≤ 12) ∧ ((md = 1 → po = 0) ∧ po ≤ sZ lo d (pb (12 * d + t))) ∧ p ≤ p2 ∧ p2 < q ∧ q + 3 * bs_n lo d bl + 2 ≤ p + 3 * sZ lo d (pa (12 * d + t)) + 3 * sZ lo d (pb (12 * d + t)) + 2 * md ∧ bl.length + bh_n lo d bl ≤ (sZ lo d (pa (12 * d + t)) - 1) / 2 + (sZ lo d (pb (12 * d + t)) - 1) / 2 ∧ bk_R kd G' d (sz d) bl k0
      ∧ ∀ (C O BD BT : Nat → Int32) (nb : Nat), (∀ j, p ≤ j → j < q → C j = G' 11 j ∧ (j ≠ p2 → O j = G' 12 j)) → ag_b BD BT G' k0 (k0 + bl.length) → k0 + bl.length ≤ nb → ∀ m, t ≤ m → ∀ (ka kb : Nat → Nat → Prop), (md = 0 → ka q po) → (md = 1 → ∀ q pi, ct_R C O q pi → ka q pi) →
          (∀ p1 pi1, cg_Fl C O pi1 p1 p2 → cg_at C p2 7 → cg_E kd pa pb pc nn N d C O BD BT nb m md (pb (12 * d + t)) pl w 0 (p2 + 1) ka → kb p1 pi1) → cg_E kd pa pb pc nn N d C O BD BT nb m 0 (pa (12 * d + t)) pl w (pi + 1) p kb := by
  obtain ⟨h1, h2, h3, h4, h5, h6, h7, h8⟩ := hb
  obtain ⟨_, ⟨x1, x2, x3, x4, x5, x6, x7, x8, x9, x10⟩⟩ := td t ht
  have sz1 := cw_sc td ht hk
  have lt1 : t < 12 := by omega
  rw [hk] at x1
  clear x5 x6 x7
  obtain ⟨F1, G1, a1, a2, a3⟩ := rg_cho (md := md) (rp_pop S) hd (by omega) x1 hn x2 x8 x3 x9 x4 x10 hka hm (by omega) (by omega)
  have hWl : (if md = 0 then (8, 0, 0) :: W else W).length ≤ W.length + 1 := by split <;> simp
  have y1 : cx_O F G F1 G1 p p k0 k0 := cx_tr (cx_W (n := W.length) (x := 0)) (cz_x a3)
  have td1 := cw_tdx td y1
  have kt1 := cw_ktx kt y1
  have A := ih (pa (12 * d + t)) (by omega) 0 (i + 1) F1 G1 _ H pl w (pi + 1) p k0 (by omega) (by omega) a2 td1 kt1 ⟨by simp only [List.length_cons]; omega, by omega, by omega, by omega, by omega, by omega, by omega, h8⟩
  obtain ⟨i2, F2, G2, w2, po2, p1, bl2, b1, b2, b3, b4, ⟨b5, _⟩, ⟨_, b6⟩, b7, b8, b9, b10⟩ := A
  obtain rfl := b5 rfl
  obtain ⟨F3, G3, p2, c1, c2, c3, c4, c5, c6, c7⟩ := rg_bra (rp_pop b2) (by omega) (by omega) (by omega) (by omega)
  rw [Nat.add_sub_cancel] at c2
  have g3 : ew_go i2 F2 G2 (i2 + 1) F3 G3 := ew_step (by omega) b2.2.1 (by simp only [List.length_cons]; omega) (fun post q => xw_5 b2.2.1 (by simp only [List.length_cons]; omega) b2.2.2.1.1 b2.2.2.1.2.1 b2.2.2.1.2.2.1 c1 q)
  have y3 : cx_O F2 G2 F3 G3 p1 (p2 + 1) (k0 + bl2.length) (k0 + bl2.length) := cx_tr (cx_sm (fun k hk => pk_un (by omega)) (fun _ _ => rfl)) c3
  have td2 := cw_tdx (cw_tdx td1 b3) y3
  have kt2 := cw_ktx (cw_ktx kt1 b3) y3
  have B := ih (pb (12 * d + t)) (by omega) md (i2 + 1) F3 G3 _ (p2 :: H) pl w 0 (p2 + 1) _ hm (by omega) c2 td2 kt2 ⟨by simp only [List.length_cons]; omega, by simp only [List.length_cons]; omega, by omega, by omega, by omega, by omega, by omega, h8⟩
  obtain ⟨i4, F4, G4, w4, po4, p4, bl4, d1, d2, d3, d4, d5, ⟨d6', d6⟩, d7, d8, d9, d10⟩ := B
  have hlen : (bl2 ++ bl4).length = bl2.length + bl4.length := List.length_append
  have hkk : k0 + bl2.length + bl4.length = k0 + (bl2 ++ bl4).length := by rw [hlen]; omega
  have d3' := d3
  rw [hkk] at d3' d2
  have zz := b3.2.2.2.1
  have zz2 := d3.2.2.2.1
  refine ⟨i4, F4, G4, w4, po4, p2, p4, bl2 ++ bl4, ew_tr (cw_beg S hm (by omega) (by omega) a1) (ew_tr b1 (ew_tr g3 d1)), d2, cx_tr y1 (cx_tr b3 (cx_tr y3 d3')), by omega, d5, ⟨d6', by omega⟩, by omega, by omega, by rw [bs_app]; omega, by rw [hlen, bh_app]; omega, ?_, ?_⟩
  · exact bk_app _ _ _ (bk_x bl2 k0 (fun b hb => by rw [(d3.2.2.1 b hb).1, (d3.2.2.1 b hb).2]; exact y3.2.2.1 b hb) b9) d9
  · intro C O BD BT nb hc hbl hnb m hm' ka kb k1 k2 k3
    rw [← hkk] at hbl hnb
    have hbl3 : ag_b BD BT G3 k0 (k0 + bl2.length) := ag_bl hbl d3
    have hc3 : ag_c C O G3 p p2 := fun j z1 z2 => by
      obtain ⟨e1, e2⟩ := hc j z1 (by omega)
      obtain ⟨e3, e4⟩ := d3.2.1 j (by omega)
      exact ⟨e1.trans e3, (e2 (by omega)).trans e4⟩
    have hc2 : ag_c C O G2 p p1 := fun j z1 z2 => by
      obtain ⟨e1, e2⟩ := hc3 j z1 (by omega)
      obtain ⟨e3, e4⟩ := y3.2.1 j z2
      exact ⟨e1.trans e3, e2.trans e4⟩
    refine b10 C O BD BT nb hc2 (ag_bl hbl3 y3) (by omega) m (by omega) _ (fun _ => ?_) (fun z => absurd z (by omega))
    refine k3 p1 po2 (c7 C O (ag_cr hc3 zz)) ⟨by omega, ?_⟩ ?_
    · rw [(hc p2 (by omega) (by omega)).1, (d3.2.1 p2 (by omega)).1, c6]; rfl
    · refine d10 C O BD BT nb (fun j z1 z2 => ?_) (ag_br hbl (by omega)) hnb m (by omega) _ k1 k2
      obtain ⟨e1, e2⟩ := hc j (by omega) z2
      exact ⟨e1, e2 (by omega)⟩
theorem cw_ch0 (ih : ∀ x, x < t → cw_P kd pa pb pc nn lo sz N d x) (hd : d < 16) (hsz : sz d ≤ 12) (ht : t < sz d) (S : rc_S F G d ((0, t, 0) :: W) H pl w pi p k0) (td : td_R kd pa pb pc nn lo sz N d G) (kt : kt_R kd pa pb pc lo sz N d G) (hb : cw_b lo d t i W H pl w pi p k0)
    (hn : G 8 t = 0) (hk : kd (12 * d + t) = 10) (hka : G 8 (pa (12 * d + t)) = 0) : cw_O kd pa pb pc nn lo sz N d 0 t i F G W H pl w pi p k0 := by
  obtain ⟨i3, F3, G3, w3, po3, p2, p3, bl3, a1, a2, a3, a4, ⟨a5, _⟩, ⟨_, a6⟩, a7, a8, a9, a10, a11, a12⟩ := cw_c1 ih hd hsz (by omega) ht S td kt hb hn hk hka
  obtain rfl := a5 rfl
  obtain ⟨h1, h2, h3, h4, h5, h6, h7, h8⟩ := hb
  have sz1 := cw_sc td ht hk
  rw [if_pos rfl] at a2
  obtain ⟨F4, G4, p4, b1, b2, ⟨b3, b3', b3'', b3o, b3e⟩, b4, b5, b6, b7⟩ := rg_otw (w0 := w) (rp_pop a2) (by omega) (by omega) (by omega) a8
  have g4 : ew_go i3 F3 G3 (i3 + 1) F4 G4 := ew_step (by omega) a2.2.1 (by simp only [List.length_cons]; omega) (fun post q => xw_6 a2.2.1 (by simp only [List.length_cons]; omega) a2.2.2.1.1 a2.2.2.1.2.1 a2.2.2.1.2.2.1 b1 q)
  have td4 : td_R kd pa pb pc nn lo sz N d G4 := td_x (cw_tdx td a3) (fun k hk => b3.2 k (Or.inl hk))
  have kt4 : kt_R kd pa pb pc lo sz N d G4 := kt_x (cw_ktx kt a3) (fun k hk => b3.2 k (Or.inl hk))
  have B := ih (pc (12 * d + t)) (by omega) 0 (i3 + 1) F4 G4 _ (p4 :: H) pl w 0 (p4 + 1) _ (by omega) (by omega) b2 td4 kt4 ⟨by simp only [List.length_cons]; omega, by simp only [List.length_cons]; omega, by omega, by omega, by omega, by omega, by omega, h8⟩
  obtain ⟨i5, F5, G5, w5, po5, p5, bl5, d1, d2, d3, d4, ⟨d5, _⟩, ⟨_, d6⟩, d7, d8, d9, d10⟩ := B
  obtain rfl := d5 rfl
  obtain ⟨F6, G6, q, e1, e2, e3, e4, e5⟩ := rg_join d2 (by omega) (by omega) (by omega) (by omega)
  have zz := d3.2.2.2.1
  obtain ⟨f1, f2, f3, f4, f5⟩ := e3 (by omega)
  have g6 : ew_go i5 F5 G5 (i5 + 1) F6 G6 := ew_step (by omega) d2.2.1 (by omega) e1
  have hlen : (bl3 ++ bl5).length = bl3.length + bl5.length := List.length_append
  have hkk : k0 + bl3.length + bl5.length = k0 + (bl3 ++ bl5).length := by rw [hlen]; omega
  have zz3 := a3.2.2.2.1
  -- the code below the join
  have lw : ∀ j, j < p5 → G6 11 j = G5 11 j ∧ (j ≠ p4 → G6 12 j = G5 12 j) := f2
  have lw3 : ∀ j, j < p3 → G6 11 j = G3 11 j ∧ (j ≠ p2 → G6 12 j = G3 12 j) := fun j hj => by
    obtain ⟨r1, r2⟩ := f2 j (by omega)
    obtain ⟨r3, r4⟩ := d3.2.1 j (by omega)
    obtain ⟨r5, r6⟩ := b3' j hj
    exact ⟨r1.trans (r3.trans r5), fun z => (r2 (by omega)).trans (r4.trans (r6 z))⟩
  have bb : ∀ b, b < k0 + bl3.length → G6 13 b = G3 13 b ∧ G6 14 b = G3 14 b := fun b hb => by
    obtain ⟨r1, r2⟩ := f4 b (by omega)
    obtain ⟨r3, r4⟩ := d3.2.2.1 b hb
    obtain ⟨r5, r6⟩ := b3o b hb
    exact ⟨r1.trans (r3.trans r5), r2.trans (r4.trans r6)⟩
  rw [hkk] at e2
  refine ⟨i5 + 1, F6, G6, w + 1, 0, q, bl3 ++ bl5, ew_tr a1 (ew_tr g4 (ew_tr d1 g6)), e2, ⟨cc_tr a3.1 (cc_tr (cc_tr (cx_W (n := ((0, pc (12 * d + t), 0) :: (8, 0, 0) :: W).length) (x := 0) (p := 0) (k0 := 0)).1 b3) (cc_tr d3.1 f1)), fun j hj => ?_, fun b hb => ?_, by omega, by omega⟩, by omega, ⟨fun _ => rfl, by omega⟩, ⟨fun _ => rfl, by omega⟩, by rw [bs_app]; omega, by rw [hlen, bh_app]; omega, ?_, ?_⟩
  · obtain ⟨r1, r2⟩ := lw3 j (by omega)
    obtain ⟨r3, r4⟩ := a3.2.1 j hj
    exact ⟨r1.trans r3, (r2 (by omega)).trans r4⟩
  · obtain ⟨r1, r2⟩ := bb b (by omega)
    obtain ⟨r3, r4⟩ := a3.2.2.1 b hb
    exact ⟨r1.trans r3, r2.trans r4⟩
  · exact bk_app _ _ _ (bk_x bl3 k0 bb a11) (bk_x bl5 _ (fun b hb => f4 b hb) d9)
  · intro C O BD BT nb hc hbl hnb m hm' ka k1 k2
    obtain ⟨m, rfl⟩ : ∃ m', m = m' + 1 := ⟨m - 1, by omega⟩
    rw [← hkk] at hbl hnb
    have hc3 : ∀ j, p ≤ j → j < p3 → C j = G3 11 j ∧ (j ≠ p2 → O j = G3 12 j) := fun j z1 z2 => by
      obtain ⟨r1, r2⟩ := hc j z1 (by omega)
      obtain ⟨r3, r4⟩ := lw3 j z2
      exact ⟨r1.trans r3, fun z => r2.trans (r4 z)⟩
    have hb5 : ag_b BD BT G5 k0 (k0 + bl3.length + bl5.length) := fun b z1 z2 => by
      rw [(hbl b z1 z2).1, (hbl b z1 z2).2]; exact f4 b z2
    have hb3 : ag_b BD BT G3 k0 (k0 + bl3.length) := fun b z1 z2 => by
      rw [(hbl b z1 (by omega)).1, (hbl b z1 (by omega)).2]; exact bb b z2
    have hop2 : O p2 = nI (p4 + 1) := by
      rw [(hc p2 a7 (by omega)).2, (f2 p2 (by omega)).2 (by omega), (d3.2.1 p2 (by omega)).2, b3'']
    have hfl3 : cg_Fl C O po3 p3 p4 := b7 C O fun j z1 z2 => by
      obtain ⟨r1, r2⟩ := hc j (by omega) (by omega)
      obtain ⟨r3, r4⟩ := f2 j (by omega)
      obtain ⟨r5, r6⟩ := d3.2.1 j (by omega)
      exact ⟨r1.trans (r3.trans r5), r2.trans ((r4 (by omega)).trans r6)⟩
    have hj4 : cg_at C p4 8 := ⟨by omega, by rw [(hc p4 (by omega) (by omega)).1, (f2 p4 (by omega)).1, (d3.2.1 p4 (by omega)).1, b6]; rfl⟩
    have ho4 : O p4 = nI q := by rw [(hc p4 (by omega) (by omega)).2, f3]
    have hE2 : cg_E kd pa pb pc nn N d C O BD BT nb m 0 (pc (12 * d + t)) pl w 0 (p4 + 1) (fun p5 pi5 => (0 ≠ 0 ∧ ka p5 pi5) ∨ (0 = 0 ∧ ∃ q, cg_Fl C O pi5 p5 q ∧ ka q 0)) := by
      refine d10 C O BD BT nb (fun j z1 z2 => ?_) (ag_br hb5 (by omega)) hnb m (by omega) _ (fun _ => Or.inr ⟨rfl, q, e5 C O (by omega) (ag_cr hc (by omega)), k1 rfl⟩) (fun z => absurd z (by omega))
      obtain ⟨r1, r2⟩ := hc j (by omega) (by omega)
      obtain ⟨r3, r4⟩ := f2 j z2
      exact ⟨r1.trans r3, r2.trans (r4 (by omega))⟩
    refine ⟨by omega, Or.inr (Or.inr (Or.inr ⟨by omega, ?_⟩))⟩
    refine a12 C O BD BT nb hc3 hb3 (by omega) m (by omega) (fun p3 pi3 => (0 ≠ 0 ∧ ka p3 pi3) ∨ (0 = 0 ∧ ∃ p4 q, cg_Fl C O pi3 p3 p4 ∧ cg_at C p4 8 ∧ O p4 = nI q ∧ q < 1200 ∧ ka q 0)) _ (fun _ => Or.inr ⟨rfl, p4, q, hfl3, hj4, ho4, by omega, k1 rfl⟩) (fun z => absurd z (by omega)) (fun p1 pi1 g1 g2 g3 => ?_)
    exact Or.inr (Or.inr (Or.inl ⟨hk, p2, p4 + 1, g1, g2, hop2, by omega, g3, hE2⟩))
theorem cw_ch1 (ih : ∀ x, x < t → cw_P kd pa pb pc nn lo sz N d x) (hd : d < 16) (hsz : sz d ≤ 12) (ht : t < sz d) (S : rc_S F G d ((1, t, 0) :: W) H pl w pi p k0) (td : td_R kd pa pb pc nn lo sz N d G) (kt : kt_R kd pa pb pc lo sz N d G) (hb : cw_b lo d t i W H pl w pi p k0)
    (hn : G 8 t = 0) (hk : kd (12 * d + t) = 10) (hka : G 8 (pa (12 * d + t)) = 0) : cw_O kd pa pb pc nn lo sz N d 1 t i F G W H pl w pi p k0 := by
  obtain ⟨i3, F3, G3, w3, po3, p2, p3, bl3, a1, a2, a3, a4, _, ⟨a6, _⟩, a7, a8, a9, a10, a11, a12⟩ := cw_c1 ih hd hsz (by omega) ht S td kt hb hn hk hka
  obtain rfl := a6 rfl
  obtain ⟨h1, h2, h3, h4, h5, h6, h7, h8⟩ := hb
  have sz1 := cw_sc td ht hk
  rw [if_neg (by omega)] at a2
  obtain ⟨F4, G4, b1, b2, ⟨b3, b3', b3'', b3o, b3e⟩⟩ := rg_els (w0 := w) (rp_pop a2) (by omega)
  have g4 : ew_go i3 F3 G3 (i3 + 1) F4 G4 := ew_step (by omega) a2.2.1 (by simp only [List.length_cons]; omega) (fun post q => xw_7 a2.2.1 (by simp only [List.length_cons]; omega) a2.2.2.1.1 a2.2.2.1.2.1 a2.2.2.1.2.2.1 b1 q)
  have td4 : td_R kd pa pb pc nn lo sz N d G4 := td_x (cw_tdx td a3) (fun k hk => b3.2 k (Or.inl hk))
  have kt4 : kt_R kd pa pb pc lo sz N d G4 := kt_x (cw_ktx kt a3) (fun k hk => b3.2 k (Or.inl hk))
  have B := ih (pc (12 * d + t)) (by omega) 1 (i3 + 1) F4 G4 _ H pl w 0 p3 _ (by omega) (by omega) b2 td4 kt4 ⟨by omega, by omega, by omega, by omega, by omega, by omega, by omega, h8⟩
  obtain ⟨i5, F5, G5, w5, po5, p5, bl5, d1, d2, d3, d4, ⟨_, d5⟩, ⟨d6', d6⟩, d7, d8, d9, d10⟩ := B
  obtain rfl := d6' rfl
  have zz := d3.2.2.2.1
  have hlen : (bl3 ++ bl5).length = bl3.length + bl5.length := List.length_append
  have hkk : k0 + bl3.length + bl5.length = k0 + (bl3 ++ bl5).length := by rw [hlen]; omega
  have lw3 : ∀ j, j < p3 → G5 11 j = G3 11 j ∧ (j ≠ p2 → G5 12 j = G3 12 j) := fun j hj => by
    obtain ⟨r3, r4⟩ := d3.2.1 j hj
    obtain ⟨r5, r6⟩ := b3' j hj
    exact ⟨r3.trans r5, fun z => r4.trans (r6 z)⟩
  have bb : ∀ b, b < k0 + bl3.length → G5 13 b = G3 13 b ∧ G5 14 b = G3 14 b := fun b hb => by
    obtain ⟨r3, r4⟩ := d3.2.2.1 b hb
    obtain ⟨r5, r6⟩ := b3o b hb
    exact ⟨r3.trans r5, r4.trans r6⟩
  have zz3 := a3.2.2.2.1
  rw [hkk] at d2
  refine ⟨i5, F5, G5, w5, 0, p5, bl3 ++ bl5, ew_tr a1 (ew_tr g4 d1), d2, ⟨cc_tr a3.1 (cc_tr (cc_tr (cx_W (n := ((1, pc (12 * d + t), 0) :: W).length) (x := 0) (p := 0) (k0 := 0)).1 b3) d3.1), fun j hj => ?_, fun b hb => ?_, by omega, by omega⟩, by omega, ⟨fun z => absurd z (by omega), d5⟩, ⟨fun _ => rfl, by omega⟩, by rw [bs_app]; omega, by rw [hlen, bh_app]; omega, ?_, ?_⟩
  · obtain ⟨r1, r2⟩ := lw3 j (by omega)
    obtain ⟨r3, r4⟩ := a3.2.1 j hj
    exact ⟨r1.trans r3, (r2 (by omega)).trans r4⟩
  · obtain ⟨r1, r2⟩ := bb b (by omega)
    obtain ⟨r3, r4⟩ := a3.2.2.1 b hb
    exact ⟨r1.trans r3, r2.trans r4⟩
  · exact bk_app _ _ _ (bk_x bl3 k0 bb a11) d9
  · intro C O BD BT nb hc hbl hnb m hm' ka k1 k2
    obtain ⟨m, rfl⟩ : ∃ m', m = m' + 1 := ⟨m - 1, by omega⟩
    rw [← hkk] at hbl hnb
    have hc3 : ∀ j, p ≤ j → j < p3 → C j = G3 11 j ∧ (j ≠ p2 → O j = G3 12 j) := fun j z1 z2 => by
      obtain ⟨r1, r2⟩ := hc j z1 (by omega)
      obtain ⟨r3, r4⟩ := lw3 j z2
      exact ⟨r1.trans r3, fun z => r2.trans (r4 z)⟩
    have hb3 : ag_b BD BT G3 k0 (k0 + bl3.length) := fun b z1 z2 => by
      rw [(hbl b z1 (by omega)).1, (hbl b z1 (by omega)).2]; exact bb b z2
    have hop2 : O p2 = nI p3 := by
      rw [(hc p2 a7 (by omega)).2, (d3.2.1 p2 (by omega)).2, b3'']
    have hE2 : cg_E kd pa pb pc nn N d C O BD BT nb m 1 (pc (12 * d + t)) pl w 0 p3 (fun p5 pi5 => (1 ≠ 0 ∧ ka p5 pi5) ∨ (1 = 0 ∧ ∃ q, cg_Fl C O pi5 p5 q ∧ ka q 0)) :=
      d10 C O BD BT nb (ag_cr hc (by omega)) (ag_br hbl (by omega)) hnb m (by omega) _ (fun z => absurd z (by omega)) (fun _ q' pi' hq => Or.inl ⟨by omega, k2 rfl q' pi' hq⟩)
    refine ⟨by omega, Or.inr (Or.inr (Or.inr ⟨by omega, ?_⟩))⟩
    refine a12 C O BD BT nb hc3 hb3 (by omega) m (by omega) (fun p3 pi3 => (1 ≠ 0 ∧ ka p3 pi3) ∨ (1 = 0 ∧ ∃ p4 q, cg_Fl C O pi3 p3 p4 ∧ cg_at C p4 8 ∧ O p4 = nI q ∧ q < 1200 ∧ ka q 0)) _ (fun z => absurd z (by omega)) (fun _ q' pi' hq => Or.inl ⟨by omega, k2 rfl q' pi' hq⟩) (fun p1 pi1 g1 g2 g3 => ?_)
    exact Or.inr (Or.inr (Or.inl ⟨hk, p2, p3, g1, g2, hop2, by omega, g3, hE2⟩))
end
theorem cw_all {kd pa pb pc nn lo sz : Nat → Nat} {N : Nat → Int32} {d : Nat} (hd : d < 16) (hsz : sz d ≤ 12) : ∀ t, cw_P kd pa pb pc nn lo sz N d t := by
  intro t
  induction t using Nat.strongRecOn with
  | ind t ih =>
    intro md i F G W H pl w pi p k0 hm ht S td kt hb
    by_cases hn : G 8 t = 0
    · have k12 := (td t ht).1.1
      dsimp only at k12
      have k11 : kd (12 * d + t) ≠ 11 := by
        rcases kt t ht with ⟨_, z⟩ | ⟨z, _⟩
        · exact z
        · exact absurd hn z
      by_cases k12' : kd (12 * d + t) = 12
      · exact cw_leaf hd hsz hm ht S td kt hb (Or.inr k12')
      by_cases k10 : kd (12 * d + t) = 10
      · by_cases hka : G 8 (pa (12 * d + t)) = 0
        · obtain rfl | rfl : md = 0 ∨ md = 1 := by omega
          · exact cw_ch0 ih hd hsz ht S td kt hb hn k10 hka
          · exact cw_ch1 ih hd hsz ht S td kt hb hn k10 hka
        · exact cw_chk ih hd hsz hm ht S td kt hb hn k10 hka
      by_cases k4 : kd (12 * d + t) = 4
      · exact cw_let ih hd hsz hm ht S td kt hb hn k4
      by_cases k3 : kd (12 * d + t) ≤ 3
      · exact cw_ari ih hd hsz hm ht S td kt hb hn k3
      by_cases k5 : kd (12 * d + t) = 5
      · exact cw_han ih hd hsz hm ht S td kt hb hn k5
      by_cases k6 : kd (12 * d + t) = 6
      · exact cw_res ih hd hsz hm ht S td kt hb hn k6
      by_cases k7 : kd (12 * d + t) = 7
      · exact cw_put ih hd hsz hm ht S td kt hb hn k7
      · exact cw_cp ih hd hsz hm ht S td kt hb hn (by omega)
    · exact cw_leaf hd hsz hm ht S td kt hb (Or.inl hn)
end
section
/-! folding -/
def kt_1 (kd pa pb pc lo : Nat → Nat) (N : Nat → Int32) (d : Nat) (G : Nat → Nat → Int32) (t : Nat) : Prop :=
  (G 8 t = 0 ∧ kd (12 * d + t) ≠ 11) ∨ (¬ G 8 t = 0 ∧ ∃ s, (∀ n, t < n → kn_S kd pa pb pc N d n t (G 9 t) s) ∧ G 10 t = nI s ∧ s ≤ sZ lo d t)
def un_G (G : Nat → Nat → Int32) (t : Nat) : Nat → Nat → Int32 := uu_G G 8 (upd (G 8) t 0)
def se_G (G : Nat → Nat → Int32) (t : Nat) (v : Int32) (s : Nat) : Nat → Nat → Int32 := uu_G (uu_G (uu_G G 8 (upd (G 8) t 1)) 9 (upd (G 9) t v)) 10 (upd (G 10) t (nI s))
theorem xf_settle {F : Nat → Int32} {G : Nat → Nat → Int32} {t s : Nat} {v : Int32} {post : SX → Prop} (ht : t < 12) (hs : s < 128) (h : post (xs_mk F (se_G G t v s))) : wpX_settle post (xs_mk F G) (nI t) v (nI s) := by
  have vt : vp_in (nI t) 12 := vp_in_nI ht (by omega)
  have ct : (nI t).toNatClampNeg = t := nI_clamp (by omega)
  unfold wpX_settle
  rw [ct]
  exact ⟨vt, nm_r (e' := upd (G 8) t 1) rfl ⟨vt, nm_e ⟨vt, nm_r (e' := upd (G 10) t (nI s)) (by rw [uu_b8 hs, uu_nb hs]) h⟩⟩⟩
section
variable {kd pa pb pc nn lo sz : Nat → Nat} {N : Nat → Int32} {d t : Nat} {F : Nat → Int32} {G : Nat → Nat → Int32}
theorem kt_o {x : Nat} {G' : Nat → Nat → Int32} (h : kt_1 kd pa pb pc lo N d G x) (h1 : G' 8 x = G 8 x) (h2 : G' 9 x = G 9 x) (h3 : G' 10 x = G 10 x) : kt_1 kd pa pb pc lo N d G' x := by
  unfold kt_1 at h ⊢
  rw [h1, h2, h3]; exact h
theorem kf_0 (ki : ∀ x, x < t → kt_1 kd pa pb pc lo N d G x) (hk : kd (12 * d + t) ≠ 11) : ∀ x, x ≤ t → kt_1 kd pa pb pc lo N d (un_G G t) x := by
  intro x hx
  by_cases z : x = t
  · subst z; exact Or.inl ⟨pk_us, hk⟩
  · exact kt_o (ki x (by omega)) (pk_un z) rfl rfl
theorem kf_1 {v : Int32} {s : Nat} (ki : ∀ x, x < t → kt_1 kd pa pb pc lo N d G x) (h : ∀ n, t < n → kn_S kd pa pb pc N d n t v s) (hs : s ≤ sZ lo d t) : ∀ x, x ≤ t → kt_1 kd pa pb pc lo N d (se_G (un_G G t) t v s) x := by
  intro x hx
  by_cases z : x = t
  · subst z
    refine Or.inr ⟨?_, s, ?_, pk_us, hs⟩
    · rw [show se_G (un_G G x) x v s 8 x = 1 from pk_us]; decide
    · rw [show se_G (un_G G x) x v s 9 x = v from pk_us]; exact h
  · exact kt_o (ki x (by omega)) ((pk_un z).trans (pk_un z)) (pk_un z) (pk_un z)
theorem kf_u : ∀ k, k < 8 ∨ 10 < k → un_G G t k = G k := fun k hk => uu_Gn (by omega)
theorem kf_s {v : Int32} {s : Nat} : ∀ k, k < 8 ∨ 10 < k → se_G (un_G G t) t v s k = G k := fun k hk => by
  unfold se_G un_G
  rw [uu_Gn (by omega), uu_Gn (by omega), uu_Gn (by omega), uu_Gn (by omega)]
theorem xf_191 {post : SX → Prop} {x1 x2 x3 x4 x5 : Int32} (h : ¬ x3 = 10) (q : post (xs_mk F G)) : wX_fold_191 post x1 x2 x3 x4 x5 (F 0) (F 1) (F 2) (F 3) (F 4) (F 5) (F 6) (F 7) (F 8) (F 9) (F 10) (F 11) (F 12) (F 13) (F 14) (F 15) (F 16) (F 17) (F 18) (F 19) (F 20) (F 21) (F 22) (G 0) (G 1) (G 2) (G 3) (G 4) (G 5) (G 6) (G 7) (G 8) (G 9) (G 10) (G 11) (G 12) (G 13) (G 14) (G 15) (G 16) (G 17) (G 18) (G 19) (G 20) (G 21) (G 22) (G 23) (G 24) (G 25) (G 26) (G 27) (G 28) (G 29) (G 30) (G 31) (G 32) (G 33) (G 34) (G 35) (G 36) (G 37) (G 38) (G 39) (G 40) := by
  unfold wX_fold_191
  exact br_f h q
theorem xf_134 {post : SX → Prop} {x1 x2 x3 x4 x5 : Int32} (h4 : ¬ x3 = 4) (h : ¬ x3 = 10) (q : post (xs_mk F G)) : wX_fold_134 post x1 x2 x3 x4 x5 (F 0) (F 1) (F 2) (F 3) (F 4) (F 5) (F 6) (F 7) (F 8) (F 9) (F 10) (F 11) (F 12) (F 13) (F 14) (F 15) (F 16) (F 17) (F 18) (F 19) (F 20) (F 21) (F 22) (G 0) (G 1) (G 2) (G 3) (G 4) (G 5) (G 6) (G 7) (G 8) (G 9) (G 10) (G 11) (G 12) (G 13) (G 14) (G 15) (G 16) (G 17) (G 18) (G 19) (G 20) (G 21) (G 22) (G 23) (G 24) (G 25) (G 26) (G 27) (G 28) (G 29) (G 30) (G 31) (G 32) (G 33) (G 34) (G 35) (G 36) (G 37) (G 38) (G 39) (G 40) := by
  unfold wX_fold_134
  exact br_f h4 (xf_191 h q)
theorem xf_228 {post : SX → Prop} {a z : Nat} (ht : t < 12) (ha : a < 12) (hz : z < 12) (h1 : G 8 z = 0 → post (xs_mk F G)) (h2 : ¬ G 8 z = 0 → ∃ i j, i ≤ 12 ∧ j ≤ 12 ∧ G 10 a = nI i ∧ G 10 z = nI j ∧ post (xs_mk F (se_G G t (G 9 z) (1 + i + j)))) :
    wX_fold_228 post (nI t) (nI a) (nI z) (F 0) (F 1) (F 2) (F 3) (F 4) (F 5) (F 6) (F 7) (F 8) (F 9) (F 10) (F 11) (F 12) (F 13) (F 14) (F 15) (F 16) (F 17) (F 18) (F 19) (F 20) (F 21) (F 22) (G 0) (G 1) (G 2) (G 3) (G 4) (G 5) (G 6) (G 7) (G 8) (G 9) (G 10) (G 11) (G 12) (G 13) (G 14) (G 15) (G 16) (G 17) (G 18) (G 19) (G 20) (G 21) (G 22) (G 23) (G 24) (G 25) (G 26) (G 27) (G 28) (G 29) (G 30) (G 31) (G 32) (G 33) (G 34) (G 35) (G 36) (G 37) (G 38) (G 39) (G 40) := by
  have va : vp_in (nI a) 12 := vp_in_nI ha (by omega)
  have ca : (nI a).toNatClampNeg = a := nI_clamp (by omega)
  have vz : vp_in (nI z) 12 := vp_in_nI hz (by omega)
  have cz : (nI z).toNatClampNeg = z := nI_clamp (by omega)
  unfold wX_fold_228
  rw [ca, cz]
  refine ⟨vz, br_c h1 fun n => ⟨vz, va, vz, ?_⟩⟩
  obtain ⟨i, j, hi, hj, e1, e2, e3⟩ := h2 n
  rw [e1, e2, show (1 : Int32) = nI 1 from rfl, nI_add, nI_add]
  exact xf_settle (F := F) (G := G) ht (by omega) e3
theorem xf_comb {post : Int32 → Prop} {k : Nat} {x y : Int32} (hk : k ≤ 3) (h : post (kn_comb k x y)) : wpX_combined post (xs_mk F G) (nI k) x y := by
  unfold wpX_combined
  unfold kn_comb at h
  obtain rfl | rfl | rfl | rfl : k = 0 ∨ k = 1 ∨ k = 2 ∨ k = 3 := by omega
  · exact br_t rfl h
  · exact br_f (by decide) (br_t rfl h)
  · exact br_f (by decide) (br_f (by decide) (br_t rfl h))
  · refine br_f (by decide) (br_f (by decide) (br_f (by decide) (br_c (fun z => ?_) (fun z => ?_))))
    · rw [if_neg (by omega), if_neg (by omega), if_neg (by omega), if_pos z] at h; exact h
    · rw [if_neg (by omega), if_neg (by omega), if_neg (by omega), if_neg z] at h; exact h
theorem xf_fold (hsz : sz d ≤ 12) (hd : d < 16) (hD : F 6 = nI d) (td : td_R kd pa pb pc nn lo sz N d G) (ht : t < sz d) (ki : ∀ x, x < t → kt_1 kd pa pb pc lo N d G x) :
    ∃ G' : Nat → Nat → Int32, (∀ post : SX → Prop, post (xs_mk F G') → wpX_fold post (xs_mk F G) (nI t)) ∧ (∀ x, x ≤ t → kt_1 kd pa pb pc lo N d G' x) ∧ ∀ k, k < 8 ∨ 10 < k → G' k = G k := by
  obtain ⟨tm, ⟨x1, x2, x3, x4, x5, x6, x7, x8, x9, x10⟩⟩ := td t ht
  have k12 := tm.1
  dsimp only at k12
  clear tm x6 x7
  have lt1 : t < 12 := by omega
  have s12 : sZ lo d t ≤ 12 := by unfold sZ; omega
  have e3 : 12 * F 6 + nI t = nI (12 * d + t) := by rw [hD, uu_m12, nI_add]
  have v3 : vp_in (nI (12 * d + t)) 204 := vp_in_nI (by omega) (by omega)
  have c3 : (nI (12 * d + t)).toNatClampNeg = 12 * d + t := nI_clamp (by omega)
  have vt : vp_in (nI t) 12 := vp_in_nI lt1 (by omega)
  have ctt : (nI t).toNatClampNeg = t := nI_clamp (by omega)
  have va : vp_in (nI (pa (12 * d + t))) 12 := vp_in_nI x8 (by omega)
  have ca : (nI (pa (12 * d + t))).toNatClampNeg = pa (12 * d + t) := nI_clamp (by omega)
  have vb : vp_in (nI (pb (12 * d + t))) 12 := vp_in_nI x9 (by omega)
  have cb : (nI (pb (12 * d + t))).toNatClampNeg = pb (12 * d + t) := nI_clamp (by omega)
  have ne : ∀ {q : Nat}, q < 20 → kd (12 * d + t) ≠ q → ¬ nI (kd (12 * d + t)) = nI q := fun {q} h h' z => h' ((nI_eq (by omega) (by omega)).1 z)
  by_cases k11 : kd (12 * d + t) = 11
  · refine ⟨se_G (un_G G t) t (N (12 * d + t)) 1, ?_, kf_1 ki ?_ ?_, kf_s⟩
    · intro post q
      unfold wpX_fold
      refine nm_r e3 ?_
      rw [c3, ctt]
      refine ⟨v3, nm_r x1 ⟨v3, nm_r x2 ⟨v3, nm_r x3 ⟨vt, nm_r (e' := upd (G 8) t 0) rfl ?_⟩⟩⟩⟩
      refine br_t (by rw [k11]; rfl) ⟨v3, ?_⟩
      rw [show G 4 (12 * d + t) = N (12 * d + t) from x5]
      exact xf_settle (F := F) (G := un_G G t) (s := 1) lt1 (by omega) q
    · intro n hn
      obtain ⟨n, rfl⟩ : ∃ n', n = n' + 1 := ⟨n - 1, by omega⟩
      exact Or.inl ⟨k11, rfl, rfl⟩
    · exact cw_s1 td ht
  by_cases k3 : kd (12 * d + t) ≤ 3
  · obtain ⟨la, lb, hS, _, _⟩ := cw_sb td ht (by omega)
    have na : un_G G t 8 (pa (12 * d + t)) = G 8 (pa (12 * d + t)) := pk_un (by omega)
    have nb' : un_G G t 8 (pb (12 * d + t)) = G 8 (pb (12 * d + t)) := pk_un (by omega)
    by_cases ha : G 8 (pa (12 * d + t)) = 0
    · refine ⟨un_G G t, ?_, kf_0 ki k11, kf_u⟩
      intro post q
      unfold wpX_fold
      refine nm_r e3 ?_
      rw [c3, ctt]
      refine ⟨v3, nm_r x1 ⟨v3, nm_r x2 ⟨v3, nm_r x3 ⟨vt, nm_r (e' := upd (G 8) t 0) rfl ?_⟩⟩⟩⟩
      refine br_f (ne (q := 11) (by omega) k11) (br_f (nI_nlt (a := 3) (b := kd (12 * d + t)) k3 (by omega)) ?_)
      rw [ca]
      exact ⟨va, br_t (na.trans ha) (xf_134 (F := F) (G := un_G G t) (ne (q := 4) (by omega) (by omega)) (ne (q := 10) (by omega) (by omega)) q)⟩
    by_cases hb : G 8 (pb (12 * d + t)) = 0
    · refine ⟨un_G G t, ?_, kf_0 ki k11, kf_u⟩
      intro post q
      unfold wpX_fold
      refine nm_r e3 ?_
      rw [c3, ctt]
      refine ⟨v3, nm_r x1 ⟨v3, nm_r x2 ⟨v3, nm_r x3 ⟨vt, nm_r (e' := upd (G 8) t 0) rfl ?_⟩⟩⟩⟩
      refine br_f (ne (q := 11) (by omega) k11) (br_f (nI_nlt (a := 3) (b := kd (12 * d + t)) k3 (by omega)) ?_)
      rw [ca, cb]
      exact ⟨va, br_f (fun z => ha (na.symm.trans z)) ⟨vb, br_t (nb'.trans hb) (xf_134 (F := F) (G := un_G G t) (ne (q := 4) (by omega) (by omega)) (ne (q := 10) (by omega) (by omega)) q)⟩⟩
    rcases ki (pa (12 * d + t)) la with ⟨z, _⟩ | ⟨_, i, ha1, ha2, ha3⟩
    · exact absurd z ha
    rcases ki (pb (12 * d + t)) lb with ⟨z, _⟩ | ⟨_, j, hb1, hb2, hb3⟩
    · exact absurd z hb
    refine ⟨se_G (un_G G t) t (kn_comb (kd (12 * d + t)) (G 9 (pa (12 * d + t))) (G 9 (pb (12 * d + t)))) (1 + i + j), ?_, kf_1 ki ?_ (by omega), kf_s⟩
    · intro post q
      unfold wpX_fold
      refine nm_r e3 ?_
      rw [c3, ctt]
      refine ⟨v3, nm_r x1 ⟨v3, nm_r x2 ⟨v3, nm_r x3 ⟨vt, nm_r (e' := upd (G 8) t 0) rfl ?_⟩⟩⟩⟩
      refine br_f (ne (q := 11) (by omega) k11) (br_f (nI_nlt (a := 3) (b := kd (12 * d + t)) k3 (by omega)) ?_)
      rw [ca, cb]
      refine ⟨va, br_f (fun z => ha (na.symm.trans z)) ⟨vb, br_f (fun z => hb (nb'.symm.trans z)) ⟨va, vb, ?_⟩⟩⟩
      refine xf_comb (F := F) (G := un_G G t) k3 ⟨va, vb, ?_⟩
      rw [ha2, hb2, show (1 : Int32) = nI 1 from rfl, nI_add, nI_add]
      exact xf_settle (F := F) (G := un_G G t) lt1 (by omega) q
    · intro n hn
      obtain ⟨n, rfl⟩ : ∃ n', n = n' + 1 := ⟨n - 1, by omega⟩
      exact Or.inr (Or.inl ⟨k3, _, i, _, j, ha1 n (by omega), hb1 n (by omega), rfl, rfl⟩)
  have n3 : (3 : Int32) < nI (kd (12 * d + t)) := nI_lt (a := 3) (by omega) (by omega)
  by_cases k4 : kd (12 * d + t) = 4
  · obtain ⟨la, lb, hS, _, _⟩ := cw_sb td ht (by omega)
    have na : un_G G t 8 (pa (12 * d + t)) = G 8 (pa (12 * d + t)) := pk_un (by omega)
    have nb' : un_G G t 8 (pb (12 * d + t)) = G 8 (pb (12 * d + t)) := pk_un (by omega)
    by_cases ha : G 8 (pa (12 * d + t)) = 0
    · refine ⟨un_G G t, ?_, kf_0 ki k11, kf_u⟩
      intro post q
      unfold wpX_fold
      refine nm_r e3 ?_
      rw [c3, ctt]
      refine ⟨v3, nm_r x1 ⟨v3, nm_r x2 ⟨v3, nm_r x3 ⟨vt, nm_r (e' := upd (G 8) t 0) rfl ?_⟩⟩⟩⟩
      refine br_f (ne (q := 11) (by omega) k11) (br_t n3 ?_)
      unfold wX_fold_134
      rw [ca]
      exact br_t (by rw [k4]; rfl) ⟨va, br_t (na.trans ha) (xf_191 (F := F) (G := un_G G t) (ne (q := 10) (by omega) (by omega)) q)⟩
    by_cases hb : G 8 (pb (12 * d + t)) = 0
    · refine ⟨un_G G t, ?_, kf_0 ki k11, kf_u⟩
      intro post q
      unfold wpX_fold
      refine nm_r e3 ?_
      rw [c3, ctt]
      refine ⟨v3, nm_r x1 ⟨v3, nm_r x2 ⟨v3, nm_r x3 ⟨vt, nm_r (e' := upd (G 8) t 0) rfl ?_⟩⟩⟩⟩
      refine br_f (ne (q := 11) (by omega) k11) (br_t n3 ?_)
      unfold wX_fold_134
      rw [ca, cb]
      exact br_t (by rw [k4]; rfl) ⟨va, br_f (fun z => ha (na.symm.trans z)) ⟨vb, br_t (nb'.trans hb) (xf_191 (F := F) (G := un_G G t) (ne (q := 10) (by omega) (by omega)) q)⟩⟩
    rcases ki (pa (12 * d + t)) la with ⟨z, _⟩ | ⟨_, i, ha1, ha2, ha3⟩
    · exact absurd z ha
    rcases ki (pb (12 * d + t)) lb with ⟨z, _⟩ | ⟨_, j, hb1, hb2, hb3⟩
    · exact absurd z hb
    refine ⟨se_G (un_G G t) t (G 9 (pb (12 * d + t))) (1 + i + j), ?_, kf_1 ki ?_ (by omega), kf_s⟩
    · intro post q
      unfold wpX_fold
      refine nm_r e3 ?_
      rw [c3, ctt]
      refine ⟨v3, nm_r x1 ⟨v3, nm_r x2 ⟨v3, nm_r x3 ⟨vt, nm_r (e' := upd (G 8) t 0) rfl ?_⟩⟩⟩⟩
      refine br_f (ne (q := 11) (by omega) k11) (br_t n3 ?_)
      unfold wX_fold_134
      rw [ca, cb]
      refine br_t (by rw [k4]; rfl) ⟨va, br_f (fun z => ha (na.symm.trans z)) ⟨vb, br_f (fun z => hb (nb'.symm.trans z)) ⟨vb, va, vb, ?_⟩⟩⟩
      rw [ha2, hb2, show (1 : Int32) = nI 1 from rfl, nI_add, nI_add]
      exact xf_settle (F := F) (G := un_G G t) lt1 (by omega) q
    · intro n hn
      obtain ⟨n, rfl⟩ : ∃ n', n = n' + 1 := ⟨n - 1, by omega⟩
      exact Or.inr (Or.inr (Or.inl ⟨k4, _, i, j, ha1 n (by omega), hb1 n (by omega), rfl⟩))
  by_cases k10 : kd (12 * d + t) = 10
  · obtain ⟨la, lb, lc, hS, _, _, _⟩ := cw_sc td ht k10
    have na : un_G G t 8 (pa (12 * d + t)) = G 8 (pa (12 * d + t)) := pk_un (by omega)
    by_cases ha : G 8 (pa (12 * d + t)) = 0
    · refine ⟨un_G G t, ?_, kf_0 ki k11, kf_u⟩
      intro post q
      unfold wpX_fold
      refine nm_r e3 ?_
      rw [c3, ctt]
      refine ⟨v3, nm_r x1 ⟨v3, nm_r x2 ⟨v3, nm_r x3 ⟨vt, nm_r (e' := upd (G 8) t 0) rfl ?_⟩⟩⟩⟩
      refine br_f (ne (q := 11) (by omega) k11) (br_t n3 ?_)
      unfold wX_fold_134 wX_fold_191
      rw [ca]
      exact br_f (ne (q := 4) (by omega) k4) (br_t (by rw [k10]; rfl) ⟨va, br_t (na.trans ha) q⟩)
    rcases ki (pa (12 * d + t)) la with ⟨z, _⟩ | ⟨_, i, ha1, ha2, ha3⟩
    · exact absurd z ha
    have hz : ∃ z : Nat, (if G 9 (pa (12 * d + t)) = 0 then pc (12 * d + t) else pb (12 * d + t)) = z ∧ z < t ∧ z < 12 ∧ sZ lo d (pa (12 * d + t)) + sZ lo d z + 1 ≤ sZ lo d t := by
      by_cases h0 : G 9 (pa (12 * d + t)) = 0
      · exact ⟨pc (12 * d + t), if_pos h0, lc, x10, by omega⟩
      · exact ⟨pb (12 * d + t), if_neg h0, lb, x9, by omega⟩
    obtain ⟨z, hz, lz, z12, hSz⟩ := hz
    have nz : un_G G t 8 z = G 8 z := pk_un (by omega)
    have gen : ∀ post : SX → Prop, wX_fold_228 post (nI t) (nI (pa (12 * d + t))) (nI z) (F 0) (F 1) (F 2) (F 3) (F 4) (F 5) (F 6) (F 7) (F 8) (F 9) (F 10) (F 11) (F 12) (F 13) (F 14) (F 15) (F 16) (F 17) (F 18) (F 19) (F 20) (F 21) (F 22) (un_G G t 0) (un_G G t 1) (un_G G t 2) (un_G G t 3) (un_G G t 4) (un_G G t 5) (un_G G t 6) (un_G G t 7) (un_G G t 8) (un_G G t 9) (un_G G t 10) (un_G G t 11) (un_G G t 12) (un_G G t 13) (un_G G t 14) (un_G G t 15) (un_G G t 16) (un_G G t 17) (un_G G t 18) (un_G G t 19) (un_G G t 20) (un_G G t 21) (un_G G t 22) (un_G G t 23) (un_G G t 24) (un_G G t 25) (un_G G t 26) (un_G G t 27) (un_G G t 28) (un_G G t 29) (un_G G t 30) (un_G G t 31) (un_G G t 32) (un_G G t 33) (un_G G t 34) (un_G G t 35) (un_G G t 36) (un_G G t 37) (un_G G t 38) (un_G G t 39) (un_G G t 40) → wpX_fold post (xs_mk F G) (nI t) := by
      intro post q
      unfold wpX_fold
      refine nm_r e3 ?_
      rw [c3, ctt]
      refine ⟨v3, nm_r x1 ⟨v3, nm_r x2 ⟨v3, nm_r x3 ⟨vt, nm_r (e' := upd (G 8) t 0) rfl ?_⟩⟩⟩⟩
      refine br_f (ne (q := 11) (by omega) k11) (br_t n3 ?_)
      unfold wX_fold_134 wX_fold_191
      rw [ca, c3]
      refine br_f (ne (q := 4) (by omega) k4) (br_t (by rw [k10]; rfl) ⟨va, br_f (fun z => ha (na.symm.trans z)) ⟨va, ?_⟩⟩)
      by_cases h0 : G 9 (pa (12 * d + t)) = 0
      · refine br_t h0 ⟨v3, ?_⟩
        rw [if_pos h0] at hz
        rw [show G 3 (12 * d + t) = nI z by rw [← hz]; exact x4]
        exact q
      · refine br_f h0 ?_
        rw [if_neg h0] at hz
        rw [hz]
        exact q
    by_cases hk : G 8 z = 0
    · refine ⟨un_G G t, fun post q => gen post ?_, kf_0 ki k11, kf_u⟩
      exact xf_228 (F := F) (G := un_G G t) lt1 x8 z12 (fun _ => q) (fun n => absurd (nz.trans hk) n)
    · rcases ki z lz with ⟨n, _⟩ | ⟨_, j, hb1, hb2, hb3⟩
      · exact absurd n hk
      refine ⟨se_G (un_G G t) t (G 9 z) (1 + i + j), fun post q => gen post ?_, kf_1 ki ?_ (by omega), kf_s⟩
      · exact xf_228 (F := F) (G := un_G G t) lt1 x8 z12 (fun n => absurd (nz.symm.trans n) hk) (fun _ => ⟨i, j, by omega, by omega, ha2, hb2, q⟩)
      · intro n hn
        obtain ⟨n, rfl⟩ : ∃ n', n = n' + 1 := ⟨n - 1, by omega⟩
        refine Or.inr (Or.inr (Or.inr ⟨k10, _, i, j, ha1 n (by omega), ?_, rfl⟩))
        rw [hz]; exact hb1 n (by omega)
  · refine ⟨un_G G t, ?_, kf_0 ki k11, kf_u⟩
    intro post q
    unfold wpX_fold
    refine nm_r e3 ?_
    rw [c3, ctt]
    refine ⟨v3, nm_r x1 ⟨v3, nm_r x2 ⟨v3, nm_r x3 ⟨vt, nm_r (e' := upd (G 8) t 0) rfl ?_⟩⟩⟩⟩
    exact br_f (ne (q := 11) (by omega) k11) (br_t n3 (xf_134 (F := F) (G := un_G G t) (ne (q := 4) (by omega) k4) (ne (q := 10) (by omega) k10) q))
/-- all terms of a definition -/
theorem xf_all (hsz : sz d ≤ 12) (hd : d < 16) (hz : G 5 d = nI (sz d)) (td : td_R kd pa pb pc nn lo sz N d G) :
    ∃ G' : Nat → Nat → Int32, (∀ post : SX → Prop, post (xs_mk (upd F 6 (nI d)) G') → wpX_foldAll post (xs_mk F G) (nI d)) ∧ kt_R kd pa pb pc lo sz N d G' ∧ ∀ k, k < 8 ∨ 10 < k → G' k = G k := by
  have vd : vp_in (nI d) 16 := vp_in_nI hd (by omega)
  have cd : (nI d).toNatClampNeg = d := nI_clamp (by omega)
  have go : ∀ (r i : Nat) (G1 : Nat → Nat → Int32), i + r = sz d → (∀ k, k < 8 ∨ 10 < k → G1 k = G k) → (∀ x, x < i → kt_1 kd pa pb pc lo N d G1 x) →
      ∃ G' : Nat → Nat → Int32, (∀ post : SX → Prop, post (xs_mk (upd F 6 (nI d)) G') → wX_foldAll_7 post (nI d) (r + 1) (nI i) (upd F 6 (nI d) 0) (upd F 6 (nI d) 1) (upd F 6 (nI d) 2) (upd F 6 (nI d) 3) (upd F 6 (nI d) 4) (upd F 6 (nI d) 5) (upd F 6 (nI d) 6) (upd F 6 (nI d) 7) (upd F 6 (nI d) 8) (upd F 6 (nI d) 9) (upd F 6 (nI d) 10) (upd F 6 (nI d) 11) (upd F 6 (nI d) 12) (upd F 6 (nI d) 13) (upd F 6 (nI d) 14) (upd F 6 (nI d) 15) (upd F 6 (nI d) 16) (upd F 6 (nI d) 17) (upd F 6 (nI d) 18) (upd F 6 (nI d) 19) (upd F 6 (nI d) 20) (upd F 6 (nI d) 21) (upd F 6 (nI d) 22) (G1 0) (G1 1) (G1 2) (G1 3) (G1 4) (G1 5) (G1 6) (G1 7) (G1 8) (G1 9) (G1 10) (G1 11) (G1 12) (G1 13) (G1 14) (G1 15) (G1 16) (G1 17) (G1 18) (G1 19) (G1 20) (G1 21) (G1 22) (G1 23) (G1 24) (G1 25) (G1 26) (G1 27) (G1 28) (G1 29) (G1 30) (G1 31) (G1 32) (G1 33) (G1 34) (G1 35) (G1 36) (G1 37) (G1 38) (G1 39) (G1 40)) ∧ kt_R kd pa pb pc lo sz N d G' ∧ ∀ k, k < 8 ∨ 10 < k → G' k = G k := by
    intro r
    induction r with
    | zero =>
      intro i G1 hi hG ki
      refine ⟨G1, fun post q => ?_, fun t ht => ki t (by omega), hG⟩
      unfold wX_foldAll_7
      rw [cd]
      exact ⟨vd, br_t (by rw [hG 5 (by decide), hz]; exact nI_le (by omega) (by omega)) q⟩
    | succ r ih =>
      intro i G1 hi hG ki
      have td1 : td_R kd pa pb pc nn lo sz N d G1 := by
        intro t ht
        obtain ⟨a, b⟩ := td t ht
        refine ⟨a, ?_⟩
        unfold tx_R at b ⊢
        rw [hG 0 (by decide), hG 1 (by decide), hG 2 (by decide), hG 3 (by decide), hG 4 (by decide)]; exact b
      obtain ⟨G2, a1, a2, a3⟩ := xf_fold (F := upd F 6 (nI d)) (t := i) hsz hd rfl td1 (by omega) ki
      obtain ⟨G', b1, b2, b3⟩ := ih (i + 1) G2 (by omega) (fun k hk => (a3 k hk).trans (hG k hk)) (fun x hx => a2 x (by omega))
      refine ⟨G', fun post q => ?_, b2, b3⟩
      unfold wX_foldAll_7
      rw [cd]
      refine ⟨vd, br_f (by rw [hG 5 (by decide), hz]; exact nI_ge (by omega) (by omega)) ?_⟩
      exact a1 _ (nm_r (e' := nI (i + 1)) (nI_1 i) (b1 post q))
  obtain ⟨G', a1, a2, a3⟩ := go (sz d) 0 G (by omega) (fun _ _ => rfl) (fun x hx => absurd hx (by omega))
  exact ⟨G', fun post q => ⟨_, a1 post q⟩, a2, a3⟩
end
end
section
/-! a block; a clause that answers at once -/
theorem ss_1 {F : Nat → Int32} {G : Nat → Nat → Int32} {n v : Nat} {post : SX → Prop} (hv : v < 3) (h : wX_startBlock_27 post (F 0) (F 1) (F 2) (F 3) (F 4) (F 5) (F 6) (F 7) (F 8) (F 9) (F 10) (F 11) (F 12) (F 13) (F 14) (F 15) (F 16) (F 17) (F 18) (F 19) (F 20) (F 21) (F 22) n (nI (v + 1)) (uu_G G 20 (upd (G 20) v (nI v)) 0) (uu_G G 20 (upd (G 20) v (nI v)) 1) (uu_G G 20 (upd (G 20) v (nI v)) 2) (uu_G G 20 (upd (G 20) v (nI v)) 3) (uu_G G 20 (upd (G 20) v (nI v)) 4) (uu_G G 20 (upd (G 20) v (nI v)) 5) (uu_G G 20 (upd (G 20) v (nI v)) 6) (uu_G G 20 (upd (G 20) v (nI v)) 7) (uu_G G 20 (upd (G 20) v (nI v)) 8) (uu_G G 20 (upd (G 20) v (nI v)) 9) (uu_G G 20 (upd (G 20) v (nI v)) 10) (uu_G G 20 (upd (G 20) v (nI v)) 11) (uu_G G 20 (upd (G 20) v (nI v)) 12) (uu_G G 20 (upd (G 20) v (nI v)) 13) (uu_G G 20 (upd (G 20) v (nI v)) 14) (uu_G G 20 (upd (G 20) v (nI v)) 15) (uu_G G 20 (upd (G 20) v (nI v)) 16) (uu_G G 20 (upd (G 20) v (nI v)) 17) (uu_G G 20 (upd (G 20) v (nI v)) 18) (uu_G G 20 (upd (G 20) v (nI v)) 19) (uu_G G 20 (upd (G 20) v (nI v)) 20) (uu_G G 20 (upd (G 20) v (nI v)) 21) (uu_G G 20 (upd (G 20) v (nI v)) 22) (uu_G G 20 (upd (G 20) v (nI v)) 23) (uu_G G 20 (upd (G 20) v (nI v)) 24) (uu_G G 20 (upd (G 20) v (nI v)) 25) (uu_G G 20 (upd (G 20) v (nI v)) 26) (uu_G G 20 (upd (G 20) v (nI v)) 27) (uu_G G 20 (upd (G 20) v (nI v)) 28) (uu_G G 20 (upd (G 20) v (nI v)) 29) (uu_G G 20 (upd (G 20) v (nI v)) 30) (uu_G G 20 (upd (G 20) v (nI v)) 31) (uu_G G 20 (upd (G 20) v (nI v)) 32) (uu_G G 20 (upd (G 20) v (nI v)) 33) (uu_G G 20 (upd (G 20) v (nI v)) 34) (uu_G G 20 (upd (G 20) v (nI v)) 35) (uu_G G 20 (upd (G 20) v (nI v)) 36) (uu_G G 20 (upd (G 20) v (nI v)) 37) (uu_G G 20 (upd (G 20) v (nI v)) 38) (uu_G G 20 (upd (G 20) v (nI v)) 39) (uu_G G 20 (upd (G 20) v (nI v)) 40)) : wX_startBlock_27 post (F 0) (F 1) (F 2) (F 3) (F 4) (F 5) (F 6) (F 7) (F 8) (F 9) (F 10) (F 11) (F 12) (F 13) (F 14) (F 15) (F 16) (F 17) (F 18) (F 19) (F 20) (F 21) (F 22) (n + 1) (nI v) (G 0) (G 1) (G 2) (G 3) (G 4) (G 5) (G 6) (G 7) (G 8) (G 9) (G 10) (G 11) (G 12) (G 13) (G 14) (G 15) (G 16) (G 17) (G 18) (G 19) (G 20) (G 21) (G 22) (G 23) (G 24) (G 25) (G 26) (G 27) (G 28) (G 29) (G 30) (G 31) (G 32) (G 33) (G 34) (G 35) (G 36) (G 37) (G 38) (G 39) (G 40) := by
  unfold wX_startBlock_27
  refine br_f (nI_ge (b := 3) hv (by omega)) ⟨vp_in_nI hv (by omega), ?_⟩
  rw [nI_clamp (by omega)]
  exact nm_r (e' := upd (G 20) v (nI v)) (by rw [uu_b8 (by omega), uu_nb (by omega)]) (nm_r (e' := nI (v + 1)) (nI_1 v) h)
def sb_F (F : Nat → Int32) (d : Nat) : Nat → Int32 := upd (upd (upd (upd (upd F 6 (nI d)) 5 0) 7 3) 8 0) 9 0
def sb_G (G : Nat → Nat → Int32) : Nat → Nat → Int32 := uu_G (uu_G (uu_G G 20 (upd (G 20) 0 (nI 0))) 20 (upd (upd (G 20) 0 (nI 0)) 1 (nI 1))) 20 (upd (upd (upd (G 20) 0 (nI 0)) 1 (nI 1)) 2 (nI 2))
section
variable {kd pa pb pc nn lo sz : Nat → Nat} {N : Nat → Int32} {d t : Nat} {F : Nat → Int32} {G : Nat → Nat → Int32} {p k0 : Nat}
theorem xs_start (hsz : sz d ≤ 12) (hd : d < 16) (hz : G 5 d = nI (sz d)) (td : td_R kd pa pb pc nn lo sz N d G) (hp : F 3 = nI p) (hb : F 4 = nI k0) :
    ∃ (F' : Nat → Int32) (G' : Nat → Nat → Int32), (∀ post : SX → Prop, post (xs_mk F' G') → wpX_startBlock post (xs_mk F G) (nI d)) ∧ rc_S F' G' d [] [] cg_p0 3 0 p k0 ∧ td_R kd pa pb pc nn lo sz N d G' ∧ kt_R kd pa pb pc lo sz N d G'
      ∧ (∀ k, k < 5 → F' k = F k) ∧ ∀ k, k < 8 ∨ 10 < k → k ≠ 20 → G' k = G k := by
  obtain ⟨G1, a1, a2, a3⟩ := xf_all (F := F) hsz hd hz td
  have hG : ∀ k, k < 8 ∨ 10 < k → k ≠ 20 → sb_G G1 k = G k := fun k h1 h2 => by
    unfold sb_G
    rw [uu_Gn h2, uu_Gn h2, uu_Gn h2, a3 k h1]
  refine ⟨sb_F F d, sb_G G1, ?_, ⟨rfl, rfl, trivial, rfl, rfl, rfl, trivial, ?_, hp, hb⟩, ?_, ?_, ?_, hG⟩
  · intro post q
    unfold wpX_startBlock
    refine a1 _ ⟨4, ?_⟩
    refine ss_1 (F := sb_F F d) (G := G1) (v := 0) (by omega) (ss_1 (F := sb_F F d) (G := uu_G G1 20 (upd (G1 20) 0 (nI 0))) (v := 1) (by omega) (ss_1 (F := sb_F F d) (G := uu_G (uu_G G1 20 (upd (G1 20) 0 (nI 0))) 20 (upd (upd (G1 20) 0 (nI 0)) 1 (nI 1))) (v := 2) (by omega) ?_))
    unfold wX_startBlock_27
    exact br_t (by decide) q
  · intro v hv
    obtain rfl | rfl | rfl : v = 0 ∨ v = 1 ∨ v = 2 := by omega
    all_goals rfl
  · intro x hx
    obtain ⟨a, b⟩ := td x hx
    refine ⟨a, ?_⟩
    unfold tx_R at b ⊢
    rw [hG 0 (by decide) (by decide), hG 1 (by decide) (by decide), hG 2 (by decide) (by decide), hG 3 (by decide) (by decide), hG 4 (by decide) (by decide)]; exact b
  · intro x hx
    exact a2 x hx
  · intro k hk
    unfold sb_F
    rw [pk_un (by omega), pk_un (by omega), pk_un (by omega), pk_un (by omega), pk_un (by omega)]
theorem ew_end {i : Nat} {post : SX → Prop} (hi : i < 96) (h : F 5 = nI 0) (q : post (xs_mk F G)) : ∃ n, ew_W post n i F G := by
  refine ⟨1, ?_⟩
  unfold ew_W wX_workAll_2
  exact br_f (nI_ge (b := 96) hi (by omega)) (br_t (by rw [h]; decide) q)
theorem sZ_12 (hsz : sz d ≤ 12) (ht : t < sz d) : sZ lo d t ≤ 12 := by unfold sZ; omega
/-- the code of a block, and which blocks it asks for -/
theorem xc_block {b : Nat} (hsz : sz d ≤ 12) (hd : d < 16) (hz : G 5 d = nI (sz d)) (td : td_R kd pa pb pc nn lo sz N d G) (hp : F 3 = nI p) (hb : F 4 = nI k0) (hbb : b < 96) (ht : t < sz d) (hpb : p + 3 * sZ lo d t ≤ 1100) (hnb : k0 + (sZ lo d t - 1) / 2 ≤ 96) :
    ∃ (F' : Nat → Int32) (G' : Nat → Nat → Int32) (q : Nat) (bl : List Nat), (∀ post : SX → Prop, post (xs_mk F' G') → wpX_compileBlock post (xs_mk F G) (nI b) (nI d) (nI t)) ∧ F' 3 = nI q ∧ F' 4 = nI (k0 + bl.length)
      ∧ (∀ k, k < 3 → F' k = F k) ∧ (∀ k, k < 8 ∨ k = 16 → G' k = G k) ∧ G' 15 = upd (G 15) b (nI p) ∧ (∀ j, j < p → G' 11 j = G 11 j ∧ G' 12 j = G 12 j) ∧ (∀ x, x < k0 → G' 13 x = G 13 x ∧ G' 14 x = G 14 x)
      ∧ p ≤ q ∧ q + 3 * bs_n lo d bl ≤ p + 3 * sZ lo d t ∧ bl.length + bh_n lo d bl ≤ (sZ lo d t - 1) / 2 ∧ bk_R kd G' d (sz d) bl k0
      ∧ ∀ (C O BD BT : Nat → Int32) (nb : Nat), ag_c C O G' p q → ag_b BD BT G' k0 (k0 + bl.length) → k0 + bl.length ≤ nb → cg_E kd pa pb pc nn N d C O BD BT nb 12 1 t cg_p0 3 0 p (ct_R C O) := by
  have s12 := sZ_12 (lo := lo) hsz ht
  obtain ⟨F1, G1, a1, a2, a3, a4, a5, a6⟩ := xs_start (F := F) (k0 := k0) hsz hd hz td hp hb
  have S2 : rc_S F1 (uu_G G1 15 (upd (G1 15) b (nI p))) d [] [] cg_p0 3 0 p k0 := rp_G a2 (fun k h1 h2 => uu_Gn (by omega))
  obtain ⟨F3, G3, b1, b2, b3, b4⟩ := ra_ask (a := 1) (t := t) (r := 0) S2 (by simp) (by omega) (by omega) (by omega)
  have e3 : ∀ k, k ≤ 10 → G3 k = G1 k := fun k hk => by rw [b4 k (by omega), uu_Gn (by omega)]
  obtain ⟨i', F', G', w', po, q, bl, c1, c2, c3, c4, c5, c6, c7, c8, c9, c10⟩ := cw_all hd hsz t 1 0 F3 G3 [] [] cg_p0 3 0 p k0 (by omega) ht b2 (td_x a3 e3) (kt_x a4 e3)
    ⟨by simp only [List.length_nil]; omega, by simp only [List.length_nil]; omega, by omega, by omega, by omega, by omega, by omega, fun v hv => hv⟩
  obtain ⟨⟨c31, c32⟩, c33, c34, c35, c36⟩ := c3
  refine ⟨F', G', q, bl, ?_, c2.2.2.2.2.2.2.2.2.1, c2.2.2.2.2.2.2.2.2.2, ?_, ?_, ?_, ?_, ?_, c35, by omega, c8, c9, ?_⟩
  · intro post qq
    unfold wpX_compileBlock
    refine a1 _ ⟨vp_in_nI hbb (by omega), ?_⟩
    rw [nI_clamp (by omega)]
    refine nm_r (e' := upd (G1 15) b (nI p)) (by rw [a2.2.2.2.2.2.2.2.2.1, uu_b16 (by omega), uu_ns (by omega)]) ?_
    refine b1 _ ?_
    exact c1 _ (ew_end (by omega) c2.2.1 qq)
  · intro k hk
    rw [c31 k (by omega), b3 k (by omega), a5 k (by omega)]
  · intro k hk
    rw [c32 k (by omega), b4 k (by omega), uu_Gn (by omega), a6 k (by omega) (by omega)]
  · rw [c32 15 (by decide), b4 15 (by decide), uu_Gs, a6 15 (by decide) (by decide)]
  · intro j hj
    rw [(c33 j hj).1, (c33 j hj).2, b4 11 (by decide), b4 12 (by decide), uu_Gn (by decide), uu_Gn (by decide), a6 11 (by decide) (by decide), a6 12 (by decide) (by decide)]
    exact ⟨rfl, rfl⟩
  · intro x hx
    rw [(c34 x hx).1, (c34 x hx).2, b4 13 (by decide), b4 14 (by decide), uu_Gn (by decide), uu_Gn (by decide), a6 13 (by decide) (by decide), a6 14 (by decide) (by decide)]
    exact ⟨rfl, rfl⟩
  · intro C O BD BT nb h1 h2 h3
    exact c10 C O BD BT nb h1 h2 h3 12 (by omega) _ (fun z => absurd z (by omega)) (fun _ _ _ h => h)
end
end
section
/-! a clause that answers at once -/
section
variable {kd pa pb pc nn lo sz : Nat → Nat} {N : Nat → Int32} {d t : Nat} {F : Nat → Int32} {G : Nat → Nat → Int32} {p k0 : Nat}
theorem bk_nil {z : Nat} (h : ∀ y, y < z → kd (12 * d + y) ≠ 5) : ∀ {bl : List Nat}, bk_R kd G d z bl k0 → bl = [] := by
  intro bl H
  cases bl with
  | nil => rfl
  | cons x r =>
    obtain ⟨_, _, _, ⟨y, h1, h2⟩, _⟩ := H
    exact absurd h2 (h y h1)
theorem xc_short (hsz : sz d ≤ 12) (hd : d < 16) (hz : G 5 d = nI (sz d)) (td : td_R kd pa pb pc nn lo sz N d G) (hp : F 3 = nI p) (hb : F 4 = nI k0) (ht : t + 1 = sz d) (hk : kd (12 * d + t) = 6) (h5 : ∀ y, y < sz d → kd (12 * d + y) ≠ 5)
    (hpb : p + 3 * sZ lo d t ≤ 1100) (hnb : k0 + (sZ lo d t - 1) / 2 ≤ 96) :
    ∃ (F' : Nat → Int32) (G' : Nat → Nat → Int32) (q : Nat), (∀ post : SX → Prop, post (xs_mk F' G') → wpX_compileShort post (xs_mk F G) (nI d)) ∧ F' 3 = nI q ∧ F' 4 = nI k0
      ∧ (∀ k, k < 3 → F' k = F k) ∧ (∀ k, k < 8 ∨ k = 15 → G' k = G k) ∧ G' 16 = upd (G 16) d (nI p) ∧ (∀ j, j < p → G' 11 j = G 11 j ∧ G' 12 j = G 12 j) ∧ (∀ x, x < k0 → G' 13 x = G 13 x ∧ G' 14 x = G 14 x)
      ∧ p ≤ q ∧ q ≤ p + 3 * sZ lo d t
      ∧ ∀ (C O BD BT : Nat → Int32) (nb : Nat), ag_c C O G' p q → k0 ≤ nb → ∀ ka, cg_E kd pa pb pc nn N d C O BD BT nb 12 2 t cg_p0 3 0 p ka := by
  have ht' : t < sz d := by omega
  have s12 := sZ_12 (lo := lo) hsz ht'
  obtain ⟨la, lb, hS, ga, gb⟩ := cw_sb td ht' (by omega)
  obtain ⟨F1, G1, a1, a2, a3, a4, a5, a6⟩ := xs_start (F := F) (k0 := k0) hsz hd hz td hp hb
  have S2 : rc_S (upd F1 8 (nI 1)) (uu_G G1 16 (upd (G1 16) d (nI p))) d [] [] cg_p0 3 1 p k0 := rp_pend (rp_G a2 (fun k h1 h2 => uu_Gn (by omega)))
  obtain ⟨F3, G3, b1, b2, b3, b4⟩ := ra_ask (a := 11) (t := 0) (r := 0) S2 (by simp) (by omega) (by omega) (by omega)
  obtain ⟨F4, G4, d1, d2, d3, d4⟩ := ra_ask (a := 0) (t := pb (12 * d + t)) (r := 0) b2 (by simp) (by omega) (by omega) (by omega)
  obtain ⟨F5, G5, f1, f2, f3, f4⟩ := ra_ask (a := 0) (t := pa (12 * d + t)) (r := 0) d2 (by simp) (by omega) (by omega) (by omega)
  have e5 : ∀ k, k < 17 → k ≠ 16 → G5 k = G1 k := fun k hk hk' => by rw [f4 k (by omega), d4 k (by omega), b4 k (by omega), uu_Gn (by omega)]
  have td5 : td_R kd pa pb pc nn lo sz N d G5 := td_x a3 (fun k hk => e5 k (by omega) (by omega))
  have kt5 : kt_R kd pa pb pc lo sz N d G5 := kt_x a4 (fun k hk => e5 k (by omega) (by omega))
  obtain ⟨i6, F6, G6, w6, po6, q6, bl6, g1, g2, g3, g4, ⟨g5, _⟩, ⟨_, g6⟩, g7, g8, g9, g10⟩ := cw_all hd hsz (pa (12 * d + t)) 0 0 F5 G5 _ [] cg_p0 3 1 p k0 (by omega) (by omega) f2 td5 kt5
    ⟨by simp only [List.length_cons, List.length_nil]; omega, by simp only [List.length_nil]; omega, by omega, by omega, by omega, by omega, by omega, fun v hv => hv⟩
  obtain rfl := bk_nil h5 g9
  obtain rfl := g5 rfl
  obtain ⟨i7, F7, G7, w7, po7, q7, bl7, h1, h2, h3, h4, ⟨h5', _⟩, ⟨_, h6⟩, h7, h8, h9, h10⟩ := cw_all hd hsz (pb (12 * d + t)) 0 i6 F6 G6 _ [] cg_p0 4 po6 q6 _ (by omega) (by omega) g2 (cw_tdx td5 g3) (cw_ktx kt5 g3)
    ⟨by simp only [List.length_cons, List.length_nil]; omega, by simp only [List.length_nil]; omega, by omega, by omega, by simp only [List.length_nil]; omega, by omega, by omega, fun v hv => Nat.lt_of_lt_of_le hv (by omega)⟩
  obtain rfl := bk_nil h5 h9
  obtain rfl := h5' rfl
  simp only [List.length_nil, Nat.add_zero, bs_n] at g2 g3 g7 h2 h3 h7 g10 h10
  have X := cx_tr g3 h3
  obtain ⟨⟨x1, x2⟩, x3, x4, x5, x6⟩ := X
  have hpo : ¬ po7 + 1 = 0 := by omega
  have hF : fs_F (upd (upd F7 5 (nI 0)) 8 (nI (po7 + 1))) q7 (po7 + 1) = upd (upd (upd (upd F7 5 (nI 0)) 8 (nI (po7 + 1))) 3 (nI (q7 + 1))) 8 0 := if_neg hpo
  have hG : fs_G G7 q7 (po7 + 1) = em_G G7 q7 9 (nI (po7 + 1)) := if_neg hpo
  have hP : fs_p q7 (po7 + 1) = q7 + 1 := if_neg hpo
  refine ⟨upd (upd (upd (upd (upd F7 5 (nI 0)) 8 (nI (po7 + 1))) 3 (nI (q7 + 1))) 8 0) 3 (nI (q7 + 1 + 1)), em_G (em_G G7 q7 9 (nI (po7 + 1))) (q7 + 1) 16 0, q7 + 1 + 1, ?_, rfl, h2.2.2.2.2.2.2.2.2.2, ?_, ?_, ?_, ?_, ?_, by omega, by omega, ?_⟩
  · intro post qq
    unfold wpX_compileShort
    refine a1 _ ⟨vp_in_nI hd (by omega), ?_⟩
    rw [nI_clamp (by omega)]
    have ex : 12 * nI d + G1 5 d - 1 = nI (12 * d + t) := by
      rw [a6 5 (by decide) (by decide), hz, uu_m12, nI_add, uu_s1 (by omega)]
      exact congrArg nI (by omega)
    have v3 : vp_in (nI (12 * d + t)) 204 := vp_in_nI (by omega) (by omega)
    have c3 : (nI (12 * d + t)).toNatClampNeg = 12 * d + t := nI_clamp (by omega)
    refine nm_r (e' := upd (G1 16) d (nI p)) (by rw [a2.2.2.2.2.2.2.2.2.1, uu_b16 (by omega), uu_ns (by omega)]) ⟨vp_in_nI hd (by omega), nm_r ex ?_⟩
    refine b1 _ ⟨v3, ?_⟩
    rw [c3, show G3 2 (12 * d + t) = nI (pb (12 * d + t)) by rw [b4 2 (by decide), uu_Gn (by decide)]; exact (a3 t ht').2.2.2.1]
    refine d1 _ ⟨v3, ?_⟩
    rw [show G4 1 (12 * d + t) = nI (pa (12 * d + t)) by rw [d4 1 (by decide), b4 1 (by decide), uu_Gn (by decide)]; exact (a3 t ht').2.2.1]
    refine f1 _ ?_
    have g11 : ew_go i7 F7 G7 (i7 + 1) (upd (upd (upd (upd (upd F7 5 (nI 0)) 8 (nI (po7 + 1))) 3 (nI (q7 + 1))) 8 0) 3 (nI (q7 + 1 + 1))) (em_G (em_G G7 q7 9 (nI (po7 + 1))) (q7 + 1) 16 0) := by
      refine ew_step (k := 0) (by omega) h2.2.1 (by omega) (fun post q => ?_)
      refine xw_11 (k := 0) h2.2.1 (by omega) h2.2.2.1.1 h2.2.2.1.2.1 h2.2.2.1.2.2.1 h2.2.2.2.2.2.2.2.2.1 h2.2.2.2.2.1 (by omega) (by omega) ?_
      rw [hF, hG, hP]
      exact q
    exact g1 _ (h1 _ (g11 _ (ew_end (by omega) rfl qq)))
  · intro k hk
    rw [pk_un (by omega), pk_un (by omega), pk_un (by omega), pk_un (by omega), pk_un (by omega), x1 k (by omega), f3 k (by omega), d3 k (by omega), b3 k (by omega), pk_un (by omega), a5 k (by omega)]
  · intro k hk
    unfold em_G
    rw [uu_Gn (by omega), uu_Gn (by omega), uu_Gn (by omega), uu_Gn (by omega), x2 k (by omega), e5 k (by omega) (by omega), a6 k (by omega) (by omega)]
  · unfold em_G
    rw [uu_Gn (by decide), uu_Gn (by decide), uu_Gn (by decide), uu_Gn (by decide), x2 16 (by decide), f4 16 (by decide), d4 16 (by decide), b4 16 (by decide), uu_Gs, a6 16 (by decide) (by decide)]
  · intro j hj
    show upd (upd (G7 11) q7 (nI 9)) (q7 + 1) (nI 16) j = G 11 j ∧ upd (upd (G7 12) q7 (nI (po7 + 1))) (q7 + 1) 0 j = G 12 j
    rw [pk_un (by omega), pk_un (by omega), pk_un (by omega), pk_un (by omega), (x3 j hj).1, (x3 j hj).2, e5 11 (by decide) (by decide), e5 12 (by decide) (by decide), a6 11 (by decide) (by decide), a6 12 (by decide) (by decide)]
    exact ⟨rfl, rfl⟩
  · intro x hx
    show G7 13 x = G 13 x ∧ G7 14 x = G 14 x
    rw [(x4 x hx).1, (x4 x hx).2, e5 13 (by decide) (by decide), e5 14 (by decide) (by decide), a6 13 (by decide) (by decide), a6 14 (by decide) (by decide)]
    exact ⟨rfl, rfl⟩
  · intro C O BD BT nb hc hnb' ka
    have zz := h3.2.2.2.1
    have zz6 := g3.2.2.2.1
    have hc7 : ag_c C O G7 p q7 := fun j z1 z2 => by
      obtain ⟨r1, r2⟩ := hc j z1 (by omega)
      refine ⟨r1.trans ?_, r2.trans ?_⟩
      · show upd (upd (G7 11) q7 (nI 9)) (q7 + 1) (nI 16) j = G7 11 j
        rw [pk_un (by omega), pk_un (by omega)]
      · show upd (upd (G7 12) q7 (nI (po7 + 1))) (q7 + 1) 0 j = G7 12 j
        rw [pk_un (by omega), pk_un (by omega)]
    obtain ⟨r1, r2⟩ := hc q7 (by omega) (by omega)
    have r1' : C q7 = nI 9 := r1.trans ((pk_un (by omega)).trans pk_us)
    have r2' : O q7 = nI (po7 + 1) := r2.trans ((pk_un (by omega)).trans pk_us)
    have r3 : C (q7 + 1) = nI 16 := (hc (q7 + 1) (by omega) (by omega)).1.trans pk_us
    have hF7 : cg_Fl C O (po7 + 1) q7 (q7 + 1) := Or.inr ⟨by omega, by omega, ⟨by omega, r1'⟩, r2', rfl⟩
    have hE : ∀ ka, cg_E kd pa pb pc nn N d C O BD BT nb 11 0 (pb (12 * d + t)) cg_p0 4 po6 q6 (cg_2 kd d C O 2 t ka) := fun ka =>
      h10 C O BD BT nb (ag_cr hc7 zz6) (fun b z1 z2 => absurd z1 (by omega)) hnb' 11 (by omega) _ (fun _ => Or.inr ⟨hk, q7 + 1, hF7, ⟨by omega, r3⟩, fun z => absurd z (by omega)⟩) (fun z => absurd z (by omega))
    refine ⟨by omega, Or.inr (Or.inr (Or.inr ⟨by omega, ?_⟩))⟩
    exact g10 C O BD BT nb (ag_cl hc7 h3) (fun b z1 z2 => absurd z1 (by omega)) hnb' 11 (by omega) _ (fun _ => Or.inl ⟨Or.inr hk, hE ka⟩) (fun z => absurd z (by omega))
end
end
section
/-! habits -/
def hq_R (kd sz : Nat → Nat) (d h : Nat) : Prop :=
  h ≤ 2 ∧ (h = 0 → ∀ t, t < sz d → kd (12 * d + t) ≠ 6) ∧ (h = 1 → sz d ≠ 0 ∧ kd (12 * d + (sz d - 1)) = 6 ∧ ∀ t, t < sz d → kd (12 * d + t) ≠ 5 ∧ kd (12 * d + t) ≠ 8 ∧ kd (12 * d + t) ≠ 9 ∧ (kd (12 * d + t) = 6 → t + 1 = sz d))
def hb_G (G : Nat → Nat → Int32) (d h : Nat) : Nat → Nat → Int32 := uu_G G 7 (upd (G 7) d (nI h))
section
variable {kd sz : Nat → Nat} {d : Nat} {F : Nat → Int32} {G : Nat → Nat → Int32}
theorem xh_118 {r c z : Nat} (hd : d < 16) (hr : r < 100) (hc : c < 100) (hz : z < 2) : ∃ h, (∀ post : SX → Prop, post (xs_mk F (hb_G G d h)) → wX_findHabit_118 post (nI d) (nI r) (nI c) (nI z) (F 0) (F 1) (F 2) (F 3) (F 4) (F 5) (F 6) (F 7) (F 8) (F 9) (F 10) (F 11) (F 12) (F 13) (F 14) (F 15) (F 16) (F 17) (F 18) (F 19) (F 20) (F 21) (F 22) (G 0) (G 1) (G 2) (G 3) (G 4) (G 5) (G 6) (G 7) (G 8) (G 9) (G 10) (G 11) (G 12) (G 13) (G 14) (G 15) (G 16) (G 17) (G 18) (G 19) (G 20) (G 21) (G 22) (G 23) (G 24) (G 25) (G 26) (G 27) (G 28) (G 29) (G 30) (G 31) (G 32) (G 33) (G 34) (G 35) (G 36) (G 37) (G 38) (G 39) (G 40)) ∧ h ≤ 2 ∧ (h = 0 → r = 0) ∧ (h = 1 → r = 1 ∧ c = 0 ∧ z = 1) := by
  have vd : vp_in (nI d) 16 := vp_in_nI hd (by omega)
  have cd : (nI d).toNatClampNeg = d := nI_clamp (by omega)
  by_cases r0 : r = 0
  · refine ⟨0, fun post q => ?_, by omega, fun _ => r0, fun z => absurd z (by omega)⟩
    unfold wX_findHabit_118
    rw [cd]
    exact br_t (by rw [r0]; rfl) ⟨vd, nm_r (e' := upd (G 7) d (nI 0)) rfl q⟩
  have n0 : ¬ nI r = 0 := nI_ne0 (by omega) (by omega)
  by_cases z0 : z = 0
  · refine ⟨2, fun post q => ?_, by omega, fun z => absurd z (by omega), fun z => absurd z (by omega)⟩
    unfold wX_findHabit_118
    rw [cd]
    exact br_f n0 (br_t (by rw [z0]; rfl) ⟨vd, nm_r (e' := upd (G 7) d (nI 2)) rfl q⟩)
  have n1 : ¬ nI z = 0 := nI_ne0 (by omega) (by omega)
  by_cases r1 : r = 1
  · have e1 : nI r = 1 := by rw [r1]; rfl
    by_cases c0 : c = 0
    · refine ⟨1, fun post q => ?_, by omega, fun z => absurd z (by omega), fun _ => ⟨r1, c0, by omega⟩⟩
      unfold wX_findHabit_118
      rw [cd]
      exact br_f n0 (br_f n1 (br_t e1 (br_t (by rw [c0]; rfl) ⟨vd, nm_r (e' := upd (G 7) d (nI 1)) rfl q⟩)))
    · refine ⟨2, fun post q => ?_, by omega, fun z => absurd z (by omega), fun z => absurd z (by omega)⟩
      unfold wX_findHabit_118
      rw [cd]
      exact br_f n0 (br_f n1 (br_t e1 (br_f (nI_ne0 (by omega) (by omega)) ⟨vd, nm_r (e' := upd (G 7) d (nI 2)) rfl q⟩)))
  · refine ⟨2, fun post q => ?_, by omega, fun z => absurd z (by omega), fun z => absurd z (by omega)⟩
    have e1 : ¬ nI r = nI 1 := fun z => r1 ((nI_eq (by omega) (by omega)).1 z)
    unfold wX_findHabit_118
    rw [cd]
    exact br_f n0 (br_f n1 (br_f e1 ⟨vd, nm_r (e' := upd (G 7) d (nI 2)) rfl q⟩))
theorem xh_46 {post : SX → Prop} {J : Int32 → Int32 → Int32 → Prop} {x1 : Int32} {r c i k : Nat} (hk : k < 20) (h1 : k = 5 ∨ k = 8 ∨ k = 9 → J (nI r) (nI (c + 1)) (nI (i + 1))) (h2 : k ≠ 5 → k ≠ 8 → k ≠ 9 → J (nI r) (nI c) (nI (i + 1))) :
    wX_findHabit_46 post J x1 (nI c) (nI i) (nI k) (nI r) (F 0) (F 1) (F 2) (F 3) (F 4) (F 5) (F 6) (F 7) (F 8) (F 9) (F 10) (F 11) (F 12) (F 13) (F 14) (F 15) (F 16) (F 17) (F 18) (F 19) (F 20) (F 21) (F 22) (G 0) (G 1) (G 2) (G 3) (G 4) (G 5) (G 6) (G 7) (G 8) (G 9) (G 10) (G 11) (G 12) (G 13) (G 14) (G 15) (G 16) (G 17) (G 18) (G 19) (G 20) (G 21) (G 22) (G 23) (G 24) (G 25) (G 26) (G 27) (G 28) (G 29) (G 30) (G 31) (G 32) (G 33) (G 34) (G 35) (G 36) (G 37) (G 38) (G 39) (G 40) := by
  have ne : ∀ {q : Nat}, q < 20 → k ≠ q → ¬ nI k = nI q := fun {q} h h' z => h' ((nI_eq (by omega) (by omega)).1 z)
  unfold wX_findHabit_46
  by_cases a : k = 5
  · exact br_t (by rw [a]; rfl) (nm_r (e' := nI (c + 1)) (nI_1 c) (nm_r (e' := nI (i + 1)) (nI_1 i) (h1 (by omega))))
  by_cases b : k = 8
  · exact br_f (ne (q := 5) (by omega) a) (br_t (by rw [b]; rfl) (nm_r (e' := nI (c + 1)) (nI_1 c) (nm_r (e' := nI (i + 1)) (nI_1 i) (h1 (by omega)))))
  by_cases e : k = 9
  · exact br_f (ne (q := 5) (by omega) a) (br_f (ne (q := 8) (by omega) b) (br_t (by rw [e]; rfl) (nm_r (e' := nI (c + 1)) (nI_1 c) (nm_r (e' := nI (i + 1)) (nI_1 i) (h1 (by omega))))))
  · exact br_f (ne (q := 5) (by omega) a) (br_f (ne (q := 8) (by omega) b) (br_f (ne (q := 9) (by omega) e) (nm_r (e' := nI (i + 1)) (nI_1 i) (h2 a b e))))
def hv_R (kd : Nat → Nat) (d i r c : Nat) : Prop :=
  (r = 0 → ∀ t, t < i → kd (12 * d + t) ≠ 6) ∧ (r = 1 → ∃ x, ∀ t, t < i → kd (12 * d + t) = 6 → t = x) ∧ (c = 0 → ∀ t, t < i → kd (12 * d + t) ≠ 5 ∧ kd (12 * d + t) ≠ 8 ∧ kd (12 * d + t) ≠ 9) ∧ r ≤ i ∧ c ≤ i
theorem xh_all (hsz : sz d ≤ 12) (hd : d < 16) (hz : G 5 d = nI (sz d)) (hk : ∀ t, t < sz d → G 0 (12 * d + t) = nI (kd (12 * d + t)) ∧ kd (12 * d + t) ≤ 12) :
    ∃ h, (∀ post : SX → Prop, post (xs_mk F (hb_G G d h)) → wpX_findHabit post (xs_mk F G) (nI d)) ∧ hq_R kd sz d h := by
  have vd : vp_in (nI d) 16 := vp_in_nI hd (by omega)
  have cd : (nI d).toNatClampNeg = d := nI_clamp (by omega)
  have go : ∀ (m i r c : Nat), i + m = sz d → hv_R kd d i r c → ∃ h, (∀ post : SX → Prop, post (xs_mk F (hb_G G d h)) → wX_findHabit_7 post (nI d) (F 0) (F 1) (F 2) (F 3) (F 4) (F 5) (F 6) (F 7) (F 8) (F 9) (F 10) (F 11) (F 12) (F 13) (F 14) (F 15) (F 16) (F 17) (F 18) (F 19) (F 20) (F 21) (F 22) (G 0) (G 1) (G 2) (G 3) (G 4) (G 5) (G 6) (G 7) (G 8) (G 9) (G 10) (G 11) (G 12) (G 13) (G 14) (G 15) (G 16) (G 17) (G 18) (G 19) (G 20) (G 21) (G 22) (G 23) (G 24) (G 25) (G 26) (G 27) (G 28) (G 29) (G 30) (G 31) (G 32) (G 33) (G 34) (G 35) (G 36) (G 37) (G 38) (G 39) (G 40) (m + 1) (nI r) (nI c) (nI i)) ∧ hq_R kd sz d h := by
    intro m
    induction m with
    | zero =>
      rintro i r c hi ⟨v1, v2, v3, v4, v5⟩
      have hi' : i = sz d := by omega
      subst hi'
      by_cases z : sz d = 0
      · obtain ⟨h, a1, a2, a3, a4⟩ := xh_118 (F := F) (G := G) (r := r) (c := c) (z := 0) hd (by omega) (by omega) (by omega)
        refine ⟨h, fun post q => ?_, a2, fun h0 => v1 (a3 h0), fun h1 => absurd (a4 h1).2.2 (by omega)⟩
        unfold wX_findHabit_7
        rw [cd]
        refine ⟨vd, br_t (by rw [hz]; exact nI_le (by omega) (by omega)) ⟨vd, br_t (by rw [hz, z]; decide) ?_⟩⟩
        exact a1 post q
      · have ex : 12 * nI d + G 5 d - 1 = nI (12 * d + (sz d - 1)) := by
          rw [hz, uu_m12, nI_add, uu_s1 (by omega)]
          exact congrArg nI (by omega)
        have v3' : vp_in (nI (12 * d + (sz d - 1))) 204 := vp_in_nI (by omega) (by omega)
        have c3' : (nI (12 * d + (sz d - 1))).toNatClampNeg = 12 * d + (sz d - 1) := nI_clamp (by omega)
        obtain ⟨k1, k2⟩ := hk (sz d - 1) (by omega)
        by_cases k6 : kd (12 * d + (sz d - 1)) = 6
        · obtain ⟨h, a1, a2, a3, a4⟩ := xh_118 (F := F) (G := G) (r := r) (c := c) (z := 1) hd (by omega) (by omega) (by omega)
          refine ⟨h, fun post q => ?_, a2, fun h0 => v1 (a3 h0), fun h1 => ⟨z, k6, fun t ht => ?_⟩⟩
          · unfold wX_findHabit_7
            rw [cd]
            refine ⟨vd, br_t (by rw [hz]; exact nI_le (by omega) (by omega)) ⟨vd, br_f (by rw [hz]; exact nI_nle (by omega) (by omega)) ⟨vd, ?_⟩⟩⟩
            rw [ex, c3']
            exact ⟨v3', br_t (by rw [k1, k6]; rfl) (a1 post q)⟩
          · obtain ⟨b1, b2, _⟩ := a4 h1
            obtain ⟨x, hx⟩ := v2 b1
            obtain ⟨c1, c2, c3⟩ := v3 b2 t ht
            refine ⟨c1, c2, c3, fun e6 => ?_⟩
            have := hx t ht e6
            have := hx (sz d - 1) (by omega) k6
            omega
        · obtain ⟨h, a1, a2, a3, a4⟩ := xh_118 (F := F) (G := G) (r := r) (c := c) (z := 0) hd (by omega) (by omega) (by omega)
          refine ⟨h, fun post q => ?_, a2, fun h0 => v1 (a3 h0), fun h1 => absurd (a4 h1).2.2 (by omega)⟩
          unfold wX_findHabit_7
          rw [cd]
          refine ⟨vd, br_t (by rw [hz]; exact nI_le (by omega) (by omega)) ⟨vd, br_f (by rw [hz]; exact nI_nle (by omega) (by omega)) ⟨vd, ?_⟩⟩⟩
          rw [ex, c3']
          exact ⟨v3', br_f (fun y => k6 ((nI_eq (b := 6) (by omega) (by omega)).1 (k1.symm.trans y))) (a1 post q)⟩
    | succ m ih =>
      rintro i r c hi ⟨v1, v2, v3, v4, v5⟩
      obtain ⟨k1, k2⟩ := hk i (by omega)
      have ex : 12 * nI d + nI i = nI (12 * d + i) := by rw [uu_m12, nI_add]
      have ev : vp_in (nI (12 * d + i)) 204 := vp_in_nI (by omega) (by omega)
      have ec : (nI (12 * d + i)).toNatClampNeg = 12 * d + i := nI_clamp (by omega)
      have st : ∀ r' : Nat, (kd (12 * d + i) = 6 → r' = r + 1) → (kd (12 * d + i) ≠ 6 → r' = r) → ∃ h, (∀ post : SX → Prop, post (xs_mk F (hb_G G d h)) → wX_findHabit_46 post (wX_findHabit_7 post (nI d) (F 0) (F 1) (F 2) (F 3) (F 4) (F 5) (F 6) (F 7) (F 8) (F 9) (F 10) (F 11) (F 12) (F 13) (F 14) (F 15) (F 16) (F 17) (F 18) (F 19) (F 20) (F 21) (F 22) (G 0) (G 1) (G 2) (G 3) (G 4) (G 5) (G 6) (G 7) (G 8) (G 9) (G 10) (G 11) (G 12) (G 13) (G 14) (G 15) (G 16) (G 17) (G 18) (G 19) (G 20) (G 21) (G 22) (G 23) (G 24) (G 25) (G 26) (G 27) (G 28) (G 29) (G 30) (G 31) (G 32) (G 33) (G 34) (G 35) (G 36) (G 37) (G 38) (G 39) (G 40) (m + 1)) (nI d) (nI c) (nI i) (nI (kd (12 * d + i))) (nI r') (F 0) (F 1) (F 2) (F 3) (F 4) (F 5) (F 6) (F 7) (F 8) (F 9) (F 10) (F 11) (F 12) (F 13) (F 14) (F 15) (F 16) (F 17) (F 18) (F 19) (F 20) (F 21) (F 22) (G 0) (G 1) (G 2) (G 3) (G 4) (G 5) (G 6) (G 7) (G 8) (G 9) (G 10) (G 11) (G 12) (G 13) (G 14) (G 15) (G 16) (G 17) (G 18) (G 19) (G 20) (G 21) (G 22) (G 23) (G 24) (G 25) (G 26) (G 27) (G 28) (G 29) (G 30) (G 31) (G 32) (G 33) (G 34) (G 35) (G 36) (G 37) (G 38) (G 39) (G 40)) ∧ hq_R kd sz d h := by
        intro r' e1 e2
        have w1 : r' = 0 → ∀ t, t < i + 1 → kd (12 * d + t) ≠ 6 := fun z t ht => by
          by_cases k6 : kd (12 * d + i) = 6
          · have := e1 k6; omega
          · have := e2 k6
            by_cases e : t = i
            · rw [e]; exact k6
            · exact v1 (by omega) t (by omega)
        have w2 : r' = 1 → ∃ x, ∀ t, t < i + 1 → kd (12 * d + t) = 6 → t = x := fun z => by
          by_cases k6 : kd (12 * d + i) = 6
          · have := e1 k6
            refine ⟨i, fun t ht ht6 => ?_⟩
            by_cases e : t = i
            · exact e
            · exact absurd ht6 (v1 (by omega) t (by omega))
          · have := e2 k6
            obtain ⟨x, hx⟩ := v2 (by omega)
            refine ⟨x, fun t ht ht6 => ?_⟩
            by_cases e : t = i
            · rw [e] at ht6; exact absurd ht6 k6
            · exact hx t (by omega) ht6
        have w4 : r' ≤ i + 1 := by
          by_cases k6 : kd (12 * d + i) = 6
          · have := e1 k6; omega
          · have := e2 k6; omega
        by_cases kk : kd (12 * d + i) = 5 ∨ kd (12 * d + i) = 8 ∨ kd (12 * d + i) = 9
        · obtain ⟨h, a1, a2⟩ := ih (i + 1) r' (c + 1) (by omega) ⟨w1, w2, fun z => absurd z (by omega), w4, by omega⟩
          exact ⟨h, fun post q => xh_46 (F := F) (G := G) (by omega) (fun _ => a1 post q) (fun z1 z2 z3 => absurd kk (by omega)), a2⟩
        · have w3 : c = 0 → ∀ t, t < i + 1 → kd (12 * d + t) ≠ 5 ∧ kd (12 * d + t) ≠ 8 ∧ kd (12 * d + t) ≠ 9 := fun z t ht => by
            by_cases e : t = i
            · rw [e]; omega
            · exact v3 z t (by omega)
          obtain ⟨h, a1, a2⟩ := ih (i + 1) r' c (by omega) ⟨w1, w2, w3, w4, by omega⟩
          exact ⟨h, fun post q => xh_46 (F := F) (G := G) (by omega) (fun z => absurd z kk) (fun _ _ _ => a1 post q), a2⟩
      by_cases k6 : kd (12 * d + i) = 6
      · obtain ⟨h, a1, a2⟩ := st (r + 1) (fun _ => rfl) (fun z => absurd k6 z)
        refine ⟨h, fun post q => ?_, a2⟩
        unfold wX_findHabit_7
        rw [cd]
        refine ⟨vd, br_f (by rw [hz]; exact nI_ge (by omega) (by omega)) ?_⟩
        rw [ex, ec]
        refine ⟨ev, nm_r k1 (br_t (by rw [k6]; rfl) ?_)⟩
        rw [nI_1]
        exact a1 post q
      · obtain ⟨h, a1, a2⟩ := st r (fun z => absurd z k6) (fun _ => rfl)
        refine ⟨h, fun post q => ?_, a2⟩
        unfold wX_findHabit_7
        rw [cd]
        refine ⟨vd, br_f (by rw [hz]; exact nI_ge (by omega) (by omega)) ?_⟩
        rw [ex, ec]
        exact ⟨ev, nm_r k1 (br_f (fun y => k6 ((nI_eq (b := 6) (by omega) (by omega)).1 y)) (a1 post q))⟩
  obtain ⟨h, a1, a2⟩ := go (sz d) 0 0 0 (by omega) ⟨fun _ t ht => absurd ht (by omega), fun z => absurd z (by omega), fun _ t ht => absurd ht (by omega), by omega, by omega⟩
  exact ⟨h, fun post q => ⟨_, a1 post q⟩, a2⟩
end
end
section
/-! the loops of compile -/
/-- blocks still to be made -/
def lb_R (sz : Nat → Nat) (G : Nat → Nat → Int32) : List (Nat × Nat) → Nat → Prop
  | [] => fun _ => True
  | (d, t) :: L => fun k => G 13 k = nI d ∧ d < 16 ∧ (sz d ≠ 0 → G 14 k = nI t ∧ t < sz d) ∧ lb_R sz G L (k + 1)
def lw_c (lo sz : Nat → Nat) : List (Nat × Nat) → Nat
  | [] => 0
  | (d, t) :: L => (if sz d = 0 then 0 else 3 * sZ lo d t) + lw_c lo sz L
def hp_n (kd lo sz : Nat → Nat) (d t : Nat) : Nat := if sz d = 0 then 0 else if (∀ y, y < sz d → kd (12 * d + y) ≠ 5) then 0 else (sZ lo d t - 1) / 2
def lw_h (kd lo sz : Nat → Nat) : List (Nat × Nat) → Nat
  | [] => 0
  | (d, t) :: L => hp_n kd lo sz d t + lw_h kd lo sz L
def ld_L (sz : Nat → Nat) : Nat → Nat → List (Nat × Nat)
  | 0 => fun _ => []
  | m + 1 => fun k => (k, sz k - 1) :: ld_L sz m (k + 1)
section
variable {kd pa pb pc nn lo sz : Nat → Nat} {N : Nat → Int32} {d t : Nat} {F : Nat → Int32} {G : Nat → Nat → Int32} {p k0 : Nat}
theorem hp_le : hp_n kd lo sz d t ≤ (sZ lo d t - 1) / 2 := by
  unfold hp_n; split
  · omega
  · split <;> omega
theorem lwc_app (a b : List (Nat × Nat)) : lw_c lo sz (a ++ b) = lw_c lo sz a + lw_c lo sz b := by
  induction a with
  | nil => simp [lw_c]
  | cons x a ih => obtain ⟨d, t⟩ := x; simp only [List.cons_append, lw_c, ih]; omega
theorem lwh_app (a b : List (Nat × Nat)) : lw_h kd lo sz (a ++ b) = lw_h kd lo sz a + lw_h kd lo sz b := by
  induction a with
  | nil => simp [lw_h]
  | cons x a ih => obtain ⟨d, t⟩ := x; simp only [List.cons_append, lw_h, ih]; omega
theorem lwc_map (bl : List Nat) : lw_c lo sz (bl.map (fun x => (d, x))) ≤ 3 * bs_n lo d bl := by
  induction bl with
  | nil => simp [lw_c]
  | cons x r ih =>
    simp only [List.map_cons, lw_c, bs_n]
    have : (if sz d = 0 then 0 else 3 * sZ lo d x) ≤ 3 * sZ lo d x := by split <;> omega
    omega
theorem lwh_map (bl : List Nat) : lw_h kd lo sz (bl.map (fun x => (d, x))) ≤ bh_n lo d bl := by
  induction bl with
  | nil => simp [lw_h]
  | cons x r ih =>
    simp only [List.map_cons, lw_h, bh_n]
    have := hp_le (kd := kd) (lo := lo) (sz := sz) (d := d) (t := x)
    omega
theorem lb_app : ∀ (a b : List (Nat × Nat)) (k : Nat), lb_R sz G a k → lb_R sz G b (k + a.length) → lb_R sz G (a ++ b) k := by
  intro a
  induction a with
  | nil => intro b k _ h; exact h
  | cons x r ih =>
    obtain ⟨d, t⟩ := x
    rintro b k ⟨h1, h2, h3, h4⟩ h
    refine ⟨h1, h2, h3, ih b (k + 1) h4 ?_⟩
    rw [show k + 1 + r.length = k + ((d, t) :: r).length by simp only [List.length_cons]; omega]; exact h
theorem lb_x {G' : Nat → Nat → Int32} : ∀ (L : List (Nat × Nat)) (k : Nat), (∀ b, b < k + L.length → G' 13 b = G 13 b ∧ G' 14 b = G 14 b) → lb_R sz G L k → lb_R sz G' L k := by
  intro L
  induction L with
  | nil => intro _ _ _; trivial
  | cons x r ih =>
    obtain ⟨d, t⟩ := x
    rintro k h ⟨h1, h2, h3, h4⟩
    simp only [List.length_cons] at h
    exact ⟨(h k (by omega)).1.trans h1, h2, fun z => ⟨(h k (by omega)).2.trans (h3 z).1, (h3 z).2⟩, ih (k + 1) (fun b hb => h b (by omega)) h4⟩
theorem lb_map (hd : d < 16) : ∀ (bl : List Nat) (k : Nat), bk_R kd G d (sz d) bl k → lb_R sz G (bl.map (fun x => (d, x))) k := by
  intro bl
  induction bl with
  | nil => intro _ _; trivial
  | cons x r ih =>
    rintro k ⟨h1, h2, h3, _, h4⟩
    exact ⟨h1, hd, fun _ => ⟨h2, h3⟩, ih (k + 1) h4⟩
theorem ld_len : ∀ m k, (ld_L sz m k).length = m := by
  intro m
  induction m with
  | zero => intro _; rfl
  | succ m ih => intro k; simp only [ld_L, List.length_cons, ih]
theorem ld_c (hsz : ∀ q, sz q ≤ 12) : ∀ m k, lw_c lo sz (ld_L sz m k) ≤ 36 * m := by
  intro m
  induction m with
  | zero => intro _; simp [ld_L, lw_c]
  | succ m ih =>
    intro k
    have := ih (k + 1)
    have h := hsz k
    simp only [ld_L, lw_c]
    have : (if sz k = 0 then 0 else 3 * sZ lo k (sz k - 1)) ≤ 36 := by
      unfold sZ; split <;> omega
    omega
theorem ld_h (hsz : ∀ q, sz q ≤ 12) : ∀ m k, lw_h kd lo sz (ld_L sz m k) ≤ 5 * m := by
  intro m
  induction m with
  | zero => intro _; simp [ld_L, lw_h]
  | succ m ih =>
    intro k
    have := ih (k + 1)
    have h := hsz k
    simp only [ld_L, lw_h]
    have h2 := hp_le (kd := kd) (lo := lo) (sz := sz) (d := k) (t := sz k - 1)
    have : (sZ lo k (sz k - 1) - 1) / 2 ≤ 5 := by unfold sZ; omega
    omega
theorem ld_5 (hsz : ∀ q, sz q ≤ 12) (h5 : ∀ y, y < sz d → kd (12 * d + y) ≠ 5) : ∀ m k, k ≤ d → d < k + m → lw_h kd lo sz (ld_L sz m k) + 5 ≤ 5 * m := by
  intro m
  induction m with
  | zero => intro k h1 h2; omega
  | succ m ih =>
    intro k h1 h2
    have h := hsz k
    simp only [ld_L, lw_h]
    by_cases e : k = d
    · have := ld_h (kd := kd) (lo := lo) hsz m (k + 1)
      have : hp_n kd lo sz k (sz k - 1) = 0 := by
        subst e
        unfold hp_n
        split
        · rfl
        · rfl
      omega
    · have := ih (k + 1) (by omega) (by omega)
      have h2 := hp_le (kd := kd) (lo := lo) (sz := sz) (d := k) (t := sz k - 1)
      have : (sZ lo k (sz k - 1) - 1) / 2 ≤ 5 := by unfold sZ; omega
      omega
/-- blocks that are made -/
def dn_R (kd pa pb pc nn sz : Nat → Nat) (N : Nat → Int32) (G : Nat → Nat → Int32) (i p k0 : Nat) : Prop :=
  ∀ b d t, b < i → d < 16 → t < sz d → G 13 b = nI d → G 14 b = nI t → ∃ e, e ≤ 1200 ∧ G 15 b = nI e ∧
    ∀ (C O BD BT : Nat → Int32) (nb : Nat), ag_c C O G 0 p → ag_b BD BT G 0 k0 → k0 ≤ nb → cg_E kd pa pb pc nn N d C O BD BT nb 12 1 t cg_p0 3 0 e (ct_R C O)
def sh_R (kd pa pb pc nn sz : Nat → Nat) (N : Nat → Int32) (G : Nat → Nat → Int32) (i p k0 : Nat) : Prop :=
  ∀ d, 4 ≤ d → d < i → G 7 d = nI 1 → ∃ e, e ≤ 1200 ∧ G 16 d = nI e ∧
    ∀ (C O BD BT : Nat → Int32) (nb : Nat), ag_c C O G 0 p → ag_b BD BT G 0 k0 → k0 ≤ nb → ∀ ka, cg_E kd pa pb pc nn N d C O BD BT nb 12 2 (sz d - 1) cg_p0 3 0 e ka
theorem dn_x {G' : Nat → Nat → Int32} {i q k1 : Nat} (h : dn_R kd pa pb pc nn sz N G i p k0) (hi : i ≤ k0) (hp : p ≤ q) (hk : k0 ≤ k1) (h1 : ∀ b, b < i → G' 15 b = G 15 b) (h2 : ∀ j, j < p → G' 11 j = G 11 j ∧ G' 12 j = G 12 j)
    (h3 : ∀ x, x < k0 → G' 13 x = G 13 x ∧ G' 14 x = G 14 x) : dn_R kd pa pb pc nn sz N G' i q k1 := by
  intro b d t hb hd ht e1 e2
  obtain ⟨e, a1, a2, a3⟩ := h b d t hb hd ht ((h3 b (by omega)).1.symm.trans e1) ((h3 b (by omega)).2.symm.trans e2)
  refine ⟨e, a1, (h1 b hb).trans a2, fun C O BD BT nb c1 c2 c3 => a3 C O BD BT nb (fun j z1 z2 => ?_) (fun x z1 z2 => ?_) (by omega)⟩
  · obtain ⟨r1, r2⟩ := c1 j z1 (by omega)
    exact ⟨r1.trans (h2 j z2).1, r2.trans (h2 j z2).2⟩
  · obtain ⟨r1, r2⟩ := c2 x z1 (by omega)
    exact ⟨r1.trans (h3 x z2).1, r2.trans (h3 x z2).2⟩
theorem sh_x {G' : Nat → Nat → Int32} {i q k1 : Nat} (h : sh_R kd pa pb pc nn sz N G i p k0) (hp : p ≤ q) (hk : k0 ≤ k1) (h0 : G' 7 = G 7) (h1 : ∀ b, b < i → G' 16 b = G 16 b) (h2 : ∀ j, j < p → G' 11 j = G 11 j ∧ G' 12 j = G 12 j)
    (h3 : ∀ x, x < k0 → G' 13 x = G 13 x ∧ G' 14 x = G 14 x) : sh_R kd pa pb pc nn sz N G' i q k1 := by
  intro d h4 hd e1
  obtain ⟨e, a1, a2, a3⟩ := h d h4 hd (by rw [← h0]; exact e1)
  refine ⟨e, a1, (h1 d hd).trans a2, fun C O BD BT nb c1 c2 c3 => a3 C O BD BT nb (fun j z1 z2 => ?_) (fun x z1 z2 => ?_) (by omega)⟩
  · obtain ⟨r1, r2⟩ := c1 j z1 (by omega)
    exact ⟨r1.trans (h2 j z2).1, r2.trans (h2 j z2).2⟩
  · obtain ⟨r1, r2⟩ := c2 x z1 (by omega)
    exact ⟨r1.trans (h3 x z2).1, r2.trans (h3 x z2).2⟩
end
end
section
/-! the loops of compile: definitions; blocks -/
section
variable {kd pa pb pc nn lo sz : Nat → Nat} {N : Nat → Int32} {F : Nat → Int32} {G G0 : Nat → Nat → Int32}
def l1_R (kd sz : Nat → Nat) (G0 G : Nat → Nat → Int32) (i : Nat) : Prop :=
  (∀ k, k < 7 ∨ k = 15 → G k = G0 k) ∧ ∀ q, q < i → G 13 q = nI q ∧ (sz q ≠ 0 → G 14 q = nI (sz q - 1)) ∧ ∃ h, G 7 q = nI h ∧ hq_R kd sz q h
theorem cl_26 (hsz : ∀ q, sz q ≤ 12) (hz : ∀ q, q < 16 → G0 5 q = nI (sz q)) (hk : ∀ d t, d < 16 → t < sz d → G0 0 (12 * d + t) = nI (kd (12 * d + t)) ∧ kd (12 * d + t) ≤ 12) : ∀ (m i : Nat) (G : Nat → Nat → Int32), i + m = 16 → l1_R kd sz G0 G i →
    ∃ G' : Nat → Nat → Int32, (∀ post : SX → Prop, (∃ n, wX_compile_68 post n (nI 0) (F 0) (F 1) (F 2) (F 3) (F 4) (F 5) (F 6) (F 7) (F 8) (F 9) (F 10) (F 11) (F 12) (F 13) (F 14) (F 15) (F 16) (F 17) (F 18) (F 19) (F 20) (F 21) (F 22) (G' 0) (G' 1) (G' 2) (G' 3) (G' 4) (G' 5) (G' 6) (G' 7) (G' 8) (G' 9) (G' 10) (G' 11) (G' 12) (G' 13) (G' 14) (G' 15) (G' 16) (G' 17) (G' 18) (G' 19) (G' 20) (G' 21) (G' 22) (G' 23) (G' 24) (G' 25) (G' 26) (G' 27) (G' 28) (G' 29) (G' 30) (G' 31) (G' 32) (G' 33) (G' 34) (G' 35) (G' 36) (G' 37) (G' 38) (G' 39) (G' 40)) → wX_compile_26 post (m + 1) (nI i) (F 0) (F 1) (F 2) (F 3) (F 4) (F 5) (F 6) (F 7) (F 8) (F 9) (F 10) (F 11) (F 12) (F 13) (F 14) (F 15) (F 16) (F 17) (F 18) (F 19) (F 20) (F 21) (F 22) (G 0) (G 1) (G 2) (G 3) (G 4) (G 5) (G 6) (G 7) (G 8) (G 9) (G 10) (G 11) (G 12) (G 13) (G 14) (G 15) (G 16) (G 17) (G 18) (G 19) (G 20) (G 21) (G 22) (G 23) (G 24) (G 25) (G 26) (G 27) (G 28) (G 29) (G 30) (G 31) (G 32) (G 33) (G 34) (G 35) (G 36) (G 37) (G 38) (G 39) (G 40)) ∧ l1_R kd sz G0 G' 16 := by
  intro m
  induction m with
  | zero =>
    intro i G hi h
    obtain rfl : i = 16 := by omega
    refine ⟨G, fun post q => ?_, h⟩
    unfold wX_compile_26
    exact br_t (by decide) q
  | succ m ih =>
    rintro i G hi ⟨h1, h2⟩
    have ci : (nI i).toNatClampNeg = i := nI_clamp (by omega)
    have v96 : vp_in (nI i) 96 := vp_in_nI (by omega) (by omega)
    have v16 : vp_in (nI i) 16 := vp_in_nI (by omega) (by omega)
    have ez : G 5 i = nI (sz i) := by rw [h1 5 (by decide)]; exact hz i (by omega)
    generalize hv : vp_nar .byte (G 5 i - 1).toInt8.toInt32 = v
    have hv' : sz i ≠ 0 → v = nI (sz i - 1) := fun z => by
      have := hsz i
      rw [← hv, ez, uu_s1 (by omega), uu_b8 (by omega), uu_nb (by omega)]
    obtain ⟨h, a1, a2⟩ := xh_all (kd := kd) (sz := sz) (d := i) (F := F) (G := uu_G (uu_G G 13 (upd (G 13) i (nI i))) 14 (upd (G 14) i v)) (hsz i) (by omega) ez
      (fun t ht => ⟨(congrFun (h1 0 (by decide)) _).trans (hk i t (by omega) ht).1, (hk i t (by omega) ht).2⟩)
    obtain ⟨G', b1, b2⟩ := ih (i + 1) (hb_G (uu_G (uu_G G 13 (upd (G 13) i (nI i))) 14 (upd (G 14) i v)) i h) (by omega) (by
      refine ⟨fun k hk => ?_, fun q hq => ?_⟩
      · unfold hb_G
        rw [uu_Gn (by omega), uu_Gn (by omega), uu_Gn (by omega), h1 k hk]
      · by_cases e : q = i
        · subst e
          exact ⟨pk_us, fun z => pk_us.trans (hv' z), h, pk_us, a2⟩
        · obtain ⟨c1, c2, h', c3, c4⟩ := h2 q (by omega)
          exact ⟨(pk_un e).trans c1, fun z => (pk_un e).trans (c2 z), h', (pk_un e).trans c3, c4⟩)
    refine ⟨G', fun post q => ?_, b2⟩
    unfold wX_compile_26
    refine br_f (nI_ge (b := 16) (by omega) (by omega)) ⟨v96, ?_⟩
    rw [ci]
    refine nm_r (e' := upd (G 13) i (nI i)) (by rw [uu_b8 (by omega), uu_nb (by omega)]) ⟨v16, v96, nm_r (e' := upd (G 14) i v) (congrArg (upd (G 14) i) hv) ?_⟩
    refine a1 _ ?_
    exact nm_r (e' := nI (i + 1)) (nI_1 i) (b1 post q)
/-- the state of the loop over blocks -/
def l2_R (kd pa pb pc nn lo sz : Nat → Nat) (N : Nat → Int32) (B : Nat) (F0 : Nat → Int32) (G0 : Nat → Nat → Int32) (F : Nat → Int32) (G : Nat → Nat → Int32) (i p : Nat) (L : List (Nat × Nat)) : Prop :=
  F 3 = nI p ∧ F 4 = nI (i + L.length) ∧ (∀ k, k < 3 → F k = F0 k) ∧ (∀ k, k < 8 → G k = G0 k) ∧ en_R G ∧ lb_R sz G L i ∧ dn_R kd pa pb pc nn sz N G i p (i + L.length) ∧ p + lw_c lo sz L ≤ 576 ∧ i + L.length + lw_h kd lo sz L ≤ B
    ∧ (16 ≤ i + L.length) ∧ ∀ x, x < 16 → G 13 x = G0 13 x ∧ G 14 x = G0 14 x
theorem cl_68 {B : Nat} {F0 : Nat → Int32} (hsz : ∀ q, sz q ≤ 12) (hz : ∀ q, q < 16 → G0 5 q = nI (sz q)) (td : ∀ d, d < 16 → td_R kd pa pb pc nn lo sz N d G0) (hB : B ≤ 96) (hB5 : ∀ d, d < 16 → (∀ y, y < sz d → kd (12 * d + y) ≠ 5) → B + (sz d - 1) / 2 ≤ 96) :
    ∀ (n i p : Nat) (L : List (Nat × Nat)) (F : Nat → Int32) (G : Nat → Nat → Int32), L.length + lw_h kd lo sz L ≤ n → l2_R kd pa pb pc nn lo sz N B F0 G0 F G i p L →
    ∃ (F' : Nat → Int32) (G' : Nat → Nat → Int32) (i' p' : Nat), (∀ post : SX → Prop, (∃ n, wX_compile_115 post n (nI 4) (F' 0) (F' 1) (F' 2) (F' 3) (F' 4) (F' 5) (F' 6) (F' 7) (F' 8) (F' 9) (F' 10) (F' 11) (F' 12) (F' 13) (F' 14) (F' 15) (F' 16) (F' 17) (F' 18) (F' 19) (F' 20) (F' 21) (F' 22) (G' 0) (G' 1) (G' 2) (G' 3) (G' 4) (G' 5) (G' 6) (G' 7) (G' 8) (G' 9) (G' 10) (G' 11) (G' 12) (G' 13) (G' 14) (G' 15) (G' 16) (G' 17) (G' 18) (G' 19) (G' 20) (G' 21) (G' 22) (G' 23) (G' 24) (G' 25) (G' 26) (G' 27) (G' 28) (G' 29) (G' 30) (G' 31) (G' 32) (G' 33) (G' 34) (G' 35) (G' 36) (G' 37) (G' 38) (G' 39) (G' 40)) → ∃ n, wX_compile_68 post n (nI i) (F 0) (F 1) (F 2) (F 3) (F 4) (F 5) (F 6) (F 7) (F 8) (F 9) (F 10) (F 11) (F 12) (F 13) (F 14) (F 15) (F 16) (F 17) (F 18) (F 19) (F 20) (F 21) (F 22) (G 0) (G 1) (G 2) (G 3) (G 4) (G 5) (G 6) (G 7) (G 8) (G 9) (G 10) (G 11) (G 12) (G 13) (G 14) (G 15) (G 16) (G 17) (G 18) (G 19) (G 20) (G 21) (G 22) (G 23) (G 24) (G 25) (G 26) (G 27) (G 28) (G 29) (G 30) (G 31) (G 32) (G 33) (G 34) (G 35) (G 36) (G 37) (G 38) (G 39) (G 40)) ∧ l2_R kd pa pb pc nn lo sz N B F0 G0 F' G' i' p' [] := by
  intro n
  induction n with
  | zero =>
    intro i p L F G hn h
    have hL : L = [] := List.eq_nil_of_length_eq_zero (by omega)
    subst hL
    refine ⟨F, G, i, p, fun post q => ⟨1, ?_⟩, h⟩
    have hb : F 4 = nI i := h.2.1
    unfold wX_compile_68
    have hi := h.2.2.2.2.2.2.2.2.1
    simp only [List.length_nil, lw_h] at hi
    exact br_t (by rw [hb]; exact nI_le (Nat.le_refl _) (by omega)) q
  | succ n ih =>
    intro i p L F G hn h
    cases L with
    | nil =>
      refine ⟨F, G, i, p, fun post q => ⟨1, ?_⟩, h⟩
      have hb : F 4 = nI i := h.2.1
      unfold wX_compile_68
      have hi := h.2.2.2.2.2.2.2.2.1
      simp only [List.length_nil, lw_h] at hi
      exact br_t (by rw [hb]; exact nI_le (Nat.le_refl _) (by omega)) q
    | cons x L =>
      obtain ⟨d, t⟩ := x
      obtain ⟨h1, h2, h3, h4, h5, ⟨l1, l2, l3, l4⟩, h7, h8, h9, h10, h11⟩ := h
      simp only [List.length_cons, lw_h, lw_c] at hn h2 h7 h8 h9 h10
      have ci : (nI i).toNatClampNeg = i := nI_clamp (by omega)
      have cd : (nI d).toNatClampNeg = d := nI_clamp (by omega)
      have v96 : vp_in (nI i) 96 := vp_in_nI (by omega) (by omega)
      have v16 : vp_in (nI d) 16 := vp_in_nI (by omega) (by omega)
      have ez : G 5 d = nI (sz d) := by rw [h4 5 (by decide)]; exact hz d l2
      have s12 := hsz d
      have hblk : ¬ F 4 ≤ nI i := by rw [h2]; exact nI_ge (by omega) (by omega)
      by_cases z : sz d = 0
      · rw [if_pos z] at h8
        have hp0 : hp_n kd lo sz d t = 0 := if_pos z
        have D : dn_R kd pa pb pc nn sz N G (i + 1) p (i + 1 + L.length) := by
          intro b d' t' hb hd' ht' e1 e2
          by_cases e : b = i
          · subst e
            have : d = d' := (nI_eq (by omega) (by omega)).1 (l1.symm.trans e1)
            subst this
            omega
          · obtain ⟨e, r1, r2, r3⟩ := h7 b d' t' (by omega) hd' ht' e1 e2
            exact ⟨e, r1, r2, fun C O BD BT nb c1 c2 c3 => r3 C O BD BT nb c1 (fun x z1 z2 => c2 x z1 (by omega)) (by omega)⟩
        obtain ⟨F', G', i', p', a1, a2⟩ := ih (i + 1) p L F G (by omega) ⟨h1, by rw [h2]; exact congrArg nI (by omega), h3, h4, h5, l4, D, by omega, by omega, by omega, h11⟩
        refine ⟨F', G', i', p', fun post q => ?_, a2⟩
        obtain ⟨n', hn'⟩ := a1 post q
        refine ⟨n' + 1, ?_⟩
        unfold wX_compile_68
        refine br_f hblk ⟨v96, ?_⟩
        rw [ci, l1, cd]
        exact ⟨v16, br_t (by rw [ez, z]; decide) (nm_r (e' := nI (i + 1)) (nI_1 i) hn')⟩
      · rw [if_neg z] at h8
        obtain ⟨lt, ht⟩ := l3 z
        have td1 : td_R kd pa pb pc nn lo sz N d G := by
          intro x hx
          obtain ⟨a, b⟩ := td d l2 x hx
          refine ⟨a, ?_⟩
          unfold tx_R at b ⊢
          rw [h4 0 (by decide), h4 1 (by decide), h4 2 (by decide), h4 3 (by decide), h4 4 (by decide)]; exact b
        have hs : sZ lo d t ≤ sz d := by unfold sZ; omega
        have hnb : i + (L.length + 1) + (sZ lo d t - 1) / 2 ≤ 96 := by
          by_cases n5 : ∀ y, y < sz d → kd (12 * d + y) ≠ 5
          · have := hB5 d l2 n5
            omega
          · have : hp_n kd lo sz d t = (sZ lo d t - 1) / 2 := by unfold hp_n; rw [if_neg z, if_neg n5]
            omega
        obtain ⟨F1, G1, q, bl, c1, c2, c3, c4, c5, c6, c7, c8, c9, c10, c11, c12, c13⟩ := xc_block (F := F) (b := i) (k0 := i + (L.length + 1)) s12 l2 ez td1 h1 h2 (by omega) ht (by omega) hnb
        have hbl : bl.length + bh_n lo d bl ≤ hp_n kd lo sz d t := by
          by_cases n5 : ∀ y, y < sz d → kd (12 * d + y) ≠ 5
          · obtain rfl := bk_nil n5 c12
            simp only [List.length_nil, bh_n]; omega
          · have : hp_n kd lo sz d t = (sZ lo d t - 1) / 2 := by unfold hp_n; rw [if_neg z, if_neg n5]
            omega
        have m1 := lwc_map (lo := lo) (sz := sz) (d := d) bl
        have m2 := lwh_map (kd := kd) (lo := lo) (sz := sz) (d := d) bl
        have m3 := lwc_app (lo := lo) (sz := sz) L (bl.map (fun x => (d, x)))
        have m4 := lwh_app (kd := kd) (lo := lo) (sz := sz) L (bl.map (fun x => (d, x)))
        have m5 : (L ++ bl.map (fun x => (d, x))).length = L.length + bl.length := by rw [List.length_append, List.length_map]
        have E1 : en_R G1 := by
          intro x
          rw [c6]
          by_cases e : x = i
          · subst e; exact ⟨p, by omega, pk_us⟩
          · rw [pk_un e]; exact h5 x
        have E2 : lb_R sz G1 (L ++ bl.map (fun x => (d, x))) (i + 1) := by
          refine lb_app _ _ _ (lb_x L (i + 1) (fun b hb => c8 b (by omega)) l4) ?_
          rw [show i + 1 + L.length = i + (L.length + 1) by omega]
          exact lb_map l2 _ _ c12
        have E3 : dn_R kd pa pb pc nn sz N G1 (i + 1) q (i + 1 + (L ++ bl.map (fun x => (d, x))).length) := by
          rw [m5]
          intro b d' t' hb hd' ht' e1 e2
          by_cases e : b = i
          · subst e
            rw [(c8 b (by omega)).1] at e1
            rw [(c8 b (by omega)).2] at e2
            have q1 : d = d' := (nI_eq (by omega) (by omega)).1 (l1.symm.trans e1)
            subst q1
            have q2 : t = t' := (nI_eq (by omega) (by omega)).1 (lt.symm.trans e2)
            subst q2
            refine ⟨p, by omega, by rw [c6]; exact pk_us, fun C O BD BT nb z1 z2 z3 => c13 C O BD BT nb (ag_cr z1 (by omega)) (fun x y1 y2 => z2 x (by omega) (by omega)) (by omega)⟩
          · exact dn_x h7 (by omega) c9 (by omega) (fun b hb => by rw [c6]; exact pk_un (by omega)) c7 c8 b d' t' (by omega) hd' ht' e1 e2
        have E4 : ∀ x, x < 16 → G1 13 x = G0 13 x ∧ G1 14 x = G0 14 x := by
          intro x hx
          rw [(c8 x (by omega)).1, (c8 x (by omega)).2]; exact h11 x hx
        obtain ⟨F', G', i', p', a1, a2⟩ := ih (i + 1) q (L ++ bl.map (fun x => (d, x))) F1 G1 (by omega)
          ⟨c2, by rw [c3]; exact congrArg nI (by omega), fun k hk => (c4 k hk).trans (h3 k hk), fun k hk => (c5 k (Or.inl hk)).trans (h4 k hk), E1, E2, E3, by omega, by omega, by omega, E4⟩
        refine ⟨F', G', i', p', fun post q => ?_, a2⟩
        obtain ⟨n', hn'⟩ := a1 post q
        refine ⟨n' + 1, ?_⟩
        unfold wX_compile_68
        refine br_f hblk ⟨v96, ?_⟩
        rw [ci, l1, cd, lt]
        refine ⟨v16, br_f (by rw [ez]; exact nI_nle (by omega) (by omega)) ⟨v96, v96, ?_⟩⟩
        exact c1 _ (nm_r (e' := nI (i + 1)) (nI_1 i) hn')
end
end
section
/-! the loop over clauses that answer at once -/
section
variable {kd pa pb pc nn lo sz : Nat → Nat} {N : Nat → Int32} {F : Nat → Int32} {G G0 : Nat → Nat → Int32}
def l3_R (kd pa pb pc nn sz : Nat → Nat) (N : Nat → Int32) (F0 : Nat → Int32) (G0 : Nat → Nat → Int32) (F : Nat → Int32) (G : Nat → Nat → Int32) (d p k0 : Nat) : Prop :=
  F 3 = nI p ∧ F 4 = nI k0 ∧ (∀ k, k < 3 → F k = F0 k) ∧ (∀ k, k < 8 → G k = G0 k) ∧ en_R G ∧ dn_R kd pa pb pc nn sz N G k0 p k0 ∧ sh_R kd pa pb pc nn sz N G d p k0 ∧ p ≤ 576 + 36 * (d - 4)
    ∧ ∀ x, x < 16 → G 13 x = G0 13 x ∧ G 14 x = G0 14 x
theorem cl_115 {k0 : Nat} {F0 : Nat → Int32} (hsz : ∀ q, sz q ≤ 12) (hz : ∀ q, q < 16 → G0 5 q = nI (sz q)) (td : ∀ d, d < 16 → td_R kd pa pb pc nn lo sz N d G0) (hh : ∀ q, q < 16 → ∃ h, G0 7 q = nI h ∧ hq_R kd sz q h) (h16 : 16 ≤ k0) (hB : k0 ≤ 96)
    (hB5 : ∀ d, d < 16 → (∀ y, y < sz d → kd (12 * d + y) ≠ 5) → k0 + (sz d - 1) / 2 ≤ 96) :
    ∀ (m d p : Nat) (F : Nat → Int32) (G : Nat → Nat → Int32), d + m = 16 → 4 ≤ d → l3_R kd pa pb pc nn sz N F0 G0 F G d p k0 →
    ∃ (F' : Nat → Int32) (G' : Nat → Nat → Int32) (p' : Nat), (∀ post : SX → Prop, post (xs_mk F' G') → wX_compile_115 post (m + 1) (nI d) (F 0) (F 1) (F 2) (F 3) (F 4) (F 5) (F 6) (F 7) (F 8) (F 9) (F 10) (F 11) (F 12) (F 13) (F 14) (F 15) (F 16) (F 17) (F 18) (F 19) (F 20) (F 21) (F 22) (G 0) (G 1) (G 2) (G 3) (G 4) (G 5) (G 6) (G 7) (G 8) (G 9) (G 10) (G 11) (G 12) (G 13) (G 14) (G 15) (G 16) (G 17) (G 18) (G 19) (G 20) (G 21) (G 22) (G 23) (G 24) (G 25) (G 26) (G 27) (G 28) (G 29) (G 30) (G 31) (G 32) (G 33) (G 34) (G 35) (G 36) (G 37) (G 38) (G 39) (G 40)) ∧ l3_R kd pa pb pc nn sz N F0 G0 F' G' 16 p' k0 := by
  intro m
  induction m with
  | zero =>
    intro d p F G hd h4 h
    obtain rfl : d = 16 := by omega
    refine ⟨F, G, p, fun post q => ?_, h⟩
    unfold wX_compile_115
    exact br_t (by decide) q
  | succ m ih =>
    rintro d p F G hd hd4 ⟨h1, h2, h3, h4, h5, h6, h7, h8, h9⟩
    have cd : (nI d).toNatClampNeg = d := nI_clamp (by omega)
    have v16 : vp_in (nI d) 16 := vp_in_nI (by omega) (by omega)
    have n16 : ¬ (16 : Int32) ≤ nI d := nI_ge (b := 16) (by omega) (by omega)
    have hl : d < 16 := by omega
    obtain ⟨h, q1, q2, q3, q4⟩ := hh d hl
    have eh : G 7 d = nI h := by rw [h4 7 (by decide)]; exact q1
    by_cases e1 : h = 1
    · subst e1
      obtain ⟨r1, r2, r3⟩ := q4 rfl
      have s12 := hsz d
      have n5 : ∀ y, y < sz d → kd (12 * d + y) ≠ 5 := fun y hy => (r3 y hy).1
      have b5 := hB5 d hl n5
      have hs : sZ lo d (sz d - 1) ≤ sz d := by unfold sZ; omega
      have td1 : td_R kd pa pb pc nn lo sz N d G := by
        intro x hx
        obtain ⟨a, b⟩ := td d hl x hx
        refine ⟨a, ?_⟩
        unfold tx_R at b ⊢
        rw [h4 0 (by decide), h4 1 (by decide), h4 2 (by decide), h4 3 (by decide), h4 4 (by decide)]; exact b
      obtain ⟨F1, G1, q, c1, c2, c3, c4, c5, c6, c7, c8, c9, c10, c11⟩ := xc_short (F := F) (k0 := k0) (t := sz d - 1) s12 hl (by rw [h4 5 (by decide)]; exact hz d hl) td1 h1 h2 (by omega) r2 n5 (by omega) (by omega)
      have E1 : en_R G1 := by
        intro x
        rw [c5 15 (by decide)]; exact h5 x
      have E2 : dn_R kd pa pb pc nn sz N G1 k0 q k0 := dn_x h6 (by omega) c9 (by omega) (fun b hb => by rw [c5 15 (by decide)]) c7 c8
      have E3 : sh_R kd pa pb pc nn sz N G1 (d + 1) q k0 := by
        intro d' h4' hd' e'
        by_cases e : d' = d
        · subst e
          exact ⟨p, by omega, by rw [c6]; exact pk_us, fun C O BD BT nb z1 z2 z3 => c11 C O BD BT nb (ag_cr z1 (by omega)) z3⟩
        · exact sh_x h7 c9 (by omega) (c5 7 (by decide)) (fun b hb => by rw [c6]; exact pk_un (by omega)) c7 c8 d' h4' (by omega) e'
      have E4 : ∀ x, x < 16 → G1 13 x = G0 13 x ∧ G1 14 x = G0 14 x := by
        intro x hx
        rw [(c8 x (by omega)).1, (c8 x (by omega)).2]; exact h9 x hx
      obtain ⟨F', G', p', a1, a2⟩ := ih (d + 1) q F1 G1 (by omega) (by omega) ⟨c2, c3, fun k hk => (c4 k hk).trans (h3 k hk), fun k hk => (c5 k (Or.inl hk)).trans (h4 k hk), E1, E2, E3, by omega, E4⟩
      refine ⟨F', G', p', fun post q => ?_, a2⟩
      unfold wX_compile_115
      refine br_f n16 ⟨v16, ?_⟩
      rw [cd]
      refine br_t eh ?_
      exact c1 _ (nm_r (e' := nI (d + 1)) (nI_1 d) (a1 post q))
    · have ne : ¬ nI h = nI 1 := fun z => e1 ((nI_eq (by omega) (by omega)).1 z)
      have E3 : sh_R kd pa pb pc nn sz N G (d + 1) p k0 := by
        intro d' h4' hd' e'
        by_cases e : d' = d
        · subst e
          exact absurd (eh.symm.trans e') ne
        · exact h7 d' h4' (by omega) e'
      obtain ⟨F', G', p', a1, a2⟩ := ih (d + 1) p F G (by omega) (by omega) ⟨h1, h2, h3, h4, h5, h6, E3, by omega, h9⟩
      refine ⟨F', G', p', fun post q => ?_, a2⟩
      unfold wX_compile_115
      refine br_f n16 ⟨v16, ?_⟩
      rw [cd]
      exact br_f (fun z => ne (eh.symm.trans z)) (nm_r (e' := nI (d + 1)) (nI_1 d) (a1 post q))
end
end
section
/-! compile -/
def cm_F (F : Nat → Int32) : Nat → Int32 := upd (upd (upd F 2 1) 3 0) 4 16
theorem cm_lb {sz : Nat → Nat} {G : Nat → Nat → Int32} (h : ∀ q, q < 16 → G 13 q = nI q ∧ (sz q ≠ 0 → G 14 q = nI (sz q - 1))) : ∀ m k, k + m ≤ 16 → lb_R sz G (ld_L sz m k) k := by
  intro m
  induction m with
  | zero => intro _ _; trivial
  | succ m ih =>
    intro k hk
    exact ⟨(h k (by omega)).1, by omega, fun z => ⟨(h k (by omega)).2 z, by omega⟩, ih (k + 1) (by omega)⟩
theorem cm_tm {kd pa pb pc nn lo : Nat → Nat} {d t : Nat} (h : tm_L (fun t => kd (12 * d + t)) (fun t => pa (12 * d + t)) (fun t => pb (12 * d + t)) (fun t => pc (12 * d + t)) (fun t => nn (12 * d + t)) (fun t => lo (12 * d + t)) t) : tm_r kd pa pb pc nn d t := by
  obtain ⟨h1, h2, h3, h4, h5, h6, h7, h8, h9, h10, h11⟩ := h
  dsimp only at h1 h2 h3 h4 h5 h6 h7 h8 h9 h10 h11
  refine ⟨h1, fun z => ?_, fun z => ?_, fun z => ?_, h7, h8, h9, h10, h11⟩
  · clear h3 h7 h8 h9 h10 h11
    by_cases z6 : kd (12 * d + t) ≤ 6
    · exact (h5 z6).2.2.2
    · by_cases z10 : kd (12 * d + t) = 10
      · exact (h6 z10).2.2.2.2.1
      · have := (h4 (by omega)).1
        omega
  · rcases z with z | z
    · have := (h5 z).1; omega
    · exact (h6 z).2.2.2.2.2
  · have := (h6 z).1; omega
theorem cm_all {F : Nat → Int32} {G GY : Nat → Nat → Int32} {kd pa pb pc nn lo sz : Nat → Nat} {N : Nat → Int32} (hD : ir_D G GY kd pa pb pc nn lo sz N) (hC : ir_C F G kd pa pb pc nn sz N) :
    ∃ (F' : Nat → Int32) (G' : Nat → Nat → Int32), (∀ post : SX → Prop, post (xs_mk F' G') → wpX_compile post (xs_mk F G)) ∧ ¬ F' 2 = 0 ∧ ir_C F' G' kd pa pb pc nn sz N ∧ F' 0 = F 0 ∧ F' 1 = F 1 ∧ ∀ k, k < 7 → G' k = G k := by
  by_cases hc : F 2 = 0
  · obtain ⟨d1, d2, d3, d4, d5, d6⟩ := hD
    have hk : ∀ d t, d < 16 → t < sz d → G 0 (12 * d + t) = nI (kd (12 * d + t)) ∧ kd (12 * d + t) ≤ 12 := fun d t h1 h2 => ⟨(d5 d t h1 h2).2.1.1, (d5 d t h1 h2).1.1⟩
    obtain ⟨G1, a1, a2, a3⟩ := cl_26 (F := cm_F F) (G0 := G) d1 d3 hk 16 0 G (by omega) ⟨fun _ _ => rfl, fun q hq => absurd hq (by omega)⟩
    have hz1 : ∀ q, q < 16 → G1 5 q = nI (sz q) := fun q hq => by rw [a2 5 (by decide)]; exact d3 q hq
    have td1 : ∀ d, d < 16 → td_R kd pa pb pc nn lo sz N d G1 := fun d hd t ht => by
      obtain ⟨r1, r2, r3⟩ := d5 d t hd ht
      refine ⟨r1, ?_⟩
      unfold tx_R at r2 ⊢
      rw [a2 0 (by decide), a2 1 (by decide), a2 2 (by decide), a2 3 (by decide), a2 4 (by decide)]; exact r2
    have len := ld_len (sz := sz) 16 0
    have bc := ld_c (lo := lo) d1 16 0
    have bh := ld_h (kd := kd) (lo := lo) d1 16 0
    have hB5 : ∀ d, d < 16 → (∀ y, y < sz d → kd (12 * d + y) ≠ 5) → 16 + lw_h kd lo sz (ld_L sz 16 0) + (sz d - 1) / 2 ≤ 96 := fun d hd h5 => by
      have := ld_5 (lo := lo) d1 h5 16 0 (by omega) (by omega)
      have := d1 d
      omega
    obtain ⟨F2, G2, i2, p2, b1, b2⟩ := cl_68 (B := 16 + lw_h kd lo sz (ld_L sz 16 0)) (F0 := cm_F F) d1 hz1 td1 (by omega) hB5 _ 0 0 (ld_L sz 16 0) (cm_F F) G1 (Nat.le_refl _)
      ⟨rfl, by rw [len]; rfl, fun _ _ => rfl, fun _ _ => rfl, fun q => by rw [a2 15 (by decide)]; exact hC.1 q, cm_lb (fun q hq => ⟨(a3 q hq).1, (a3 q hq).2.1⟩) 16 0 (by omega), fun b d t hb => absurd hb (by omega), by omega, by omega, by omega, fun _ _ => ⟨rfl, rfl⟩⟩
    obtain ⟨e1, e2, e3, e4, e5, e6, e7, e8, e9, e10, e11⟩ := b2
    simp only [List.length_nil, Nat.add_zero, lw_h, lw_c] at e2 e7 e8 e9 e10
    obtain ⟨F3, G3, p3, f1, f2⟩ := cl_115 (G0 := G1) (lo := lo) (k0 := i2) (F0 := cm_F F) d1 hz1 td1 (fun q hq => (a3 q hq).2.2) e10 (by omega) (fun d hd h5 => by have := hB5 d hd h5; omega) 12 4 p2 F2 G2 (by omega) (by omega)
      ⟨e1, e2, e3, e4, e5, e7, fun d h1 h2 => absurd h1 (by omega), by omega, e11⟩
    obtain ⟨g1, g2, g3, g4, g5, g6, g7, g8, g9⟩ := f2
    have gk : ∀ k, k < 7 → G3 k = G k := fun k hk => (g4 k (by omega)).trans (a2 k (Or.inl hk))
    refine ⟨F3, G3, ?_, ?_, ⟨g5, Or.inr ⟨?_, fun b => min (G3 15 b).toNatClampNeg 1200, fun d => min (G3 16 d).toNatClampNeg 1200, fun d => (G3 7 d).toNatClampNeg, G3 13, G3 14, i2, ⟨d1, d2, ?_, ?_, ?_, ?_, ?_, ?_⟩, ⟨rfl, rfl, ?_, ?_, ?_, ?_⟩⟩⟩, ?_, ?_, gk⟩
    · intro post q
      unfold wpX_compile
      exact br_t hc ⟨_, a1 post (b1 post ⟨_, f1 post q⟩)⟩
    · rw [g3 2 (by decide)]; exact (by decide : ¬ (1 : Int32) = 0)
    · rw [g3 2 (by decide)]; exact (by decide : ¬ (1 : Int32) = 0)
    · intro q; exact Nat.min_le_right _ _
    · intro q; exact Nat.min_le_right _ _
    · intro d t hd ht
      exact cm_tm (d5 d t hd ht).1
    · intro b d t hb _ hd ht h1 h2
      obtain ⟨e, r1, r2, r3⟩ := g6 b d t hb hd ht h1 h2
      have : min (G3 15 b).toNatClampNeg 1200 = e := by rw [r2, nI_clamp (by omega)]; exact Nat.min_eq_left r1
      dsimp only
      rw [this]
      exact r3 _ _ _ _ _ (fun _ _ _ => ⟨rfl, rfl⟩) (fun _ _ _ => ⟨rfl, rfl⟩) (Nat.le_refl _)
    · intro d hd z
      obtain ⟨r1, r2, _⟩ := a3 d hd
      exact ⟨by omega, (g9 d hd).1.trans r1, (g9 d hd).2.trans (r2 z)⟩
    · intro d h4 hd z
      obtain ⟨_, _, h, r1, r2, r3, r4⟩ := a3 d hd
      have eh : G3 7 d = nI h := by rw [g4 7 (by decide)]; exact r1
      have ec : (G3 7 d).toNatClampNeg = h := by rw [eh]; exact nI_clamp (by omega)
      dsimp only
      rw [ec]
      refine ⟨r2, r3, fun e1 => ?_⟩
      obtain ⟨s1, s2, s3⟩ := r4 e1
      refine ⟨s2, s3, fun ka => ?_⟩
      obtain ⟨e, t1, t2, t3⟩ := g7 d h4 hd (by rw [eh, e1])
      have : min (G3 16 d).toNatClampNeg 1200 = e := by rw [t2, nI_clamp (by omega)]; exact Nat.min_eq_left t1
      rw [this]
      exact t3 _ _ _ _ _ (fun _ _ _ => ⟨rfl, rfl⟩) (fun _ _ _ => ⟨rfl, rfl⟩) (Nat.le_refl _) ka
    · intro q hq
      rw [gk 5 (by decide)]; exact d3 q hq
    · intro q _
      obtain ⟨e, r1, r2⟩ := g5 q
      have : min (G3 15 q).toNatClampNeg 1200 = e := by rw [r2, nI_clamp (by omega)]; exact Nat.min_eq_left r1
      dsimp only
      rw [this]; exact r2
    · intro q hq _
      obtain ⟨_, _, h, r1, r2, _⟩ := a3 q hq
      have eh : G3 7 q = nI h := by rw [g4 7 (by decide)]; exact r1
      have ec : (G3 7 q).toNatClampNeg = h := by rw [eh]; exact nI_clamp (by omega)
      dsimp only
      rw [ec]; exact eh
    · intro q h4 hq z e1
      obtain ⟨_, _, h, r1, r2, r3, r4⟩ := a3 q hq
      have eh : G3 7 q = nI h := by rw [g4 7 (by decide)]; exact r1
      have ec : (G3 7 q).toNatClampNeg = h := by rw [eh]; exact nI_clamp (by omega)
      dsimp only at e1
      rw [ec] at e1
      obtain ⟨e, t1, t2, t3⟩ := g7 q h4 hq (by rw [eh, e1])
      have : min (G3 16 q).toNatClampNeg 1200 = e := by rw [t2, nI_clamp (by omega)]; exact Nat.min_eq_left t1
      dsimp only
      rw [this]; exact t2
    · rw [g3 0 (by decide)]; rfl
    · rw [g3 1 (by decide)]; rfl
  · refine ⟨F, G, fun post q => ?_, hc, hC, rfl, rfl, fun _ _ => rfl⟩
    unfold wpX_compile
    exact br_f hc q
end
section
/-! a run -/
def rn_F (F : Nat → Int32) : Nat → Int32 :=
  upd (upd (upd (upd (upd (upd (upd (upd F 15 (-5)) 16 0) 17 (-4)) 18 0) 19 0) 20 0) 21 0) 22 0
def rn_G (G : Nat → Nat → Int32) : Nat → Nat → Int32 := uu_G (uu_G G 31 (upd (G 31) 0 0)) 32 (upd (G 32) 0 0)
def rn_F2 (F : Nat → Int32) : Nat → Int32 := upd (upd (upd (upd (upd (rn_F F) 10 0) 11 0) 12 0) 13 0) 14 0
theorem rn_exec {F F' : Nat → Int32} {G G' : Nat → Nat → Int32} {f e i : Nat} {a : Int32} (hf : f < 96) (he : G 15 f = nI e) (heb : e ≤ 1200)
    (g : ex_go 0 (upd (rn_F2 F) 10 (nI (0 + 1))) (xb_eG (rn_G G) 0 e 0 a 0 0) i F' G') (hi : i < 4000000) (hs : ¬ F' 15 = -5) {post : SX → Prop} (h : post (xs_mk F' G')) : wpX_execute post (xs_mk (rn_F F) G) (nI f) a := by
  have cf : (nI f).toNatClampNeg = f := nI_clamp (by omega)
  unfold wpX_execute
  refine nm_r (e' := upd (G 31) 0 0) rfl (nm_r (e' := upd (G 32) 0 0) rfl ⟨vp_in_nI hf (by omega), ?_⟩)
  rw [cf, show G 15 f = nI e from he]
  refine xb_enter (F := rn_F2 F) (G := rn_G G) (f := 0) (ct := 0) rfl (by omega) (by omega) (by omega) ?_
  exact g post (ex_end hi hs h)
def rn_Y (F : Nat → Int32) : Nat → Int32 :=
  upd (upd (upd (upd (upd (upd (upd (upd (upd (upd (upd (upd (upd F 7 0) 8 0) 9 (-1)) 10 (-1)) 11 0) 12 0) 13 (-1)) 14 (-4)) 15 0) 16 0) 17 0) 18 0) 19 0
def rn_Y2 (F : Nat → Int32) (j : Nat) (a : Int32) : Nat → Int32 := upd (upd (upd (upd (upd (rn_Y F) 1 (nI j)) 3 a) 4 0) 5 0) 6 0
theorem rn_ref {F F' : Nat → Int32} {G G' : Nat → Nat → Int32} {f s : Nat} {a : Int32} (hf : f < 4) (hs : G 4 f = nI (s + 1)) (g : ey_go (rn_Y2 F (12 * f + s) a) G F' G') (he : ¬ F' 13 = -1) {post : Int32 → SY → Prop} (h : post (F' 13) (ys_mk F' G')) : wpY_run post (ys_mk F G) (nI f) a := by
  unfold wpY_run
  refine br_f (nI_pos (by omega)) (br_t (nI_le (b := 3) (by omega) (by omega)) ?_)
  refine yb_enter (F := rn_Y F) (G := G) (by omega) hs ?_
  refine g post ⟨1, ?_⟩
  unfold ey_W wY_run_84
  exact br_f he h
theorem rn_sim {kd pa pb pc nn sz en se hb : Nat → Nat} {N C O BD BT : Nat → Int32} {nb : Nat} {lo : Nat → Nat} (hP : sp_R kd pa pb pc nn sz en se hb N C O BD BT nb) {F : Nat → Int32} {G : Nat → Nat → Int32} {FY : Nat → Int32} {GY : Nat → Nat → Int32} (sx : sx_R sz en se hb C O G) (hD : ir_D G GY kd pa pb pc nn lo sz N) {f : Nat} {a : Int32} (hf : f < 4) :
    sm_F 0 (upd (rn_F2 F) 10 (nI (0 + 1))) (xb_eG (rn_G G) 0 (en f) 0 a 0 0) (rn_Y2 FY (12 * f + (sz f - 1)) a) GY := by
  have hz := hP.2.1 f hf
  have hz2 := hP.1 f
  obtain ⟨E, env⟩ := en_D hP (d := f) (yh := 0) (x0 := a) (x1 := 0) (x2 := 0) (by omega) (by omega)
  have S0 : xr_S (upd (rn_F2 F) 10 0) (rn_G G) 0 0 0 [] [] (fun _ => ([], [])) 0 := by
    refine ⟨rfl, rfl, rfl, rfl, rfl, ⟨0, Nat.le_refl _, rfl, ⟨rfl, rfl⟩, rfl⟩, ?_⟩
    intro c h1 h2; omega
  have T := xn_enterT (F' := upd (rn_F2 F) 10 (nI (0 + 1))) (p := en f) (ct := 0) (a := a) (b := 0) (c := 0) S0 (hP.2.2.1 f) (by omega) (fun k h1 h2 => by rw [pk_un (by omega), pk_un (by omega)]) rfl
  have sx' : sx_R sz en se hb C O (xb_eG (rn_G G) 0 (en f) 0 a 0 0) := by
    refine sx_I (F := F) (F' := F) sx fun k hk => ?_
    unfold xb_eG rn_G
    rw [uu_Gn (by omega), uu_Gn (by omega), uu_Gn (by omega), uu_Gn (by omega), uu_Gn (by omega), uu_Gn (by omega)]
  have sy : sy_R kd pa pb pc nn sz N GY := ⟨hD.2.2.2.1, fun d t hd ht => (hD.2.2.2.2.1 d t hd ht).2.2⟩
  refine sm_all hP (st := 0) ⟨0, 0, 0, 0, fun _ => ([], []), 0, 0, 0, fun _ => ([], []), fun _ => 0, 0, 0, 0, 0, 0, fun _ => 0, 0, en f, 0, [0, 0, a], [], [], [], [], [], f, sz f - 1, 1, 12, 1, cg_p0, a, 0, 0, 0, false,
    ⟨T, ⟨rfl, rfl, rfl, rfl, rfl, rfl, rfl, fun i hi => absurd hi (by omega)⟩, ⟨rfl, rfl, rfl, rfl, rfl, rfl, rfl, rfl, fun c h1 h2 => by omega⟩, ⟨rfl, rfl, rfl, rfl, rfl, fun i hi => absurd hi (by omega)⟩, sx', sy, fun c h1 h2 => by omega, by omega, by omega, by omega, by omega, by omega, by omega, by omega, by omega, by omega, by omega, by omega, by simp⟩,
    ⟨rfl, rfl, rfl, rfl, rfl⟩, ⟨by omega, by omega, by omega, by omega, by omega, by omega⟩, E, env, ⟨fun _ => ⟨rfl, Nat.le_refl _⟩, fun _ => rfl, fun z => absurd z (by decide), fun z => absurd z (by decide)⟩, fun z => absurd z (by decide), Or.inl ⟨rfl, rfl, rfl, Or.inr (Or.inl ⟨rfl, rfl⟩)⟩⟩
theorem i_vc_run {k : Nat} {u : SX} {v : SY} (I : i_Rel k u v) (hk : k + 3 ≤ 1536) (v1 : Int32) (v2 : Int32) : wpX_run (fun r u' => wpY_run (fun r' v' => r' = r ∧ i_Rel (k + 3) u' v') v v1 v2) u v1 v2 := by
  have I0 := I
  obtain ⟨F, G, FY, GY, rfl, rfl, ⟨kd, pa, pb, pc, nn, lo, sz, N, hD, hC⟩, ⟨tk, ta, tb, tc, tn, tl, X, m, s, hM⟩, hE⟩ := I
  by_cases h1 : v1 < 0
  · exact br_t h1 (br_t h1 (ir_go I0))
  obtain ⟨f, hf, rfl⟩ := nI_of h1
  by_cases h2 : f < 4
  · refine br_f h1 (br_t (nI_lt (b := 4) h2 (by omega)) ?_)
    obtain ⟨F1, G1, c1, c2, c3, c4, c5, c6⟩ := cm_all hD hC
    refine c1 _ ?_
    have hD1 : ir_D G1 GY kd pa pb pc nn lo sz N := ir_Dx hD (fun k hk j _ => by rw [c6 k (by omega)]) (fun q _ => by rw [c6 _ (by decide)]) (fun _ _ _ _ => rfl) (fun _ _ => rfl)
    rcases c3 with ⟨c30, z | ⟨_, en, se, hb, BD, BT, nb, hP, sx⟩⟩
    · exact absurd z c2
    · have hz := hP.2.1 f h2
      obtain ⟨i', F', G', FY', GY', g1, g2, g3, g4, g5, g6⟩ := rn_sim (FY := FY) (F := F1) hP sx hD1 (f := f) (a := v2) h2
      obtain ⟨e1, e2, e3, e4, e5, e6, e7, e8, e9, e10⟩ := g6
      show wpX_execute _ (xs_mk (rn_F F1) G1) (nI f) v2
      refine rn_exec (by omega) (sx.2.2.2.1 f (by omega)) (hP.2.2.1 f) g1 g2 e2 ?_
      show wpY_run (fun r' v' => r' = F' 15 ∧ i_Rel (k + 3) (xs_mk F' G') v') (ys_mk FY GY) (nI f) v2
      refine rn_ref h2 (by rw [hD.2.2.2.1 f (by omega)]; exact congrArg nI (by omega)) g3 e3 ⟨e1.symm, ?_⟩
      have gX : ∀ k, k < 22 → G' k = G1 k := fun k hk => by
        rw [g4.2 k hk]
        unfold xb_eG rn_G
        rw [uu_Gn (by omega), uu_Gn (by omega), uu_Gn (by omega), uu_Gn (by omega), uu_Gn (by omega), uu_Gn (by omega)]
      have fX : ∀ k, k < 10 → F' k = F1 k := fun k hk => by
        rw [g4.1 k hk]
        unfold rn_F2 rn_F
        rw [pk_un (by omega), pk_un (by omega), pk_un (by omega), pk_un (by omega), pk_un (by omega), pk_un (by omega), pk_un (by omega), pk_un (by omega), pk_un (by omega), pk_un (by omega), pk_un (by omega), pk_un (by omega), pk_un (by omega), pk_un (by omega)]
      refine ⟨F', G', FY', GY', rfl, rfl, ⟨kd, pa, pb, pc, nn, lo, sz, N, ?_, ?_⟩, ⟨tk, ta, tb, tc, tn, tl, X, m, s, ?_⟩, e1, e4, e5, e6, e7, e8, e9, e10⟩
      · exact ir_Dx hD1 (fun k hk j _ => by rw [gX k (by omega)]) (fun q _ => by rw [gX _ (by decide)]) (fun k hk j _ => by rw [g5.2 k (by omega)]) (fun q _ => by rw [g5.2 _ (by decide)])
      · exact ir_Cx ⟨c30, Or.inr ⟨c2, en, se, hb, BD, BT, nb, hP, sx⟩⟩ (fX _ (by decide)) (fun q _ => by rw [gX _ (by decide)]) (fun k _ hk => gX k hk)
      · obtain ⟨m1, m2, m3, m4, m5, m6, m7, m8, m9⟩ := hM
        refine ⟨(fX _ (by decide)).trans (c4.trans m1), by rw [g5.2 _ (by decide)]; exact m2, m3, (fX _ (by decide)).trans (c5.trans m4), g5.1.trans m5, by rw [gX _ (by decide), c6 _ (by decide)]; exact m6, by rw [g5.2 _ (by decide)]; exact m7, m8, ?_⟩
        intro t ht
        obtain ⟨a1, ⟨b1, b2, b3, b4, b5, b6⟩, ⟨d1, d2, d3, d4⟩⟩ := m9 t ht
        have ex : ∀ k, k < 7 → G' k = G k := fun k hk => (gX k (by omega)).trans (c6 k hk)
        refine ⟨a1, ⟨by rw [ex _ (by decide)]; exact b1, by rw [ex _ (by decide)]; exact b2, by rw [ex _ (by decide)]; exact b3, by rw [ex _ (by decide)]; exact b4, by rw [ex _ (by decide)]; exact b5, b6⟩, by rw [g5.2 _ (by decide)]; exact d1, by rw [g5.2 _ (by decide)]; exact d2, fun z => by rw [g5.2 _ (by decide)]; exact d3 z, fun z => by rw [g5.2 _ (by decide)]; exact d4 z⟩
  · exact br_f h1 (br_f (nI_nlt (b := 4) (by omega) hf) (br_f h1 (br_f (nI_ge (a := 3) (by omega) hf) (ir_go I0))))
end
