section
/-! pure rows to paste: stores, nI and lN arithmetic, masks, shifts, narrowing, branches by naturals (pk_le, pk_lt, pk_eq), loops (lp1 .. lp16: the measure of the state; rp1 ..: recursion), negatives. Take what you need -/
theorem pk_us {f : Nat → Int32} {k : Nat} {x : Int32} : upd f k x k = x := if_pos rfl
theorem pk_un {f : Nat → Int32} {k j : Nat} {x : Int32} (h : j ≠ k) : upd f k x j = f j := if_neg h
theorem pk_uLs {f : Nat → Int64} {k : Nat} {x : Int64} : vp_updL f k x k = x := if_pos rfl
theorem pk_uLn {f : Nat → Int64} {k j : Nat} {x : Int64} (h : j ≠ k) : vp_updL f k x j = f j := if_neg h
theorem pk_sub {a b : Nat} (h : b ≤ a) : nI a - nI b = nI (a - b) := by
  obtain ⟨c, rfl⟩ : ∃ c, a = c + b := ⟨a - b, by omega⟩
  rw [← nI_add, Int32.add_sub_cancel, Nat.add_sub_cancel]
theorem pk_m1 (n : Nat) : nI (n + 1) + (-1) = nI n := by
  rw [← nI_1, Int32.add_assoc, show (1 : Int32) + (-1) = 0 from rfl, Int32.add_zero]
theorem pk_mul (a b : Nat) : nI a * nI b = nI (a * b) := (Int32.ofNat_mul a b).symm
theorem pk_div {a d : Nat} (ha : a < 2 ^ 31) (h0 : 0 < d) (hd : d < 2 ^ 31) : nI a / nI d = nI (a / d) := by
  apply Int32.toInt_inj.mp
  rw [lg_idiv_nonneg (by rw [nI_toInt ha]; omega) (by rw [nI_toInt hd]; omega), nI_toInt ha, nI_toInt hd, nI_toInt (Nat.lt_of_le_of_lt (Nat.div_le_self a d) ha)]
  first | rfl | exact (Int.natCast_ediv _ _).symm
theorem pk_rem {a d : Nat} (ha : a < 2 ^ 31) (h0 : 0 < d) (hd : d < 2 ^ 31) : nI a - nI a / nI d * nI d = nI (a % d) := by
  rw [pk_div ha h0 hd, pk_mul, pk_sub (Nat.div_mul_le_self a d)]
  exact congrArg nI (by have := Nat.div_add_mod' a d; omega)
theorem pk_sub_toInt {a b : Nat} (ha : a < 2 ^ 30) (hb : b < 2 ^ 30) : (nI a - nI b).toInt = (a : Int) - b := by
  rw [Int32.toInt_sub, nI_toInt (by omega), nI_toInt (by omega)]
  exact Int.bmod_eq_of_le (by omega) (by omega)
theorem pk_sneg {a b : Nat} (hb : b < 2 ^ 30) (h : a < b) : nI a - nI b < 0 := by
  rw [Int32.lt_iff_toInt_lt, pk_sub_toInt (by omega) hb, show (0 : Int32).toInt = 0 from by decide]
  omega
theorem pk_ix (x : Int32) {n : Nat} (hn : n < 2 ^ 31) : x < 0 ∨ nI n ≤ x ∨ ∃ j : Nat, j < n ∧ x = nI j := by
  by_cases h : x < 0
  · exact Or.inl h
  · obtain ⟨j, hj, rfl⟩ := nI_of h
    by_cases h2 : j < n
    · exact Or.inr (Or.inr ⟨j, h2, rfl⟩)
    · exact Or.inr (Or.inl (nI_le (by omega) hj))
theorem pk_le {x y : Int32} {A B : Prop} (a b : Nat) (f : a ≤ b → A) (g : b < a → B) (hx : x = nI a := by rfl) (hy : y = nI b := by rfl) (ha : a < 2 ^ 31 := by omega) (hb : b < 2 ^ 31 := by omega) : (x ≤ y → A) ∧ (¬ x ≤ y → B) := by
  subst hx hy
  rw [nI_leI ha hb]
  exact ⟨f, fun z => g (by omega)⟩
theorem pk_lt {x y : Int32} {A B : Prop} (a b : Nat) (f : a < b → A) (g : b ≤ a → B) (hx : x = nI a := by rfl) (hy : y = nI b := by rfl) (ha : a < 2 ^ 31 := by omega) (hb : b < 2 ^ 31 := by omega) : (x < y → A) ∧ (¬ x < y → B) := by
  subst hx hy
  rw [nI_ltI ha hb]
  exact ⟨f, fun z => g (by omega)⟩
theorem pk_eq {x y : Int32} {A B : Prop} (a b : Nat) (f : a = b → A) (g : a ≠ b → B) (hx : x = nI a := by rfl) (hy : y = nI b := by rfl) (ha : a < 2 ^ 31 := by omega) (hb : b < 2 ^ 31 := by omega) : (x = y → A) ∧ (¬ x = y → B) := by
  subst hx hy
  rw [nI_eq ha hb]
  exact ⟨f, g⟩
theorem pk_in {x : Int32} (n N : Nat) (h : n < N) (hx : x = nI n := by rfl) (hN : N < 2 ^ 31 := by omega) : vp_in x N := by
  subst hx
  exact vp_in_nI h hN
theorem pk_cl {x : Int32} (n : Nat) (hx : x = nI n := by rfl) (h : n < 2 ^ 31 := by omega) : x.toNatClampNeg = n := by
  subst hx
  exact nI_clamp h
theorem pk_tn {n : Nat} (h : n < 2 ^ 32) : (nI n).toBitVec.toNat = n := Nat.mod_eq_of_lt h
theorem pk_and (x : Int32) {m : Int32} (k : Nat) (hm : m.toBitVec.toNat = 2 ^ k - 1) : x &&& m = nI (x.toBitVec.toNat % 2 ^ k) := by
  apply Int32.toBitVec_inj.mp
  apply BitVec.eq_of_toNat_eq
  rw [Int32.toBitVec_and, BitVec.toNat_and, hm, Nat.and_two_pow_sub_one_eq_mod]
  show _ = (BitVec.ofNat 32 _).toNat
  rw [BitVec.toNat_ofNat]
  exact (Nat.mod_eq_of_lt (Nat.lt_of_le_of_lt (Nat.mod_le _ _) x.toBitVec.isLt)).symm
theorem pk_andN {n : Nat} (h : n < 2 ^ 32) {m : Int32} (k : Nat) (hm : m.toBitVec.toNat = 2 ^ k - 1) : nI n &&& m = nI (n % 2 ^ k) := by
  rw [pk_and _ k hm, pk_tn h]
theorem pk_andE (x : Int32) {m : Int32} (k : Nat) (hm : m.toBitVec.toNat = 2 ^ k - 1) : ∃ j : Nat, j < 2 ^ k ∧ x &&& m = nI j := ⟨_, Nat.mod_lt _ (Nat.two_pow_pos k), pk_and x k hm⟩
theorem pk_andIn (x : Int32) {m : Int32} (k : Nat) (hm : m.toBitVec.toNat = 2 ^ k - 1) (hk : k ≤ 30) : vp_in (x &&& m) (2 ^ k) := by
  obtain ⟨j, hj, e⟩ := pk_andE x k hm
  rw [e]
  exact vp_in_nI hj (Nat.lt_of_le_of_lt (Nat.pow_le_pow_right (by decide) hk) (by decide))
theorem pk_shl (a s : Int32) (k : Nat) (hs : (s.toBitVec.smod 32).toNat = k) : (a <<< s).toBitVec.toNat = a.toBitVec.toNat * 2 ^ k % 2 ^ 32 := by
  show (a.toBitVec <<< (s.toBitVec.smod 32).toNat).toNat = _
  rw [hs, BitVec.toNat_shiftLeft, Nat.shiftLeft_eq]
theorem pk_shlN {n : Nat} (s : Int32) (k : Nat) (hs : (s.toBitVec.smod 32).toNat = k) (h : n * 2 ^ k < 2 ^ 32) : nI n <<< s = nI (n * 2 ^ k) := by
  apply Int32.toBitVec_inj.mp
  apply BitVec.eq_of_toNat_eq
  have hn : n < 2 ^ 32 := Nat.lt_of_le_of_lt (Nat.le_mul_of_pos_right n (Nat.two_pow_pos k)) h
  rw [pk_shl _ _ k hs, pk_tn hn, pk_tn h, Nat.mod_eq_of_lt h]
theorem pk_shr (a s : Int32) (k : Nat) (hs : (s.toBitVec.smod 32).toNat = k) : (a >>> s).toInt = a.toInt >>> k := by
  show (a.toBitVec.sshiftRight (s.toBitVec.smod 32).toNat).toInt = _
  rw [hs, BitVec.toInt_sshiftRight]
  rfl
theorem pk_shrN {n : Nat} (h : n < 2 ^ 31) (s : Int32) (k : Nat) (hs : (s.toBitVec.smod 32).toNat = k) : nI n >>> s = nI (n / 2 ^ k) := by
  apply Int32.toInt_inj.mp
  have h2 : n / 2 ^ k ≤ n := Nat.div_le_self _ _
  rw [pk_shr _ _ k hs, nI_toInt h, nI_toInt (by omega), Int.shiftRight_eq_div_pow]
  rfl
theorem pk_ushr (x s : Int32) (k : Nat) (hs : ((s.toUInt32 &&& Int32.toUInt32 31).toBitVec % 32).toNat = k) : (x.toUInt32 >>> (s.toUInt32 &&& Int32.toUInt32 31)).toInt32.toBitVec.toNat = x.toBitVec.toNat / 2 ^ k := by
  have e : (x.toUInt32 >>> (s.toUInt32 &&& Int32.toUInt32 31)).toInt32.toBitVec = x.toBitVec >>> k := by
    rw [← hs]
    exact UInt32.toBitVec_shiftRight _ _
  rw [e, BitVec.toNat_ushiftRight, Nat.shiftRight_eq_div_pow]
theorem pk_ushrN {n : Nat} (hn : n < 2 ^ 32) (s : Int32) (k : Nat) (hs : ((s.toUInt32 &&& Int32.toUInt32 31).toBitVec % 32).toNat = k) : ((nI n).toUInt32 >>> (s.toUInt32 &&& Int32.toUInt32 31)).toInt32 = nI (n / 2 ^ k) := by
  apply Int32.toBitVec_inj.mp
  apply BitVec.eq_of_toNat_eq
  rw [pk_ushr _ s k hs, pk_tn hn, pk_tn (Nat.lt_of_le_of_lt (Nat.div_le_self _ _) hn)]
theorem pk_nb (z : Int32) : narrow .byte (.int z.toInt8.toInt32) = .int z.toInt8.toInt32 := congrArg Value.int (by simp)
theorem pk_ns (z : Int32) : narrow .short (.int z.toInt16.toInt32) = .int z.toInt16.toInt32 := congrArg Value.int (by simp)
theorem pk_fb (r : Int32) : fits .byte (.int r.toInt8.toInt32) = true := by
  have ⟨a, b⟩ := lg_i2b_range r
  have h1 : (-128 : Int32).toInt = -128 := by decide
  have h2 : (127 : Int32).toInt = 127 := by decide
  simp only [fits, Bool.and_eq_true, decide_eq_true_eq, Int32.le_iff_toInt_le, h1, h2]
  omega
theorem pk_fs (r : Int32) : fits .short (.int r.toInt16.toInt32) = true := by
  have ⟨a, b⟩ := lg_i2s_range r
  have h1 : (-32768 : Int32).toInt = -32768 := by decide
  have h2 : (32767 : Int32).toInt = 32767 := by decide
  simp only [fits, Bool.and_eq_true, decide_eq_true_eq, Int32.le_iff_toInt_le, h1, h2]
  omega
theorem pk_charN {q : Nat} (hq : q < 65536) : narrow .char (.int (nI q)) = .int (nI q) ∧ fits .char (.int (nI q)) = true := by
  constructor
  · have e : (nI q).toUInt32.toUInt16.toUInt32.toInt32 = nI q := by
      apply Int32.toBitVec_inj.mp
      apply BitVec.eq_of_toNat_eq
      show (nI q).toUInt32.toUInt16.toUInt32.toNat = q % 2 ^ 32
      rw [UInt16.toNat_toUInt32, UInt32.toNat_toUInt16, show (nI q).toUInt32.toNat = q % 2 ^ 32 from rfl]
      omega
    exact congrArg Value.int e
  · have a : (0 : Int32) ≤ nI q := nI_pos' (by omega)
    have b : nI q ≤ 65535 := nI_le (b := 65535) (by omega) (by decide)
    show (decide ((0 : Int32) ≤ nI q) && decide (nI q ≤ 65535)) = true
    rw [decide_eq_true a, decide_eq_true b]
    rfl
theorem pk_char (x : Int32) : (x.toUInt32 % 65536).toInt32 = nI (x.toBitVec.toNat % 65536) := by
  apply Int32.toBitVec_inj.mp
  apply BitVec.eq_of_toNat_eq
  rw [pk_tn (by omega)]
  show (x.toUInt32 % 65536).toNat = _
  rw [UInt32.toNat_mod]
  rfl
theorem pk_nc (x : Int32) : narrow .char (.int (x.toUInt32 % 65536).toInt32) = .int (x.toUInt32 % 65536).toInt32 := by
  rw [pk_char]
  exact (pk_charN (Nat.mod_lt _ (by decide))).1
theorem pk_fc (x : Int32) : fits .char (.int (x.toUInt32 % 65536).toInt32) = true := by
  rw [pk_char]
  exact (pk_charN (Nat.mod_lt _ (by decide))).2
theorem pk_vb (z : Int32) : vp_nar .byte z.toInt8.toInt32 = z.toInt8.toInt32 := by rw [vp_nar_byte]; simp
theorem pk_vs (z : Int32) : vp_nar .short z.toInt16.toInt32 = z.toInt16.toInt32 := by rw [vp_nar_short]; simp
theorem pk_vc (z : Int32) : vp_nar .char (z.toUInt32 % 65536).toInt32 = (z.toUInt32 % 65536).toInt32 := Value.int.inj (pk_nc z)
/-! ===== Int32 by its bits: bt x i ===== -/
def bt (x : Int32) (i : Nat) : Bool := x.toBitVec.getLsbD i
theorem b_ext {x y : Int32} (h : ∀ i, i < 32 → bt x i = bt y i) : x = y := Int32.toBitVec_inj.mp (BitVec.eq_of_getLsbD_eq (fun i hi => h i hi))
theorem b_or (x y : Int32) (i : Nat) : bt (x ||| y) i = (bt x i || bt y i) := by unfold bt; rw [Int32.toBitVec_or, BitVec.getLsbD_or]
theorem b_and (x y : Int32) (i : Nat) : bt (x &&& y) i = (bt x i && bt y i) := by unfold bt; rw [Int32.toBitVec_and, BitVec.getLsbD_and]
theorem b_xor (x y : Int32) (i : Nat) : bt (x ^^^ y) i = (bt x i ^^ bt y i) := by unfold bt; rw [Int32.toBitVec_xor, BitVec.getLsbD_xor]
theorem b_big {x : Int32} {i : Nat} (h : 32 ≤ i) : bt x i = false := BitVec.getLsbD_of_ge _ _ h
theorem b_255 (i : Nat) : bt 255 i = decide (i < 8) := by
  rcases Nat.lt_or_ge i 32 with h | h
  · exact (by decide +kernel : ∀ i, i < 32 → bt 255 i = decide (i < 8)) i h
  · rw [b_big h, decide_eq_false (by omega)]
theorem b_65535 (i : Nat) : bt 65535 i = decide (i < 16) := by
  rcases Nat.lt_or_ge i 32 with h | h
  · exact (by decide +kernel : ∀ i, i < 32 → bt 65535 i = decide (i < 16)) i h
  · rw [b_big h, decide_eq_false (by omega)]
theorem b_m1 : ∀ i, i < 32 → bt (-1) i = true := by decide +kernel
theorem b_0 (i : Nat) : bt 0 i = false := BitVec.getLsbD_zero
theorem s_l : ∀ n, n < 32 → ((nI n &&& 31).toBitVec.smod 32).toNat = n := by decide +kernel
theorem s_u : ∀ n, n < 32 → (((nI n).toUInt32 &&& Int32.toUInt32 31).toBitVec % 32).toNat = n := by decide +kernel
theorem b_shl (n : Nat) (hn : n < 32) (x : Int32) {i : Nat} (hi : i < 32) : bt (x <<< (nI n &&& 31)) i = (decide (n ≤ i) && bt x (i - n)) := by
  unfold bt
  rw [Int32.toBitVec_shiftLeft]
  show (x.toBitVec <<< ((nI n &&& 31).toBitVec.smod 32).toNat).getLsbD i = _
  rw [s_l n hn, BitVec.getLsbD_shiftLeft]
  rcases Nat.lt_or_ge i n with h | h
  · simp [h, Nat.not_le.mpr h]
  · simp [hi, h, Nat.not_lt.mpr h]
theorem b_ushr (n : Nat) (hn : n < 32) (x : Int32) (i : Nat) : bt ((x.toUInt32 >>> ((nI n).toUInt32 &&& Int32.toUInt32 31)).toInt32) i = bt x (n + i) := by
  show (x.toUInt32 >>> ((nI n).toUInt32 &&& Int32.toUInt32 31)).toBitVec.getLsbD i = x.toUInt32.toBitVec.getLsbD (n + i)
  rw [UInt32.toBitVec_shiftRight]
  show (x.toUInt32.toBitVec >>> (((nI n).toUInt32 &&& Int32.toUInt32 31).toBitVec % 32).toNat).getLsbD i = _
  rw [s_u n hn, BitVec.getLsbD_ushiftRight]
theorem b_sshr (n : Nat) (hn : n < 32) (x : Int32) {i : Nat} (hi : i < 32) : bt (x >>> (nI n &&& 31)) i = if n + i < 32 then bt x (n + i) else bt x 31 := by
  unfold bt
  rw [Int32.toBitVec_shiftRight]
  show (x.toBitVec.sshiftRight ((nI n &&& 31).toBitVec.smod 32).toNat).getLsbD i = _
  rw [s_l n hn, BitVec.getLsbD_sshiftRight, BitVec.msb_eq_getLsbD_last]
  simp [hi]
theorem b_shl8 (x : Int32) {i : Nat} (hi : i < 32) : bt (x <<< ((8 : Int32) &&& 31)) i = (decide (8 ≤ i) && bt x (i - 8)) := b_shl 8 (by omega) x hi
theorem b_shl16 (x : Int32) {i : Nat} (hi : i < 32) : bt (x <<< ((16 : Int32) &&& 31)) i = (decide (16 ≤ i) && bt x (i - 16)) := b_shl 16 (by omega) x hi
theorem b_shl24 (x : Int32) {i : Nat} (hi : i < 32) : bt (x <<< ((24 : Int32) &&& 31)) i = (decide (24 ≤ i) && bt x (i - 24)) := b_shl 24 (by omega) x hi
theorem b_sshr8 (x : Int32) {i : Nat} (hi : i < 32) : bt (x >>> ((8 : Int32) &&& 31)) i = if 8 + i < 32 then bt x (8 + i) else bt x 31 := b_sshr 8 (by omega) x hi
end
section
/-! ===== trees by depth, without a new type: a leaf's value, or a fork's feature, limit and two parts ===== -/
def dt_T : Nat → Type
  | 0 => Int32
  | d + 1 => Int32 ⊕ (Nat × Nat × dt_T d × dt_T d)
def dt_vw (d : Nat) (T : dt_T (d + 1)) : Int32 ⊕ (Nat × Nat × dt_T d × dt_T d) := T
def dt_lf : (d : Nat) → Int32 → dt_T d
  | 0 => fun v => v
  | _ + 1 => fun v => Sum.inl v
def dt_fk (d f l : Nat) (a b : dt_T d) : dt_T (d + 1) := Sum.inr (f, l, a, b)
def dt_rec {α : Type} (g : Int32 → α) (h : (d : Nat) → Nat → Nat → dt_T d → dt_T d → α → α → α) : (d : Nat) → dt_T d → α
  | 0 => fun v => g v
  | d + 1 => fun T => match dt_vw d T with
    | Sum.inl v => g v
    | Sum.inr (f, l, a, b) => h d f l a b (dt_rec g h d a) (dt_rec g h d b)
theorem dt_rec_lf {α : Type} (g : Int32 → α) (h : (d : Nat) → Nat → Nat → dt_T d → dt_T d → α → α → α) (d : Nat) (v : Int32) : dt_rec g h d (dt_lf d v) = g v := by
  cases d with
  | zero => rfl
  | succ d => rfl
theorem dt_rec_fk {α : Type} (g : Int32 → α) (h : (d : Nat) → Nat → Nat → dt_T d → dt_T d → α → α → α) (d f l : Nat) (a b : dt_T d) : dt_rec g h (d + 1) (dt_fk d f l a b) = h d f l a b (dt_rec g h d a) (dt_rec g h d b) := rfl
theorem dt_ind {P : (d : Nat) → dt_T d → Prop} (hl : ∀ (d : Nat) (v : Int32), P d (dt_lf d v)) (hf : ∀ (d f l : Nat) (a b : dt_T d), P d a → P d b → P (d + 1) (dt_fk d f l a b)) : ∀ (d : Nat) (T : dt_T d), P d T := by
  intro d
  induction d with
  | zero => intro T; exact hl 0 T
  | succ d ih =>
    intro T
    have h : ∀ S : Int32 ⊕ (Nat × Nat × dt_T d × dt_T d), P (d + 1) S := by
      intro S
      rcases S with v | ⟨f, l, a, b⟩
      · exact hl (d + 1) v
      · exact hf d f l a b (ih a) (ih b)
    exact h T
/-- feature, limit, first leaf, first leaf of the right part, end -/
abbrev dt_F : Type := Nat × Nat × Nat × Nat × Nat
def dt_nl (d : Nat) (T : dt_T d) : Nat := dt_rec (fun _ => 1) (fun _ _ _ _ _ x y => x + y) d T
def dt_pre (d : Nat) (T : dt_T d) : List (Int32 × Int32) := dt_rec (fun v => [(-1, v)]) (fun _ f l _ _ x y => (nI f, nI l) :: (x ++ y)) d T
def dt_lv (d : Nat) (T : dt_T d) : List Int32 := dt_rec (fun v => [v]) (fun _ _ _ _ _ x y => x ++ y) d T
def dt_ok (d : Nat) (T : dt_T d) : Prop := dt_rec (fun _ => True) (fun _ f l _ _ x y => (f < 4 ∧ l < 16) ∧ x ∧ y) d T
def dt_fks (d : Nat) (T : dt_T d) : Nat → List dt_F := dt_rec (fun _ _ => []) (fun d f l a b x y s => (f, l, s, s + dt_nl d a, s + dt_nl d a + dt_nl d b) :: (x s ++ y (s + dt_nl d a))) d T
def dt_ex (q : Nat → Nat) (d : Nat) (T : dt_T d) : Nat := dt_rec (fun _ => 0) (fun d f l a _ x y => if q f ≤ l then x else dt_nl d a + y) d T
def dt_dp (q : Nat → Nat) (d : Nat) (T : dt_T d) : Nat := dt_rec (fun _ => 0) (fun _ f l _ _ x y => (if q f ≤ l then x else y) + 1) d T
def dt_pos (d : Nat) (T : dt_T d) : Nat → Nat := dt_rec (fun _ _ => 0) (fun d _ _ a _ x y i => if i < dt_nl d a then x i + 1 else y (i - dt_nl d a) + ((dt_pre d a).length + 1)) d T
def dt_low (g : Nat) (d : Nat) (T : dt_T d) : Nat → Nat := dt_rec (fun _ _ => 0) (fun d f l a _ x y i => if i < dt_nl d a then x i else max (if f = g then l + 1 else 0) (y (i - dt_nl d a))) d T
def dt_high (g : Nat) (d : Nat) (T : dt_T d) : Nat → Nat := dt_rec (fun _ _ => 15) (fun d f l a _ x y i => if i < dt_nl d a then min (if f = g then l else 15) (x i) else y (i - dt_nl d a)) d T
section
variable (d f l : Nat) (a b : dt_T d) (v : Int32) (q : Nat → Nat) (s i g : Nat)
theorem dt_nl_lf : dt_nl d (dt_lf d v) = 1 := dt_rec_lf _ _ d v
theorem dt_nl_fk : dt_nl (d + 1) (dt_fk d f l a b) = dt_nl d a + dt_nl d b := rfl
theorem dt_pre_lf : dt_pre d (dt_lf d v) = [(-1, v)] := dt_rec_lf _ _ d v
theorem dt_pre_fk : dt_pre (d + 1) (dt_fk d f l a b) = (nI f, nI l) :: (dt_pre d a ++ dt_pre d b) := rfl
theorem dt_lv_lf : dt_lv d (dt_lf d v) = [v] := dt_rec_lf _ _ d v
theorem dt_lv_fk : dt_lv (d + 1) (dt_fk d f l a b) = dt_lv d a ++ dt_lv d b := rfl
theorem dt_ok_lf : dt_ok d (dt_lf d v) = True := dt_rec_lf _ _ d v
theorem dt_ok_fk : dt_ok (d + 1) (dt_fk d f l a b) = ((f < 4 ∧ l < 16) ∧ dt_ok d a ∧ dt_ok d b) := rfl
theorem dt_fks_lf : dt_fks d (dt_lf d v) s = [] := congrFun (dt_rec_lf _ _ d v) s
theorem dt_fks_fk : dt_fks (d + 1) (dt_fk d f l a b) s = (f, l, s, s + dt_nl d a, s + dt_nl d a + dt_nl d b) :: (dt_fks d a s ++ dt_fks d b (s + dt_nl d a)) := rfl
theorem dt_ex_lf : dt_ex q d (dt_lf d v) = 0 := dt_rec_lf _ _ d v
theorem dt_ex_fk : dt_ex q (d + 1) (dt_fk d f l a b) = if q f ≤ l then dt_ex q d a else dt_nl d a + dt_ex q d b := rfl
theorem dt_dp_lf : dt_dp q d (dt_lf d v) = 0 := dt_rec_lf _ _ d v
theorem dt_dp_fk : dt_dp q (d + 1) (dt_fk d f l a b) = (if q f ≤ l then dt_dp q d a else dt_dp q d b) + 1 := rfl
theorem dt_pos_lf : dt_pos d (dt_lf d v) i = 0 := congrFun (dt_rec_lf _ _ d v) i
theorem dt_pos_fk : dt_pos (d + 1) (dt_fk d f l a b) i = if i < dt_nl d a then dt_pos d a i + 1 else dt_pos d b (i - dt_nl d a) + ((dt_pre d a).length + 1) := rfl
theorem dt_low_lf : dt_low g d (dt_lf d v) i = 0 := congrFun (dt_rec_lf _ _ d v) i
theorem dt_low_fk : dt_low g (d + 1) (dt_fk d f l a b) i = if i < dt_nl d a then dt_low g d a i else max (if f = g then l + 1 else 0) (dt_low g d b (i - dt_nl d a)) := rfl
theorem dt_high_lf : dt_high g d (dt_lf d v) i = 15 := congrFun (dt_rec_lf _ _ d v) i
theorem dt_high_fk : dt_high g (d + 1) (dt_fk d f l a b) i = if i < dt_nl d a then min (if f = g then l else 15) (dt_high g d a i) else dt_high g d b (i - dt_nl d a) := rfl
end
theorem dt_nl_pos : ∀ (d : Nat) (T : dt_T d), 1 ≤ dt_nl d T := by
  refine dt_ind ?_ ?_
  · intro d v; rw [dt_nl_lf]; exact Nat.le_refl 1
  · intro d f l a b iha ihb; rw [dt_nl_fk]; omega
theorem dt_len : ∀ (d : Nat) (T : dt_T d), (dt_pre d T).length + 1 = 2 * dt_nl d T := by
  refine dt_ind ?_ ?_
  · intro d v; rw [dt_nl_lf, dt_pre_lf]; rfl
  · intro d f l a b iha ihb
    rw [dt_nl_fk, dt_pre_fk, List.length_cons, List.length_append]; omega
theorem dt_lvlen : ∀ (d : Nat) (T : dt_T d), (dt_lv d T).length = dt_nl d T := by
  refine dt_ind ?_ ?_
  · intro d v; rw [dt_nl_lf, dt_lv_lf]; rfl
  · intro d f l a b iha ihb
    rw [dt_nl_fk, dt_lv_fk, List.length_append]; omega
theorem dt_fklen : ∀ (d : Nat) (T : dt_T d) (s : Nat), (dt_fks d T s).length + 1 = dt_nl d T := by
  refine dt_ind ?_ ?_
  · intro d v s; rw [dt_nl_lf, dt_fks_lf]; rfl
  · intro d f l a b iha ihb s
    rw [dt_nl_fk, dt_fks_fk, List.length_cons, List.length_append]
    have h1 := iha s
    have h2 := ihb (s + dt_nl d a)
    omega
theorem dt_ex_lt (q : Nat → Nat) : ∀ (d : Nat) (T : dt_T d), dt_ex q d T < dt_nl d T := by
  refine dt_ind ?_ ?_
  · intro d v; rw [dt_nl_lf, dt_ex_lf]; exact Nat.lt_succ_self 0
  · intro d f l a b iha ihb
    rw [dt_nl_fk, dt_ex_fk]
    split <;> omega
theorem dt_dp_lt (q : Nat → Nat) : ∀ (d : Nat) (T : dt_T d), dt_dp q d T < dt_nl d T := by
  refine dt_ind ?_ ?_
  · intro d v; rw [dt_nl_lf, dt_dp_lf]; exact Nat.lt_succ_self 0
  · intro d f l a b iha ihb
    have pa := dt_nl_pos d a
    have pb := dt_nl_pos d b
    rw [dt_nl_fk, dt_dp_fk]
    split <;> omega
theorem dt_pos_lt : ∀ (d : Nat) (T : dt_T d) (i : Nat), i < dt_nl d T → dt_pos d T i < (dt_pre d T).length := by
  refine dt_ind ?_ ?_
  · intro d v i _; rw [dt_pos_lf, dt_pre_lf]; exact Nat.lt_succ_self 0
  · intro d f l a b iha ihb i h
    rw [dt_nl_fk] at h
    rw [dt_pos_fk, dt_pre_fk, List.length_cons, List.length_append]
    split
    · rename_i h1
      have := iha i h1
      omega
    · rename_i h1
      have := ihb (i - dt_nl d a) (by omega)
      omega
theorem dt_fk_in : ∀ (d : Nat) (T : dt_T d) (s : Nat) (x : dt_F), x ∈ dt_fks d T s → s ≤ x.2.2.1 ∧ x.2.2.1 < x.2.2.2.1 ∧ x.2.2.2.1 < x.2.2.2.2 ∧ x.2.2.2.2 ≤ s + dt_nl d T := by
  refine dt_ind ?_ ?_
  · intro d v s x h; rw [dt_fks_lf] at h; cases h
  · intro d f l a b iha ihb s x h
    have pa := dt_nl_pos d a
    have pb := dt_nl_pos d b
    rw [dt_fks_fk] at h
    rw [dt_nl_fk]
    rcases List.mem_cons.mp h with rfl | h
    · dsimp only; omega
    · rcases List.mem_append.mp h with h | h
      · have := iha s x h; omega
      · have := ihb (s + dt_nl d a) x h; omega
theorem dt_fk_ok : ∀ (d : Nat) (T : dt_T d) (s : Nat) (x : dt_F), dt_ok d T → x ∈ dt_fks d T s → x.1 < 4 ∧ x.2.1 < 16 := by
  refine dt_ind ?_ ?_
  · intro d v s x _ h; rw [dt_fks_lf] at h; cases h
  · intro d f l a b iha ihb s x hk h
    rw [dt_fks_fk] at h
    rw [dt_ok_fk] at hk
    rcases List.mem_cons.mp h with rfl | h
    · exact hk.1
    · rcases List.mem_append.mp h with h | h
      · exact iha s x hk.2.1 h
      · exact ihb (s + dt_nl d a) x hk.2.2 h
/-- no fork that sends the point to the right has the point's leaf in its left part -/
theorem dt_ex_no (q : Nat → Nat) : ∀ (d : Nat) (T : dt_T d) (s : Nat) (x : dt_F), x ∈ dt_fks d T s → x.2.1 < q x.1 → x.2.2.1 ≤ s + dt_ex q d T → x.2.2.2.1 ≤ s + dt_ex q d T := by
  refine dt_ind ?_ ?_
  · intro d v s x h; rw [dt_fks_lf] at h; cases h
  · intro d f l a b iha ihb s x h hq h1
    have ea := dt_ex_lt q d a
    rw [dt_fks_fk] at h
    rw [dt_ex_fk] at h1 ⊢
    rcases List.mem_cons.mp h with rfl | h
    · dsimp only at hq ⊢
      rw [if_neg (by omega)]
      omega
    · rcases List.mem_append.mp h with h | h
      · have b1 := dt_fk_in d a s x h
        by_cases c : q f ≤ l
        · rw [if_pos c] at h1 ⊢
          exact iha s x h hq h1
        · rw [if_neg c] at h1 ⊢
          omega
      · have b1 := dt_fk_in d b _ x h
        by_cases c : q f ≤ l
        · rw [if_pos c] at h1 ⊢
          omega
        · rw [if_neg c] at h1 ⊢
          have := ihb (s + dt_nl d a) x h hq (by omega)
          omega
/-- every leaf ahead of the point's is taken away -/
theorem dt_ex_hit (q : Nat → Nat) : ∀ (d : Nat) (T : dt_T d) (s j : Nat), j < dt_ex q d T → ∃ x, x ∈ dt_fks d T s ∧ x.2.1 < q x.1 ∧ x.2.2.1 ≤ s + j ∧ s + j < x.2.2.2.1 := by
  refine dt_ind ?_ ?_
  · intro d v s j h; rw [dt_ex_lf] at h; omega
  · intro d f l a b iha ihb s j h
    rw [dt_ex_fk] at h
    rw [dt_fks_fk]
    by_cases c : q f ≤ l
    · rw [if_pos c] at h
      obtain ⟨x, hx, h1⟩ := iha s j h
      exact ⟨x, List.mem_cons_of_mem _ (List.mem_append_left _ hx), h1⟩
    · rw [if_neg c] at h
      by_cases hj : j < dt_nl d a
      · refine ⟨_, List.mem_cons_self, ?_⟩
        dsimp only
        omega
      · obtain ⟨x, hx, h1⟩ := ihb (s + dt_nl d a) (j - dt_nl d a) (by omega)
        refine ⟨x, List.mem_cons_of_mem _ (List.mem_append_right _ hx), ?_⟩
        omega
/-- forks over a leaf -/
def dt_ov (j : Nat) (x : dt_F) : Bool := decide (x.2.2.1 ≤ j ∧ j < x.2.2.2.2)
theorem dt_ov_0 (d : Nat) (T : dt_T d) (s j : Nat) (h : j < s ∨ s + dt_nl d T ≤ j) : (dt_fks d T s).countP (dt_ov j) = 0 := by
  rw [List.countP_eq_zero]
  intro x hx hj
  have b := dt_fk_in d T s x hx
  have := of_decide_eq_true hj
  omega
theorem dt_dp_ov (q : Nat → Nat) : ∀ (d : Nat) (T : dt_T d) (s : Nat), (dt_fks d T s).countP (dt_ov (s + dt_ex q d T)) = dt_dp q d T := by
  refine dt_ind ?_ ?_
  · intro d v s; rw [dt_fks_lf, dt_dp_lf]; rfl
  · intro d f l a b iha ihb s
    have ea := dt_ex_lt q d a
    have eb := dt_ex_lt q d b
    have e := dt_ex_lt q (d + 1) (dt_fk d f l a b)
    rw [dt_nl_fk] at e
    rw [dt_fks_fk, dt_dp_fk, List.countP_cons_of_pos (by
      show decide _ = true
      apply decide_eq_true
      dsimp only
      omega), List.countP_append]
    rw [dt_ex_fk]
    by_cases c : q f ≤ l
    · rw [if_pos c, if_pos c, iha s, dt_ov_0 d b _ _ (Or.inl (by omega))]
    · rw [if_neg c, if_neg c, dt_ov_0 d a _ _ (Or.inr (by omega)), ← Nat.add_assoc, ihb, Nat.zero_add]
theorem dt_low_ub (g : Nat) : ∀ (d : Nat) (T : dt_T d) (s i : Nat) (x : dt_F), x ∈ dt_fks d T s → x.1 = g → x.2.2.2.1 ≤ s + i → s + i < x.2.2.2.2 → x.2.1 + 1 ≤ dt_low g d T i := by
  refine dt_ind ?_ ?_
  · intro d v s i x h; rw [dt_fks_lf] at h; cases h
  · intro d f l a b iha ihb s i x h hg h1 h2
    rw [dt_fks_fk] at h
    rw [dt_low_fk]
    rcases List.mem_cons.mp h with rfl | h
    · dsimp only at hg h1 h2 ⊢
      rw [if_neg (by omega), if_pos hg]
      exact Nat.le_max_left _ _
    · rcases List.mem_append.mp h with h | h
      · have b1 := dt_fk_in d a s x h
        rw [if_pos (by omega)]
        exact iha s i x h hg h1 h2
      · have b1 := dt_fk_in d b _ x h
        rw [if_neg (by omega)]
        exact Nat.le_trans (ihb (s + dt_nl d a) (i - dt_nl d a) x h hg (by omega) (by omega)) (Nat.le_max_right _ _)
theorem dt_low_at (g : Nat) : ∀ (d : Nat) (T : dt_T d) (s i : Nat), i < dt_nl d T → dt_low g d T i = 0 ∨ ∃ x, x ∈ dt_fks d T s ∧ x.1 = g ∧ x.2.2.2.1 ≤ s + i ∧ s + i < x.2.2.2.2 ∧ dt_low g d T i = x.2.1 + 1 := by
  refine dt_ind ?_ ?_
  · intro d v s i _; exact Or.inl (dt_low_lf d v i g)
  · intro d f l a b iha ihb s i h
    rw [dt_nl_fk] at h
    rw [dt_low_fk, dt_fks_fk]
    by_cases c : i < dt_nl d a
    · rw [if_pos c]
      rcases iha s i c with h1 | ⟨x, hx, h1⟩
      · exact Or.inl h1
      · exact Or.inr ⟨x, List.mem_cons_of_mem _ (List.mem_append_left _ hx), h1⟩
    · rw [if_neg c]
      have hb : ∀ y, y = dt_low g d b (i - dt_nl d a) → y = 0 ∨ ∃ x, x ∈ (f, l, s, s + dt_nl d a, s + dt_nl d a + dt_nl d b) :: (dt_fks d a s ++ dt_fks d b (s + dt_nl d a)) ∧ x.1 = g ∧ x.2.2.2.1 ≤ s + i ∧ s + i < x.2.2.2.2 ∧ y = x.2.1 + 1 := by
        intro y ey
        rcases ihb (s + dt_nl d a) (i - dt_nl d a) (by omega) with h1 | ⟨x, hx, h1, h2, h3, h4⟩
        · exact Or.inl (ey.trans h1)
        · exact Or.inr ⟨x, List.mem_cons_of_mem _ (List.mem_append_right _ hx), h1, by omega, by omega, ey.trans h4⟩
      by_cases hg : f = g
      · rw [if_pos hg]
        by_cases hm : dt_low g d b (i - dt_nl d a) ≤ l + 1
        · rw [Nat.max_eq_left hm]
          refine Or.inr ⟨_, List.mem_cons_self, ?_⟩
          dsimp only
          refine ⟨hg, ?_, ?_, rfl⟩ <;> omega
        · rw [Nat.max_eq_right (by omega)]
          exact hb _ rfl
      · rw [if_neg hg, Nat.max_eq_right (Nat.zero_le _)]
        exact hb _ rfl
theorem dt_high_lb (g : Nat) : ∀ (d : Nat) (T : dt_T d) (s i : Nat) (x : dt_F), x ∈ dt_fks d T s → x.1 = g → x.2.2.1 ≤ s + i → s + i < x.2.2.2.1 → dt_high g d T i ≤ x.2.1 := by
  refine dt_ind ?_ ?_
  · intro d v s i x h; rw [dt_fks_lf] at h; cases h
  · intro d f l a b iha ihb s i x h hg h1 h2
    rw [dt_fks_fk] at h
    rw [dt_high_fk]
    rcases List.mem_cons.mp h with rfl | h
    · dsimp only at hg h1 h2 ⊢
      rw [if_pos (by omega), if_pos hg]
      exact Nat.min_le_left _ _
    · rcases List.mem_append.mp h with h | h
      · have b1 := dt_fk_in d a s x h
        rw [if_pos (by omega)]
        exact Nat.le_trans (Nat.min_le_right _ _) (iha s i x h hg h1 h2)
      · have b1 := dt_fk_in d b _ x h
        rw [if_neg (by omega)]
        exact ihb (s + dt_nl d a) (i - dt_nl d a) x h hg (by omega) (by omega)
theorem dt_high_le (g : Nat) : ∀ (d : Nat) (T : dt_T d) (i : Nat), dt_high g d T i ≤ 15 := by
  refine dt_ind ?_ ?_
  · intro d v i; rw [dt_high_lf]; exact Nat.le_refl _
  · intro d f l a b iha ihb i
    rw [dt_high_fk]
    split
    · exact Nat.le_trans (Nat.min_le_right _ _) (iha i)
    · exact ihb _
theorem dt_high_at (g : Nat) : ∀ (d : Nat) (T : dt_T d) (s i : Nat), i < dt_nl d T → dt_high g d T i = 15 ∨ ∃ x, x ∈ dt_fks d T s ∧ x.1 = g ∧ x.2.2.1 ≤ s + i ∧ s + i < x.2.2.2.1 ∧ dt_high g d T i = x.2.1 := by
  refine dt_ind ?_ ?_
  · intro d v s i _; exact Or.inl (dt_high_lf d v i g)
  · intro d f l a b iha ihb s i h
    rw [dt_nl_fk] at h
    rw [dt_high_fk, dt_fks_fk]
    by_cases c : i < dt_nl d a
    · rw [if_pos c]
      have hb : ∀ y, y = dt_high g d a i → y = 15 ∨ ∃ x, x ∈ (f, l, s, s + dt_nl d a, s + dt_nl d a + dt_nl d b) :: (dt_fks d a s ++ dt_fks d b (s + dt_nl d a)) ∧ x.1 = g ∧ x.2.2.1 ≤ s + i ∧ s + i < x.2.2.2.1 ∧ y = x.2.1 := by
        intro y ey
        rcases iha s i c with h1 | ⟨x, hx, h1, h2, h3, h4⟩
        · exact Or.inl (ey.trans h1)
        · exact Or.inr ⟨x, List.mem_cons_of_mem _ (List.mem_append_left _ hx), h1, h2, h3, ey.trans h4⟩
      by_cases hg : f = g
      · rw [if_pos hg]
        by_cases hm : l ≤ dt_high g d a i
        · rw [Nat.min_eq_left hm]
          refine Or.inr ⟨_, List.mem_cons_self, ?_⟩
          dsimp only
          refine ⟨hg, ?_, ?_, rfl⟩ <;> omega
        · rw [Nat.min_eq_right (by omega)]
          exact hb _ rfl
      · rw [if_neg hg, Nat.min_eq_right (dt_high_le g d a i)]
        exact hb _ rfl
    · rw [if_neg c]
      rcases ihb (s + dt_nl d a) (i - dt_nl d a) (by omega) with h1 | ⟨x, hx, h1, h2, h3, h4⟩
      · exact Or.inl h1
      · exact Or.inr ⟨x, List.mem_cons_of_mem _ (List.mem_append_right _ hx), h1, by omega, by omega, h4⟩
/-- forks of a feature, counted in both lists -/
theorem dt_cnt (g : Nat) (hg : g < 4) : ∀ (d : Nat) (T : dt_T d) (s : Nat), dt_ok d T → (dt_fks d T s).countP (fun x => decide (x.1 = g)) = (dt_pre d T).countP (fun x => decide (x.1 = nI g)) := by
  refine dt_ind ?_ ?_
  · intro d v s _
    rw [dt_fks_lf, dt_pre_lf, List.countP_nil]
    symm
    rw [List.countP_eq_zero]
    intro x hx hj
    have e := of_decide_eq_true hj
    rw [List.mem_singleton.mp hx] at e
    have := congrArg Int32.toInt e
    rw [nI_toInt (by omega)] at this
    have h1 : (-1 : Int32).toInt = -1 := by decide
    dsimp only at this
    omega
  · intro d f l a b iha ihb s hk
    rw [dt_ok_fk] at hk
    rw [dt_fks_fk, dt_pre_fk, List.countP_cons, List.countP_cons, List.countP_append, List.countP_append, iha s hk.2.1, ihb _ hk.2.2]
    have e : decide (f = g) = decide (nI f = nI g) := by
      have h1 : nI f = nI g ↔ f = g := nI_eq (by omega) (by omega)
      exact decide_eq_decide.mpr h1.symm
    dsimp only
    rw [e]
end
section
/-! ===== a tree with a leaf split, or with another value at a leaf ===== -/
def dt_sp (f l : Nat) : (d : Nat) → dt_T d → Nat → dt_T d
  | 0 => fun T _ => T
  | d + 1 => fun T i => match dt_vw d T with
    | Sum.inl v => dt_fk d f l (dt_lf d v) (dt_lf d 0)
    | Sum.inr (g, m, a, b) => if i < dt_nl d a then dt_fk d g m (dt_sp f l d a i) b else dt_fk d g m a (dt_sp f l d b (i - dt_nl d a))
def dt_sv (v : Int32) : (d : Nat) → dt_T d → Nat → dt_T d
  | 0 => fun _ _ => dt_lf 0 v
  | d + 1 => fun T i => match dt_vw d T with
    | Sum.inl _ => dt_lf (d + 1) v
    | Sum.inr (g, m, a, b) => if i < dt_nl d a then dt_fk d g m (dt_sv v d a i) b else dt_fk d g m a (dt_sv v d b (i - dt_nl d a))
theorem dt_sp_lf (f l d i : Nat) (v : Int32) : dt_sp f l (d + 1) (dt_lf (d + 1) v) i = dt_fk d f l (dt_lf d v) (dt_lf d 0) := rfl
theorem dt_sp_fk (f l d g m i : Nat) (a b : dt_T d) : dt_sp f l (d + 1) (dt_fk d g m a b) i = if i < dt_nl d a then dt_fk d g m (dt_sp f l d a i) b else dt_fk d g m a (dt_sp f l d b (i - dt_nl d a)) := rfl
theorem dt_sv_lf (v w : Int32) (d i : Nat) : dt_sv v d (dt_lf d w) i = dt_lf d v := by
  cases d with
  | zero => rfl
  | succ d => rfl
theorem dt_sv_fk (v : Int32) (d g m i : Nat) (a b : dt_T d) : dt_sv v (d + 1) (dt_fk d g m a b) i = if i < dt_nl d a then dt_fk d g m (dt_sv v d a i) b else dt_fk d g m a (dt_sv v d b (i - dt_nl d a)) := rfl
theorem dt_sv_nl (v : Int32) : ∀ (d : Nat) (T : dt_T d) (i : Nat), dt_nl d (dt_sv v d T i) = dt_nl d T := by
  refine dt_ind ?_ ?_
  · intro d w i; rw [dt_sv_lf, dt_nl_lf, dt_nl_lf]
  · intro d f l a b iha ihb i
    rw [dt_sv_fk]
    split
    · rw [dt_nl_fk, dt_nl_fk, iha]
    · rw [dt_nl_fk, dt_nl_fk, ihb]
theorem dt_sv_ok (v : Int32) : ∀ (d : Nat) (T : dt_T d) (i : Nat), dt_ok d T → dt_ok d (dt_sv v d T i) := by
  refine dt_ind ?_ ?_
  · intro d w i _; rw [dt_sv_lf, dt_ok_lf]; trivial
  · intro d f l a b iha ihb i h
    rw [dt_ok_fk] at h
    rw [dt_sv_fk]
    split
    · rw [dt_ok_fk]; exact ⟨h.1, iha i h.2.1, h.2.2⟩
    · rw [dt_ok_fk]; exact ⟨h.1, h.2.1, ihb _ h.2.2⟩
theorem dt_sv_fks (v : Int32) : ∀ (d : Nat) (T : dt_T d) (i s : Nat), dt_fks d (dt_sv v d T i) s = dt_fks d T s := by
  refine dt_ind ?_ ?_
  · intro d w i s; rw [dt_sv_lf, dt_fks_lf, dt_fks_lf]
  · intro d f l a b iha ihb i s
    rw [dt_sv_fk]
    split
    · rw [dt_fks_fk, dt_fks_fk, iha, dt_sv_nl]
    · rw [dt_fks_fk, dt_fks_fk, ihb, dt_sv_nl]
theorem dt_sp_nl (f l : Nat) : ∀ (d : Nat) (T : dt_T d) (i : Nat), dt_nl d T ≤ d → i < dt_nl d T → dt_nl d (dt_sp f l d T i) = dt_nl d T + 1 := by
  refine dt_ind ?_ ?_
  · intro d v i h _
    rw [dt_nl_lf] at h
    cases d with
    | zero => omega
    | succ d => rw [dt_sp_lf, dt_nl_fk, dt_nl_lf, dt_nl_lf, dt_nl_lf]
  · intro d g m a b iha ihb i h hi
    have pa := dt_nl_pos d a
    have pb := dt_nl_pos d b
    rw [dt_nl_fk] at h hi
    rw [dt_sp_fk]
    split
    · rename_i c
      rw [dt_nl_fk, dt_nl_fk, iha i (by omega) c]
      omega
    · rename_i c
      rw [dt_nl_fk, dt_nl_fk, ihb _ (by omega) (by omega)]
      omega
theorem dt_sp_ok (f l : Nat) (hf : f < 4) (hl : l < 16) : ∀ (d : Nat) (T : dt_T d) (i : Nat), dt_ok d T → dt_ok d (dt_sp f l d T i) := by
  refine dt_ind ?_ ?_
  · intro d v i h
    cases d with
    | zero => exact h
    | succ d => rw [dt_sp_lf, dt_ok_fk, dt_ok_lf, dt_ok_lf]; exact ⟨⟨hf, hl⟩, trivial, trivial⟩
  · intro d g m a b iha ihb i h
    rw [dt_ok_fk] at h
    rw [dt_sp_fk]
    split
    · rw [dt_ok_fk]; exact ⟨h.1, iha i h.2.1, h.2.2⟩
    · rw [dt_ok_fk]; exact ⟨h.1, h.2.1, ihb _ h.2.2⟩
/-- one more leaf behind leaf j -/
def dt_u (j n : Nat) : Nat := if j < n then n + 1 else n
def dt_up (j : Nat) (x : dt_F) : dt_F := (x.1, x.2.1, dt_u j x.2.2.1, dt_u j x.2.2.2.1, dt_u j x.2.2.2.2)
theorem dt_u_t {j n : Nat} (h : j < n) : dt_u j n = n + 1 := if_pos h
theorem dt_u_f {j n : Nat} (h : n ≤ j) : dt_u j n = n := if_neg (by omega)
theorem dt_fks_sh : ∀ (d : Nat) (T : dt_T d) (s j : Nat), j < s → dt_fks d T (s + 1) = (dt_fks d T s).map (dt_up j) := by
  refine dt_ind ?_ ?_
  · intro d v s j _; rw [dt_fks_lf, dt_fks_lf]; rfl
  · intro d f l a b iha ihb s j h
    rw [dt_fks_fk, dt_fks_fk, List.map_cons, List.map_append, iha s j h, ← ihb (s + dt_nl d a) j (by omega)]
    have e : dt_up j (f, l, s, s + dt_nl d a, s + dt_nl d a + dt_nl d b) = (f, l, s + 1, s + 1 + dt_nl d a, s + 1 + dt_nl d a + dt_nl d b) := by
      unfold dt_up
      dsimp only
      rw [dt_u_t h, dt_u_t (by omega), dt_u_t (by omega), Nat.add_right_comm s 1, Nat.add_right_comm _ 1]
    rw [e, Nat.add_right_comm s 1]
theorem dt_fks_st : ∀ (d : Nat) (T : dt_T d) (s j : Nat), s + dt_nl d T ≤ j → (dt_fks d T s).map (dt_up j) = dt_fks d T s := by
  refine dt_ind ?_ ?_
  · intro d v s j _; rw [dt_fks_lf]; rfl
  · intro d f l a b iha ihb s j h
    rw [dt_nl_fk] at h
    rw [dt_fks_fk, List.map_cons, List.map_append, iha s j (by omega), ihb (s + dt_nl d a) j (by omega)]
    have e : dt_up j (f, l, s, s + dt_nl d a, s + dt_nl d a + dt_nl d b) = (f, l, s, s + dt_nl d a, s + dt_nl d a + dt_nl d b) := by
      unfold dt_up
      dsimp only
      rw [dt_u_f (by omega), dt_u_f (by omega), dt_u_f (by omega)]
    rw [e]
theorem dt_sp_fks (f l : Nat) : ∀ (d : Nat) (T : dt_T d) (i s : Nat), dt_nl d T ≤ d → i < dt_nl d T → (dt_fks d (dt_sp f l d T i) s).Perm ((f, l, s + i, s + i + 1, s + i + 2) :: (dt_fks d T s).map (dt_up (s + i))) := by
  refine dt_ind ?_ ?_
  · intro d v i s h hi
    rw [dt_nl_lf] at h hi
    cases d with
    | zero => omega
    | succ d =>
      have : i = 0 := by omega
      subst this
      rw [dt_sp_lf, dt_fks_fk, dt_fks_lf, dt_fks_lf, dt_fks_lf, dt_nl_lf, dt_nl_lf]
      exact List.Perm.refl _
  · intro d g m a b iha ihb i s h hi
    have pa := dt_nl_pos d a
    have pb := dt_nl_pos d b
    rw [dt_nl_fk] at h hi
    rw [dt_sp_fk, dt_fks_fk, List.map_cons, List.map_append]
    by_cases c : i < dt_nl d a
    · rw [if_pos c, dt_fks_fk, dt_sp_nl f l d a i (by omega) c, ← Nat.add_assoc, dt_fks_sh d b (s + dt_nl d a) (s + i) (by omega)]
      have e : dt_up (s + i) (g, m, s, s + dt_nl d a, s + dt_nl d a + dt_nl d b) = (g, m, s, s + dt_nl d a + 1, s + dt_nl d a + 1 + dt_nl d b) := by
        unfold dt_up
        dsimp only
        rw [dt_u_f (by omega), dt_u_t (by omega), dt_u_t (by omega), Nat.add_right_comm _ 1]
      rw [e]
      exact ((List.Perm.append_right _ (iha i s (by omega) c)).cons _).trans (List.Perm.swap _ _ _)
    · rw [if_neg c, dt_fks_fk, dt_sp_nl f l d b _ (by omega) (by omega), dt_fks_st d a s (s + i) (by omega)]
      have e : dt_up (s + i) (g, m, s, s + dt_nl d a, s + dt_nl d a + dt_nl d b) = (g, m, s, s + dt_nl d a, s + dt_nl d a + (dt_nl d b + 1)) := by
        unfold dt_up
        dsimp only
        rw [dt_u_f (by omega), dt_u_f (by omega), dt_u_t (by omega), Nat.add_assoc _ _ 1]
      rw [e]
      have hb := ihb (i - dt_nl d a) (s + dt_nl d a) (by omega) (by omega)
      have e2 : s + dt_nl d a + (i - dt_nl d a) = s + i := by omega
      rw [e2] at hb
      exact ((List.Perm.append_left _ hb).trans List.perm_middle).cons _ |>.trans (List.Perm.swap _ _ _)
/-- leaves in a list of cells -/
def dt_lc (A : List (Int32 × Int32)) : Nat := A.countP (fun x => decide (x.1 < 0))
theorem dt_lc_app (A B : List (Int32 × Int32)) : dt_lc (A ++ B) = dt_lc A + dt_lc B := List.countP_append
theorem dt_lc_leaf (v : Int32) (A : List (Int32 × Int32)) : dt_lc ((-1, v) :: A) = dt_lc A + 1 := List.countP_cons_of_pos (show decide ((-1 : Int32) < 0) = true from by decide)
theorem dt_lc_fork (f : Nat) (hf : f < 2 ^ 31) (v : Int32) (A : List (Int32 × Int32)) : dt_lc ((nI f, v) :: A) = dt_lc A := List.countP_cons_of_neg (by
  intro h
  exact nI_pos hf (of_decide_eq_true h))
theorem dt_lc_pre : ∀ (d : Nat) (T : dt_T d), dt_ok d T → dt_lc (dt_pre d T) = dt_nl d T := by
  refine dt_ind ?_ ?_
  · intro d v _; rw [dt_pre_lf, dt_lc_leaf, dt_nl_lf]; rfl
  · intro d f l a b iha ihb h
    rw [dt_ok_fk] at h
    rw [dt_pre_fk, dt_lc_fork f (by omega), dt_lc_app, iha h.2.1, ihb h.2.2, dt_nl_fk]
/-- a leaf's place in all the lists, and what a new value and a split make of them -/
theorem dt_dec : ∀ (d : Nat) (T : dt_T d) (i : Nat), dt_ok d T → i < dt_nl d T → ∃ (A : List (Int32 × Int32)) (w : Int32) (B : List (Int32 × Int32)) (C D : List Int32), dt_pre d T = A ++ (-1, w) :: B ∧ A.length = dt_pos d T i ∧ dt_lc A = i ∧ dt_lv d T = C ++ w :: D ∧ C.length = i ∧ (∀ v, dt_pre d (dt_sv v d T i) = A ++ (-1, v) :: B ∧ dt_lv d (dt_sv v d T i) = C ++ v :: D) ∧ (dt_nl d T ≤ d → ∀ f l, dt_pre d (dt_sp f l d T i) = A ++ (nI f, nI l) :: (-1, w) :: (-1, 0) :: B ∧ dt_lv d (dt_sp f l d T i) = C ++ w :: 0 :: D) := by
  refine dt_ind ?_ ?_
  · intro d w i _ hi
    rw [dt_nl_lf] at hi
    have : i = 0 := by omega
    subst this
    refine ⟨[], w, [], [], [], ?_, ?_, rfl, ?_, rfl, ?_, ?_⟩
    · rw [dt_pre_lf]; rfl
    · rw [dt_pos_lf]; rfl
    · rw [dt_lv_lf]; rfl
    · intro v
      rw [dt_sv_lf, dt_pre_lf, dt_lv_lf]
      exact ⟨rfl, rfl⟩
    · intro h f l
      rw [dt_nl_lf] at h
      cases d with
      | zero => omega
      | succ d =>
        rw [dt_sp_lf, dt_pre_fk, dt_lv_fk, dt_pre_lf, dt_pre_lf, dt_lv_lf, dt_lv_lf]
        exact ⟨rfl, rfl⟩
  · intro d g m a b iha ihb i hk hi
    have pa := dt_nl_pos d a
    have pb := dt_nl_pos d b
    rw [dt_ok_fk] at hk
    rw [dt_nl_fk] at hi
    by_cases c : i < dt_nl d a
    · obtain ⟨A, w, B, C, D, h1, h2, h3, h4, h5, h6, h7⟩ := iha i hk.2.1 c
      refine ⟨(nI g, nI m) :: A, w, B ++ dt_pre d b, C, D ++ dt_lv d b, ?_, ?_, ?_, ?_, h5, ?_, ?_⟩
      · rw [dt_pre_fk, h1, List.append_assoc]; rfl
      · rw [dt_pos_fk, if_pos c, List.length_cons, h2]
      · rw [dt_lc_fork g (by omega), h3]
      · rw [dt_lv_fk, h4, List.append_assoc]; rfl
      · intro v
        rw [dt_sv_fk, if_pos c, dt_pre_fk, dt_lv_fk, (h6 v).1, (h6 v).2, List.append_assoc, List.append_assoc]
        exact ⟨rfl, rfl⟩
      · intro h f l
        rw [dt_nl_fk] at h
        have h8 := h7 (by omega) f l
        rw [dt_sp_fk, if_pos c, dt_pre_fk, dt_lv_fk, h8.1, h8.2, List.append_assoc, List.append_assoc]
        exact ⟨rfl, rfl⟩
    · obtain ⟨A, w, B, C, D, h1, h2, h3, h4, h5, h6, h7⟩ := ihb (i - dt_nl d a) hk.2.2 (by omega)
      refine ⟨(nI g, nI m) :: (dt_pre d a ++ A), w, B, dt_lv d a ++ C, D, ?_, ?_, ?_, ?_, ?_, ?_, ?_⟩
      · rw [dt_pre_fk, h1, List.cons_append, List.append_assoc]
      · rw [dt_pos_fk, if_neg c, List.length_cons, List.length_append, h2]; omega
      · rw [dt_lc_fork g (by omega), dt_lc_app, dt_lc_pre d a hk.2.1, h3]; omega
      · rw [dt_lv_fk, h4, List.append_assoc]
      · rw [List.length_append, dt_lvlen, h5]; omega
      · intro v
        rw [dt_sv_fk, if_neg c, dt_pre_fk, dt_lv_fk, (h6 v).1, (h6 v).2, List.cons_append, List.append_assoc, List.append_assoc]
        exact ⟨rfl, rfl⟩
      · intro h f l
        rw [dt_nl_fk] at h
        have h8 := h7 (by omega) f l
        rw [dt_sp_fk, if_neg c, dt_pre_fk, dt_lv_fk, h8.1, h8.2, List.cons_append, List.append_assoc, List.append_assoc]
        exact ⟨rfl, rfl⟩
end
section
/-! ===== the table of all forks, as a list: tree, feature, limit, first leaf, first leaf of the right part, end ===== -/
abbrev xf_F : Type := Nat × dt_F
def xf_le (x y : xf_F) : Prop := x.2.1 < y.2.1 ∨ (x.2.1 = y.2.1 ∧ x.2.2.1 ≤ y.2.2.1)
def xf_of (t : Nat) (L : List xf_F) : List dt_F := (L.filter (fun x => decide (x.1 = t))).map (fun x => x.2)
def dt_set (T : Nat → dt_T 8) (t : Nat) (S : dt_T 8) : Nat → dt_T 8 := fun u => if u = t then S else T u
theorem dt_set_s (T : Nat → dt_T 8) (t : Nat) (S : dt_T 8) : dt_set T t S t = S := if_pos rfl
theorem dt_set_n (T : Nat → dt_T 8) (t : Nat) (S : dt_T 8) {u : Nat} (h : u ≠ t) : dt_set T t S u = T u := if_neg h
def xf_L (T : Nat → dt_T 8) (L : List xf_F) : Prop := (∀ x, x ∈ L → x.1 < 4) ∧ L.Pairwise xf_le ∧ (∀ t, t < 4 → (xf_of t L).Perm (dt_fks 8 (T t) 0)) ∧ (∀ t, t < 4 → dt_nl 8 (T t) ≤ 8 ∧ dt_ok 8 (T t))
theorem xf_of_mem (t : Nat) (L : List xf_F) (y : dt_F) : y ∈ xf_of t L ↔ (t, y) ∈ L := by
  constructor
  · intro h
    obtain ⟨x, hx, e⟩ := List.mem_map.mp h
    obtain ⟨h1, h2⟩ := List.mem_filter.mp hx
    have h3 := of_decide_eq_true h2
    have : x = (t, y) := by rw [← h3, ← e]
    rw [← this]
    exact h1
  · intro h
    exact List.mem_map.mpr ⟨(t, y), List.mem_filter.mpr ⟨h, decide_eq_true rfl⟩, rfl⟩
theorem xf_of_t (t : Nat) (x : xf_F) (L : List xf_F) (h : x.1 = t) : xf_of t (x :: L) = x.2 :: xf_of t L := by
  unfold xf_of
  rw [List.filter_cons_of_pos (p := fun x : xf_F => decide (x.1 = t)) (decide_eq_true h), List.map_cons]
theorem xf_of_f (t : Nat) (x : xf_F) (L : List xf_F) (h : x.1 ≠ t) : xf_of t (x :: L) = xf_of t L := by
  unfold xf_of
  rw [List.filter_cons_of_neg (by intro z; exact h (of_decide_eq_true z))]
theorem xf_of_app (t : Nat) (A B : List xf_F) : xf_of t (A ++ B) = xf_of t A ++ xf_of t B := by
  unfold xf_of
  rw [List.filter_append, List.map_append]
theorem xf_cnt4 (p : xf_F → Bool) : ∀ L : List xf_F, (∀ x, x ∈ L → x.1 < 4) → L.countP p = (xf_of 0 L).countP (fun y => p (0, y)) + (xf_of 1 L).countP (fun y => p (1, y)) + (xf_of 2 L).countP (fun y => p (2, y)) + (xf_of 3 L).countP (fun y => p (3, y)) := by
  intro L
  induction L with
  | nil => intro _; rfl
  | cons x L ih =>
    intro h
    have e := ih (fun y hy => h y (List.mem_cons_of_mem _ hy))
    have hx := h x List.mem_cons_self
    obtain ⟨t, y⟩ := x
    have hx' : t = 0 ∨ t = 1 ∨ t = 2 ∨ t = 3 := by dsimp only at hx; omega
    rw [List.countP_cons, e]
    rcases hx' with rfl | rfl | rfl | rfl
    · rw [xf_of_t 0 _ _ rfl, xf_of_f 1 _ _ (show (0 : Nat) ≠ 1 by decide), xf_of_f 2 _ _ (show (0 : Nat) ≠ 2 by decide), xf_of_f 3 _ _ (show (0 : Nat) ≠ 3 by decide), List.countP_cons]
      dsimp only
      omega
    · rw [xf_of_t 1 _ _ rfl, xf_of_f 0 _ _ (show (1 : Nat) ≠ 0 by decide), xf_of_f 2 _ _ (show (1 : Nat) ≠ 2 by decide), xf_of_f 3 _ _ (show (1 : Nat) ≠ 3 by decide), List.countP_cons]
      dsimp only
      omega
    · rw [xf_of_t 2 _ _ rfl, xf_of_f 0 _ _ (show (2 : Nat) ≠ 0 by decide), xf_of_f 1 _ _ (show (2 : Nat) ≠ 1 by decide), xf_of_f 3 _ _ (show (2 : Nat) ≠ 3 by decide), List.countP_cons]
      dsimp only
      omega
    · rw [xf_of_t 3 _ _ rfl, xf_of_f 0 _ _ (show (3 : Nat) ≠ 0 by decide), xf_of_f 1 _ _ (show (3 : Nat) ≠ 1 by decide), xf_of_f 2 _ _ (show (3 : Nat) ≠ 2 by decide), List.countP_cons]
      dsimp only
      omega
section
variable {T : Nat → dt_T 8} {L : List xf_F}
theorem xf_mem (h : xf_L T L) {t : Nat} (ht : t < 4) (y : dt_F) : (t, y) ∈ L ↔ y ∈ dt_fks 8 (T t) 0 := (xf_of_mem t L y).symm.trans (h.2.2.1 t ht).mem_iff
theorem xf_cnt (h : xf_L T L) (p : xf_F → Bool) : L.countP p = (dt_fks 8 (T 0) 0).countP (fun y => p (0, y)) + (dt_fks 8 (T 1) 0).countP (fun y => p (1, y)) + (dt_fks 8 (T 2) 0).countP (fun y => p (2, y)) + (dt_fks 8 (T 3) 0).countP (fun y => p (3, y)) := by
  rw [xf_cnt4 p L h.1, List.Perm.countP_eq _ (h.2.2.1 0 (by decide)), List.Perm.countP_eq _ (h.2.2.1 1 (by decide)), List.Perm.countP_eq _ (h.2.2.1 2 (by decide)), List.Perm.countP_eq _ (h.2.2.1 3 (by decide))]
theorem xf_len (h : xf_L T L) : L.length + 4 = dt_nl 8 (T 0) + dt_nl 8 (T 1) + dt_nl 8 (T 2) + dt_nl 8 (T 3) := by
  have e := xf_cnt h (fun _ => true)
  simp only [List.countP_true] at e
  have h0 := dt_fklen 8 (T 0) 0
  have h1 := dt_fklen 8 (T 1) 0
  have h2 := dt_fklen 8 (T 2) 0
  have h3 := dt_fklen 8 (T 3) 0
  omega
theorem xf_len28 (h : xf_L T L) : L.length ≤ 28 := by
  have e := xf_len h
  have h0 := (h.2.2.2 0 (by decide)).1
  have h1 := (h.2.2.2 1 (by decide)).1
  have h2 := (h.2.2.2 2 (by decide)).1
  have h3 := (h.2.2.2 3 (by decide)).1
  omega
theorem xf_len27 (h : xf_L T L) {t : Nat} (ht : t < 4) (h8 : dt_nl 8 (T t) < 8) : L.length ≤ 27 := by
  have e := xf_len h
  have h0 := (h.2.2.2 0 (by decide)).1
  have h1 := (h.2.2.2 1 (by decide)).1
  have h2 := (h.2.2.2 2 (by decide)).1
  have h3 := (h.2.2.2 3 (by decide)).1
  have hx' : t = 0 ∨ t = 1 ∨ t = 2 ∨ t = 3 := by omega
  rcases hx' with rfl | rfl | rfl | rfl <;> omega
def xf_ok (x : xf_F) : Prop := x.1 < 4 ∧ x.2.1 < 4 ∧ x.2.2.1 < 16 ∧ x.2.2.2.1 < x.2.2.2.2.1 ∧ x.2.2.2.2.1 < x.2.2.2.2.2 ∧ x.2.2.2.2.2 ≤ 8
theorem xf_rng (h : xf_L T L) {x : xf_F} (hx : x ∈ L) : xf_ok x := by
  obtain ⟨t, y⟩ := x
  have ht : t < 4 := h.1 _ hx
  have hy := (xf_mem h ht y).mp hx
  have h1 := dt_fk_in 8 (T t) 0 y hy
  have h2 := dt_fk_ok 8 (T t) 0 y (h.2.2.2 t ht).2 hy
  have h3 := (h.2.2.2 t ht).1
  unfold xf_ok
  dsimp only
  omega
end
/-- forks with a feature below g lie ahead of the others -/
def xf_c (g : Nat) (L : List xf_F) : Nat := L.countP (fun x => decide (x.2.1 < g))
theorem xf_st (g : Nat) : ∀ (L : List xf_F), L.Pairwise xf_le → ∀ (k : Nat) (x : xf_F), L[k]? = some x → (k < xf_c g L ↔ x.2.1 < g) := by
  intro L
  induction L with
  | nil => intro _ k x h; rw [List.getElem?_nil] at h; cases h
  | cons a L ih =>
    intro hp k x h
    obtain ⟨h1, h2⟩ := List.pairwise_cons.mp hp
    by_cases c : a.2.1 < g
    · have e : xf_c g (a :: L) = xf_c g L + 1 := List.countP_cons_of_pos (decide_eq_true c)
      rw [e]
      cases k with
      | zero =>
        rw [List.getElem?_cons_zero] at h
        cases h
        exact ⟨fun _ => c, fun _ => by omega⟩
      | succ k =>
        rw [List.getElem?_cons_succ] at h
        have := ih h2 k x h
        omega
    · have e : xf_c g (a :: L) = 0 := by
        show List.countP _ _ = 0
        rw [List.countP_eq_zero]
        intro y hy z
        have z' := of_decide_eq_true z
        rcases List.mem_cons.mp hy with rfl | hy
        · exact c z'
        · have := h1 y hy
          unfold xf_le at this
          omega
      rw [e]
      refine ⟨fun z => absurd z (Nat.not_lt_zero k), fun z => ?_⟩
      exfalso
      cases k with
      | zero =>
        rw [List.getElem?_cons_zero] at h
        cases h
        exact c z
      | succ k =>
        rw [List.getElem?_cons_succ] at h
        have := h1 x (List.mem_of_getElem? h)
        unfold xf_le at this
        omega
theorem xf_c_le (g : Nat) (L : List xf_F) : xf_c g L ≤ L.length := List.countP_le_length
theorem xf_c_s (g : Nat) (L : List xf_F) : xf_c (g + 1) L = xf_c g L + L.countP (fun x => decide (x.2.1 = g)) := by
  induction L with
  | nil => rfl
  | cons a L ih =>
    unfold xf_c at ih ⊢
    rw [List.countP_cons, List.countP_cons, List.countP_cons, ih]
    rcases Nat.lt_trichotomy a.2.1 g with c | c | c
    · rw [if_pos (decide_eq_true (by omega)), if_pos (decide_eq_true c), if_neg (by rw [decide_eq_true_eq]; omega)]; omega
    · rw [if_pos (decide_eq_true (by omega)), if_neg (by rw [decide_eq_true_eq]; omega), if_pos (decide_eq_true c)]; omega
    · rw [if_neg (by rw [decide_eq_true_eq]; omega), if_neg (by rw [decide_eq_true_eq]; omega), if_neg (by rw [decide_eq_true_eq]; omega)]; omega
theorem xf_c0 (L : List xf_F) : xf_c 0 L = 0 := by
  show List.countP _ _ = 0
  rw [List.countP_eq_zero]
  intro y _ z
  exact absurd (of_decide_eq_true z) (Nat.not_lt_zero _)
/-! ===== a split: the tree's forks count the new leaf, and the new fork is put in ===== -/
def xf_mv (t i : Nat) (x : xf_F) : xf_F := if x.1 = t then (x.1, dt_up i x.2) else x
def xf_nw (t i f l : Nat) : xf_F := (t, f, l, i, i + 1, i + 2)
theorem xf_mv_t {t i : Nat} {x : xf_F} (h : x.1 = t) : xf_mv t i x = (x.1, dt_up i x.2) := if_pos h
theorem xf_mv_f {t i : Nat} {x : xf_F} (h : x.1 ≠ t) : xf_mv t i x = x := if_neg h
theorem xf_mv_1 (t i : Nat) (x : xf_F) : (xf_mv t i x).1 = x.1 ∧ (xf_mv t i x).2.1 = x.2.1 ∧ (xf_mv t i x).2.2.1 = x.2.2.1 := by
  by_cases h : x.1 = t
  · rw [xf_mv_t h]; exact ⟨rfl, rfl, rfl⟩
  · rw [xf_mv_f h]; exact ⟨rfl, rfl, rfl⟩
theorem xf_of_mv (t i : Nat) (L : List xf_F) : xf_of t (L.map (xf_mv t i)) = (xf_of t L).map (dt_up i) := by
  induction L with
  | nil => rfl
  | cons x L ih =>
    rw [List.map_cons]
    by_cases h : x.1 = t
    · rw [xf_mv_t h, xf_of_t t x _ h, xf_of_t t (x.1, dt_up i x.2) _ h, ih, List.map_cons]
    · rw [xf_mv_f h, xf_of_f t _ _ h, xf_of_f t _ _ h, ih]
theorem xf_of_mv' (t i u : Nat) (hu : u ≠ t) (L : List xf_F) : xf_of u (L.map (xf_mv t i)) = xf_of u L := by
  induction L with
  | nil => rfl
  | cons x L ih =>
    rw [List.map_cons]
    by_cases h : x.1 = t
    · rw [xf_of_f u _ _ (by rw [(xf_mv_1 t i x).1]; omega), xf_of_f u _ _ (by omega), ih]
    · rw [xf_mv_f h]
      by_cases h2 : x.1 = u
      · rw [xf_of_t u _ _ h2, xf_of_t u _ _ h2, ih]
      · rw [xf_of_f u _ _ h2, xf_of_f u _ _ h2, ih]
theorem xf_split {T : Nat → dt_T 8} {L : List xf_F} (h : xf_L T L) {t i f l : Nat} (ht : t < 4) (hi : i < dt_nl 8 (T t)) (h8 : dt_nl 8 (T t) < 8) (hf : f < 4) (hl : l < 16) (k : Nat) (hk1 : ∀ x, x ∈ L.take k → xf_le x (xf_nw t i f l)) (hk2 : ∀ x, x ∈ L.drop k → xf_le (xf_nw t i f l) x) : xf_L (dt_set T t (dt_sp f l 8 (T t) i)) ((L.map (xf_mv t i)).take k ++ xf_nw t i f l :: (L.map (xf_mv t i)).drop k) := by
  obtain ⟨g1, g2, g3, g4⟩ := h
  have m1 : ∀ x, x ∈ L.map (xf_mv t i) → x.1 < 4 := by
    intro x hx
    obtain ⟨y, hy, rfl⟩ := List.mem_map.mp hx
    rw [(xf_mv_1 t i y).1]
    exact g1 y hy
  have m2 : (L.map (xf_mv t i)).Pairwise xf_le := by
    rw [List.pairwise_map]
    refine g2.imp ?_
    intro a b hab
    unfold xf_le at hab ⊢
    rw [(xf_mv_1 t i a).2.1, (xf_mv_1 t i a).2.2, (xf_mv_1 t i b).2.1, (xf_mv_1 t i b).2.2]
    exact hab
  have n1 : ∀ x, x ∈ (L.map (xf_mv t i)).take k → xf_le x (xf_nw t i f l) := by
    intro x hx
    rw [← List.map_take] at hx
    obtain ⟨y, hy, rfl⟩ := List.mem_map.mp hx
    have := hk1 y hy
    unfold xf_le at this ⊢
    rw [(xf_mv_1 t i y).2.1, (xf_mv_1 t i y).2.2]
    exact this
  have n2 : ∀ x, x ∈ (L.map (xf_mv t i)).drop k → xf_le (xf_nw t i f l) x := by
    intro x hx
    rw [← List.map_drop] at hx
    obtain ⟨y, hy, rfl⟩ := List.mem_map.mp hx
    have := hk2 y hy
    unfold xf_le at this ⊢
    rw [(xf_mv_1 t i y).2.1, (xf_mv_1 t i y).2.2]
    exact this
  have o1 := xf_of_mv t i L
  have o2 := fun u hu => xf_of_mv' t i u hu L
  revert m1 m2 n1 n2 o1 o2
  generalize L.map (xf_mv t i) = M
  intro m1 m2 n1 n2 o1 o2
  have sp : M.take k ++ M.drop k = M := List.take_append_drop k M
  rw [← sp] at m1 m2 o1 o2
  generalize M.take k = P at *
  generalize M.drop k = Q at *
  obtain ⟨p1, p2, p3⟩ := List.pairwise_append.mp m2
  refine ⟨?_, ?_, ?_, ?_⟩
  · intro x hx
    rcases List.mem_append.mp hx with hx | hx
    · exact m1 x (List.mem_append_left _ hx)
    · rcases List.mem_cons.mp hx with rfl | hx
      · exact ht
      · exact m1 x (List.mem_append_right _ hx)
  · refine List.pairwise_append.mpr ⟨p1, List.pairwise_cons.mpr ⟨n2, p2⟩, ?_⟩
    intro a ha b hb
    rcases List.mem_cons.mp hb with rfl | hb
    · exact n1 a ha
    · exact p3 a ha b hb
  · intro u hu
    by_cases c : u = t
    · subst c
      rw [dt_set_s, xf_of_app, xf_of_t u _ _ rfl]
      rw [xf_of_app] at o1
      refine List.perm_middle.trans ?_
      rw [o1]
      have e := dt_sp_fks f l 8 (T u) i 0 (by omega) hi
      rw [Nat.zero_add] at e
      exact (((g3 u hu).map (dt_up i)).cons _).trans e.symm
    · rw [dt_set_n T t _ c, xf_of_app, xf_of_f u _ _ (fun z => c z.symm), ← xf_of_app, o2 u c]
      exact g3 u hu
  · intro u hu
    by_cases c : u = t
    · subst c
      rw [dt_set_s, dt_sp_nl f l 8 (T u) i (by omega) hi]
      exact ⟨by omega, dt_sp_ok f l hf hl 8 (T u) i (g4 u hu).2⟩
    · rw [dt_set_n T t _ c]
      exact g4 u hu
/-! ===== a tree cleared ===== -/
theorem xf_of_cl (t u : Nat) (L : List xf_F) : xf_of u (L.filter (fun x => decide (x.1 ≠ t))) = if u = t then [] else xf_of u L := by
  induction L with
  | nil => by_cases c : u = t
           · rw [if_pos c]; rfl
           · rw [if_neg c]; rfl
  | cons x L ih =>
    by_cases h : x.1 = t
    · rw [List.filter_cons_of_neg (by intro z; exact (of_decide_eq_true z) h), ih]
      by_cases c : u = t
      · rw [if_pos c, if_pos c]
      · rw [if_neg c, if_neg c, xf_of_f u _ _ (by omega)]
    · rw [List.filter_cons_of_pos (p := fun x : xf_F => decide (x.1 ≠ t)) (decide_eq_true h)]
      by_cases c : u = t
      · rw [if_pos c] at ih ⊢
        rw [xf_of_f u _ _ (by omega), ih]
      · rw [if_neg c] at ih ⊢
        by_cases h2 : x.1 = u
        · rw [xf_of_t u _ _ h2, xf_of_t u _ _ h2, ih]
        · rw [xf_of_f u _ _ h2, xf_of_f u _ _ h2, ih]
theorem xf_clear {T : Nat → dt_T 8} {L : List xf_F} (h : xf_L T L) (t : Nat) : xf_L (dt_set T t (dt_lf 8 0)) (L.filter (fun x => decide (x.1 ≠ t))) := by
  obtain ⟨g1, g2, g3, g4⟩ := h
  refine ⟨fun x hx => g1 x (List.mem_filter.mp hx).1, g2.filter _, ?_, ?_⟩
  · intro u hu
    rw [xf_of_cl]
    by_cases c : u = t
    · rw [if_pos c, c, dt_set_s, dt_fks_lf]
    · rw [if_neg c, dt_set_n T t _ c]
      exact g3 u hu
  · intro u hu
    by_cases c : u = t
    · rw [c, dt_set_s, dt_nl_lf, dt_ok_lf]
      exact ⟨by omega, trivial⟩
    · rw [dt_set_n T t _ c]
      exact g4 u hu
/-! ===== another value at a leaf ===== -/
theorem xf_setv {T : Nat → dt_T 8} {L : List xf_F} (h : xf_L T L) (t i : Nat) (v : Int32) : xf_L (dt_set T t (dt_sv v 8 (T t) i)) L := by
  obtain ⟨g1, g2, g3, g4⟩ := h
  refine ⟨g1, g2, ?_, ?_⟩
  · intro u hu
    by_cases c : u = t
    · subst c
      rw [dt_set_s, dt_sv_fks]
      exact g3 u hu
    · rw [dt_set_n T t _ c]
      exact g3 u hu
  · intro u hu
    by_cases c : u = t
    · subst c
      rw [dt_set_s, dt_sv_nl]
      exact ⟨(g4 u hu).1, dt_sv_ok v 8 (T u) i (g4 u hu).2⟩
    · rw [dt_set_n T t _ c]
      exact g4 u hu
theorem xf_L0 : xf_L (fun _ => dt_lf 8 0) [] := by
  refine ⟨fun x hx => (by cases hx), List.Pairwise.nil, ?_, ?_⟩
  · intro t _
    rw [dt_fks_lf]
    exact List.Perm.refl _
  · intro t _
    rw [dt_nl_lf, dt_ok_lf]
    exact ⟨by omega, trivial⟩
end
section
/-! ===== the component's arrays, and its small methods ===== -/
def xf_at (tr fe li fi ll la : Nat → Int32) (j : Nat) (x : xf_F) : Prop := tr j = nI x.1 ∧ fe j = nI x.2.1 ∧ li j = nI x.2.2.1 ∧ fi j = nI x.2.2.2.1 ∧ ll j = nI (x.2.2.2.2.1 - 1) ∧ la j = nI (x.2.2.2.2.2 - 1)
def xf_A (tr fe li fi ll la : Nat → Int32) (L : List xf_F) : Prop := ∀ (j : Nat) (x : xf_F), L[j]? = some x → xf_at tr fe li fi ll la j x
def xf_N (T : Nat → dt_T 8) (lc : Nat → Int32) : Prop := ∀ t, t < 4 → lc t = nI (dt_nl 8 (T t))
def xf_V (T : Nat → dt_T 8) (va : Nat → Int32) : Prop := ∀ t, t < 4 → ∀ (i : Nat) (v : Int32), (dt_lv 8 (T t))[i]? = some v → va (t * 8 + i) = v
def xf_S (st : Nat → Int32) (L : List xf_F) : Prop := ∀ g, g ≤ 4 → st g = nI (xf_c g L)
def xf_X (T : Nat → dt_T 8) (L : List xf_F) (fc : Int32) (lc va tr fe li fi ll la st : Nat → Int32) : Prop := xf_L T L ∧ fc = nI L.length ∧ xf_N T lc ∧ xf_V T va ∧ xf_A tr fe li fi ll la L ∧ xf_S st L
theorem xw_b : ∀ n, n < 128 → (nI n).toInt8.toInt32 = nI n := by decide +kernel
theorem xw_vb {n : Nat} (h : n < 128) : vp_nar .byte (nI n) = nI n := (vp_nar_byte _).trans (xw_b n h)
theorem xw_vbb {n : Nat} (h : n < 128) : vp_nar .byte (nI n).toInt8.toInt32 = nI n := by rw [xw_b n h, xw_vb h]
theorem xw_cl {n : Nat} (h : n < 1000) : (nI n).toNatClampNeg = n := nI_clamp (by omega)
theorem xw_uu (f : Nat → Int32) (k : Nat) (a b : Int32) : upd (upd f k a) k b = upd f k b := by
  funext j
  by_cases h : j = k
  · subst h; rw [pk_us, pk_us]
  · rw [pk_un h, pk_un h, pk_un h]
theorem xf_get {L : List xf_F} {k : Nat} (h : k < L.length) : ∃ x, L[k]? = some x ∧ x ∈ L := ⟨L[k], List.getElem?_eq_getElem h, List.getElem_mem h⟩
theorem xw_tree_f {post : Int32 → Prop} {x : Int32} (h : x < 0 ∨ nI 4 ≤ x) (hp : post 0) : wpX_isTree post x := by
  unfold wpX_isTree
  by_cases c : x < 0
  · exact br_t c hp
  · exact br_f c (br_t (h.resolve_left c) hp)
theorem xw_tree_t {post : Int32 → Prop} {t : Nat} (h : t < 4) (hp : post 1) : wpX_isTree post (nI t) := br_f (nI_pos (by omega)) (br_f (nI_ge (b := 4) h (by decide)) hp)
theorem xw_feat_f {post : Int32 → Prop} {x : Int32} (h : x < 0 ∨ nI 4 ≤ x) (hp : post 0) : wpX_isFeature post x := by
  unfold wpX_isFeature
  by_cases c : x < 0
  · exact br_t c hp
  · exact br_f c (br_t (h.resolve_left c) hp)
theorem xw_feat_t {post : Int32 → Prop} {t : Nat} (h : t < 4) (hp : post 1) : wpX_isFeature post (nI t) := br_f (nI_pos (by omega)) (br_f (nI_ge (b := 4) h (by decide)) hp)
def xw_np (x : Int32) : Prop := x < 0 ∨ (¬ x < 0 ∧ 65535 < x)
theorem xw_pt (x : Int32) : xw_np x ∨ ∃ p : Nat, p < 65536 ∧ x = nI p := by
  by_cases c : x < 0
  · exact Or.inl (Or.inl c)
  · obtain ⟨j, hj, rfl⟩ := nI_of c
    by_cases h : j < 65536
    · exact Or.inr ⟨j, h, rfl⟩
    · exact Or.inl (Or.inr ⟨c, nI_lt (a := 65535) (by omega) hj⟩)
theorem xw_point_f {post : Int32 → Prop} {x : Int32} (h : xw_np x) (hp : post 0) : wpX_isPoint post x := by
  unfold wpX_isPoint
  rcases h with c | ⟨c, h⟩
  · exact br_t c hp
  · exact br_f c (br_t h hp)
theorem xw_point_t {post : Int32 → Prop} {p : Nat} (h : p < 65536) (hp : post 1) : wpX_isPoint post (nI p) := br_f (nI_pos (by omega)) (br_f (nI_nlt (b := p) (a := 65535) (by omega) (by decide)) hp)
section
variable {fc : Int32} {lc va tr fe li fi ll la st lf : Nat → Int32}
theorem xw_leaf_t {post : Int32 → Prop} {T : Nat → dt_T 8} (hN : xf_N T lc) {t i : Nat} (ht : t < 4) (hi : i < dt_nl 8 (T t)) (h8 : dt_nl 8 (T t) ≤ 8) (hp : post 1) : wpX_isLeaf post (fc, lc, va, tr, fe, li, fi, ll, la, st, lf) (nI t) (nI i) := by
  unfold wpX_isLeaf
  dsimp only
  refine xw_tree_t ht (br_f (by decide) (br_f (nI_pos (by omega)) ⟨vp_in_nI ht (by decide), ?_⟩))
  rw [xw_cl (by omega), hN t ht]
  exact br_f (nI_ge hi (by omega)) hp
theorem xw_leaf_f {post : Int32 → Prop} {T : Nat → dt_T 8} (hN : xf_N T lc) (h8 : ∀ t, t < 4 → dt_nl 8 (T t) ≤ 8) {v1 v2 : Int32} (h : ∀ t i, t < 4 → i < dt_nl 8 (T t) → v1 = nI t → v2 = nI i → False) (hp : post 0) : wpX_isLeaf post (fc, lc, va, tr, fe, li, fi, ll, la, st, lf) v1 v2 := by
  unfold wpX_isLeaf
  dsimp only
  rcases pk_ix v1 (n := 4) (by decide) with c | c | ⟨t, ht, rfl⟩
  · exact xw_tree_f (Or.inl c) (br_t rfl hp)
  · exact xw_tree_f (Or.inr c) (br_t rfl hp)
  · refine xw_tree_t ht (br_f (by decide) ?_)
    by_cases c : v2 < 0
    · exact br_t c hp
    · obtain ⟨i, hi, rfl⟩ := nI_of c
      refine br_f c ⟨vp_in_nI ht (by decide), ?_⟩
      rw [xw_cl (by omega), hN t ht]
      have := h8 t ht
      exact br_t (nI_le (Nat.not_lt.mp fun z => h t i ht z rfl rfl) hi) hp
/-! ===== moveUp, copyFork ===== -/
theorem xw_mv47 {post : SX → Prop} {j i e w : Nat} {z0 z1 : Int32} (hj : j < 28) (hi : i < 100) (he : la j = nI e) (he1 : e < 100) (hz : z1 + z0 = nI w) (hw : w < 128) (hp : post (fc, lc, va, tr, fe, li, fi, upd ll j (nI w), upd la j (nI (if e < i then e else e + 1)), st, lf)) : wX_moveUp_47 post (nI j) (nI i) z0 z1 (nI j) fc lc va tr fe li fi ll la st lf := by
  have hv : vp_in (nI j) 28 := vp_in_nI hj (by decide)
  unfold wX_moveUp_47
  rw [xw_cl (show j < 1000 by omega), he, hz, xw_vbb hw]
  by_cases c : e < i
  · rw [if_pos c] at hp
    exact ⟨hv, nm_e ⟨hv, hv, br_t (nI_lt c (by omega)) ⟨hv, nm_r (e' := upd la j (nI e)) (by rw [Int32.add_zero, xw_vbb (by omega)]) hp⟩⟩⟩
  · rw [if_neg c] at hp
    exact ⟨hv, nm_e ⟨hv, hv, br_f (nI_nlt (by omega) (by omega)) ⟨hv, nm_r (e' := upd la j (nI (e + 1))) (by rw [nI_1, xw_vbb (by omega)]) hp⟩⟩⟩
theorem xw_mv22 {post : SX → Prop} {j i m e w : Nat} {z0 z1 : Int32} (hj : j < 28) (hi : i < 100) (hm : ll j = nI m) (hm1 : m < 100) (he : la j = nI e) (he1 : e < 100) (hz : z1 + z0 = nI w) (hw : w < 128) (hp : post (fc, lc, va, tr, fe, li, upd fi j (nI w), upd ll j (nI (if m < i then m else m + 1)), upd la j (nI (if e < i then e else e + 1)), st, lf)) : wX_moveUp_22 post (nI j) (nI i) z0 z1 (nI j) fc lc va tr fe li fi ll la st lf := by
  have hv : vp_in (nI j) 28 := vp_in_nI hj (by decide)
  unfold wX_moveUp_22
  rw [xw_cl (show j < 1000 by omega), hm, hz, xw_vbb hw]
  by_cases c : m < i
  · rw [if_pos c] at hp
    exact ⟨hv, nm_e ⟨hv, hv, br_t (nI_lt c (by omega)) (xw_mv47 hj hi he he1 (Int32.add_zero _) (by omega) hp)⟩⟩
  · rw [if_neg c] at hp
    exact ⟨hv, nm_e ⟨hv, hv, br_f (nI_nlt (by omega) (by omega)) (xw_mv47 hj hi he he1 (nI_1 m) (by omega) hp)⟩⟩
theorem xw_u1 {i m : Nat} (hm : 0 < m) : (if m - 1 < i then m - 1 else m - 1 + 1) = dt_u i m - 1 := by
  unfold dt_u
  split <;> split <;> omega
theorem xw_moveUp {post : SX → Prop} {j i : Nat} {x : xf_F} (hj : j < 28) (hi : i < 8) (hx : xf_ok x) (ha : xf_at tr fe li fi ll la j x) (hp : ∀ fi' ll' la', (∀ k y, k ≠ j → xf_at tr fe li fi ll la k y → xf_at tr fe li fi' ll' la' k y) → xf_at tr fe li fi' ll' la' j (x.1, dt_up i x.2) → post (fc, lc, va, tr, fe, li, fi', ll', la', st, lf)) : wpX_moveUp post (fc, lc, va, tr, fe, li, fi, ll, la, st, lf) (nI j) (nI i) := by
  obtain ⟨h1, h2, h3, h4, h5, h6⟩ := ha
  obtain ⟨x1, x2, x3, x4, x5, x6⟩ := hx
  have hv : vp_in (nI j) 28 := vp_in_nI hj (by decide)
  have key : ∀ w, w = dt_u i x.2.2.2.1 → post (fc, lc, va, tr, fe, li, upd fi j (nI w), upd ll j (nI (if x.2.2.2.2.1 - 1 < i then x.2.2.2.2.1 - 1 else x.2.2.2.2.1 - 1 + 1)), upd la j (nI (if x.2.2.2.2.2 - 1 < i then x.2.2.2.2.2 - 1 else x.2.2.2.2.2 - 1 + 1)), st, lf) := by
    intro w hw
    refine hp _ _ _ ?_ ?_
    · intro k y hk h
      obtain ⟨a1, a2, a3, a4, a5, a6⟩ := h
      exact ⟨a1, a2, a3, (pk_un hk).trans a4, (pk_un hk).trans a5, (pk_un hk).trans a6⟩
    · refine ⟨h1, h2, h3, ?_, ?_, ?_⟩
      · rw [pk_us, hw]; rfl
      · rw [pk_us, xw_u1 (by omega)]; rfl
      · rw [pk_us, xw_u1 (by omega)]; rfl
  unfold wpX_moveUp
  dsimp only
  rw [xw_cl (show j < 1000 by omega), h4]
  by_cases c : x.2.2.2.1 ≤ i
  · exact ⟨hv, hv, br_t (nI_le c (by omega)) (xw_mv22 hj (by omega) h5 (by omega) h6 (by omega) (Int32.add_zero _) (by omega) (key _ (dt_u_f c).symm))⟩
  · exact ⟨hv, hv, br_f (nI_ge (by omega) (by omega)) (xw_mv22 hj (by omega) h5 (by omega) h6 (by omega) (nI_1 _) (by omega) (key _ (dt_u_t (by omega)).symm))⟩
theorem xf_at_un {k n : Nat} {y : xf_F} {b1 b2 b3 b4 b5 b6 : Int32} (h : n ≠ k) (ha : xf_at tr fe li fi ll la n y) : xf_at (upd tr k b1) (upd fe k b2) (upd li k b3) (upd fi k b4) (upd ll k b5) (upd la k b6) n y := by
  obtain ⟨a1, a2, a3, a4, a5, a6⟩ := ha
  exact ⟨(pk_un h).trans a1, (pk_un h).trans a2, (pk_un h).trans a3, (pk_un h).trans a4, (pk_un h).trans a5, (pk_un h).trans a6⟩
theorem xf_at_us {k : Nat} {y : xf_F} : xf_at (upd tr k (nI y.1)) (upd fe k (nI y.2.1)) (upd li k (nI y.2.2.1)) (upd fi k (nI y.2.2.2.1)) (upd ll k (nI (y.2.2.2.2.1 - 1))) (upd la k (nI (y.2.2.2.2.2 - 1))) k y := ⟨pk_us, pk_us, pk_us, pk_us, pk_us, pk_us⟩
theorem xw_copy {post : SX → Prop} {j k : Nat} {x : xf_F} (hj : j < 28) (hk : k < 28) (hx : xf_ok x) (ha : xf_at tr fe li fi ll la j x) (hp : ∀ tr' fe' li' fi' ll' la', (∀ n y, n ≠ k → xf_at tr fe li fi ll la n y → xf_at tr' fe' li' fi' ll' la' n y) → xf_at tr' fe' li' fi' ll' la' k x → post (fc, lc, va, tr', fe', li', fi', ll', la', st, lf)) : wpX_copyFork post (fc, lc, va, tr, fe, li, fi, ll, la, st, lf) (nI j) (nI k) := by
  obtain ⟨h1, h2, h3, h4, h5, h6⟩ := ha
  obtain ⟨x1, x2, x3, x4, x5, x6⟩ := hx
  have hv : vp_in (nI j) 28 := vp_in_nI hj (by decide)
  have hw : vp_in (nI k) 28 := vp_in_nI hk (by decide)
  unfold wpX_copyFork
  dsimp only
  rw [xw_cl (show j < 1000 by omega), xw_cl (show k < 1000 by omega), h1, h2, h3, h4, h5, h6, xw_vb (by omega), xw_vb (by omega), xw_vb (by omega), xw_vb (by omega), xw_vb (by omega), xw_vb (by omega)]
  exact ⟨hv, hw, nm_e ⟨hv, hw, nm_e ⟨hv, hw, nm_e ⟨hv, hw, nm_e ⟨hv, hw, nm_e ⟨hv, hw, nm_e (hp _ _ _ _ _ _ (fun n y hn h => xf_at_un hn h) xf_at_us)⟩⟩⟩⟩⟩⟩
end
end
section
/-! ===== count, insert ===== -/
theorem xf_c_take {L : List xf_F} {k : Nat} {x : xf_F} (g : Nat) (h : L[k]? = some x) : xf_c g (L.take (k + 1)) = xf_c g (L.take k) + if x.2.1 < g then 1 else 0 := by
  unfold xf_c
  rw [List.take_add_one, h, List.countP_append]
  show _ + List.countP _ [x] = _
  rw [List.countP_singleton]
  by_cases c : x.2.1 < g
  · rw [if_pos c, if_pos (decide_eq_true c)]
  · rw [if_neg c, if_neg (by rw [decide_eq_true_eq]; exact c)]
section
variable {lc va tr fe li fi ll la lf : Nat → Int32} {L : List xf_F}
theorem xw_count16 {post : SX → Prop} {J : Int32 → (Nat → Int32) → (Nat → Int32) → (Nat → Int32) → (Nat → Int32) → (Nat → Int32) → (Nat → Int32) → (Nat → Int32) → (Nat → Int32) → (Nat → Int32) → (Nat → Int32) → Prop} {g : Nat} {st : Nat → Int32} (hg : g < 5) (hL : L.length ≤ 28) (hA : ∀ (j : Nat) (x : xf_F), L[j]? = some x → fe j = nI x.2.1 ∧ x.2.1 < 4) (hJ : J (nI (g + 1)) lc va tr fe li fi ll la (upd st g (nI (xf_c g L))) lf) : ∀ m k, k + m = L.length → wX_count_16 post J (nI g) (nI L.length) (m + 1) (nI k) lc va tr fe li fi ll la (upd st g (nI (xf_c g (L.take k)))) lf := by
  have hv : vp_in (nI g) 5 := vp_in_nI hg (by decide)
  intro m
  induction m with
  | zero =>
    intro k hk
    have : k = L.length := by omega
    subst this
    rw [List.take_length]
    exact br_t (nI_le (Nat.le_refl _) (by omega)) (nm_r (nI_1 g) hJ)
  | succ m ih =>
    intro k hk
    obtain ⟨x, hx, _⟩ := xf_get (L := L) (k := k) (by omega)
    obtain ⟨e1, e2⟩ := hA k x hx
    have hw : vp_in (nI k) 28 := vp_in_nI (by omega) (by decide)
    have hc : xf_c g (L.take k) ≤ k := Nat.le_trans (xf_c_le _ _) (by rw [List.length_take]; omega)
    have hs := xf_c_take g hx
    have ih' := ih (k + 1) (by omega)
    rw [hs] at ih'
    unfold wX_count_16
    rw [xw_cl (show k < 1000 by omega), xw_cl (show g < 1000 by omega), e1, pk_us]
    refine br_f (nI_ge (by omega) (by omega)) ⟨hv, hw, ?_⟩
    by_cases c : x.2.1 < g
    · rw [if_pos c] at ih'
      exact br_f (nI_ge c (by omega)) ⟨hv, nm_r (e' := upd st g (nI (xf_c g (L.take k) + 1))) (by rw [nI_1, xw_vbb (by omega), xw_uu]) (nm_r (nI_1 k) ih')⟩
    · rw [if_neg c] at ih'
      exact br_t (nI_le (by omega) (by omega)) ⟨hv, nm_r (e' := upd st g (nI (xf_c g (L.take k) + 0))) (by rw [Int32.add_zero, xw_vbb (by omega), xw_uu, Nat.add_zero]) (nm_r (nI_1 k) ih')⟩
theorem xw_count2 {post : SX → Prop} (hL : L.length ≤ 28) (hA : ∀ (j : Nat) (x : xf_F), L[j]? = some x → fe j = nI x.2.1 ∧ x.2.1 < 4) (hp : ∀ st', xf_S st' L → post (nI L.length, lc, va, tr, fe, li, fi, ll, la, st', lf)) : ∀ m g st, g + m = 5 → (∀ n, n < g → st n = nI (xf_c n L)) → wX_count_2 post (nI L.length) (m + 1) (nI g) lc va tr fe li fi ll la st lf := by
  intro m
  induction m with
  | zero =>
    intro g st hg hs
    exact br_t (nI_lt (a := 4) (by omega) (by omega)) (hp st (fun n hn => hs n (by omega)))
  | succ m ih =>
    intro g st hg hs
    have hv : vp_in (nI g) 5 := vp_in_nI (by omega) (by decide)
    unfold wX_count_2
    rw [xw_cl (show g < 1000 by omega)]
    refine br_f (nI_nlt (a := 4) (by omega) (by decide)) ⟨hv, nm_r (e' := upd st g (nI (xf_c g (L.take 0)))) (by rw [show (0 : Int32) = nI 0 from rfl, xw_vb (by decide)]; rfl) ⟨L.length + 1, ?_⟩⟩
    refine xw_count16 (by omega) hL hA ?_ L.length 0 (by omega)
    refine ih (g + 1) _ (by omega) ?_
    intro n hn
    by_cases c : n = g
    · subst c; rw [pk_us]
    · rw [pk_un c]; exact hs n (by omega)
theorem xw_count {post : SX → Prop} {st : Nat → Int32} (hL : L.length ≤ 28) (hA : ∀ (j : Nat) (x : xf_F), L[j]? = some x → fe j = nI x.2.1 ∧ x.2.1 < 4) (hp : ∀ st', xf_S st' L → post (nI L.length, lc, va, tr, fe, li, fi, ll, la, st', lf)) : wpX_count post (nI L.length, lc, va, tr, fe, li, fi, ll, la, st, lf) := by
  unfold wpX_count
  dsimp only
  exact ⟨6, xw_count2 hL hA hp 5 0 st (by omega) (fun n hn => absurd hn (Nat.not_lt_zero n))⟩
end
theorem xf_le_r (x : xf_F) : xf_le x x := Or.inr ⟨rfl, Nat.le_refl _⟩
theorem xf_le_t {x y z : xf_F} (h1 : xf_le x y) (h2 : xf_le y z) : xf_le x z := by
  unfold xf_le at *
  omega
theorem xf_tk {L : List xf_F} (hp : L.Pairwise xf_le) {k : Nat} {x : xf_F} (h : L[k]? = some x) : ∀ y, y ∈ L.take (k + 1) → xf_le y x := by
  have h1 : (L.take (k + 1)).Pairwise xf_le := hp.take
  rw [List.take_add_one, h] at h1 ⊢
  intro y hy
  rcases List.mem_append.mp hy with hy | hy
  · exact (List.pairwise_append.mp h1).2.2 y hy x (List.mem_singleton.mpr rfl)
  · rw [List.mem_singleton.mp hy]; exact xf_le_r x
theorem xf_dr {L : List xf_F} {k : Nat} {x : xf_F} (h : L[k]? = some x) : L.drop k = x :: L.drop (k + 1) := by
  obtain ⟨hk, e⟩ := List.getElem?_eq_some_iff.mp h
  rw [List.drop_eq_getElem_cons hk, e]
theorem xf_ins_get {L : List xf_F} {k j : Nat} {w x : xf_F} (hk : k ≤ L.length) (h : (L.take k ++ w :: L.drop k)[j]? = some x) : (j < k ∧ L[j]? = some x) ∨ (j = k ∧ x = w) ∨ (k < j ∧ L[j - 1]? = some x) := by
  have hl : (L.take k).length = k := by rw [List.length_take]; omega
  by_cases c : j < k
  · rw [List.getElem?_append_left (by omega), List.getElem?_take, if_pos c] at h
    exact Or.inl ⟨c, h⟩
  · rw [List.getElem?_append_right (by omega), hl] at h
    by_cases c2 : j = k
    · subst c2
      rw [Nat.sub_self, List.getElem?_cons_zero] at h
      exact Or.inr (Or.inl ⟨rfl, (Option.some.inj h).symm⟩)
    · obtain ⟨n, rfl⟩ : ∃ n, j = k + n + 1 := ⟨j - k - 1, by omega⟩
      rw [show k + n + 1 - k = n + 1 by omega, List.getElem?_cons_succ, List.getElem?_drop] at h
      exact Or.inr (Or.inr ⟨by omega, h⟩)
section
variable {lc va st lf : Nat → Int32} {L : List xf_F} {t i f l : Nat}
/-- what the insertion must go on with -/
def xw_K (post : SX → Prop) (lc va lf : Nat → Int32) (L : List xf_F) (t i f l : Nat) : Prop := ∀ k tr fe li fi ll la st, k ≤ L.length → (∀ x, x ∈ L.take k → xf_le x (xf_nw t i f l)) → (∀ x, x ∈ L.drop k → xf_le (xf_nw t i f l) x) → xf_A tr fe li fi ll la (L.take k ++ xf_nw t i f l :: L.drop k) → xf_S st (L.take k ++ xf_nw t i f l :: L.drop k) → post (nI (L.length + 1), lc, va, tr, fe, li, fi, ll, la, st, lf)
theorem xw_ins67 {post : SX → Prop} (ht : t < 4) (hi : i < 7) (hf : f < 4) (hl : l < 16) (hL : L.length ≤ 27) (hok : ∀ x, x ∈ L → xf_ok x) (hK : xw_K post lc va lf L t i f l) (k : Nat) (hk : k ≤ L.length) (tr fe li fi ll la : Nat → Int32) (h1 : ∀ j x, j < k → L[j]? = some x → xf_at tr fe li fi ll la j x) (h2 : ∀ j x, k ≤ j → L[j]? = some x → xf_at tr fe li fi ll la (j + 1) x) (hk1 : ∀ x, x ∈ L.take k → xf_le x (xf_nw t i f l)) (hk2 : ∀ x, x ∈ L.drop k → xf_le (xf_nw t i f l) x) : wX_insert_67 post (nI t) (nI i) (nI f) (nI l) (nI k) (nI L.length) lc va tr fe li fi ll la st lf := by
  have hv : vp_in (nI k) 28 := vp_in_nI (by omega) (by decide)
  have hlen : (L.take k ++ xf_nw t i f l :: L.drop k).length = L.length + 1 := by
    rw [List.length_append, List.length_cons, List.length_take, List.length_drop]; omega
  have hA : xf_A (upd tr k (nI t)) (upd fe k (nI f)) (upd li k (nI l)) (upd fi k (nI i)) (upd ll k (nI i)) (upd la k (nI (i + 1))) (L.take k ++ xf_nw t i f l :: L.drop k) := by
    intro j x hx
    rcases xf_ins_get hk hx with ⟨c, e⟩ | ⟨c, e⟩ | ⟨c, e⟩
    · exact xf_at_un (by omega) (h1 j x c e)
    · rw [c, e]
      exact xf_at_us (y := xf_nw t i f l)
    · have := h2 (j - 1) x (by omega) e
      rw [show j - 1 + 1 = j by omega] at this
      exact xf_at_un (by omega) this
  have hmem : ∀ x, x ∈ L.take k ++ xf_nw t i f l :: L.drop k → x.2.1 < 4 := by
    intro x hx
    rcases List.mem_append.mp hx with hx | hx
    · exact (hok x (List.mem_of_mem_take hx)).2.1
    · rcases List.mem_cons.mp hx with rfl | hx
      · exact hf
      · exact (hok x (List.mem_of_mem_drop hx)).2.1
  unfold wX_insert_67
  rw [xw_cl (show k < 1000 by omega), nI_1 i, nI_1 L.length, xw_vbb (show t < 128 by omega), xw_vbb (show i < 128 by omega), xw_vbb (show i + 1 < 128 by omega), xw_vbb (show f < 128 by omega), xw_vbb (show l < 128 by omega)]
  refine ⟨hv, nm_e ⟨hv, nm_e ⟨hv, nm_e ⟨hv, nm_e ⟨hv, nm_e ⟨hv, nm_e (nm_e ?_)⟩⟩⟩⟩⟩⟩
  rw [← hlen]
  refine xw_count (by omega) (fun j x hx => ⟨(hA j x hx).2.1, hmem x (List.mem_of_getElem? hx)⟩) ?_
  intro st' hS
  dsimp only
  rw [hlen]
  exact hK k _ _ _ _ _ _ st' hk hk1 hk2 hA hS
theorem xw_ins6 {post : SX → Prop} (ht : t < 4) (hi : i < 7) (hf : f < 4) (hl : l < 16) (hL : L.length ≤ 27) (hok : ∀ x, x ∈ L → xf_ok x) (hP : L.Pairwise xf_le) (hK : xw_K post lc va lf L t i f l) : ∀ (k : Nat) (tr fe li fi ll la : Nat → Int32), k ≤ L.length → (∀ j x, j < k → L[j]? = some x → xf_at tr fe li fi ll la j x) → (∀ j x, k ≤ j → L[j]? = some x → xf_at tr fe li fi ll la (j + 1) x) → (∀ x, x ∈ L.drop k → xf_le (xf_nw t i f l) x) → wX_insert_6 post (nI t) (nI i) (nI f) (nI l) (k + 1) (nI k) (nI L.length) lc va tr fe li fi ll la st lf := by
  intro k
  induction k with
  | zero =>
    intro tr fe li fi ll la hk h1 h2 hk2
    exact br_t (nI_le (a := 0) (b := 0) (Nat.le_refl 0) (by decide)) (xw_ins67 ht hi hf hl hL hok hK 0 hk tr fe li fi ll la h1 h2 (fun x hx => by rw [List.take_zero] at hx; cases hx) hk2)
  | succ k ih =>
    intro tr fe li fi ll la hk h1 h2 hk2
    obtain ⟨x, hx, hxm⟩ := xf_get (L := L) (k := k) (by omega)
    have hxo := hok x hxm
    have hat := h1 k x (by omega) hx
    have hv : vp_in (nI k) 28 := vp_in_nI (by omega) (by decide)
    obtain ⟨o1, o2, o3, _, _, _⟩ := hxo
    have hstop : xf_le x (xf_nw t i f l) → wX_insert_67 post (nI t) (nI i) (nI f) (nI l) (nI (k + 1)) (nI L.length) lc va tr fe li fi ll la st lf := fun hle =>
      xw_ins67 ht hi hf hl hL hok hK (k + 1) hk tr fe li fi ll la h1 h2 (fun y hy => xf_le_t (xf_tk hP hx y hy) hle) hk2
    have hgo : xf_le (xf_nw t i f l) x → wX_insert_51 post (wX_insert_6 post (nI t) (nI i) (nI f) (nI l) (k + 1)) (nI t) (nI i) (nI f) (nI l) (nI (k + 1)) (nI L.length) lc va tr fe li fi ll la st lf := by
      intro hle
      unfold wX_insert_51
      rw [nI_pred k]
      refine xw_copy (by omega) (by omega) (hok x hxm) hat ?_
      intro tr' fe' li' fi' ll' la' a1 a2
      dsimp only
      refine nm_r (pk_m1 k) (ih tr' fe' li' fi' ll' la' (by omega) ?_ ?_ ?_)
      · intro j y hj hy
        exact a1 j y (by omega) (h1 j y (by omega) hy)
      · intro j y hj hy
        by_cases c : j = k
        · subst c
          rw [hx] at hy
          cases hy
          exact a2
        · exact a1 (j + 1) y (by omega) (h2 j y (by omega) hy)
      · intro y hy
        rw [xf_dr hx] at hy
        rcases List.mem_cons.mp hy with rfl | hy
        · exact hle
        · exact hk2 y hy
    rw [wX_insert_6]
    dsimp only
    rw [nI_pred k, xw_cl (show k < 1000 by omega), hat.2.1, hat.2.2.1]
    refine br_f (nI_nle (by omega) (by omega)) ⟨hv, ?_⟩
    refine pk_lt f x.2.1 (fun c => hgo (Or.inl c)) (fun c => ⟨hv, pk_eq x.2.1 f (fun c2 => ⟨hv, pk_le x.2.2.1 l (fun c3 => hstop (Or.inr ⟨c2, c3⟩)) (fun c3 => hgo (Or.inr ⟨c2.symm, Nat.le_of_lt c3⟩))⟩) (fun c2 => hstop (Or.inl ?_))⟩)
    show x.2.1 < f
    omega
theorem xw_insert {post : SX → Prop} {tr fe li fi ll la : Nat → Int32} (ht : t < 4) (hi : i < 7) (hf : f < 4) (hl : l < 16) (hL : L.length ≤ 27) (hok : ∀ x, x ∈ L → xf_ok x) (hP : L.Pairwise xf_le) (hA : xf_A tr fe li fi ll la L) (hK : xw_K post lc va lf L t i f l) : wpX_insert post (nI L.length, lc, va, tr, fe, li, fi, ll, la, st, lf) (nI t) (nI i) (nI f) (nI l) := by
  unfold wpX_insert
  dsimp only
  refine ⟨L.length + 1, xw_ins6 ht hi hf hl hL hok hP hK L.length tr fe li fi ll la (Nat.le_refl _) (fun j x _ hx => hA j x hx) (fun j x hj hx => ?_) (fun x hx => ?_)⟩
  · have := (List.getElem?_eq_some_iff.mp hx).1
    omega
  · rw [List.drop_length] at hx; cases hx
end
end
section
/-! ===== split, setValue, clear of the component ===== -/
theorem xw_m8 (t : Nat) : nI t * 8 = nI (t * 8) := pk_mul t 8
theorem xw_g2 {α : Type} {A B : List α} {x y v : α} {n : Nat} (h : (A ++ x :: y :: B)[n]? = some v) : (n ≤ A.length ∧ (A ++ x :: B)[n]? = some v) ∨ (n = A.length + 1 ∧ v = y) ∨ (A.length + 1 < n ∧ (A ++ x :: B)[n - 1]? = some v) := by
  by_cases c : n < A.length
  · rw [List.getElem?_append_left c] at h
    exact Or.inl ⟨by omega, by rw [List.getElem?_append_left c]; exact h⟩
  · obtain ⟨m, rfl⟩ : ∃ m, n = A.length + m := ⟨n - A.length, by omega⟩
    rw [List.getElem?_append_right (by omega), Nat.add_sub_cancel_left] at h
    match m, h with
    | 0, h => exact Or.inl ⟨by omega, by rw [List.getElem?_append_right (by omega), Nat.add_sub_cancel_left]; exact h⟩
    | 1, h => exact Or.inr (Or.inl ⟨rfl, (Option.some.inj h).symm⟩)
    | m + 2, h => exact Or.inr (Or.inr ⟨by omega, by rw [show A.length + (m + 2) - 1 = A.length + (m + 1) by omega, List.getElem?_append_right (by omega), Nat.add_sub_cancel_left]; exact h⟩)
theorem xw_g1 {α : Type} {A B : List α} {x y v : α} {n : Nat} (h : (A ++ y :: B)[n]? = some v) : (n = A.length ∧ v = y) ∨ (n ≠ A.length ∧ (A ++ x :: B)[n]? = some v) := by
  by_cases c : n < A.length
  · rw [List.getElem?_append_left c] at h
    exact Or.inr ⟨by omega, by rw [List.getElem?_append_left c]; exact h⟩
  · obtain ⟨m, rfl⟩ : ∃ m, n = A.length + m := ⟨n - A.length, by omega⟩
    rw [List.getElem?_append_right (by omega), Nat.add_sub_cancel_left] at h
    match m, h with
    | 0, h => exact Or.inl ⟨rfl, (Option.some.inj h).symm⟩
    | m + 1, h => exact Or.inr ⟨by omega, by rw [List.getElem?_append_right (by omega), Nat.add_sub_cancel_left]; exact h⟩
theorem xw_lt {α : Type} {A : List α} {n : Nat} {v : α} (h : A[n]? = some v) : n < A.length := (List.getElem?_eq_some_iff.mp h).1
/-- the values with one more leaf behind leaf i -/
def xw_SV (va va' : Nat → Int32) (t i c : Nat) : Prop := (∀ n, n ≤ i → va' (t * 8 + n) = va (t * 8 + n)) ∧ va' (t * 8 + i + 1) = 0 ∧ (∀ n, i + 1 ≤ n → n < c → va' (t * 8 + n + 1) = va (t * 8 + n)) ∧ (∀ n, (n < t * 8 ∨ t * 8 + 8 ≤ n) → va' n = va n)
theorem xw_V_split {T : Nat → dt_T 8} {va va' : Nat → Int32} {t i : Nat} (f l : Nat) (hL : ∀ u, u < 4 → dt_nl 8 (T u) ≤ 8 ∧ dt_ok 8 (T u)) (ht : t < 4) (hi : i < dt_nl 8 (T t)) (hV : xf_V T va) (hS : xw_SV va va' t i (dt_nl 8 (T t))) : xf_V (dt_set T t (dt_sp f l 8 (T t) i)) va' := by
  obtain ⟨s1, s2, s3, s4⟩ := hS
  intro u hu n v h
  by_cases c : u = t
  · subst c
    rw [dt_set_s] at h
    obtain ⟨A, w, B, C, D, -, -, -, h4, h5, -, h7⟩ := dt_dec 8 (T u) i (hL u hu).2 hi
    rw [(h7 (hL u hu).1 f l).2] at h
    rcases xw_g2 h with ⟨e1, e2⟩ | ⟨e1, e2⟩ | ⟨e1, e2⟩
    · rw [← h4] at e2
      rw [s1 n (by omega)]
      exact hV u hu n v e2
    · rw [e1, e2, h5]
      exact s2
    · rw [← h4] at e2
      have := xw_lt e2
      rw [dt_lvlen] at this
      have e3 := s3 (n - 1) (by omega) this
      rw [show u * 8 + (n - 1) + 1 = u * 8 + n by omega] at e3
      rw [e3]
      exact hV u hu (n - 1) v e2
  · rw [dt_set_n T t _ c] at h
    have := xw_lt h
    rw [dt_lvlen] at this
    have := (hL u hu).1
    rw [s4 (u * 8 + n) (by omega)]
    exact hV u hu n v h
theorem xw_V_set {T : Nat → dt_T 8} {va : Nat → Int32} {t i : Nat} (w : Int32) (hL : ∀ u, u < 4 → dt_nl 8 (T u) ≤ 8 ∧ dt_ok 8 (T u)) (ht : t < 4) (hi : i < dt_nl 8 (T t)) (hV : xf_V T va) : xf_V (dt_set T t (dt_sv w 8 (T t) i)) (upd va (t * 8 + i) w) := by
  intro u hu n v h
  by_cases c : u = t
  · subst c
    rw [dt_set_s] at h
    obtain ⟨A, w0, B, C, D, -, -, -, h4, h5, h6, -⟩ := dt_dec 8 (T u) i (hL u hu).2 hi
    rw [(h6 w).2] at h
    rcases xw_g1 (x := w0) h with ⟨e1, e2⟩ | ⟨e1, e2⟩
    · rw [e1, e2, h5, pk_us]
    · rw [← h4] at e2
      rw [pk_un (by omega)]
      exact hV u hu n v e2
  · rw [dt_set_n T t _ c] at h
    have h1 := xw_lt h
    rw [dt_lvlen] at h1
    have h2 := (hL u hu).1
    have h3 := (hL t ht).1
    rw [pk_un (by omega)]
    exact hV u hu n v h
theorem xw_V_clear {T : Nat → dt_T 8} {va : Nat → Int32} {t : Nat} (hL : ∀ u, u < 4 → dt_nl 8 (T u) ≤ 8 ∧ dt_ok 8 (T u)) (hV : xf_V T va) : xf_V (dt_set T t (dt_lf 8 0)) (upd va (t * 8) 0) := by
  intro u hu n v h
  by_cases c : u = t
  · subst c
    rw [dt_set_s, dt_lv_lf] at h
    have := xw_lt h
    have e : n = 0 := by simpa using this
    subst e
    have e2 : (0 : Int32) = v := Option.some.inj h
    rw [Nat.add_zero, pk_us, e2]
  · rw [dt_set_n T t _ c] at h
    have h1 := xw_lt h
    rw [dt_lvlen] at h1
    have h2 := (hL u hu).1
    rw [pk_un (by omega)]
    exact hV u hu n v h
theorem xw_N_set {T : Nat → dt_T 8} {lc : Nat → Int32} {t c : Nat} {S : dt_T 8} (hN : xf_N T lc) (hc : dt_nl 8 S = c) : xf_N (dt_set T t S) (upd lc t (nI c)) := by
  intro u hu
  by_cases e : u = t
  · subst e
    rw [pk_us, dt_set_s, hc]
  · rw [pk_un e, dt_set_n T t _ e]
    exact hN u hu
section
variable {lc va tr fe li fi ll la st lf : Nat → Int32} {L : List xf_F} {T : Nat → dt_T 8} {t i f l : Nat}
theorem xw_sp88 {post : Int32 → SX → Prop} {va0 : Nat → Int32} (hX : xf_L T L) (hN : xf_N T lc) (ht : t < 4) (hi : i < dt_nl 8 (T t)) (h8 : dt_nl 8 (T t) < 8) (hf : f < 4) (hl : l < 16) (hV : xf_V T va0) (hA : xf_A tr fe li fi ll la (L.map (xf_mv t i))) (hp : ∀ L' lc' va' tr' fe' li' fi' ll' la' st', xf_X (dt_set T t (dt_sp f l 8 (T t) i)) L' (nI L'.length) lc' va' tr' fe' li' fi' ll' la' st' → post (nI (dt_nl 8 (T t) + 1)) (nI L'.length, lc', va', tr', fe', li', fi', ll', la', st', lf)) : ∀ m va, i + 1 + m ≤ dt_nl 8 (T t) → (∀ n, n ≤ i + 1 + m → va (t * 8 + n) = va0 (t * 8 + n)) → (∀ n, i + 1 + m ≤ n → n < dt_nl 8 (T t) → va (t * 8 + n + 1) = va0 (t * 8 + n)) → (∀ n, (n < t * 8 ∨ t * 8 + 8 ≤ n) → va n = va0 n) → wX_split_88 post (nI t) (nI i) (nI f) (nI l) (nI L.length) (m + 1) (nI (i + 1 + m)) lc va tr fe li fi ll la st lf := by
  have hvt : vp_in (nI t) 4 := vp_in_nI ht (by decide)
  have h27 := xf_len27 hX ht h8
  intro m
  induction m with
  | zero =>
    intro va hm v1 v2 v3
    have hok : ∀ x, x ∈ L.map (xf_mv t i) → xf_ok x := by
      intro x hx
      obtain ⟨y, hy, rfl⟩ := List.mem_map.mp hx
      have hyo := xf_rng hX hy
      by_cases c : y.1 = t
      · rw [xf_mv_t c]
        obtain ⟨t', y'⟩ := y
        have hy2 := (xf_mem hX (t := t') hyo.1 y').mp hy
        have hin := dt_fk_in 8 (T t') 0 y' hy2
        obtain ⟨o1, o2, o3, o4, o5, o6⟩ := hyo
        dsimp only at c o1 o2 o3 o4 o5 o6
        subst c
        unfold xf_ok dt_up dt_u
        dsimp only
        refine ⟨o1, o2, o3, ?_, ?_, ?_⟩
        · split <;> split <;> omega
        · split <;> split <;> omega
        · split <;> omega
      · rw [xf_mv_f c]; exact hyo
    have hP : (L.map (xf_mv t i)).Pairwise xf_le := by
      rw [List.pairwise_map]
      refine hX.2.1.imp ?_
      intro a b hab
      unfold xf_le at hab ⊢
      rw [(xf_mv_1 t i a).2.1, (xf_mv_1 t i a).2.2, (xf_mv_1 t i b).2.1, (xf_mv_1 t i b).2.2]
      exact hab
    have hlen : (L.map (xf_mv t i)).length = L.length := List.length_map _
    unfold wX_split_88
    rw [xw_m8, nI_add, nI_1 (t * 8 + i), nI_1 i, xw_cl (show t < 1000 by omega), xw_cl (show t * 8 + i + 1 < 1000 by omega), hN t ht, nI_1 (dt_nl 8 (T t)), xw_vbb (by omega)]
    refine br_t (nI_le (a := i + 1 + 0) (b := i + 1) (Nat.le_refl _) (by omega)) ⟨vp_in_nI (by omega) (by decide), nm_e ⟨hvt, hvt, nm_e ?_⟩⟩
    rw [← hlen]
    refine xw_insert ht (by omega) hf hl (by omega) hok hP hA ?_
    intro k tr' fe' li' fi' ll' la' st' hk hk1 hk2 hA' hS'
    have hk1' : ∀ x, x ∈ L.take k → xf_le x (xf_nw t i f l) := by
      intro x hx
      have := hk1 (xf_mv t i x) (by rw [← List.map_take]; exact List.mem_map_of_mem hx)
      unfold xf_le at this ⊢
      rw [(xf_mv_1 t i x).2.1, (xf_mv_1 t i x).2.2] at this
      exact this
    have hk2' : ∀ x, x ∈ L.drop k → xf_le (xf_nw t i f l) x := by
      intro x hx
      have := hk2 (xf_mv t i x) (by rw [← List.map_drop]; exact List.mem_map_of_mem hx)
      unfold xf_le at this ⊢
      rw [(xf_mv_1 t i x).2.1, (xf_mv_1 t i x).2.2] at this
      exact this
    have hX' := xf_split hX ht hi h8 hf hl k hk1' hk2'
    have hl' : ((L.map (xf_mv t i)).take k ++ xf_nw t i f l :: (L.map (xf_mv t i)).drop k).length = (L.map (xf_mv t i)).length + 1 := by
      rw [List.length_append, List.length_cons, List.length_take, List.length_drop]; omega
    dsimp only
    refine ⟨hvt, ?_⟩
    rw [pk_us, ← hl']
    refine hp _ _ _ _ _ _ _ _ _ _ ⟨hX', rfl, xw_N_set hN (dt_sp_nl f l 8 (T t) i (by omega) hi), ?_, hA', hS'⟩
    refine xw_V_split f l hX.2.2.2 ht hi hV ⟨?_, pk_us, ?_, ?_⟩
    · intro n hn
      rw [pk_un (by omega)]
      exact v1 n (by omega)
    · intro n hn hn2
      rw [pk_un (by omega)]
      exact v2 n (by omega) hn2
    · intro n hn
      rw [pk_un (by omega)]
      exact v3 n hn
  | succ m ih =>
    intro va hm v1 v2 v3
    have e : nI (t * 8) + nI (i + 1 + (m + 1)) = nI (t * 8 + (i + 1 + m) + 1) := by rw [nI_add]; rfl
    unfold wX_split_88
    rw [xw_m8, e, nI_pred, xw_cl (show t * 8 + (i + 1 + m) + 1 < 1000 by omega), xw_cl (show t * 8 + (i + 1 + m) < 1000 by omega), nI_1 i]
    refine br_f (nI_ge (by omega) (by omega)) ⟨vp_in_nI (by omega) (by decide), vp_in_nI (by omega) (by decide), nm_e (nm_r (pk_m1 (i + 1 + m)) (ih _ (by omega) ?_ ?_ ?_))⟩
    · intro n hn
      rw [pk_un (by omega)]
      exact v1 n (by omega)
    · intro n hn hn2
      by_cases c : n = i + 1 + m
      · subst c
        rw [pk_us]
        exact v1 _ (by omega)
      · rw [pk_un (by omega)]
        exact v2 n (by omega) hn2
    · intro n hn
      rw [pk_un (by omega)]
      exact v3 n hn
theorem xw_sp47 {post : Int32 → SX → Prop} (hX : xf_L T L) (ht : t < 4) (hi : i < 8) (hn : lc t = nI (dt_nl 8 (T t))) (hK : ∀ fi' ll' la', xf_A tr fe li fi' ll' la' (L.map (xf_mv t i)) → ∃ n, wX_split_88 post (nI t) (nI i) (nI f) (nI l) (nI L.length) n (nI (dt_nl 8 (T t))) lc va tr fe li fi' ll' la' st lf) : ∀ m k fi ll la, k + m = L.length → (∀ (j : Nat) (x : xf_F), L[j]? = some x → xf_at tr fe li fi ll la j (if j < k then xf_mv t i x else x)) → wX_split_47 post (nI t) (nI i) (nI f) (nI l) (m + 1) (nI k) (nI L.length) lc va tr fe li fi ll la st lf := by
  have hvt : vp_in (nI t) 4 := vp_in_nI ht (by decide)
  have h28 := xf_len28 hX
  intro m
  induction m with
  | zero =>
    intro k fi ll la hk h
    have hA : xf_A tr fe li fi ll la (L.map (xf_mv t i)) := by
      intro j x hx
      rw [List.getElem?_map] at hx
      obtain ⟨y, hy, rfl⟩ := Option.map_eq_some_iff.mp hx
      have h1 := h j y hy
      rw [if_pos (by have := xw_lt hy; omega)] at h1
      exact h1
    unfold wX_split_47
    rw [xw_cl (show t < 1000 by omega)]
    exact br_t (nI_le (by omega) (by omega)) ⟨hvt, nm_r hn (hK fi ll la hA)⟩
  | succ m ih =>
    intro k fi ll la hk h
    obtain ⟨x, hx, hxm⟩ := xf_get (L := L) (k := k) (by omega)
    have hv : vp_in (nI k) 28 := vp_in_nI (by omega) (by decide)
    have hxo := xf_rng hX hxm
    have h1 := h k x hx
    rw [if_neg (Nat.lt_irrefl k)] at h1
    unfold wX_split_47
    rw [xw_cl (show k < 1000 by omega), h1.1]
    refine br_f (nI_ge (by omega) (by omega)) ⟨hv, pk_eq x.1 t (fun c => ?_) (fun c => ?_) rfl rfl (by have := hxo.1; omega) (by omega)⟩
    · refine xw_moveUp (by omega) hi hxo h1 ?_
      intro fi' ll' la' a1 a2
      dsimp only
      refine nm_r (nI_1 k) (ih (k + 1) fi' ll' la' (by omega) ?_)
      intro j y hy
      by_cases cj : j = k
      · subst cj
        rw [hx] at hy
        cases hy
        rw [if_pos (Nat.lt_succ_self j), xf_mv_t c]
        exact a2
      · have h2 := a1 j _ cj (h j y hy)
        by_cases c2 : j < k
        · rw [if_pos c2] at h2
          rw [if_pos (by omega)]
          exact h2
        · rw [if_neg c2] at h2
          rw [if_neg (by omega)]
          exact h2
    · refine nm_r (nI_1 k) (ih (k + 1) fi ll la (by omega) ?_)
      intro j y hy
      have h2 := h j y hy
      by_cases cj : j = k
      · subst cj
        rw [hx] at hy
        cases hy
        rw [if_pos (Nat.lt_succ_self j), xf_mv_f c]
        exact h1
      · by_cases c2 : j < k
        · rw [if_pos c2] at h2
          rw [if_pos (by omega)]
          exact h2
        · rw [if_neg c2] at h2
          rw [if_neg (by omega)]
          exact h2
theorem xw_split {post : Int32 → SX → Prop} {fc : Int32} (h : xf_X T L fc lc va tr fe li fi ll la st) (ht : t < 4) (hi : i < dt_nl 8 (T t)) (h8 : dt_nl 8 (T t) < 8) (hf : f < 4) (hl : l < 16) (hp : ∀ L' lc' va' tr' fe' li' fi' ll' la' st', xf_X (dt_set T t (dt_sp f l 8 (T t) i)) L' (nI L'.length) lc' va' tr' fe' li' fi' ll' la' st' → post (nI (dt_nl 8 (T t) + 1)) (nI L'.length, lc', va', tr', fe', li', fi', ll', la', st', lf)) : ∃ n, wX_split_47 post (nI t) (nI i) (nI f) (nI l) n 0 fc lc va tr fe li fi ll la st lf := by
  obtain ⟨g1, rfl, g3, g4, g5, g6⟩ := h
  refine ⟨L.length + 1, xw_sp47 g1 ht (by omega) (g3 t ht) ?_ L.length 0 fi ll la (by omega) ?_⟩
  · intro fi' ll' la' hA
    have := xw_sp88 (st := st) g1 g3 ht hi h8 hf hl g4 hA hp (dt_nl 8 (T t) - (i + 1)) va (by omega) (fun n _ => rfl) (fun n h1 h2 => by omega) (fun n _ => rfl)
    rw [show i + 1 + (dt_nl 8 (T t) - (i + 1)) = dt_nl 8 (T t) by omega] at this
    exact ⟨_, this⟩
  · intro j x hx
    rw [if_neg (Nat.not_lt_zero j)]
    exact g5 j x hx
/-! ===== clear ===== -/
def xf_kt (t : Nat) (L : List xf_F) (k : Nat) : List xf_F := (L.take k).filter (fun x => decide (x.1 ≠ t))
theorem xf_kt_t {L : List xf_F} {k : Nat} {x : xf_F} (h : L[k]? = some x) (c : x.1 ≠ t) : xf_kt t L (k + 1) = xf_kt t L k ++ [x] := by
  unfold xf_kt
  rw [List.take_add_one, h, List.filter_append]
  show _ ++ List.filter _ [x] = _
  rw [List.filter_cons_of_pos (p := fun x : xf_F => decide (x.1 ≠ t)) (decide_eq_true c), List.filter_nil]
theorem xf_kt_f {L : List xf_F} {k : Nat} {x : xf_F} (h : L[k]? = some x) (c : x.1 = t) : xf_kt t L (k + 1) = xf_kt t L k := by
  unfold xf_kt
  rw [List.take_add_one, h, List.filter_append]
  show _ ++ List.filter _ [x] = _
  rw [List.filter_cons_of_neg (by intro z; exact (of_decide_eq_true z) c), List.filter_nil, List.append_nil]
theorem xf_kt_le (k : Nat) : (xf_kt t L k).length ≤ k := Nat.le_trans (List.length_filter_le _ _) (by rw [List.length_take]; omega)
theorem xw_cl13 {post : Int32 → SX → Prop} (hX : xf_L T L) (hN : xf_N T lc) (hV : xf_V T va) (ht : t < 4) (hp : ∀ L' lc' va' tr' fe' li' fi' ll' la' st', xf_X (dt_set T t (dt_lf 8 0)) L' (nI L'.length) lc' va' tr' fe' li' fi' ll' la' st' → post 1 (nI L'.length, lc', va', tr', fe', li', fi', ll', la', st', lf)) : ∀ m k tr fe li fi ll la, k + m = L.length → (∀ (j : Nat) (x : xf_F), (xf_kt t L k)[j]? = some x → xf_at tr fe li fi ll la j x) → (∀ (j : Nat) (x : xf_F), k ≤ j → L[j]? = some x → xf_at tr fe li fi ll la j x) → wX_clear_13 post (nI t) (m + 1) (nI (xf_kt t L k).length) (nI k) (nI L.length) lc va tr fe li fi ll la st lf := by
  have hvt : vp_in (nI t) 4 := vp_in_nI ht (by decide)
  have h28 := xf_len28 hX
  intro m
  induction m with
  | zero =>
    intro k tr fe li fi ll la hk h1 h2
    have hk' : k = L.length := by omega
    have hX' := xf_clear hX t
    have e : xf_kt t L k = L.filter (fun x => decide (x.1 ≠ t)) := by
      unfold xf_kt
      rw [hk', List.take_length]
    rw [e] at h1 ⊢
    unfold wX_clear_13
    rw [xw_m8, xw_cl (show t < 1000 by omega), xw_cl (show t * 8 < 1000 by omega), show vp_nar .byte 1 = nI 1 from xw_vb (n := 1) (by decide)]
    refine br_t (nI_le (by omega) (by omega)) ⟨hvt, nm_e ⟨vp_in_nI (by omega) (by decide), nm_e ?_⟩⟩
    refine xw_count (xf_len28 hX') (fun j x hx => ⟨(h1 j x hx).2.1, (xf_rng hX' (List.mem_of_getElem? hx)).2.1⟩) ?_
    intro st' hS
    exact hp _ _ _ _ _ _ _ _ _ _ ⟨hX', rfl, xw_N_set hN (dt_nl_lf 8 0), xw_V_clear hX.2.2.2 hV, h1, hS⟩
  | succ m ih =>
    intro k tr fe li fi ll la hk h1 h2
    obtain ⟨x, hx, hxm⟩ := xf_get (L := L) (k := k) (by omega)
    have hv : vp_in (nI k) 28 := vp_in_nI (by omega) (by decide)
    have hxo := xf_rng hX hxm
    have hat := h2 k x (Nat.le_refl k) hx
    have hkl := xf_kt_le (t := t) (L := L) k
    unfold wX_clear_13
    rw [xw_cl (show k < 1000 by omega), hat.1]
    refine br_f (nI_ge (by omega) (by omega)) ⟨hv, pk_eq x.1 t (fun c => ?_) (fun c => ?_) rfl rfl (by have := hxo.1; omega) (by omega)⟩
    · have := ih (k + 1) tr fe li fi ll la (by omega) (by rw [xf_kt_f hx c]; exact h1) (fun j y hj hy => h2 j y (by omega) hy)
      rw [xf_kt_f hx c] at this
      exact nm_r (nI_1 k) this
    · refine xw_copy (by omega) (by omega) hxo hat ?_
      intro tr' fe' li' fi' ll' la' a1 a2
      dsimp only
      have := ih (k + 1) tr' fe' li' fi' ll' la' (by omega) (by
        rw [xf_kt_t hx c]
        intro j y hy
        by_cases cj : j < (xf_kt t L k).length
        · rw [List.getElem?_append_left cj] at hy
          exact a1 j y (by omega) (h1 j y hy)
        · have hj := xw_lt hy
          rw [List.length_append] at hj
          have hj2 : j = (xf_kt t L k).length := by
            have : ([x] : List xf_F).length = 1 := rfl
            omega
          rw [hj2, List.getElem?_append_right (Nat.le_refl _), Nat.sub_self] at hy
          have e : x = y := Option.some.inj hy
          rw [hj2, ← e]
          exact a2) (fun j y hj hy => a1 j y (by omega) (h2 j y (by omega) hy))
      rw [xf_kt_t hx c, List.length_append] at this
      exact nm_r (nI_1 _) (nm_r (nI_1 k) this)
theorem xw_clear {post : Int32 → SX → Prop} {fc : Int32} (h : xf_X T L fc lc va tr fe li fi ll la st) (ht : t < 4) (hp : ∀ L' lc' va' tr' fe' li' fi' ll' la' st', xf_X (dt_set T t (dt_lf 8 0)) L' (nI L'.length) lc' va' tr' fe' li' fi' ll' la' st' → post 1 (nI L'.length, lc', va', tr', fe', li', fi', ll', la', st', lf)) : ∃ n, wX_clear_13 post (nI t) n 0 0 fc lc va tr fe li fi ll la st lf := by
  obtain ⟨g1, rfl, g3, g4, g5, g6⟩ := h
  exact ⟨L.length + 1, xw_cl13 g1 g3 g4 ht hp L.length 0 tr fe li fi ll la (by omega) (fun j x hx => by
    have := xw_lt hx
    have h0 := xf_kt_le (t := t) (L := L) 0
    omega) (fun j x _ hx => g5 j x hx)⟩
end
end
section
/-! ===== sift and firstLeft: the leaves that are left, by bits ===== -/
def xw_q (pt : Int32) (f : Nat) : Nat := ((pt >>> ((4 * nI f) &&& 31)).toBitVec.toNat) % 2 ^ 4
theorem xw_q_eq (pt : Int32) (f : Nat) : (pt >>> ((4 * nI f) &&& 31)) &&& 15 = nI (xw_q pt f) := pk_and _ 4 (by decide)
theorem xw_q_lt (pt : Int32) (f : Nat) : xw_q pt f < 16 := Nat.mod_lt _ (by decide)
theorem xw_bm : ∀ c, c < 9 → ∀ j, j < 32 → bt (vp_nar .short ((((1 : Int32) <<< ((nI c) &&& 31)) - 1).toInt16.toInt32)) j = decide (j < c) := by decide +kernel
theorem xw_bs : ∀ s, s < 9 → ∀ m, m < 9 → ∀ j, j < 32 → bt ((((1 : Int32) <<< ((nI m) &&& 31)) - 1) &&& ((((1 : Int32) <<< (nI s &&& 31)) - 1) ^^^ (-1))) j = decide (s ≤ j ∧ j < m) := by decide +kernel
theorem xw_s256 : ∀ n, n < 256 → (nI n).toInt16.toInt32 = nI n := by decide +kernel
theorem xw_sn (y : Int32) (h : ∀ j, 8 ≤ j → j < 32 → bt y j = false) : vp_nar .short (y.toInt16.toInt32) = y := by
  have hn : y.toBitVec.toNat < 2 ^ 8 := by
    apply Nat.lt_pow_two_of_testBit
    intro j hj
    by_cases c : j < 32
    · exact h j hj c
    · exact b_big (x := y) (i := j) (by omega)
  have e : y = nI y.toBitVec.toNat := by
    apply Int32.toBitVec_inj.1
    show y.toBitVec = BitVec.ofNat 32 y.toBitVec.toNat
    simp
  have e2 : y.toInt16.toInt32 = y := by
    rw [e]
    exact xw_s256 _ hn
  rw [e2, vp_nar_short, e2]
theorem xw_b1 : ∀ j, j < 32 → bt 1 j = decide (j = 0) := by decide +kernel
theorem xw_bit (y : Int32) {j : Nat} (hj : j < 31) : ((y >>> (nI j &&& 31)) &&& 1) = 0 ↔ bt y j = false := by
  have h0 : bt (y >>> (nI j &&& 31)) 0 = bt y j := by
    rw [b_sshr j (by omega) y (by omega), if_pos (by omega), Nat.add_zero]
  constructor
  · intro h
    have h1 := b_and (y >>> (nI j &&& 31)) 1 0
    rw [h, b_0, h0, xw_b1 0 (by decide)] at h1
    simpa using h1.symm
  · intro h
    apply b_ext
    intro i hi
    rw [b_and, b_0, xw_b1 i hi]
    by_cases c : i = 0
    · rw [c, h0, h]; rfl
    · rw [decide_eq_false c, Bool.and_false]
def xf_hit (q : Nat → Nat) (t j : Nat) (x : xf_F) : Bool := decide (x.1 = t ∧ x.2.2.1 < q x.2.1 ∧ x.2.2.2.1 ≤ j ∧ j < x.2.2.2.2.1)
theorem xf_any_s {L : List xf_F} {k : Nat} {x : xf_F} (p : xf_F → Bool) (h : L[k]? = some x) : (L.take (k + 1)).any p = ((L.take k).any p || p x) := by
  rw [List.take_add_one, h, List.any_append]
  show (_ || List.any [x] p) = _
  rw [List.any_cons, List.any_nil, Bool.or_false]
theorem xf_pw {L : List xf_F} (hP : L.Pairwise xf_le) {k n : Nat} {x y : xf_F} (hk : L[k]? = some x) (hn : L[n]? = some y) (h : k ≤ n) : xf_le x y := by
  obtain ⟨k1, k2⟩ := List.getElem?_eq_some_iff.mp hk
  obtain ⟨n1, n2⟩ := List.getElem?_eq_some_iff.mp hn
  by_cases c : k = n
  · subst c
    rw [hk] at hn
    cases hn
    exact xf_le_r x
  · rw [← k2, ← n2]
    exact List.pairwise_iff_getElem.mp hP k n k1 n1 (by omega)
theorem xf_any_stop {L : List xf_F} (hP : L.Pairwise xf_le) {k f : Nat} {x : xf_F} (q : Nat → Nat) (t j : Nat) (hk : L[k]? = some x) (hf : x.2.1 = f) (hq : q f ≤ x.2.2.1) (hc : k ≤ xf_c (f + 1) L) : (L.take (xf_c (f + 1) L)).any (xf_hit q t j) = (L.take k).any (xf_hit q t j) := by
  apply Bool.eq_iff_iff.mpr
  rw [List.any_eq_true, List.any_eq_true]
  constructor
  · rintro ⟨y, hy, hh⟩
    obtain ⟨n, hn, e⟩ := List.mem_take_iff_getElem.mp hy
    have hn1 : n < L.length := by omega
    have hn2 : L[n]? = some y := List.getElem?_eq_some_iff.mpr ⟨hn1, e⟩
    have hh' := of_decide_eq_true hh
    by_cases c : n < k
    · exact ⟨y, List.mem_take_iff_getElem.mpr ⟨n, by omega, e⟩, hh⟩
    · exfalso
      have h1 := xf_pw hP hk hn2 (by omega)
      have h2 := (xf_st (f + 1) L hP n y hn2).mp (by omega)
      unfold xf_le at h1
      have h3 : y.2.1 = f := by omega
      rw [h3] at hh'
      omega
  · rintro ⟨y, hy, hh⟩
    obtain ⟨n, hn, e⟩ := List.mem_take_iff_getElem.mp hy
    exact ⟨y, List.mem_take_iff_getElem.mpr ⟨n, by omega, e⟩, hh⟩
/-- the bits when the first k forks have been looked at -/
def xw_I (T : Nat → dt_T 8) (L : List xf_F) (q : Nat → Nat) (lf : Nat → Int32) (k : Nat) : Prop := ∀ t, t < 4 → ∀ j, j < 32 → bt (lf t) j = (decide (j < dt_nl 8 (T t)) && !(L.take k).any (xf_hit q t j))
section
variable {fc : Int32} {lc va tr fe li fi ll la st : Nat → Int32} {L : List xf_F} {T : Nat → dt_T 8} {pt : Int32}
theorem xw_si61 {post : SX → Prop} {J : Int32 → (Nat → Int32) → (Nat → Int32) → (Nat → Int32) → (Nat → Int32) → (Nat → Int32) → (Nat → Int32) → (Nat → Int32) → (Nat → Int32) → (Nat → Int32) → (Nat → Int32) → Prop} {f : Nat} (hX : xf_L T L) (hA : xf_A tr fe li fi ll la L) (hJ : ∀ lf', xw_I T L (xw_q pt) lf' (xf_c (f + 1) L) → J (nI (f + 1)) lc va tr fe li fi ll la st lf') : ∀ m k lf, k + m = xf_c (f + 1) L → xf_c f L ≤ k → xw_I T L (xw_q pt) lf k → wX_sift_61 post J pt (nI f) (nI (xw_q pt f)) (nI (xf_c (f + 1) L)) fc (m + 1) (nI k) lc va tr fe li fi ll la st lf := by
  have h28 := xf_len28 hX
  have hcl := xf_c_le (f + 1) L
  have hq := xw_q_lt pt f
  intro m
  induction m with
  | zero =>
    intro k lf hk _ hI
    have hk' : k = xf_c (f + 1) L := by omega
    rw [hk'] at hI
    exact br_t (nI_le (by omega) (by omega)) (nm_r (nI_1 f) (hJ lf hI))
  | succ m ih =>
    intro k lf hk hlo hI
    obtain ⟨x, hx, hxm⟩ := xf_get (L := L) (k := k) (by omega)
    have hv : vp_in (nI k) 28 := vp_in_nI (by omega) (by decide)
    obtain ⟨o1, o2, o3, o4, o5, o6⟩ := xf_rng hX hxm
    obtain ⟨a1, a2, a3, a4, a5, a6⟩ := hA k x hx
    have f1 := (xf_st (f + 1) L hX.2.1 k x hx).mp (by omega)
    have f2 := fun z => (xf_st f L hX.2.1 k x hx).mpr z
    have hf : x.2.1 = f := by omega
    have hvt : vp_in (nI x.1) 4 := vp_in_nI o1 (by decide)
    have em : nI (x.2.2.2.2.1 - 1) + 1 = nI x.2.2.2.2.1 := by rw [nI_1, show x.2.2.2.2.1 - 1 + 1 = x.2.2.2.2.1 by omega]
    unfold wX_sift_61 wpX_span
    rw [xw_cl (show k < 1000 by omega), a1, a3, a4, a5, em, xw_cl (show x.1 < 1000 by omega)]
    refine br_f (nI_ge (by omega) (by omega)) ⟨hv, pk_le (xw_q pt f) x.2.2.1 (fun c => ?_) (fun c => ?_)⟩
    · refine nm_r (nI_1 f) (hJ lf ?_)
      intro t ht j hj
      rw [xf_any_stop hX.2.1 (xw_q pt) t j hx hf c (by omega)]
      exact hI t ht j hj
    · have hbit := hI x.1 o1
      have hnl := (hX.2.2.2 x.1 o1).1
      have hz : ∀ j, 8 ≤ j → j < 32 → bt (lf x.1 &&& (((((1 : Int32) <<< ((nI x.2.2.2.2.1) &&& 31)) - 1) &&& ((((1 : Int32) <<< (nI x.2.2.2.1 &&& 31)) - 1) ^^^ (-1))) ^^^ (-1))) j = false := by
        intro j h1 h2
        rw [b_and, hbit j h2, decide_eq_false (by omega), Bool.false_and, Bool.false_and]
      refine ⟨hv, hv, hv, hv, hvt, hvt, nm_r (e' := upd lf x.1 (lf x.1 &&& (((((1 : Int32) <<< ((nI x.2.2.2.2.1) &&& 31)) - 1) &&& ((((1 : Int32) <<< (nI x.2.2.2.1 &&& 31)) - 1) ^^^ (-1))) ^^^ (-1)))) (by rw [xw_sn _ hz]) (nm_r (nI_1 k) (ih (k + 1) _ (by omega) (by omega) ?_))⟩
      intro t ht j hj
      rw [xf_any_s _ hx]
      by_cases ct : t = x.1
      · subst ct
        rw [pk_us, b_and, b_xor, b_m1 j hj, xw_bs _ (by omega) _ (by omega) j hj, hbit j hj]
        have e : xf_hit (xw_q pt) x.1 j x = decide (x.2.2.2.1 ≤ j ∧ j < x.2.2.2.2.1) := by
          unfold xf_hit
          rw [hf]
          apply decide_eq_decide.mpr
          constructor
          · intro z; exact z.2.2
          · intro z; exact ⟨rfl, c, z⟩
        rw [e]
        generalize (L.take k).any _ = u
        generalize decide (j < dt_nl 8 (T x.1)) = v
        generalize decide (x.2.2.2.1 ≤ j ∧ j < x.2.2.2.2.1) = w
        revert u v w
        decide
      · rw [pk_un ct]
        have e : xf_hit (xw_q pt) t j x = false := decide_eq_false (fun z => ct z.1.symm)
        rw [e, Bool.or_false]
        exact hI t ht j hj
theorem xw_si32 {post : SX → Prop} (hX : xf_L T L) (hA : xf_A tr fe li fi ll la L) (hS : xf_S st L) (hp : ∀ lf', xw_I T L (xw_q pt) lf' (xf_c 4 L) → post (fc, lc, va, tr, fe, li, fi, ll, la, st, lf')) : ∀ m f lf, f + m = 4 → xw_I T L (xw_q pt) lf (xf_c f L) → wX_sift_32 post pt fc (m + 1) (nI f) lc va tr fe li fi ll la st lf := by
  intro m
  induction m with
  | zero =>
    intro f lf hf hI
    have : f = 4 := by omega
    subst this
    exact br_t (nI_le (a := 4) (by omega) (by omega)) (hp lf hI)
  | succ m ih =>
    intro f lf hf hI
    unfold wX_sift_32 wpX_featureIn
    rw [xw_q_eq, nI_1, xw_cl (show f + 1 < 1000 by omega), xw_cl (show f < 1000 by omega)]
    have hle : xf_c f L ≤ xf_c (f + 1) L := by rw [xf_c_s]; omega
    refine br_f (nI_ge (b := 4) (by omega) (by decide)) ⟨vp_in_nI (by omega) (by decide), nm_r (hS (f + 1) (by omega)) ⟨vp_in_nI (by omega) (by decide), nm_r (hS f (by omega)) ⟨_, xw_si61 hX hA (fun lf' h => ih (f + 1) lf' (by omega) h) (xf_c (f + 1) L - xf_c f L) (xf_c f L) lf (by omega) (Nat.le_refl _) hI⟩⟩⟩
theorem xw_si2 {post : SX → Prop} (hX : xf_L T L) (hA : xf_A tr fe li fi ll la L) (hS : xf_S st L) (hN : xf_N T lc) (hp : ∀ lf', xw_I T L (xw_q pt) lf' (xf_c 4 L) → post (fc, lc, va, tr, fe, li, fi, ll, la, st, lf')) : ∀ m t lf, t + m = 4 → (∀ u, u < t → ∀ j, j < 32 → bt (lf u) j = decide (j < dt_nl 8 (T u))) → wX_sift_2 post pt fc (m + 1) (nI t) lc va tr fe li fi ll la st lf := by
  intro m
  induction m with
  | zero =>
    intro t lf ht hI
    have : t = 4 := by omega
    subst this
    refine br_t (nI_le (a := 4) (by omega) (by omega)) ⟨5, xw_si32 hX hA hS hp 4 0 lf (by omega) ?_⟩
    intro u hu j hj
    rw [xf_c0, List.take_zero, List.any_nil, hI u hu j hj]
    cases decide (j < dt_nl 8 (T u)) <;> rfl
  | succ m ih =>
    intro t lf ht hI
    have hv : vp_in (nI t) 4 := vp_in_nI (by omega) (by decide)
    have h8 := (hX.2.2.2 t (by omega)).1
    unfold wX_sift_2
    rw [xw_cl (show t < 1000 by omega), hN t (by omega)]
    refine br_f (nI_ge (b := 4) (by omega) (by decide)) ⟨hv, hv, nm_e (nm_r (nI_1 t) (ih (t + 1) _ (by omega) ?_))⟩
    intro u hu j hj
    by_cases c : u = t
    · subst c
      rw [pk_us, xw_bm _ (by omega) j hj]
    · rw [pk_un c]
      exact hI u (by omega) j hj
/-- every tree's first leaf that is left is the point's -/
def xw_E (T : Nat → dt_T 8) (q : Nat → Nat) (lf : Nat → Int32) : Prop := ∀ t, t < 4 → (∀ j, j < dt_ex q 8 (T t) → bt (lf t) j = false) ∧ bt (lf t) (dt_ex q 8 (T t)) = true
theorem xf_c4 (hX : xf_L T L) : xf_c 4 L = L.length := by
  show List.countP _ _ = _
  rw [List.countP_eq_length]
  intro x hx
  exact decide_eq_true (xf_rng hX hx).2.1
theorem xw_I_E (hX : xf_L T L) {q : Nat → Nat} {lf : Nat → Int32} (h : xw_I T L q lf (xf_c 4 L)) : xw_E T q lf := by
  rw [xf_c4 hX] at h
  intro t ht
  have hi := h t ht
  have h8 := (hX.2.2.2 t ht).1
  have he := dt_ex_lt q 8 (T t)
  rw [List.take_length] at hi
  constructor
  · intro j hj
    rw [hi j (by omega)]
    obtain ⟨y, hy, h1, h2, h3⟩ := dt_ex_hit q 8 (T t) 0 j hj
    have : L.any (xf_hit q t j) = true := by
      rw [List.any_eq_true]
      refine ⟨(t, y), (xf_mem hX ht y).mpr hy, decide_eq_true ⟨rfl, h1, ?_, ?_⟩⟩
      · show y.2.2.1 ≤ j
        omega
      · show j < y.2.2.2.1
        omega
    rw [this, Bool.not_true, Bool.and_false]
  · rw [hi _ (by omega), decide_eq_true he, Bool.true_and]
    have : L.any (xf_hit q t (dt_ex q 8 (T t))) = false := by
      rw [List.any_eq_false]
      intro x hx z
      obtain ⟨h1, h2, h3, h4⟩ := of_decide_eq_true z
      obtain ⟨u, y⟩ := x
      dsimp only at h1 h2 h3 h4
      subst h1
      have h5 := dt_ex_no q 8 (T u) 0 y ((xf_mem hX ht y).mp hx) h2 (by omega)
      omega
    rw [this, Bool.not_false]
theorem xw_sift {post : SX → Prop} {lf : Nat → Int32} (h : xf_X T L fc lc va tr fe li fi ll la st) (hp : ∀ lf', xw_E T (xw_q pt) lf' → post (fc, lc, va, tr, fe, li, fi, ll, la, st, lf')) : wpX_sift post (fc, lc, va, tr, fe, li, fi, ll, la, st, lf) pt := by
  obtain ⟨g1, g2, g3, g4, g5, g6⟩ := h
  unfold wpX_sift
  dsimp only
  exact ⟨5, xw_si2 g1 g5 g6 g3 (fun lf' hI => hp lf' (xw_I_E g1 hI)) 4 0 lf (by omega) (fun u hu => absurd hu (Nat.not_lt_zero u))⟩
theorem xw_fl2 {post : Int32 → Prop} {lf : Nat → Int32} {t e : Nat} (ht : t < 4) (he : e ≤ 7) (h1 : ∀ j, j < e → bt (lf t) j = false) (h2 : bt (lf t) e = true) (hp : post (nI e)) : ∀ m j, j + m = e → wX_firstLeft_2 post (nI t) fc lc va tr fe li fi ll la st lf (m + 1) (nI j) := by
  have hv : vp_in (nI t) 4 := vp_in_nI ht (by decide)
  intro m
  induction m with
  | zero =>
    intro j hj
    have : j = e := by omega
    subst this
    unfold wX_firstLeft_2
    rw [xw_cl (show t < 1000 by omega)]
    refine pk_le 7 j (fun _ => hp) (fun c => ⟨hv, br_f ?_ hp⟩)
    rw [xw_bit (lf t) (by omega), h2]
    decide
  | succ m ih =>
    intro j hj
    unfold wX_firstLeft_2
    rw [xw_cl (show t < 1000 by omega)]
    exact br_f (nI_ge (b := 7) (by omega) (by decide)) ⟨hv, br_t ((xw_bit (lf t) (by omega)).mpr (h1 j (by omega))) (nm_r (nI_1 j) (ih (j + 1) (by omega)))⟩
theorem xw_first {post : Int32 → Prop} {lf : Nat → Int32} {t : Nat} {q : Nat → Nat} (hX : xf_L T L) (hE : xw_E T q lf) (ht : t < 4) (hp : post (nI (dt_ex q 8 (T t)))) : wpX_firstLeft post (fc, lc, va, tr, fe, li, fi, ll, la, st, lf) (nI t) := by
  have h8 := (hX.2.2.2 t ht).1
  have he := dt_ex_lt q 8 (T t)
  unfold wpX_firstLeft
  dsimp only
  exact ⟨_, xw_fl2 ht (by omega) (hE t ht).1 (hE t ht).2 hp (dt_ex q 8 (T t)) 0 (by omega)⟩
end
end
section
/-! ===== the component's questions ===== -/
def dt_at (T : dt_T 8) (i : Nat) : Int32 := (dt_lv 8 T)[i]?.getD 0
theorem dt_at_get {T : dt_T 8} {i : Nat} (h : i < dt_nl 8 T) : (dt_lv 8 T)[i]? = some (dt_at T i) := by
  have h1 : i < (dt_lv 8 T).length := by rw [dt_lvlen]; exact h
  unfold dt_at
  rw [List.getElem?_eq_getElem h1]
  rfl
def xw_sc (q : Nat → Nat) (T : Nat → dt_T 8) : Nat → Int32
  | 0 => 0
  | t + 1 => xw_sc q T t + dt_at (T t) (dt_ex q 8 (T t))
def xf_ov (q : Nat → Nat) (T : Nat → dt_T 8) (x : xf_F) : Bool := dt_ov (dt_ex q 8 (T x.1)) x.2
theorem xf_cnt_take {L : List xf_F} {k : Nat} {x : xf_F} (p : xf_F → Bool) (h : L[k]? = some x) : (L.take (k + 1)).countP p = (L.take k).countP p + if p x then 1 else 0 := by
  rw [List.take_add_one, h, List.countP_append]
  show _ + List.countP _ [x] = _
  rw [List.countP_singleton]
theorem xf_ov_cnt {T : Nat → dt_T 8} {L : List xf_F} (hX : xf_L T L) (q : Nat → Nat) : L.countP (xf_ov q T) = dt_dp q 8 (T 0) + dt_dp q 8 (T 1) + dt_dp q 8 (T 2) + dt_dp q 8 (T 3) := by
  rw [xf_cnt hX]
  have e : ∀ t, (dt_fks 8 (T t) 0).countP (fun y => xf_ov q T (t, y)) = dt_dp q 8 (T t) := by
    intro t
    have := dt_dp_ov q 8 (T t) 0
    rw [Nat.zero_add] at this
    exact this
  rw [e, e, e, e]
section
variable {fc : Int32} {lc va tr fe li fi ll la st lf : Nat → Int32} {L : List xf_F} {T : Nat → dt_T 8} {q : Nat → Nat}
theorem xw_sc9 {post : Int32 → SX → Prop} (hX : xf_L T L) (hV : xf_V T va) (hE : xw_E T q lf) (hp : post (xw_sc q T 4) (fc, lc, va, tr, fe, li, fi, ll, la, st, lf)) : ∀ m t, t + m = 4 → wX_scoreOf_9 post fc lc va tr fe li fi ll la st lf (m + 1) (xw_sc q T t) (nI t) := by
  intro m
  induction m with
  | zero =>
    intro t ht
    have : t = 4 := by omega
    subst this
    exact br_t (nI_le (a := 4) (by omega) (by omega)) hp
  | succ m ih =>
    intro t ht
    have h8 := (hX.2.2.2 t (by omega)).1
    have he := dt_ex_lt q 8 (T t)
    unfold wX_scoreOf_9
    refine br_f (nI_ge (b := 4) (by omega) (by decide)) (xw_first hX hE (by omega) ?_)
    rw [xw_m8, nI_add, xw_cl (by omega), hV t (by omega) _ _ (dt_at_get he)]
    exact ⟨vp_in_nI (by omega) (by decide), nm_e (nm_r (nI_1 t) (ih (t + 1) (by omega)))⟩
theorem xw_scoreOf {post : Int32 → SX → Prop} {pt : Int32} (h : xf_X T L fc lc va tr fe li fi ll la st) (hp : ∀ lf', post (xw_sc (xw_q pt) T 4) (fc, lc, va, tr, fe, li, fi, ll, la, st, lf')) : wpX_scoreOf post (fc, lc, va, tr, fe, li, fi, ll, la, st, lf) pt := by
  unfold wpX_scoreOf
  dsimp only
  refine xw_sift h ?_
  intro lf' hE
  exact ⟨5, xw_sc9 h.1 h.2.2.2.1 hE (hp lf') 4 0 (by omega)⟩
theorem xw_dp18 {post : Int32 → SX → Prop} (hX : xf_L T L) (hA : xf_A tr fe li fi ll la L) (hE : xw_E T q lf) (hp : post (nI (L.countP (xf_ov q T))) (nI L.length, lc, va, tr, fe, li, fi, ll, la, st, lf)) : ∀ m k, k + m = L.length → wX_depth_18 post (nI L.length) lc va tr fe li fi ll la st lf (m + 1) (nI ((L.take k).countP (xf_ov q T))) (nI k) := by
  have h28 := xf_len28 hX
  intro m
  induction m with
  | zero =>
    intro k hk
    have : k = L.length := by omega
    subst this
    rw [List.take_length]
    exact br_t (nI_le (Nat.le_refl _) (by omega)) hp
  | succ m ih =>
    intro k hk
    obtain ⟨x, hx, hxm⟩ := xf_get (L := L) (k := k) (by omega)
    have hv : vp_in (nI k) 28 := vp_in_nI (by omega) (by decide)
    obtain ⟨o1, o2, o3, o4, o5, o6⟩ := xf_rng hX hxm
    obtain ⟨a1, a2, a3, a4, a5, a6⟩ := hA k x hx
    have h8 := (hX.2.2.2 x.1 o1).1
    have he := dt_ex_lt q 8 (T x.1)
    have hi := ih (k + 1) (by omega)
    rw [xf_cnt_take _ hx] at hi
    unfold wX_depth_18
    rw [xw_cl (show k < 1000 by omega), a1, a4, a6]
    refine br_f (nI_ge (by omega) (by omega)) ⟨hv, xw_first hX hE o1 ?_⟩
    refine ⟨hv, pk_lt (dt_ex q 8 (T x.1)) x.2.2.2.1 (fun c => ?_) (fun c => ⟨hv, pk_lt (x.2.2.2.2.2 - 1) (dt_ex q 8 (T x.1)) (fun c2 => ?_) (fun c2 => ?_)⟩)⟩
    · rw [if_neg (by intro z; have := of_decide_eq_true z; omega)] at hi
      exact nm_r (Int32.add_zero _) (nm_r (nI_1 k) hi)
    · rw [if_neg (by intro z; have := of_decide_eq_true z; omega)] at hi
      exact nm_r (Int32.add_zero _) (nm_r (nI_1 k) hi)
    · have hov : xf_ov q T x = true := decide_eq_true (show x.2.2.2.1 ≤ dt_ex q 8 (T x.1) ∧ dt_ex q 8 (T x.1) < x.2.2.2.2.2 from ⟨c, by omega⟩)
      rw [if_pos hov] at hi
      exact nm_r (nI_1 _) (nm_r (nI_1 k) hi)
/-! ===== the least and the greatest value of a feature at a leaf ===== -/
theorem xw_lo_eq (hX : xf_L T L) {t i f acc : Nat} (ht : t < 4) (hi : i < dt_nl 8 (T t)) (h1 : ∀ x, x ∈ L → x.1 = t → x.2.1 = f → x.2.2.2.2.1 ≤ i → i < x.2.2.2.2.2 → x.2.2.1 + 1 ≤ acc) (h2 : acc = 0 ∨ ∃ x, x ∈ L ∧ x.1 = t ∧ x.2.1 = f ∧ x.2.2.2.2.1 ≤ i ∧ i < x.2.2.2.2.2 ∧ acc = x.2.2.1 + 1) : acc = dt_low f 8 (T t) i := by
  apply Nat.le_antisymm
  · rcases h2 with h2 | ⟨⟨u, y⟩, hy, e1, e2, e3, e4, e5⟩
    · omega
    · dsimp only at e1 e2 e3 e4 e5
      subst e1
      rw [e5]
      exact dt_low_ub f 8 (T u) 0 i y ((xf_mem hX ht y).mp hy) e2 (by omega) (by omega)
  · rcases dt_low_at f 8 (T t) 0 i hi with e | ⟨y, hy, e2, e3, e4, e5⟩
    · omega
    · rw [e5]
      refine h1 (t, y) ((xf_mem hX ht y).mpr hy) rfl e2 ?_ ?_
      · show y.2.2.2.1 ≤ i
        omega
      · show i < y.2.2.2.2
        omega
theorem xw_hi_eq (hX : xf_L T L) {t i f acc : Nat} (ht : t < 4) (hi : i < dt_nl 8 (T t)) (h0 : acc ≤ 15) (h1 : ∀ x, x ∈ L → x.1 = t → x.2.1 = f → x.2.2.2.1 ≤ i → i < x.2.2.2.2.1 → acc ≤ x.2.2.1) (h2 : acc = 15 ∨ ∃ x, x ∈ L ∧ x.1 = t ∧ x.2.1 = f ∧ x.2.2.2.1 ≤ i ∧ i < x.2.2.2.2.1 ∧ acc = x.2.2.1) : acc = dt_high f 8 (T t) i := by
  apply Nat.le_antisymm
  · rcases dt_high_at f 8 (T t) 0 i hi with e | ⟨y, hy, e2, e3, e4, e5⟩
    · omega
    · rw [e5]
      refine h1 (t, y) ((xf_mem hX ht y).mpr hy) rfl e2 ?_ ?_
      · show y.2.2.1 ≤ i
        omega
      · show i < y.2.2.2.1
        omega
  · rcases h2 with h2 | ⟨⟨u, y⟩, hy, e1, e2, e3, e4, e5⟩
    · rw [h2]; exact dt_high_le f 8 (T t) i
    · dsimp only at e1 e2 e3 e4 e5
      subst e1
      rw [e5]
      exact dt_high_lb f 8 (T u) 0 i y ((xf_mem hX ht y).mp hy) e2 (by omega) (by omega)
theorem xf_idx {x : xf_F} (hx : x ∈ L) : ∃ n : Nat, L[n]? = some x := by
  obtain ⟨n, h, e⟩ := List.mem_iff_getElem.mp hx
  exact ⟨n, List.getElem?_eq_some_iff.mpr ⟨h, e⟩⟩
def xw_LI (L : List xf_F) (t i f k acc : Nat) : Prop := (∀ (n : Nat) (x : xf_F), n < k → L[n]? = some x → x.1 = t → x.2.1 = f → x.2.2.2.2.1 ≤ i → i < x.2.2.2.2.2 → x.2.2.1 + 1 ≤ acc) ∧ (acc = 0 ∨ ∃ x, x ∈ L ∧ x.1 = t ∧ x.2.1 = f ∧ x.2.2.2.2.1 ≤ i ∧ i < x.2.2.2.2.2 ∧ acc = x.2.2.1 + 1) ∧ acc ≤ 16
def xw_HI (L : List xf_F) (t i f k acc : Nat) : Prop := (∀ (n : Nat) (x : xf_F), n < k → L[n]? = some x → x.1 = t → x.2.1 = f → x.2.2.2.1 ≤ i → i < x.2.2.2.2.1 → acc ≤ x.2.2.1) ∧ (acc = 15 ∨ ∃ x, x ∈ L ∧ x.1 = t ∧ x.2.1 = f ∧ x.2.2.2.1 ≤ i ∧ i < x.2.2.2.2.1 ∧ acc = x.2.2.1) ∧ acc ≤ 15
theorem xw_lo62 {post : Int32 → Prop} {J : Int32 → Int32 → Prop} {x1 x2 x3 : Int32} {k l acc : Nat} {z : Int32} (hk : k < 28) (hl : li k = nI l) (hl1 : l < 16) (ha : acc ≤ 16) (h0 : z = 0 → J (nI acc) (nI (k + 1))) (h1 : l + 1 ≤ acc → J (nI acc) (nI (k + 1))) (h2 : acc < l + 1 → J (nI (l + 1)) (nI (k + 1))) : wX_lowEnd_62 post J x1 x2 x3 (nI acc) (nI k) z fc lc va tr fe li fi ll la st lf := by
  have hv : vp_in (nI k) 28 := vp_in_nI hk (by decide)
  unfold wX_lowEnd_62
  rw [xw_cl (show k < 1000 by omega), hl, nI_1 l, nI_1 k]
  exact br_c (fun c => nm_e (h0 c)) (fun _ => ⟨hv, pk_le (l + 1) acc (fun c => nm_e (h1 c)) (fun c => ⟨hv, nm_e (nm_e (h2 c))⟩)⟩)
theorem xw_lo11 {post : Int32 → Prop} {t i f : Nat} (hX : xf_L T L) (hA : xf_A tr fe li fi ll la L) (hS : xf_S st L) (ht : t < 4) (hf : f < 4) (hi : i < dt_nl 8 (T t)) (hp : post (nI (dt_low f 8 (T t) i))) : ∀ m k acc, k + m = xf_c (f + 1) L → xf_c f L ≤ k → xw_LI L t i f k acc → wX_lowEnd_11 post (nI t) (nI i) (nI f) fc lc va tr fe li fi ll la st lf (m + 1) (nI acc) (nI k) := by
  have h28 := xf_len28 hX
  have hcl := xf_c_le (f + 1) L
  have h8 := (hX.2.2.2 t ht).1
  have hvf : vp_in (nI (f + 1)) 5 := vp_in_nI (by omega) (by decide)
  intro m
  induction m with
  | zero =>
    intro k acc hk _ hI
    obtain ⟨i1, i2, i3⟩ := hI
    have e : acc = dt_low f 8 (T t) i := by
      refine xw_lo_eq hX ht hi ?_ i2
      intro x hx e1 e2 e3 e4
      obtain ⟨n, hn⟩ := xf_idx hx
      have := (xf_st (f + 1) L hX.2.1 n x hn).mpr (by omega)
      exact i1 n x (by omega) hn e1 e2 e3 e4
    unfold wX_lowEnd_11
    rw [nI_1, xw_cl (show f + 1 < 1000 by omega), hS (f + 1) (by omega), e]
    exact ⟨hvf, br_t (nI_le (by omega) (by omega)) hp⟩
  | succ m ih =>
    intro k acc hk hlo hI
    obtain ⟨i1, i2, i3⟩ := hI
    obtain ⟨x, hx, hxm⟩ := xf_get (L := L) (k := k) (by omega)
    have hv : vp_in (nI k) 28 := vp_in_nI (by omega) (by decide)
    obtain ⟨o1, o2, o3, o4, o5, o6⟩ := xf_rng hX hxm
    obtain ⟨a1, a2, a3, a4, a5, a6⟩ := hA k x hx
    have f1 := (xf_st (f + 1) L hX.2.1 k x hx).mp (by omega)
    have f2 := fun z => (xf_st f L hX.2.1 k x hx).mpr z
    have hxf : x.2.1 = f := by omega
    have go0 : ¬ (x.1 = t ∧ x.2.2.2.2.1 ≤ i ∧ i < x.2.2.2.2.2) → wX_lowEnd_11 post (nI t) (nI i) (nI f) fc lc va tr fe li fi ll la st lf (m + 1) (nI acc) (nI (k + 1)) := by
      intro hn
      refine ih (k + 1) acc (by omega) (by omega) ⟨?_, i2, i3⟩
      intro n y hn2 hy e1 e2 e3 e4
      by_cases c : n = k
      · subst c
        rw [hx] at hy
        cases hy
        exact absurd ⟨e1, e3, e4⟩ hn
      · exact i1 n y (by omega) hy e1 e2 e3 e4
    have skip : ¬ (x.1 = t ∧ x.2.2.2.2.1 ≤ i ∧ i < x.2.2.2.2.2) → wX_lowEnd_61 post (wX_lowEnd_11 post (nI t) (nI i) (nI f) fc lc va tr fe li fi ll la st lf (m + 1)) (nI t) (nI i) (nI f) (nI acc) (nI k) fc lc va tr fe li fi ll la st lf := by
      intro hn
      unfold wX_lowEnd_61 wX_lowEnd_62
      exact br_t rfl (nm_r (nI_1 k) (go0 hn))
    rw [wX_lowEnd_11]
    dsimp only
    rw [nI_1, xw_cl (show f + 1 < 1000 by omega), hS (f + 1) (by omega), xw_cl (show k < 1000 by omega), a1, a5, a6]
    refine ⟨hvf, br_f (nI_ge (by omega) (by omega)) ⟨hv, pk_eq x.1 t (fun c => ⟨hv, pk_le i (x.2.2.2.2.1 - 1) (fun c2 => skip (by omega)) (fun c2 => ⟨hv, pk_lt (x.2.2.2.2.2 - 1) i (fun c3 => skip (by omega)) (fun c3 => ?_)⟩)⟩) (fun c => skip (fun z => c z.1))⟩⟩
    refine xw_lo62 (by omega) a3 o3 i3 (fun z => absurd z (by decide)) (fun c4 => ?_) (fun c4 => ?_)
    · refine ih (k + 1) acc (by omega) (by omega) ⟨?_, i2, i3⟩
      intro n y hn2 hy e1 e2 e3 e4
      by_cases cn : n = k
      · subst cn
        rw [hx] at hy
        cases hy
        exact c4
      · exact i1 n y (by omega) hy e1 e2 e3 e4
    · refine ih (k + 1) (x.2.2.1 + 1) (by omega) (by omega) ⟨?_, Or.inr ⟨x, hxm, c, hxf, by omega, by omega, rfl⟩, by omega⟩
      intro n y hn2 hy e1 e2 e3 e4
      by_cases cn : n = k
      · subst cn
        rw [hx] at hy
        cases hy
        exact Nat.le_refl _
      · have := i1 n y (by omega) hy e1 e2 e3 e4
        omega
theorem xw_lowEnd {post : Int32 → Prop} {t i f : Nat} (h : xf_X T L fc lc va tr fe li fi ll la st) (ht : t < 4) (hf : f < 4) (hi : i < dt_nl 8 (T t)) (hp : post (nI (dt_low f 8 (T t) i))) : wpX_lowEnd post (fc, lc, va, tr, fe, li, fi, ll, la, st, lf) (nI t) (nI i) (nI f) := by
  obtain ⟨g1, g2, g3, g4, g5, g6⟩ := h
  have hle : xf_c f L ≤ xf_c (f + 1) L := by rw [xf_c_s]; omega
  unfold wpX_lowEnd
  dsimp only
  rw [xw_cl (show f < 1000 by omega)]
  refine ⟨vp_in_nI (by omega) (by decide), nm_r (g6 f (by omega)) ⟨_, xw_lo11 g1 g5 g6 ht hf hi hp (xf_c (f + 1) L - xf_c f L) (xf_c f L) 0 (by omega) (Nat.le_refl _) ⟨?_, Or.inl rfl, by omega⟩⟩⟩
  intro n x hn hx _ e2
  have := (xf_st f L g1.2.1 n x hx).mp hn
  omega
theorem xw_hi63 {post : Int32 → Prop} {J : Int32 → Int32 → Prop} {x1 x2 x3 : Int32} {k l acc : Nat} {z : Int32} (hk : k < 28) (hl : li k = nI l) (hl1 : l < 16) (ha : acc ≤ 15) (h0 : z = 0 → J (nI acc) (nI (k + 1))) (h1 : acc ≤ l → J (nI acc) (nI (k + 1))) (h2 : l < acc → J (nI l) (nI (k + 1))) : wX_highEnd_63 post J x1 x2 x3 (nI acc) (nI k) z fc lc va tr fe li fi ll la st lf := by
  have hv : vp_in (nI k) 28 := vp_in_nI hk (by decide)
  unfold wX_highEnd_63
  rw [xw_cl (show k < 1000 by omega), hl, nI_1 k]
  exact br_c (fun c => nm_e (h0 c)) (fun _ => ⟨hv, pk_le acc l (fun c => nm_e (h1 c)) (fun c => ⟨hv, nm_e (nm_e (h2 c))⟩)⟩)
theorem xw_hi12 {post : Int32 → Prop} {t i f : Nat} (hX : xf_L T L) (hA : xf_A tr fe li fi ll la L) (hS : xf_S st L) (ht : t < 4) (hf : f < 4) (hi : i < dt_nl 8 (T t)) (hp : post (nI (dt_high f 8 (T t) i))) : ∀ m k acc, k + m = xf_c (f + 1) L → xf_c f L ≤ k → xw_HI L t i f k acc → wX_highEnd_12 post (nI t) (nI i) (nI f) fc lc va tr fe li fi ll la st lf (m + 1) (nI acc) (nI k) := by
  have h28 := xf_len28 hX
  have hcl := xf_c_le (f + 1) L
  have h8 := (hX.2.2.2 t ht).1
  have hvf : vp_in (nI (f + 1)) 5 := vp_in_nI (by omega) (by decide)
  intro m
  induction m with
  | zero =>
    intro k acc hk _ hI
    obtain ⟨i1, i2, i3⟩ := hI
    have e : acc = dt_high f 8 (T t) i := by
      refine xw_hi_eq hX ht hi i3 ?_ i2
      intro x hx e1 e2 e3 e4
      obtain ⟨n, hn⟩ := xf_idx hx
      have := (xf_st (f + 1) L hX.2.1 n x hn).mpr (by omega)
      exact i1 n x (by omega) hn e1 e2 e3 e4
    unfold wX_highEnd_12
    rw [nI_1, xw_cl (show f + 1 < 1000 by omega), hS (f + 1) (by omega), e]
    exact ⟨hvf, br_t (nI_le (by omega) (by omega)) hp⟩
  | succ m ih =>
    intro k acc hk hlo hI
    obtain ⟨i1, i2, i3⟩ := hI
    obtain ⟨x, hx, hxm⟩ := xf_get (L := L) (k := k) (by omega)
    have hv : vp_in (nI k) 28 := vp_in_nI (by omega) (by decide)
    obtain ⟨o1, o2, o3, o4, o5, o6⟩ := xf_rng hX hxm
    obtain ⟨a1, a2, a3, a4, a5, a6⟩ := hA k x hx
    have f1 := (xf_st (f + 1) L hX.2.1 k x hx).mp (by omega)
    have f2 := fun z => (xf_st f L hX.2.1 k x hx).mpr z
    have hxf : x.2.1 = f := by omega
    have go0 : ¬ (x.1 = t ∧ x.2.2.2.1 ≤ i ∧ i < x.2.2.2.2.1) → wX_highEnd_12 post (nI t) (nI i) (nI f) fc lc va tr fe li fi ll la st lf (m + 1) (nI acc) (nI (k + 1)) := by
      intro hn
      refine ih (k + 1) acc (by omega) (by omega) ⟨?_, i2, i3⟩
      intro n y hn2 hy e1 e2 e3 e4
      by_cases c : n = k
      · subst c
        rw [hx] at hy
        cases hy
        exact absurd ⟨e1, e3, e4⟩ hn
      · exact i1 n y (by omega) hy e1 e2 e3 e4
    have skip : ¬ (x.1 = t ∧ x.2.2.2.1 ≤ i ∧ i < x.2.2.2.2.1) → wX_highEnd_62 post (wX_highEnd_12 post (nI t) (nI i) (nI f) fc lc va tr fe li fi ll la st lf (m + 1)) (nI t) (nI i) (nI f) (nI acc) (nI k) fc lc va tr fe li fi ll la st lf := by
      intro hn
      unfold wX_highEnd_62 wX_highEnd_63
      exact br_t rfl (nm_r (nI_1 k) (go0 hn))
    rw [wX_highEnd_12]
    dsimp only
    rw [nI_1, xw_cl (show f + 1 < 1000 by omega), hS (f + 1) (by omega), xw_cl (show k < 1000 by omega), a1, a4, a5]
    refine ⟨hvf, br_f (nI_ge (by omega) (by omega)) ⟨hv, pk_eq x.1 t (fun c => ⟨hv, pk_lt i x.2.2.2.1 (fun c2 => skip (by omega)) (fun c2 => ⟨hv, pk_lt (x.2.2.2.2.1 - 1) i (fun c3 => skip (by omega)) (fun c3 => ?_)⟩)⟩) (fun c => skip (fun z => c z.1))⟩⟩
    refine xw_hi63 (by omega) a3 o3 i3 (fun z => absurd z (by decide)) (fun c4 => ?_) (fun c4 => ?_)
    · refine ih (k + 1) acc (by omega) (by omega) ⟨?_, i2, i3⟩
      intro n y hn2 hy e1 e2 e3 e4
      by_cases cn : n = k
      · subst cn
        rw [hx] at hy
        cases hy
        exact c4
      · exact i1 n y (by omega) hy e1 e2 e3 e4
    · refine ih (k + 1) x.2.2.1 (by omega) (by omega) ⟨?_, Or.inr ⟨x, hxm, c, hxf, by omega, by omega, rfl⟩, by omega⟩
      intro n y hn2 hy e1 e2 e3 e4
      by_cases cn : n = k
      · subst cn
        rw [hx] at hy
        cases hy
        exact Nat.le_refl _
      · have := i1 n y (by omega) hy e1 e2 e3 e4
        omega
theorem xw_highEnd {post : Int32 → Prop} {t i f : Nat} (h : xf_X T L fc lc va tr fe li fi ll la st) (ht : t < 4) (hf : f < 4) (hi : i < dt_nl 8 (T t)) (hp : post (nI (dt_high f 8 (T t) i))) : wpX_highEnd post (fc, lc, va, tr, fe, li, fi, ll, la, st, lf) (nI t) (nI i) (nI f) := by
  obtain ⟨g1, g2, g3, g4, g5, g6⟩ := h
  have hle : xf_c f L ≤ xf_c (f + 1) L := by rw [xf_c_s]; omega
  unfold wpX_highEnd
  dsimp only
  rw [xw_cl (show f < 1000 by omega)]
  refine ⟨vp_in_nI (by omega) (by decide), nm_r (g6 f (by omega)) ⟨_, xw_hi12 g1 g5 g6 ht hf hi hp (xf_c (f + 1) L - xf_c f L) (xf_c f L) 15 (by omega) (Nat.le_refl _) ⟨?_, Or.inl rfl, by omega⟩⟩⟩
  intro n x hn hx _ e2
  have := (xf_st f L g1.2.1 n x hx).mp hn
  omega
theorem dt_low_le (hX : xf_L T L) {t i f : Nat} (ht : t < 4) (hi : i < dt_nl 8 (T t)) : dt_low f 8 (T t) i ≤ 16 := by
  rcases dt_low_at f 8 (T t) 0 i hi with e | ⟨y, hy, e2, e3, e4, e5⟩
  · omega
  · have := (dt_fk_ok 8 (T t) 0 y (hX.2.2.2 t ht).2 hy).2
    omega
/-- some point comes to the leaf -/
def dt_rch (T : dt_T 8) (i : Nat) : Prop := ∀ f, f < 4 → dt_low f 8 T i ≤ dt_high f 8 T i
theorem xw_cr2 {post : Int32 → Prop} {t i : Nat} (h : xf_X T L fc lc va tr fe li fi ll la st) (ht : t < 4) (hi : i < dt_nl 8 (T t)) (h1 : dt_rch (T t) i → post 1) (h0 : ¬ dt_rch (T t) i → post 0) : ∀ m f, f + m = 4 → (∀ g, g < f → dt_low g 8 (T t) i ≤ dt_high g 8 (T t) i) → wX_canReach_2 post (nI t) (nI i) fc lc va tr fe li fi ll la st lf (m + 1) (nI f) := by
  intro m
  induction m with
  | zero =>
    intro f hf hI
    have : f = 4 := by omega
    subst this
    exact br_t (nI_le (a := 4) (by omega) (by omega)) (h1 hI)
  | succ m ih =>
    intro f hf hI
    have b1 := dt_low_le h.1 (f := f) ht hi
    have b2 := dt_high_le f 8 (T t) i
    unfold wX_canReach_2
    refine br_f (nI_ge (b := 4) (by omega) (by decide)) (xw_lowEnd h ht (by omega) hi (xw_highEnd h ht (by omega) hi (pk_le _ _ (fun c => nm_r (nI_1 f) (ih (f + 1) (by omega) ?_)) (fun c => h0 ?_))))
    · intro g hg
      by_cases e : g = f
      · subst e; exact c
      · exact hI g (by omega)
    · intro z
      have := z f (by omega)
      omega
theorem xw_canReach {post : Int32 → Prop} {t i : Nat} (h : xf_X T L fc lc va tr fe li fi ll la st) (ht : t < 4) (hi : i < dt_nl 8 (T t)) (h1 : dt_rch (T t) i → post 1) (h0 : ¬ dt_rch (T t) i → post 0) : wpX_canReach post (fc, lc, va, tr, fe, li, fi, ll, la, st, lf) (nI t) (nI i) := by
  unfold wpX_canReach
  dsimp only
  exact ⟨5, xw_cr2 h ht hi h1 h0 4 0 (by omega) (fun g hg => absurd hg (Nat.not_lt_zero g))⟩
end
end
section
/-! ===== the reference's arrays: find, behind ===== -/
def yf_sg (ak nu : Nat → Int32) (b : Nat) (l : List (Int32 × Int32)) : Prop := ∀ (k : Nat) (x : Int32 × Int32), l[k]? = some x → ak (b + k) = x.1 ∧ nu (b + k) = x.2
def yf_Y (T : Nat → dt_T 8) (sz ak nu : Nat → Int32) : Prop := ∀ t, t < 4 → sz t = nI (dt_pre 8 (T t)).length ∧ yf_sg ak nu (15 * t) (dt_pre 8 (T t))
theorem yf_app {ak nu : Nat → Int32} {b : Nat} {A B : List (Int32 × Int32)} (h : yf_sg ak nu b (A ++ B)) : yf_sg ak nu b A ∧ yf_sg ak nu (b + A.length) B := by
  constructor
  · intro k x hx
    exact h k x (by rw [List.getElem?_append_left (xw_lt hx)]; exact hx)
  · intro k x hx
    rw [Nat.add_assoc]
    exact h (A.length + k) x (by rw [List.getElem?_append_right (by omega), Nat.add_sub_cancel_left]; exact hx)
theorem yf_cons {ak nu : Nat → Int32} {b : Nat} {x : Int32 × Int32} {B : List (Int32 × Int32)} (h : yf_sg ak nu b (x :: B)) : (ak b = x.1 ∧ nu b = x.2) ∧ yf_sg ak nu (b + 1) B := by
  constructor
  · exact h 0 x rfl
  · intro k y hy
    have := h (k + 1) y hy
    rw [Nat.add_assoc, Nat.add_comm 1 k]
    exact this
theorem yw_m15 (t : Nat) : 15 * nI t = nI (15 * t) := pk_mul 15 t
theorem yw_m16 (t : Nat) : 16 * nI t = nI (16 * t) := pk_mul 16 t
theorem yw_r16 {a : Nat} (h : a < 2 ^ 31) : nI a - nI a / 16 * 16 = nI (a % 16) := pk_rem h (by decide) (by decide)
theorem yw_d16 {a : Nat} (h : a < 2 ^ 31) : nI a / 16 = nI (a / 16) := pk_div h (by decide) (by decide)
theorem yw_neg : (-1 : Int32) < 0 := by decide
theorem yw_n0 : ¬ (0 : Int32) ≤ -1 := by decide
theorem dt_len15 {T : Nat → dt_T 8} (h : ∀ t, t < 4 → dt_nl 8 (T t) ≤ 8 ∧ dt_ok 8 (T t)) {t : Nat} (ht : t < 4) : (dt_pre 8 (T t)).length ≤ 15 := by
  have := dt_len 8 (T t)
  have := (h t ht).1
  omega
section
variable {sz ak nu lo hi : Nat → Int32} {T : Nat → dt_T 8}
theorem yw_tree_f {post : Int32 → Prop} {x : Int32} (h : x < 0 ∨ nI 4 ≤ x) (hp : post 0) : wpY_tree post (sz, ak, nu, lo, hi) x := by
  unfold wpY_tree
  dsimp only
  by_cases c : x < 0
  · exact br_t c hp
  · obtain ⟨j, hj, rfl⟩ := nI_of c
    have h4 := h.resolve_left c
    rw [nI_leI (by decide) hj] at h4
    exact br_f c (br_t (nI_lt (a := 3) (by omega) hj) hp)
theorem yw_tree_t {post : Int32 → Prop} {t : Nat} (h : t < 4) (hp : post 1) : wpY_tree post (sz, ak, nu, lo, hi) (nI t) := by
  unfold wpY_tree
  dsimp only
  exact br_f (nI_pos (by omega)) (br_f (nI_nlt (a := 3) (b := t) (by omega) (by decide)) hp)
theorem yw_point_f {post : Int32 → Prop} {x : Int32} (h : xw_np x) (hp : post 0) : wpY_point post (sz, ak, nu, lo, hi) x := by
  unfold wpY_point
  dsimp only
  rcases h with c | ⟨c, h⟩
  · exact br_t c hp
  · exact br_f c (br_t h hp)
theorem yw_point_t {post : Int32 → Prop} {p : Nat} (h : p < 65536) (hp : post 1) : wpY_point post (sz, ak, nu, lo, hi) (nI p) := by
  unfold wpY_point
  dsimp only
  exact br_f (nI_pos (by omega)) (br_f (nI_nlt (b := p) (a := 65535) (by omega) (by decide)) hp)
theorem dt_lc_s {l : List (Int32 × Int32)} {k : Nat} {x : Int32 × Int32} (h : l[k]? = some x) : dt_lc (l.take (k + 1)) = dt_lc (l.take k) + if x.1 < 0 then 1 else 0 := by
  unfold dt_lc
  rw [List.take_add_one, h, List.countP_append]
  show _ + List.countP _ [x] = _
  rw [List.countP_singleton]
  by_cases c : x.1 < 0
  · rw [if_pos c, if_pos (decide_eq_true c)]
  · rw [if_neg c, if_neg (by rw [decide_eq_true_eq]; exact c)]
theorem dt_lc_le (l : List (Int32 × Int32)) : dt_lc l ≤ l.length := List.countP_le_length
theorem dt_lc_tk (l : List (Int32 × Int32)) (k : Nat) : dt_lc (l.take k) ≤ dt_lc l := by
  have := congrArg dt_lc (List.take_append_drop k l)
  rw [dt_lc_app] at this
  omega
/-- the search, over a list of cells: at every leaf but the one sought it goes on -/
theorem yw_fd5 {post : Int32 → Prop} {t : Nat} {v : Int32} {l : List (Int32 × Int32)} (ht : t < 4) (hl : l.length ≤ 15) (hsz : sz t = nI l.length) (hsg : yf_sg ak nu (15 * t) l) (e : Nat) (he : e ≤ l.length) (hno : ∀ (k : Nat) (x : Int32 × Int32), k < e → l[k]? = some x → x.1 < 0 → nI (dt_lc (l.take k)) ≠ v) (hend : (e = l.length ∧ post (-1)) ∨ (∃ x, l[e]? = some x ∧ x.1 < 0 ∧ nI (dt_lc (l.take e)) = v ∧ post (nI e))) : ∀ m k, k + m = e → wY_find_5 post (nI t) v sz ak nu lo hi (m + 1) (nI (dt_lc (l.take k))) (nI k) := by
  have hvt : vp_in (nI t) 4 := vp_in_nI ht (by decide)
  intro m
  induction m with
  | zero =>
    intro k hk
    have : k = e := by omega
    subst this
    unfold wY_find_5
    rw [yw_m15, nI_add, xw_cl (show t < 1000 by omega), xw_cl (show 15 * t + k < 1000 by omega), hsz]
    refine yw_tree_t ht (br_f (by decide) ⟨hvt, ?_⟩)
    rcases hend with ⟨h1, h2⟩ | ⟨x, h1, h2, h3, h4⟩
    · exact br_t (nI_le (by omega) (by omega)) h2
    · have := xw_lt h1
      refine br_f (nI_ge (by omega) (by omega)) ⟨vp_in_nI (by omega) (by decide), br_f ?_ (br_t h3 h4)⟩
      rw [(hsg k x h1).1]
      exact Int32.not_le.mpr h2
  | succ m ih =>
    intro k hk
    have hkl : k < l.length := by omega
    have hx : l[k]? = some l[k] := List.getElem?_eq_getElem hkl
    have hs := dt_lc_s hx
    have hi := ih (k + 1) (by omega)
    unfold wY_find_5
    rw [yw_m15, nI_add, xw_cl (show t < 1000 by omega), xw_cl (show 15 * t + k < 1000 by omega), hsz, (hsg k _ hx).1]
    refine yw_tree_t ht (br_f (by decide) ⟨hvt, br_f (nI_ge (by omega) (by omega)) ⟨vp_in_nI (by omega) (by decide), ?_⟩⟩)
    by_cases c : (l[k]).1 < 0
    · rw [if_pos c] at hs
      rw [hs] at hi
      exact br_f (Int32.not_le.mpr c) (br_f (hno k _ (by omega) hx c) (nm_r (nI_1 _) (nm_r (nI_1 k) hi)))
    · rw [if_neg c] at hs
      rw [hs, Nat.add_zero] at hi
      exact br_t (Int32.not_lt.mp c) (nm_r (nI_1 k) hi)
theorem yw_find_t {post : Int32 → Prop} {t i : Nat} (hT : ∀ t, t < 4 → dt_nl 8 (T t) ≤ 8 ∧ dt_ok 8 (T t)) (hY : yf_Y T sz ak nu) (ht : t < 4) (hi' : i < dt_nl 8 (T t)) (hp : post (nI (dt_pos 8 (T t) i))) : wpY_find post (sz, ak, nu, lo, hi) (nI t) (nI i) := by
  have h15 := dt_len15 hT ht
  have h8 := (hT t ht).1
  have hpl := dt_pos_lt 8 (T t) i hi'
  obtain ⟨A, w, B, C, D, h1, h2, h3, -, -, -, -⟩ := dt_dec 8 (T t) i (hT t ht).2 hi'
  obtain ⟨y1, y2⟩ := hY t ht
  have htk : (dt_pre 8 (T t)).take (dt_pos 8 (T t) i) = A := by rw [h1, ← h2, List.take_left]
  unfold wpY_find
  dsimp only
  refine ⟨_, yw_fd5 ht h15 y1 y2 (dt_pos 8 (T t) i) (by omega) ?_ (Or.inr ⟨(-1, w), ?_, yw_neg, ?_, hp⟩) (dt_pos 8 (T t) i) 0 (by omega)⟩
  · intro k x hk hx hx0 z
    have hs := dt_lc_s hx
    rw [if_pos hx0] at hs
    have h4 : dt_lc ((dt_pre 8 (T t)).take (k + 1)) ≤ dt_lc A := by
      have e : (dt_pre 8 (T t)).take (k + 1) = A.take (k + 1) := by
        rw [← htk, List.take_take, Nat.min_eq_left (by omega)]
      rw [e]
      exact dt_lc_tk A (k + 1)
    have h5 := (nI_eq (by omega) (by omega)).mp z
    omega
  · rw [h1, ← h2, List.getElem?_append_right (Nat.le_refl _), Nat.sub_self]; rfl
  · rw [htk, h3]
theorem yw_find_f {post : Int32 → Prop} {v1 v2 : Int32} (hT : ∀ t, t < 4 → dt_nl 8 (T t) ≤ 8 ∧ dt_ok 8 (T t)) (hY : yf_Y T sz ak nu) (h : ∀ t i, t < 4 → i < dt_nl 8 (T t) → v1 = nI t → v2 = nI i → False) (hp : post (-1)) : wpY_find post (sz, ak, nu, lo, hi) v1 v2 := by
  unfold wpY_find
  dsimp only
  rcases pk_ix v1 (n := 4) (by decide) with c | c | ⟨t, ht, rfl⟩
  · refine ⟨0 + 1, ?_⟩
    unfold wY_find_5
    exact yw_tree_f (Or.inl c) (br_t rfl hp)
  · refine ⟨0 + 1, ?_⟩
    unfold wY_find_5
    exact yw_tree_f (Or.inr c) (br_t rfl hp)
  · have h15 := dt_len15 hT ht
    obtain ⟨y1, y2⟩ := hY t ht
    refine ⟨_, yw_fd5 ht h15 y1 y2 (dt_pre 8 (T t)).length (Nat.le_refl _) ?_ (Or.inl ⟨rfl, hp⟩) (dt_pre 8 (T t)).length 0 (by omega)⟩
    intro k x hk hx hx0 z
    refine h t (dt_lc ((dt_pre 8 (T t)).take k)) ht ?_ rfl z.symm
    have hs := dt_lc_s hx
    rw [if_pos hx0] at hs
    have h4 := dt_lc_tk (dt_pre 8 (T t)) (k + 1)
    rw [dt_lc_pre 8 (T t) (hT t ht).2] at h4
    omega
/-! ===== behind ===== -/
theorem yw_bh {post : Int32 → Prop} {t : Nat} (ht : t < 4) : ∀ (d : Nat) (S : dt_T d), dt_ok d S → ∀ o k n, yf_sg ak nu (15 * t + k) (dt_pre d S) → k + (dt_pre d S).length ≤ 15 → o + (dt_pre d S).length ≤ 1000 → wY_behind_5 post (nI t) sz ak nu lo hi n (nI o) (nI (k + (dt_pre d S).length)) → wY_behind_5 post (nI t) sz ak nu lo hi (n + (dt_pre d S).length) (nI (o + 1)) (nI k) := by
  refine dt_ind ?_ ?_
  · intro d v _ o k n hsg hk ho hw
    rw [dt_pre_lf] at hsg hk ho hw ⊢
    have hk' : k + 1 ≤ 15 := hk
    have ho' : o + 1 ≤ 1000 := ho
    have e := (yf_cons hsg).1.1
    show wY_behind_5 post (nI t) sz ak nu lo hi (n + 1) (nI (o + 1)) (nI k)
    unfold wY_behind_5
    rw [yw_m15, nI_add, xw_cl (show 15 * t + k < 1000 by omega), e]
    exact br_f (nI_nle (by omega) (by omega)) (br_f (nI_ge (b := 15) (by omega) (by decide)) ⟨vp_in_nI (by omega) (by decide), br_f yw_n0 (nm_r (nI_pred o) (nm_r (nI_1 k) hw))⟩)
  · intro d f l a b iha ihb hok o k n hsg hk ho hw
    rw [dt_ok_fk] at hok
    rw [dt_pre_fk] at hsg hk ho hw ⊢
    rw [List.length_cons, List.length_append] at hk ho hw ⊢
    obtain ⟨⟨e1, e2⟩, hs⟩ := yf_cons hsg
    obtain ⟨sa, sb⟩ := yf_app hs
    have hb := ihb hok.2.2 o (k + 1 + (dt_pre d a).length) n (by rw [← Nat.add_assoc, ← Nat.add_assoc]; exact sb) (by omega) (by omega) (by rw [show k + 1 + (dt_pre d a).length + (dt_pre d b).length = k + ((dt_pre d a).length + (dt_pre d b).length + 1) by omega]; exact hw)
    have ha := iha hok.2.1 (o + 1) (k + 1) (n + (dt_pre d b).length) (by rw [← Nat.add_assoc]; exact sa) (by omega) (by omega) hb
    rw [show n + ((dt_pre d a).length + (dt_pre d b).length + 1) = n + (dt_pre d b).length + (dt_pre d a).length + 1 by omega]
    unfold wY_behind_5
    rw [yw_m15, nI_add, xw_cl (show 15 * t + k < 1000 by omega), e1]
    exact br_f (nI_nle (by omega) (by omega)) (br_f (nI_ge (b := 15) (by omega) (by decide)) ⟨vp_in_nI (by omega) (by decide), br_t (nI_pos' (by omega)) (nm_r (nI_1 (o + 1)) (nm_r (nI_1 k) ha))⟩)
theorem yw_behind {post : Int32 → Prop} {t p d : Nat} {S : dt_T d} (ht : t < 4) (hok : dt_ok d S) (hsg : yf_sg ak nu (15 * t + p) (dt_pre d S)) (hl : p + (dt_pre d S).length < 15) (hp : post (nI (p + (dt_pre d S).length))) : wpY_behind post (sz, ak, nu, lo, hi) (nI t) (nI p) := by
  unfold wpY_behind
  dsimp only
  refine ⟨1 + (dt_pre d S).length, yw_bh ht d S hok 0 p 1 hsg (by omega) (by omega) ?_⟩
  refine br_t (nI_le (a := 0) (b := 0) (Nat.le_refl 0) (by decide)) ?_
  exact br_f (nI_ge (b := 15) (by omega) (by decide)) hp
end
end
section
/-! ===== the reference's walk and what rests on it ===== -/
def xw_wi (pt f v : Int32) : Int32 := (pt &&& (((15 : Int32) <<< ((4 * f) &&& 31)) ^^^ (-1))) ||| (v <<< ((4 * f) &&& 31))
def yw_ds (q : Nat → Nat) (T : Nat → dt_T 8) : Nat → Nat
  | 0 => 0
  | t + 1 => yw_ds q T t + dt_dp q 8 (T t)
section
variable {sz ak nu lo hi : Nat → Int32} {T : Nat → dt_T 8} {pt : Int32}
theorem yw_wk101 {post : Int32 → Prop} {t p c : Nat} {l : List (Int32 × Int32)} (ht : t < 4) (hl : l.length ≤ 15) (hsg : yf_sg ak nu (15 * t) l) (hp1 : p ≤ l.length) (hp : post (nI (dt_lc (l.take p) + 16 * c))) : ∀ m k, k + m = p → wY_walk_101 post (nI t) (nI p) (nI c) sz ak nu lo hi (m + 1) (nI (dt_lc (l.take k))) (nI k) := by
  intro m
  induction m with
  | zero =>
    intro k hk
    have : k = p := by omega
    subst this
    unfold wY_walk_101
    rw [yw_m16, nI_add]
    exact br_t (nI_le (Nat.le_refl _) (by omega)) hp
  | succ m ih =>
    intro k hk
    have hkl : k < l.length := by omega
    have hx : l[k]? = some l[k] := List.getElem?_eq_getElem hkl
    have hs := dt_lc_s hx
    have hi := ih (k + 1) (by omega)
    unfold wY_walk_101
    rw [yw_m15, nI_add, xw_cl (show 15 * t + k < 1000 by omega), (hsg k _ hx).1]
    refine br_f (nI_ge (by omega) (by omega)) ⟨vp_in_nI (by omega) (by decide), ?_⟩
    by_cases c : (l[k]).1 < 0
    · rw [if_pos c] at hs
      rw [hs] at hi
      exact br_f (Int32.not_le.mpr c) (nm_r (nI_1 _) (nm_r (nI_1 k) hi))
    · rw [if_neg c] at hs
      rw [hs, Nat.add_zero] at hi
      exact br_t (Int32.not_lt.mp c) (nm_r (nI_1 k) hi)
theorem yw_wk5 {post : Int32 → Prop} {t : Nat} (ht : t < 4) : ∀ (d : Nat) (S : dt_T d), dt_ok d S → ∀ p c, yf_sg ak nu (15 * t + p) (dt_pre d S) → p + (dt_pre d S).length ≤ 15 → c + dt_nl d S ≤ 8 → (∃ n, wY_walk_101 post (nI t) (nI (p + dt_pos d S (dt_ex (xw_q pt) d S))) (nI (c + dt_dp (xw_q pt) d S)) sz ak nu lo hi n 0 0) → ∃ n, wY_walk_5 post (nI t) pt sz ak nu lo hi n (nI p) (nI c) := by
  refine dt_ind ?_ ?_
  · intro d v _ p c hsg hl hc hK
    rw [dt_pre_lf] at hsg hl
    have hl' : p + 1 ≤ 15 := hl
    have e := (yf_cons hsg).1.1
    rw [dt_pos_lf, dt_dp_lf, Nat.add_zero, Nat.add_zero] at hK
    refine ⟨0 + 1, ?_⟩
    unfold wY_walk_5
    rw [yw_m15, nI_add, xw_cl (show 15 * t + p < 1000 by omega), e]
    exact ⟨vp_in_nI (by omega) (by decide), br_t yw_neg hK⟩
  · intro d f l a b iha ihb hok p c hsg hl hc hK
    have pa := dt_nl_pos d a
    have pb := dt_nl_pos d b
    have ea := dt_ex_lt (xw_q pt) d a
    have hq := xw_q_lt pt f
    rw [dt_ok_fk] at hok
    rw [dt_nl_fk] at hc
    rw [dt_pre_fk] at hsg hl
    rw [List.length_cons, List.length_append] at hl
    obtain ⟨⟨e1, e2⟩, hs⟩ := yf_cons hsg
    obtain ⟨sa, sb⟩ := yf_app hs
    have lb := dt_len d b
    have hv : vp_in (nI (15 * t + p)) 60 := vp_in_nI (by omega) (by decide)
    rw [dt_pos_fk, dt_ex_fk, dt_dp_fk] at hK
    by_cases cq : xw_q pt f ≤ l
    · rw [if_pos cq, if_pos cq, if_pos ea] at hK
      obtain ⟨n, hn⟩ := iha hok.2.1 (p + 1) (c + 1) (by rw [← Nat.add_assoc]; exact sa) (by omega) (by omega) (by
        rw [show p + 1 + dt_pos d a (dt_ex (xw_q pt) d a) = p + (dt_pos d a (dt_ex (xw_q pt) d a) + 1) by omega, show c + 1 + dt_dp (xw_q pt) d a = c + (dt_dp (xw_q pt) d a + 1) by omega]
        exact hK)
      refine ⟨n + 1, ?_⟩
      unfold wY_walk_5
      rw [yw_m15, nI_add, xw_cl (show 15 * t + p < 1000 by omega), e1, e2]
      refine ⟨hv, br_f (nI_pos (by omega)) (br_f (nI_ge (b := 7) (by omega) (by decide)) ⟨hv, nm_e ⟨hv, ?_⟩⟩)⟩
      rw [xw_q_eq]
      exact br_f (nI_nlt cq (by omega)) (br_f (by decide) (nm_r (nI_1 p) (nm_r (nI_1 c) hn)))
    · rw [if_neg cq, if_neg cq, if_neg (by omega), Nat.add_sub_cancel_left] at hK
      obtain ⟨n, hn⟩ := ihb hok.2.2 (p + 1 + (dt_pre d a).length) (c + 1) (by rw [← Nat.add_assoc, ← Nat.add_assoc]; exact sb) (by omega) (by omega) (by
        rw [show p + 1 + (dt_pre d a).length + dt_pos d b (dt_ex (xw_q pt) d b) = p + (dt_pos d b (dt_ex (xw_q pt) d b) + ((dt_pre d a).length + 1)) by omega, show c + 1 + dt_dp (xw_q pt) d b = c + (dt_dp (xw_q pt) d b + 1) by omega]
        exact hK)
      refine ⟨n + 1, ?_⟩
      unfold wY_walk_5
      rw [yw_m15, nI_add, xw_cl (show 15 * t + p < 1000 by omega), e1, e2]
      refine ⟨hv, br_f (nI_pos (by omega)) (br_f (nI_ge (b := 7) (by omega) (by decide)) ⟨hv, nm_e ⟨hv, ?_⟩⟩)⟩
      rw [xw_q_eq]
      refine br_t (nI_lt (by omega) (by omega)) ?_
      unfold wY_walk_67
      rw [nI_1 p]
      refine br_t rfl (yw_behind (S := a) ht hok.2.1 (by rw [← Nat.add_assoc]; exact sa) (by omega) ?_)
      exact nm_r (nI_1 c) hn
theorem yw_walk {post : Int32 → Prop} {t : Nat} (hT : ∀ t, t < 4 → dt_nl 8 (T t) ≤ 8 ∧ dt_ok 8 (T t)) (hY : yf_Y T sz ak nu) (ht : t < 4) (hp : post (nI (dt_ex (xw_q pt) 8 (T t) + 16 * dt_dp (xw_q pt) 8 (T t)))) : wpY_walk post (sz, ak, nu, lo, hi) (nI t) pt := by
  have h15 := dt_len15 hT ht
  have he := dt_ex_lt (xw_q pt) 8 (T t)
  have hpl := dt_pos_lt 8 (T t) _ he
  obtain ⟨A, w, B, C, D, h1, h2, h3, -, -, -, -⟩ := dt_dec 8 (T t) _ (hT t ht).2 he
  obtain ⟨y1, y2⟩ := hY t ht
  have htk : (dt_pre 8 (T t)).take (dt_pos 8 (T t) (dt_ex (xw_q pt) 8 (T t))) = A := by rw [h1, ← h2, List.take_left]
  unfold wpY_walk
  dsimp only
  refine yw_wk5 ht 8 (T t) (hT t ht).2 0 0 (by rw [Nat.add_zero]; exact y2) (by omega) (by have := (hT t ht).1; omega) ?_
  rw [Nat.zero_add, Nat.zero_add]
  exact ⟨_, yw_wk101 ht h15 y2 (by omega) (by rw [htk, h3]; exact hp) (dt_pos 8 (T t) (dt_ex (xw_q pt) 8 (T t))) 0 (by omega)⟩
theorem yw_wm {t : Nat} (hT : ∀ t, t < 4 → dt_nl 8 (T t) ≤ 8 ∧ dt_ok 8 (T t)) (ht : t < 4) (q : Nat → Nat) : dt_ex q 8 (T t) + 16 * dt_dp q 8 (T t) < 1000 ∧ (dt_ex q 8 (T t) + 16 * dt_dp q 8 (T t)) % 16 = dt_ex q 8 (T t) ∧ (dt_ex q 8 (T t) + 16 * dt_dp q 8 (T t)) / 16 = dt_dp q 8 (T t) := by
  have h1 := dt_ex_lt q 8 (T t)
  have h2 := dt_dp_lt q 8 (T t)
  have h3 := (hT t ht).1
  omega
theorem yw_value_t {post : Int32 → Prop} {t i : Nat} (hT : ∀ t, t < 4 → dt_nl 8 (T t) ≤ 8 ∧ dt_ok 8 (T t)) (hY : yf_Y T sz ak nu) (ht : t < 4) (hi' : i < dt_nl 8 (T t)) (hp : post (dt_at (T t) i)) : wpY_value post (sz, ak, nu, lo, hi) (nI t) (nI i) := by
  have h15 := dt_len15 hT ht
  have hpl := dt_pos_lt 8 (T t) i hi'
  obtain ⟨A, w, B, C, D, h1, h2, h3, h4, h5, -, -⟩ := dt_dec 8 (T t) i (hT t ht).2 hi'
  have e1 : (dt_pre 8 (T t))[dt_pos 8 (T t) i]? = some (-1, w) := by
    rw [h1, ← h2, List.getElem?_append_right (Nat.le_refl _), Nat.sub_self]; rfl
  have e2 : dt_at (T t) i = w := by
    have e3 := dt_at_get hi'
    rw [h4, ← h5, List.getElem?_append_right (Nat.le_refl _), Nat.sub_self] at e3
    rw [h5] at e3
    exact (Option.some.inj e3).symm
  unfold wpY_value
  dsimp only
  refine yw_find_t hT hY ht hi' ?_
  rw [yw_m15, nI_add, xw_cl (by omega), ((hY t ht).2 _ _ e1).2]
  dsimp only
  rw [← e2]
  exact br_t (nI_pos' (by omega)) ⟨vp_in_nI (by omega) (by decide), hp⟩
theorem yw_sc4 {post : Int32 → Prop} {p : Nat} (hpt : p < 65536) (hT : ∀ t, t < 4 → dt_nl 8 (T t) ≤ 8 ∧ dt_ok 8 (T t)) (hY : yf_Y T sz ak nu) (hp : post (xw_sc (xw_q (nI p)) T 4)) : ∀ m t, t + m = 4 → wY_score_4 post (nI p) sz ak nu lo hi (m + 1) (xw_sc (xw_q (nI p)) T t) (nI t) := by
  intro m
  induction m with
  | zero =>
    intro t ht
    have : t = 4 := by omega
    subst this
    exact br_t (nI_le (a := 4) (by omega) (by omega)) hp
  | succ m ih =>
    intro t ht
    obtain ⟨w1, w2, w3⟩ := yw_wm hT (show t < 4 by omega) (xw_q (nI p))
    have he := dt_ex_lt (xw_q (nI p)) 8 (T t)
    unfold wY_score_4
    refine br_f (nI_ge (b := 4) (by omega) (by decide)) (yw_point_t hpt (br_f (by decide) (yw_walk hT hY (by omega) ⟨by decide, nm_r (yw_r16 (by omega)) ?_⟩)))
    rw [w2]
    exact yw_value_t hT hY (by omega) he (nm_e (nm_r (nI_1 t) (ih (t + 1) (by omega))))
theorem yw_score {post : Int32 → Prop} {p : Nat} (hpt : p < 65536) (hT : ∀ t, t < 4 → dt_nl 8 (T t) ≤ 8 ∧ dt_ok 8 (T t)) (hY : yf_Y T sz ak nu) (hp : post (xw_sc (xw_q (nI p)) T 4)) : wpY_score post (sz, ak, nu, lo, hi) (nI p) := by
  unfold wpY_score
  dsimp only
  exact ⟨5, yw_sc4 hpt hT hY hp 4 0 (by omega)⟩
theorem yw_score_f {post : Int32 → Prop} {x : Int32} (hx : xw_np x) (hp : post 0) : wpY_score post (sz, ak, nu, lo, hi) x := by
  unfold wpY_score
  dsimp only
  refine ⟨0 + 1, ?_⟩
  unfold wY_score_4
  exact br_f (by decide) (yw_point_f hx (br_t rfl hp))
theorem yw_dp4 {post : Int32 → Prop} {p : Nat} (hpt : p < 65536) (hT : ∀ t, t < 4 → dt_nl 8 (T t) ≤ 8 ∧ dt_ok 8 (T t)) (hY : yf_Y T sz ak nu) (hp : post (nI (yw_ds (xw_q (nI p)) T 4))) : ∀ m t, t + m = 4 → wY_depth_4 post (nI p) sz ak nu lo hi (m + 1) (nI (yw_ds (xw_q (nI p)) T t)) (nI t) := by
  intro m
  induction m with
  | zero =>
    intro t ht
    have : t = 4 := by omega
    subst this
    exact br_t (nI_le (a := 4) (by omega) (by omega)) (yw_point_t hpt (br_f (by decide) hp))
  | succ m ih =>
    intro t ht
    obtain ⟨w1, w2, w3⟩ := yw_wm hT (show t < 4 by omega) (xw_q (nI p))
    unfold wY_depth_4
    refine br_f (nI_ge (b := 4) (by omega) (by decide)) (yw_point_t hpt (br_f (by decide) (yw_walk hT hY (by omega) ⟨by decide, ?_⟩)))
    rw [yw_d16 (by omega), w3]
    exact nm_r (nI_add _ _) (nm_r (nI_1 t) (ih (t + 1) (by omega)))
theorem yw_depth {post : Int32 → Prop} {p : Nat} (hpt : p < 65536) (hT : ∀ t, t < 4 → dt_nl 8 (T t) ≤ 8 ∧ dt_ok 8 (T t)) (hY : yf_Y T sz ak nu) (hp : post (nI (yw_ds (xw_q (nI p)) T 4))) : wpY_depth post (sz, ak, nu, lo, hi) (nI p) := by
  unfold wpY_depth
  dsimp only
  exact ⟨5, yw_dp4 hpt hT hY hp 4 0 (by omega)⟩
theorem yw_depth_f {post : Int32 → Prop} {x : Int32} (hx : xw_np x) (hp : post (-1)) : wpY_depth post (sz, ak, nu, lo, hi) x := by
  unfold wpY_depth
  dsimp only
  refine ⟨0 + 1, ?_⟩
  unfold wY_depth_4
  exact br_f (by decide) (yw_point_f hx (br_t rfl (yw_point_f hx (br_t rfl hp))))
end
end
section
/-! ===== leavesAlong and bestValue, both sides ===== -/
theorem xw_nat16 (y : Int32) (h : ∀ j, 16 ≤ j → j < 32 → bt y j = false) : ∃ p, p < 65536 ∧ y = nI p := by
  have hn : y.toBitVec.toNat < 2 ^ 16 := by
    apply Nat.lt_pow_two_of_testBit
    intro j hj
    by_cases c : j < 32
    · exact h j hj c
    · exact b_big (x := y) (i := j) (by omega)
  have e : y = nI y.toBitVec.toNat := by
    apply Int32.toBitVec_inj.1
    show y.toBitVec = BitVec.ofNat 32 y.toBitVec.toNat
    simp
  exact ⟨_, hn, e⟩
theorem xw_nbit {n k : Nat} (h : n < 2 ^ k) (hk : k ≤ 31) {j : Nat} (hj : k ≤ j) : bt (nI n) j = false := by
  have h2 : n < 2 ^ 32 := Nat.lt_of_lt_of_le h (Nat.pow_le_pow_right (by decide) (by omega))
  show (nI n).toBitVec.toNat.testBit j = false
  rw [pk_tn h2]
  exact Nat.testBit_lt_two_pow (Nat.lt_of_lt_of_le h (Nat.pow_le_pow_right (by decide) hj))
theorem xw_wi_pt {p f v : Nat} (hp : p < 65536) (hf : f < 4) (hv : v < 16) : ∃ r, r < 65536 ∧ xw_wi (nI p) (nI f) (nI v) = nI r := by
  apply xw_nat16
  intro j h1 h2
  unfold xw_wi
  rw [show (4 : Int32) * nI f = nI (4 * f) from pk_mul 4 f, b_or, b_and, xw_nbit (k := 16) hp (by decide) h1, Bool.false_and, Bool.false_or, b_shl (4 * f) (by omega) _ h2, xw_nbit (k := 4) hv (by decide) (by omega), Bool.and_false]
def xw_la (T : dt_T 8) (pt f : Int32) : Nat → Int32
  | 0 => 0
  | v + 1 => xw_la T pt f v ||| ((1 : Int32) <<< (nI (dt_ex (xw_q (xw_wi pt f (nI v))) 8 T) &&& 31))
def xw_bv (sc : Nat → Int32) : Nat → Int32 × Int32
  | 0 => (0, sc 0)
  | v + 1 => if sc (v + 1) ≤ (xw_bv sc v).2 then xw_bv sc v else (nI (v + 1), sc (v + 1))
def xw_vs (T : Nat → dt_T 8) (pt f : Int32) (v : Nat) : Int32 := xw_sc (xw_q (xw_wi pt f (nI v))) T 4
section
variable {fc : Int32} {lc va tr fe li fi ll la st : Nat → Int32} {L : List xf_F} {T : Nat → dt_T 8} {pt f : Int32}
theorem xw_la29 {post : Int32 → SX → Prop} {t : Nat} (h : xf_X T L fc lc va tr fe li fi ll la st) (ht : t < 4) (hp : ∀ lf', post (xw_la (T t) pt f 16) (fc, lc, va, tr, fe, li, fi, ll, la, st, lf')) : ∀ m v lf, v + m = 16 → wX_leavesAlong_29 post (nI t) pt f (m + 1) (xw_la (T t) pt f v) (nI v) fc lc va tr fe li fi ll la st lf := by
  intro m
  induction m with
  | zero =>
    intro v lf hv
    have : v = 16 := by omega
    subst this
    exact br_t (nI_le (a := 16) (by omega) (by omega)) (hp lf)
  | succ m ih =>
    intro v lf hv
    unfold wX_leavesAlong_29 wpX_withFeature
    refine br_f (nI_ge (b := 16) (by omega) (by decide)) ?_
    refine xw_sift h ?_
    intro lf' hE
    dsimp only
    refine xw_first h.1 hE ht ?_
    exact nm_e (nm_r (nI_1 v) (ih (v + 1) lf' (by omega)))
theorem xw_bv24 {post : Int32 → SX → Prop} (h : xf_X T L fc lc va tr fe li fi ll la st) (hp : ∀ lf', post (xw_bv (xw_vs T pt f) 15).1 (fc, lc, va, tr, fe, li, fi, ll, la, st, lf')) : ∀ m v lf, v + m = 15 → wX_bestValue_24 post pt f (m + 1) (xw_bv (xw_vs T pt f) v).1 (xw_bv (xw_vs T pt f) v).2 (nI (v + 1)) fc lc va tr fe li fi ll la st lf := by
  intro m
  induction m with
  | zero =>
    intro v lf hv
    have : v = 15 := by omega
    subst this
    exact br_t (nI_le (a := 16) (by omega) (by omega)) (hp lf)
  | succ m ih =>
    intro v lf hv
    have hi := fun lf' => ih (v + 1) lf' (by omega)
    rw [xw_bv] at hi
    unfold wX_bestValue_24 wpX_withFeature
    refine br_f (nI_ge (b := 16) (by omega) (by decide)) ?_
    refine xw_scoreOf h ?_
    intro lf'
    dsimp only
    refine br_f (nI_ne0 (by omega) (by omega)) (br_c (fun c => ?_) (fun c => ?_))
    · have := hi lf'
      rw [if_pos (show xw_vs T pt f (v + 1) ≤ (xw_bv (xw_vs T pt f) v).2 from c)] at this
      exact nm_r (nI_1 (v + 1)) this
    · have := hi lf'
      rw [if_neg (show ¬ xw_vs T pt f (v + 1) ≤ (xw_bv (xw_vs T pt f) v).2 from c)] at this
      exact nm_r (nI_1 (v + 1)) this
theorem xw_best {post : Int32 → SX → Prop} {lf : Nat → Int32} (h : xf_X T L fc lc va tr fe li fi ll la st) (hp : ∀ lf', post (xw_bv (xw_vs T pt f) 15).1 (fc, lc, va, tr, fe, li, fi, ll, la, st, lf')) : ∃ n, wX_bestValue_24 post pt f n 0 0 0 fc lc va tr fe li fi ll la st lf := by
  refine ⟨16 + 1, ?_⟩
  unfold wX_bestValue_24 wpX_withFeature
  refine br_f (by decide) ?_
  refine xw_scoreOf h ?_
  intro lf'
  dsimp only
  exact br_t rfl (nm_r (nI_1 0) (xw_bv24 h hp 15 0 lf' (by omega)))
end
section
variable {sz ak nu lo hi : Nat → Int32} {T : Nat → dt_T 8}
theorem yw_la6 {post : Int32 → Prop} {t p f : Nat} (hT : ∀ t, t < 4 → dt_nl 8 (T t) ≤ 8 ∧ dt_ok 8 (T t)) (hY : yf_Y T sz ak nu) (ht : t < 4) (hpt : p < 65536) (hf : f < 4) (hp : post (xw_la (T t) (nI p) (nI f) 16)) : ∀ m v, v + m = 16 → wY_leavesAlong_6 post (nI t) (nI p) (nI f) sz ak nu lo hi (m + 1) (xw_la (T t) (nI p) (nI f) v) (nI v) := by
  intro m
  induction m with
  | zero =>
    intro v hv
    have : v = 16 := by omega
    subst this
    exact br_t (nI_le (a := 16) (by omega) (by omega)) hp
  | succ m ih =>
    intro v hv
    have hw := yw_wm hT ht (xw_q (xw_wi (nI p) (nI f) (nI v)))
    unfold wY_leavesAlong_6 wpY_with
    refine br_f (nI_ge (b := 16) (by omega) (by decide)) (yw_tree_t ht (br_f (by decide) (yw_point_t hpt (br_f (by decide) (br_f (nI_pos (by omega)) (br_f (nI_nlt (a := 3) (b := f) (by omega) (by decide)) ?_))))))
    dsimp only
    refine yw_walk hT hY ht ⟨by decide, ?_⟩
    show ∀ x, x = xw_la (T t) (nI p) (nI f) v ||| ((1 : Int32) <<< ((nI (dt_ex (xw_q (xw_wi (nI p) (nI f) (nI v))) 8 (T t) + 16 * dt_dp (xw_q (xw_wi (nI p) (nI f) (nI v))) 8 (T t)) - nI (dt_ex (xw_q (xw_wi (nI p) (nI f) (nI v))) 8 (T t) + 16 * dt_dp (xw_q (xw_wi (nI p) (nI f) (nI v))) 8 (T t)) / 16 * 16) &&& 31)) → _
    rw [yw_r16 (by omega), hw.2.1]
    exact nm_e (nm_r (nI_1 v) (ih (v + 1) (by omega)))
theorem yw_bv41 {post : Int32 → Prop} {p f : Nat} (hT : ∀ t, t < 4 → dt_nl 8 (T t) ≤ 8 ∧ dt_ok 8 (T t)) (hY : yf_Y T sz ak nu) (hpt : p < 65536) (hf : f < 4) (hp : post (xw_bv (xw_vs T (nI p) (nI f)) 15).1) : ∀ m v, v + m = 15 → wY_bestValue_41 post (nI p) (nI f) sz ak nu lo hi (m + 1) (xw_bv (xw_vs T (nI p) (nI f)) v).1 (xw_bv (xw_vs T (nI p) (nI f)) v).2 (nI (v + 1)) := by
  intro m
  induction m with
  | zero =>
    intro v hv
    have : v = 15 := by omega
    subst this
    exact br_t (nI_le (a := 16) (by omega) (by omega)) hp
  | succ m ih =>
    intro v hv
    have hi := ih (v + 1) (by omega)
    rw [xw_bv] at hi
    obtain ⟨r, hr, er⟩ := xw_wi_pt (p := p) (f := f) (v := v + 1) hpt hf (by omega)
    have es : xw_vs T (nI p) (nI f) (v + 1) = xw_sc (xw_q (nI r)) T 4 := by unfold xw_vs; rw [er]
    unfold wY_bestValue_41 wpY_with
    refine br_f (nI_ge (b := 16) (by omega) (by decide)) ?_
    dsimp only
    show wpY_score _ _ (xw_wi (nI p) (nI f) (nI (v + 1)))
    rw [er]
    refine yw_score hr hT hY ?_
    rw [← es]
    refine br_c (fun c => ?_) (fun c => ?_)
    · rw [if_pos c] at hi
      exact br_t c (nm_r (nI_1 (v + 1)) hi)
    · rw [if_neg c] at hi
      exact br_f c (nm_r (nI_1 (v + 1)) hi)
end
end
section
/-! ===== the reference's box, reachable, asks ===== -/
theorem yw_max {a b c : Nat} : max (max a b) c = max a (max b c) := Nat.max_assoc _ _ _
section
variable {sz ak nu lo hi : Nat → Int32} {T : Nat → dt_T 8}
/-- the bounds as numbers -/
def yw_lh (lo hi : Nat → Int32) (l0 h0 : Nat → Nat) : Prop := ∀ g, g < 4 → lo g = nI (l0 g) ∧ hi g = nI (h0 g) ∧ l0 g ≤ 16 ∧ h0 g ≤ 15
theorem yw_bx51 {post : Int32 → SY → Prop} {t : Nat} (ht : t < 4) : ∀ (d : Nat) (S : dt_T d), dt_ok d S → ∀ (p c i : Nat) (lo hi : Nat → Int32) (l0 h0 : Nat → Nat), i < dt_nl d S → yf_sg ak nu (15 * t + p) (dt_pre d S) → p + (dt_pre d S).length ≤ 15 → c + dt_nl d S ≤ 8 → yw_lh lo hi l0 h0 → (∀ lo' hi', (∀ g, g < 4 → lo' g = nI (max (l0 g) (dt_low g d S i)) ∧ hi' g = nI (min (h0 g) (dt_high g d S i))) → wY_box_194 post sz ak nu lo' hi') → ∃ n, wY_box_51 post (nI t) (nI (p + dt_pos d S i)) n (nI p) (nI c) sz ak nu lo hi := by
  refine dt_ind ?_ ?_
  · intro d v _ p c i lo hi l0 h0 hi' hsg hl hc hb hK
    have hK' : wY_box_194 post sz ak nu lo hi := by
      refine hK lo hi ?_
      intro g hg
      obtain ⟨b1, b2, b3, b4⟩ := hb g hg
      rw [dt_low_lf, dt_high_lf, Nat.max_eq_left (by omega), Nat.min_eq_left b4]
      exact ⟨b1, b2⟩
    rw [dt_pre_lf] at hl
    have hl' : p + 1 ≤ 15 := hl
    rw [dt_pos_lf, Nat.add_zero]
    refine ⟨0 + 1, ?_⟩
    unfold wY_box_51
    exact br_c (fun _ => hK') (fun _ => br_t (nI_le (Nat.le_refl p) (by omega)) hK')
  · intro d f l a b iha ihb hok p c i lo hi l0 h0 hi' hsg hl hc hb hK
    have pa := dt_nl_pos d a
    have pb := dt_nl_pos d b
    rw [dt_ok_fk] at hok
    rw [dt_nl_fk] at hc hi'
    rw [dt_pre_fk] at hsg hl
    rw [List.length_cons, List.length_append] at hl
    obtain ⟨⟨e1, e2⟩, hs⟩ := yf_cons hsg
    obtain ⟨sa, sb⟩ := yf_app hs
    have lb := dt_len d b
    have hv : vp_in (nI (15 * t + p)) 60 := vp_in_nI (by omega) (by decide)
    have hvf : vp_in (nI f) 4 := vp_in_nI hok.1.1 (by decide)
    obtain ⟨b1, b2, b3, b4⟩ := hb f hok.1.1
    have hl16 := hok.1.2
    by_cases ci : i < dt_nl d a
    · have pl := dt_pos_lt d a i ci
      obtain ⟨n, hn⟩ := iha hok.2.1 (p + 1) (c + 1) i lo (upd hi f (nI (min (h0 f) l))) l0 (fun g => if g = f then min (h0 f) l else h0 g) ci (by rw [← Nat.add_assoc]; exact sa) (by omega) (by omega) (by
        intro g hg
        obtain ⟨c1, c2, c3, c4⟩ := hb g hg
        dsimp only
        by_cases e : g = f
        · subst e
          rw [pk_us, if_pos rfl]
          exact ⟨c1, rfl, c3, by omega⟩
        · rw [pk_un e, if_neg e]
          exact ⟨c1, c2, c3, c4⟩) (by
        intro lo' hi2 hh
        refine hK lo' hi2 ?_
        intro g hg
        obtain ⟨c1, c2⟩ := hh g hg
        have c4 := (hb g hg).2.2.2
        have hle := dt_high_le g d a i
        rw [dt_low_fk, dt_high_fk, if_pos ci, if_pos ci]
        refine ⟨c1, c2.trans (congrArg nI ?_)⟩
        by_cases e : g = f
        · subst e
          rw [if_pos rfl, if_pos rfl]
          omega
        · rw [if_neg e, if_neg (fun z => e z.symm)]
          omega)
      rw [dt_pos_fk, if_pos ci]
      rw [show p + 1 + dt_pos d a i = p + (dt_pos d a i + 1) by omega] at hn
      refine ⟨n + 1, ?_⟩
      unfold wY_box_51
      rw [yw_m15, nI_add, xw_cl (show 15 * t + p < 1000 by omega), e1, e2, nI_1 p]
      refine br_f (nI_ge (b := 7) (by omega) (by decide)) (br_f (nI_ge (by omega) (by omega)) ⟨hv, nm_e ⟨hv, nm_e (yw_behind (S := a) ht hok.2.1 (by rw [← Nat.add_assoc]; exact sa) (by omega) (br_f (nI_ge (by omega) (by omega)) ⟨hvf, ?_⟩))⟩⟩)
      dsimp only
      rw [xw_cl (show f < 1000 by omega), b2]
      refine pk_le (h0 f) l (fun cc => ⟨hvf, ?_⟩) (fun cc => ?_)
      · rw [Nat.min_eq_left cc] at hn
        unfold wY_box_139
        rw [xw_cl (show f < 1000 by omega)]
        exact ⟨hvf, nm_e (nm_r (nI_1 p) (nm_r (nI_1 c) hn))⟩
      · rw [Nat.min_eq_right (by omega)] at hn
        unfold wY_box_139
        rw [xw_cl (show f < 1000 by omega)]
        exact ⟨hvf, nm_e (nm_r (nI_1 p) (nm_r (nI_1 c) hn))⟩
    · have pl := dt_pos_lt d b (i - dt_nl d a) (by omega)
      obtain ⟨n, hn⟩ := ihb hok.2.2 (p + 1 + (dt_pre d a).length) (c + 1) (i - dt_nl d a) (upd lo f (nI (max (l0 f) (l + 1)))) hi (fun g => if g = f then max (l0 f) (l + 1) else l0 g) h0 (by omega) (by rw [← Nat.add_assoc, ← Nat.add_assoc]; exact sb) (by omega) (by omega) (by
        intro g hg
        obtain ⟨c1, c2, c3, c4⟩ := hb g hg
        dsimp only
        by_cases e : g = f
        · subst e
          rw [pk_us, if_pos rfl]
          exact ⟨rfl, c2, by omega, c4⟩
        · rw [pk_un e, if_neg e]
          exact ⟨c1, c2, c3, c4⟩) (by
        intro lo' hi2 hh
        refine hK lo' hi2 ?_
        intro g hg
        obtain ⟨c1, c2⟩ := hh g hg
        rw [dt_low_fk, dt_high_fk, if_neg ci, if_neg ci]
        refine ⟨c1.trans (congrArg nI ?_), c2⟩
        by_cases e : g = f
        · subst e
          rw [if_pos rfl, if_pos rfl]
          omega
        · rw [if_neg e, if_neg (fun z => e z.symm)]
          omega)
      rw [dt_pos_fk, if_neg ci]
      rw [show p + 1 + (dt_pre d a).length + dt_pos d b (i - dt_nl d a) = p + (dt_pos d b (i - dt_nl d a) + ((dt_pre d a).length + 1)) by omega] at hn
      refine ⟨n + 1, ?_⟩
      unfold wY_box_51
      rw [yw_m15, nI_add, xw_cl (show 15 * t + p < 1000 by omega), e1, e2, nI_1 p]
      refine br_f (nI_ge (b := 7) (by omega) (by decide)) (br_f (nI_ge (by omega) (by omega)) ⟨hv, nm_e ⟨hv, nm_e (yw_behind (S := a) ht hok.2.1 (by rw [← Nat.add_assoc]; exact sa) (by omega) (br_t (nI_le (by omega) (by omega)) ⟨hvf, ?_⟩))⟩⟩)
      dsimp only
      rw [xw_cl (show f < 1000 by omega), b1, nI_1 l]
      refine pk_le (l + 1) (l0 f) (fun cc => ⟨hvf, hvf, ?_⟩) (fun cc => ⟨hvf, ?_⟩)
      · rw [Nat.max_eq_left cc] at hn
        exact nm_e (nm_r (nI_1 c) hn)
      · rw [Nat.max_eq_right (by omega)] at hn
        exact nm_e (nm_r (nI_1 c) hn)
theorem yw_bx16 {post : Int32 → SY → Prop} {t i : Nat} (hT : ∀ t, t < 4 → dt_nl 8 (T t) ≤ 8 ∧ dt_ok 8 (T t)) (hY : yf_Y T sz ak nu) (ht : t < 4) (hi' : i < dt_nl 8 (T t)) (hK : ∀ lo' hi', (∀ g, g < 4 → lo' g = nI (dt_low g 8 (T t) i) ∧ hi' g = nI (dt_high g 8 (T t) i)) → wY_box_194 post sz ak nu lo' hi') : ∀ m g lo hi, g + m = 4 → (∀ n, n < g → lo n = nI 0 ∧ hi n = nI 15) → wY_box_16 post (nI t) (nI (dt_pos 8 (T t) i)) (m + 1) (nI g) sz ak nu lo hi := by
  intro m
  induction m with
  | zero =>
    intro g lo hi hg hb
    have : g = 4 := by omega
    subst this
    have := yw_bx51 (post := post) (sz := sz) ht 8 (T t) (hT t ht).2 0 0 i lo hi (fun _ => 0) (fun _ => 15) hi' (by rw [Nat.add_zero]; exact (hY t ht).2) (by have := dt_len15 hT ht; omega) (by have := (hT t ht).1; omega) (by
      intro n hn
      exact ⟨(hb n hn).1, (hb n hn).2, Nat.zero_le 16, Nat.le_refl 15⟩) (by
      intro lo' hi2 hh
      refine hK lo' hi2 ?_
      intro n hn
      obtain ⟨h1, h2⟩ := hh n hn
      rw [Nat.max_eq_right (Nat.zero_le _)] at h1
      rw [Nat.min_eq_right (dt_high_le n 8 (T t) i)] at h2
      exact ⟨h1, h2⟩)
    rw [Nat.zero_add] at this
    exact br_t (nI_le (a := 4) (by omega) (by omega)) this
  | succ m ih =>
    intro g lo hi hg hb
    have hv : vp_in (nI g) 4 := vp_in_nI (by omega) (by decide)
    unfold wY_box_16
    rw [xw_cl (show g < 1000 by omega)]
    refine br_f (nI_ge (b := 4) (by omega) (by decide)) ⟨hv, nm_e ⟨hv, nm_e (nm_r (nI_1 g) (ih (g + 1) _ _ (by omega) ?_))⟩⟩
    intro n hn
    by_cases e : n = g
    · subst e
      rw [pk_us, pk_us]
      exact ⟨rfl, rfl⟩
    · rw [pk_un e, pk_un e]
      exact hb n (by omega)
theorem yw_bx194 {post : Int32 → SY → Prop} {l0 h0 : Nat → Nat} (hb : yw_lh lo hi l0 h0) (h1 : (∀ g, g < 4 → l0 g ≤ h0 g) → post 1 (sz, ak, nu, lo, hi)) (h2 : ¬ (∀ g, g < 4 → l0 g ≤ h0 g) → post 0 (sz, ak, nu, lo, hi)) : wY_box_194 post sz ak nu lo hi := by
  have b0 := hb 0 (by decide)
  have b1 := hb 1 (by decide)
  have b2 := hb 2 (by decide)
  have b3 := hb 3 (by decide)
  unfold wY_box_194
  rw [b0.1, b0.2.1, b1.1, b1.2.1, b2.1, b2.2.1, b3.1, b3.2.1]
  refine pk_lt (h0 0) (l0 0) (fun c => h2 (fun z => ?_)) (fun c0 => pk_lt (h0 1) (l0 1) (fun c => h2 (fun z => ?_)) (fun c1 => pk_lt (h0 2) (l0 2) (fun c => h2 (fun z => ?_)) (fun c2 => pk_lt (h0 3) (l0 3) (fun c => h2 (fun z => ?_)) (fun c3 => h1 ?_))))
  · have := z 0 (by decide)
    omega
  · have := z 1 (by decide)
    omega
  · have := z 2 (by decide)
    omega
  · have := z 3 (by decide)
    omega
  · intro g hg
    have : g = 0 ∨ g = 1 ∨ g = 2 ∨ g = 3 := by omega
    rcases this with rfl | rfl | rfl | rfl
    · exact c0
    · exact c1
    · exact c2
    · exact c3
theorem dt_low_le' (hT : ∀ t, t < 4 → dt_nl 8 (T t) ≤ 8 ∧ dt_ok 8 (T t)) {t i f : Nat} (ht : t < 4) (hi : i < dt_nl 8 (T t)) : dt_low f 8 (T t) i ≤ 16 := by
  rcases dt_low_at f 8 (T t) 0 i hi with e | ⟨y, hy, e2, e3, e4, e5⟩
  · omega
  · have := (dt_fk_ok 8 (T t) 0 y (hT t ht).2 hy).2
    omega
theorem yw_box_t {post : Int32 → SY → Prop} {t i : Nat} (hT : ∀ t, t < 4 → dt_nl 8 (T t) ≤ 8 ∧ dt_ok 8 (T t)) (hY : yf_Y T sz ak nu) (ht : t < 4) (hi' : i < dt_nl 8 (T t)) (h1 : dt_rch (T t) i → ∀ lo' hi', (∀ g, g < 4 → lo' g = nI (dt_low g 8 (T t) i) ∧ hi' g = nI (dt_high g 8 (T t) i)) → post 1 (sz, ak, nu, lo', hi')) (h0 : ¬ dt_rch (T t) i → ∀ lo' hi', post 0 (sz, ak, nu, lo', hi')) : wpY_box post (sz, ak, nu, lo, hi) (nI t) (nI i) := by
  have h15 := dt_len15 hT ht
  have hpl := dt_pos_lt 8 (T t) i hi'
  unfold wpY_box
  dsimp only
  refine yw_find_t hT hY ht hi' (br_t (nI_pos' (by omega)) ⟨5, yw_bx16 hT hY ht hi' ?_ 4 0 lo hi (by omega) (fun n hn => absurd hn (Nat.not_lt_zero n))⟩)
  intro lo' hi2 hh
  refine yw_bx194 (l0 := fun g => dt_low g 8 (T t) i) (h0 := fun g => dt_high g 8 (T t) i) ?_ ?_ ?_
  · intro g hg
    exact ⟨(hh g hg).1, (hh g hg).2, dt_low_le' hT ht hi', dt_high_le g 8 (T t) i⟩
  · intro z
    exact h1 z lo' hi2 hh
  · intro z
    exact h0 z lo' hi2
theorem yw_box_f {post : Int32 → SY → Prop} {v1 v2 : Int32} (hT : ∀ t, t < 4 → dt_nl 8 (T t) ≤ 8 ∧ dt_ok 8 (T t)) (hY : yf_Y T sz ak nu) (h : ∀ t i, t < 4 → i < dt_nl 8 (T t) → v1 = nI t → v2 = nI i → False) (hp : post 0 (sz, ak, nu, lo, hi)) : wpY_box post (sz, ak, nu, lo, hi) v1 v2 := by
  unfold wpY_box
  dsimp only
  exact yw_find_f hT hY h (br_f yw_n0 hp)
end
end
section
/-! ===== reachable, both sides; asks of the reference ===== -/
noncomputable def xw_rs (T : dt_T 8) : Nat → Int32
  | 0 => 0
  | i + 1 => @ite Int32 (i < dt_nl 8 T ∧ dt_rch T i) (Classical.propDecidable _) (xw_rs T i ||| ((1 : Int32) <<< (nI i &&& 31))) (xw_rs T i)
theorem xw_rs_t {T : dt_T 8} {i : Nat} (h : i < dt_nl 8 T) (h2 : dt_rch T i) : xw_rs T (i + 1) = xw_rs T i ||| ((1 : Int32) <<< (nI i &&& 31)) := if_pos ⟨h, h2⟩
theorem xw_rs_f {T : dt_T 8} {i : Nat} (h : ¬ (i < dt_nl 8 T ∧ dt_rch T i)) : xw_rs T (i + 1) = xw_rs T i := if_neg h
theorem xw_rs_stop (T : dt_T 8) : ∀ k, xw_rs T (dt_nl 8 T + k) = xw_rs T (dt_nl 8 T) := by
  intro k
  induction k with
  | zero => rfl
  | succ k ih =>
    rw [← ih]
    exact xw_rs_f (i := dt_nl 8 T + k) (fun z => by have := z.1; omega)
section
variable {fc : Int32} {lc va tr fe li fi ll la st lf : Nat → Int32} {L : List xf_F} {T : Nat → dt_T 8}
theorem xw_re13 {post : Int32 → Prop} {t : Nat} (h : xf_X T L fc lc va tr fe li fi ll la st) (ht : t < 4) (hp : post (xw_rs (T t) (dt_nl 8 (T t)))) : ∀ m i, i + m = dt_nl 8 (T t) → wX_reachable_13 post (nI t) fc lc va tr fe li fi ll la st lf (m + 1) (xw_rs (T t) i) (nI i) := by
  have hvt : vp_in (nI t) 4 := vp_in_nI ht (by decide)
  have h8 := (h.1.2.2.2 t ht).1
  have hn := h.2.2.1 t ht
  intro m
  induction m with
  | zero =>
    intro i hi
    have : i = dt_nl 8 (T t) := by omega
    subst this
    unfold wX_reachable_13
    rw [xw_cl (show t < 1000 by omega), hn]
    exact ⟨hvt, br_t (nI_le (Nat.le_refl _) (by omega)) hp⟩
  | succ m ih =>
    intro i hi
    have hi2 := ih (i + 1) (by omega)
    unfold wX_reachable_13
    rw [xw_cl (show t < 1000 by omega), hn]
    refine ⟨hvt, br_f (nI_ge (by omega) (by omega)) (xw_canReach h ht (by omega) (fun z => br_f (by decide) ?_) (fun z => br_t rfl ?_))⟩
    · rw [xw_rs_t (by omega) z] at hi2
      exact nm_e (nm_r (nI_1 i) hi2)
    · rw [xw_rs_f (fun y => z y.2)] at hi2
      exact nm_r (Int32.or_zero) (nm_r (nI_1 i) hi2)
theorem xw_reach {post : Int32 → Prop} {t : Nat} (h : xf_X T L fc lc va tr fe li fi ll la st) (ht : t < 4) (hp : post (xw_rs (T t) 8)) : ∃ n, wX_reachable_13 post (nI t) fc lc va tr fe li fi ll la st lf n 0 0 := by
  have h8 := (h.1.2.2.2 t ht).1
  have e : xw_rs (T t) 8 = xw_rs (T t) (dt_nl 8 (T t)) := by
    have := xw_rs_stop (T t) (8 - dt_nl 8 (T t))
    rw [show dt_nl 8 (T t) + (8 - dt_nl 8 (T t)) = 8 by omega] at this
    exact this
  rw [e] at hp
  exact ⟨_, xw_re13 h ht hp (dt_nl 8 (T t)) 0 (by omega)⟩
end
section
variable {sz ak nu : Nat → Int32} {T : Nat → dt_T 8}
theorem yw_re4 {post : Int32 → SY → Prop} {t : Nat} (hT : ∀ t, t < 4 → dt_nl 8 (T t) ≤ 8 ∧ dt_ok 8 (T t)) (hY : yf_Y T sz ak nu) (ht : t < 4) (hp : ∀ lo hi, post (xw_rs (T t) 8) (sz, ak, nu, lo, hi)) : ∀ m i lo hi, i + m = 8 → wY_reachable_4 post (nI t) (m + 1) (xw_rs (T t) i) (nI i) sz ak nu lo hi := by
  intro m
  induction m with
  | zero =>
    intro i lo hi hm
    have : i = 8 := by omega
    subst this
    exact br_t (nI_le (a := 8) (by omega) (by omega)) (hp lo hi)
  | succ m ih =>
    intro i lo hi hm
    have hi2 := fun lo' hi' => ih (i + 1) lo' hi' (by omega)
    have h8 := (hT t ht).1
    unfold wY_reachable_4
    refine br_f (nI_ge (b := 8) (by omega) (by decide)) ?_
    by_cases c : i < dt_nl 8 (T t)
    · refine yw_box_t hT hY ht c (fun z lo' hi' _ => ?_) (fun z lo' hi' => ?_)
      · dsimp only
        have := hi2 lo' hi'
        rw [xw_rs_t c z] at this
        exact br_f (by decide) (nm_e (nm_r (nI_1 i) this))
      · dsimp only
        have := hi2 lo' hi'
        rw [xw_rs_f (fun y => z y.2)] at this
        exact br_t rfl (nm_r (nI_1 i) this)
    · refine yw_box_f hT hY ?_ ?_
      · intro u j hu hj e1 e2
        have h8' := (hT u hu).1
        have e3 := (nI_eq (by omega) (by omega)).mp e1
        have e4 := (nI_eq (by omega) (by omega)).mp e2
        subst e3
        omega
      · dsimp only
        have := hi2 lo hi
        rw [xw_rs_f (fun y => c y.1)] at this
        exact br_t rfl (nm_r (nI_1 i) this)
theorem yw_re4_f {post : Int32 → SY → Prop} {v1 : Int32} (hT : ∀ t, t < 4 → dt_nl 8 (T t) ≤ 8 ∧ dt_ok 8 (T t)) (hY : yf_Y T sz ak nu) (hv : ∀ t, t < 4 → v1 ≠ nI t) (hp : ∀ lo hi, post 0 (sz, ak, nu, lo, hi)) : ∀ m i lo hi, i + m = 8 → wY_reachable_4 post v1 (m + 1) 0 (nI i) sz ak nu lo hi := by
  intro m
  induction m with
  | zero =>
    intro i lo hi hm
    have : i = 8 := by omega
    subst this
    exact br_t (nI_le (a := 8) (by omega) (by omega)) (hp lo hi)
  | succ m ih =>
    intro i lo hi hm
    unfold wY_reachable_4
    refine br_f (nI_ge (b := 8) (by omega) (by decide)) (yw_box_f hT hY (fun t _ ht _ e _ => hv t ht e) ?_)
    dsimp only
    exact br_t rfl (nm_r (nI_1 i) (ih (i + 1) lo hi (by omega)))
/-! ===== asks ===== -/
def yw_g (g : Nat) (T : Nat → dt_T 8) (u c : Nat) : Nat := ((dt_pre 8 (T u)).take (c - 15 * u)).countP (fun x => decide (x.1 = nI g))
def yw_ac (g : Nat) (T : Nat → dt_T 8) (c : Nat) : Nat := yw_g g T 0 c + yw_g g T 1 c + yw_g g T 2 c + yw_g g T 3 c
theorem yw_g_o {g u c : Nat} (h15 : (dt_pre 8 (T u)).length ≤ 15) (h : u ≠ c / 15) : yw_g g T u (c + 1) = yw_g g T u c := by
  unfold yw_g
  by_cases d : u < c / 15
  · rw [List.take_of_length_le (by omega), List.take_of_length_le (by omega)]
  · rw [show c + 1 - 15 * u = c - 15 * u by omega]
theorem yw_g_t {g c : Nat} {x : Int32 × Int32} (h : (dt_pre 8 (T (c / 15)))[c % 15]? = some x) : yw_g g T (c / 15) (c + 1) = yw_g g T (c / 15) c + if x.1 = nI g then 1 else 0 := by
  unfold yw_g
  rw [show c + 1 - 15 * (c / 15) = c % 15 + 1 by omega, show c - 15 * (c / 15) = c % 15 by omega, List.take_add_one, h, List.countP_append]
  show _ + List.countP _ [x] = _
  rw [List.countP_singleton]
  by_cases d : x.1 = nI g
  · rw [if_pos d, if_pos (decide_eq_true d)]
  · rw [if_neg d, if_neg (by rw [decide_eq_true_eq]; exact d)]
theorem yw_g_f {g c : Nat} (h : (dt_pre 8 (T (c / 15))).length ≤ c % 15) : yw_g g T (c / 15) (c + 1) = yw_g g T (c / 15) c := by
  unfold yw_g
  rw [List.take_of_length_le (by omega), List.take_of_length_le (by omega)]
theorem yw_ac_s {g c k : Nat} (h15 : ∀ u, u < 4 → (dt_pre 8 (T u)).length ≤ 15) (hc : c < 60) (h : yw_g g T (c / 15) (c + 1) = yw_g g T (c / 15) c + k) : yw_ac g T (c + 1) = yw_ac g T c + k := by
  have hu : c / 15 = 0 ∨ c / 15 = 1 ∨ c / 15 = 2 ∨ c / 15 = 3 := by omega
  unfold yw_ac
  rcases hu with e | e | e | e
  · rw [e] at h
    rw [yw_g_o (u := 1) (h15 1 (by decide)) (by omega), yw_g_o (u := 2) (h15 2 (by decide)) (by omega), yw_g_o (u := 3) (h15 3 (by decide)) (by omega), h]
    omega
  · rw [e] at h
    rw [yw_g_o (u := 0) (h15 0 (by decide)) (by omega), yw_g_o (u := 2) (h15 2 (by decide)) (by omega), yw_g_o (u := 3) (h15 3 (by decide)) (by omega), h]
    omega
  · rw [e] at h
    rw [yw_g_o (u := 0) (h15 0 (by decide)) (by omega), yw_g_o (u := 1) (h15 1 (by decide)) (by omega), yw_g_o (u := 3) (h15 3 (by decide)) (by omega), h]
    omega
  · rw [e] at h
    rw [yw_g_o (u := 0) (h15 0 (by decide)) (by omega), yw_g_o (u := 1) (h15 1 (by decide)) (by omega), yw_g_o (u := 2) (h15 2 (by decide)) (by omega), h]
    omega
theorem yw_d15 {a : Nat} (h : a < 2 ^ 31) : nI a / 15 = nI (a / 15) := pk_div h (by decide) (by decide)
theorem yw_r15 {a : Nat} (h : a < 2 ^ 31) : nI a - nI (a / 15) * 15 = nI (a % 15) := by
  have := pk_rem h (d := 15) (by decide) (by decide)
  rw [pk_div h (by decide) (by decide)] at this
  exact this
theorem yw_as4 {post : Int32 → Prop} {g : Nat} {lo hi : Nat → Int32} (hT : ∀ t, t < 4 → dt_nl 8 (T t) ≤ 8 ∧ dt_ok 8 (T t)) (hY : yf_Y T sz ak nu) (hg : g < 4) (hp : post (nI (yw_ac g T 60))) : ∀ m c, c + m = 60 → wY_asks_4 post (nI g) sz ak nu lo hi (m + 1) (nI (yw_ac g T c)) (nI c) := by
  have h15 : ∀ u, u < 4 → (dt_pre 8 (T u)).length ≤ 15 := fun u hu => dt_len15 hT hu
  intro m
  induction m with
  | zero =>
    intro c hc
    have : c = 60 := by omega
    subst this
    exact br_t (nI_le (a := 60) (by omega) (by omega)) (br_f (nI_pos (by omega)) (br_t (nI_le (b := 3) (by omega) (by decide)) hp))
  | succ m ih =>
    intro c hc
    have hi2 := ih (c + 1) (by omega)
    have hu : c / 15 < 4 := by omega
    obtain ⟨y1, y2⟩ := hY (c / 15) hu
    have hl := h15 (c / 15) hu
    unfold wY_asks_4
    rw [yw_d15 (by omega), yw_r15 (by omega), xw_cl (show c / 15 < 1000 by omega), xw_cl (show c < 1000 by omega), y1]
    refine br_f (nI_ge (b := 60) (by omega) (by decide)) ⟨by decide, by decide, vp_in_nI hu (by decide), pk_le (dt_pre 8 (T (c / 15))).length (c % 15) (fun d => ?_) (fun d => ⟨vp_in_nI (by omega) (by decide), ?_⟩)⟩
    · rw [yw_ac_s (k := 0) h15 (by omega) (yw_g_f d), Nat.add_zero] at hi2
      exact nm_r (nI_1 c) hi2
    · have hx : (dt_pre 8 (T (c / 15)))[c % 15]? = some (dt_pre 8 (T (c / 15)))[c % 15] := List.getElem?_eq_getElem d
      have e := (y2 _ _ hx).1
      rw [show 15 * (c / 15) + c % 15 = c by omega] at e
      rw [e]
      rw [yw_ac_s h15 (by omega) (yw_g_t hx)] at hi2
      refine br_c (fun z => ?_) (fun z => ?_)
      · rw [if_pos z] at hi2
        exact nm_r (nI_1 _) (nm_r (nI_1 c) hi2)
      · rw [if_neg z, Nat.add_zero] at hi2
        exact nm_r (nI_1 c) hi2
theorem yw_as4_f {post : Int32 → Prop} {x : Int32} {lo hi : Nat → Int32} (hx : x < 0 ∨ nI 4 ≤ x) (hp : post (-1)) : ∀ m c (a : Int32), c + m = 60 → wY_asks_4 post x sz ak nu lo hi (m + 1) a (nI c) := by
  intro m
  induction m with
  | zero =>
    intro c a hc
    have : c = 60 := by omega
    subst this
    refine br_t (nI_le (a := 60) (by omega) (by omega)) ?_
    by_cases d : x < 0
    · exact br_t d hp
    · refine br_f d (br_f ?_ hp)
      intro z
      obtain ⟨j, hj, rfl⟩ := nI_of d
      have h1 := hx.resolve_left d
      rw [nI_leI (by decide) hj] at h1
      have h2 : nI j ≤ nI 3 := z
      rw [nI_leI hj (by decide)] at h2
      omega
  | succ m ih =>
    intro c a hc
    have hi2 := fun a' => ih (c + 1) a' (by omega)
    unfold wY_asks_4
    rw [yw_d15 (by omega)]
    exact br_f (nI_ge (b := 60) (by omega) (by decide)) ⟨by decide, by decide, vp_in_nI (by omega) (by decide), br_c (fun _ => nm_r (nI_1 c) (hi2 _)) (fun _ => ⟨vp_in_nI (by omega) (by decide), br_c (fun _ => nm_e (nm_r (nI_1 c) (hi2 _))) (fun _ => nm_r (nI_1 c) (hi2 _))⟩)⟩
theorem yw_ac60 {g : Nat} {L : List xf_F} (hX : xf_L T L) (hg : g < 4) : xf_c (g + 1) L = xf_c g L + yw_ac g T 60 := by
  have h15 : ∀ u, u < 4 → (dt_pre 8 (T u)).length ≤ 15 := fun u hu => dt_len15 hX.2.2.2 hu
  have e : ∀ u, u < 4 → yw_g g T u 60 = (dt_fks 8 (T u) 0).countP (fun x => decide (x.1 = g)) := by
    intro u hu
    unfold yw_g
    have := h15 u hu
    rw [List.take_of_length_le (by omega), dt_cnt g hg 8 (T u) 0 (hX.2.2.2 u hu).2]
  rw [xf_c_s, xf_cnt hX]
  unfold yw_ac
  rw [e 0 (by decide), e 1 (by decide), e 2 (by decide), e 3 (by decide)]
theorem yw_ac0 (g : Nat) : yw_ac g T 0 = 0 := by
  unfold yw_ac yw_g
  simp
end
end
section
/-! ===== split, setValue, clear of the reference; both constructors ===== -/
section
variable {sz ak nu lo hi : Nat → Int32} {T : Nat → dt_T 8}
theorem yw_leaves_t {post : Int32 → Prop} {t c : Nat} (ht : t < 4) (hs : sz t = nI c) (hc : c < 100) (hp : post (nI ((c + 1) / 2))) : wpY_leaves post (sz, ak, nu, lo, hi) (nI t) := by
  unfold wpY_leaves
  dsimp only
  refine yw_tree_t ht (br_f (by decide) ⟨vp_in_nI ht (by decide), by decide, ?_⟩)
  rw [xw_cl (show t < 1000 by omega), hs, nI_1]
  have e : nI (c + 1) / 2 = nI ((c + 1) / 2) := pk_div (by omega) (by decide) (by decide)
  rw [e]
  exact hp
/-- the cells with two more places behind place p -/
theorem yf_split {ak' nu' : Nat → Int32} {t f l p : Nat} {A B : List (Int32 × Int32)} {w : Int32} (hA : A.length = p) (hsg : yf_sg ak nu (15 * t) (A ++ (-1, w) :: B)) (c1 : ∀ n, n < p → ak' (15 * t + n) = ak (15 * t + n) ∧ nu' (15 * t + n) = nu (15 * t + n)) (c2 : ak' (15 * t + p) = nI f ∧ nu' (15 * t + p) = nI l) (c3 : ak' (15 * t + p + 1) = -1 ∧ nu' (15 * t + p + 1) = w) (c4 : ak' (15 * t + p + 2) = -1 ∧ nu' (15 * t + p + 2) = 0) (c5 : ∀ n, p < n → n < (A ++ (-1, w) :: B).length → ak' (15 * t + n + 2) = ak (15 * t + n) ∧ nu' (15 * t + n + 2) = nu (15 * t + n)) : yf_sg ak' nu' (15 * t) (A ++ (nI f, nI l) :: (-1, w) :: (-1, 0) :: B) := by
  subst hA
  intro k x hx
  by_cases d : k < A.length
  · rw [List.getElem?_append_left d] at hx
    have := hsg k x (by rw [List.getElem?_append_left d]; exact hx)
    rw [(c1 k d).1, (c1 k d).2]
    exact this
  · obtain ⟨m, rfl⟩ : ∃ m, k = A.length + m := ⟨k - A.length, by omega⟩
    rw [List.getElem?_append_right (by omega), Nat.add_sub_cancel_left] at hx
    match m, hx with
    | 0, hx =>
      rw [← Option.some.inj hx]
      exact c2
    | 1, hx =>
      rw [← Option.some.inj hx]
      exact c3
    | 2, hx =>
      rw [← Option.some.inj hx]
      exact c4
    | m + 3, hx =>
      have e : (A ++ (-1, w) :: B)[A.length + (m + 1)]? = some x := by
        rw [List.getElem?_append_right (by omega), Nat.add_sub_cancel_left]
        exact hx
      have h1 := hsg _ x e
      have h2 := c5 (A.length + (m + 1)) (by omega) (xw_lt e)
      rw [show 15 * t + (A.length + (m + 1)) + 2 = 15 * t + (A.length + (m + 3)) by omega] at h2
      rw [h2.1, h2.2]
      exact h1
theorem yw_sp60 {post : Int32 → SY → Prop} {t i f l : Nat} (hT : ∀ t, t < 4 → dt_nl 8 (T t) ≤ 8 ∧ dt_ok 8 (T t)) (hY : yf_Y T sz ak nu) (ht : t < 4) (hi' : i < dt_nl 8 (T t)) (h8 : dt_nl 8 (T t) < 8) (hf : f < 4) (hl : l < 16) (hp : ∀ sz' ak' nu', yf_Y (dt_set T t (dt_sp f l 8 (T t) i)) sz' ak' nu' → post (nI (dt_nl 8 (T t) + 1)) (sz', ak', nu', lo, hi)) : ∀ m (a n' : Nat → Int32), dt_pos 8 (T t) i + m < (dt_pre 8 (T t)).length → (∀ n, n ≤ dt_pos 8 (T t) i + m → a (15 * t + n) = ak (15 * t + n) ∧ n' (15 * t + n) = nu (15 * t + n)) → (∀ n, dt_pos 8 (T t) i + m < n → n < (dt_pre 8 (T t)).length → a (15 * t + n + 2) = ak (15 * t + n) ∧ n' (15 * t + n + 2) = nu (15 * t + n)) → (∀ n, (n < 15 * t ∨ 15 * t + 15 ≤ n) → a n = ak n ∧ n' n = nu n) → wY_split_60 post (nI t) (nI f) (nI l) (nI (dt_pos 8 (T t) i)) (m + 1) (nI (dt_pos 8 (T t) i + m)) sz a n' lo hi := by
  have hvt : vp_in (nI t) 4 := vp_in_nI ht (by decide)
  have hlen := dt_len 8 (T t)
  obtain ⟨A, w, B, C, D, h1, h2, h3, -, -, -, h7⟩ := dt_dec 8 (T t) i (hT t ht).2 hi'
  have hpre := (h7 (by omega) f l).1
  obtain ⟨y1, y2⟩ := hY t ht
  have ew : (dt_pre 8 (T t))[dt_pos 8 (T t) i]? = some (-1, w) := by
    rw [h1, ← h2, List.getElem?_append_right (Nat.le_refl _), Nat.sub_self]; rfl
  have hw := (y2 _ _ ew).2
  intro m
  induction m with
  | zero =>
    intro a n' hm v1 v2 v3
    rw [Nat.add_zero] at v1 v2 hm ⊢
    generalize hpp : dt_pos 8 (T t) i = p at *
    have hy : yf_Y (dt_set T t (dt_sp f l 8 (T t) i)) (upd sz t (nI ((dt_pre 8 (T t)).length + 2))) (upd (upd (upd a (15 * t + p + 1) (-1)) (15 * t + p + 2) (-1)) (15 * t + p) (nI f)) (upd (upd (upd n' (15 * t + p + 1) (n' (15 * t + p))) (15 * t + p + 2) 0) (15 * t + p) (nI l)) := by
      intro u hu
      by_cases c : u = t
      · subst c
        rw [dt_set_s, pk_us, hpre]
        constructor
        · rw [h1]
          refine congrArg nI ?_
          simp only [List.length_append, List.length_cons]
          omega
        · rw [h1] at y2
          refine yf_split h2 y2 ?_ ⟨pk_us, pk_us⟩ ?_ ?_ ?_
          · intro n hn
            rw [pk_un (by omega), pk_un (by omega), pk_un (by omega), pk_un (by omega), pk_un (by omega), pk_un (by omega)]
            exact v1 n (by omega)
          · rw [pk_un (by omega), pk_un (by omega), pk_us, pk_un (by omega), pk_un (by omega), pk_us, (v1 p (Nat.le_refl p)).2]
            exact ⟨rfl, hw⟩
          · rw [pk_un (by omega), pk_us, pk_un (by omega), pk_us]
            exact ⟨rfl, rfl⟩
          · intro n hn1 hn2
            rw [← h1] at hn2
            rw [pk_un (by omega), pk_un (by omega), pk_un (by omega), pk_un (by omega), pk_un (by omega), pk_un (by omega)]
            exact v2 n hn1 hn2
      · rw [dt_set_n T t _ c, pk_un c]
        refine ⟨(hY u hu).1, ?_⟩
        intro k x hx
        have h15 := dt_len15 hT hu
        have hk := xw_lt hx
        rw [pk_un (by omega), pk_un (by omega), pk_un (by omega), pk_un (by omega), pk_un (by omega), pk_un (by omega), (v3 (15 * u + k) (by omega)).1, (v3 (15 * u + k) (by omega)).2]
        exact (hY u hu).2 k x hx
    unfold wY_split_60
    have e2 : nI (15 * t + p) + 2 = nI (15 * t + p + 2) := nI_add (15 * t + p) 2
    have e3 : nI (dt_pre 8 (T t)).length + 2 = nI ((dt_pre 8 (T t)).length + 2) := nI_add _ 2
    rw [yw_m15, nI_add, nI_1 (15 * t + p), e2, xw_cl (show t < 1000 by omega), xw_cl (show 15 * t + p < 1000 by omega), xw_cl (show 15 * t + p + 1 < 1000 by omega), xw_cl (show 15 * t + p + 2 < 1000 by omega), y1, e3]
    refine br_t (nI_le (Nat.le_refl p) (by omega)) ⟨vp_in_nI (by omega) (by decide), nm_e ⟨vp_in_nI (by omega) (by decide), vp_in_nI (by omega) (by decide), nm_e ⟨vp_in_nI (by omega) (by decide), nm_e ⟨vp_in_nI (by omega) (by decide), nm_e ⟨vp_in_nI (by omega) (by decide), nm_e ⟨vp_in_nI (by omega) (by decide), nm_e ⟨hvt, hvt, nm_e ?_⟩⟩⟩⟩⟩⟩⟩
    refine yw_leaves_t ht pk_us (by omega) ?_
    rw [show ((dt_pre 8 (T t)).length + 2 + 1) / 2 = dt_nl 8 (T t) + 1 by omega]
    exact hp _ _ _ hy
  | succ m ih =>
    intro a n' hm v1 v2 v3
    unfold wY_split_60
    have e2 : nI (15 * t + (dt_pos 8 (T t) i + (m + 1))) + 2 = nI (15 * t + (dt_pos 8 (T t) i + (m + 1)) + 2) := nI_add _ 2
    rw [yw_m15, nI_add (15 * t) (dt_pos 8 (T t) i + (m + 1)), e2, xw_cl (show 15 * t + (dt_pos 8 (T t) i + (m + 1)) < 1000 by omega), xw_cl (show 15 * t + (dt_pos 8 (T t) i + (m + 1)) + 2 < 1000 by omega)]
    refine br_f (nI_ge (by omega) (by omega)) ⟨vp_in_nI (by omega) (by decide), vp_in_nI (by omega) (by decide), nm_e ⟨vp_in_nI (by omega) (by decide), vp_in_nI (by omega) (by decide), nm_e (nm_r (pk_m1 (dt_pos 8 (T t) i + m)) (ih _ _ (by omega) ?_ ?_ ?_))⟩⟩
    · intro n hn
      rw [pk_un (by omega), pk_un (by omega)]
      exact v1 n (by omega)
    · intro n hn1 hn2
      by_cases c : n = dt_pos 8 (T t) i + (m + 1)
      · subst c
        rw [pk_us, pk_us]
        exact v1 _ (Nat.le_refl _)
      · rw [pk_un (by omega), pk_un (by omega)]
        exact v2 n (by omega) hn2
    · intro n hn
      rw [pk_un (by omega), pk_un (by omega)]
      exact v3 n hn
theorem yf_set {t i : Nat} (v : Int32) (hT : ∀ t, t < 4 → dt_nl 8 (T t) ≤ 8 ∧ dt_ok 8 (T t)) (hY : yf_Y T sz ak nu) (ht : t < 4) (hi' : i < dt_nl 8 (T t)) : yf_Y (dt_set T t (dt_sv v 8 (T t) i)) sz ak (upd nu (15 * t + dt_pos 8 (T t) i) v) := by
  obtain ⟨A, w, B, C, D, h1, h2, h3, -, -, h6, -⟩ := dt_dec 8 (T t) i (hT t ht).2 hi'
  have hpl := dt_pos_lt 8 (T t) i hi'
  have h15t := dt_len15 hT ht
  intro u hu
  by_cases c : u = t
  · subst c
    obtain ⟨y1, y2⟩ := hY u hu
    rw [dt_set_s, (h6 v).1]
    constructor
    · rw [y1, h1]
      simp
    · intro k x hx
      rcases xw_g1 (x := ((-1 : Int32), w)) hx with ⟨e1, e2⟩ | ⟨e1, e2⟩
      · rw [e1, e2, h2, pk_us]
        refine ⟨?_, rfl⟩
        have := y2 (dt_pos 8 (T u) i) (-1, w) (by rw [h1, ← h2, List.getElem?_append_right (Nat.le_refl _), Nat.sub_self]; rfl)
        exact this.1
      · rw [← h1] at e2
        rw [pk_un (by omega)]
        exact y2 k x e2
  · rw [dt_set_n T t _ c]
    obtain ⟨y1, y2⟩ := hY u hu
    refine ⟨y1, ?_⟩
    intro k x hx
    have h15 := dt_len15 hT hu
    have hk := xw_lt hx
    rw [pk_un (by omega)]
    exact y2 k x hx
theorem yf_clear {t : Nat} (hT : ∀ t, t < 4 → dt_nl 8 (T t) ≤ 8 ∧ dt_ok 8 (T t)) (hY : yf_Y T sz ak nu) (ht : t < 4) : yf_Y (dt_set T t (dt_lf 8 0)) (upd sz t 1) (upd ak (15 * t) (-1)) (upd nu (15 * t) 0) := by
  intro u hu
  by_cases c : u = t
  · subst c
    rw [dt_set_s, pk_us, dt_pre_lf]
    refine ⟨rfl, ?_⟩
    intro k x hx
    have hk : k < 1 := xw_lt hx
    have : k = 0 := by omega
    subst this
    rw [Nat.add_zero, pk_us, pk_us, ← Option.some.inj hx]
    exact ⟨rfl, rfl⟩
  · rw [dt_set_n T t _ c, pk_un c]
    obtain ⟨y1, y2⟩ := hY u hu
    refine ⟨y1, ?_⟩
    intro k x hx
    have h15 := dt_len15 hT hu
    have hk := xw_lt hx
    rw [pk_un (by omega), pk_un (by omega)]
    exact y2 k x hx
theorem yw_init43 {post : SY → Prop} (hp : ∀ sz ak, (∀ t, t < 4 → sz t = 1 ∧ ak (15 * t) = -1) → post (sz, ak, nu, lo, hi)) : ∀ m t (s a : Nat → Int32), t + m = 4 → (∀ u, u < t → s u = 1 ∧ a (15 * u) = -1) → wY_init_43 post (m + 1) (nI t) s a nu lo hi := by
  intro m
  induction m with
  | zero =>
    intro t s a ht h
    have : t = 4 := by omega
    subst this
    exact br_t (nI_le (a := 4) (by omega) (by omega)) (hp s a h)
  | succ m ih =>
    intro t s a ht h
    unfold wY_init_43
    rw [yw_m15, xw_cl (show t < 1000 by omega), xw_cl (show 15 * t < 1000 by omega)]
    refine br_f (nI_ge (b := 4) (by omega) (by decide)) ⟨vp_in_nI (by omega) (by decide), nm_e ⟨vp_in_nI (by omega) (by decide), nm_e (nm_r (nI_1 t) (ih (t + 1) _ _ (by omega) ?_))⟩⟩
    intro u hu
    by_cases c : u = t
    · subst c
      rw [pk_us, pk_us]
      exact ⟨rfl, rfl⟩
    · rw [pk_un c, pk_un (by omega)]
      exact h u (by omega)
end
section
variable {fc : Int32} {va tr fe li fi ll la st lf : Nat → Int32}
theorem xw_init83 {post : SX → Prop} (hp : ∀ lc, (∀ t, t < 4 → lc t = nI 1) → post (fc, lc, va, tr, fe, li, fi, ll, la, st, lf)) : ∀ m t (lc : Nat → Int32), t + m = 4 → (∀ u, u < t → lc u = nI 1) → wX_init_83 post fc (m + 1) (nI t) lc va tr fe li fi ll la st lf := by
  intro m
  induction m with
  | zero =>
    intro t lc ht h
    have : t = 4 := by omega
    subst this
    exact br_t (nI_le (a := 4) (by omega) (by omega)) (hp lc h)
  | succ m ih =>
    intro t lc ht h
    unfold wX_init_83
    rw [xw_cl (show t < 1000 by omega), show vp_nar .byte 1 = nI 1 from xw_vb (n := 1) (by decide)]
    refine br_f (nI_ge (b := 4) (by omega) (by decide)) ⟨vp_in_nI (by omega) (by decide), nm_e (nm_r (nI_1 t) (ih (t + 1) _ (by omega) ?_))⟩
    intro u hu
    by_cases c : u = t
    · subst c
      rw [pk_us]
    · rw [pk_un c]
      exact h u (by omega)
end
end
section
/-! ===== the relation, and what is owed ===== -/
/-- one list of trees and one table of forks behind both states -/
def i_Rel (k : Nat) (u : SX) (v : SY) : Prop := match u, v with
  | (fc, lc, va, tr, fe, li, fi, ll, la, st, lf), (sz, ak, nu, lo, hi) => ∃ (T : Nat → dt_T 8) (L : List xf_F), xf_X T L fc lc va tr fe li fi ll la st ∧ yf_Y T sz ak nu
theorem i_up {k : Nat} {u : SX} {v : SY} (h : i_Rel k u v) : i_Rel (k + 5) u v := h
theorem zz_ge {x : Int32} {n : Nat} (hn : n < 100000) (h : nI (n + 1) ≤ x) : ¬ x < 0 ∧ nI n < x ∧ ¬ x ≤ nI n := by
  have h0 : (0 : Int32).toInt = 0 := by decide
  rw [Int32.le_iff_toInt_le, nI_toInt (by omega)] at h
  rw [Int32.lt_iff_toInt_lt, Int32.lt_iff_toInt_lt, Int32.le_iff_toInt_le, nI_toInt (by omega), h0]
  omega
theorem zz_bad3 {x : Int32} {A B : Prop} (h : x < 0 ∨ nI 4 ≤ x) (a : A) : (x < 0 → A) ∧ (¬ x < 0 → ((3 < x → A) ∧ (¬ 3 < x → B))) := by
  rcases h with h | h
  · exact br_t h a
  · have := zz_ge (n := 3) (by decide) h
    exact br_f this.1 (br_t this.2.1 a)
section
variable {k : Nat} {fc : Int32} {lc va tr fe li fi ll la st lf sz ak nu lo hi : Nat → Int32} {T : Nat → dt_T 8} {L : List xf_F}
theorem zz_in (hX : xf_X T L fc lc va tr fe li fi ll la st) (hY : yf_Y T sz ak nu) : i_Rel k (fc, lc, va, tr, fe, li, fi, ll, la, st, lf) (sz, ak, nu, lo, hi) := ⟨T, L, hX, hY⟩
theorem zz_n8 (hX : xf_X T L fc lc va tr fe li fi ll la st) : ∀ t, t < 4 → dt_nl 8 (T t) ≤ 8 := fun t ht => (hX.1.2.2.2 t ht).1
theorem zz_split (hX : xf_X T L fc lc va tr fe li fi ll la st) (hY : yf_Y T sz ak nu) (v1 v2 v3 v4 : Int32) : wpX_split (fun r u' => wpY_split (fun r' v' => r' = r ∧ i_Rel (k + 5) u' v') (sz, ak, nu, lo, hi) v1 v2 v3 v4) (fc, lc, va, tr, fe, li, fi, ll, la, st, lf) v1 v2 v3 v4 := by
  have hT := hX.1.2.2.2
  have hN := hX.2.2.1
  unfold wpX_split wpY_split
  dsimp only
  by_cases hlf : ∃ t i, t < 4 ∧ i < dt_nl 8 (T t) ∧ v1 = nI t ∧ v2 = nI i
  · obtain ⟨t, i, ht, hi', rfl, rfl⟩ := hlf
    have h8 := (hT t ht).1
    have hvt : vp_in (nI t) 4 := vp_in_nI ht (by decide)
    have hpl := dt_pos_lt 8 (T t) i hi'
    have hlen := dt_len 8 (T t)
    have hnp : ¬ nI (dt_pos 8 (T t) i) < 0 := nI_pos (by omega)
    refine xw_leaf_t hN ht hi' h8 (br_f (by decide) ?_)
    rcases pk_ix v3 (n := 4) (by decide) with c | c | ⟨f, hf, rfl⟩
    · exact xw_feat_f (Or.inl c) (br_t rfl (yw_find_t hT hY ht hi' (br_f hnp (zz_bad3 (Or.inl c) ⟨rfl, zz_in hX hY⟩))))
    · exact xw_feat_f (Or.inr c) (br_t rfl (yw_find_t hT hY ht hi' (br_f hnp (zz_bad3 (Or.inr c) ⟨rfl, zz_in hX hY⟩))))
    · refine xw_feat_t hf (br_f (by decide) ?_)
      have hf0 : ¬ nI f < 0 := nI_pos (by omega)
      have hf3 : ¬ (3 : Int32) < nI f := nI_nlt (a := 3) (b := f) (by omega) (by decide)
      rcases pk_ix v4 (n := 16) (by decide) with c | c | ⟨l, hl, rfl⟩
      · exact br_t c (yw_find_t hT hY ht hi' (br_f hnp (br_f hf0 (br_f hf3 (br_t c ⟨rfl, zz_in hX hY⟩)))))
      · have c2 := zz_ge (n := 15) (by decide) c
        exact br_f c2.1 (br_f c2.2.2 (yw_find_t hT hY ht hi' (br_f hnp (br_f hf0 (br_f hf3 (br_f c2.1 (br_f c2.2.2 ⟨rfl, zz_in hX hY⟩)))))))
      · have hl0 : ¬ nI l < 0 := nI_pos (by omega)
        have hl15 : nI l ≤ (15 : Int32) := nI_le (a := l) (b := 15) (by omega) (by decide)
        rw [xw_cl (show t < 1000 by omega), hN t ht, (hY t ht).1]
        refine br_f hl0 (br_t hl15 ⟨hvt, pk_lt (dt_nl 8 (T t)) 8 (fun c => ?_) (fun c => ?_)⟩)
        · refine xw_split hX ht hi' c hf hl ?_
          intro L' lc' va' tr' fe' li' fi' ll' la' st' hX'
          refine yw_find_t hT hY ht hi' (br_f hnp (br_f hf0 (br_f hf3 (br_f hl0 (br_t hl15 ⟨hvt, br_t (nI_lt (b := 15) (by omega) (by decide)) ⟨hvt, ?_⟩⟩)))))
          have e : nI (dt_pre 8 (T t)).length - 1 = nI (dt_pos 8 (T t) i + ((dt_pre 8 (T t)).length - 1 - dt_pos 8 (T t) i)) := by
            obtain ⟨n, hn⟩ : ∃ n, (dt_pre 8 (T t)).length = n + 1 := ⟨(dt_pre 8 (T t)).length - 1, by omega⟩
            rw [hn, nI_pred]
            exact congrArg nI (by omega)
          refine nm_r e ⟨_, yw_sp60 hT hY ht hi' c hf hl ?_ _ ak nu (by omega) (fun n _ => ⟨rfl, rfl⟩) (fun n h1 h2 => by omega) (fun n _ => ⟨rfl, rfl⟩)⟩
          intro sz' ak' nu' hY'
          exact ⟨rfl, zz_in hX' hY'⟩
        · exact yw_find_t hT hY ht hi' (br_f hnp (br_f hf0 (br_f hf3 (br_f hl0 (br_t hl15 ⟨hvt, br_f (nI_nlt (b := 15) (by omega) (by omega)) ⟨rfl, zz_in hX hY⟩⟩)))))
  · have hn : ∀ t i, t < 4 → i < dt_nl 8 (T t) → v1 = nI t → v2 = nI i → False := fun t i h1 h2 h3 h4 => hlf ⟨t, i, h1, h2, h3, h4⟩
    exact xw_leaf_f hN (zz_n8 hX) hn (br_t rfl (yw_find_f hT hY hn (br_t yw_neg ⟨rfl, zz_in hX hY⟩)))
theorem zz_setValue (hX : xf_X T L fc lc va tr fe li fi ll la st) (hY : yf_Y T sz ak nu) (v1 v2 v3 : Int32) : wpX_setValue (fun r u' => wpY_setValue (fun r' v' => r' = r ∧ i_Rel (k + 5) u' v') (sz, ak, nu, lo, hi) v1 v2 v3) (fc, lc, va, tr, fe, li, fi, ll, la, st, lf) v1 v2 v3 := by
  have hT := hX.1.2.2.2
  have hN := hX.2.2.1
  unfold wpX_setValue wpY_setValue
  dsimp only
  by_cases hlf : ∃ t i, t < 4 ∧ i < dt_nl 8 (T t) ∧ v1 = nI t ∧ v2 = nI i
  · obtain ⟨t, i, ht, hi', rfl, rfl⟩ := hlf
    have h8 := (hT t ht).1
    have hpl := dt_pos_lt 8 (T t) i hi'
    have hlen := dt_len 8 (T t)
    rw [xw_m8, nI_add, xw_cl (show t * 8 + i < 1000 by omega)]
    refine xw_leaf_t hN ht hi' h8 (br_f (by decide) ⟨vp_in_nI (by omega) (by decide), nm_e (yw_find_t hT hY ht hi' (br_t (nI_pos' (by omega)) ?_))⟩)
    rw [yw_m15, nI_add, xw_cl (by omega)]
    refine ⟨vp_in_nI (by omega) (by decide), nm_e ⟨rfl, zz_in (T := dt_set T t (dt_sv v3 8 (T t) i)) (L := L) ⟨xf_setv hX.1 t i v3, hX.2.1, ?_, xw_V_set v3 hT ht hi' hX.2.2.2.1, hX.2.2.2.2.1, hX.2.2.2.2.2⟩ (yf_set v3 hT hY ht hi')⟩⟩
    intro u hu
    by_cases c : u = t
    · subst c
      rw [dt_set_s, dt_sv_nl]
      exact hN u hu
    · rw [dt_set_n T t _ c]
      exact hN u hu
  · have hn : ∀ t i, t < 4 → i < dt_nl 8 (T t) → v1 = nI t → v2 = nI i → False := fun t i h1 h2 h3 h4 => hlf ⟨t, i, h1, h2, h3, h4⟩
    exact xw_leaf_f hN (zz_n8 hX) hn (br_t rfl (yw_find_f hT hY hn (br_f yw_n0 ⟨rfl, zz_in hX hY⟩)))
theorem zz_clear (hX : xf_X T L fc lc va tr fe li fi ll la st) (hY : yf_Y T sz ak nu) (v1 : Int32) : wpX_clear (fun r u' => wpY_clear (fun r' v' => r' = r ∧ i_Rel (k + 5) u' v') (sz, ak, nu, lo, hi) v1) (fc, lc, va, tr, fe, li, fi, ll, la, st, lf) v1 := by
  have hT := hX.1.2.2.2
  unfold wpX_clear wpY_clear
  dsimp only
  rcases pk_ix v1 (n := 4) (by decide) with c | c | ⟨t, ht, rfl⟩
  · exact xw_tree_f (Or.inl c) (br_t rfl (yw_tree_f (Or.inl c) (br_t rfl ⟨rfl, zz_in hX hY⟩)))
  · exact xw_tree_f (Or.inr c) (br_t rfl (yw_tree_f (Or.inr c) (br_t rfl ⟨rfl, zz_in hX hY⟩)))
  · refine xw_tree_t ht (br_f (by decide) (xw_clear hX ht ?_))
    intro L' lc' va' tr' fe' li' fi' ll' la' st' hX'
    rw [yw_m15, xw_cl (show t < 1000 by omega), xw_cl (show 15 * t < 1000 by omega)]
    exact yw_tree_t ht (br_f (by decide) ⟨vp_in_nI ht (by decide), nm_e ⟨vp_in_nI (by omega) (by decide), nm_e ⟨vp_in_nI (by omega) (by decide), nm_e ⟨rfl, zz_in hX' (yf_clear hT hY ht)⟩⟩⟩⟩)
theorem zz_leaves (hX : xf_X T L fc lc va tr fe li fi ll la st) (hY : yf_Y T sz ak nu) (v1 : Int32) : wpX_leaves (fun r => wpY_leaves (fun r' => r' = r ∧ i_Rel (k + 5) (fc, lc, va, tr, fe, li, fi, ll, la, st, lf) (sz, ak, nu, lo, hi)) (sz, ak, nu, lo, hi) v1) (fc, lc, va, tr, fe, li, fi, ll, la, st, lf) v1 := by
  have hT := hX.1.2.2.2
  unfold wpX_leaves
  dsimp only
  rcases pk_ix v1 (n := 4) (by decide) with c | c | ⟨t, ht, rfl⟩
  · refine xw_tree_f (Or.inl c) (br_t rfl ?_)
    unfold wpY_leaves
    exact yw_tree_f (Or.inl c) (br_t rfl ⟨rfl, zz_in hX hY⟩)
  · refine xw_tree_f (Or.inr c) (br_t rfl ?_)
    unfold wpY_leaves
    exact yw_tree_f (Or.inr c) (br_t rfl ⟨rfl, zz_in hX hY⟩)
  · have h15 := dt_len15 hT ht
    have hlen := dt_len 8 (T t)
    rw [xw_cl (show t < 1000 by omega), hX.2.2.1 t ht]
    refine xw_tree_t ht (br_f (by decide) ⟨vp_in_nI ht (by decide), yw_leaves_t ht (hY t ht).1 (by omega) ⟨?_, zz_in hX hY⟩⟩)
    exact congrArg nI (by omega)
theorem zz_value (hX : xf_X T L fc lc va tr fe li fi ll la st) (hY : yf_Y T sz ak nu) (v1 v2 : Int32) : wpX_value (fun r => wpY_value (fun r' => r' = r ∧ i_Rel (k + 5) (fc, lc, va, tr, fe, li, fi, ll, la, st, lf) (sz, ak, nu, lo, hi)) (sz, ak, nu, lo, hi) v1 v2) (fc, lc, va, tr, fe, li, fi, ll, la, st, lf) v1 v2 := by
  have hT := hX.1.2.2.2
  have hN := hX.2.2.1
  unfold wpX_value
  dsimp only
  by_cases hlf : ∃ t i, t < 4 ∧ i < dt_nl 8 (T t) ∧ v1 = nI t ∧ v2 = nI i
  · obtain ⟨t, i, ht, hi', rfl, rfl⟩ := hlf
    have h8 := (hT t ht).1
    rw [xw_m8, nI_add, xw_cl (show t * 8 + i < 1000 by omega), hX.2.2.2.1 t ht i _ (dt_at_get hi')]
    exact xw_leaf_t hN ht hi' h8 (br_f (by decide) ⟨vp_in_nI (by omega) (by decide), yw_value_t hT hY ht hi' ⟨rfl, zz_in hX hY⟩⟩)
  · have hn : ∀ t i, t < 4 → i < dt_nl 8 (T t) → v1 = nI t → v2 = nI i → False := fun t i h1 h2 h3 h4 => hlf ⟨t, i, h1, h2, h3, h4⟩
    refine xw_leaf_f hN (zz_n8 hX) hn (br_t rfl ?_)
    unfold wpY_value
    exact yw_find_f hT hY hn (br_f yw_n0 ⟨rfl, zz_in hX hY⟩)
theorem zz_leafOf (hX : xf_X T L fc lc va tr fe li fi ll la st) (hY : yf_Y T sz ak nu) (v1 v2 : Int32) : wpX_leafOf (fun r u' => wpY_leafOf (fun r' => r' = r ∧ i_Rel (k + 5) u' (sz, ak, nu, lo, hi)) (sz, ak, nu, lo, hi) v1 v2) (fc, lc, va, tr, fe, li, fi, ll, la, st, lf) v1 v2 := by
  have hT := hX.1.2.2.2
  unfold wpX_leafOf wpY_leafOf
  dsimp only
  rcases pk_ix v1 (n := 4) (by decide) with c | c | ⟨t, ht, rfl⟩
  · exact xw_tree_f (Or.inl c) (br_t rfl (yw_tree_f (Or.inl c) (br_t rfl ⟨rfl, zz_in hX hY⟩)))
  · exact xw_tree_f (Or.inr c) (br_t rfl (yw_tree_f (Or.inr c) (br_t rfl ⟨rfl, zz_in hX hY⟩)))
  · refine xw_tree_t ht (br_f (by decide) ?_)
    rcases xw_pt v2 with c | ⟨p, hp, rfl⟩
    · exact xw_point_f c (br_t rfl (yw_tree_t ht (br_f (by decide) (yw_point_f c (br_t rfl ⟨rfl, zz_in hX hY⟩)))))
    · obtain ⟨w1, w2, w3⟩ := yw_wm hT ht (xw_q (nI p))
      refine xw_point_t hp (br_f (by decide) (xw_sift hX ?_))
      intro lf' hE
      refine xw_first hX.1 hE ht (yw_tree_t ht (br_f (by decide) (yw_point_t hp (br_f (by decide) (yw_walk hT hY ht ⟨by decide, ?_, zz_in hX hY⟩)))))
      rw [yw_r16 (by omega), w2]
theorem zz_score (hX : xf_X T L fc lc va tr fe li fi ll la st) (hY : yf_Y T sz ak nu) (v1 : Int32) : wpX_score (fun r u' => wpY_score (fun r' => r' = r ∧ i_Rel (k + 5) u' (sz, ak, nu, lo, hi)) (sz, ak, nu, lo, hi) v1) (fc, lc, va, tr, fe, li, fi, ll, la, st, lf) v1 := by
  have hT := hX.1.2.2.2
  unfold wpX_score
  dsimp only
  rcases xw_pt v1 with c | ⟨p, hp, rfl⟩
  · exact xw_point_f c (br_t rfl (yw_score_f c ⟨rfl, zz_in hX hY⟩))
  · refine xw_point_t hp (br_f (by decide) (xw_scoreOf hX ?_))
    intro lf'
    exact yw_score hp hT hY ⟨rfl, zz_in hX hY⟩
theorem zz_depth (hX : xf_X T L fc lc va tr fe li fi ll la st) (hY : yf_Y T sz ak nu) (v1 : Int32) : wpX_depth (fun r u' => wpY_depth (fun r' => r' = r ∧ i_Rel (k + 5) u' (sz, ak, nu, lo, hi)) (sz, ak, nu, lo, hi) v1) (fc, lc, va, tr, fe, li, fi, ll, la, st, lf) v1 := by
  have hT := hX.1.2.2.2
  unfold wpX_depth
  dsimp only
  rcases xw_pt v1 with c | ⟨p, hp, rfl⟩
  · exact xw_point_f c (br_t rfl (yw_depth_f c ⟨rfl, zz_in hX hY⟩))
  · refine xw_point_t hp (br_f (by decide) (xw_sift hX ?_))
    intro lf' hE
    have hX' := hX
    obtain ⟨g1, rfl, g3, g4, g5, g6⟩ := hX
    refine ⟨_, xw_dp18 g1 g5 hE ?_ L.length 0 (by omega)⟩
    refine yw_depth hp hT hY ⟨?_, zz_in hX' hY⟩
    refine congrArg nI ?_
    rw [xf_ov_cnt g1]
    show 0 + dt_dp _ 8 (T 0) + dt_dp _ 8 (T 1) + dt_dp _ 8 (T 2) + dt_dp _ 8 (T 3) = _
    omega
end
end
section
/-! ===== the other cases, and the owed names ===== -/
section
variable {k : Nat} {fc : Int32} {lc va tr fe li fi ll la st lf sz ak nu lo hi : Nat → Int32} {T : Nat → dt_T 8} {L : List xf_F}
theorem zz_leavesAlong (hX : xf_X T L fc lc va tr fe li fi ll la st) (hY : yf_Y T sz ak nu) (v1 v2 v3 : Int32) : wpX_leavesAlong (fun r u' => wpY_leavesAlong (fun r' => r' = r ∧ i_Rel (k + 5) u' (sz, ak, nu, lo, hi)) (sz, ak, nu, lo, hi) v1 v2 v3) (fc, lc, va, tr, fe, li, fi, ll, la, st, lf) v1 v2 v3 := by
  have hT := hX.1.2.2.2
  have bad : ∀ post : Int32 → Prop, post 0 → ((v1 < 0 ∨ nI 4 ≤ v1) ∨ (∃ t, t < 4 ∧ v1 = nI t) ∧ (xw_np v2 ∨ (∃ p, p < 65536 ∧ v2 = nI p) ∧ (v3 < 0 ∨ nI 4 ≤ v3))) → wpY_leavesAlong post (sz, ak, nu, lo, hi) v1 v2 v3 := by
    intro post hp h
    unfold wpY_leavesAlong
    dsimp only
    refine ⟨0 + 1, ?_⟩
    unfold wY_leavesAlong_6
    refine br_f (by decide) ?_
    rcases h with h | ⟨⟨t, ht, rfl⟩, h⟩
    · exact yw_tree_f h (br_t rfl hp)
    · refine yw_tree_t ht (br_f (by decide) ?_)
      rcases h with h | ⟨⟨p, hpt, rfl⟩, h⟩
      · exact yw_point_f h (br_t rfl hp)
      · exact yw_point_t hpt (br_f (by decide) (zz_bad3 h hp))
  unfold wpX_leavesAlong
  dsimp only
  rcases pk_ix v1 (n := 4) (by decide) with c | c | ⟨t, ht, rfl⟩
  · exact xw_tree_f (Or.inl c) (br_t rfl (bad _ ⟨rfl, zz_in hX hY⟩ (Or.inl (Or.inl c))))
  · exact xw_tree_f (Or.inr c) (br_t rfl (bad _ ⟨rfl, zz_in hX hY⟩ (Or.inl (Or.inr c))))
  · refine xw_tree_t ht (br_f (by decide) ?_)
    rcases xw_pt v2 with c | ⟨p, hp, rfl⟩
    · exact xw_point_f c (br_t rfl (bad _ ⟨rfl, zz_in hX hY⟩ (Or.inr ⟨⟨t, ht, rfl⟩, Or.inl c⟩)))
    · refine xw_point_t hp (br_f (by decide) ?_)
      rcases pk_ix v3 (n := 4) (by decide) with c | c | ⟨f, hf, rfl⟩
      · exact xw_feat_f (Or.inl c) (br_t rfl (bad _ ⟨rfl, zz_in hX hY⟩ (Or.inr ⟨⟨t, ht, rfl⟩, Or.inr ⟨⟨p, hp, rfl⟩, Or.inl c⟩⟩)))
      · exact xw_feat_f (Or.inr c) (br_t rfl (bad _ ⟨rfl, zz_in hX hY⟩ (Or.inr ⟨⟨t, ht, rfl⟩, Or.inr ⟨⟨p, hp, rfl⟩, Or.inr c⟩⟩)))
      · refine xw_feat_t hf (br_f (by decide) ⟨16 + 1, xw_la29 hX ht ?_ 16 0 lf (by omega)⟩)
        intro lf'
        unfold wpY_leavesAlong
        dsimp only
        exact ⟨16 + 1, yw_la6 hT hY ht hp hf ⟨rfl, zz_in hX hY⟩ 16 0 (by omega)⟩
theorem zz_bestValue (hX : xf_X T L fc lc va tr fe li fi ll la st) (hY : yf_Y T sz ak nu) (v1 v2 : Int32) : wpX_bestValue (fun r u' => wpY_bestValue (fun r' => r' = r ∧ i_Rel (k + 5) u' (sz, ak, nu, lo, hi)) (sz, ak, nu, lo, hi) v1 v2) (fc, lc, va, tr, fe, li, fi, ll, la, st, lf) v1 v2 := by
  have hT := hX.1.2.2.2
  unfold wpX_bestValue wpY_bestValue
  dsimp only
  rcases xw_pt v1 with c | ⟨p, hp, rfl⟩
  · exact xw_point_f c (br_t rfl (yw_point_f c (br_t rfl ⟨rfl, zz_in hX hY⟩)))
  · refine xw_point_t hp (br_f (by decide) ?_)
    rcases pk_ix v2 (n := 4) (by decide) with c | c | ⟨f, hf, rfl⟩
    · exact xw_feat_f (Or.inl c) (br_t rfl (yw_point_t hp (br_f (by decide) (br_t c ⟨rfl, zz_in hX hY⟩))))
    · have c2 := zz_ge (n := 3) (by decide) c
      exact xw_feat_f (Or.inr c) (br_t rfl (yw_point_t hp (br_f (by decide) (br_f c2.1 (br_f c2.2.2 ⟨rfl, zz_in hX hY⟩)))))
    · refine xw_feat_t hf (br_f (by decide) (xw_best hX ?_))
      intro lf'
      refine yw_point_t hp (br_f (by decide) (br_f (nI_pos (by omega)) (br_t (nI_le (a := f) (b := 3) (by omega) (by decide)) ?_)))
      obtain ⟨r, hr, er⟩ := xw_wi_pt (p := p) (f := f) (v := 0) hp hf (by omega)
      have es : xw_vs T (nI p) (nI f) 0 = xw_sc (xw_q (nI r)) T 4 := by unfold xw_vs; rw [er]
      unfold wpY_with
      dsimp only
      show wpY_score _ _ (xw_wi (nI p) (nI f) (nI 0))
      rw [er]
      refine yw_score hr hT hY ?_
      rw [← es]
      exact ⟨15 + 1, yw_bv41 hT hY hp hf ⟨rfl, zz_in hX hY⟩ 15 0 (by omega)⟩
theorem zz_reachable (hX : xf_X T L fc lc va tr fe li fi ll la st) (hY : yf_Y T sz ak nu) (v1 : Int32) : wpX_reachable (fun r => wpY_reachable (fun r' v' => r' = r ∧ i_Rel (k + 5) (fc, lc, va, tr, fe, li, fi, ll, la, st, lf) v') (sz, ak, nu, lo, hi) v1) (fc, lc, va, tr, fe, li, fi, ll, la, st, lf) v1 := by
  have hT := hX.1.2.2.2
  have bad : (v1 < 0 ∨ nI 4 ≤ v1) → ∀ post : Int32 → SY → Prop, (∀ lo hi, post 0 (sz, ak, nu, lo, hi)) → wpY_reachable post (sz, ak, nu, lo, hi) v1 := by
    intro c post hp
    unfold wpY_reachable
    dsimp only
    refine ⟨8 + 1, yw_re4_f hT hY ?_ hp 8 0 lo hi (by omega)⟩
    intro t ht e
    rw [e] at c
    rcases c with c | c
    · exact nI_pos (by omega) c
    · exact nI_ge (b := 4) ht (by decide) c
  unfold wpX_reachable
  dsimp only
  rcases pk_ix v1 (n := 4) (by decide) with c | c | ⟨t, ht, rfl⟩
  · exact xw_tree_f (Or.inl c) (br_t rfl (bad (Or.inl c) _ (fun _ _ => ⟨rfl, zz_in hX hY⟩)))
  · exact xw_tree_f (Or.inr c) (br_t rfl (bad (Or.inr c) _ (fun _ _ => ⟨rfl, zz_in hX hY⟩)))
  · refine xw_tree_t ht (br_f (by decide) (xw_reach hX ht ?_))
    unfold wpY_reachable
    dsimp only
    exact ⟨8 + 1, yw_re4 hT hY ht (fun _ _ => ⟨rfl, zz_in hX hY⟩) 8 0 lo hi (by omega)⟩
theorem zz_range (hX : xf_X T L fc lc va tr fe li fi ll la st) (hY : yf_Y T sz ak nu) (v1 v2 v3 v4 : Int32) : wpX_range (fun r => wpY_range (fun r' v' => r' = r ∧ i_Rel (k + 5) (fc, lc, va, tr, fe, li, fi, ll, la, st, lf) v') (sz, ak, nu, lo, hi) v1 v2 v3 v4) (fc, lc, va, tr, fe, li, fi, ll, la, st, lf) v1 v2 v3 v4 := by
  have hT := hX.1.2.2.2
  have hN := hX.2.2.1
  unfold wpX_range wpY_range
  dsimp only
  by_cases hlf : ∃ t i, t < 4 ∧ i < dt_nl 8 (T t) ∧ v1 = nI t ∧ v2 = nI i
  · obtain ⟨t, i, ht, hi', rfl, rfl⟩ := hlf
    have h8 := (hT t ht).1
    refine xw_leaf_t hN ht hi' h8 (br_f (by decide) ?_)
    rcases pk_ix v3 (n := 4) (by decide) with c | c | ⟨f, hf, rfl⟩
    · exact xw_feat_f (Or.inl c) (br_t rfl (yw_box_t hT hY ht hi' (fun _ _ _ _ => br_f (by decide) (zz_bad3 (Or.inl c) ⟨rfl, zz_in hX hY⟩)) (fun _ _ _ => br_t rfl ⟨rfl, zz_in hX hY⟩)))
    · exact xw_feat_f (Or.inr c) (br_t rfl (yw_box_t hT hY ht hi' (fun _ _ _ _ => br_f (by decide) (zz_bad3 (Or.inr c) ⟨rfl, zz_in hX hY⟩)) (fun _ _ _ => br_t rfl ⟨rfl, zz_in hX hY⟩)))
    · have hf0 : ¬ nI f < 0 := nI_pos (by omega)
      have hf3 : ¬ (3 : Int32) < nI f := nI_nlt (a := 3) (b := f) (by omega) (by decide)
      have hvf : vp_in (nI f) 4 := vp_in_nI hf (by decide)
      refine xw_feat_t hf (br_f (by decide) ?_)
      rcases pk_ix v4 (n := 2) (by decide) with c | c | ⟨w, hw, rfl⟩
      · have n0 : ¬ v4 = 0 := by intro z; rw [z] at c; exact absurd c (by decide)
        have n1 : ¬ v4 = 1 := by intro z; rw [z] at c; exact absurd c (by decide)
        exact br_t c (yw_box_t hT hY ht hi' (fun _ _ _ _ => br_f (by decide) (br_f hf0 (br_f hf3 (br_f n0 (br_f n1 ⟨rfl, zz_in hX hY⟩))))) (fun _ _ _ => br_t rfl ⟨rfl, zz_in hX hY⟩))
      · have c2 := zz_ge (n := 1) (by decide) c
        have n0 : ¬ v4 = 0 := by intro z; rw [z] at c; exact absurd c (by decide)
        have n1 : ¬ v4 = 1 := by intro z; rw [z] at c; exact absurd c (by decide)
        exact br_f c2.1 (br_t c2.2.1 (yw_box_t hT hY ht hi' (fun _ _ _ _ => br_f (by decide) (br_f hf0 (br_f hf3 (br_f n0 (br_f n1 ⟨rfl, zz_in hX hY⟩))))) (fun _ _ _ => br_t rfl ⟨rfl, zz_in hX hY⟩)))
      · refine br_f (nI_pos (by omega)) (br_f (nI_nlt (a := 1) (b := w) (by omega) (by decide)) (xw_canReach hX ht hi' (fun z => br_f (by decide) ?_) (fun z => br_t rfl (yw_box_t hT hY ht hi' (fun y => absurd y z) (fun _ _ _ => br_t rfl ⟨rfl, zz_in hX hY⟩)))))
        have hw' : w = 0 ∨ w = 1 := by omega
        rcases hw' with rfl | rfl
        · refine br_t rfl (xw_lowEnd hX ht hf hi' (yw_box_t hT hY ht hi' (fun _ lo' hi2 hh => br_f (by decide) (br_f hf0 (br_f hf3 (br_t rfl ?_)))) (fun y => absurd z y)))
          unfold wY_range_31
          rw [xw_cl (show f < 1000 by omega)]
          exact br_t rfl ⟨hvf, (hh f hf).1, zz_in hX hY⟩
        · refine br_f (by decide) (xw_highEnd hX ht hf hi' (yw_box_t hT hY ht hi' (fun _ lo' hi2 hh => br_f (by decide) (br_f hf0 (br_f hf3 (br_f (by decide) (br_t rfl ?_))))) (fun y => absurd z y)))
          unfold wY_range_31
          rw [xw_cl (show f < 1000 by omega)]
          exact br_f (by decide) ⟨hvf, (hh f hf).2, zz_in hX hY⟩
  · have hn : ∀ t i, t < 4 → i < dt_nl 8 (T t) → v1 = nI t → v2 = nI i → False := fun t i h1 h2 h3 h4 => hlf ⟨t, i, h1, h2, h3, h4⟩
    exact xw_leaf_f hN (zz_n8 hX) hn (br_t rfl (yw_box_f hT hY hn (br_t rfl ⟨rfl, zz_in hX hY⟩)))
theorem zz_asks (hX : xf_X T L fc lc va tr fe li fi ll la st) (hY : yf_Y T sz ak nu) (v1 : Int32) : wpX_asks (fun r => wpY_asks (fun r' => r' = r ∧ i_Rel (k + 5) (fc, lc, va, tr, fe, li, fi, ll, la, st, lf) (sz, ak, nu, lo, hi)) (sz, ak, nu, lo, hi) v1) (fc, lc, va, tr, fe, li, fi, ll, la, st, lf) v1 := by
  have hT := hX.1.2.2.2
  have hS := hX.2.2.2.2.2
  unfold wpX_asks wpY_asks
  dsimp only
  rcases pk_ix v1 (n := 4) (by decide) with c | c | ⟨g, hg, rfl⟩
  · exact xw_feat_f (Or.inl c) (br_t rfl ⟨60 + 1, yw_as4_f (Or.inl c) ⟨rfl, zz_in hX hY⟩ 60 0 _ (by omega)⟩)
  · exact xw_feat_f (Or.inr c) (br_t rfl ⟨60 + 1, yw_as4_f (Or.inr c) ⟨rfl, zz_in hX hY⟩ 60 0 _ (by omega)⟩)
  · have e := yw_ac60 hX.1 hg
    have e0 := yw_ac0 (T := T) g
    rw [nI_1, xw_cl (show g + 1 < 1000 by omega), xw_cl (show g < 1000 by omega), hS (g + 1) (by omega), hS g (by omega), e, pk_sub (by omega), Nat.add_sub_cancel_left]
    refine xw_feat_t hg (br_f (by decide) ⟨vp_in_nI (by omega) (by decide), vp_in_nI (by omega) (by decide), 60 + 1, ?_⟩)
    have := yw_as4 (lo := lo) (hi := hi) (post := fun r' => r' = nI (yw_ac g T 60) ∧ i_Rel (k + 5) (fc, lc, va, tr, fe, li, fi, ll, la, st, lf) (sz, ak, nu, lo, hi)) hT hY hg ⟨rfl, zz_in hX hY⟩ 60 0 (by omega)
    rw [e0] at this
    exact this
end
theorem i_vc0 : wpX_init (fun u => wpY_init (fun v => i_Rel 0 u v)) := by
  refine ⟨5, xw_init83 ?_ 4 0 _ (by omega) (fun u hu => absurd hu (Nat.not_lt_zero u))⟩
  intro lc hlc
  refine ⟨5, yw_init43 ?_ 4 0 _ _ (by omega) (fun u hu => absurd hu (Nat.not_lt_zero u))⟩
  intro sz ak hh
  refine zz_in (T := fun _ => dt_lf 8 0) (L := []) ⟨xf_L0, rfl, ?_, ?_, ?_, ?_⟩ ?_
  · intro t ht
    rw [dt_nl_lf]
    exact hlc t ht
  · intro t ht i v h
    rw [dt_lv_lf] at h
    have hk : i < 1 := xw_lt h
    have : i = 0 := by omega
    subst this
    exact Option.some.inj h
  · intro j x hx
    rw [List.getElem?_nil] at hx
    cases hx
  · intro g _
    rfl
  · intro t ht
    rw [dt_pre_lf]
    refine ⟨(hh t ht).1, ?_⟩
    intro k x hx
    have hk : k < 1 := xw_lt hx
    have : k = 0 := by omega
    subst this
    rw [← Option.some.inj hx]
    exact ⟨(hh t ht).2, rfl⟩
end
section
/-! ===== the owed names, at their owed statements ===== -/
theorem i_vc_split {k : Nat} {u : SX} {v : SY} (I : i_Rel k u v) (hk : k + 5 ≤ 2560) (v1 : Int32) (v2 : Int32) (v3 : Int32) (v4 : Int32) : wpX_split (fun r u' => wpY_split (fun r' v' => r' = r ∧ i_Rel (k + 5) u' v') v v1 v2 v3 v4) u v1 v2 v3 v4 := by
  obtain ⟨fc, lc, va, tr, fe, li, fi, ll, la, st, lf⟩ := u
  obtain ⟨sz, ak, nu, lo, hi⟩ := v
  obtain ⟨T, L, hX, hY⟩ := I
  exact zz_split hX hY v1 v2 v3 v4
theorem i_vc_setValue {k : Nat} {u : SX} {v : SY} (I : i_Rel k u v) (hk : k + 5 ≤ 2560) (v1 : Int32) (v2 : Int32) (v3 : Int32) : wpX_setValue (fun r u' => wpY_setValue (fun r' v' => r' = r ∧ i_Rel (k + 5) u' v') v v1 v2 v3) u v1 v2 v3 := by
  obtain ⟨fc, lc, va, tr, fe, li, fi, ll, la, st, lf⟩ := u
  obtain ⟨sz, ak, nu, lo, hi⟩ := v
  obtain ⟨T, L, hX, hY⟩ := I
  exact zz_setValue hX hY v1 v2 v3
theorem i_vc_clear {k : Nat} {u : SX} {v : SY} (I : i_Rel k u v) (hk : k + 5 ≤ 2560) (v1 : Int32) : wpX_clear (fun r u' => wpY_clear (fun r' v' => r' = r ∧ i_Rel (k + 5) u' v') v v1) u v1 := by
  obtain ⟨fc, lc, va, tr, fe, li, fi, ll, la, st, lf⟩ := u
  obtain ⟨sz, ak, nu, lo, hi⟩ := v
  obtain ⟨T, L, hX, hY⟩ := I
  exact zz_clear hX hY v1
theorem i_vc_leaves {k : Nat} {u : SX} {v : SY} (I : i_Rel k u v) (hk : k + 5 ≤ 2560) (v1 : Int32) : wpX_leaves (fun r => wpY_leaves (fun r' => r' = r ∧ i_Rel (k + 5) u v) v v1) u v1 := by
  obtain ⟨fc, lc, va, tr, fe, li, fi, ll, la, st, lf⟩ := u
  obtain ⟨sz, ak, nu, lo, hi⟩ := v
  obtain ⟨T, L, hX, hY⟩ := I
  exact zz_leaves hX hY v1
theorem i_vc_value {k : Nat} {u : SX} {v : SY} (I : i_Rel k u v) (hk : k + 5 ≤ 2560) (v1 : Int32) (v2 : Int32) : wpX_value (fun r => wpY_value (fun r' => r' = r ∧ i_Rel (k + 5) u v) v v1 v2) u v1 v2 := by
  obtain ⟨fc, lc, va, tr, fe, li, fi, ll, la, st, lf⟩ := u
  obtain ⟨sz, ak, nu, lo, hi⟩ := v
  obtain ⟨T, L, hX, hY⟩ := I
  exact zz_value hX hY v1 v2
theorem i_vc_leafOf {k : Nat} {u : SX} {v : SY} (I : i_Rel k u v) (hk : k + 5 ≤ 2560) (v1 : Int32) (v2 : Int32) : wpX_leafOf (fun r u' => wpY_leafOf (fun r' => r' = r ∧ i_Rel (k + 5) u' v) v v1 v2) u v1 v2 := by
  obtain ⟨fc, lc, va, tr, fe, li, fi, ll, la, st, lf⟩ := u
  obtain ⟨sz, ak, nu, lo, hi⟩ := v
  obtain ⟨T, L, hX, hY⟩ := I
  exact zz_leafOf hX hY v1 v2
theorem i_vc_score {k : Nat} {u : SX} {v : SY} (I : i_Rel k u v) (hk : k + 5 ≤ 2560) (v1 : Int32) : wpX_score (fun r u' => wpY_score (fun r' => r' = r ∧ i_Rel (k + 5) u' v) v v1) u v1 := by
  obtain ⟨fc, lc, va, tr, fe, li, fi, ll, la, st, lf⟩ := u
  obtain ⟨sz, ak, nu, lo, hi⟩ := v
  obtain ⟨T, L, hX, hY⟩ := I
  exact zz_score hX hY v1
theorem i_vc_depth {k : Nat} {u : SX} {v : SY} (I : i_Rel k u v) (hk : k + 5 ≤ 2560) (v1 : Int32) : wpX_depth (fun r u' => wpY_depth (fun r' => r' = r ∧ i_Rel (k + 5) u' v) v v1) u v1 := by
  obtain ⟨fc, lc, va, tr, fe, li, fi, ll, la, st, lf⟩ := u
  obtain ⟨sz, ak, nu, lo, hi⟩ := v
  obtain ⟨T, L, hX, hY⟩ := I
  exact zz_depth hX hY v1
theorem i_vc_leavesAlong {k : Nat} {u : SX} {v : SY} (I : i_Rel k u v) (hk : k + 5 ≤ 2560) (v1 : Int32) (v2 : Int32) (v3 : Int32) : wpX_leavesAlong (fun r u' => wpY_leavesAlong (fun r' => r' = r ∧ i_Rel (k + 5) u' v) v v1 v2 v3) u v1 v2 v3 := by
  obtain ⟨fc, lc, va, tr, fe, li, fi, ll, la, st, lf⟩ := u
  obtain ⟨sz, ak, nu, lo, hi⟩ := v
  obtain ⟨T, L, hX, hY⟩ := I
  exact zz_leavesAlong hX hY v1 v2 v3
theorem i_vc_bestValue {k : Nat} {u : SX} {v : SY} (I : i_Rel k u v) (hk : k + 5 ≤ 2560) (v1 : Int32) (v2 : Int32) : wpX_bestValue (fun r u' => wpY_bestValue (fun r' => r' = r ∧ i_Rel (k + 5) u' v) v v1 v2) u v1 v2 := by
  obtain ⟨fc, lc, va, tr, fe, li, fi, ll, la, st, lf⟩ := u
  obtain ⟨sz, ak, nu, lo, hi⟩ := v
  obtain ⟨T, L, hX, hY⟩ := I
  exact zz_bestValue hX hY v1 v2
theorem i_vc_reachable {k : Nat} {u : SX} {v : SY} (I : i_Rel k u v) (hk : k + 5 ≤ 2560) (v1 : Int32) : wpX_reachable (fun r => wpY_reachable (fun r' v' => r' = r ∧ i_Rel (k + 5) u v') v v1) u v1 := by
  obtain ⟨fc, lc, va, tr, fe, li, fi, ll, la, st, lf⟩ := u
  obtain ⟨sz, ak, nu, lo, hi⟩ := v
  obtain ⟨T, L, hX, hY⟩ := I
  exact zz_reachable hX hY v1
theorem i_vc_range {k : Nat} {u : SX} {v : SY} (I : i_Rel k u v) (hk : k + 5 ≤ 2560) (v1 : Int32) (v2 : Int32) (v3 : Int32) (v4 : Int32) : wpX_range (fun r => wpY_range (fun r' v' => r' = r ∧ i_Rel (k + 5) u v') v v1 v2 v3 v4) u v1 v2 v3 v4 := by
  obtain ⟨fc, lc, va, tr, fe, li, fi, ll, la, st, lf⟩ := u
  obtain ⟨sz, ak, nu, lo, hi⟩ := v
  obtain ⟨T, L, hX, hY⟩ := I
  exact zz_range hX hY v1 v2 v3 v4
theorem i_vc_asks {k : Nat} {u : SX} {v : SY} (I : i_Rel k u v) (hk : k + 5 ≤ 2560) (v1 : Int32) : wpX_asks (fun r => wpY_asks (fun r' => r' = r ∧ i_Rel (k + 5) u v) v v1) u v1 := by
  obtain ⟨fc, lc, va, tr, fe, li, fi, ll, la, st, lf⟩ := u
  obtain ⟨sz, ak, nu, lo, hi⟩ := v
  obtain ⟨T, L, hX, hY⟩ := I
  exact zz_asks hX hY v1
end
