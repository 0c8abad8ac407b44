section
/-! pasted rows (kit/rows: PURE-ROWS, BITS) -/
theorem pk_us {f : Nat → Int32} {k : Nat} {x : Int32} : upd f k x k = x := if_pos rfl
theorem pk_un {f : Nat → Int32} {k j : Nat} {x : Int32} (h : j ≠ k) : upd f k x j = f j := if_neg h
theorem pk_sub {a b : Nat} (h : b ≤ a) : nI a - nI b = nI (a - b) := by
  obtain ⟨c, rfl⟩ : ∃ c, a = c + b := ⟨a - b, by omega⟩
  rw [← nI_add, Int32.add_sub_cancel, Nat.add_sub_cancel]
theorem pk_m1 (n : Nat) : nI (n + 1) + (-1) = nI n := by
  rw [← nI_1, Int32.add_assoc, show (1 : Int32) + (-1) = 0 from rfl, Int32.add_zero]
theorem pk_mul (a b : Nat) : nI a * nI b = nI (a * b) := (Int32.ofNat_mul a b).symm
theorem pk_div {a d : Nat} (ha : a < 2 ^ 31) (h0 : 0 < d) (hd : d < 2 ^ 31) : nI a / nI d = nI (a / d) := by
  apply Int32.toInt_inj.mp
  rw [lg_idiv_nonneg (by rw [nI_toInt ha]; omega) (by rw [nI_toInt hd]; omega), nI_toInt ha, nI_toInt hd, nI_toInt (Nat.lt_of_le_of_lt (Nat.div_le_self a d) ha)]
  first | rfl | exact (Int.natCast_ediv _ _).symm
theorem pk_ix (x : Int32) {n : Nat} (hn : n < 2 ^ 31) : x < 0 ∨ nI n ≤ x ∨ ∃ j : Nat, j < n ∧ x = nI j := by
  by_cases h : x < 0
  · exact Or.inl h
  · obtain ⟨j, hj, rfl⟩ := nI_of h
    by_cases h2 : j < n
    · exact Or.inr (Or.inr ⟨j, h2, rfl⟩)
    · exact Or.inr (Or.inl (nI_le (by omega) hj))
theorem pk_le {x y : Int32} {A B : Prop} (a b : Nat) (f : a ≤ b → A) (g : b < a → B) (hx : x = nI a := by rfl) (hy : y = nI b := by rfl) (ha : a < 2 ^ 31 := by omega) (hb : b < 2 ^ 31 := by omega) : (x ≤ y → A) ∧ (¬ x ≤ y → B) := by
  subst hx hy
  rw [nI_leI ha hb]
  exact ⟨f, fun z => g (by omega)⟩
theorem pk_lt {x y : Int32} {A B : Prop} (a b : Nat) (f : a < b → A) (g : b ≤ a → B) (hx : x = nI a := by rfl) (hy : y = nI b := by rfl) (ha : a < 2 ^ 31 := by omega) (hb : b < 2 ^ 31 := by omega) : (x < y → A) ∧ (¬ x < y → B) := by
  subst hx hy
  rw [nI_ltI ha hb]
  exact ⟨f, fun z => g (by omega)⟩
theorem pk_eq {x y : Int32} {A B : Prop} (a b : Nat) (f : a = b → A) (g : a ≠ b → B) (hx : x = nI a := by rfl) (hy : y = nI b := by rfl) (ha : a < 2 ^ 31 := by omega) (hb : b < 2 ^ 31 := by omega) : (x = y → A) ∧ (¬ x = y → B) := by
  subst hx hy
  rw [nI_eq ha hb]
  exact ⟨f, g⟩
theorem pk_in {x : Int32} (n N : Nat) (h : n < N) (hx : x = nI n := by rfl) (hN : N < 2 ^ 31 := by omega) : vp_in x N := by
  subst hx
  exact vp_in_nI h hN
theorem pk_cl {x : Int32} (n : Nat) (hx : x = nI n := by rfl) (h : n < 2 ^ 31 := by omega) : x.toNatClampNeg = n := by
  subst hx
  exact nI_clamp h
theorem pk_tn {n : Nat} (h : n < 2 ^ 32) : (nI n).toBitVec.toNat = n := Nat.mod_eq_of_lt h
theorem pk_and (x : Int32) {m : Int32} (k : Nat) (hm : m.toBitVec.toNat = 2 ^ k - 1) : x &&& m = nI (x.toBitVec.toNat % 2 ^ k) := by
  apply Int32.toBitVec_inj.mp
  apply BitVec.eq_of_toNat_eq
  rw [Int32.toBitVec_and, BitVec.toNat_and, hm, Nat.and_two_pow_sub_one_eq_mod]
  show _ = (BitVec.ofNat 32 _).toNat
  rw [BitVec.toNat_ofNat]
  exact (Nat.mod_eq_of_lt (Nat.lt_of_le_of_lt (Nat.mod_le _ _) x.toBitVec.isLt)).symm
theorem pk_andE (x : Int32) {m : Int32} (k : Nat) (hm : m.toBitVec.toNat = 2 ^ k - 1) : ∃ j : Nat, j < 2 ^ k ∧ x &&& m = nI j := ⟨_, Nat.mod_lt _ (Nat.two_pow_pos k), pk_and x k hm⟩
theorem pk_shr (a s : Int32) (k : Nat) (hs : (s.toBitVec.smod 32).toNat = k) : (a >>> s).toInt = a.toInt >>> k := by
  show (a.toBitVec.sshiftRight (s.toBitVec.smod 32).toNat).toInt = _
  rw [hs, BitVec.toInt_sshiftRight]
  rfl
theorem pk_shrN {n : Nat} (h : n < 2 ^ 31) (s : Int32) (k : Nat) (hs : (s.toBitVec.smod 32).toNat = k) : nI n >>> s = nI (n / 2 ^ k) := by
  apply Int32.toInt_inj.mp
  have h2 : n / 2 ^ k ≤ n := Nat.div_le_self _ _
  rw [pk_shr _ _ k hs, nI_toInt h, nI_toInt (by omega), Int.shiftRight_eq_div_pow]
  rfl
def bt (x : Int32) (i : Nat) : Bool := x.toBitVec.getLsbD i
theorem b_ext {x y : Int32} (h : ∀ i, i < 32 → bt x i = bt y i) : x = y := Int32.toBitVec_inj.mp (BitVec.eq_of_getLsbD_eq (fun i hi => h i hi))
theorem b_or (x y : Int32) (i : Nat) : bt (x ||| y) i = (bt x i || bt y i) := by unfold bt; rw [Int32.toBitVec_or, BitVec.getLsbD_or]
theorem b_and (x y : Int32) (i : Nat) : bt (x &&& y) i = (bt x i && bt y i) := by unfold bt; rw [Int32.toBitVec_and, BitVec.getLsbD_and]
theorem b_xor (x y : Int32) (i : Nat) : bt (x ^^^ y) i = (bt x i ^^ bt y i) := by unfold bt; rw [Int32.toBitVec_xor, BitVec.getLsbD_xor]
theorem b_big {x : Int32} {i : Nat} (h : 32 ≤ i) : bt x i = false := BitVec.getLsbD_of_ge _ _ h
theorem b_m1 : ∀ i, i < 32 → bt (-1) i = true := by decide +kernel
theorem b_0 (i : Nat) : bt 0 i = false := BitVec.getLsbD_zero
theorem s_l : ∀ n, n < 32 → ((nI n &&& 31).toBitVec.smod 32).toNat = n := by decide +kernel
theorem b_shl (n : Nat) (hn : n < 32) (x : Int32) {i : Nat} (hi : i < 32) : bt (x <<< (nI n &&& 31)) i = (decide (n ≤ i) && bt x (i - n)) := by
  unfold bt
  rw [Int32.toBitVec_shiftLeft]
  show (x.toBitVec <<< ((nI n &&& 31).toBitVec.smod 32).toNat).getLsbD i = _
  rw [s_l n hn, BitVec.getLsbD_shiftLeft]
  rcases Nat.lt_or_ge i n with h | h
  · simp [h, Nat.not_le.mpr h]
  · simp [hi, h, Nat.not_lt.mpr h]
theorem b_sshr (n : Nat) (hn : n < 32) (x : Int32) {i : Nat} (hi : i < 32) : bt (x >>> (nI n &&& 31)) i = if n + i < 32 then bt x (n + i) else bt x 31 := by
  unfold bt
  rw [Int32.toBitVec_shiftRight]
  show (x.toBitVec.sshiftRight ((nI n &&& 31).toBitVec.smod 32).toNat).getLsbD i = _
  rw [s_l n hn, BitVec.getLsbD_sshiftRight, BitVec.msb_eq_getLsbD_last]
  simp [hi]
theorem nx_and (a b : Nat) : nI a &&& nI b = nI (a &&& b) := by
  apply Int32.toBitVec_inj.1
  show BitVec.ofNat 32 a &&& BitVec.ofNat 32 b = BitVec.ofNat 32 (a &&& b)
  apply BitVec.eq_of_getLsbD_eq
  intro i hi
  simp [hi]
end
section
/-! numbers, bits, stores -/
theorem aq_m4 (a : Nat) : nI a * 4 = nI (a * 4) := pk_mul a 4
theorem aq_m5 (a : Nat) : nI a * 5 = nI (a * 5) := pk_mul a 5
theorem aq_m8 (a : Nat) : nI a * 8 = nI (a * 8) := pk_mul a 8
theorem aq_a0 (a : Nat) : nI a + 0 = nI a := nI_add a 0
theorem aq_a2 (a : Nat) : nI a + 2 = nI (a + 2) := nI_add a 2
theorem aq_a3 (a : Nat) : nI a + 3 = nI (a + 3) := nI_add a 3
theorem aq_a4 (a : Nat) : nI a + 4 = nI (a + 4) := nI_add a 4
theorem aq_s1 {a : Nat} (h : 1 ≤ a) : nI a - 1 = nI (a - 1) := pk_sub h
theorem aq_eq0 {a : Nat} (h : a < 2 ^ 31) : nI a = 0 ↔ a = 0 := by rw [← nI_0, nI_eq h (by omega)]
theorem aq_im {a b : Nat} (h : nI a = nI b) (ha : a < 2 ^ 31) (hb : b < 2 ^ 31) : a = b := (nI_eq ha hb).mp h
theorem aq_ni {a b : Nat} (h : a ≠ b) (ha : a < 2 ^ 31) (hb : b < 2 ^ 31) : ¬ nI a = nI b := fun z => h (aq_im z ha hb)
theorem aq_i4 (a b : Nat) : nI a * 4 + nI b = nI (a * 4 + b) := by rw [aq_m4, nI_add]
theorem aq_i5 (a b : Nat) : nI a * 5 + nI b = nI (a * 5 + b) := by rw [aq_m5, nI_add]
theorem aq_i8 (a b : Nat) : nI a * 8 + nI b = nI (a * 8 + b) := by rw [aq_m8, nI_add]
theorem aq_j8 (a b : Nat) : nI a * 8 + 4 + nI b = nI (a * 8 + 4 + b) := by rw [aq_m8, aq_a4, nI_add]
theorem aq_80 (a : Nat) : nI a * 8 + 0 = nI (a * 8) := by rw [aq_m8, aq_a0]
theorem aq_81 (a : Nat) : nI a * 8 + 1 = nI (a * 8 + 1) := by rw [aq_m8, nI_1]
theorem aq_82 (a : Nat) : nI a * 8 + 2 = nI (a * 8 + 2) := by rw [aq_m8, aq_a2]
theorem aq_83 (a : Nat) : nI a * 8 + 3 = nI (a * 8 + 3) := by rw [aq_m8, aq_a3]
/-- places: the index is within and its clamp is the natural -/
theorem aq_v4 {a b : Nat} {N : Nat} (h : a * 4 + b < N) (hN : N < 2 ^ 31) : vp_in (nI a * 4 + nI b) N := by rw [aq_i4]; exact vp_in_nI h hN
theorem aq_c4 {a b : Nat} (h : a * 4 + b < 2 ^ 31) : (nI a * 4 + nI b).toNatClampNeg = a * 4 + b := by rw [aq_i4, nI_clamp h]
theorem aq_v5 {a b : Nat} {N : Nat} (h : a * 5 + b < N) (hN : N < 2 ^ 31) : vp_in (nI a * 5 + nI b) N := by rw [aq_i5]; exact vp_in_nI h hN
theorem aq_c5 {a b : Nat} (h : a * 5 + b < 2 ^ 31) : (nI a * 5 + nI b).toNatClampNeg = a * 5 + b := by rw [aq_i5, nI_clamp h]
theorem aq_v8 {a b : Nat} (ha : a < 48) (hb : b < 8) : vp_in (nI a * 8 + nI b) 384 := by rw [aq_i8]; exact vp_in_nI (by omega) (by omega)
theorem aq_c8 {a b : Nat} (ha : a < 48) (hb : b < 8) : (nI a * 8 + nI b).toNatClampNeg = a * 8 + b := by rw [aq_i8, nI_clamp (by omega)]
theorem aq_w8 {a b : Nat} (ha : a < 48) (hb : b < 4) : vp_in (nI a * 8 + 4 + nI b) 384 := by rw [aq_j8]; exact vp_in_nI (by omega) (by omega)
theorem aq_d8 {a b : Nat} (ha : a < 48) (hb : b < 4) : (nI a * 8 + 4 + nI b).toNatClampNeg = a * 8 + 4 + b := by rw [aq_j8, nI_clamp (by omega)]
theorem aq_v80 {a : Nat} (ha : a < 48) : vp_in (nI a * 8 + 0) 384 := aq_v8 (b := 0) ha (by omega)
theorem aq_v81 {a : Nat} (ha : a < 48) : vp_in (nI a * 8 + 1) 384 := aq_v8 (b := 1) ha (by omega)
theorem aq_v82 {a : Nat} (ha : a < 48) : vp_in (nI a * 8 + 2) 384 := aq_v8 (b := 2) ha (by omega)
theorem aq_v83 {a : Nat} (ha : a < 48) : vp_in (nI a * 8 + 3) 384 := aq_v8 (b := 3) ha (by omega)
theorem aq_c80 {a : Nat} (ha : a < 48) : (nI a * 8 + 0).toNatClampNeg = a * 8 := aq_c8 (b := 0) ha (by omega)
theorem aq_c81 {a : Nat} (ha : a < 48) : (nI a * 8 + 1).toNatClampNeg = a * 8 + 1 := aq_c8 (b := 1) ha (by omega)
theorem aq_c82 {a : Nat} (ha : a < 48) : (nI a * 8 + 2).toNatClampNeg = a * 8 + 2 := aq_c8 (b := 2) ha (by omega)
theorem aq_c83 {a : Nat} (ha : a < 48) : (nI a * 8 + 3).toNatClampNeg = a * 8 + 3 := aq_c8 (b := 3) ha (by omega)
/-- bits -/
theorem b_1 : ∀ i, i < 32 → bt 1 i = decide (i = 0) := by decide +kernel
theorem aq_bx (x : Int32) {s : Nat} (hs : s < 32) : (x &&& ((1 : Int32) <<< (nI s &&& 31))) = 0 ↔ bt x s = false := by
  constructor
  · intro h
    have e : bt (x &&& ((1 : Int32) <<< (nI s &&& 31))) s = bt 0 s := by rw [h]
    rw [b_and, b_shl s hs 1 hs, b_0, Nat.sub_self, b_1 0 (by omega)] at e
    simpa using e
  · intro h
    apply b_ext
    intro i hi
    rw [b_and, b_shl s hs 1 hi, b_0]
    rcases Nat.lt_trichotomy i s with hl | hl | hl
    · rw [decide_eq_false (by omega)]; simp
    · subst hl; rw [h]; simp
    · rw [b_1 (i - s) (by omega), decide_eq_false (p := i - s = 0) (by omega)]; simp
theorem aq_xt {x : Int32} {s : Nat} (hs : s < 5) (h : bt x s = true) : ¬ (x &&& ((1 : Int32) <<< (nI s &&& 31))) = 0 := by
  rw [aq_bx x (by omega), h]; decide
theorem aq_xf {x : Int32} {s : Nat} (hs : s < 5) (h : bt x s = false) : (x &&& ((1 : Int32) <<< (nI s &&& 31))) = 0 := (aq_bx x (by omega)).mpr h
theorem aq_by (x : Int32) {s : Nat} (hs : s < 31) : ((x >>> (nI s &&& 31)) &&& 1) = 1 ↔ bt x s = true := by
  constructor
  · intro h
    have e : bt ((x >>> (nI s &&& 31)) &&& 1) 0 = bt 1 0 := by rw [h]
    rw [b_and, b_sshr s (by omega) x (by omega), b_1 0 (by omega), if_pos (by omega)] at e
    simpa using e
  · intro h
    apply b_ext
    intro i hi
    rw [b_and, b_sshr s (by omega) x hi, b_1 i hi]
    by_cases h0 : i = 0
    · subst h0; rw [if_pos (by omega)]; simp [h]
    · rw [decide_eq_false h0]; simp
theorem aq_yt {x : Int32} {s : Nat} (hs : s < 5) (h : bt x s = true) : ((x >>> (nI s &&& 31)) &&& 1) = 1 := (aq_by x (by omega)).mpr h
theorem aq_yf {x : Int32} {s : Nat} (hs : s < 5) (h : bt x s = false) : ¬ ((x >>> (nI s &&& 31)) &&& 1) = 1 := by
  rw [aq_by x (by omega), h]; decide
theorem aq_bit {s i : Nat} (hs : s < 5) (hi : i < 32) : bt ((1 : Int32) <<< (nI s &&& 31)) i = decide (i = s) := by
  rw [b_shl s (by omega) 1 hi]
  rcases Nat.lt_trichotomy i s with hl | hl | hl
  · rw [decide_eq_false (by omega), decide_eq_false (by omega)]; rfl
  · subst hl; rw [b_1 _ (by omega)]; simp
  · rw [b_1 (i - s) (by omega), decide_eq_false (p := i - s = 0) (by omega), decide_eq_false (p := i = s) (by omega)]; simp
theorem aq_or {x : Int32} {s i : Nat} (hs : s < 5) (hi : i < 32) : bt (x ||| ((1 : Int32) <<< (nI s &&& 31))) i = (bt x i || decide (i = s)) := by
  rw [b_or, aq_bit hs hi]
theorem aq_nb {x : Int32} (h : ∀ i, i < 32 → bt x i = false) : x = 0 := b_ext fun i hi => by rw [h i hi, b_0]
theorem aq_or0 {x : Int32} {s : Nat} (hs : s < 5) : ¬ (x ||| ((1 : Int32) <<< (nI s &&& 31))) = 0 := by
  intro h
  have e : bt (x ||| ((1 : Int32) <<< (nI s &&& 31))) s = bt 0 s := by rw [h]
  rw [aq_or hs (by omega), b_0] at e
  simp at e
theorem aq_sub0 (y : Int32) : (0 : Int32) &&& y = 0 := b_ext fun i _ => by rw [b_and, b_0]; rfl
theorem aq_subor {x y : Int32} {s : Nat} (hs : s < 5) (h : x &&& y = x) (hy : bt y s = true) : (x ||| ((1 : Int32) <<< (nI s &&& 31))) &&& y = x ||| ((1 : Int32) <<< (nI s &&& 31)) := by
  apply b_ext
  intro i hi
  have e : bt (x &&& y) i = bt x i := by rw [h]
  rw [b_and] at e
  rw [b_and, aq_or hs hi]
  by_cases hi2 : i = s
  · subst hi2; rw [hy]; simp
  · rw [decide_eq_false hi2, Bool.or_false, e]
theorem aq_andn {x y : Int32} {s : Nat} (h : bt (x &&& (y ^^^ (-1))) s = true) : bt x s = true := by
  rw [b_and] at h
  exact (Bool.and_eq_true _ _ ▸ h).1
theorem aq_n0 (x : Int32) : x &&& ((0 : Int32) ^^^ (-1)) = x := b_ext fun i hi => by
  rw [b_and, b_xor, b_0, b_m1 i hi]; simp
/-- stores -/
theorem aq_uid {f : Nat → Int32} {k : Nat} : upd f k (f k) = f := funext fun j => by
  unfold upd; split
  · rename_i h; rw [h]
  · rfl
def qd_mx (a b : Int32) : Int32 := if a ≤ b then b else a
theorem aq_mxl {a b : Int32} (h : a ≤ b) : qd_mx a b = b := if_pos h
theorem aq_mxr {a b : Int32} (h : b ≤ a) : qd_mx a b = a := by
  unfold qd_mx; split
  · rename_i h2; exact Int32.le_antisymm h h2
  · rfl
theorem aq_mxn {a b : Int32} (h : ¬ b ≤ a) : qd_mx a b = b := aq_mxl (Int32.le_of_lt (Int32.not_le.mp h))
theorem aq_mx_ge1 (a b : Int32) : a ≤ qd_mx a b := by
  unfold qd_mx; split
  · assumption
  · exact Int32.le_refl a
theorem aq_mx_ge2 (a b : Int32) : b ≤ qd_mx a b := by
  unfold qd_mx; split
  · exact Int32.le_refl b
  · rename_i h; exact Int32.le_of_lt (Int32.not_le.mp h)
theorem aq_mx_or (a b : Int32) : qd_mx a b = a ∨ qd_mx a b = b := by
  unfold qd_mx; split
  · exact Or.inr rfl
  · exact Or.inl rfl
theorem aq_ind {P : Nat → Prop} {N : Nat} (h0 : P N) (hs : ∀ i, i < N → P (i + 1) → P i) : ∀ d i, i + d = N → P i := by
  intro d
  induction d with
  | zero => intro i hi; have e : i = N := by omega
            rw [e]; exact h0
  | succ d ih => intro i hi; exact hs i (by omega) (ih (i + 1) (by omega))
end
section
/-! the message pool: the reference's array ms, and the component's five arrays as its parts -/
def qd_K (ms : Nat → Int32) : Nat → Int32 := fun k => ms (k * 8)
def qd_S (ms : Nat → Int32) : Nat → Int32 := fun k => ms (k * 8 + 1)
def qd_O (ms : Nat → Int32) : Nat → Int32 := fun k => ms (k * 8 + 2)
def qd_C (ms : Nat → Int32) : Nat → Int32 := fun k => ms (k * 8 + 3)
def qd_T (ms : Nat → Int32) : Nat → Int32 := fun j => ms (j / 4 * 8 + 4 + j % 4)
/-- slot k holds the eight values f 0 .. f 7 -/
def qd_ps (ms : Nat → Int32) (k : Nat) (f : Nat → Int32) : Nat → Int32 := fun j => if j / 8 = k then f (j % 8) else ms j
/-- a message's eight values -/
def qd_mf (kd s o c : Int32) (t : Nat → Int32) : Nat → Int32 := fun i => if i = 0 then kd else if i = 1 then s else if i = 2 then o else if i = 3 then c else t (i - 4)
theorem aq_mf0 {kd s o c : Int32} {t : Nat → Int32} : qd_mf kd s o c t 0 = kd := rfl
theorem aq_mf1 {kd s o c : Int32} {t : Nat → Int32} : qd_mf kd s o c t 1 = s := rfl
theorem aq_mf2 {kd s o c : Int32} {t : Nat → Int32} : qd_mf kd s o c t 2 = o := rfl
theorem aq_mf3 {kd s o c : Int32} {t : Nat → Int32} : qd_mf kd s o c t 3 = c := rfl
theorem aq_mf4 {kd s o c : Int32} {t : Nat → Int32} (r : Nat) : qd_mf kd s o c t (4 + r) = t r := by
  unfold qd_mf
  rw [if_neg (by omega), if_neg (by omega), if_neg (by omega), if_neg (by omega), Nat.add_sub_cancel_left]
theorem aq_psi {ms f : Nat → Int32} {k q i : Nat} (hi : i < 8) : qd_ps ms k f (q * 8 + i) = if q = k then f i else ms (q * 8 + i) := by
  unfold qd_ps
  rw [show (q * 8 + i) / 8 = q by omega, show (q * 8 + i) % 8 = i by omega]
theorem aq_ps0 {ms f : Nat → Int32} {k q : Nat} : qd_ps ms k f (q * 8) = if q = k then f 0 else ms (q * 8) := aq_psi (i := 0) (by omega)
theorem aq_psK {ms f : Nat → Int32} {k : Nat} : qd_K (qd_ps ms k f) = upd (qd_K ms) k (f 0) := funext fun _ => aq_ps0
theorem aq_psS {ms f : Nat → Int32} {k : Nat} : qd_S (qd_ps ms k f) = upd (qd_S ms) k (f 1) := funext fun _ => aq_psi (by omega)
theorem aq_psO {ms f : Nat → Int32} {k : Nat} : qd_O (qd_ps ms k f) = upd (qd_O ms) k (f 2) := funext fun _ => aq_psi (by omega)
theorem aq_psC {ms f : Nat → Int32} {k : Nat} : qd_C (qd_ps ms k f) = upd (qd_C ms) k (f 3) := funext fun _ => aq_psi (by omega)
/-- the tags of slot k written up to i -/
def qd_aT (mT : Nat → Int32) (k i : Nat) (t : Nat → Int32) : Nat → Int32 := fun j => if j / 4 = k ∧ j % 4 < i then t (j % 4) else mT j
theorem aq_aT0 {mT t : Nat → Int32} {k : Nat} : qd_aT mT k 0 t = mT := funext fun j => if_neg (by omega)
theorem aq_aTs {mT t : Nat → Int32} {k i : Nat} (hi : i < 4) : upd (qd_aT mT k i t) (k * 4 + i) (t i) = qd_aT mT k (i + 1) t := funext fun j => by
  unfold upd qd_aT
  by_cases h : j = k * 4 + i
  · rw [if_pos h, if_pos (by omega), show j % 4 = i by omega]
  · rw [if_neg h]
    by_cases h2 : j / 4 = k ∧ j % 4 < i
    · rw [if_pos h2, if_pos (by omega)]
    · rw [if_neg h2, if_neg (by omega)]
theorem aq_psT {ms f t : Nat → Int32} {k : Nat} (h : ∀ r, f (4 + r) = t r) : qd_T (qd_ps ms k f) = qd_aT (qd_T ms) k 4 t := funext fun j => by
  show qd_ps ms k f (j / 4 * 8 + 4 + j % 4) = _
  rw [show j / 4 * 8 + 4 + j % 4 = j / 4 * 8 + (4 + j % 4) by omega, aq_psi (by omega)]
  unfold qd_aT
  by_cases h2 : j / 4 = k
  · rw [if_pos h2, if_pos (by omega), h]
  · rw [if_neg h2, if_neg (by omega)]
    show ms _ = ms _
    rw [show j / 4 * 8 + 4 + j % 4 = j / 4 * 8 + (4 + j % 4) by omega]
/-- the reference's writes up to place i of slot k -/
def qd_am (ms : Nat → Int32) (k i : Nat) (f : Nat → Int32) : Nat → Int32 := fun j => if j / 8 = k ∧ j % 8 < i then f (j % 8) else ms j
theorem aq_am0 {ms f : Nat → Int32} {k : Nat} : qd_am ms k 0 f = ms := funext fun j => if_neg (by omega)
theorem aq_ams {ms f : Nat → Int32} {k i : Nat} (hi : i < 8) : upd (qd_am ms k i f) (k * 8 + i) (f i) = qd_am ms k (i + 1) f := funext fun j => by
  unfold upd qd_am
  by_cases h : j = k * 8 + i
  · rw [if_pos h, if_pos (by omega), show j % 8 = i by omega]
  · rw [if_neg h]
    by_cases h2 : j / 8 = k ∧ j % 8 < i
    · rw [if_pos h2, if_pos (by omega)]
    · rw [if_neg h2, if_neg (by omega)]
theorem aq_am8 {ms f : Nat → Int32} {k : Nat} : qd_am ms k 8 f = qd_ps ms k f := funext fun j => by
  unfold qd_am qd_ps
  by_cases h : j / 8 = k
  · rw [if_pos h, if_pos (by omega)]
  · rw [if_neg h, if_neg (by omega)]
theorem aq_am4 {ms : Nat → Int32} {k : Nat} {kd s o c : Int32} {t : Nat → Int32} : upd (upd (upd (upd ms (k * 8) kd) (k * 8 + 1) s) (k * 8 + 2) o) (k * 8 + 3) c = qd_am ms k 4 (qd_mf kd s o c t) := by
  rw [← aq_ams (i := 3) (by omega), ← aq_ams (i := 2) (by omega), ← aq_ams (i := 1) (by omega), ← aq_ams (i := 0) (by omega), aq_am0]
  rfl
theorem aq_ps_eq {ms : Nat → Int32} {k : Nat} {f g : Nat → Int32} (h : ∀ i, i < 8 → f i = g i) : qd_ps ms k f = qd_ps ms k g := funext fun j => by
  unfold qd_ps
  rw [h (j % 8) (Nat.mod_lt _ (by omega))]
/-- a slot freed -/
theorem aq_fK {ms : Nat → Int32} {k : Nat} {x : Int32} : qd_K (upd ms (k * 8) x) = upd (qd_K ms) k x := funext fun j => by
  unfold qd_K upd
  by_cases h : j = k
  · rw [if_pos h, if_pos (by omega)]
  · rw [if_neg h, if_neg (by omega)]
theorem aq_fS {ms : Nat → Int32} {k : Nat} {x : Int32} : qd_S (upd ms (k * 8) x) = qd_S ms := funext fun j => if_neg (by omega)
theorem aq_fO {ms : Nat → Int32} {k : Nat} {x : Int32} : qd_O (upd ms (k * 8) x) = qd_O ms := funext fun j => if_neg (by omega)
theorem aq_fC {ms : Nat → Int32} {k : Nat} {x : Int32} : qd_C (upd ms (k * 8) x) = qd_C ms := funext fun j => if_neg (by omega)
theorem aq_fT {ms : Nat → Int32} {k : Nat} {x : Int32} : qd_T (upd ms (k * 8) x) = qd_T ms := funext fun j => if_neg (by omega)
/-- the lowest free slot -/
def qd_ffr (ms : Nat → Int32) : Nat → Nat → Int32
  | 0, _ => -1
  | d + 1, i => if ms (i * 8) = 0 then nI i else qd_ffr ms d (i + 1)
def qd_ff (ms : Nat → Int32) (n : Nat) : Int32 := qd_ffr ms n 0
theorem aq_ffr {ms : Nat → Int32} {n : Nat} : ∀ d i, i + d = n → qd_ffr ms d i = -1 ∨ ∃ k, k < n ∧ ms (k * 8) = 0 ∧ qd_ffr ms d i = nI k := by
  intro d
  induction d with
  | zero => intro i _; exact Or.inl rfl
  | succ d ih =>
    intro i hi
    by_cases h : ms (i * 8) = 0
    · exact Or.inr ⟨i, by omega, h, if_pos h⟩
    · rw [show qd_ffr ms (d + 1) i = qd_ffr ms d (i + 1) from if_neg h]
      exact ih (i + 1) (by omega)
theorem aq_ff (ms : Nat → Int32) (n : Nat) : qd_ff ms n = -1 ∨ ∃ k, k < n ∧ ms (k * 8) = 0 ∧ qd_ff ms n = nI k := aq_ffr n 0 (by omega)
/-- a message sent: the pool and the answer -/
def qd_sm (ms : Nat → Int32) (n : Nat) (f : Nat → Int32) : Nat → Int32 := if qd_ff ms n = -1 then ms else qd_ps ms (qd_ff ms n).toNatClampNeg f
def qd_sr (ms : Nat → Int32) (n : Nat) : Int32 := if qd_ff ms n = -1 then 0 else 1
theorem aq_m1ne {k : Nat} (h : k < 2 ^ 31) : ¬ nI k = -1 := by
  intro e
  have h2 := nI_pos (n := k) h
  rw [e] at h2
  exact h2 (by decide)
theorem aq_smn {ms f : Nat → Int32} {n : Nat} (h : qd_ff ms n = -1) : qd_sm ms n f = ms ∧ qd_sr ms n = 0 := ⟨if_pos h, if_pos h⟩
theorem aq_sms {ms f : Nat → Int32} {n k : Nat} (hk : k < 2 ^ 31) (h : qd_ff ms n = nI k) : qd_sm ms n f = qd_ps ms k f ∧ qd_sr ms n = 1 := by
  have hn : ¬ qd_ff ms n = -1 := by rw [h]; exact aq_m1ne hk
  refine ⟨?_, if_neg hn⟩
  rw [qd_sm, if_neg hn, h, nI_clamp hk]
/-- messages sent to each server of a set -/
def qd_am_ (n : Nat) (kd set o c : Int32) (t : Nat → Int32) : Nat → Nat → (Nat → Int32) → Nat → Int32
  | 0, _, ms => ms
  | d + 1, s, ms => if bt set s = true then qd_am_ n kd set o c t d (s + 1) (qd_sm ms n (qd_mf kd (nI s) o c t)) else qd_am_ n kd set o c t d (s + 1) ms
def qd_ar_ (n : Nat) (kd set o c : Int32) (t : Nat → Int32) : Nat → Nat → Int32 → (Nat → Int32) → Int32
  | 0, _, a, _ => a
  | d + 1, s, a, ms => if bt set s = true then qd_ar_ n kd set o c t d (s + 1) (a + qd_sr ms n) (qd_sm ms n (qd_mf kd (nI s) o c t)) else qd_ar_ n kd set o c t d (s + 1) a ms
def qd_sam (n : Nat) (kd set o c : Int32) (t : Nat → Int32) (ms : Nat → Int32) : Nat → Int32 := qd_am_ n kd set o c t 5 0 ms
def qd_sar (n : Nat) (kd set o c : Int32) (t : Nat → Int32) (ms : Nat → Int32) : Int32 := qd_ar_ n kd set o c t 5 0 0 ms
theorem aq_am_t {n : Nat} {kd set o c : Int32} {t ms : Nat → Int32} {d s : Nat} (h : bt set s = true) : qd_am_ n kd set o c t (d + 1) s ms = qd_am_ n kd set o c t d (s + 1) (qd_sm ms n (qd_mf kd (nI s) o c t)) := if_pos h
theorem aq_am_f {n : Nat} {kd set o c : Int32} {t ms : Nat → Int32} {d s : Nat} (h : ¬ bt set s = true) : qd_am_ n kd set o c t (d + 1) s ms = qd_am_ n kd set o c t d (s + 1) ms := if_neg h
theorem aq_ar_t {n : Nat} {kd set o c a : Int32} {t ms : Nat → Int32} {d s : Nat} (h : bt set s = true) : qd_ar_ n kd set o c t (d + 1) s a ms = qd_ar_ n kd set o c t d (s + 1) (a + qd_sr ms n) (qd_sm ms n (qd_mf kd (nI s) o c t)) := if_pos h
theorem aq_ar_f {n : Nat} {kd set o c a : Int32} {t ms : Nat → Int32} {d s : Nat} (h : ¬ bt set s = true) : qd_ar_ n kd set o c t (d + 1) s a ms = qd_ar_ n kd set o c t d (s + 1) a ms := if_neg h
theorem aq_sam_ind {n : Nat} {kd set o c : Int32} {t : Nat → Int32} (Q : (Nat → Int32) → Prop) (hQ : ∀ ms s, s < 5 → bt set s = true → Q ms → Q (qd_sm ms n (qd_mf kd (nI s) o c t))) : ∀ d s ms, s + d = 5 → Q ms → Q (qd_am_ n kd set o c t d s ms) := by
  intro d
  induction d with
  | zero => intro s ms _ h; exact h
  | succ d ih =>
    intro s ms hs h
    by_cases hb : bt set s = true
    · rw [aq_am_t hb]; exact ih _ _ (by omega) (hQ ms s (by omega) hb h)
    · rw [aq_am_f hb]; exact ih _ _ (by omega) h
theorem aq_sam {n : Nat} {kd set o c : Int32} {t ms : Nat → Int32} (Q : (Nat → Int32) → Prop) (h : Q ms) (hQ : ∀ ms s, s < 5 → bt set s = true → Q ms → Q (qd_sm ms n (qd_mf kd (nI s) o c t))) : Q (qd_sam n kd set o c t ms) := aq_sam_ind Q hQ 5 0 ms rfl h
/-- Y's place of a slot's tag, X's copy -/
theorem aq_Tij {ms : Nat → Int32} {k i : Nat} (hi : i < 4) : qd_T ms (k * 4 + i) = ms (k * 8 + 4 + i) := by
  show ms _ = ms _
  rw [show (k * 4 + i) / 4 = k by omega, show (k * 4 + i) % 4 = i by omega]
end
section
/-! the component's helpers -/
section
variable {cN rN sN oN wN B : Nat} {ph gh rh : Int32} {oC oK oR oS oT oW cC cO cH lT sI sK sT cM gT ms iT uT cR : Nat → Int32}
variable {mK mS mO mC mT t : Nat → Int32} {post : Int32 → Prop} {post0 : SX → Prop} {post2 : Int32 → SX → Prop} {p kd set o c s : Int32}
def qd_cl (x a b : Int32) : Int32 := if a ≤ x then (if x ≤ b then x else b) else a
theorem aq_xclamp {u : SX} {x a b : Int32} (h : post (qd_cl x a b)) : wpX_clamp post u x a b := by
  obtain ⟨_, _, _, _, _, _, _, _, _, _, _, _, _, _, _, _, _, _, _, _, _, _, _, _, _, _, _, _, _⟩ := u
  unfold qd_cl at h
  by_cases h1 : a ≤ x
  · rw [if_pos h1] at h
    by_cases h2 : x ≤ b
    · rw [if_pos h2] at h; exact br_t h1 (br_t h2 h)
    · rw [if_neg h2] at h; exact br_t h1 (br_f h2 h)
  · rw [if_neg h1] at h; exact br_f h1 h
def qd_no (n : Nat) (p : Int32) : Prop := p < 0 ∨ nI n ≤ p
theorem aq_noc (n : Nat) (p : Int32) (hn : n < 2 ^ 31) : qd_no n p ∨ ∃ j, j < n ∧ p = nI j := by
  rcases pk_ix p hn with h | h | h
  · exact Or.inl (Or.inl h)
  · exact Or.inl (Or.inr h)
  · exact Or.inr h
theorem aq_nlt {n : Nat} {p : Int32} (h : nI n ≤ p) : ¬ p < nI n := Int32.not_lt.mpr h
theorem aq_xc0 (h : qd_no cN p) (hp : post 0) : wpX_isClient post (nI cN, nI rN, nI sN, nI oN, ph, nI wN, gh, oC, oK, oR, oS, oT, oW, cC, cO, cH, lT, sI, sK, sT, cM, gT, qd_K ms, qd_S ms, qd_O ms, qd_C ms, qd_T ms, iT, uT) p := by
  by_cases h0 : p < 0
  · exact br_t h0 hp
  · exact br_f h0 (br_t (h.resolve_left h0) hp)
theorem aq_xc1 {j : Nat} (h : j < cN) (hn : cN < 2 ^ 31) (hp : post 1) : wpX_isClient post (nI cN, nI rN, nI sN, nI oN, ph, nI wN, gh, oC, oK, oR, oS, oT, oW, cC, cO, cH, lT, sI, sK, sT, cM, gT, qd_K ms, qd_S ms, qd_O ms, qd_C ms, qd_T ms, iT, uT) (nI j) :=
  br_f (nI_pos (by omega)) (br_f (nI_ge h hn) hp)
theorem aq_xr0 (h : qd_no rN p) (hp : post 0) : wpX_isRegister post (nI cN, nI rN, nI sN, nI oN, ph, nI wN, gh, oC, oK, oR, oS, oT, oW, cC, cO, cH, lT, sI, sK, sT, cM, gT, qd_K ms, qd_S ms, qd_O ms, qd_C ms, qd_T ms, iT, uT) p := by
  by_cases h0 : p < 0
  · exact br_t h0 hp
  · exact br_f h0 (br_t (h.resolve_left h0) hp)
theorem aq_xr1 {j : Nat} (h : j < rN) (hn : rN < 2 ^ 31) (hp : post 1) : wpX_isRegister post (nI cN, nI rN, nI sN, nI oN, ph, nI wN, gh, oC, oK, oR, oS, oT, oW, cC, cO, cH, lT, sI, sK, sT, cM, gT, qd_K ms, qd_S ms, qd_O ms, qd_C ms, qd_T ms, iT, uT) (nI j) :=
  br_f (nI_pos (by omega)) (br_f (nI_ge h hn) hp)
theorem aq_xv0 {u : SX} (h : qd_no 5 p) (hp : post 0) : wpX_isServer post u p := by
  obtain ⟨_, _, _, _, _, _, _, _, _, _, _, _, _, _, _, _, _, _, _, _, _, _, _, _, _, _, _, _, _⟩ := u
  by_cases h0 : p < 0
  · exact br_t h0 hp
  · exact br_f h0 (br_t (h.resolve_left h0) hp)
theorem aq_xv1 {u : SX} {j : Nat} (h : j < 5) (hp : post 1) : wpX_isServer post u (nI j) := by
  obtain ⟨_, _, _, _, _, _, _, _, _, _, _, _, _, _, _, _, _, _, _, _, _, _, _, _, _, _, _, _, _⟩ := u
  exact br_f (nI_pos (by omega)) (br_f (nI_ge (b := 5) h (by decide)) hp)
/-- a used slot: nothing, or its place -/
theorem aq_xu0 (hs : sN ≤ 48) (h : qd_no sN p ∨ ∃ k, k < sN ∧ p = nI k ∧ ms (k * 8) = 0) (hp : post 0) : wpX_isUsed post (nI cN, nI rN, nI sN, nI oN, ph, nI wN, gh, oC, oK, oR, oS, oT, oW, cC, cO, cH, lT, sI, sK, sT, cM, gT, qd_K ms, qd_S ms, qd_O ms, qd_C ms, qd_T ms, iT, uT) p := by
  rcases h with h | ⟨k, hk, rfl, h⟩
  · by_cases h0 : p < 0
    · exact br_t h0 hp
    · exact br_f h0 (br_t (h.resolve_left h0) hp)
  · have e : qd_K ms (nI k).toNatClampNeg = 0 := by rw [nI_clamp (by omega)]; exact h
    exact br_f (nI_pos (by omega)) (br_f (nI_ge hk (by omega)) ⟨vp_in_nI (by omega) (by omega), br_t e hp⟩)
theorem aq_xu1 {k : Nat} (hs : sN ≤ 48) (hk : k < sN) (h : ¬ ms (k * 8) = 0) (hp : post 1) : wpX_isUsed post (nI cN, nI rN, nI sN, nI oN, ph, nI wN, gh, oC, oK, oR, oS, oT, oW, cC, cO, cH, lT, sI, sK, sT, cM, gT, qd_K ms, qd_S ms, qd_O ms, qd_C ms, qd_T ms, iT, uT) (nI k) := by
  have e : ¬ qd_K ms (nI k).toNatClampNeg = 0 := by rw [nI_clamp (by omega)]; exact h
  exact br_f (nI_pos (by omega)) (br_f (nI_ge hk (by omega)) ⟨vp_in_nI (by omega) (by omega), br_f e hp⟩)
theorem aq_uc (n : Nat) (ms : Nat → Int32) (p : Int32) (hn : n < 2 ^ 31) : (qd_no n p ∨ ∃ k, k < n ∧ p = nI k ∧ ms (k * 8) = 0) ∨ ∃ k, k < n ∧ p = nI k ∧ ¬ ms (k * 8) = 0 := by
  rcases aq_noc n p hn with h | ⟨k, hk, h⟩
  · exact Or.inl (Or.inl h)
  · by_cases z : ms (k * 8) = 0
    · exact Or.inl (Or.inr ⟨k, hk, h, z⟩)
    · exact Or.inr ⟨k, hk, h, z⟩
/-- the lowest free slot -/
theorem aq_xlf_ (hs : sN ≤ 48) : ∀ d i, i + d = sN → post (qd_ffr ms d i) → wX_lowestFree_2 post (nI cN) (nI rN) (nI sN) (nI oN) ph (nI wN) gh oC oK oR oS oT oW cC cO cH lT sI sK sT cM gT (qd_K ms) (qd_S ms) (qd_O ms) (qd_C ms) (qd_T ms) iT uT (d + 1) (nI i) := by
  intro d
  induction d with
  | zero =>
    intro i hi hp
    have e : i = sN := by omega
    exact br_t (nI_le (by omega) (by omega)) hp
  | succ d ih =>
    intro i hi hp
    have h : ¬ nI sN ≤ nI i := nI_ge (by omega) (by omega)
    have e : qd_K ms (nI i).toNatClampNeg = ms (i * 8) := by rw [nI_clamp (by omega)]; rfl
    by_cases z : ms (i * 8) = 0
    · rw [show qd_ffr ms (d + 1) i = nI i from if_pos z] at hp
      exact br_f h ⟨vp_in_nI (by omega) (by omega), br_t (e.trans z) hp⟩
    · rw [show qd_ffr ms (d + 1) i = qd_ffr ms d (i + 1) from if_neg z] at hp
      exact br_f h ⟨vp_in_nI (by omega) (by omega), br_f (fun w => z (e.symm.trans w)) (nm_r (nI_1 i) (ih (i + 1) (by omega) hp))⟩
theorem aq_xlf (hs : sN ≤ 48) (hp : post (qd_ff ms sN)) : wpX_lowestFree post (nI cN, nI rN, nI sN, nI oN, ph, nI wN, gh, oC, oK, oR, oS, oT, oW, cC, cO, cH, lT, sI, sK, sT, cM, gT, qd_K ms, qd_S ms, qd_O ms, qd_C ms, qd_T ms, iT, uT) := Exists.intro (sN + 1) (aq_xlf_ hs sN 0 (by omega) hp)
/-- the tags to send, cleared up to i -/
def qd_zi (f : Nat → Int32) (i : Nat) : Nat → Int32 := fun j => if j < i then 0 else f j
theorem aq_zi0 {f : Nat → Int32} : qd_zi f 0 = f := funext fun _ => if_neg (by omega)
theorem aq_zis {f : Nat → Int32} {i : Nat} : upd (qd_zi f i) i 0 = qd_zi f (i + 1) := funext fun j => by
  unfold upd qd_zi
  by_cases h : j = i
  · rw [if_pos h, if_pos (by omega)]
  · rw [if_neg h]
    by_cases h2 : j < i
    · rw [if_pos h2, if_pos (by omega)]
    · rw [if_neg h2, if_neg (by omega)]
theorem aq_zi4 {f : Nat → Int32} {i : Nat} (h : i < 4) : qd_zi f 4 i = 0 := if_pos h
theorem aq_xclr_ (hp : post0 (nI cN, nI rN, nI sN, nI oN, ph, nI wN, gh, oC, oK, oR, oS, oT, oW, cC, cO, cH, lT, sI, sK, sT, cM, gT, qd_K ms, qd_S ms, qd_O ms, qd_C ms, qd_T ms, iT, qd_zi uT 4)) : ∀ d i, i + d = 4 → wX_clearOut_2 post0 (nI cN) (nI rN) (nI sN) (nI oN) ph (nI wN) gh (d + 1) (nI i) oC oK oR oS oT oW cC cO cH lT sI sK sT cM gT (qd_K ms) (qd_S ms) (qd_O ms) (qd_C ms) (qd_T ms) iT (qd_zi uT i) := by
  intro d
  induction d with
  | zero =>
    intro i hi
    have e : i = 4 := by omega
    subst e
    exact br_t (nI_le (a := 4) (b := 4) (by omega) (by omega)) hp
  | succ d ih =>
    intro i hi
    exact br_f (nI_ge (b := 4) (by omega) (by decide)) ⟨vp_in_nI (by omega) (by omega), nm_r (e' := qd_zi uT (i + 1)) (by rw [nI_clamp (by omega)]; exact aq_zis) (nm_r (nI_1 i) (ih (i + 1) (by omega)))⟩
theorem aq_xclr (hp : post0 (nI cN, nI rN, nI sN, nI oN, ph, nI wN, gh, oC, oK, oR, oS, oT, oW, cC, cO, cH, lT, sI, sK, sT, cM, gT, qd_K ms, qd_S ms, qd_O ms, qd_C ms, qd_T ms, iT, qd_zi uT 4)) : wpX_clearOut post0 (nI cN, nI rN, nI sN, nI oN, ph, nI wN, gh, oC, oK, oR, oS, oT, oW, cC, cO, cH, lT, sI, sK, sT, cM, gT, qd_K ms, qd_S ms, qd_O ms, qd_C ms, qd_T ms, iT, uT) := by
  have h := aq_xclr_ hp 4 0 rfl
  rw [aq_zi0] at h
  exact Exists.intro 5 h
/-- a message sent -/
theorem aq_xs49 {k : Nat} (hk : k < 48) (ht : ∀ i, i < 4 → uT i = t i) (hp : post2 1 (nI cN, nI rN, nI sN, nI oN, ph, nI wN, gh, oC, oK, oR, oS, oT, oW, cC, cO, cH, lT, sI, sK, sT, cM, gT, mK, mS, mO, mC, qd_aT mT k 4 t, iT, uT)) : ∀ d i, i + d = 4 → wX_send_49 post2 (nI k) (nI cN) (nI rN) (nI sN) (nI oN) ph (nI wN) gh (d + 1) (nI i) oC oK oR oS oT oW cC cO cH lT sI sK sT cM gT mK mS mO mC (qd_aT mT k i t) iT uT := by
  intro d
  induction d with
  | zero =>
    intro i hi
    have e : i = 4 := by omega
    subst e
    exact br_t (nI_le (a := 4) (b := 4) (by omega) (by omega)) hp
  | succ d ih =>
    intro i hi
    exact br_f (nI_ge (b := 4) (by omega) (by decide)) ⟨vp_in_nI (by omega) (by omega), aq_v4 (by omega) (by omega), nm_r (e' := qd_aT mT k (i + 1) t) (by rw [aq_c4 (by omega), nI_clamp (by omega), ht i (by omega)]; exact aq_aTs (by omega)) (nm_r (nI_1 i) (ih (i + 1) (by omega)))⟩
theorem aq_xsend (hs : sN ≤ 48) (ht : ∀ i, i < 4 → uT i = t i) (hp : post2 (qd_sr ms sN) (nI cN, nI rN, nI sN, nI oN, ph, nI wN, gh, oC, oK, oR, oS, oT, oW, cC, cO, cH, lT, sI, sK, sT, cM, gT, qd_K (qd_sm ms sN (qd_mf kd s o c t)), qd_S (qd_sm ms sN (qd_mf kd s o c t)), qd_O (qd_sm ms sN (qd_mf kd s o c t)), qd_C (qd_sm ms sN (qd_mf kd s o c t)), qd_T (qd_sm ms sN (qd_mf kd s o c t)), iT, uT)) : wpX_send post2 (nI cN, nI rN, nI sN, nI oN, ph, nI wN, gh, oC, oK, oR, oS, oT, oW, cC, cO, cH, lT, sI, sK, sT, cM, gT, qd_K ms, qd_S ms, qd_O ms, qd_C ms, qd_T ms, iT, uT) kd s o c := by
  unfold wpX_send
  refine aq_xlf hs ?_
  rcases aq_ff ms sN with h | ⟨k, hk, _, h⟩
  · rw [(aq_smn h).1, (aq_smn (f := qd_mf kd s o c t) h).2] at hp
    rw [h]
    exact br_f (by decide) hp
  · rw [(aq_sms (by omega) h).1, (aq_sms (f := qd_mf kd s o c t) (by omega) h).2, aq_psK, aq_psS, aq_psO, aq_psC, aq_psT (t := t) (fun r => aq_mf4 r)] at hp
    rw [h]
    have ek : (nI k).toNatClampNeg = k := nI_clamp (by omega)
    have hi : vp_in (nI k) 48 := vp_in_nI (by omega) (by omega)
    have L := aq_xs49 (by omega) ht hp 4 0 rfl
    rw [aq_aT0] at L
    exact br_t (nI_pos' (by omega)) ⟨hi, nm_r (e' := upd (qd_K ms) k kd) (by rw [ek]) ⟨hi, nm_r (e' := upd (qd_S ms) k s) (by rw [ek]) ⟨hi, nm_r (e' := upd (qd_O ms) k o) (by rw [ek]) ⟨hi, nm_r (e' := upd (qd_C ms) k c) (by rw [ek]) ⟨5, L⟩⟩⟩⟩⟩
theorem aq_sr01 (ms : Nat → Int32) (n : Nat) : qd_sr ms n = 0 ∨ qd_sr ms n = 1 := by
  unfold qd_sr; split
  · exact Or.inl rfl
  · exact Or.inr rfl
theorem aq_xss_ (hs : sN ≤ 48) (ht : ∀ i, i < 4 → uT i = t i) : ∀ (d s : Nat) (a : Int32) (ms : Nat → Int32), s + d = 5 → post2 (qd_ar_ sN kd set o c t d s a ms) (nI cN, nI rN, nI sN, nI oN, ph, nI wN, gh, oC, oK, oR, oS, oT, oW, cC, cO, cH, lT, sI, sK, sT, cM, gT, qd_K (qd_am_ sN kd set o c t d s ms), qd_S (qd_am_ sN kd set o c t d s ms), qd_O (qd_am_ sN kd set o c t d s ms), qd_C (qd_am_ sN kd set o c t d s ms), qd_T (qd_am_ sN kd set o c t d s ms), iT, uT) → wX_sendToSet_6 post2 kd set o c (d + 1) a (nI s) (nI cN) (nI rN) (nI sN) (nI oN) ph (nI wN) gh oC oK oR oS oT oW cC cO cH lT sI sK sT cM gT (qd_K ms) (qd_S ms) (qd_O ms) (qd_C ms) (qd_T ms) iT uT := by
  intro d
  induction d with
  | zero =>
    intro s a ms he hp
    have e : s = 5 := by omega
    subst e
    exact br_t (nI_le (a := 5) (b := 5) (by omega) (by omega)) hp
  | succ d ih =>
    intro s a ms he hp
    have h5 : ¬ (5 : Int32) ≤ nI s := nI_ge (b := 5) (by omega) (by decide)
    by_cases hb : bt set s = true
    · rw [aq_am_t hb, aq_ar_t hb] at hp
      refine br_f h5 (br_f (aq_xt (by omega) hb) (aq_xsend hs ht ?_))
      rcases aq_sr01 ms sN with z | z
      · rw [z, Int32.add_zero] at hp
        rw [z]
        exact br_t rfl (nm_r (nI_1 s) (ih (s + 1) a _ (by omega) hp))
      · rw [z] at hp
        rw [z]
        exact br_f (by decide) (nm_e (nm_r (nI_1 s) (ih (s + 1) (a + 1) _ (by omega) hp)))
    · rw [aq_am_f hb, aq_ar_f hb] at hp
      exact br_f h5 (br_t (aq_xf (by omega) (by simpa using hb)) (nm_r (nI_1 s) (ih (s + 1) a ms (by omega) hp)))
theorem aq_xss (hs : sN ≤ 48) (ht : ∀ i, i < 4 → uT i = t i) (hp : post2 (qd_sar sN kd set o c t ms) (nI cN, nI rN, nI sN, nI oN, ph, nI wN, gh, oC, oK, oR, oS, oT, oW, cC, cO, cH, lT, sI, sK, sT, cM, gT, qd_K (qd_sam sN kd set o c t ms), qd_S (qd_sam sN kd set o c t ms), qd_O (qd_sam sN kd set o c t ms), qd_C (qd_sam sN kd set o c t ms), qd_T (qd_sam sN kd set o c t ms), iT, uT)) : wpX_sendToSet post2 (nI cN, nI rN, nI sN, nI oN, ph, nI wN, gh, oC, oK, oR, oS, oT, oW, cC, cO, cH, lT, sI, sK, sT, cM, gT, qd_K ms, qd_S ms, qd_O ms, qd_C ms, qd_T ms, iT, uT) kd set o c := Exists.intro 6 (aq_xss_ hs ht 5 0 0 ms rfl hp)
/-- sizes and quorums -/
def qd_sz (x : Int32) : Int32 := 0 + ((x >>> ((0 : Int32) &&& 31)) &&& 1) + ((x >>> ((1 : Int32) &&& 31)) &&& 1) + ((x >>> ((2 : Int32) &&& 31)) &&& 1) + ((x >>> ((3 : Int32) &&& 31)) &&& 1) + ((x >>> ((4 : Int32) &&& 31)) &&& 1)
theorem aq_xsz {x : Int32} (hp : post (qd_sz x)) : wpX_sizeOf post (nI cN, nI rN, nI sN, nI oN, ph, nI wN, gh, oC, oK, oR, oS, oT, oW, cC, cO, cH, lT, sI, sK, sT, cM, gT, qd_K ms, qd_S ms, qd_O ms, qd_C ms, qd_T ms, iT, uT) x :=
  Exists.intro 6 (br_f (by decide) (nm_e (nm_r (e' := 1) (by decide) (br_f (by decide) (nm_e (nm_r (e' := 2) (by decide) (br_f (by decide) (nm_e (nm_r (e' := 3) (by decide) (br_f (by decide) (nm_e (nm_r (e' := 4) (by decide) (br_f (by decide) (nm_e (nm_r (e' := 5) (by decide) (br_t (by decide) hp))))))))))))))))
def qd_q (h a : Int32) : Int32 := if 2 * qd_sz h ≤ qd_sz a then 0 else 1
theorem aq_xq {m : Nat} {h : Int32} (hm : m < 9) (hb : h &&& cM m = h) (hp : post (qd_q h (cM m))) : wpX_isQuorum post (nI cN, nI rN, nI sN, nI oN, ph, nI wN, gh, oC, oK, oR, oS, oT, oW, cC, cO, cH, lT, sI, sK, sT, cM, gT, qd_K ms, qd_S ms, qd_O ms, qd_C ms, qd_T ms, iT, uT) h (nI m) := by
  refine And.intro (vp_in_nI hm (by omega)) (nm_r (e' := cM m) (by rw [nI_clamp (by omega)]) ?_)
  refine aq_xsz ?_
  rw [hb]
  refine aq_xsz ?_
  unfold qd_q at hp
  by_cases z : 2 * qd_sz h ≤ qd_sz (cM m)
  · rw [if_pos z] at hp; exact br_t z hp
  · rw [if_neg z] at hp; exact br_f z hp
/-- agreement -/
theorem aq_xag0 {j q : Nat} (hj : j < 4) (ho : cO j = nI q) (hq : q ≤ 64) (h : q = 0 ∨ ¬ oS q = 1) (hp : post 0) : wpX_agrees post (nI cN, nI rN, nI sN, nI oN, ph, nI wN, gh, oC, oK, oR, oS, oT, oW, cC, cO, cH, lT, sI, sK, sT, cM, gT, qd_K ms, qd_S ms, qd_O ms, qd_C ms, qd_T ms, iT, uT) (nI j) := by
  refine And.intro (vp_in_nI hj (by omega)) (nm_r (e' := nI q) (by rw [nI_clamp (by omega), ho]) ?_)
  by_cases z : q = 0
  · exact br_t (by rw [z]; rfl) hp
  · have e : ¬ oS (nI q).toNatClampNeg = 1 := by rw [nI_clamp (by omega)]; exact h.resolve_left z
    exact br_f (nI_ne0 (by omega) (by omega)) ⟨vp_in_nI (by omega) (by omega), br_f e hp⟩
theorem aq_xag {j q : Nat} {r : Int32} (hj : j < 4) (ho : cO j = nI q) (hq : q ≤ 64) (h0 : 1 ≤ q) (h1 : oS q = 1) (h : (r = 1 ∧ (cH j = 0 ∨ lT j = oT q)) ∨ (r = 0 ∧ ¬ cH j = 0 ∧ ¬ lT j = oT q)) (hp : post r) : wpX_agrees post (nI cN, nI rN, nI sN, nI oN, ph, nI wN, gh, oC, oK, oR, oS, oT, oW, cC, cO, cH, lT, sI, sK, sT, cM, gT, qd_K ms, qd_S ms, qd_O ms, qd_C ms, qd_T ms, iT, uT) (nI j) := by
  have hv : vp_in (nI j) 4 := vp_in_nI hj (by omega)
  have hw : vp_in (nI q) 65 := vp_in_nI (by omega) (by omega)
  have e : oS (nI q).toNatClampNeg = 1 := by rw [nI_clamp (by omega)]; exact h1
  have eH : cH (nI j).toNatClampNeg = cH j := by rw [nI_clamp (by omega)]
  have eL : lT (nI j).toNatClampNeg = lT j := by rw [nI_clamp (by omega)]
  have eT : oT (nI q).toNatClampNeg = oT q := by rw [nI_clamp (by omega)]
  refine And.intro hv (nm_r (e' := nI q) (by rw [nI_clamp (by omega), ho]) ?_)
  refine br_f (nI_ne0 (by omega) (by omega)) ⟨hw, br_t e ⟨hv, ?_⟩⟩
  rw [eH, eL, eT]
  rcases h with ⟨rfl, h⟩ | ⟨rfl, h, h2⟩
  · by_cases z : cH j = 0
    · exact br_t z hp
    · exact br_f z ⟨hv, hw, br_t (h.resolve_left z) hp⟩
  · exact br_f h ⟨hv, hw, br_f h2 hp⟩
theorem aq_xfin {q j : Nat} (hq : q ≤ 64) (hj : j < 4) (hc : oC q = nI j) (hp : post0 (nI cN, nI rN, nI sN, nI oN, ph, nI wN, gh, oC, oK, oR, upd oS q 3, oT, oW, cC, upd cO j 0, upd cH j 0, lT, sI, sK, sT, cM, gT, qd_K ms, qd_S ms, qd_O ms, qd_C ms, qd_T ms, iT, uT)) : wpX_finish post0 (nI cN, nI rN, nI sN, nI oN, ph, nI wN, gh, oC, oK, oR, oS, oT, oW, cC, cO, cH, lT, sI, sK, sT, cM, gT, qd_K ms, qd_S ms, qd_O ms, qd_C ms, qd_T ms, iT, uT) (nI q) := by
  have hv : vp_in (nI j) 4 := vp_in_nI hj (by omega)
  have hw : vp_in (nI q) 65 := vp_in_nI (by omega) (by omega)
  have ej : (nI j).toNatClampNeg = j := nI_clamp (by omega)
  have eq : (nI q).toNatClampNeg = q := nI_clamp (by omega)
  exact And.intro hw (nm_r (e' := nI j) (by rw [eq, hc]) ⟨hw, nm_r (e' := upd oS q 3) (by rw [eq]) ⟨hv, nm_r (e' := upd cO j 0) (by rw [ej]) ⟨hv, nm_r (e' := upd cH j 0) (by rw [ej]) hp⟩⟩⟩)
end
end
section
/-! the reference's helpers -/
section
variable {cN rN sN oN wN B : Nat} {ph gh rh : Int32} {oC oK oR oS oT oW cC cO cH lT sI sK sT cM gT ms iT uT cR : Nat → Int32}
variable {t : Nat → Int32} {post : Int32 → Prop} {post0 : SY → Prop} {post2 : Int32 → SY → Prop} {p kd set o c s : Int32}
theorem aq_yclamp {u : SY} {x a b : Int32} (h : post (qd_cl x a b)) : wpY_clamp post u x a b := by
  obtain ⟨_, _, _, _, _, _, _, _, _, _, _, _, _, _, _, _, _, _, _, _, _, _, _⟩ := u
  unfold qd_cl at h
  by_cases h1 : a ≤ x
  · rw [if_pos h1] at h
    by_cases h2 : x ≤ b
    · rw [if_pos h2] at h; exact br_t h1 (br_t h2 h)
    · rw [if_neg h2] at h; exact br_t h1 (br_f h2 h)
  · rw [if_neg h1] at h; exact br_f h1 h
theorem aq_ygr {u : SY} {a b : Int32} (h : post (qd_mx a b)) : wpY_greater post u a b := by
  obtain ⟨_, _, _, _, _, _, _, _, _, _, _, _, _, _, _, _, _, _, _, _, _, _, _⟩ := u
  unfold qd_mx at h
  by_cases h1 : a ≤ b
  · rw [if_pos h1] at h; exact br_t h1 h
  · rw [if_neg h1] at h; exact br_f h1 h
theorem aq_yh1 {u : SY} {x : Int32} {i : Nat} (hi : i < 5) (hb : bt x i = true) (h : post 1) : wpY_has post u x (nI i) := by
  obtain ⟨_, _, _, _, _, _, _, _, _, _, _, _, _, _, _, _, _, _, _, _, _, _, _⟩ := u
  exact br_t (aq_yt hi hb) h
theorem aq_yh0 {u : SY} {x : Int32} {i : Nat} (hi : i < 5) (hb : ¬ bt x i = true) (h : post 0) : wpY_has post u x (nI i) := by
  obtain ⟨_, _, _, _, _, _, _, _, _, _, _, _, _, _, _, _, _, _, _, _, _, _, _⟩ := u
  exact br_f (aq_yf hi (by simpa using hb)) h
theorem aq_sz (x : Int32) : ((((x &&& 1) + ((x >>> ((1 : Int32) &&& 31)) &&& 1)) + ((x >>> ((2 : Int32) &&& 31)) &&& 1)) + ((x >>> ((3 : Int32) &&& 31)) &&& 1)) + ((x >>> ((4 : Int32) &&& 31)) &&& 1) = qd_sz x := by
  unfold qd_sz
  have e : x >>> ((0 : Int32) &&& 31) = x := b_ext fun i hi => by
    have h := b_sshr 0 (by omega) x hi
    rw [nI_0, Nat.zero_add, if_pos hi] at h
    exact h
  rw [e, Int32.zero_add]
theorem aq_ysz {u : SY} {x : Int32} (h : post (qd_sz x)) : wpY_size post u x := by
  obtain ⟨_, _, _, _, _, _, _, _, _, _, _, _, _, _, _, _, _, _, _, _, _, _, _⟩ := u
  rw [← aq_sz x] at h
  exact h
theorem aq_yq {m : Nat} {h : Int32} (hm : m < 9) (hp : post (qd_q h (cM m))) : wpY_quorum post (nI cN, nI rN, nI sN, nI oN, ph, nI wN, rh, cM, oC, oK, oR, oW, oS, oT, cC, cO, cH, cR, sI, sK, sT, gT, ms) h (nI m) := by
  unfold wpY_quorum
  refine aq_ysz ?_
  refine ⟨vp_in_nI hm (by omega), ?_⟩
  rw [nI_clamp (show m < 2 ^ 31 by omega)]
  refine aq_ysz ?_
  unfold qd_q at hp
  by_cases z : 2 * qd_sz h ≤ qd_sz (cM m)
  · rw [if_pos z] at hp; exact br_t z hp
  · rw [if_neg z] at hp; exact br_f z hp
theorem aq_yc1 (h : qd_no cN p) (hp : post 1) : wpY_noClient post (nI cN, nI rN, nI sN, nI oN, ph, nI wN, rh, cM, oC, oK, oR, oW, oS, oT, cC, cO, cH, cR, sI, sK, sT, gT, ms) p := by
  by_cases h0 : p < 0
  · exact br_t h0 hp
  · exact br_f h0 (br_f (aq_nlt (h.resolve_left h0)) hp)
theorem aq_yc0 {j : Nat} (h : j < cN) (hn : cN < 2 ^ 31) (hp : post 0) : wpY_noClient post (nI cN, nI rN, nI sN, nI oN, ph, nI wN, rh, cM, oC, oK, oR, oW, oS, oT, cC, cO, cH, cR, sI, sK, sT, gT, ms) (nI j) :=
  br_f (nI_pos (by omega)) (br_t (nI_lt h hn) hp)
theorem aq_yr1 (h : qd_no rN p) (hp : post 1) : wpY_noRegister post (nI cN, nI rN, nI sN, nI oN, ph, nI wN, rh, cM, oC, oK, oR, oW, oS, oT, cC, cO, cH, cR, sI, sK, sT, gT, ms) p := by
  by_cases h0 : p < 0
  · exact br_t h0 hp
  · exact br_f h0 (br_f (aq_nlt (h.resolve_left h0)) hp)
theorem aq_yr0 {j : Nat} (h : j < rN) (hn : rN < 2 ^ 31) (hp : post 0) : wpY_noRegister post (nI cN, nI rN, nI sN, nI oN, ph, nI wN, rh, cM, oC, oK, oR, oW, oS, oT, cC, cO, cH, cR, sI, sK, sT, gT, ms) (nI j) :=
  br_f (nI_pos (by omega)) (br_t (nI_lt h hn) hp)
theorem aq_yv1 {u : SY} (h : qd_no 5 p) (hp : post 1) : wpY_noServer post u p := by
  obtain ⟨_, _, _, _, _, _, _, _, _, _, _, _, _, _, _, _, _, _, _, _, _, _, _⟩ := u
  by_cases h0 : p < 0
  · exact br_t h0 hp
  · exact br_f h0 (br_f (aq_nlt (n := 5) (h.resolve_left h0)) hp)
theorem aq_yv0 {u : SY} {j : Nat} (h : j < 5) (hp : post 0) : wpY_noServer post u (nI j) := by
  obtain ⟨_, _, _, _, _, _, _, _, _, _, _, _, _, _, _, _, _, _, _, _, _, _, _⟩ := u
  exact br_f (nI_pos (by omega)) (br_t (nI_lt (b := 5) h (by decide)) hp)
theorem aq_yu1 (hs : sN ≤ 48) (h : qd_no sN p ∨ ∃ k, k < sN ∧ p = nI k ∧ ms (k * 8) = 0) (hp : post 1) : wpY_noMessage post (nI cN, nI rN, nI sN, nI oN, ph, nI wN, rh, cM, oC, oK, oR, oW, oS, oT, cC, cO, cH, cR, sI, sK, sT, gT, ms) p := by
  rcases h with h | ⟨k, hk, rfl, h⟩
  · by_cases h0 : p < 0
    · exact br_t h0 hp
    · exact br_f h0 (br_t (h.resolve_left h0) hp)
  · have e : ms (nI k * 8 + 0).toNatClampNeg = 0 := by rw [aq_c80 (by omega)]; exact h
    exact br_f (nI_pos (by omega)) (br_f (nI_ge hk (by omega)) ⟨aq_v80 (by omega), br_t e hp⟩)
theorem aq_yu0 {k : Nat} (hs : sN ≤ 48) (hk : k < sN) (h : ¬ ms (k * 8) = 0) (hp : post 0) : wpY_noMessage post (nI cN, nI rN, nI sN, nI oN, ph, nI wN, rh, cM, oC, oK, oR, oW, oS, oT, cC, cO, cH, cR, sI, sK, sT, gT, ms) (nI k) := by
  have e : ¬ ms (nI k * 8 + 0).toNatClampNeg = 0 := by rw [aq_c80 (by omega)]; exact h
  exact br_f (nI_pos (by omega)) (br_f (nI_ge hk (by omega)) ⟨aq_v80 (by omega), br_f e hp⟩)
theorem aq_yff_ (hs : sN ≤ 48) : ∀ d i, i + d = sN → post (qd_ffr ms d i) → wY_freeSlot_2 post (nI cN) (nI rN) (nI sN) (nI oN) ph (nI wN) rh cM oC oK oR oW oS oT cC cO cH cR sI sK sT gT ms (d + 1) (nI i) := by
  intro d
  induction d with
  | zero =>
    intro i hi hp
    exact br_t (nI_le (by omega) (by omega)) hp
  | succ d ih =>
    intro i hi hp
    have h : ¬ nI sN ≤ nI i := nI_ge (by omega) (by omega)
    have e : ms (nI i * 8 + 0).toNatClampNeg = ms (i * 8) := by rw [aq_c80 (by omega)]
    by_cases z : ms (i * 8) = 0
    · rw [show qd_ffr ms (d + 1) i = nI i from if_pos z] at hp
      exact br_f h ⟨aq_v80 (by omega), br_t (e.trans z) hp⟩
    · rw [show qd_ffr ms (d + 1) i = qd_ffr ms d (i + 1) from if_neg z] at hp
      exact br_f h ⟨aq_v80 (by omega), br_f (fun w => z (e.symm.trans w)) (nm_r (nI_1 i) (ih (i + 1) (by omega) hp))⟩
theorem aq_yff (hs : sN ≤ 48) (hp : post (qd_ff ms sN)) : wpY_freeSlot post (nI cN, nI rN, nI sN, nI oN, ph, nI wN, rh, cM, oC, oK, oR, oW, oS, oT, cC, cO, cH, cR, sI, sK, sT, gT, ms) := Exists.intro (sN + 1) (aq_yff_ hs sN 0 (by omega) hp)
/-- a message sent: t is what the reference finds to be carried -/
theorem aq_ys69 {k : Nat} (hk : k < 48) (ht : ∀ (i : Nat) (ms' : Nat → Int32) (q : Int32 → Prop), i < 4 → q (t i) → wpY_carried q (nI cN, nI rN, nI sN, nI oN, ph, nI wN, rh, cM, oC, oK, oR, oW, oS, oT, cC, cO, cH, cR, sI, sK, sT, gT, ms') kd s o (nI i)) (hp : post2 1 (nI cN, nI rN, nI sN, nI oN, ph, nI wN, rh, cM, oC, oK, oR, oW, oS, oT, cC, cO, cH, cR, sI, sK, sT, gT, qd_am ms k 8 (qd_mf kd s o c t))) : ∀ d i, i + d = 4 → wY_send_69 post2 kd s o (nI k) (nI cN) (nI rN) (nI sN) (nI oN) ph (nI wN) rh (d + 1) (nI i) cM oC oK oR oW oS oT cC cO cH cR sI sK sT gT (qd_am ms k (4 + i) (qd_mf kd s o c t)) := by
  intro d
  induction d with
  | zero =>
    intro i hi
    have e : i = 4 := by omega
    subst e
    exact br_t (nI_le (a := 4) (b := 4) (by omega) (by omega)) hp
  | succ d ih =>
    intro i hi
    refine br_f (nI_ge (b := 4) (by omega) (by decide)) (ht i _ _ (by omega) ?_)
    exact ⟨aq_w8 hk (by omega), nm_r (e' := qd_am ms k (4 + (i + 1)) (qd_mf kd s o c t)) (by
      rw [aq_d8 hk (by omega), ← aq_mf4 (kd := kd) (s := s) (o := o) (c := c) (t := t) i, Nat.add_assoc]; exact aq_ams (by omega)) (nm_r (nI_1 i) (ih (i + 1) (by omega)))⟩
theorem aq_ysend (hs : sN ≤ 48) (ht : ∀ (i : Nat) (ms' : Nat → Int32) (q : Int32 → Prop), i < 4 → q (t i) → wpY_carried q (nI cN, nI rN, nI sN, nI oN, ph, nI wN, rh, cM, oC, oK, oR, oW, oS, oT, cC, cO, cH, cR, sI, sK, sT, gT, ms') kd s o (nI i)) (hp : post2 (qd_sr ms sN) (nI cN, nI rN, nI sN, nI oN, ph, nI wN, rh, cM, oC, oK, oR, oW, oS, oT, cC, cO, cH, cR, sI, sK, sT, gT, qd_sm ms sN (qd_mf kd s o c t))) : wpY_send post2 (nI cN, nI rN, nI sN, nI oN, ph, nI wN, rh, cM, oC, oK, oR, oW, oS, oT, cC, cO, cH, cR, sI, sK, sT, gT, ms) kd s o c := by
  unfold wpY_send
  refine aq_yff hs ?_
  rcases aq_ff ms sN with h | ⟨k, hk, _, h⟩
  · rw [(aq_smn h).1, (aq_smn (f := qd_mf kd s o c t) h).2] at hp
    rw [h]
    exact br_f (by decide) hp
  · rw [(aq_sms (by omega) h).1, (aq_sms (f := qd_mf kd s o c t) (by omega) h).2, ← aq_am8] at hp
    rw [h]
    have hk8 : k < 48 := by omega
    have L := aq_ys69 (ms := ms) hk8 ht hp 4 0 rfl
    rw [Nat.add_zero, ← aq_am4] at L
    exact br_t (nI_pos' (by omega)) ⟨aq_v80 hk8, nm_r (e' := upd ms (k * 8) kd) (by rw [aq_c80 hk8]) ⟨aq_v81 hk8, nm_r (e' := upd (upd ms (k * 8) kd) (k * 8 + 1) s) (by rw [aq_c81 hk8]) ⟨aq_v82 hk8, nm_r (e' := upd (upd (upd ms (k * 8) kd) (k * 8 + 1) s) (k * 8 + 2) o) (by rw [aq_c82 hk8]) ⟨aq_v83 hk8, nm_r (e' := upd (upd (upd (upd ms (k * 8) kd) (k * 8 + 1) s) (k * 8 + 2) o) (k * 8 + 3) c) (by rw [aq_c83 hk8]) ⟨5, L⟩⟩⟩⟩⟩
theorem aq_yss_ (hs : sN ≤ 48) (ht : ∀ (j i : Nat) (ms' : Nat → Int32) (q : Int32 → Prop), j < 5 → i < 4 → q (t i) → wpY_carried q (nI cN, nI rN, nI sN, nI oN, ph, nI wN, rh, cM, oC, oK, oR, oW, oS, oT, cC, cO, cH, cR, sI, sK, sT, gT, ms') kd (nI j) o (nI i)) : ∀ (d s : Nat) (a : Int32) (ms : Nat → Int32), s + d = 5 → post2 (qd_ar_ sN kd set o c t d s a ms) (nI cN, nI rN, nI sN, nI oN, ph, nI wN, rh, cM, oC, oK, oR, oW, oS, oT, cC, cO, cH, cR, sI, sK, sT, gT, qd_am_ sN kd set o c t d s ms) → wY_sendAll_6 post2 kd set o c (d + 1) a (nI s) (nI cN) (nI rN) (nI sN) (nI oN) ph (nI wN) rh cM oC oK oR oW oS oT cC cO cH cR sI sK sT gT ms := by
  intro d
  induction d with
  | zero =>
    intro s a ms he hp
    have e : s = 5 := by omega
    subst e
    exact br_t (nI_le (a := 5) (b := 5) (by omega) (by omega)) hp
  | succ d ih =>
    intro s a ms he hp
    have h5 : ¬ (5 : Int32) ≤ nI s := nI_ge (b := 5) (by omega) (by decide)
    by_cases hb : bt set s = true
    · rw [aq_am_t hb, aq_ar_t hb] at hp
      refine br_f h5 (aq_yh1 (by omega) hb ?_)
      refine br_f (by decide) (aq_ysend hs (fun i ms' q hi hq => ht s i ms' q (by omega) hi hq) ?_)
      exact nm_e (nm_r (nI_1 s) (ih (s + 1) _ _ (by omega) hp))
    · rw [aq_am_f hb, aq_ar_f hb] at hp
      refine br_f h5 (aq_yh0 (by omega) hb ?_)
      exact br_t rfl (nm_r (nI_1 s) (ih (s + 1) a ms (by omega) hp))
theorem aq_yss (hs : sN ≤ 48) (ht : ∀ (j i : Nat) (ms' : Nat → Int32) (q : Int32 → Prop), j < 5 → i < 4 → q (t i) → wpY_carried q (nI cN, nI rN, nI sN, nI oN, ph, nI wN, rh, cM, oC, oK, oR, oW, oS, oT, cC, cO, cH, cR, sI, sK, sT, gT, ms') kd (nI j) o (nI i)) (hp : post2 (qd_sar sN kd set o c t ms) (nI cN, nI rN, nI sN, nI oN, ph, nI wN, rh, cM, oC, oK, oR, oW, oS, oT, cC, cO, cH, cR, sI, sK, sT, gT, qd_sam sN kd set o c t ms)) : wpY_sendAll post2 (nI cN, nI rN, nI sN, nI oN, ph, nI wN, rh, cM, oC, oK, oR, oW, oS, oT, cC, cO, cH, cR, sI, sK, sT, gT, ms) kd set o c := Exists.intro 6 (aq_yss_ hs ht 5 0 0 ms rfl hp)
/-- what is carried, by kind -/
theorem aq_car7 {j i : Nat} (hj : j < 5) (hi : i < 4) (hp : post (sT (j * 4 + i))) : wpY_carried post (nI cN, nI rN, nI sN, nI oN, ph, nI wN, rh, cM, oC, oK, oR, oW, oS, oT, cC, cO, cH, cR, sI, sK, sT, gT, ms) 7 (nI j) o (nI i) := by
  refine br_t rfl ⟨aq_v4 (by omega) (by omega), ?_⟩
  rw [aq_c4 (by omega)]; exact hp
theorem aq_car2 {j i q r : Nat} (hj : j < 5) (hi : i < 4) (hq : q ≤ 64) (hr : oR q = nI r) (h4 : r < 4) (hp : post (if i = r then sT (j * 4 + i) else 0)) : wpY_carried post (nI cN, nI rN, nI sN, nI oN, ph, nI wN, rh, cM, oC, oK, oR, oW, oS, oT, cC, cO, cH, cR, sI, sK, sT, gT, ms) 2 (nI j) (nI q) (nI i) := by
  have e : oR (nI q).toNatClampNeg = nI r := by rw [nI_clamp (by omega), hr]
  refine br_f (by decide) (br_t rfl ⟨vp_in_nI (by omega) (by omega), ?_⟩)
  rw [e]
  by_cases z : i = r
  · rw [if_pos z] at hp
    refine br_t (by rw [z]) ⟨aq_v4 (by omega) (by omega), ?_⟩
    rw [aq_c4 (by omega)]; exact hp
  · rw [if_neg z] at hp
    exact br_f (aq_ni z (by omega) (by omega)) (br_f (by decide) (br_f (by decide) hp))
theorem aq_car3 {i q r : Nat} (hi : i < 4) (hq : q ≤ 64) (hr : oR q = nI r) (h4 : r < 4) (hp : post (if i = r then oT q else 0)) : wpY_carried post (nI cN, nI rN, nI sN, nI oN, ph, nI wN, rh, cM, oC, oK, oR, oW, oS, oT, cC, cO, cH, cR, sI, sK, sT, gT, ms) 3 s (nI q) (nI i) := by
  have e : oR (nI q).toNatClampNeg = nI r := by rw [nI_clamp (by omega), hr]
  have eT : oT (nI q).toNatClampNeg = oT q := by rw [nI_clamp (by omega)]
  refine br_f (by decide) (br_f (by decide) (br_f (by decide) (br_t rfl ⟨vp_in_nI (by omega) (by omega), ?_⟩)))
  rw [e, eT]
  by_cases z : i = r
  · rw [if_pos z] at hp
    exact br_t (by rw [z]) ⟨vp_in_nI (by omega) (by omega), hp⟩
  · rw [if_neg z] at hp
    exact br_f (aq_ni z (by omega) (by omega)) hp
theorem aq_car8 {i : Nat} (hi : i < 4) (hp : post (gT i)) : wpY_carried post (nI cN, nI rN, nI sN, nI oN, ph, nI wN, rh, cM, oC, oK, oR, oW, oS, oT, cC, cO, cH, cR, sI, sK, sT, gT, ms) 8 s o (nI i) := by
  refine br_f (by decide) (br_f (by decide) (br_t rfl ⟨vp_in_nI (by omega) (by omega), ?_⟩))
  rw [nI_clamp (by omega)]; exact hp
theorem aq_car0 {i : Nat} (h7 : ¬ kd = 7) (h2 : ¬ kd = 2) (h8 : ¬ kd = 8) (h3 : ¬ kd = 3) (hp : post 0) : wpY_carried post (nI cN, nI rN, nI sN, nI oN, ph, nI wN, rh, cM, oC, oK, oR, oW, oS, oT, cC, cO, cH, cR, sI, sK, sT, gT, ms) kd s o (nI i) :=
  br_f h7 (br_f h2 (br_f h8 (br_f h3 hp)))
/-- agreement -/
def qd_ag (h : Int32) (cr : Nat → Int32) (x : Int32) : Prop := ∀ i, i < 5 → bt h i = true → cr i = x
theorem aq_yag0 {j q : Nat} (hj : j < 4) (ho : cO j = nI q) (hq : q ≤ 64) (h : q = 0 ∨ ¬ oS q = 1) (hp : post 0) : wpY_agree post (nI cN, nI rN, nI sN, nI oN, ph, nI wN, rh, cM, oC, oK, oR, oW, oS, oT, cC, cO, cH, cR, sI, sK, sT, gT, ms) (nI j) := by
  have eO : cO (nI j).toNatClampNeg = nI q := by rw [nI_clamp (by omega), ho]
  refine And.intro (vp_in_nI hj (by omega)) ?_
  rw [eO]
  by_cases z : q = 0
  · exact br_t (by rw [z]; rfl) hp
  · have e : ¬ oS (nI q).toNatClampNeg = 1 := by rw [nI_clamp (by omega)]; exact h.resolve_left z
    exact br_f (nI_ne0 (by omega) (by omega)) ⟨vp_in_nI hj (by omega), vp_in_nI (by omega) (by omega), br_f e hp⟩
theorem aq_yag_ {j q : Nat} (hj : j < 4) (ho : cO j = nI q) (hq : q ≤ 64) : ∀ d i, i + d = 5 → (∀ a, a < i → bt (cH j) a = true → cR (j * 5 + a) = oT q) → (qd_ag (cH j) (fun a => cR (j * 5 + a)) (oT q) → post 1) → (¬ qd_ag (cH j) (fun a => cR (j * 5 + a)) (oT q) → post 0) → wY_agree_28 post (nI j) (nI cN) (nI rN) (nI sN) (nI oN) ph (nI wN) rh cM oC oK oR oW oS oT cC cO cH cR sI sK sT gT ms (d + 1) (nI i) := by
  have hv : vp_in (nI j) 4 := vp_in_nI hj (by omega)
  have eH : cH (nI j).toNatClampNeg = cH j := by rw [nI_clamp (by omega)]
  have eO : cO (nI j).toNatClampNeg = nI q := by rw [nI_clamp (by omega), ho]
  have eT : oT (nI q).toNatClampNeg = oT q := by rw [nI_clamp (by omega)]
  intro d
  induction d with
  | zero =>
    intro i hi h g1 _
    have e : i = 5 := by omega
    subst e
    exact br_t (nI_le (a := 5) (b := 5) (by omega) (by omega)) (g1 h)
  | succ d ih =>
    intro i hi h g1 g0
    refine br_f (nI_ge (b := 5) (by omega) (by decide)) ⟨hv, ?_⟩
    rw [eH]
    by_cases hb : bt (cH j) i = true
    · refine aq_yh1 (by omega) hb ?_
      refine br_f (by decide) ⟨aq_v5 (by omega) (by omega), hv, ?_⟩
      rw [eO, eT, aq_c5 (by omega)]
      refine ⟨vp_in_nI (by omega) (by omega), ?_⟩
      by_cases z : cR (j * 5 + i) = oT q
      · refine br_t z (nm_r (nI_1 i) (ih (i + 1) (by omega) (fun a ha hba => ?_) g1 g0))
        by_cases w : a = i
        · rw [w]; exact z
        · exact h a (by omega) hba
      · exact br_f z (g0 fun g => z (g i (by omega) hb))
    · refine aq_yh0 (by omega) hb ?_
      refine br_t rfl (nm_r (nI_1 i) (ih (i + 1) (by omega) (fun a ha hba => ?_) g1 g0))
      by_cases w : a = i
      · exact absurd (w ▸ hba) hb
      · exact h a (by omega) hba
theorem aq_yag {j q : Nat} (hj : j < 4) (ho : cO j = nI q) (hq : q ≤ 64) (h0 : 1 ≤ q) (h1 : oS q = 1) (g1 : qd_ag (cH j) (fun a => cR (j * 5 + a)) (oT q) → post 1) (g0 : ¬ qd_ag (cH j) (fun a => cR (j * 5 + a)) (oT q) → post 0) : wpY_agree post (nI cN, nI rN, nI sN, nI oN, ph, nI wN, rh, cM, oC, oK, oR, oW, oS, oT, cC, cO, cH, cR, sI, sK, sT, gT, ms) (nI j) := by
  have eO : cO (nI j).toNatClampNeg = nI q := by rw [nI_clamp (by omega), ho]
  have e : oS (nI q).toNatClampNeg = 1 := by rw [nI_clamp (by omega)]; exact h1
  refine And.intro (vp_in_nI hj (by omega)) ?_
  rw [eO]
  exact br_f (nI_ne0 (by omega) (by omega)) ⟨vp_in_nI hj (by omega), vp_in_nI (by omega) (by omega), br_t e ⟨6, aq_yag_ hj ho hq 5 0 rfl (fun a ha _ => absurd ha (by omega)) g1 g0⟩⟩
end
end
section
/-! the invariant -/
def qd_Tg (B : Nat) (x : Int32) : Prop := ∃ a : Nat, a ≤ B ∧ x = nI a
def qd_TV (rN B : Nat) (t : Nat → Int32) : Prop := ∀ r, r < 4 → qd_Tg B (t r) ∧ (rN ≤ r → t r = 0)
def qd_OK (oN wN rN B : Nat) (cM : Nat → Int32) (kd s o m : Int32) (t : Nat → Int32) : Prop := ∃ d a b e : Nat, kd = nI d ∧ s = nI a ∧ o = nI b ∧ m = nI e ∧ 1 ≤ d ∧ d ≤ 9 ∧ a < 5 ∧ b ≤ oN ∧ e ≤ wN ∧ (d ≤ 5 → 1 ≤ b) ∧ (d ≠ 5 → bt (cM e) a = true) ∧ (d = 6 ∨ d = 7 → e < wN) ∧ qd_TV rN B t
def qd_MI (oN wN rN B : Nat) (cM ms : Nat → Int32) : Prop := ∀ k, ¬ ms (k * 8) = 0 → qd_OK oN wN rN B cM (ms (k * 8)) (ms (k * 8 + 1)) (ms (k * 8 + 2)) (ms (k * 8 + 3)) (fun r => ms (k * 8 + 4 + r))
def qd_JN (cN rN sN oN wN : Nat) : Prop := 1 ≤ cN ∧ cN ≤ 4 ∧ 1 ≤ rN ∧ rN ≤ 4 ∧ 12 ≤ sN ∧ sN ≤ 48 ∧ oN ≤ 64 ∧ 1 ≤ wN ∧ wN ≤ 8
def qd_JO (oN rN B : Nat) (oC oR oT oS cO : Nat → Int32) : Prop := ∀ q, 1 ≤ q → q ≤ oN → ∃ c r : Nat, c < 4 ∧ r < rN ∧ oC q = nI c ∧ oR q = nI r ∧ qd_Tg B (oT q) ∧ (oS q = 1 ∨ oS q = 2 → cO c = nI q)
def qd_JZ (oN : Nat) (oK oS : Nat → Int32) : Prop := ∀ q, oN < q → oK q = 0 ∧ oS q = 0
def qd_JC (oN wN : Nat) (oC cC cO cH cM : Nat → Int32) : Prop := ∀ c, c < 4 → ∃ q m : Nat, cO c = nI q ∧ q ≤ oN ∧ cC c = nI m ∧ m ≤ wN ∧ (1 ≤ q → oC q = nI c) ∧ (q = 0 → cH c = 0) ∧ (cH c &&& cM m = cH c)
def qd_LW (x l h : Int32) (cr : Nat → Int32) : Prop := (∀ i, i < 5 → bt h i = true → l ≤ cr i ∧ cr i ≤ x) ∧ (¬ h = 0 → ∃ i, i < 5 ∧ bt h i = true ∧ cr i = l)
def qd_JL (oS oT cO cH lT cR : Nat → Int32) : Prop := ∀ c, c < 4 → ∀ q, 1 ≤ q → q ≤ 64 → cO c = nI q → oS q = 1 → qd_LW (oT q) (lT c) (cH c) (fun i => cR (c * 5 + i))
def qd_JS (wN : Nat) (sI sK : Nat → Int32) : Prop := ∀ s, s < 5 → ∃ a b : Nat, sI s = nI a ∧ a ≤ wN ∧ sK s = nI b ∧ b ≤ wN
def qd_JT (rN B : Nat) (sT : Nat → Int32) : Prop := ∀ s, s < 5 → qd_TV rN B (fun r => sT (s * 4 + r))
def qd_JM (wN : Nat) (cM : Nat → Int32) : Prop := ∀ m, 1 ≤ m → m ≤ wN → ∃ b : Nat, 1 ≤ b ∧ b ≤ 31 ∧ cM m = nI b
def qd_JR (wN : Nat) (ph gh rh : Int32) (cM : Nat → Int32) : Prop := ph = 0 ∨ (ph = 1 ∧ 2 ≤ wN ∧ gh = rh ∧ rh &&& cM (wN - 1) = rh) ∨ (ph = 2 ∧ gh = rh ∧ rh &&& cM wN = rh)
def qd_I (B cN rN sN oN wN : Nat) (ph gh rh : Int32) (oC oK oR oS oT cC cO cH lT sI sK sT cM gT ms cR : Nat → Int32) : Prop := qd_JN cN rN sN oN wN ∧ qd_MI oN wN rN B cM ms ∧ qd_JO oN rN B oC oR oT oS cO ∧ qd_JZ oN oK oS ∧ qd_JC oN wN oC cC cO cH cM ∧ qd_JL oS oT cO cH lT cR ∧ qd_JS wN sI sK ∧ qd_JT rN B sT ∧ qd_TV rN B gT ∧ qd_JM wN cM ∧ qd_JR wN ph gh rh cM
/-- the relation with its bound on tags -/
def qd_R (B : Nat) (u : SX) (v : SY) : Prop := ∃ (cN rN sN oN wN : Nat) (ph gh rh : Int32) (oC oK oR oS oT oW cC cO cH lT sI sK sT cM gT ms iT uT cR : Nat → Int32), u = (nI cN, nI rN, nI sN, nI oN, ph, nI wN, gh, oC, oK, oR, oS, oT, oW, cC, cO, cH, lT, sI, sK, sT, cM, gT, qd_K ms, qd_S ms, qd_O ms, qd_C ms, qd_T ms, iT, uT) ∧ v = (nI cN, nI rN, nI sN, nI oN, ph, nI wN, rh, cM, oC, oK, oR, oW, oS, oT, cC, cO, cH, cR, sI, sK, sT, gT, ms) ∧ qd_I B cN rN sN oN wN ph gh rh oC oK oR oS oT cC cO cH lT sI sK sT cM gT ms cR
/-- one outcome for both walks -/
def qd_LS (B : Nat) (wx : (Int32 → SX → Prop) → Prop) (wy : (Int32 → SY → Prop) → Prop) : Prop := ∃ (r : Int32) (v : SY), (∀ post : Int32 → SX → Prop, (∀ u, qd_R B u v → post r u) → wx post) ∧ (∀ post : Int32 → SY → Prop, post r v → wy post)
section
variable {cN rN sN oN wN B : Nat} {ph gh rh : Int32} {oC oK oR oS oT oW cC cO cH lT sI sK sT cM gT ms iT uT cR : Nat → Int32}
variable {t : Nat → Int32} {kd set o c s : Int32} {B' : Nat}
theorem aq_RI (h : qd_I B cN rN sN oN wN ph gh rh oC oK oR oS oT cC cO cH lT sI sK sT cM gT ms cR) : qd_R B (nI cN, nI rN, nI sN, nI oN, ph, nI wN, gh, oC, oK, oR, oS, oT, oW, cC, cO, cH, lT, sI, sK, sT, cM, gT, qd_K ms, qd_S ms, qd_O ms, qd_C ms, qd_T ms, iT, uT) (nI cN, nI rN, nI sN, nI oN, ph, nI wN, rh, cM, oC, oK, oR, oW, oS, oT, cC, cO, cH, cR, sI, sK, sT, gT, ms) := ⟨cN, rN, sN, oN, wN, ph, gh, rh, oC, oK, oR, oS, oT, oW, cC, cO, cH, lT, sI, sK, sT, cM, gT, ms, iT, uT, cR, rfl, rfl, h⟩
theorem aq_RE {u : SX} {v : SY} {P : SX → SY → Prop} (I : qd_R B u v) (h : ∀ (cN rN sN oN wN : Nat) (ph gh rh : Int32) (oC oK oR oS oT oW cC cO cH lT sI sK sT cM gT ms iT uT cR : Nat → Int32), qd_I B cN rN sN oN wN ph gh rh oC oK oR oS oT cC cO cH lT sI sK sT cM gT ms cR → P (nI cN, nI rN, nI sN, nI oN, ph, nI wN, gh, oC, oK, oR, oS, oT, oW, cC, cO, cH, lT, sI, sK, sT, cM, gT, qd_K ms, qd_S ms, qd_O ms, qd_C ms, qd_T ms, iT, uT) (nI cN, nI rN, nI sN, nI oN, ph, nI wN, rh, cM, oC, oK, oR, oW, oS, oT, cC, cO, cH, cR, sI, sK, sT, gT, ms)) : P u v :=
  I.elim fun cN I => I.elim fun rN I => I.elim fun sN I => I.elim fun oN I => I.elim fun wN I => I.elim fun ph I => I.elim fun gh I => I.elim fun rh I => I.elim fun oC I => I.elim fun oK I => I.elim fun oR I => I.elim fun oS I => I.elim fun oT I => I.elim fun oW I => I.elim fun cC I => I.elim fun cO I => I.elim fun cH I => I.elim fun lT I => I.elim fun sI I => I.elim fun sK I => I.elim fun sT I => I.elim fun cM I => I.elim fun gT I => I.elim fun ms I => I.elim fun iT I => I.elim fun uT I => I.elim fun cR I => by
    rw [I.1, I.2.1]
    exact h cN rN sN oN wN ph gh rh oC oK oR oS oT oW cC cO cH lT sI sK sT cM gT ms iT uT cR I.2.2
theorem aq_LSI {wx : (Int32 → SX → Prop) → Prop} {wy : (Int32 → SY → Prop) → Prop} (r : Int32) (h : qd_I B cN rN sN oN wN ph gh rh oC oK oR oS oT cC cO cH lT sI sK sT cM gT ms cR) (hx : ∀ post : Int32 → SX → Prop, (∀ iT uT : Nat → Int32, post r (nI cN, nI rN, nI sN, nI oN, ph, nI wN, gh, oC, oK, oR, oS, oT, oW, cC, cO, cH, lT, sI, sK, sT, cM, gT, qd_K ms, qd_S ms, qd_O ms, qd_C ms, qd_T ms, iT, uT)) → wx post) (hy : ∀ post : Int32 → SY → Prop, post r (nI cN, nI rN, nI sN, nI oN, ph, nI wN, rh, cM, oC, oK, oR, oW, oS, oT, cC, cO, cH, cR, sI, sK, sT, gT, ms) → wy post) : qd_LS B wx wy := ⟨r, _, fun p hp => hx p fun _ _ => hp _ (aq_RI h), hy⟩
/-- tags -/
theorem aq_Tg0 (B : Nat) : qd_Tg B 0 := ⟨0, Nat.zero_le B, rfl⟩
theorem aq_Tgm {x : Int32} (hB : B ≤ B') (h : qd_Tg B x) : qd_Tg B' x := ⟨h.choose, Nat.le_trans h.choose_spec.1 hB, h.choose_spec.2⟩
theorem aq_Tgx {x y : Int32} (h : qd_Tg B x) (h2 : qd_Tg B y) : qd_Tg B (qd_mx x y) := by
  rcases aq_mx_or x y with e | e
  · rw [e]; exact h
  · rw [e]; exact h2
theorem aq_TVm (hB : B ≤ B') (h : qd_TV rN B t) : qd_TV rN B' t := fun r hr => ⟨aq_Tgm hB (h r hr).1, (h r hr).2⟩
theorem aq_TV0 : qd_TV rN B (fun _ => 0) := fun _ _ => ⟨aq_Tg0 B, fun _ => rfl⟩
theorem aq_TV1 {x : Int32} {r : Nat} (hr : r < rN) (hx : qd_Tg B x) : qd_TV rN B (fun i => if i = r then x else 0) := fun i _ => by
  dsimp only
  by_cases h : i = r
  · rw [if_pos h]; exact ⟨hx, fun z => absurd z (by omega)⟩
  · rw [if_neg h]; exact ⟨aq_Tg0 B, fun _ => rfl⟩
theorem aq_TVc {t2 : Nat → Int32} (h : qd_TV rN B t) (e : ∀ r, r < 4 → t2 r = t r) : qd_TV rN B t2 := fun r hr => by
  rw [e r hr]; exact h r hr
/-- messages -/
theorem aq_OKt {m : Int32} {t2 : Nat → Int32} (h : qd_OK oN wN rN B cM kd s o m t) (e : ∀ r, r < 4 → t2 r = t r) : qd_OK oN wN rN B cM kd s o m t2 := by
  obtain ⟨d, a, b, x, h1, h2, h3, h4, h5, h6, h7, h8, h9, h10, h11, h12, h13⟩ := h
  exact ⟨d, a, b, x, h1, h2, h3, h4, h5, h6, h7, h8, h9, h10, h11, h12, aq_TVc h13 e⟩
theorem aq_MIps {m : Int32} {k : Nat} (h : qd_MI oN wN rN B cM ms) (ok : qd_OK oN wN rN B cM kd s o m t) : qd_MI oN wN rN B cM (qd_ps ms k (qd_mf kd s o m t)) := by
  intro j hj
  rw [aq_ps0] at hj
  rw [aq_ps0, aq_psi (by omega), aq_psi (by omega), aq_psi (by omega)]
  by_cases z : j = k
  · rw [if_pos z, if_pos z, if_pos z, if_pos z, aq_mf0, aq_mf1, aq_mf2, aq_mf3]
    refine aq_OKt ok fun r hr => ?_
    show qd_ps ms k (qd_mf kd s o m t) (j * 8 + 4 + r) = t r
    rw [Nat.add_assoc, aq_psi (by omega), if_pos z, aq_mf4]
  · rw [if_neg z] at hj
    rw [if_neg z, if_neg z, if_neg z, if_neg z]
    refine aq_OKt (h j hj) fun r hr => ?_
    show qd_ps ms k (qd_mf kd s o m t) (j * 8 + 4 + r) = ms (j * 8 + 4 + r)
    rw [Nat.add_assoc, aq_psi (by omega), if_neg z]
theorem aq_MIsm {m : Int32} {n : Nat} (h : qd_MI oN wN rN B cM ms) (ok : qd_OK oN wN rN B cM kd s o m t) : qd_MI oN wN rN B cM (qd_sm ms n (qd_mf kd s o m t)) := by
  unfold qd_sm
  split
  · exact h
  · exact aq_MIps h ok
theorem aq_MIf {k : Nat} (h : qd_MI oN wN rN B cM ms) : qd_MI oN wN rN B cM (upd ms (k * 8) 0) := by
  intro j hj
  by_cases z : j = k
  · subst z; rw [pk_us] at hj; exact absurd rfl hj
  · rw [pk_un (by omega)] at hj
    rw [pk_un (by omega), pk_un (by omega), pk_un (by omega), pk_un (by omega)]
    exact aq_OKt (h j hj) fun r hr => pk_un (by omega)
theorem aq_MIm {oN' wN' : Nat} {cM' : Nat → Int32} (h : qd_MI oN wN rN B cM ms) (h1 : oN ≤ oN') (h2 : wN ≤ wN') (h3 : B ≤ B') (h4 : ∀ e, e ≤ wN → cM' e = cM e) : qd_MI oN' wN' rN B' cM' ms := by
  intro j hj
  obtain ⟨d, a, b, x, g1, g2, g3, g4, g5, g6, g7, g8, g9, g10, g11, g12, g13⟩ := h j hj
  exact ⟨d, a, b, x, g1, g2, g3, g4, g5, g6, g7, by omega, by omega, g10, fun z => by rw [h4 x g9]; exact g11 z, fun z => Nat.lt_of_lt_of_le (g12 z) h2, aq_TVm h3 g13⟩
theorem aq_MIsam {d q m n : Nat} (h : qd_MI oN wN rN B cM ms) (h1 : 1 ≤ d) (h2 : d ≤ 9) (h3 : q ≤ oN) (h4 : m ≤ wN) (h5 : d ≤ 5 → 1 ≤ q) (h6 : ∀ i, bt set i = true → bt (cM m) i = true) (h7 : d = 6 ∨ d = 7 → m < wN) (h8 : qd_TV rN B t) : qd_MI oN wN rN B cM (qd_sam n (nI d) set (nI q) (nI m) t ms) :=
  aq_sam (qd_MI oN wN rN B cM) h fun _ a ha hb hm => aq_MIsm hm ⟨d, a, q, m, rfl, rfl, rfl, rfl, h1, h2, ha, h3, h4, h5, fun _ => h6 a hb, h7, h8⟩
theorem aq_Im (h : qd_I B cN rN sN oN wN ph gh rh oC oK oR oS oT cC cO cH lT sI sK sT cM gT ms cR) (hB : B ≤ B') : qd_I B' cN rN sN oN wN ph gh rh oC oK oR oS oT cC cO cH lT sI sK sT cM gT ms cR := by
  obtain ⟨h1, h2, h3, h4, h5, h6, h7, h8, h9, h10, h11⟩ := h
  refine ⟨h1, aq_MIm h2 (Nat.le_refl _) (Nat.le_refl _) hB (fun _ _ => rfl), fun q g1 g2 => ?_, h4, h5, h6, h7, fun s hs => aq_TVm hB (h8 s hs), aq_TVm hB h9, h10, h11⟩
  obtain ⟨c, r, e1, e2, e3, e4, e5, e6⟩ := h3 q g1 g2
  exact ⟨c, r, e1, e2, e3, e4, aq_Tgm hB e5, e6⟩
theorem aq_Rm {u : SX} {v : SY} (hB : B ≤ B') (h : qd_R B u v) : qd_R B' u v :=
  aq_RE (P := fun u v => qd_R B' u v) h fun _ _ _ _ _ _ _ _ _ _ _ _ _ _ _ _ _ _ _ _ _ _ _ _ _ _ _ I => aq_RI (aq_Im I hB)
theorem aq_LSm {wx : (Int32 → SX → Prop) → Prop} {wy : (Int32 → SY → Prop) → Prop} (hB : B ≤ B') (h : qd_LS B wx wy) : qd_LS B' wx wy := by
  obtain ⟨r, v, h2, h3⟩ := h
  exact ⟨r, v, fun p hp => h2 p fun u hu => hp u (aq_Rm hB hu), h3⟩
theorem aq_LSw {wx wx' : (Int32 → SX → Prop) → Prop} {wy wy' : (Int32 → SY → Prop) → Prop} (h : qd_LS B wx wy) (hx : ∀ post, wx post → wx' post) (hy : ∀ post, wy post → wy' post) : qd_LS B wx' wy' := by
  obtain ⟨r, v, h2, h3⟩ := h
  exact ⟨r, v, fun p hp => hx p (h2 p hp), fun p hp => hy p (h3 p hp)⟩
end
end
section
/-! the requests of a round, of the reconfiguration -/
def qd_rk (x : Int32) : Int32 := if x = 1 then 1 else 3
def qd_rt (x : Int32) (r : Nat) (y : Int32) : Nat → Int32 := fun i => if x = 1 then 0 else if i = r then y else 0
def qd_rq (n : Nat) (x set : Int32) (q m r : Nat) (y : Int32) (ms : Nat → Int32) : Nat → Int32 := qd_sam n (qd_rk x) set (nI q) (nI m) (qd_rt x r y) ms
def qd_rr (n : Nat) (x set : Int32) (q m r : Nat) (y : Int32) (ms : Nat → Int32) : Int32 := qd_sar n (qd_rk x) set (nI q) (nI m) (qd_rt x r y) ms
def qd_ci (g f : Nat → Int32) (i : Nat) : Nat → Int32 := fun j => if j < i then g j else f j
theorem aq_ci0 {g f : Nat → Int32} : qd_ci g f 0 = f := funext fun _ => if_neg (by omega)
theorem aq_cis {g f : Nat → Int32} {i : Nat} : upd (qd_ci g f i) i (g i) = qd_ci g f (i + 1) := funext fun j => by
  unfold upd qd_ci
  by_cases h : j = i
  · rw [if_pos h, if_pos (by omega), h]
  · rw [if_neg h]
    by_cases h2 : j < i
    · rw [if_pos h2, if_pos (by omega)]
    · rw [if_neg h2, if_neg (by omega)]
section
variable {cN rN sN oN wN B : Nat} {ph gh rh : Int32} {oC oK oR oS oT oW cC cO cH lT sI sK sT cM gT ms iT uT cR : Nat → Int32}
variable {t : Nat → Int32} {x y : Int32} {j q m r : Nat} {kd set o c s : Int32} {post0 : SX → Prop} {post2 : Int32 → SX → Prop} {posy : SY → Prop} {post3 : Int32 → SY → Prop}
theorem aq_MIrq {n : Nat} (I : qd_MI oN wN rN B cM ms) (hq : 1 ≤ q) (hq2 : q ≤ oN) (hm : m ≤ wN) (hr : r < rN) (hy : qd_Tg B y) (hs : ∀ i, bt set i = true → bt (cM m) i = true) : qd_MI oN wN rN B cM (qd_rq n x set q m r y ms) := by
  unfold qd_rq qd_rk
  by_cases z : x = 1
  · rw [if_pos z]
    refine aq_MIsam (d := 1) I (by omega) (by omega) hq2 hm (fun _ => hq) hs (fun w => by omega) ?_
    exact aq_TVc aq_TV0 fun i _ => by unfold qd_rt; rw [if_pos z]
  · rw [if_neg z]
    refine aq_MIsam (d := 3) I (by omega) (by omega) hq2 hm (fun _ => hq) hs (fun w => by omega) ?_
    exact aq_TVc (aq_TV1 hr hy) fun i _ => by unfold qd_rt; rw [if_neg z]
theorem aq_xreq (hs : sN ≤ 48) (hj : j < 4) (ho : cO j = nI q) (hq : q ≤ 64) (hr : oR q = nI r) (h4 : r < 4) (hc : cC j = nI m) (hm : m < 9) (hp : ∀ uT', post2 (qd_rr sN (oS q) (cM m &&& (cH j ^^^ (-1))) q m r (oT q) ms) (nI cN, nI rN, nI sN, nI oN, ph, nI wN, gh, oC, oK, oR, oS, oT, oW, cC, cO, cH, lT, sI, sK, sT, cM, gT, qd_K (qd_rq sN (oS q) (cM m &&& (cH j ^^^ (-1))) q m r (oT q) ms), qd_S (qd_rq sN (oS q) (cM m &&& (cH j ^^^ (-1))) q m r (oT q) ms), qd_O (qd_rq sN (oS q) (cM m &&& (cH j ^^^ (-1))) q m r (oT q) ms), qd_C (qd_rq sN (oS q) (cM m &&& (cH j ^^^ (-1))) q m r (oT q) ms), qd_T (qd_rq sN (oS q) (cM m &&& (cH j ^^^ (-1))) q m r (oT q) ms), iT, uT')) : wpX_sendRequests post2 (nI cN, nI rN, nI sN, nI oN, ph, nI wN, gh, oC, oK, oR, oS, oT, oW, cC, cO, cH, lT, sI, sK, sT, cM, gT, qd_K ms, qd_S ms, qd_O ms, qd_C ms, qd_T ms, iT, uT) (nI j) := by
  have hv : vp_in (nI j) 4 := vp_in_nI hj (by omega)
  have hw : vp_in (nI q) 65 := vp_in_nI (by omega) (by omega)
  have ej : (nI j).toNatClampNeg = j := nI_clamp (by omega)
  have eq : (nI q).toNatClampNeg = q := nI_clamp (by omega)
  have em : (nI m).toNatClampNeg = m := nI_clamp (by omega)
  have er : (nI r).toNatClampNeg = r := nI_clamp (by omega)
  refine And.intro hv (nm_r (e' := nI q) (by rw [ej, ho]) ⟨hv, nm_r (e' := nI m) (by rw [ej, hc]) ⟨vp_in_nI hm (by omega), hv, nm_r (e' := cM m &&& (cH j ^^^ (-1))) (by rw [em, ej]) ?_⟩⟩)
  refine aq_xclr ?_
  refine ⟨hw, ?_⟩
  rw [eq, hr, er]
  unfold qd_rr qd_rq qd_rk at hp
  by_cases z : oS q = 1
  · rw [if_pos z] at hp
    refine br_t z (aq_xss hs (t := qd_rt (oS q) r (oT q)) (fun i hi => ?_) (hp _))
    unfold qd_rt
    rw [aq_zi4 hi, if_pos z]
  · rw [if_neg z] at hp
    refine br_f z ⟨hw, hw, vp_in_nI h4 (by omega), nm_e (aq_xss hs (t := qd_rt (oS q) r (oT q)) (fun i hi => ?_) (hp _))⟩
    unfold qd_rt
    rw [if_neg z]
    by_cases w : i = r
    · rw [if_pos w, w, pk_us]
    · rw [if_neg w, pk_un w, aq_zi4 hi]
theorem aq_yreq (hs : sN ≤ 48) (hj : j < 4) (ho : cO j = nI q) (hq : q ≤ 64) (hr : oR q = nI r) (h4 : r < 4) (hc : cC j = nI m) (hm : m < 9) (hp : post3 (qd_rr sN (oS q) (cM m &&& (cH j ^^^ (-1))) q m r (oT q) ms) (nI cN, nI rN, nI sN, nI oN, ph, nI wN, rh, cM, oC, oK, oR, oW, oS, oT, cC, cO, cH, cR, sI, sK, sT, gT, qd_rq sN (oS q) (cM m &&& (cH j ^^^ (-1))) q m r (oT q) ms)) : wpY_sendRequests post3 (nI cN, nI rN, nI sN, nI oN, ph, nI wN, rh, cM, oC, oK, oR, oW, oS, oT, cC, cO, cH, cR, sI, sK, sT, gT, ms) (nI j) := by
  have hv : vp_in (nI j) 4 := vp_in_nI hj (by omega)
  have hw : vp_in (nI q) 65 := vp_in_nI (by omega) (by omega)
  have hm9 : vp_in (nI m) 9 := vp_in_nI hm (by omega)
  have ej : (nI j).toNatClampNeg = j := nI_clamp (by omega)
  have eq : (nI q).toNatClampNeg = q := nI_clamp (by omega)
  have em : (nI m).toNatClampNeg = m := nI_clamp (by omega)
  unfold wpY_sendRequests wY_sendRequests_20
  dsimp only
  rw [ej, ho, hc, eq, em]
  unfold qd_rr qd_rq qd_rk at hp
  by_cases z : oS q = 1
  · rw [if_pos z] at hp
    refine ⟨hv, hw, br_t z ⟨hv, hm9, hv, hv, hv, aq_yss hs (t := qd_rt (oS q) r (oT q)) (fun j i ms' p hj hi hq => ?_) hp⟩⟩
    unfold qd_rt at hq
    rw [if_pos z] at hq
    exact aq_car0 (by decide) (by decide) (by decide) (by decide) hq
  · rw [if_neg z] at hp
    refine ⟨hv, hw, br_f z ⟨hv, hm9, hv, hv, hv, aq_yss hs (t := qd_rt (oS q) r (oT q)) (fun j i ms' p hj hi hw => ?_) hp⟩⟩
    unfold qd_rt at hw
    rw [if_neg z] at hw
    exact aq_car3 hi hq hr h4 hw
theorem aq_xrnd (hs : sN ≤ 48) (hj : j < 4) (ho : cO j = nI q) (hq : q ≤ 64) (hr : oR q = nI r) (h4 : r < 4) (hc : cC j = nI m) (hm : m < 9) (hp : ∀ uT', post0 (nI cN, nI rN, nI sN, nI oN, ph, nI wN, gh, oC, oK, oR, oS, oT, oW, cC, cO, upd cH j 0, upd lT j 0, sI, sK, sT, cM, gT, qd_K (qd_rq sN (oS q) (cM m) q m r (oT q) ms), qd_S (qd_rq sN (oS q) (cM m) q m r (oT q) ms), qd_O (qd_rq sN (oS q) (cM m) q m r (oT q) ms), qd_C (qd_rq sN (oS q) (cM m) q m r (oT q) ms), qd_T (qd_rq sN (oS q) (cM m) q m r (oT q) ms), iT, uT')) : wpX_beginRound post0 (nI cN, nI rN, nI sN, nI oN, ph, nI wN, gh, oC, oK, oR, oS, oT, oW, cC, cO, cH, lT, sI, sK, sT, cM, gT, qd_K ms, qd_S ms, qd_O ms, qd_C ms, qd_T ms, iT, uT) (nI j) := by
  have hv : vp_in (nI j) 4 := vp_in_nI hj (by omega)
  have ej : (nI j).toNatClampNeg = j := nI_clamp (by omega)
  refine And.intro hv (nm_r (e' := upd cH j 0) (by rw [ej]) ⟨hv, nm_r (e' := upd lT j 0) (by rw [ej]) (aq_xreq hs hj ho hq hr h4 hc hm fun uT' => ?_)⟩)
  rw [pk_us, aq_n0]
  exact hp uT'
theorem aq_yrnd (hs : sN ≤ 48) (hj : j < 4) (ho : cO j = nI q) (hq : q ≤ 64) (hr : oR q = nI r) (h4 : r < 4) (hc : cC j = nI m) (hm : m < 9) (hp : posy (nI cN, nI rN, nI sN, nI oN, ph, nI wN, rh, cM, oC, oK, oR, oW, oS, oT, cC, cO, upd cH j 0, cR, sI, sK, sT, gT, qd_rq sN (oS q) (cM m) q m r (oT q) ms)) : wpY_beginRound posy (nI cN, nI rN, nI sN, nI oN, ph, nI wN, rh, cM, oC, oK, oR, oW, oS, oT, cC, cO, cH, cR, sI, sK, sT, gT, ms) (nI j) := by
  have hv : vp_in (nI j) 4 := vp_in_nI hj (by omega)
  have ej : (nI j).toNatClampNeg = j := nI_clamp (by omega)
  refine And.intro hv (nm_r (e' := upd cH j 0) (by rw [ej]) (aq_yreq hs hj ho hq hr h4 hc hm ?_))
  rw [pk_us, aq_n0]
  exact hp
/-- the reconfiguration's request -/
theorem aq_xsr1 (hs : sN ≤ 48) (h1 : 1 ≤ wN) (h8 : wN ≤ 8) (hp : ∀ uT', post2 (qd_sar sN 6 (cM (wN - 1) &&& (gh ^^^ (-1))) 0 (nI (wN - 1)) (fun _ => 0) ms) (nI cN, nI rN, nI sN, nI oN, 1, nI wN, gh, oC, oK, oR, oS, oT, oW, cC, cO, cH, lT, sI, sK, sT, cM, gT, qd_K (qd_sam sN 6 (cM (wN - 1) &&& (gh ^^^ (-1))) 0 (nI (wN - 1)) (fun _ => 0) ms), qd_S (qd_sam sN 6 (cM (wN - 1) &&& (gh ^^^ (-1))) 0 (nI (wN - 1)) (fun _ => 0) ms), qd_O (qd_sam sN 6 (cM (wN - 1) &&& (gh ^^^ (-1))) 0 (nI (wN - 1)) (fun _ => 0) ms), qd_C (qd_sam sN 6 (cM (wN - 1) &&& (gh ^^^ (-1))) 0 (nI (wN - 1)) (fun _ => 0) ms), qd_T (qd_sam sN 6 (cM (wN - 1) &&& (gh ^^^ (-1))) 0 (nI (wN - 1)) (fun _ => 0) ms), iT, uT')) : wpX_sendReconfiguration post2 (nI cN, nI rN, nI sN, nI oN, 1, nI wN, gh, oC, oK, oR, oS, oT, oW, cC, cO, cH, lT, sI, sK, sT, cM, gT, qd_K ms, qd_S ms, qd_O ms, qd_C ms, qd_T ms, iT, uT) := by
  unfold wpX_sendReconfiguration
  refine aq_xclr ?_
  refine br_t rfl (nm_r (e' := nI (wN - 1)) (aq_s1 h1) ⟨vp_in_nI (by omega) (by omega), ?_⟩)
  rw [nI_clamp (show wN - 1 < 2 ^ 31 by omega)]
  exact aq_xss hs (t := fun _ => 0) (fun i hi => aq_zi4 hi) (hp _)
theorem aq_xsrl (hs : sN ≤ 48) (h8 : wN ≤ 8) (h4 : rN ≤ 4) (hz : ∀ i, rN ≤ i → i < 4 → gT i = uT i) (hp : ∀ uT', post2 (qd_sar sN 8 (cM wN &&& (gh ^^^ (-1))) 0 (nI wN) gT ms) (nI cN, nI rN, nI sN, nI oN, ph, nI wN, gh, oC, oK, oR, oS, oT, oW, cC, cO, cH, lT, sI, sK, sT, cM, gT, qd_K (qd_sam sN 8 (cM wN &&& (gh ^^^ (-1))) 0 (nI wN) gT ms), qd_S (qd_sam sN 8 (cM wN &&& (gh ^^^ (-1))) 0 (nI wN) gT ms), qd_O (qd_sam sN 8 (cM wN &&& (gh ^^^ (-1))) 0 (nI wN) gT ms), qd_C (qd_sam sN 8 (cM wN &&& (gh ^^^ (-1))) 0 (nI wN) gT ms), qd_T (qd_sam sN 8 (cM wN &&& (gh ^^^ (-1))) 0 (nI wN) gT ms), iT, uT')) : ∀ d i, i + d = rN → wX_sendReconfiguration_43 post2 (nI cN) (nI rN) (nI sN) (nI oN) ph (nI wN) gh (d + 1) (nI i) oC oK oR oS oT oW cC cO cH lT sI sK sT cM gT (qd_K ms) (qd_S ms) (qd_O ms) (qd_C ms) (qd_T ms) iT (qd_ci gT uT i) := by
  intro d
  induction d with
  | zero =>
    intro i hi
    have e : i = rN := by omega
    refine br_t (nI_le (by omega) (by omega)) ⟨vp_in_nI (by omega) (by omega), ?_⟩
    rw [nI_clamp (show wN < 2 ^ 31 by omega)]
    refine aq_xss hs (t := gT) (fun j hj => ?_) (hp _)
    unfold qd_ci
    split
    · rfl
    · exact (hz j (by omega) hj).symm
  | succ d ih =>
    intro i hi
    have hv : vp_in (nI i) 4 := vp_in_nI (by omega) (by omega)
    exact br_f (nI_ge (by omega) (by omega)) ⟨hv, hv, nm_r (e' := qd_ci gT uT (i + 1)) (by rw [nI_clamp (by omega)]; exact aq_cis) (nm_r (nI_1 i) (ih (i + 1) (by omega)))⟩
theorem aq_xsr2 (hs : sN ≤ 48) (h8 : wN ≤ 8) (h4 : rN ≤ 4) (hz : ∀ i, rN ≤ i → i < 4 → gT i = 0) (hph : ¬ ph = 1) (hp : ∀ uT', post2 (qd_sar sN 8 (cM wN &&& (gh ^^^ (-1))) 0 (nI wN) gT ms) (nI cN, nI rN, nI sN, nI oN, ph, nI wN, gh, oC, oK, oR, oS, oT, oW, cC, cO, cH, lT, sI, sK, sT, cM, gT, qd_K (qd_sam sN 8 (cM wN &&& (gh ^^^ (-1))) 0 (nI wN) gT ms), qd_S (qd_sam sN 8 (cM wN &&& (gh ^^^ (-1))) 0 (nI wN) gT ms), qd_O (qd_sam sN 8 (cM wN &&& (gh ^^^ (-1))) 0 (nI wN) gT ms), qd_C (qd_sam sN 8 (cM wN &&& (gh ^^^ (-1))) 0 (nI wN) gT ms), qd_T (qd_sam sN 8 (cM wN &&& (gh ^^^ (-1))) 0 (nI wN) gT ms), iT, uT')) : wpX_sendReconfiguration post2 (nI cN, nI rN, nI sN, nI oN, ph, nI wN, gh, oC, oK, oR, oS, oT, oW, cC, cO, cH, lT, sI, sK, sT, cM, gT, qd_K ms, qd_S ms, qd_O ms, qd_C ms, qd_T ms, iT, uT) := by
  unfold wpX_sendReconfiguration
  refine aq_xclr ?_
  have L := aq_xsrl (uT := qd_zi uT 4) hs h8 h4 (fun i h1 h2 => by rw [hz i h1 h2, aq_zi4 h2]) hp rN 0 (by omega)
  rw [aq_ci0] at L
  exact br_f hph ⟨rN + 1, L⟩
end
end
section
/-! what the clients' steps keep -/
theorem aq_LW0 {x l : Int32} {cr : Nat → Int32} : qd_LW x l 0 cr := ⟨fun i _ h => by rw [b_0] at h; exact absurd h (by decide), fun h => absurd rfl h⟩
theorem aq_LWc {x l h : Int32} {cr cr2 : Nat → Int32} (e : ∀ i, i < 5 → cr2 i = cr i) (L : qd_LW x l h cr) : qd_LW x l h cr2 := by
  refine ⟨fun i hi hb => ?_, fun hn => ?_⟩
  · rw [e i hi]; exact L.1 i hi hb
  · obtain ⟨i, hi, hb, g⟩ := L.2 hn
    exact ⟨i, hi, hb, by rw [e i hi]; exact g⟩
def qd_lw (h l y : Int32) : Int32 := if h = 0 then y else if l ≤ y then l else y
theorem aq_lw0 {h l y : Int32} (z : h = 0) : qd_lw h l y = y := if_pos z
theorem aq_lw1 {h l y : Int32} (z : ¬ h = 0) (w : l ≤ y) : qd_lw h l y = l := by unfold qd_lw; rw [if_neg z, if_pos w]
theorem aq_lw2 {h l y : Int32} (z : ¬ h = 0) (w : ¬ l ≤ y) : qd_lw h l y = y := by unfold qd_lw; rw [if_neg z, if_neg w]
theorem aq_LWs {x l h y : Int32} {cr cr2 : Nat → Int32} {s : Nat} (hs : s < 5) (L : qd_LW x l h cr) (hb : ¬ bt h s = true) (e1 : cr2 s = y) (e2 : ∀ i, i < 5 → i ≠ s → cr2 i = cr i) : qd_LW (qd_mx x y) (qd_lw h l y) (h ||| ((1 : Int32) <<< (nI s &&& 31))) cr2 := by
  have hl : qd_lw h l y ≤ y := by
    by_cases z : h = 0
    · rw [aq_lw0 z]; exact Int32.le_refl _
    · by_cases w : l ≤ y
      · rw [aq_lw1 z w]; exact w
      · rw [aq_lw2 z w]; exact Int32.le_refl _
  refine ⟨fun i hi hbi => ?_, fun _ => ?_⟩
  · by_cases w : i = s
    · rw [w, e1]; exact ⟨hl, aq_mx_ge2 _ _⟩
    · rw [aq_or hs (by omega), decide_eq_false w, Bool.or_false] at hbi
      rw [e2 i hi w]
      obtain ⟨g1, g2⟩ := L.1 i hi hbi
      refine ⟨?_, Int32.le_trans g2 (aq_mx_ge1 _ _)⟩
      have z : ¬ h = 0 := fun z => by rw [z, b_0] at hbi; exact absurd hbi (by decide)
      by_cases w2 : l ≤ y
      · rw [aq_lw1 z w2]; exact g1
      · rw [aq_lw2 z w2]; exact Int32.le_trans (Int32.le_of_lt (Int32.not_le.mp w2)) g1
  · by_cases z : h = 0
    · exact ⟨s, hs, by rw [aq_or hs (by omega)]; simp, by rw [e1, aq_lw0 z]⟩
    · by_cases w : l ≤ y
      · obtain ⟨i, hi, hbi, g⟩ := L.2 z
        have w2 : i ≠ s := fun w2 => hb (w2 ▸ hbi)
        exact ⟨i, hi, by rw [aq_or hs (by omega), hbi]; rfl, by rw [e2 i hi w2, aq_lw1 z w]; exact g⟩
      · exact ⟨s, hs, by rw [aq_or hs (by omega)]; simp, by rw [e1, aq_lw2 z w]⟩
/-- agreement: the least is the op's tag just if all are -/
theorem aq_LWa {x l h : Int32} {cr : Nat → Int32} (L : qd_LW x l h cr) : (h = 0 ∨ l = x) ↔ qd_ag h cr x := by
  constructor
  · rintro (z | z) i hi hb
    · rw [z, b_0] at hb; exact absurd hb (by decide)
    · obtain ⟨g1, g2⟩ := L.1 i hi hb
      rw [z] at g1
      exact Int32.le_antisymm g2 g1
  · intro g
    by_cases z : h = 0
    · exact Or.inl z
    · obtain ⟨i, hi, hb, e⟩ := L.2 z
      exact Or.inr (e.symm.trans (g i hi hb))
section
variable {cN rN sN oN wN B : Nat} {ph gh rh : Int32} {oC oK oR oS oT oW cC cO cH lT sI sK sT cM gT ms iT uT cR : Nat → Int32}
variable {s j q m r : Nat} {x y kd : Int32}
theorem aq_Ims {ms' : Nat → Int32} (h : qd_I B cN rN sN oN wN ph gh rh oC oK oR oS oT cC cO cH lT sI sK sT cM gT ms cR) (h2 : qd_MI oN wN rN B cM ms') : qd_I B cN rN sN oN wN ph gh rh oC oK oR oS oT cC cO cH lT sI sK sT cM gT ms' cR := by
  obtain ⟨h1, _, h3⟩ := h
  exact ⟨h1, h2, h3⟩
/-- a reply counted -/
theorem aq_Iqr (h : qd_I B cN rN sN oN wN ph gh rh oC oK oR oS oT cC cO cH lT sI sK sT cM gT ms cR) (hs : s < 5) (hj : j < 4) (hq : 1 ≤ q) (hq2 : q ≤ oN) (hc : oC q = nI j) (hS : oS q = 1) (hm : cC j = nI m) (hm2 : m ≤ wN) (hb : bt (cM m) s = true) (hn : ¬ bt (cH j) s = true) (hy : qd_Tg B y) : qd_I B cN rN sN oN wN ph gh rh oC oK oR oS (upd oT q (qd_mx (oT q) y)) cC cO (upd cH j (cH j ||| ((1 : Int32) <<< (nI s &&& 31)))) (upd lT j (qd_lw (cH j) (lT j) y)) sI sK sT cM gT ms (upd cR (j * 5 + s) y) := by
  obtain ⟨h1, h2, h3, h4, h5, h6, h7, h8, h9, h10, h11⟩ := h
  have h64 : oN ≤ 64 := h1.2.2.2.2.2.2.1
  have h8' : wN ≤ 8 := h1.2.2.2.2.2.2.2.2
  have hO : cO j = nI q := by
    obtain ⟨c, r, e1, e2, e3, e4, e5, e6⟩ := h3 q hq hq2
    have e : c = j := aq_im (e3.symm.trans hc) (by omega) (by omega)
    rw [← e]; exact e6 (Or.inl hS)
  refine ⟨h1, h2, fun p g1 g2 => ?_, h4, fun c g1 => ?_, fun c g1 p g2 g3 g4 g5 => ?_, h7, h8, h9, h10, h11⟩
  · obtain ⟨c, r, e1, e2, e3, e4, e5, e6⟩ := h3 p g1 g2
    refine ⟨c, r, e1, e2, e3, e4, ?_, e6⟩
    by_cases z : p = q
    · subst z; rw [pk_us]; exact aq_Tgx e5 hy
    · rw [pk_un z]; exact e5
  · obtain ⟨p, m', e1, e2, e3, e4, e5, e6, e7⟩ := h5 c g1
    refine ⟨p, m', e1, e2, e3, e4, e5, fun z => ?_, ?_⟩
    · by_cases w : c = j
      · subst w
        exact absurd (aq_im (e1.symm.trans hO) (by omega) (by omega)) (by omega)
      · rw [pk_un w]; exact e6 z
    · by_cases w : c = j
      · subst w
        have em : m' = m := aq_im (e3.symm.trans hm) (by omega) (by omega)
        subst em
        rw [pk_us]; exact aq_subor hs e7 hb
      · rw [pk_un w]; exact e7
  · by_cases w : c = j
    · subst w
      have ep : p = q := aq_im (g4.symm.trans hO) (by omega) (by omega)
      subst ep
      rw [pk_us, pk_us, pk_us]
      refine aq_LWs hs (h6 c g1 p g2 g3 g4 g5) hn pk_us fun i hi hne => ?_
      exact pk_un (by omega)
    · have ep : p ≠ q := by
        intro ep
        obtain ⟨p', m', e1, e2, e3, e4, e5, _⟩ := h5 c g1
        have e : p' = p := aq_im (e1.symm.trans g4) (by omega) (by omega)
        have e8 := e5 (by omega)
        rw [e, ep, hc] at e8
        exact w (aq_im e8 (by omega) (by omega)).symm
      rw [pk_un ep, pk_un w, pk_un w]
      exact aq_LWc (fun i hi => pk_un (by omega)) (h6 c g1 p g2 g3 g4 g5)
/-- an op finished -/
theorem aq_Ifin (h : qd_I B cN rN sN oN wN ph gh rh oC oK oR oS oT cC cO cH lT sI sK sT cM gT ms cR) (hj : j < 4) (hq : 1 ≤ q) (hq2 : q ≤ oN) (hc : oC q = nI j) (hO : cO j = nI q) : qd_I B cN rN sN oN wN ph gh rh oC oK oR (upd oS q 3) oT cC (upd cO j 0) (upd cH j 0) lT sI sK sT cM gT ms cR := by
  obtain ⟨h1, h2, h3, h4, h5, h6, h7, h8, h9, h10, h11⟩ := h
  have h64 : oN ≤ 64 := h1.2.2.2.2.2.2.1
  refine ⟨h1, h2, fun p g1 g2 => ?_, fun p g => ?_, fun c g1 => ?_, fun c g1 p g2 g3 g4 g5 => ?_, h7, h8, h9, h10, h11⟩
  · obtain ⟨c, r, e1, e2, e3, e4, e5, e6⟩ := h3 p g1 g2
    refine ⟨c, r, e1, e2, e3, e4, e5, ?_⟩
    by_cases z : p = q
    · subst z
      rw [pk_us]
      rintro (z | z)
      · exact absurd z (by decide)
      · exact absurd z (by decide)
    · rw [pk_un z]
      intro g
      have g0 := e6 g
      have w : c ≠ j := by
        intro w
        subst w
        exact z (aq_im (g0.symm.trans hO) (by omega) (by omega))
      rw [pk_un w]; exact g0
  · rw [pk_un (by omega)]; exact h4 p g
  · obtain ⟨p, m', e1, e2, e3, e4, e5, e6, e7⟩ := h5 c g1
    by_cases w : c = j
    · subst w
      exact ⟨0, m', pk_us, by omega, e3, e4, fun z => absurd z (by omega), fun _ => pk_us, by rw [pk_us]; exact aq_sub0 _⟩
    · exact ⟨p, m', by rw [pk_un w]; exact e1, e2, e3, e4, e5, fun z => by rw [pk_un w]; exact e6 z, by rw [pk_un w]; exact e7⟩
  · by_cases w : c = j
    · subst w
      rw [pk_us] at g4
      exact absurd g4.symm (nI_ne0 (by omega) (by omega))
    · rw [pk_un w] at g4
      have ep : p ≠ q := by
        intro ep
        obtain ⟨p', m', e1, e2, e3, e4, e5, _⟩ := h5 c g1
        have e : p' = p := aq_im (e1.symm.trans g4) (by omega) (by omega)
        have e8 := e5 (by omega)
        rw [e, ep, hc] at e8
        exact w (aq_im e8 (by omega) (by omega)).symm
      rw [pk_un ep] at g5
      rw [pk_un w]
      exact h6 c g1 p g2 g3 g4 g5
/-- a new round after a query -/
def qd_t2 (kd : Int32) (oT : Nat → Int32) (q j : Nat) : Nat → Int32 := if kd = 2 then upd oT q (4 * (oT q / 4 + 1) + nI j) else oT
theorem aq_t2 (hj : j < 4) (hB : B < 2 ^ 30) (h : qd_Tg B (oT q)) : qd_Tg (B + 7) (qd_t2 kd oT q j q) := by
  unfold qd_t2
  split
  · rw [pk_us]
    obtain ⟨a, ha, e⟩ := h
    refine ⟨4 * (a / 4 + 1) + j, by omega, ?_⟩
    rw [e]
    have e1 : nI a / 4 = nI (a / 4) := pk_div (d := 4) (by omega) (by omega) (by omega)
    have e2 : (4 : Int32) * nI (a / 4 + 1) = nI (4 * (a / 4 + 1)) := pk_mul 4 _
    rw [e1, nI_1, e2, nI_add]
  · exact aq_Tgm (by omega) h
theorem aq_t2n {p : Nat} (h : p ≠ q) : qd_t2 kd oT q j p = oT p := by
  unfold qd_t2
  split
  · exact pk_un h
  · rfl
theorem aq_Iadv (h : qd_I B cN rN sN oN wN ph gh rh oC oK oR oS oT cC cO cH lT sI sK sT cM gT ms cR) (hB : B < 2 ^ 30) (hj : j < 4) (hq : 1 ≤ q) (hq2 : q ≤ oN) (hc : oC q = nI j) (hO : cO j = nI q) : qd_I (B + 7) cN rN sN oN wN ph gh rh oC oK oR (upd oS q 2) (qd_t2 kd oT q j) cC cO (upd cH j 0) (upd lT j 0) sI sK sT cM gT ms cR := by
  obtain ⟨h1, h2, h3, h4, h5, h6, h7, h8, h9, h10, h11⟩ := aq_Im h (show B ≤ B + 7 by omega)
  obtain ⟨_, _, k3, _⟩ := h
  have h64 : oN ≤ 64 := h1.2.2.2.2.2.2.1
  refine ⟨h1, h2, fun p g1 g2 => ?_, fun p g => ?_, fun c g1 => ?_, fun c g1 p g2 g3 g4 g5 => ?_, h7, h8, h9, h10, h11⟩
  · obtain ⟨c, r, e1, e2, e3, e4, e5, e6⟩ := h3 p g1 g2
    refine ⟨c, r, e1, e2, e3, e4, ?_, ?_⟩
    · by_cases z : p = q
      · subst z
        obtain ⟨_, _, _, _, _, _, k5, _⟩ := k3 p g1 g2
        exact aq_t2 hj hB k5
      · rw [aq_t2n z]; exact e5
    · by_cases z : p = q
      · subst z
        intro _
        have e : c = j := aq_im (e3.symm.trans hc) (by omega) (by omega)
        rw [e]; exact hO
      · rw [pk_un z]; exact e6
  · rw [pk_un (by omega)]; exact h4 p g
  · obtain ⟨p, m', e1, e2, e3, e4, e5, e6, e7⟩ := h5 c g1
    by_cases w : c = j
    · subst w
      exact ⟨p, m', e1, e2, e3, e4, e5, fun _ => pk_us, by rw [pk_us]; exact aq_sub0 _⟩
    · exact ⟨p, m', e1, e2, e3, e4, e5, fun z => by rw [pk_un w]; exact e6 z, by rw [pk_un w]; exact e7⟩
  · by_cases w : c = j
    · subst w
      rw [pk_us, pk_us]; exact aq_LW0
    · have ep : p ≠ q := by
        intro ep
        obtain ⟨p', m', e1, e2, e3, e4, e5, _⟩ := h5 c g1
        have e : p' = p := aq_im (e1.symm.trans g4) (by omega) (by omega)
        have e8 := e5 (by omega)
        rw [e, ep, hc] at e8
        exact w (aq_im e8 (by omega) (by omega)).symm
      rw [pk_un ep] at g5
      rw [pk_un w, pk_un w, aq_t2n ep]
      exact h6 c g1 p g2 g3 g4 g5
/-- a client moved to another configuration -/
theorem aq_Imv (h : qd_I B cN rN sN oN wN ph gh rh oC oK oR oS oT cC cO cH lT sI sK sT cM gT ms cR) (hj : j < 4) (hm : m ≤ wN) : qd_I B cN rN sN oN wN ph gh rh oC oK oR oS oT (upd cC j (nI m)) cO (upd cH j 0) (upd lT j 0) sI sK sT cM gT ms cR := by
  obtain ⟨h1, h2, h3, h4, h5, h6, h7, h8, h9, h10, h11⟩ := h
  refine ⟨h1, h2, h3, h4, fun c g1 => ?_, fun c g1 p g2 g3 g4 g5 => ?_, h7, h8, h9, h10, h11⟩
  · obtain ⟨p, m', e1, e2, e3, e4, e5, e6, e7⟩ := h5 c g1
    by_cases w : c = j
    · subst w
      exact ⟨p, m, e1, e2, pk_us, hm, e5, fun _ => pk_us, by rw [pk_us]; exact aq_sub0 _⟩
    · exact ⟨p, m', e1, e2, by rw [pk_un w]; exact e3, e4, e5, fun z => by rw [pk_un w]; exact e6 z, by rw [pk_un w]; exact e7⟩
  · by_cases w : c = j
    · subst w
      rw [pk_us, pk_us]; exact aq_LW0
    · rw [pk_un w, pk_un w]
      exact h6 c g1 p g2 g3 g4 g5
theorem aq_Imv0 (h : qd_I B cN rN sN oN wN ph gh rh oC oK oR oS oT cC cO cH lT sI sK sT cM gT ms cR) (hj : j < 4) (hm : m ≤ wN) (hO : cO j = 0) : qd_I B cN rN sN oN wN ph gh rh oC oK oR oS oT (upd cC j (nI m)) cO cH lT sI sK sT cM gT ms cR := by
  obtain ⟨h1, h2, h3, h4, h5, h6, h7, h8, h9, h10, h11⟩ := h
  have h64 : oN ≤ 64 := h1.2.2.2.2.2.2.1
  refine ⟨h1, h2, h3, h4, fun c g1 => ?_, h6, h7, h8, h9, h10, h11⟩
  obtain ⟨p, m', e1, e2, e3, e4, e5, e6, e7⟩ := h5 c g1
  by_cases w : c = j
  · subst w
    have ep : p = 0 := by rw [hO] at e1; exact (aq_eq0 (by omega)).mp e1.symm
    exact ⟨p, m, e1, e2, pk_us, hm, e5, e6, by rw [e6 ep]; exact aq_sub0 _⟩
  · exact ⟨p, m', e1, e2, by rw [pk_un w]; exact e3, e4, e5, e6, e7⟩
/-- an op begun -/
theorem aq_Ibeg (h : qd_I B cN rN sN oN wN ph gh rh oC oK oR oS oT cC cO cH lT sI sK sT cM gT ms cR) (hj : j < 4) (hO : cO j = 0) (hr : r < rN) (hN : oN < 64) : qd_I B cN rN sN (oN + 1) wN ph gh rh (upd oC (oN + 1) (nI j)) (upd oK (oN + 1) kd) (upd oR (oN + 1) (nI r)) (upd oS (oN + 1) 1) (upd oT (oN + 1) 0) cC (upd cO j (nI (oN + 1))) (upd cH j 0) (upd lT j 0) sI sK sT cM gT ms cR := by
  obtain ⟨h1, h2, h3, h4, h5, h6, h7, h8, h9, h10, h11⟩ := h
  obtain ⟨n1, n2, n3, n4, n5, n6, n7, n8, n9⟩ := h1
  refine ⟨⟨n1, n2, n3, n4, n5, n6, by omega, n8, n9⟩, aq_MIm h2 (by omega) (Nat.le_refl _) (Nat.le_refl _) (fun _ _ => rfl), fun p g1 g2 => ?_, fun p g => ?_, fun c g1 => ?_, fun c g1 p g2 g3 g4 g5 => ?_, h7, h8, h9, h10, h11⟩
  · by_cases z : p = oN + 1
    · subst z
      exact ⟨j, r, hj, hr, pk_us, pk_us, by rw [pk_us]; exact aq_Tg0 B, fun _ => pk_us⟩
    · obtain ⟨c, r', e1, e2, e3, e4, e5, e6⟩ := h3 p g1 (by omega)
      refine ⟨c, r', e1, e2, by rw [pk_un z]; exact e3, by rw [pk_un z]; exact e4, by rw [pk_un z]; exact e5, ?_⟩
      rw [pk_un z]
      intro g
      have g0 := e6 g
      have w : c ≠ j := by
        intro w
        subst w
        rw [hO] at g0
        exact absurd g0.symm (nI_ne0 (by omega) (by omega))
      rw [pk_un w]; exact g0
  · rw [pk_un (by omega), pk_un (by omega)]; exact h4 p (by omega)
  · obtain ⟨p, m', e1, e2, e3, e4, e5, e6, e7⟩ := h5 c g1
    by_cases w : c = j
    · subst w
      exact ⟨oN + 1, m', pk_us, Nat.le_refl _, e3, e4, fun _ => pk_us, fun _ => pk_us, by rw [pk_us]; exact aq_sub0 _⟩
    · exact ⟨p, m', by rw [pk_un w]; exact e1, by omega, e3, e4, fun z => by rw [pk_un (by omega)]; exact e5 z, fun z => by rw [pk_un w]; exact e6 z, by rw [pk_un w]; exact e7⟩
  · by_cases w : c = j
    · subst w
      rw [pk_us, pk_us]; exact aq_LW0
    · rw [pk_un w] at g4
      obtain ⟨p', m', e1, e2, _⟩ := h5 c g1
      have e : p' = p := aq_im (e1.symm.trans g4) (by omega) (by omega)
      rw [pk_un (by omega)] at g5
      rw [pk_un w, pk_un w, pk_un (by omega)]
      exact h6 c g1 p g2 g3 g4 g5
end
end
section
/-! the clients' walks -/
section
variable {cN rN sN oN wN B : Nat} {ph gh rh : Int32} {oC oK oR oS oT oW cC cO cH lT sI sK sT cM gT ms iT uT cR : Nat → Int32}
variable {s j q m r k : Nat} {x y kd : Int32} {post2 : Int32 → SX → Prop} {post3 : Int32 → SY → Prop}
/-- X: a reply's way to the count -/
theorem aq_xqr (hs : s < 5) (hj : j < 4) (hq : q ≤ 64) (hr : r < 4) (hc : oC q = nI j) (hR : oR q = nI r) (hS : oS q = 1) (hm : cC j = nI m) (hn : ¬ bt (cH j) s = true) (K : wX_queryReplyAtClient_112 post2 (nI q) (nI m) (nI j) ((1 : Int32) <<< (nI s &&& 31)) (nI cN) (nI rN) (nI sN) (nI oN) ph (nI wN) gh oC oK oR oS (upd oT q (qd_mx (oT q) (iT r))) oW cC cO cH (upd lT j (qd_lw (cH j) (lT j) (iT r))) sI sK sT cM gT (qd_K ms) (qd_S ms) (qd_O ms) (qd_C ms) (qd_T ms) iT uT) : wpX_queryReplyAtClient post2 (nI cN, nI rN, nI sN, nI oN, ph, nI wN, gh, oC, oK, oR, oS, oT, oW, cC, cO, cH, lT, sI, sK, sT, cM, gT, qd_K ms, qd_S ms, qd_O ms, qd_C ms, qd_T ms, iT, uT) (nI s) (nI q) (nI m) := by
  have hv : vp_in (nI j) 4 := vp_in_nI hj (by omega)
  have hw : vp_in (nI q) 65 := vp_in_nI (by omega) (by omega)
  have ej : (nI j).toNatClampNeg = j := nI_clamp (by omega)
  have eq : (nI q).toNatClampNeg = q := nI_clamp (by omega)
  have er : (nI r).toNatClampNeg = r := nI_clamp (by omega)
  have K81 : ∀ oT' : Nat → Int32, oT' = upd oT q (qd_mx (oT q) (iT r)) → wX_queryReplyAtClient_81 post2 (nI q) (nI m) (nI j) ((1 : Int32) <<< (nI s &&& 31)) (iT r) (nI cN) (nI rN) (nI sN) (nI oN) ph (nI wN) gh oC oK oR oS oT' oW cC cO cH lT sI sK sT cM gT (qd_K ms) (qd_S ms) (qd_O ms) (qd_C ms) (qd_T ms) iT uT := by
    intro oT' e
    subst e
    unfold wX_queryReplyAtClient_81 wX_queryReplyAtClient_103
    rw [ej]
    refine ⟨hv, ?_⟩
    by_cases z : cH j = 0
    · rw [aq_lw0 z] at K
      exact br_t z ⟨hv, nm_e K⟩
    · refine br_f z ⟨hv, ?_⟩
      by_cases w : lT j ≤ iT r
      · rw [aq_lw1 z w, aq_uid] at K
        exact br_t w K
      · rw [aq_lw2 z w] at K
        exact br_f w ⟨hv, nm_e K⟩
  refine And.intro hw (nm_r (e' := nI j) (by rw [eq, hc]) (nm_e ⟨hw, ?_⟩))
  rw [eq, hR, er]
  refine br_t hS ⟨hv, ?_⟩
  rw [ej]
  refine br_t hm ⟨hv, br_t (aq_xf hs (by simpa using hn)) ⟨hw, vp_in_nI hr (by omega), nm_e ⟨hw, ?_⟩⟩⟩
  by_cases z : iT r ≤ oT q
  · exact br_t z (K81 oT (by rw [aq_mxr z, aq_uid]))
  · exact br_f z ⟨hw, nm_e (K81 _ (by rw [aq_mxn z]))⟩
theorem aq_xqi (hs : s < 5) (hj : j < 4) (hq : q ≤ 64) (hc : oC q = nI j) (h : ¬ oS q = 1 ∨ ¬ cC j = nI m ∨ bt (cH j) s = true) (hp : post2 0 (nI cN, nI rN, nI sN, nI oN, ph, nI wN, gh, oC, oK, oR, oS, oT, oW, cC, cO, cH, lT, sI, sK, sT, cM, gT, qd_K ms, qd_S ms, qd_O ms, qd_C ms, qd_T ms, iT, uT)) : wpX_queryReplyAtClient post2 (nI cN, nI rN, nI sN, nI oN, ph, nI wN, gh, oC, oK, oR, oS, oT, oW, cC, cO, cH, lT, sI, sK, sT, cM, gT, qd_K ms, qd_S ms, qd_O ms, qd_C ms, qd_T ms, iT, uT) (nI s) (nI q) (nI m) := by
  have hv : vp_in (nI j) 4 := vp_in_nI hj (by omega)
  have hw : vp_in (nI q) 65 := vp_in_nI (by omega) (by omega)
  have ej : (nI j).toNatClampNeg = j := nI_clamp (by omega)
  have eq : (nI q).toNatClampNeg = q := nI_clamp (by omega)
  refine And.intro hw (nm_r (e' := nI j) (by rw [eq, hc]) (nm_e ⟨hw, ?_⟩))
  rw [eq, ej]
  by_cases h1 : oS q = 1
  · refine br_t h1 ⟨hv, ?_⟩
    by_cases h2 : cC j = nI m
    · exact br_t h2 ⟨hv, br_f (aq_xt hs ((h.resolve_left (fun z => z h1)).resolve_left (fun z => z h2))) hp⟩
    · exact br_f h2 hp
  · exact br_f h1 hp
theorem aq_x112_0 (hj : j < 4) (hm : m < 9) (hb : (cH j ||| x) &&& cM m = cH j ||| x) (hQ : qd_q (cH j ||| x) (cM m) = 0) (hp : post2 3 (nI cN, nI rN, nI sN, nI oN, ph, nI wN, gh, oC, oK, oR, oS, oT, oW, cC, cO, upd cH j (cH j ||| x), lT, sI, sK, sT, cM, gT, qd_K ms, qd_S ms, qd_O ms, qd_C ms, qd_T ms, iT, uT)) : wX_queryReplyAtClient_112 post2 (nI q) (nI m) (nI j) x (nI cN) (nI rN) (nI sN) (nI oN) ph (nI wN) gh oC oK oR oS oT oW cC cO cH lT sI sK sT cM gT (qd_K ms) (qd_S ms) (qd_O ms) (qd_C ms) (qd_T ms) iT uT := by
  have hv : vp_in (nI j) 4 := vp_in_nI hj (by omega)
  have ej : (nI j).toNatClampNeg = j := nI_clamp (by omega)
  unfold wX_queryReplyAtClient_112
  rw [ej]
  refine ⟨hv, hv, nm_e ⟨hv, ?_⟩⟩
  rw [pk_us]
  refine aq_xq hm hb ?_
  rw [hQ]
  exact br_t rfl hp
theorem aq_x112_f (hj : j < 4) (hq : q ≤ 64) (hq1 : 1 ≤ q) (hm : m < 9) (hc : oC q = nI j) (hO : cO j = nI q) (hS : oS q = 1) (hb : (cH j ||| x) &&& cM m = cH j ||| x) (hQ : ¬ qd_q (cH j ||| x) (cM m) = 0) (hK : oK q = 1) (ha : cH j ||| x = 0 ∨ lT j = oT q) (hp : post2 5 (nI cN, nI rN, nI sN, nI oN, ph, nI wN, gh, oC, oK, oR, upd oS q 3, oT, oW, cC, upd cO j 0, upd (upd cH j (cH j ||| x)) j 0, lT, sI, sK, sT, cM, gT, qd_K ms, qd_S ms, qd_O ms, qd_C ms, qd_T ms, iT, uT)) : wX_queryReplyAtClient_112 post2 (nI q) (nI m) (nI j) x (nI cN) (nI rN) (nI sN) (nI oN) ph (nI wN) gh oC oK oR oS oT oW cC cO cH lT sI sK sT cM gT (qd_K ms) (qd_S ms) (qd_O ms) (qd_C ms) (qd_T ms) iT uT := by
  have hv : vp_in (nI j) 4 := vp_in_nI hj (by omega)
  have hw : vp_in (nI q) 65 := vp_in_nI (by omega) (by omega)
  have ej : (nI j).toNatClampNeg = j := nI_clamp (by omega)
  have eq : (nI q).toNatClampNeg = q := nI_clamp (by omega)
  unfold wX_queryReplyAtClient_112
  rw [ej, eq]
  refine ⟨hv, hv, nm_e ⟨hv, ?_⟩⟩
  rw [pk_us]
  refine aq_xq hm hb ?_
  refine br_f hQ ⟨hw, br_t hK (aq_xag (r := 1) hj hO hq hq1 hS (Or.inl ⟨rfl, by rw [pk_us]; exact ha⟩) ?_)⟩
  exact br_f (by decide) (aq_xfin hq hj hc hp)
theorem aq_x112_a (hj : j < 4) (hq : q ≤ 64) (hq1 : 1 ≤ q) (hm : m < 9) (hO : cO j = nI q) (hS : oS q = 1) (hb : (cH j ||| x) &&& cM m = cH j ||| x) (hQ : ¬ qd_q (cH j ||| x) (cM m) = 0) (ha : oK q = 1 → ¬ (cH j ||| x) = 0 ∧ ¬ lT j = oT q) (K : wX_queryReplyAtClient_167 post2 (nI q) (nI j) (nI cN) (nI rN) (nI sN) (nI oN) ph (nI wN) gh oC oK oR oS oT oW cC cO (upd cH j (cH j ||| x)) lT sI sK sT cM gT (qd_K ms) (qd_S ms) (qd_O ms) (qd_C ms) (qd_T ms) iT uT) : wX_queryReplyAtClient_112 post2 (nI q) (nI m) (nI j) x (nI cN) (nI rN) (nI sN) (nI oN) ph (nI wN) gh oC oK oR oS oT oW cC cO cH lT sI sK sT cM gT (qd_K ms) (qd_S ms) (qd_O ms) (qd_C ms) (qd_T ms) iT uT := by
  have hv : vp_in (nI j) 4 := vp_in_nI hj (by omega)
  have hw : vp_in (nI q) 65 := vp_in_nI (by omega) (by omega)
  have ej : (nI j).toNatClampNeg = j := nI_clamp (by omega)
  have eq : (nI q).toNatClampNeg = q := nI_clamp (by omega)
  unfold wX_queryReplyAtClient_112
  rw [ej, eq]
  refine ⟨hv, hv, nm_e ⟨hv, ?_⟩⟩
  rw [pk_us]
  refine aq_xq hm hb ?_
  refine br_f hQ ⟨hw, br_c (fun hK => aq_xag (r := 0) hj hO hq hq1 hS (Or.inr ⟨rfl, by rw [pk_us]; exact (ha hK).1, (ha hK).2⟩) ?_) (fun _ => K)⟩
  exact br_t rfl K
theorem aq_x167 (hs : sN ≤ 48) (hj : j < 4) (hq : q ≤ 64) (hR : oR q = nI r) (h4 : r < 4) (hm : m < 9) (hC : cC j = nI m) (hO : cO j = nI q) (hp : ∀ uT', post2 4 (nI cN, nI rN, nI sN, nI oN, ph, nI wN, gh, oC, oK, oR, upd oS q 2, qd_t2 (oK q) oT q j, oW, cC, cO, upd cH j 0, upd lT j 0, sI, sK, sT, cM, gT, qd_K (qd_rq sN (upd oS q 2 q) (cM m) q m r (qd_t2 (oK q) oT q j q) ms), qd_S (qd_rq sN (upd oS q 2 q) (cM m) q m r (qd_t2 (oK q) oT q j q) ms), qd_O (qd_rq sN (upd oS q 2 q) (cM m) q m r (qd_t2 (oK q) oT q j q) ms), qd_C (qd_rq sN (upd oS q 2 q) (cM m) q m r (qd_t2 (oK q) oT q j q) ms), qd_T (qd_rq sN (upd oS q 2 q) (cM m) q m r (qd_t2 (oK q) oT q j q) ms), iT, uT')) : wX_queryReplyAtClient_167 post2 (nI q) (nI j) (nI cN) (nI rN) (nI sN) (nI oN) ph (nI wN) gh oC oK oR oS oT oW cC cO cH lT sI sK sT cM gT (qd_K ms) (qd_S ms) (qd_O ms) (qd_C ms) (qd_T ms) iT uT := by
  have hw : vp_in (nI q) 65 := vp_in_nI (by omega) (by omega)
  have eq : (nI q).toNatClampNeg = q := nI_clamp (by omega)
  unfold wX_queryReplyAtClient_167 wX_queryReplyAtClient_198
  rw [eq]
  refine ⟨hw, ?_⟩
  by_cases z : oK q = 2
  · rw [show qd_t2 (oK q) oT q j = upd oT q (4 * (oT q / 4 + 1) + nI j) from if_pos z] at hp
    exact br_t z ⟨hw, by decide, hw, nm_e ⟨hw, nm_e (aq_xrnd hs hj hO hq hR h4 hC hm hp)⟩⟩
  · rw [show qd_t2 (oK q) oT q j = oT from if_neg z] at hp
    exact br_f z ⟨hw, nm_e (aq_xrnd hs hj hO hq hR h4 hC hm hp)⟩
/-- Y -/
theorem aq_yqr (hs : s < 5) (hj : j < 4) (hq : q ≤ 64) (hr : r < 4) (hk : k < 48) (hc : oC q = nI j) (hR : oR q = nI r) (hS : oS q = 1) (hm : cC j = nI m) (hn : ¬ bt (cH j) s = true) (K : wY_replyAtClient_131 post3 2 (nI s) (nI q) (nI m) (nI j) (nI cN) (nI rN) (nI sN) (nI oN) ph (nI wN) rh cM oC oK oR oW oS (upd oT q (qd_mx (oT q) (ms (k * 8 + 4 + r)))) cC cO cH (upd cR (j * 5 + s) (ms (k * 8 + 4 + r))) sI sK sT gT ms) : wpY_replyAtClient post3 (nI cN, nI rN, nI sN, nI oN, ph, nI wN, rh, cM, oC, oK, oR, oW, oS, oT, cC, cO, cH, cR, sI, sK, sT, gT, ms) (nI k) 2 (nI s) (nI q) (nI m) := by
  have hv : vp_in (nI j) 4 := vp_in_nI hj (by omega)
  have hw : vp_in (nI q) 65 := vp_in_nI (by omega) (by omega)
  have ej : (nI j).toNatClampNeg = j := nI_clamp (by omega)
  have eq : (nI q).toNatClampNeg = q := nI_clamp (by omega)
  refine And.intro hw (nm_r (e' := nI j) (by rw [eq, hc]) (br_t rfl ?_))
  unfold wY_replyAtClient_19 wY_replyAtClient_97
  rw [eq, ej, hR, aq_d8 hk hr, aq_c5 (show j * 5 + s < 2 ^ 31 by omega)]
  refine ⟨hw, br_t hS ⟨hv, br_t hm ⟨hv, aq_yh0 hs hn ?_⟩⟩⟩
  refine br_t rfl (br_t rfl ⟨hw, aq_w8 hk hr, aq_v5 (by omega) (by omega), nm_e (br_t rfl ⟨hw, aq_v5 (by omega) (by omega), ?_⟩)⟩)
  rw [pk_us]
  refine aq_ygr ?_
  exact ⟨hw, nm_e K⟩
theorem aq_yqi (hs : s < 5) (hj : j < 4) (hq : q ≤ 64) (hc : oC q = nI j) (hz : (kd = 2 ∧ x = 1) ∨ (¬ kd = 2 ∧ x = 2)) (h : ¬ oS q = x ∨ ¬ cC j = nI m ∨ bt (cH j) s = true) (hp : post3 0 (nI cN, nI rN, nI sN, nI oN, ph, nI wN, rh, cM, oC, oK, oR, oW, oS, oT, cC, cO, cH, cR, sI, sK, sT, gT, ms)) : wpY_replyAtClient post3 (nI cN, nI rN, nI sN, nI oN, ph, nI wN, rh, cM, oC, oK, oR, oW, oS, oT, cC, cO, cH, cR, sI, sK, sT, gT, ms) (nI k) kd (nI s) (nI q) (nI m) := by
  have hv : vp_in (nI j) 4 := vp_in_nI hj (by omega)
  have hw : vp_in (nI q) 65 := vp_in_nI (by omega) (by omega)
  have ej : (nI j).toNatClampNeg = j := nI_clamp (by omega)
  have eq : (nI q).toNatClampNeg = q := nI_clamp (by omega)
  have K : wY_replyAtClient_19 post3 (nI k) kd (nI s) (nI q) (nI m) (nI j) x (nI cN) (nI rN) (nI sN) (nI oN) ph (nI wN) rh cM oC oK oR oW oS oT cC cO cH cR sI sK sT gT ms := by
    unfold wY_replyAtClient_19
    rw [eq, ej]
    refine ⟨hw, ?_⟩
    by_cases h1 : oS q = x
    · refine br_t h1 ⟨hv, ?_⟩
      by_cases h2 : cC j = nI m
      · refine br_t h2 ⟨hv, aq_yh1 hs ((h.resolve_left (fun z => z h1)).resolve_left (fun z => z h2)) ?_⟩
        exact br_f (by decide) hp
      · exact br_f h2 hp
    · exact br_f h1 hp
  refine And.intro hw (nm_r (e' := nI j) (by rw [eq, hc]) ?_)
  rcases hz with ⟨h1, rfl⟩ | ⟨h1, rfl⟩
  · exact br_t h1 K
  · exact br_f h1 K
theorem aq_y131_0 (hj : j < 4) (hm : m < 9) (hQ : qd_q (cH j ||| ((1 : Int32) <<< (nI s &&& 31))) (cM m) = 0) (hp : post3 3 (nI cN, nI rN, nI sN, nI oN, ph, nI wN, rh, cM, oC, oK, oR, oW, oS, oT, cC, cO, upd cH j (cH j ||| ((1 : Int32) <<< (nI s &&& 31))), cR, sI, sK, sT, gT, ms)) : wY_replyAtClient_131 post3 kd (nI s) (nI q) (nI m) (nI j) (nI cN) (nI rN) (nI sN) (nI oN) ph (nI wN) rh cM oC oK oR oW oS oT cC cO cH cR sI sK sT gT ms := by
  have hv : vp_in (nI j) 4 := vp_in_nI hj (by omega)
  have ej : (nI j).toNatClampNeg = j := nI_clamp (by omega)
  unfold wY_replyAtClient_131
  rw [ej]
  refine ⟨hv, hv, nm_e ⟨hv, ?_⟩⟩
  rw [pk_us]
  refine aq_yq hm ?_
  rw [hQ]
  exact br_t rfl hp
theorem aq_y187 (hj : j < 4) (hq : q ≤ 64) (hp : post3 5 (nI cN, nI rN, nI sN, nI oN, ph, nI wN, rh, cM, oC, oK, oR, oW, upd oS q 3, oT, cC, upd cO j 0, upd cH j 0, cR, sI, sK, sT, gT, ms)) : wY_replyAtClient_187 post3 (nI q) (nI j) (nI cN) (nI rN) (nI sN) (nI oN) ph (nI wN) rh cM oC oK oR oW oS oT cC cO cH cR sI sK sT gT ms := by
  have hv : vp_in (nI j) 4 := vp_in_nI hj (by omega)
  have hw : vp_in (nI q) 65 := vp_in_nI (by omega) (by omega)
  have ej : (nI j).toNatClampNeg = j := nI_clamp (by omega)
  have eq : (nI q).toNatClampNeg = q := nI_clamp (by omega)
  unfold wY_replyAtClient_187
  rw [eq, ej]
  exact ⟨hw, nm_e ⟨hv, nm_e ⟨hv, nm_e hp⟩⟩⟩
theorem aq_y131_4 (hj : j < 4) (hq : q ≤ 64) (hm : m < 9) (hQ : ¬ qd_q (cH j ||| ((1 : Int32) <<< (nI s &&& 31))) (cM m) = 0) (hp : post3 5 (nI cN, nI rN, nI sN, nI oN, ph, nI wN, rh, cM, oC, oK, oR, oW, upd oS q 3, oT, cC, upd cO j 0, upd (upd cH j (cH j ||| ((1 : Int32) <<< (nI s &&& 31)))) j 0, cR, sI, sK, sT, gT, ms)) : wY_replyAtClient_131 post3 4 (nI s) (nI q) (nI m) (nI j) (nI cN) (nI rN) (nI sN) (nI oN) ph (nI wN) rh cM oC oK oR oW oS oT cC cO cH cR sI sK sT gT ms := by
  have hv : vp_in (nI j) 4 := vp_in_nI hj (by omega)
  have ej : (nI j).toNatClampNeg = j := nI_clamp (by omega)
  unfold wY_replyAtClient_131
  rw [ej]
  refine ⟨hv, hv, nm_e ⟨hv, ?_⟩⟩
  rw [pk_us]
  refine aq_yq hm ?_
  exact br_f hQ (br_t rfl (aq_y187 hj hq hp))
theorem aq_y131_f (hj : j < 4) (hq : q ≤ 64) (hq1 : 1 ≤ q) (hm : m < 9) (hO : cO j = nI q) (hS : oS q = 1) (hQ : ¬ qd_q (cH j ||| ((1 : Int32) <<< (nI s &&& 31))) (cM m) = 0) (hK : oK q = 1) (ha : qd_ag (cH j ||| ((1 : Int32) <<< (nI s &&& 31))) (fun a => cR (j * 5 + a)) (oT q)) (hp : post3 5 (nI cN, nI rN, nI sN, nI oN, ph, nI wN, rh, cM, oC, oK, oR, oW, upd oS q 3, oT, cC, upd cO j 0, upd (upd cH j (cH j ||| ((1 : Int32) <<< (nI s &&& 31)))) j 0, cR, sI, sK, sT, gT, ms)) : wY_replyAtClient_131 post3 2 (nI s) (nI q) (nI m) (nI j) (nI cN) (nI rN) (nI sN) (nI oN) ph (nI wN) rh cM oC oK oR oW oS oT cC cO cH cR sI sK sT gT ms := by
  have hv : vp_in (nI j) 4 := vp_in_nI hj (by omega)
  have hw : vp_in (nI q) 65 := vp_in_nI (by omega) (by omega)
  have ej : (nI j).toNatClampNeg = j := nI_clamp (by omega)
  have eq : (nI q).toNatClampNeg = q := nI_clamp (by omega)
  unfold wY_replyAtClient_131
  rw [ej, eq]
  refine ⟨hv, hv, nm_e ⟨hv, ?_⟩⟩
  rw [pk_us]
  refine aq_yq hm ?_
  refine br_f hQ (br_f (by decide) ⟨hw, br_t hK (aq_yag hj hO hq hq1 hS (fun _ => ?_) (fun g => absurd (by rw [pk_us]; exact ha) g))⟩)
  exact br_f (by decide) (aq_y187 hj hq hp)
theorem aq_y131_a (hj : j < 4) (hq : q ≤ 64) (hq1 : 1 ≤ q) (hm : m < 9) (hO : cO j = nI q) (hS : oS q = 1) (hQ : ¬ qd_q (cH j ||| ((1 : Int32) <<< (nI s &&& 31))) (cM m) = 0) (ha : oK q = 1 → ¬ qd_ag (cH j ||| ((1 : Int32) <<< (nI s &&& 31))) (fun a => cR (j * 5 + a)) (oT q)) (K : wY_replyAtClient_213 post3 (nI q) (nI j) (nI cN) (nI rN) (nI sN) (nI oN) ph (nI wN) rh cM oC oK oR oW oS oT cC cO (upd cH j (cH j ||| ((1 : Int32) <<< (nI s &&& 31)))) cR sI sK sT gT ms) : wY_replyAtClient_131 post3 2 (nI s) (nI q) (nI m) (nI j) (nI cN) (nI rN) (nI sN) (nI oN) ph (nI wN) rh cM oC oK oR oW oS oT cC cO cH cR sI sK sT gT ms := by
  have hv : vp_in (nI j) 4 := vp_in_nI hj (by omega)
  have hw : vp_in (nI q) 65 := vp_in_nI (by omega) (by omega)
  have ej : (nI j).toNatClampNeg = j := nI_clamp (by omega)
  have eq : (nI q).toNatClampNeg = q := nI_clamp (by omega)
  unfold wY_replyAtClient_131
  rw [ej, eq]
  refine ⟨hv, hv, nm_e ⟨hv, ?_⟩⟩
  rw [pk_us]
  refine aq_yq hm ?_
  refine br_f hQ (br_f (by decide) ⟨hw, br_c (fun hK => aq_yag hj hO hq hq1 hS (fun g => absurd (by rw [pk_us] at g; exact g) (ha hK)) (fun _ => ?_)) (fun _ => K)⟩)
  exact br_t rfl K
theorem aq_y213 (hs : sN ≤ 48) (hj : j < 4) (hq : q ≤ 64) (hR : oR q = nI r) (h4 : r < 4) (hm : m < 9) (hC : cC j = nI m) (hO : cO j = nI q) (hp : post3 4 (nI cN, nI rN, nI sN, nI oN, ph, nI wN, rh, cM, oC, oK, oR, oW, upd oS q 2, qd_t2 (oK q) oT q j, cC, cO, upd cH j 0, cR, sI, sK, sT, gT, qd_rq sN (upd oS q 2 q) (cM m) q m r (qd_t2 (oK q) oT q j q) ms)) : wY_replyAtClient_213 post3 (nI q) (nI j) (nI cN) (nI rN) (nI sN) (nI oN) ph (nI wN) rh cM oC oK oR oW oS oT cC cO cH cR sI sK sT gT ms := by
  have hw : vp_in (nI q) 65 := vp_in_nI (by omega) (by omega)
  have eq : (nI q).toNatClampNeg = q := nI_clamp (by omega)
  unfold wY_replyAtClient_213 wY_replyAtClient_247
  rw [eq]
  refine ⟨hw, ?_⟩
  by_cases z : oK q = 2
  · rw [show qd_t2 (oK q) oT q j = upd oT q (4 * (oT q / 4 + 1) + nI j) from if_pos z] at hp
    exact br_t z ⟨hw, by decide, hw, nm_e ⟨hw, nm_e (aq_yrnd hs hj hO hq hR h4 hC hm hp)⟩⟩
  · rw [show qd_t2 (oK q) oT q j = oT from if_neg z] at hp
    exact br_f z ⟨hw, nm_e (aq_yrnd hs hj hO hq hR h4 hC hm hp)⟩
end
end
section
/-! the clients' steps in lockstep -/
section
variable {cN rN sN oN wN B : Nat} {ph gh rh : Int32} {oC oK oR oS oT oW cC cO cH lT sI sK sT cM gT ms iT uT cR : Nat → Int32}
variable {s j q m r k : Nat} {x y kd : Int32}
theorem aq_run (I : qd_I B cN rN sN oN wN ph gh rh oC oK oR oS oT cC cO cH lT sI sK sT cM gT ms cR) (hq : 1 ≤ q) (hq2 : q ≤ oN) : ∃ j r : Nat, j < 4 ∧ r < rN ∧ rN ≤ 4 ∧ oN ≤ 64 ∧ wN ≤ 8 ∧ sN ≤ 48 ∧ oC q = nI j ∧ oR q = nI r ∧ qd_Tg B (oT q) ∧ (oS q = 1 ∨ oS q = 2 → cO j = nI q) := by
  obtain ⟨⟨n1, n2, n3, n4, n5, n6, n7, n8, n9⟩, _, h3, _⟩ := I
  obtain ⟨c, r, e1, e2, e3, e4, e5, e6⟩ := h3 q hq hq2
  exact ⟨c, r, e1, e2, n4, n7, n9, n6, e3, e4, e5, e6⟩
theorem aq_Lqr (I : qd_I B cN rN sN oN wN ph gh rh oC oK oR oS oT cC cO cH lT sI sK sT cM gT ms cR) (hB : B < 2 ^ 30) (hk : k < 48) (hi : ∀ i, i < 4 → iT i = ms (k * 8 + 4 + i)) (ht : qd_TV rN B (fun r => ms (k * 8 + 4 + r))) (hs : s < 5) (hq : 1 ≤ q) (hq2 : q ≤ oN) (hm : m ≤ wN) (hb : bt (cM m) s = true) : qd_LS (B + 7) (fun post => wpX_queryReplyAtClient post (nI cN, nI rN, nI sN, nI oN, ph, nI wN, gh, oC, oK, oR, oS, oT, oW, cC, cO, cH, lT, sI, sK, sT, cM, gT, qd_K ms, qd_S ms, qd_O ms, qd_C ms, qd_T ms, iT, uT) (nI s) (nI q) (nI m)) (fun post => wpY_replyAtClient post (nI cN, nI rN, nI sN, nI oN, ph, nI wN, rh, cM, oC, oK, oR, oW, oS, oT, cC, cO, cH, cR, sI, sK, sT, gT, ms) (nI k) 2 (nI s) (nI q) (nI m)) := by
  obtain ⟨j, r, hj, hr, h4, h64, h8, h48, hc, hR, hT, hO⟩ := aq_run I hq hq2
  have I7 := aq_Im I (show B ≤ B + 7 by omega)
  by_cases h : ¬ oS q = 1 ∨ ¬ cC j = nI m ∨ bt (cH j) s = true
  · exact aq_LSI (oW := oW) 0 I7 (fun p hp => aq_xqi hs hj (by omega) hc h (hp _ _)) (fun p hp => aq_yqi hs hj (by omega) hc (Or.inl ⟨rfl, rfl⟩) h hp)
  · have hS : oS q = 1 := Decidable.byContradiction fun z => h (Or.inl z)
    have hC : cC j = nI m := Decidable.byContradiction fun z => h (Or.inr (Or.inl z))
    have hn : ¬ bt (cH j) s = true := fun z => h (Or.inr (Or.inr z))
    have hOq := hO (Or.inl hS)
    have hy : qd_Tg B (ms (k * 8 + 4 + r)) := (ht r (by omega)).1
    have J := aq_Iqr I hs hj hq hq2 hc hS hC hm hb hn hy
    have ei := hi r (by omega)
    have hsub : (cH j ||| ((1 : Int32) <<< (nI s &&& 31))) &&& cM m = cH j ||| ((1 : Int32) <<< (nI s &&& 31)) := by
      obtain ⟨_, _, _, _, h5, _⟩ := I
      obtain ⟨p, m', e1, e2, e3, e4, e5, e6, e7⟩ := h5 j hj
      have em : m' = m := aq_im (e3.symm.trans hC) (by omega) (by omega)
      subst em
      exact aq_subor hs e7 hb
    have hL : qd_LW (qd_mx (oT q) (ms (k * 8 + 4 + r))) (qd_lw (cH j) (lT j) (ms (k * 8 + 4 + r))) (cH j ||| ((1 : Int32) <<< (nI s &&& 31))) (fun i => upd cR (j * 5 + s) (ms (k * 8 + 4 + r)) (j * 5 + i)) := by
      obtain ⟨_, _, _, _, _, h6, _⟩ := J
      have g := h6 j hj q hq (by omega) hOq hS
      rw [pk_us, pk_us, pk_us] at g
      exact g
    by_cases hQ : qd_q (cH j ||| ((1 : Int32) <<< (nI s &&& 31))) (cM m) = 0
    · refine aq_LSI (oW := oW) 3 (aq_Im J (show B ≤ B + 7 by omega)) (fun p hp => aq_xqr hs hj (by omega) (by omega) hc hR hS hC hn ?_) (fun p hp => aq_yqr hs hj (by omega) (by omega) hk hc hR hS hC hn (aq_y131_0 hj (by omega) hQ hp))
      rw [ei]
      exact aq_x112_0 hj (by omega) hsub hQ (hp _ _)
    · by_cases ha : oK q = 1 ∧ qd_ag (cH j ||| ((1 : Int32) <<< (nI s &&& 31))) (fun i => upd cR (j * 5 + s) (ms (k * 8 + 4 + r)) (j * 5 + i)) (qd_mx (oT q) (ms (k * 8 + 4 + r)))
      · have F := aq_Ifin J hj hq hq2 hc hOq
        refine aq_LSI (oW := oW) 5 (aq_Im F (show B ≤ B + 7 by omega)) (fun p hp => aq_xqr hs hj (by omega) (by omega) hc hR hS hC hn ?_) (fun p hp => aq_yqr hs hj (by omega) (by omega) hk hc hR hS hC hn ?_)
        · rw [ei]
          refine aq_x112_f hj (by omega) hq (by omega) hc hOq hS hsub hQ ha.1 ?_ (hp _ _)
          rw [pk_us, pk_us]
          exact (aq_LWa hL).mpr ha.2
        · refine aq_y131_f hj (by omega) hq (by omega) hOq hS hQ ha.1 ?_ hp
          rw [pk_us]
          exact ha.2
      · have A := aq_Iadv (kd := oK q) J hB hj hq hq2 hc hOq
        have M : qd_MI oN wN rN (B + 7) cM (qd_rq sN (upd oS q 2 q) (cM m) q m r (qd_t2 (oK q) (upd oT q (qd_mx (oT q) (ms (k * 8 + 4 + r)))) q j q) ms) := by
          obtain ⟨_, h2, h3, _⟩ := A
          obtain ⟨c, r', e1, e2, e3, e4, e5, e6⟩ := h3 q hq hq2
          exact aq_MIrq h2 hq hq2 hm hr e5 (fun i hi => hi)
        refine aq_LSI (oW := oW) 4 (aq_Ims A M) (fun p hp => aq_xqr hs hj (by omega) (by omega) hc hR hS hC hn ?_) (fun p hp => aq_yqr hs hj (by omega) (by omega) hk hc hR hS hC hn ?_)
        · rw [ei]
          refine aq_x112_a hj (by omega) hq (by omega) hOq hS hsub hQ (fun hK => ?_) (aq_x167 h48 hj (by omega) hR (by omega) (by omega) hC hOq fun uT' => hp _ uT')
          rw [pk_us, pk_us]
          have g : ¬ ((cH j ||| ((1 : Int32) <<< (nI s &&& 31))) = 0 ∨ qd_lw (cH j) (lT j) (ms (k * 8 + 4 + r)) = qd_mx (oT q) (ms (k * 8 + 4 + r))) := fun z => ha ⟨hK, (aq_LWa hL).mp z⟩
          exact ⟨fun z => g (Or.inl z), fun z => g (Or.inr z)⟩
        · refine aq_y131_a hj (by omega) hq (by omega) hOq hS hQ (fun hK => ?_) (aq_y213 h48 hj (by omega) hR (by omega) (by omega) hC hOq hp)
          rw [pk_us]
          exact fun z => ha ⟨hK, z⟩
/-- an acknowledgement -/
theorem aq_xpa {post2 : Int32 → SX → Prop} (hs : s < 5) (hj : j < 4) (hq : q ≤ 64) (hm : m < 9) (hc : oC q = nI j) (hS : oS q = 2) (hC : cC j = nI m) (hn : ¬ bt (cH j) s = true) (hb : (cH j ||| ((1 : Int32) <<< (nI s &&& 31))) &&& cM m = cH j ||| ((1 : Int32) <<< (nI s &&& 31))) (h0 : qd_q (cH j ||| ((1 : Int32) <<< (nI s &&& 31))) (cM m) = 0 → post2 3 (nI cN, nI rN, nI sN, nI oN, ph, nI wN, gh, oC, oK, oR, oS, oT, oW, cC, cO, upd cH j (cH j ||| ((1 : Int32) <<< (nI s &&& 31))), lT, sI, sK, sT, cM, gT, qd_K ms, qd_S ms, qd_O ms, qd_C ms, qd_T ms, iT, uT)) (h1 : ¬ qd_q (cH j ||| ((1 : Int32) <<< (nI s &&& 31))) (cM m) = 0 → post2 5 (nI cN, nI rN, nI sN, nI oN, ph, nI wN, gh, oC, oK, oR, upd oS q 3, oT, oW, cC, upd cO j 0, upd (upd cH j (cH j ||| ((1 : Int32) <<< (nI s &&& 31)))) j 0, lT, sI, sK, sT, cM, gT, qd_K ms, qd_S ms, qd_O ms, qd_C ms, qd_T ms, iT, uT)) : wpX_propagateAckAtClient post2 (nI cN, nI rN, nI sN, nI oN, ph, nI wN, gh, oC, oK, oR, oS, oT, oW, cC, cO, cH, lT, sI, sK, sT, cM, gT, qd_K ms, qd_S ms, qd_O ms, qd_C ms, qd_T ms, iT, uT) (nI s) (nI q) (nI m) := by
  have hv : vp_in (nI j) 4 := vp_in_nI hj (by omega)
  have hw : vp_in (nI q) 65 := vp_in_nI (by omega) (by omega)
  have ej : (nI j).toNatClampNeg = j := nI_clamp (by omega)
  have eq : (nI q).toNatClampNeg = q := nI_clamp (by omega)
  refine And.intro hw (nm_r (e' := nI j) (by rw [eq, hc]) (nm_e ⟨hw, ?_⟩))
  rw [eq, ej]
  refine br_t hS ⟨hv, br_t hC ⟨hv, br_t (aq_xf hs (by simpa using hn)) ⟨hv, hv, nm_e ⟨hv, ?_⟩⟩⟩⟩
  rw [pk_us]
  refine aq_xq hm hb ?_
  exact br_c h0 fun z => aq_xfin hq hj hc (h1 z)
theorem aq_xpi {post2 : Int32 → SX → Prop} (hs : s < 5) (hj : j < 4) (hq : q ≤ 64) (hc : oC q = nI j) (h : ¬ oS q = 2 ∨ ¬ cC j = nI m ∨ bt (cH j) s = true) (hp : post2 0 (nI cN, nI rN, nI sN, nI oN, ph, nI wN, gh, oC, oK, oR, oS, oT, oW, cC, cO, cH, lT, sI, sK, sT, cM, gT, qd_K ms, qd_S ms, qd_O ms, qd_C ms, qd_T ms, iT, uT)) : wpX_propagateAckAtClient post2 (nI cN, nI rN, nI sN, nI oN, ph, nI wN, gh, oC, oK, oR, oS, oT, oW, cC, cO, cH, lT, sI, sK, sT, cM, gT, qd_K ms, qd_S ms, qd_O ms, qd_C ms, qd_T ms, iT, uT) (nI s) (nI q) (nI m) := by
  have hv : vp_in (nI j) 4 := vp_in_nI hj (by omega)
  have hw : vp_in (nI q) 65 := vp_in_nI (by omega) (by omega)
  have ej : (nI j).toNatClampNeg = j := nI_clamp (by omega)
  have eq : (nI q).toNatClampNeg = q := nI_clamp (by omega)
  refine And.intro hw (nm_r (e' := nI j) (by rw [eq, hc]) (nm_e ⟨hw, ?_⟩))
  rw [eq, ej]
  by_cases h1 : oS q = 2
  · refine br_t h1 ⟨hv, ?_⟩
    by_cases h2 : cC j = nI m
    · exact br_t h2 ⟨hv, br_f (aq_xt hs ((h.resolve_left (fun z => z h1)).resolve_left (fun z => z h2))) hp⟩
    · exact br_f h2 hp
  · exact br_f h1 hp
theorem aq_ypa {post3 : Int32 → SY → Prop} (hs : s < 5) (hj : j < 4) (hq : q ≤ 64) (hc : oC q = nI j) (hS : oS q = 2) (hC : cC j = nI m) (hn : ¬ bt (cH j) s = true) (K : wY_replyAtClient_131 post3 4 (nI s) (nI q) (nI m) (nI j) (nI cN) (nI rN) (nI sN) (nI oN) ph (nI wN) rh cM oC oK oR oW oS oT cC cO cH cR sI sK sT gT ms) : wpY_replyAtClient post3 (nI cN, nI rN, nI sN, nI oN, ph, nI wN, rh, cM, oC, oK, oR, oW, oS, oT, cC, cO, cH, cR, sI, sK, sT, gT, ms) (nI k) 4 (nI s) (nI q) (nI m) := by
  have hv : vp_in (nI j) 4 := vp_in_nI hj (by omega)
  have hw : vp_in (nI q) 65 := vp_in_nI (by omega) (by omega)
  have ej : (nI j).toNatClampNeg = j := nI_clamp (by omega)
  have eq : (nI q).toNatClampNeg = q := nI_clamp (by omega)
  refine And.intro hw (nm_r (e' := nI j) (by rw [eq, hc]) (br_f (by decide) ?_))
  unfold wY_replyAtClient_19
  rw [eq, ej]
  refine ⟨hw, br_t hS ⟨hv, br_t hC ⟨hv, aq_yh0 hs hn ?_⟩⟩⟩
  exact br_t rfl (br_f (by decide) (br_f (by decide) K))
theorem aq_Ipa (h : qd_I B cN rN sN oN wN ph gh rh oC oK oR oS oT cC cO cH lT sI sK sT cM gT ms cR) (hs : s < 5) (hj : j < 4) (hq : 1 ≤ q) (hq2 : q ≤ oN) (hS : oS q = 2) (hO : cO j = nI q) (hC : cC j = nI m) (hm : m ≤ wN) (hb : bt (cM m) s = true) : qd_I B cN rN sN oN wN ph gh rh oC oK oR oS oT cC cO (upd cH j (cH j ||| ((1 : Int32) <<< (nI s &&& 31)))) lT sI sK sT cM gT ms cR := by
  obtain ⟨h1, h2, h3, h4, h5, h6, h7, h8, h9, h10, h11⟩ := h
  have h64 : oN ≤ 64 := h1.2.2.2.2.2.2.1
  have h8' : wN ≤ 8 := h1.2.2.2.2.2.2.2.2
  refine ⟨h1, h2, h3, h4, fun c g1 => ?_, fun c g1 p g2 g3 g4 g5 => ?_, h7, h8, h9, h10, h11⟩
  · obtain ⟨p, m', e1, e2, e3, e4, e5, e6, e7⟩ := h5 c g1
    by_cases w : c = j
    · subst w
      have em : m' = m := aq_im (e3.symm.trans hC) (by omega) (by omega)
      subst em
      refine ⟨p, m', e1, e2, e3, e4, e5, fun z => ?_, by rw [pk_us]; exact aq_subor hs e7 hb⟩
      exact absurd (aq_im (e1.symm.trans hO) (by omega) (by omega)) (by omega)
    · exact ⟨p, m', e1, e2, e3, e4, e5, fun z => by rw [pk_un w]; exact e6 z, by rw [pk_un w]; exact e7⟩
  · by_cases w : c = j
    · subst w
      have ep : p = q := aq_im (g4.symm.trans hO) (by omega) (by omega)
      rw [ep, hS] at g5
      exact absurd g5 (by decide)
    · rw [pk_un w]; exact h6 c g1 p g2 g3 g4 g5
theorem aq_Lpa (I : qd_I B cN rN sN oN wN ph gh rh oC oK oR oS oT cC cO cH lT sI sK sT cM gT ms cR) (hs : s < 5) (hq : 1 ≤ q) (hq2 : q ≤ oN) (hm : m ≤ wN) (hb : bt (cM m) s = true) : qd_LS B (fun post => wpX_propagateAckAtClient post (nI cN, nI rN, nI sN, nI oN, ph, nI wN, gh, oC, oK, oR, oS, oT, oW, cC, cO, cH, lT, sI, sK, sT, cM, gT, qd_K ms, qd_S ms, qd_O ms, qd_C ms, qd_T ms, iT, uT) (nI s) (nI q) (nI m)) (fun post => wpY_replyAtClient post (nI cN, nI rN, nI sN, nI oN, ph, nI wN, rh, cM, oC, oK, oR, oW, oS, oT, cC, cO, cH, cR, sI, sK, sT, gT, ms) (nI k) 4 (nI s) (nI q) (nI m)) := by
  obtain ⟨j, r, hj, hr, h4, h64, h8, h48, hc, hR, hT, hO⟩ := aq_run I hq hq2
  by_cases h : ¬ oS q = 2 ∨ ¬ cC j = nI m ∨ bt (cH j) s = true
  · exact aq_LSI (oW := oW) 0 I (fun p hp => aq_xpi hs hj (by omega) hc h (hp _ _)) (fun p hp => aq_yqi hs hj (by omega) hc (Or.inr ⟨by decide, rfl⟩) h hp)
  · have hS : oS q = 2 := Decidable.byContradiction fun z => h (Or.inl z)
    have hC : cC j = nI m := Decidable.byContradiction fun z => h (Or.inr (Or.inl z))
    have hn : ¬ bt (cH j) s = true := fun z => h (Or.inr (Or.inr z))
    have hOq := hO (Or.inr hS)
    have J := aq_Ipa I hs hj hq hq2 hS hOq hC hm hb
    have hsub : (cH j ||| ((1 : Int32) <<< (nI s &&& 31))) &&& cM m = cH j ||| ((1 : Int32) <<< (nI s &&& 31)) := by
      obtain ⟨_, _, _, _, h5, _⟩ := I
      obtain ⟨p, m', e1, e2, e3, e4, e5, e6, e7⟩ := h5 j hj
      have em : m' = m := aq_im (e3.symm.trans hC) (by omega) (by omega)
      subst em
      exact aq_subor hs e7 hb
    by_cases hQ : qd_q (cH j ||| ((1 : Int32) <<< (nI s &&& 31))) (cM m) = 0
    · exact aq_LSI (oW := oW) 3 J (fun p hp => aq_xpa hs hj (by omega) (by omega) hc hS hC hn hsub (fun _ => hp _ _) (fun z => absurd hQ z)) (fun p hp => aq_ypa hs hj (by omega) hc hS hC hn (aq_y131_0 hj (by omega) hQ hp))
    · exact aq_LSI (oW := oW) 5 (aq_Ifin J hj hq hq2 hc hOq) (fun p hp => aq_xpa hs hj (by omega) (by omega) hc hS hC hn hsub (fun z => absurd z hQ) (fun _ => hp _ _)) (fun p hp => aq_ypa hs hj (by omega) hc hS hC hn (aq_y131_4 hj (by omega) (by omega) hQ hp))
/-- a redirection -/
theorem aq_Lrd (I : qd_I B cN rN sN oN wN ph gh rh oC oK oR oS oT cC cO cH lT sI sK sT cM gT ms cR) (hq : 1 ≤ q) (hq2 : q ≤ oN) (hm : m ≤ wN) : qd_LS B (fun post => wpX_redirectAtClient post (nI cN, nI rN, nI sN, nI oN, ph, nI wN, gh, oC, oK, oR, oS, oT, oW, cC, cO, cH, lT, sI, sK, sT, cM, gT, qd_K ms, qd_S ms, qd_O ms, qd_C ms, qd_T ms, iT, uT) (nI q) (nI m)) (fun post => wpY_redirectAtClient post (nI cN, nI rN, nI sN, nI oN, ph, nI wN, rh, cM, oC, oK, oR, oW, oS, oT, cC, cO, cH, cR, sI, sK, sT, gT, ms) (oC q) (nI m)) := by
  obtain ⟨j, _, hj, _, h4, h64, h8, h48, hc, _, _, _⟩ := aq_run I hq hq2
  have hv : vp_in (nI j) 4 := vp_in_nI hj (by omega)
  have hw : vp_in (nI q) 65 := vp_in_nI (by omega) (by omega)
  have ej : (nI j).toNatClampNeg = j := nI_clamp (by omega)
  have eq : (nI q).toNatClampNeg = q := nI_clamp (by omega)
  rw [hc]
  obtain ⟨p, m', e1, e2, e3, e4, e5, e6, e7⟩ := I.2.2.2.2.1 j hj
  by_cases hmm : m' < m
  · have hlt : nI m' < nI m := nI_lt hmm (by omega)
    by_cases hp0 : p = 0
    · have hO : cO j = 0 := by rw [e1, hp0]; rfl
      refine aq_LSI (oW := oW) 6 (aq_Imv0 I hj hm hO) (fun P hp => ?_) (fun P hp => ?_)
      · refine And.intro hw (nm_r (e' := nI j) (by rw [eq, hc]) ⟨hv, ?_⟩)
        rw [ej, e3]
        exact br_t hlt ⟨hv, nm_e ⟨hv, br_t hO (hp _ _)⟩⟩
      · refine And.intro hv ?_
        rw [ej, e3]
        exact br_t hlt ⟨hv, nm_e ⟨hv, br_t hO hp⟩⟩
    · have hO : ¬ cO j = 0 := by rw [e1]; exact nI_ne0 (by omega) (by omega)
      obtain ⟨_, r, _, hr, _, _, _, _, _, hR, hT, _⟩ := aq_run I (show 1 ≤ p by omega) e2
      have J := aq_Imv I hj hm
      have M := aq_MIrq (n := sN) (x := oS p) (set := cM m) (q := p) (m := m) (y := oT p) J.2.1 (by omega) e2 hm hr hT (fun i hi => hi)
      refine aq_LSI (oW := oW) 6 (aq_Ims J M) (fun P hp => ?_) (fun P hp => ?_)
      · refine And.intro hw (nm_r (e' := nI j) (by rw [eq, hc]) ⟨hv, ?_⟩)
        rw [ej, e3]
        exact br_t hlt ⟨hv, nm_e ⟨hv, br_f hO (aq_xrnd h48 hj e1 (by omega) hR (by omega) pk_us (by omega) fun uT' => hp _ uT')⟩⟩
      · refine And.intro hv ?_
        rw [ej, e3]
        exact br_t hlt ⟨hv, nm_e ⟨hv, br_f hO (aq_yrnd h48 hj e1 (by omega) hR (by omega) pk_us (by omega) hp)⟩⟩
  · have hlt : ¬ nI m' < nI m := nI_nlt (by omega) (by omega)
    refine aq_LSI (oW := oW) 0 I (fun P hp => ?_) (fun P hp => ?_)
    · refine And.intro hw (nm_r (e' := nI j) (by rw [eq, hc]) ⟨hv, ?_⟩)
      rw [ej, e3]
      exact br_f hlt (hp _ _)
    · refine And.intro hv ?_
      rw [ej, e3]
      exact br_f hlt hp
end
end
section
/-! the servers' steps in lockstep -/
section
variable {cN rN sN oN wN B : Nat} {ph gh rh : Int32} {oC oK oR oS oT oW cC cO cH lT sI sK sT cM gT ms iT uT cR : Nat → Int32}
variable {s j q m r k : Nat} {x y kd : Int32}
theorem aq_IsT (h : qd_I B cN rN sN oN wN ph gh rh oC oK oR oS oT cC cO cH lT sI sK sT cM gT ms cR) (hs : s < 5) (hr : r < rN) (hy : qd_Tg B y) : qd_I B cN rN sN oN wN ph gh rh oC oK oR oS oT cC cO cH lT sI sK (upd sT (s * 4 + r) y) cM gT ms cR := by
  obtain ⟨h1, h2, h3, h4, h5, h6, h7, h8, h9, h10, h11⟩ := h
  have h4' : rN ≤ 4 := h1.2.2.2.1
  refine ⟨h1, h2, h3, h4, h5, h6, h7, fun a ha b hb => ?_, h9, h10, h11⟩
  show qd_Tg B (upd sT (s * 4 + r) y (a * 4 + b)) ∧ (rN ≤ b → upd sT (s * 4 + r) y (a * 4 + b) = 0)
  by_cases z : a * 4 + b = s * 4 + r
  · rw [z, pk_us]
    exact ⟨hy, fun w => absurd w (by omega)⟩
  · rw [pk_un z]; exact h8 a ha b hb
theorem aq_Lrq (I : qd_I B cN rN sN oN wN ph gh rh oC oK oR oS oT cC cO cH lT sI sK sT cM gT ms cR) (hk : k < 48) (hi : ∀ i, i < 4 → iT i = ms (k * 8 + 4 + i)) (ht : qd_TV rN B (fun r => ms (k * 8 + 4 + r))) (hkd : kd = 1 ∨ kd = 3) (hs : s < 5) (hq : 1 ≤ q) (hq2 : q ≤ oN) (hm : m ≤ wN) (hb : bt (cM m) s = true) : qd_LS B (fun post => wpX_requestAtServer post (nI cN, nI rN, nI sN, nI oN, ph, nI wN, gh, oC, oK, oR, oS, oT, oW, cC, cO, cH, lT, sI, sK, sT, cM, gT, qd_K ms, qd_S ms, qd_O ms, qd_C ms, qd_T ms, iT, uT) kd (nI s) (nI q) (nI m)) (fun post => wpY_requestAtServer post (nI cN, nI rN, nI sN, nI oN, ph, nI wN, rh, cM, oC, oK, oR, oW, oS, oT, cC, cO, cH, cR, sI, sK, sT, gT, ms) (nI k) kd (nI s) (nI q) (nI m)) := by
  obtain ⟨j, r, hj, hr, h4, h64, h8, h48, hc, hR, hT, hO⟩ := aq_run I hq hq2
  obtain ⟨a, b, ea, ha, eb, hbw⟩ := I.2.2.2.2.2.2.1 s hs
  have hv : vp_in (nI s) 5 := vp_in_nI hs (by omega)
  have hw : vp_in (nI q) 65 := vp_in_nI (by omega) (by omega)
  have hrv : vp_in (nI r) 4 := vp_in_nI (by omega) (by omega)
  have es : (nI s).toNatClampNeg = s := nI_clamp (by omega)
  have eq : (nI q).toNatClampNeg = q := nI_clamp (by omega)
  have er : (nI r).toNatClampNeg = r := nI_clamp (by omega)
  have h20 : vp_in (nI (s * 4 + r)) 20 := vp_in_nI (by omega) (by omega)
  have e20 : (nI (s * 4 + r)).toNatClampNeg = s * 4 + r := nI_clamp (by omega)
  by_cases hkn : b ≤ m
  · have hle : nI b ≤ nI m := nI_le hkn (by omega)
    by_cases hin : m = a
    · have hme : nI m = nI a := by rw [hin]
      rcases hkd with rfl | rfl
      · have ht2 : ∀ i, i < 4 → upd (qd_zi uT 4) r (sT (s * 4 + r)) i = (fun i => if i = r then sT (s * 4 + i) else 0) i := by
          intro i hi
          show _ = if i = r then sT (s * 4 + i) else 0
          by_cases z : i = r
          · rw [if_pos z, z, pk_us]
          · rw [if_neg z, pk_un z, aq_zi4 hi]
        have M := aq_MIsm (n := sN) (kd := 2) (s := nI s) (o := nI q) (m := nI m) (t := fun i => if i = r then sT (s * 4 + i) else 0) I.2.1 ⟨2, s, q, m, rfl, rfl, rfl, rfl, by omega, by omega, hs, hq2, hm, fun _ => hq, fun _ => hb, fun z => by omega, fun i hi => by
          show qd_Tg B (if i = r then sT (s * 4 + i) else 0) ∧ (rN ≤ i → (if i = r then sT (s * 4 + i) else 0) = 0)
          by_cases z : i = r
          · rw [if_pos z]; exact I.2.2.2.2.2.2.2.1 s hs i hi
          · rw [if_neg z]; exact ⟨aq_Tg0 B, fun _ => rfl⟩⟩
        refine aq_LSI (oW := oW) 1 (aq_Ims I M) (fun P hp => ?_) (fun P hp => ?_)
        · unfold wpX_requestAtServer
          refine aq_xclr ?_
          refine ⟨hv, ?_⟩
          rw [es, eb, ea]
          refine br_t hle ⟨hv, br_t hme ⟨hw, nm_r (e' := nI r) (by rw [eq, hR]) (nm_r (e' := nI (s * 4 + r)) (aq_i4 s r) (br_t rfl ⟨h20, hrv, ?_⟩))⟩⟩
          rw [er, e20]
          exact nm_e (aq_xsend h48 ht2 (hp _ _))
        · refine And.intro hv ?_
          rw [es, eb, ea]
          refine br_t hle ⟨hv, br_t hme ⟨hw, nm_r (e' := nI r) (by rw [eq, hR]) (br_f (by decide) ?_)⟩⟩
          exact br_t rfl (aq_ysend h48 (fun i ms' p hi hpp => aq_car2 hs hi (by omega) hR (by omega) hpp) hp)
      · have hy1 : qd_Tg B (sT (s * 4 + r)) := (I.2.2.2.2.2.2.2.1 s hs r (by omega)).1
        have hy2 : qd_Tg B (ms (k * 8 + 4 + r)) := (ht r (by omega)).1
        have J := aq_IsT I hs hr (aq_Tgx hy1 hy2)
        have M := aq_MIsm (n := sN) (kd := 4) (s := nI s) (o := nI q) (m := nI m) (t := fun _ => 0) I.2.1 ⟨4, s, q, m, rfl, rfl, rfl, rfl, by omega, by omega, hs, hq2, hm, fun _ => hq, fun _ => hb, fun z => by omega, aq_TV0⟩
        refine aq_LSI (oW := oW) 1 (aq_Ims J M) (fun P hp => ?_) (fun P hp => ?_)
        · have K : ∀ sT' : Nat → Int32, sT' = upd sT (s * 4 + r) (qd_mx (sT (s * 4 + r)) (ms (k * 8 + 4 + r))) → wX_requestAtServer_123 P (nI s) (nI q) (nI m) (nI cN) (nI rN) (nI sN) (nI oN) ph (nI wN) gh oC oK oR oS oT oW cC cO cH lT sI sK sT' cM gT (qd_K ms) (qd_S ms) (qd_O ms) (qd_C ms) (qd_T ms) iT (qd_zi uT 4) := by
            intro sT' e
            subst e
            exact aq_xsend h48 (t := fun _ => 0) (fun i hi => aq_zi4 hi) (hp _ _)
          unfold wpX_requestAtServer
          refine aq_xclr ?_
          refine ⟨hv, ?_⟩
          rw [es, eb, ea]
          refine br_t hle ⟨hv, br_t hme ⟨hw, nm_r (e' := nI r) (by rw [eq, hR]) (nm_r (e' := nI (s * 4 + r)) (aq_i4 s r) (br_f (by decide) ⟨hrv, h20, ?_⟩))⟩⟩
          rw [er, e20, hi r (by omega)]
          by_cases z : ms (k * 8 + 4 + r) ≤ sT (s * 4 + r)
          · exact br_t z (K sT (by rw [aq_mxr z, aq_uid]))
          · exact br_f z ⟨hrv, h20, nm_e (K _ (by rw [aq_mxn z]))⟩
        · refine And.intro hv ?_
          rw [es, eb, ea]
          refine br_t hle ⟨hv, br_t hme ⟨hw, nm_r (e' := nI r) (by rw [eq, hR]) (br_t rfl ⟨aq_v4 (by omega) (by omega), aq_w8 hk (by omega), ?_⟩)⟩⟩
          rw [aq_c4 (show s * 4 + r < 2 ^ 31 by omega), aq_d8 hk (show r < 4 by omega)]
          refine aq_ygr ?_
          refine ⟨aq_v4 (by omega) (by omega), nm_e ?_⟩
          exact br_f (by decide) (aq_ysend h48 (t := fun _ => 0) (fun i ms' p hi hpp => aq_car0 (by decide) (by decide) (by decide) (by decide) hpp) hp)
    · have hme : ¬ nI m = nI a := aq_ni hin (by omega) (by omega)
      refine aq_LSI (oW := oW) 0 I (fun P hp => ?_) (fun P hp => ?_)
      · unfold wpX_requestAtServer
        refine aq_xclr ?_
        refine ⟨hv, ?_⟩
        rw [es, eb, ea]
        exact br_t hle ⟨hv, br_f hme (hp _ _)⟩
      · refine And.intro hv ?_
        rw [es, eb, ea]
        exact br_t hle ⟨hv, br_f hme hp⟩
  · have hle : ¬ nI b ≤ nI m := nI_ge (by omega) (by omega)
    have M := aq_MIsm (n := sN) (kd := 5) (s := nI s) (o := nI q) (m := nI b) (t := fun _ => 0) I.2.1 ⟨5, s, q, b, rfl, rfl, rfl, rfl, by omega, by omega, hs, hq2, hbw, fun _ => hq, fun z => absurd rfl z, fun z => by omega, aq_TV0⟩
    refine aq_LSI (oW := oW) 2 (aq_Ims I M) (fun P hp => ?_) (fun P hp => ?_)
    · unfold wpX_requestAtServer
      refine aq_xclr ?_
      refine ⟨hv, ?_⟩
      rw [es, eb, ea]
      exact br_f hle ⟨hv, aq_xsend h48 (t := fun _ => 0) (fun i hi => aq_zi4 hi) (hp _ _)⟩
    · refine And.intro hv ?_
      rw [es, eb, ea]
      exact br_f hle ⟨hv, aq_ysend h48 (t := fun _ => 0) (fun i ms' p hi hpp => aq_car0 (by decide) (by decide) (by decide) (by decide) hpp) hp⟩
/-- a seal -/
theorem aq_xsl {post2 : Int32 → SX → Prop} (hs : sN ≤ 48) (h4 : rN ≤ 4) (hj : s < 5) (hz : ∀ i, rN ≤ i → i < 4 → sT (s * 4 + i) = uT i) (hp : ∀ uT', post2 1 (nI cN, nI rN, nI sN, nI oN, ph, nI wN, gh, oC, oK, oR, oS, oT, oW, cC, cO, cH, lT, sI, sK, sT, cM, gT, qd_K (qd_sm ms sN (qd_mf 7 (nI s) 0 (nI m) (fun i => sT (s * 4 + i)))), qd_S (qd_sm ms sN (qd_mf 7 (nI s) 0 (nI m) (fun i => sT (s * 4 + i)))), qd_O (qd_sm ms sN (qd_mf 7 (nI s) 0 (nI m) (fun i => sT (s * 4 + i)))), qd_C (qd_sm ms sN (qd_mf 7 (nI s) 0 (nI m) (fun i => sT (s * 4 + i)))), qd_T (qd_sm ms sN (qd_mf 7 (nI s) 0 (nI m) (fun i => sT (s * 4 + i)))), iT, uT')) : ∀ d i, i + d = rN → wX_sealAtServer_27 post2 (nI s) (nI m) (nI cN) (nI rN) (nI sN) (nI oN) ph (nI wN) gh (d + 1) (nI i) oC oK oR oS oT oW cC cO cH lT sI sK sT cM gT (qd_K ms) (qd_S ms) (qd_O ms) (qd_C ms) (qd_T ms) iT (qd_ci (fun i => sT (s * 4 + i)) uT i) := by
  intro d
  induction d with
  | zero =>
    intro i hi
    have e : i = rN := by omega
    refine br_t (nI_le (by omega) (by omega)) (aq_xsend hs (t := fun i => sT (s * 4 + i)) (fun j hj => ?_) (hp _))
    unfold qd_ci
    split
    · rfl
    · exact (hz j (by omega) hj).symm
  | succ d ih =>
    intro i hi
    exact br_f (nI_ge (by omega) (by omega)) ⟨aq_v4 (by omega) (by omega), vp_in_nI (by omega) (by omega), nm_r (e' := qd_ci (fun i => sT (s * 4 + i)) uT (i + 1)) (by rw [aq_c4 (by omega), nI_clamp (by omega)]; exact aq_cis) (nm_r (nI_1 i) (ih (i + 1) (by omega)))⟩
theorem aq_IsK (h : qd_I B cN rN sN oN wN ph gh rh oC oK oR oS oT cC cO cH lT sI sK sT cM gT ms cR) (hs : s < 5) (hm : m ≤ wN) : qd_I B cN rN sN oN wN ph gh rh oC oK oR oS oT cC cO cH lT sI (upd sK s (nI m)) sT cM gT ms cR := by
  obtain ⟨h1, h2, h3, h4, h5, h6, h7, h8, h9, h10, h11⟩ := h
  refine ⟨h1, h2, h3, h4, h5, h6, fun a ha => ?_, h8, h9, h10, h11⟩
  obtain ⟨b, c, e1, e2, e3, e4⟩ := h7 a ha
  by_cases z : a = s
  · subst z
    exact ⟨b, m, e1, e2, pk_us, hm⟩
  · exact ⟨b, c, e1, e2, by rw [pk_un z]; exact e3, e4⟩
theorem aq_IsI (h : qd_I B cN rN sN oN wN ph gh rh oC oK oR oS oT cC cO cH lT sI sK sT cM gT ms cR) (hs : s < 5) (hm : m ≤ wN) : qd_I B cN rN sN oN wN ph gh rh oC oK oR oS oT cC cO cH lT (upd sI s (nI m)) (upd sK s (nI m)) sT cM gT ms cR := by
  obtain ⟨h1, h2, h3, h4, h5, h6, h7, h8, h9, h10, h11⟩ := h
  refine ⟨h1, h2, h3, h4, h5, h6, fun a ha => ?_, h8, h9, h10, h11⟩
  obtain ⟨b, c, e1, e2, e3, e4⟩ := h7 a ha
  by_cases z : a = s
  · subst z
    exact ⟨m, m, pk_us, hm, pk_us, hm⟩
  · exact ⟨b, c, by rw [pk_un z]; exact e1, e2, by rw [pk_un z]; exact e3, e4⟩
theorem aq_Lsl (I : qd_I B cN rN sN oN wN ph gh rh oC oK oR oS oT cC cO cH lT sI sK sT cM gT ms cR) (hs : s < 5) (hm : m < wN) (hb : bt (cM m) s = true) : qd_LS B (fun post => wpX_sealAtServer post (nI cN, nI rN, nI sN, nI oN, ph, nI wN, gh, oC, oK, oR, oS, oT, oW, cC, cO, cH, lT, sI, sK, sT, cM, gT, qd_K ms, qd_S ms, qd_O ms, qd_C ms, qd_T ms, iT, uT) (nI s) (nI m)) (fun post => wpY_sealAtServer post (nI cN, nI rN, nI sN, nI oN, ph, nI wN, rh, cM, oC, oK, oR, oW, oS, oT, cC, cO, cH, cR, sI, sK, sT, gT, ms) (nI s) (nI m)) := by
  obtain ⟨n1, n2, n3, n4, n5, n6, n7, n8, n9⟩ := I.1
  obtain ⟨a, b, ea, ha, eb, hbw⟩ := I.2.2.2.2.2.2.1 s hs
  have hv : vp_in (nI s) 5 := vp_in_nI hs (by omega)
  have es : (nI s).toNatClampNeg = s := nI_clamp (by omega)
  by_cases z : a = m
  · have ze : nI a = nI m := by rw [z]
    have J := aq_IsK I hs (show m + 1 ≤ wN by omega)
    have M := aq_MIsm (n := sN) (kd := 7) (s := nI s) (o := 0) (m := nI m) (t := fun i => sT (s * 4 + i)) I.2.1 ⟨7, s, 0, m, rfl, rfl, rfl, rfl, by omega, by omega, hs, by omega, by omega, fun z => by omega, fun _ => hb, fun _ => hm, I.2.2.2.2.2.2.2.1 s hs⟩
    refine aq_LSI (oW := oW) 1 (aq_Ims J M) (fun P hp => ?_) (fun P hp => ?_)
    · refine And.intro hv ?_
      rw [es, ea]
      refine br_t ze ⟨hv, nm_r (e' := upd sK s (nI (m + 1))) (by rw [nI_1]) (aq_xclr ?_)⟩
      have L := aq_xsl (sK := upd sK s (nI (m + 1))) (uT := qd_zi uT 4) n6 n4 hs (fun i h1 h2 => by rw [aq_zi4 h2]; exact (I.2.2.2.2.2.2.2.1 s hs i h2).2 h1) (fun uT' => hp iT uT') rN 0 (by omega)
      rw [aq_ci0] at L
      exact ⟨rN + 1, L⟩
    · refine And.intro hv ?_
      rw [es, ea]
      exact br_t ze ⟨hv, nm_r (e' := upd sK s (nI (m + 1))) (by rw [nI_1]) (aq_ysend n6 (t := fun i => sT (s * 4 + i)) (fun i ms' p hi hpp => aq_car7 hs hi hpp) hp)⟩
  · have ze : ¬ nI a = nI m := aq_ni z (by omega) (by omega)
    refine aq_LSI (oW := oW) 0 I (fun P hp => ?_) (fun P hp => ?_)
    · refine And.intro hv ?_
      rw [es, ea]
      exact br_f ze (hp _ _)
    · refine And.intro hv ?_
      rw [es, ea]
      exact br_f ze hp
end
end
section
/-! installing, and the two acknowledgements of the reconfiguration -/
/-- the stored tags of server s raised to g below place i -/
def qd_si (sT : Nat → Int32) (s : Nat) (g : Nat → Int32) (i : Nat) : Nat → Int32 := fun j => if j / 4 = s ∧ j % 4 < i then qd_mx (sT j) (g (j % 4)) else sT j
theorem aq_si0 {sT g : Nat → Int32} {s : Nat} : qd_si sT s g 0 = sT := funext fun j => if_neg (by omega)
theorem aq_sii {sT g : Nat → Int32} {s i : Nat} (hi : i < 4) : qd_si sT s g i (s * 4 + i) = sT (s * 4 + i) := if_neg (by omega)
theorem aq_sis {sT g : Nat → Int32} {s i : Nat} (hi : i < 4) : upd (qd_si sT s g i) (s * 4 + i) (qd_mx (sT (s * 4 + i)) (g i)) = qd_si sT s g (i + 1) := funext fun j => by
  unfold upd qd_si
  by_cases h : j = s * 4 + i
  · rw [if_pos h, if_pos (by omega), show j % 4 = i by omega, h]
  · rw [if_neg h]
    by_cases h2 : j / 4 = s ∧ j % 4 < i
    · rw [if_pos h2, if_pos (by omega)]
    · rw [if_neg h2, if_neg (by omega)]
theorem aq_mx00 : qd_mx 0 0 = 0 := by decide
theorem aq_sir {sT g g2 : Nat → Int32} {s n : Nat} (hn : n ≤ 4) (hg : ∀ i, i < 4 → g2 i = g i) (h1 : ∀ i, n ≤ i → i < 4 → sT (s * 4 + i) = 0) (h2 : ∀ i, n ≤ i → i < 4 → g i = 0) : qd_si sT s g2 n = qd_si sT s g 4 := funext fun j => by
  unfold qd_si
  by_cases h : j / 4 = s
  · rw [if_pos (show j / 4 = s ∧ j % 4 < 4 by omega)]
    by_cases h3 : j % 4 < n
    · rw [if_pos ⟨h, h3⟩, hg _ (by omega)]
    · rw [if_neg (fun z => h3 z.2), h2 (j % 4) (by omega) (by omega)]
      have e : sT j = 0 := by
        have := h1 (j % 4) (by omega) (by omega)
        rw [show s * 4 + j % 4 = j by omega] at this
        exact this
      rw [e, aq_mx00]
  · rw [if_neg (fun z => h z.1), if_neg (fun z => h z.1)]
/-- gathered tags raised -/
def qd_gi (gT g : Nat → Int32) (i : Nat) : Nat → Int32 := fun j => if j < i then qd_mx (gT j) (g j) else gT j
theorem aq_gi0 {gT g : Nat → Int32} : qd_gi gT g 0 = gT := funext fun j => if_neg (by omega)
theorem aq_gii {gT g : Nat → Int32} {i : Nat} : qd_gi gT g i i = gT i := if_neg (by omega)
theorem aq_gis {gT g : Nat → Int32} {i : Nat} : upd (qd_gi gT g i) i (qd_mx (gT i) (g i)) = qd_gi gT g (i + 1) := funext fun j => by
  unfold upd qd_gi
  by_cases h : j = i
  · rw [if_pos h, if_pos (by omega), h]
  · rw [if_neg h]
    by_cases h2 : j < i
    · rw [if_pos h2, if_pos (by omega)]
    · rw [if_neg h2, if_neg (by omega)]
theorem aq_gir {gT g g2 : Nat → Int32} {n : Nat} (hn : n ≤ 4) (hg : ∀ i, i < 4 → g2 i = g i) (h1 : ∀ i, n ≤ i → i < 4 → gT i = 0) (h2 : ∀ i, n ≤ i → i < 4 → g i = 0) : qd_gi gT g2 n = qd_gi gT g 4 := funext fun j => by
  unfold qd_gi
  by_cases h : j < n
  · rw [if_pos h, if_pos (show j < 4 by omega), hg j (by omega)]
  · rw [if_neg h]
    by_cases h4 : j < 4
    · rw [if_pos h4, h1 j (by omega) h4, h2 j (by omega) h4, aq_mx00]
    · rw [if_neg h4]
section
variable {cN rN sN oN wN B : Nat} {ph gh rh : Int32} {oC oK oR oS oT oW cC cO cH lT sI sK sT cM gT ms iT uT cR : Nat → Int32}
variable {s j q m r k : Nat} {x y kd : Int32} {g : Nat → Int32} {post2 : Int32 → SX → Prop} {post3 : Int32 → SY → Prop}
theorem aq_TVx {t g : Nat → Int32} (h : qd_TV rN B t) (h2 : qd_TV rN B g) : qd_TV rN B (fun r => qd_mx (t r) (g r)) := fun r hr => by
  refine ⟨aq_Tgx (h r hr).1 (h2 r hr).1, fun z => ?_⟩
  show qd_mx (t r) (g r) = 0
  rw [(h r hr).2 z, (h2 r hr).2 z, aq_mx00]
theorem aq_Isi (h : qd_I B cN rN sN oN wN ph gh rh oC oK oR oS oT cC cO cH lT sI sK sT cM gT ms cR) (hg : qd_TV rN B g) : qd_I B cN rN sN oN wN ph gh rh oC oK oR oS oT cC cO cH lT sI sK (qd_si sT s g 4) cM gT ms cR := by
  obtain ⟨h1, h2, h3, h4, h5, h6, h7, h8, h9, h10, h11⟩ := h
  refine ⟨h1, h2, h3, h4, h5, h6, h7, fun a ha => ?_, h9, h10, h11⟩
  by_cases z : a = s
  · subst z
    refine aq_TVc (aq_TVx (h8 a ha) hg) fun r hr => ?_
    show qd_si sT a g 4 (a * 4 + r) = qd_mx (sT (a * 4 + r)) (g r)
    unfold qd_si
    rw [if_pos (by omega), show (a * 4 + r) % 4 = r by omega]
  · refine aq_TVc (h8 a ha) fun r hr => ?_
    show qd_si sT s g 4 (a * 4 + r) = sT (a * 4 + r)
    exact if_neg (by omega)
theorem aq_Igi (h : qd_I B cN rN sN oN wN ph gh rh oC oK oR oS oT cC cO cH lT sI sK sT cM gT ms cR) (hg : qd_TV rN B g) : qd_I B cN rN sN oN wN ph gh rh oC oK oR oS oT cC cO cH lT sI sK sT cM (qd_gi gT g 4) ms cR := by
  obtain ⟨h1, h2, h3, h4, h5, h6, h7, h8, h9, h10, h11⟩ := h
  refine ⟨h1, h2, h3, h4, h5, h6, h7, h8, aq_TVc (aq_TVx h9 hg) fun r hr => if_pos hr, h10, h11⟩
theorem aq_x88 (hs : sN ≤ 48) (hp : ∀ uT', post2 1 (nI cN, nI rN, nI sN, nI oN, ph, nI wN, gh, oC, oK, oR, oS, oT, oW, cC, cO, cH, lT, sI, sK, sT, cM, gT, qd_K (qd_sm ms sN (qd_mf 9 (nI s) 0 (nI m) (fun _ => 0))), qd_S (qd_sm ms sN (qd_mf 9 (nI s) 0 (nI m) (fun _ => 0))), qd_O (qd_sm ms sN (qd_mf 9 (nI s) 0 (nI m) (fun _ => 0))), qd_C (qd_sm ms sN (qd_mf 9 (nI s) 0 (nI m) (fun _ => 0))), qd_T (qd_sm ms sN (qd_mf 9 (nI s) 0 (nI m) (fun _ => 0))), iT, uT')) : wX_installAtServer_88 post2 (nI s) (nI m) (nI cN) (nI rN) (nI sN) (nI oN) ph (nI wN) gh oC oK oR oS oT oW cC cO cH lT sI sK sT cM gT (qd_K ms) (qd_S ms) (qd_O ms) (qd_C ms) (qd_T ms) iT uT := by
  unfold wX_installAtServer_88
  refine aq_xclr ?_
  exact aq_xsend hs (t := fun _ => 0) (fun i hi => aq_zi4 hi) (hp _)
theorem aq_xil (h4 : rN ≤ 4) (hs : s < 5) (K : wX_installAtServer_88 post2 (nI s) (nI m) (nI cN) (nI rN) (nI sN) (nI oN) ph (nI wN) gh oC oK oR oS oT oW cC cO cH lT (upd sI s (nI m)) (upd sK s (nI m)) (qd_si sT s iT rN) cM gT (qd_K ms) (qd_S ms) (qd_O ms) (qd_C ms) (qd_T ms) iT uT) : ∀ d i, i + d = rN → wX_installAtServer_24 post2 (nI s) (nI m) (nI cN) (nI rN) (nI sN) (nI oN) ph (nI wN) gh (d + 1) (nI i) oC oK oR oS oT oW cC cO cH lT sI sK (qd_si sT s iT i) cM gT (qd_K ms) (qd_S ms) (qd_O ms) (qd_C ms) (qd_T ms) iT uT := by
  have hv : vp_in (nI s) 5 := vp_in_nI hs (by omega)
  have es : (nI s).toNatClampNeg = s := nI_clamp (by omega)
  intro d
  induction d with
  | zero =>
    intro i hi
    have e : i = rN := by omega
    subst e
    refine br_t (nI_le (by omega) (by omega)) ⟨hv, nm_r (e' := upd sI s (nI m)) (by rw [es]) ⟨hv, nm_r (e' := upd sK s (nI m)) (by rw [es]) K⟩⟩
  | succ d ih =>
    intro i hi
    have hiv : vp_in (nI i) 4 := vp_in_nI (by omega) (by omega)
    have h20 : vp_in (nI (s * 4 + i)) 20 := vp_in_nI (by omega) (by omega)
    refine br_f (nI_ge (by omega) (by omega)) (nm_r (e' := nI (s * 4 + i)) (aq_i4 s i) ⟨hiv, h20, ?_⟩)
    rw [nI_clamp (show i < 2 ^ 31 by omega), nI_clamp (show s * 4 + i < 2 ^ 31 by omega), aq_sii (by omega)]
    have ihn := ih (i + 1) (by omega)
    by_cases z : iT i ≤ sT (s * 4 + i)
    · rw [← aq_sis (by omega), aq_mxr z, ← aq_sii (g := iT) (s := s) (sT := sT) (i := i) (by omega), aq_uid] at ihn
      rw [← aq_sii (g := iT) (s := s) (sT := sT) (i := i) (by omega)] at z
      exact br_t (by rw [aq_sii (by omega)] at z; exact z) (nm_r (nI_1 i) ihn)
    · rw [← aq_sis (by omega), aq_mxn z] at ihn
      exact br_f z ⟨hiv, h20, nm_e (nm_r (nI_1 i) ihn)⟩
theorem aq_yil (hs : s < 5) (hk : k < 48) (K : wY_installAtServer_91 post3 (nI s) (nI m) (nI cN) (nI rN) (nI sN) (nI oN) ph (nI wN) rh cM oC oK oR oW oS oT cC cO cH cR (upd sI s (nI m)) (upd sK s (nI m)) (qd_si sT s (fun r => ms (k * 8 + 4 + r)) 4) gT ms) : ∀ d i, i + d = 4 → wY_installAtServer_25 post3 (nI k) (nI s) (nI m) (nI cN) (nI rN) (nI sN) (nI oN) ph (nI wN) rh (d + 1) (nI i) cM oC oK oR oW oS oT cC cO cH cR sI sK (qd_si sT s (fun r => ms (k * 8 + 4 + r)) i) gT ms := by
  have hv : vp_in (nI s) 5 := vp_in_nI hs (by omega)
  have es : (nI s).toNatClampNeg = s := nI_clamp (by omega)
  intro d
  induction d with
  | zero =>
    intro i hi
    have e : i = 4 := by omega
    subst e
    refine br_t (nI_le (a := 4) (b := 4) (by omega) (by omega)) ⟨hv, nm_r (e' := upd sI s (nI m)) (by rw [es]) ⟨hv, nm_r (e' := upd sK s (nI m)) (by rw [es]) K⟩⟩
  | succ d ih =>
    intro i hi
    refine br_f (nI_ge (b := 4) (by omega) (by decide)) ⟨aq_v4 (by omega) (by omega), aq_w8 hk (by omega), ?_⟩
    rw [aq_c4 (show s * 4 + i < 2 ^ 31 by omega), aq_d8 hk (show i < 4 by omega), aq_sii (by omega)]
    refine aq_ygr ?_
    exact ⟨aq_v4 (by omega) (by omega), nm_r (e' := qd_si sT s (fun r => ms (k * 8 + 4 + r)) (i + 1)) (aq_sis (g := fun r => ms (k * 8 + 4 + r)) (by omega)) (nm_r (nI_1 i) (ih (i + 1) (by omega)))⟩
theorem aq_y91 (hs : sN ≤ 48) (hp : post3 1 (nI cN, nI rN, nI sN, nI oN, ph, nI wN, rh, cM, oC, oK, oR, oW, oS, oT, cC, cO, cH, cR, sI, sK, sT, gT, qd_sm ms sN (qd_mf 9 (nI s) 0 (nI m) (fun _ => 0)))) : wY_installAtServer_91 post3 (nI s) (nI m) (nI cN) (nI rN) (nI sN) (nI oN) ph (nI wN) rh cM oC oK oR oW oS oT cC cO cH cR sI sK sT gT ms := by
  unfold wY_installAtServer_91
  exact aq_ysend hs (t := fun _ => 0) (fun i ms' p hi hpp => aq_car0 (by decide) (by decide) (by decide) (by decide) hpp) hp
theorem aq_Lin (I : qd_I B cN rN sN oN wN ph gh rh oC oK oR oS oT cC cO cH lT sI sK sT cM gT ms cR) (hk : k < 48) (hi : ∀ i, i < 4 → iT i = ms (k * 8 + 4 + i)) (ht : qd_TV rN B (fun r => ms (k * 8 + 4 + r))) (hs : s < 5) (hm : m ≤ wN) (hb : bt (cM m) s = true) : qd_LS B (fun post => wpX_installAtServer post (nI cN, nI rN, nI sN, nI oN, ph, nI wN, gh, oC, oK, oR, oS, oT, oW, cC, cO, cH, lT, sI, sK, sT, cM, gT, qd_K ms, qd_S ms, qd_O ms, qd_C ms, qd_T ms, iT, uT) (nI s) (nI m)) (fun post => wpY_installAtServer post (nI cN, nI rN, nI sN, nI oN, ph, nI wN, rh, cM, oC, oK, oR, oW, oS, oT, cC, cO, cH, cR, sI, sK, sT, gT, ms) (nI k) (nI s) (nI m)) := by
  obtain ⟨n1, n2, n3, n4, n5, n6, n7, n8, n9⟩ := I.1
  obtain ⟨a, b, ea, ha, eb, hbw⟩ := I.2.2.2.2.2.2.1 s hs
  have hv : vp_in (nI s) 5 := vp_in_nI hs (by omega)
  have es : (nI s).toNatClampNeg = s := nI_clamp (by omega)
  have M := aq_MIsm (n := sN) (kd := 9) (s := nI s) (o := 0) (m := nI m) (t := fun _ => 0) I.2.1 ⟨9, s, 0, m, rfl, rfl, rfl, rfl, by omega, by omega, hs, by omega, by omega, fun z => by omega, fun _ => hb, fun z => by omega, aq_TV0⟩
  by_cases z : a ≤ m
  · have ze : nI a ≤ nI m := nI_le z (by omega)
    by_cases w : m ≤ a
    · have we : nI m ≤ nI a := nI_le w (by omega)
      refine aq_LSI (oW := oW) 1 (aq_Ims I M) (fun P hp => ?_) (fun P hp => ?_)
      · refine And.intro hv ?_
        rw [es, ea]
        exact br_t ze ⟨hv, br_t we (aq_x88 n6 fun uT' => hp _ uT')⟩
      · refine And.intro hv ?_
        rw [es, ea]
        exact br_t ze ⟨hv, br_t we (aq_y91 n6 hp)⟩
    · have we : ¬ nI m ≤ nI a := nI_ge (by omega) (by omega)
      have J := aq_IsI (aq_Isi (s := s) I ht) hs hm
      refine aq_LSI (oW := oW) 1 (aq_Ims J M) (fun P hp => ?_) (fun P hp => ?_)
      · refine And.intro hv ?_
        rw [es, ea]
        refine br_t ze ⟨hv, br_f we ?_⟩
        have E : qd_si sT s iT rN = qd_si sT s (fun r => ms (k * 8 + 4 + r)) 4 := aq_sir n4 hi (fun i h1 h2 => (I.2.2.2.2.2.2.2.1 s hs i h2).2 h1) (fun i h1 h2 => (ht i h2).2 h1)
        have L := aq_xil (post2 := P) (m := m) (sT := sT) (uT := uT) n4 hs (by rw [E]; exact aq_x88 n6 fun uT' => hp _ uT') rN 0 (by omega)
        rw [aq_si0] at L
        exact ⟨rN + 1, L⟩
      · refine And.intro hv ?_
        rw [es, ea]
        refine br_t ze ⟨hv, br_f we ?_⟩
        have L := aq_yil (post3 := P) (m := m) (sT := sT) hs hk (aq_y91 n6 hp) 4 0 rfl
        rw [aq_si0] at L
        exact ⟨5, L⟩
  · have ze : ¬ nI a ≤ nI m := nI_ge (by omega) (by omega)
    refine aq_LSI (oW := oW) 0 I (fun P hp => ?_) (fun P hp => ?_)
    · refine And.intro hv ?_
      rw [es, ea]
      exact br_f ze (hp _ _)
    · refine And.intro hv ?_
      rw [es, ea]
      exact br_f ze hp
end
end
section
/-! the two acknowledgements of the reconfiguration -/
section
variable {cN rN sN oN wN B : Nat} {ph gh rh : Int32} {oC oK oR oS oT oW cC cO cH lT sI sK sT cM gT ms iT uT cR : Nat → Int32}
variable {s j q m r k : Nat} {x y kd : Int32} {g : Nat → Int32} {post2 : Int32 → SX → Prop} {post3 : Int32 → SY → Prop}
theorem aq_IR {ph' gh' rh' : Int32} (h : qd_I B cN rN sN oN wN ph gh rh oC oK oR oS oT cC cO cH lT sI sK sT cM gT ms cR) (h2 : qd_JR wN ph' gh' rh' cM) : qd_I B cN rN sN oN wN ph' gh' rh' oC oK oR oS oT cC cO cH lT sI sK sT cM gT ms cR := by
  obtain ⟨h1, k2, h3, h4, h5, h6, h7, h8, h9, h10, h11⟩ := h
  exact ⟨h1, k2, h3, h4, h5, h6, h7, h8, h9, h10, h2⟩
theorem aq_xal (hs : sN ≤ 48) (h8 : wN ≤ 8) (h4 : rN ≤ 4) (hz : ∀ i, rN ≤ i → i < 4 → qd_gi gT iT rN i = 0) (hm : m < 9) (hb : (gh ||| x) &&& cM m = gh ||| x) (K0 : qd_q (gh ||| x) (cM m) = 0 → post2 3 (nI cN, nI rN, nI sN, nI oN, ph, nI wN, gh ||| x, oC, oK, oR, oS, oT, oW, cC, cO, cH, lT, sI, sK, sT, cM, qd_gi gT iT rN, qd_K ms, qd_S ms, qd_O ms, qd_C ms, qd_T ms, iT, uT)) (K1 : ¬ qd_q (gh ||| x) (cM m) = 0 → ∀ uT', post2 4 (nI cN, nI rN, nI sN, nI oN, 2, nI wN, 0, oC, oK, oR, oS, oT, oW, cC, cO, cH, lT, sI, sK, sT, cM, qd_gi gT iT rN, qd_K (qd_sam sN 8 (cM wN) 0 (nI wN) (qd_gi gT iT rN) ms), qd_S (qd_sam sN 8 (cM wN) 0 (nI wN) (qd_gi gT iT rN) ms), qd_O (qd_sam sN 8 (cM wN) 0 (nI wN) (qd_gi gT iT rN) ms), qd_C (qd_sam sN 8 (cM wN) 0 (nI wN) (qd_gi gT iT rN) ms), qd_T (qd_sam sN 8 (cM wN) 0 (nI wN) (qd_gi gT iT rN) ms), iT, uT')) : ∀ d i, i + d = rN → wX_sealAckCounted_36 post2 (nI m) x (nI cN) (nI rN) (nI sN) (nI oN) ph (nI wN) gh (d + 1) (nI i) oC oK oR oS oT oW cC cO cH lT sI sK sT cM (qd_gi gT iT i) (qd_K ms) (qd_S ms) (qd_O ms) (qd_C ms) (qd_T ms) iT uT := by
  intro d
  induction d with
  | zero =>
    intro i hi
    have e : i = rN := by omega
    subst e
    refine br_t (nI_le (by omega) (by omega)) (nm_e (aq_xq hm hb ?_))
    refine br_c K0 fun z => aq_xsr2 hs h8 h4 hz (by decide) fun uT' => ?_
    rw [aq_n0]
    exact K1 z uT'
  | succ d ih =>
    intro i hi
    have hv : vp_in (nI i) 4 := vp_in_nI (by omega) (by omega)
    have ei : (nI i).toNatClampNeg = i := nI_clamp (by omega)
    refine br_f (nI_ge (by omega) (by omega)) ⟨hv, hv, ?_⟩
    rw [ei, aq_gii]
    have ihn := ih (i + 1) (by omega)
    by_cases z : iT i ≤ gT i
    · have e : qd_gi gT iT (i + 1) = qd_gi gT iT i := by
        rw [← aq_gis, aq_mxr z]
        have e2 : gT i = qd_gi gT iT i i := aq_gii.symm
        rw [e2, aq_uid]
      rw [e] at ihn
      exact br_t z (nm_r (nI_1 i) ihn)
    · rw [← aq_gis, aq_mxn z] at ihn
      exact br_f z ⟨hv, hv, nm_e (nm_r (nI_1 i) ihn)⟩
theorem aq_yal (hs : sN ≤ 48) (h8 : wN ≤ 8) (hk : k < 48) (hm : m < 9) (K0 : qd_q (rh ||| ((1 : Int32) <<< (nI s &&& 31))) (cM m) = 0 → post3 3 (nI cN, nI rN, nI sN, nI oN, ph, nI wN, rh ||| ((1 : Int32) <<< (nI s &&& 31)), cM, oC, oK, oR, oW, oS, oT, cC, cO, cH, cR, sI, sK, sT, qd_gi gT (fun r => ms (k * 8 + 4 + r)) 4, ms)) (K1 : ¬ qd_q (rh ||| ((1 : Int32) <<< (nI s &&& 31))) (cM m) = 0 → post3 4 (nI cN, nI rN, nI sN, nI oN, 2, nI wN, 0, cM, oC, oK, oR, oW, oS, oT, cC, cO, cH, cR, sI, sK, sT, qd_gi gT (fun r => ms (k * 8 + 4 + r)) 4, qd_sam sN 8 (cM wN) 0 (nI wN) (qd_gi gT (fun r => ms (k * 8 + 4 + r)) 4) ms)) : ∀ d i, i + d = 4 → wY_ackAtReconfiguration_55 post3 (nI k) 1 (nI s) (nI m) (nI cN) (nI rN) (nI sN) (nI oN) ph (nI wN) rh (d + 1) (nI i) cM oC oK oR oW oS oT cC cO cH cR sI sK sT (qd_gi gT (fun r => ms (k * 8 + 4 + r)) i) ms := by
  intro d
  induction d with
  | zero =>
    intro i hi
    have e : i = 4 := by omega
    subst e
    refine br_t (nI_le (a := 4) (b := 4) (by omega) (by omega)) (nm_e (aq_yq hm ?_))
    refine br_c K0 fun z => br_f (by decide) (br_f (by decide) ⟨vp_in_nI (by omega) (by omega), ?_⟩)
    rw [nI_clamp (show wN < 2 ^ 31 by omega)]
    exact aq_yss hs (fun j i ms' p _ hi hpp => aq_car8 hi hpp) (K1 z)
  | succ d ih =>
    intro i hi
    have hv : vp_in (nI i) 4 := vp_in_nI (by omega) (by omega)
    refine br_f (nI_ge (b := 4) (by omega) (by decide)) (br_f (by decide) ⟨hv, aq_w8 hk (by omega), ?_⟩)
    rw [nI_clamp (show i < 2 ^ 31 by omega), aq_d8 hk (show i < 4 by omega), aq_gii]
    refine aq_ygr ?_
    exact ⟨hv, nm_r (e' := qd_gi gT (fun r => ms (k * 8 + 4 + r)) (i + 1)) (aq_gis (g := fun r => ms (k * 8 + 4 + r))) (nm_r (nI_1 i) (ih (i + 1) (by omega)))⟩
theorem aq_yal0 (hm : m < 9) (K0 : qd_q (rh ||| ((1 : Int32) <<< (nI s &&& 31))) (cM m) = 0 → post3 3 (nI cN, nI rN, nI sN, nI oN, ph, nI wN, rh ||| ((1 : Int32) <<< (nI s &&& 31)), cM, oC, oK, oR, oW, oS, oT, cC, cO, cH, cR, sI, sK, sT, gT, ms)) (K1 : ¬ qd_q (rh ||| ((1 : Int32) <<< (nI s &&& 31))) (cM m) = 0 → post3 5 (nI cN, nI rN, nI sN, nI oN, 0, nI wN, 0, cM, oC, oK, oR, oW, oS, oT, cC, cO, cH, cR, sI, sK, sT, gT, ms)) : ∀ d i, i + d = 4 → wY_ackAtReconfiguration_55 post3 (nI k) 0 (nI s) (nI m) (nI cN) (nI rN) (nI sN) (nI oN) ph (nI wN) rh (d + 1) (nI i) cM oC oK oR oW oS oT cC cO cH cR sI sK sT gT ms := by
  intro d
  induction d with
  | zero =>
    intro i hi
    have e : i = 4 := by omega
    subst e
    refine br_t (nI_le (a := 4) (b := 4) (by omega) (by omega)) (nm_e (aq_yq hm ?_))
    exact br_c K0 fun z => br_t rfl (br_t rfl (K1 z))
  | succ d ih =>
    intro i hi
    exact br_f (nI_ge (b := 4) (by omega) (by decide)) (br_t rfl (nm_r (nI_1 i) (ih (i + 1) (by omega))))
theorem aq_Lsa (I : qd_I B cN rN sN oN wN ph gh rh oC oK oR oS oT cC cO cH lT sI sK sT cM gT ms cR) (hk : k < 48) (hi : ∀ i, i < 4 → iT i = ms (k * 8 + 4 + i)) (ht : qd_TV rN B (fun r => ms (k * 8 + 4 + r))) (hs : s < 5) (hm : m < wN) (hb : bt (cM m) s = true) : qd_LS B (fun post => wpX_sealAckCounted post (nI cN, nI rN, nI sN, nI oN, ph, nI wN, gh, oC, oK, oR, oS, oT, oW, cC, cO, cH, lT, sI, sK, sT, cM, gT, qd_K ms, qd_S ms, qd_O ms, qd_C ms, qd_T ms, iT, uT) (nI s) (nI m)) (fun post => wpY_ackAtReconfiguration post (nI cN, nI rN, nI sN, nI oN, ph, nI wN, rh, cM, oC, oK, oR, oW, oS, oT, cC, cO, cH, cR, sI, sK, sT, gT, ms) (nI k) 1 (nI s) (nI m)) := by
  obtain ⟨n1, n2, n3, n4, n5, n6, n7, n8, n9⟩ := I.1
  have ew : nI wN - 1 = nI (wN - 1) := aq_s1 n8
  have hR := I.2.2.2.2.2.2.2.2.2.2
  by_cases hp1 : ph = 1
  · obtain ⟨h2, hg, hsub⟩ : 2 ≤ wN ∧ gh = rh ∧ rh &&& cM (wN - 1) = rh := by
      rcases hR with h | h | h
      · rw [h] at hp1; exact absurd hp1 (by decide)
      · exact h.2
      · rw [h.1] at hp1; exact absurd hp1 (by decide)
    subst hg
    by_cases hmw : m = wN - 1
    · have hme : nI m = nI wN - 1 := by rw [ew, hmw]
      by_cases hbt : bt gh s = true
      · refine aq_LSI (oW := oW) 0 I (fun P hp => ?_) (fun P hp => ?_)
        · exact nm_e (br_t hp1 (br_t hme (br_f (aq_xt hs hbt) (hp _ _))))
        · refine br_f (by decide) (br_t hp1 (br_f (by decide) (br_t hme (aq_yh1 hs hbt ?_))))
          exact br_f (by decide) hp
      · have hsub2 : (gh ||| ((1 : Int32) <<< (nI s &&& 31))) &&& cM m = gh ||| ((1 : Int32) <<< (nI s &&& 31)) := by
          rw [← hmw] at hsub
          exact aq_subor hs hsub hb
        have E : qd_gi gT iT rN = qd_gi gT (fun r => ms (k * 8 + 4 + r)) 4 := aq_gir n4 hi (fun i h1 h2 => (I.2.2.2.2.2.2.2.2.1 i h2).2 h1) (fun i h1 h2 => (ht i h2).2 h1)
        have J := aq_Igi I ht
        have hz : ∀ i, rN ≤ i → i < 4 → qd_gi gT iT rN i = 0 := fun i h1 h2 => by
          rw [E]; exact (J.2.2.2.2.2.2.2.2.1 i h2).2 h1
        by_cases hQ : qd_q (gh ||| ((1 : Int32) <<< (nI s &&& 31))) (cM m) = 0
        · have J2 := aq_IR (ph' := ph) (gh' := gh ||| ((1 : Int32) <<< (nI s &&& 31))) (rh' := gh ||| ((1 : Int32) <<< (nI s &&& 31))) J (Or.inr (Or.inl ⟨hp1, h2, rfl, by rw [← hmw]; exact hsub2⟩))
          refine aq_LSI (oW := oW) 3 J2 (fun P hp => ?_) (fun P hp => ?_)
          · have L := aq_xal (post2 := P) (ph := ph) (oC := oC) (oK := oK) (oR := oR) (oS := oS) (oT := oT) (oW := oW) (cC := cC) (cO := cO) (cH := cH) (lT := lT) (sI := sI) (sK := sK) (sT := sT) (ms := ms) (uT := uT) (cN := cN) (oN := oN) n6 n9 n4 hz (by omega) hsub2 (fun _ => by rw [E]; exact hp _ _) (fun z => absurd hQ z) rN 0 (by omega)
            rw [aq_gi0] at L
            exact nm_e (br_t hp1 (br_t hme (br_t (aq_xf hs (by simpa using hbt)) ⟨rN + 1, L⟩)))
          · have L := aq_yal (post3 := P) (ph := ph) (s := s) (rh := gh) n6 n9 hk (show m < 9 by omega) (fun _ => hp) (fun z => absurd hQ z) 4 0 rfl
            rw [aq_gi0] at L
            refine br_f (by decide) (br_t hp1 (br_f (by decide) (br_t hme (aq_yh0 hs hbt ?_))))
            exact br_t rfl ⟨5, L⟩
        · have J2 := aq_IR (ph' := 2) (gh' := 0) (rh' := 0) J (Or.inr (Or.inr ⟨rfl, rfl, aq_sub0 _⟩))
          have M := aq_MIsam (d := 8) (q := 0) (m := wN) (n := sN) (set := cM wN) J2.2.1 (by omega) (by omega) (by omega) (Nat.le_refl _) (fun z => by omega) (fun i hi => hi) (fun z => by omega) J2.2.2.2.2.2.2.2.2.1
          refine aq_LSI (oW := oW) 4 (aq_Ims J2 M) (fun P hp => ?_) (fun P hp => ?_)
          · have L := aq_xal (post2 := P) (ph := ph) (oC := oC) (oK := oK) (oR := oR) (oS := oS) (oT := oT) (oW := oW) (cC := cC) (cO := cO) (cH := cH) (lT := lT) (sI := sI) (sK := sK) (sT := sT) (ms := ms) (uT := uT) (cN := cN) (oN := oN) n6 n9 n4 hz (by omega) hsub2 (fun z => absurd z hQ) (fun _ uT' => by rw [E]; exact hp _ uT') rN 0 (by omega)
            rw [aq_gi0] at L
            exact nm_e (br_t hp1 (br_t hme (br_t (aq_xf hs (by simpa using hbt)) ⟨rN + 1, L⟩)))
          · have L := aq_yal (post3 := P) (ph := ph) (s := s) (rh := gh) n6 n9 hk (show m < 9 by omega) (fun z => absurd z hQ) (fun _ => hp) 4 0 rfl
            rw [aq_gi0] at L
            refine br_f (by decide) (br_t hp1 (br_f (by decide) (br_t hme (aq_yh0 hs hbt ?_))))
            exact br_t rfl ⟨5, L⟩
    · have hme : ¬ nI m = nI wN - 1 := by rw [ew]; exact aq_ni hmw (by omega) (by omega)
      exact aq_LSI (oW := oW) 0 I (fun P hp => nm_e (br_t hp1 (br_f hme (hp _ _)))) (fun P hp => br_f (by decide) (br_t hp1 (br_f (by decide) (br_f hme hp))))
  · exact aq_LSI (oW := oW) 0 I (fun P hp => nm_e (br_f hp1 (hp _ _))) (fun P hp => br_f (by decide) (br_f hp1 hp))
theorem aq_Lia (I : qd_I B cN rN sN oN wN ph gh rh oC oK oR oS oT cC cO cH lT sI sK sT cM gT ms cR) (hs : s < 5) (hm : m ≤ wN) (hb : bt (cM m) s = true) : qd_LS B (fun post => wpX_installAckCounted post (nI cN, nI rN, nI sN, nI oN, ph, nI wN, gh, oC, oK, oR, oS, oT, oW, cC, cO, cH, lT, sI, sK, sT, cM, gT, qd_K ms, qd_S ms, qd_O ms, qd_C ms, qd_T ms, iT, uT) (nI s) (nI m)) (fun post => wpY_ackAtReconfiguration post (nI cN, nI rN, nI sN, nI oN, ph, nI wN, rh, cM, oC, oK, oR, oW, oS, oT, cC, cO, cH, cR, sI, sK, sT, gT, ms) (nI k) 0 (nI s) (nI m)) := by
  obtain ⟨n1, n2, n3, n4, n5, n6, n7, n8, n9⟩ := I.1
  have hR := I.2.2.2.2.2.2.2.2.2.2
  by_cases hp1 : ph = 2
  · obtain ⟨hg, hsub⟩ : gh = rh ∧ rh &&& cM wN = rh := by
      rcases hR with h | h | h
      · rw [h] at hp1; exact absurd hp1 (by decide)
      · rw [h.1] at hp1; exact absurd hp1 (by decide)
      · exact h.2
    subst hg
    by_cases hmw : m = wN
    · have hme : nI m = nI wN := by rw [hmw]
      by_cases hbt : bt gh s = true
      · refine aq_LSI (oW := oW) 0 I (fun P hp => ?_) (fun P hp => ?_)
        · exact nm_e (br_t hp1 (br_t hme (br_f (aq_xt hs hbt) (hp _ _))))
        · refine br_t rfl (br_t hp1 (br_t rfl (br_t hme (aq_yh1 hs hbt ?_))))
          exact br_f (by decide) hp
      · have hsub2 : (gh ||| ((1 : Int32) <<< (nI s &&& 31))) &&& cM m = gh ||| ((1 : Int32) <<< (nI s &&& 31)) := by
          rw [← hmw] at hsub
          exact aq_subor hs hsub hb
        by_cases hQ : qd_q (gh ||| ((1 : Int32) <<< (nI s &&& 31))) (cM m) = 0
        · have J2 := aq_IR (ph' := ph) (gh' := gh ||| ((1 : Int32) <<< (nI s &&& 31))) (rh' := gh ||| ((1 : Int32) <<< (nI s &&& 31))) I (Or.inr (Or.inr ⟨hp1, rfl, by rw [← hmw]; exact hsub2⟩))
          refine aq_LSI (oW := oW) 3 J2 (fun P hp => ?_) (fun P hp => ?_)
          · refine nm_e (br_t hp1 (br_t hme (br_t (aq_xf hs (by simpa using hbt)) (nm_e (aq_xq (by omega) hsub2 ?_)))))
            exact br_t hQ (hp _ _)
          · have L := aq_yal0 (post3 := P) (k := k) (ph := ph) (s := s) (rh := gh) (show m < 9 by omega) (fun _ => hp) (fun z => absurd hQ z) 4 0 rfl
            refine br_t rfl (br_t hp1 (br_t rfl (br_t hme (aq_yh0 hs hbt ?_))))
            exact br_t rfl ⟨5, L⟩
        · have J2 := aq_IR (ph' := 0) (gh' := gh ||| ((1 : Int32) <<< (nI s &&& 31))) (rh' := 0) I (Or.inl rfl)
          refine aq_LSI (oW := oW) 5 J2 (fun P hp => ?_) (fun P hp => ?_)
          · refine nm_e (br_t hp1 (br_t hme (br_t (aq_xf hs (by simpa using hbt)) (nm_e (aq_xq (by omega) hsub2 ?_)))))
            exact br_f hQ (hp _ _)
          · have L := aq_yal0 (post3 := P) (k := k) (ph := ph) (s := s) (rh := gh) (show m < 9 by omega) (fun z => absurd z hQ) (fun _ => hp) 4 0 rfl
            refine br_t rfl (br_t hp1 (br_t rfl (br_t hme (aq_yh0 hs hbt ?_))))
            exact br_t rfl ⟨5, L⟩
    · have hme : ¬ nI m = nI wN := aq_ni hmw (by omega) (by omega)
      exact aq_LSI (oW := oW) 0 I (fun P hp => nm_e (br_t hp1 (br_f hme (hp _ _)))) (fun P hp => br_t rfl (br_t hp1 (br_t rfl (br_f hme hp))))
  · exact aq_LSI (oW := oW) 0 I (fun P hp => nm_e (br_f hp1 (hp _ _))) (fun P hp => br_t rfl (br_f hp1 hp))
end
end
section
/-! deliver -/
section
variable {cN rN sN oN wN B : Nat} {ph gh rh : Int32} {oC oK oR oS oT oW cC cO cH lT sI sK sT cM gT ms iT uT cR : Nat → Int32}
variable {s j q m r k d a b e : Nat} {g : Nat → Int32} {x y kd : Int32} {post2 : Int32 → SX → Prop} {post3 : Int32 → SY → Prop}
theorem aq_xdl (hk : k < 48) (K : wX_deliver_43 post2 (nI k) (nI d) (nI a) (nI b) (nI e) (nI cN) (nI rN) (nI sN) (nI oN) ph (nI wN) gh 1 (nI 4) oC oK oR oS oT oW cC cO cH lT sI sK sT cM gT (qd_K ms) (qd_S ms) (qd_O ms) (qd_C ms) (qd_T ms) (qd_ci (fun r => ms (k * 8 + 4 + r)) iT 4) uT) : ∀ n i, i + n = 4 → wX_deliver_43 post2 (nI k) (nI d) (nI a) (nI b) (nI e) (nI cN) (nI rN) (nI sN) (nI oN) ph (nI wN) gh (n + 1) (nI i) oC oK oR oS oT oW cC cO cH lT sI sK sT cM gT (qd_K ms) (qd_S ms) (qd_O ms) (qd_C ms) (qd_T ms) (qd_ci (fun r => ms (k * 8 + 4 + r)) iT i) uT := by
  intro n
  induction n with
  | zero =>
    intro i hi
    have e : i = 4 := by omega
    subst e
    exact K
  | succ n ih =>
    intro i hi
    exact br_f (nI_ge (b := 4) (by omega) (by decide)) ⟨aq_v4 (by omega) (by omega), vp_in_nI (by omega) (by omega), nm_r (e' := qd_ci (fun r => ms (k * 8 + 4 + r)) iT (i + 1)) (by rw [aq_c4 (by omega), nI_clamp (by omega), aq_Tij (by omega)]; exact aq_cis (g := fun r => ms (k * 8 + 4 + r))) (nm_r (nI_1 i) (ih (i + 1) (by omega)))⟩
theorem aq_xdel (hs : sN ≤ 48) (hk : k < sN) (hu : ¬ ms (k * 8) = 0) (h0 : ms (k * 8) = nI d) (h1 : ms (k * 8 + 1) = nI a) (h2 : ms (k * 8 + 2) = nI b) (h3 : ms (k * 8 + 3) = nI e) (K : wX_deliver_43 post2 (nI k) (nI d) (nI a) (nI b) (nI e) (nI cN) (nI rN) (nI sN) (nI oN) ph (nI wN) gh 1 (nI 4) oC oK oR oS oT oW cC cO cH lT sI sK sT cM gT (qd_K ms) (qd_S ms) (qd_O ms) (qd_C ms) (qd_T ms) (qd_ci (fun r => ms (k * 8 + 4 + r)) iT 4) uT) : wpX_deliver post2 (nI cN, nI rN, nI sN, nI oN, ph, nI wN, gh, oC, oK, oR, oS, oT, oW, cC, cO, cH, lT, sI, sK, sT, cM, gT, qd_K ms, qd_S ms, qd_O ms, qd_C ms, qd_T ms, iT, uT) (nI k) := by
  have hv : vp_in (nI k) 48 := vp_in_nI (by omega) (by omega)
  have ek : (nI k).toNatClampNeg = k := nI_clamp (by omega)
  have L := aq_xdl (show k < 48 by omega) K 4 0 rfl
  rw [aq_ci0] at L
  unfold wpX_deliver
  refine aq_xu1 hs hk hu ?_
  exact br_f (by decide) ⟨hv, nm_r (e' := nI d) (by rw [ek]; exact h0) ⟨hv, nm_r (e' := nI a) (by rw [ek]; exact h1) ⟨hv, nm_r (e' := nI b) (by rw [ek]; exact h2) ⟨hv, nm_r (e' := nI e) (by rw [ek]; exact h3) ⟨5, L⟩⟩⟩⟩⟩
theorem aq_Ld1 (J : qd_I B cN rN sN oN wN ph gh rh oC oK oR oS oT cC cO cH lT sI sK sT cM gT (upd ms (k * 8) 0) cR) (hs : sN ≤ 48) (h64 : oN ≤ 64) (hks : k < sN) (hu : ¬ ms (k * 8) = 0) (h0 : ms (k * 8) = nI 1) (h1 : ms (k * 8 + 1) = nI a) (h2 : ms (k * 8 + 2) = nI b) (h3 : ms (k * 8 + 3) = nI e) (hg : iT = qd_ci (fun r => ms (k * 8 + 4 + r)) g 4) (hi : ∀ i, i < 4 → iT i = upd ms (k * 8) 0 (k * 8 + 4 + i)) (ht : qd_TV rN B (fun r => upd ms (k * 8) 0 (k * 8 + 4 + r))) (ha : a < 5) (hb1 : 1 ≤ b) (hbo : b ≤ oN) (he : e ≤ wN) (hbt : bt (cM e) a = true) : qd_LS B (fun post => wpX_deliver post (nI cN, nI rN, nI sN, nI oN, ph, nI wN, gh, oC, oK, oR, oS, oT, oW, cC, cO, cH, lT, sI, sK, sT, cM, gT, qd_K ms, qd_S ms, qd_O ms, qd_C ms, qd_T ms, g, uT) (nI k)) (fun post => wpY_deliver post (nI cN, nI rN, nI sN, nI oN, ph, nI wN, rh, cM, oC, oK, oR, oW, oS, oT, cC, cO, cH, cR, sI, sK, sT, gT, ms) (nI k)) := by
  have hk : k < 48 := by omega
  have hv : vp_in (nI k) 48 := vp_in_nI (by omega) (by omega)
  have ek : (nI k).toNatClampNeg = k := nI_clamp (by omega)
  obtain ⟨r, v, hx, hy⟩ := aq_Lrq (kd := nI 1) (iT := iT) (uT := uT) (oW := oW) J hk hi ht (Or.inl rfl) ha hb1 hbo he hbt
  rw [aq_fK, aq_fS, aq_fO, aq_fC, aq_fT] at hx
  rw [hg] at hx
  refine ⟨r, v, fun P hp => aq_xdel hs hks hu h0 h1 h2 h3 ?_, fun P hp => ?_⟩
  · refine br_t (by decide) ⟨hv, nm_r (e' := upd (qd_K ms) k 0) (by rw [ek]) ?_⟩
    exact br_f (by decide) (br_f (by decide) (br_t rfl (hx _ fun u hu => by obtain ⟨_, _, _, _, _, _, _, _, _, _, _, _, _, _, _, _, _, _, _, _, _, _, _, _, _, _, _, _, _⟩ := u; exact hp _ hu)))
  · obtain ⟨_, _, _, _, _, _, _, _, _, _, _, _, _, _, _, _, _, _, _, _, _, _, _⟩ := v
    unfold wpY_deliver
    refine aq_yu0 hs hks hu ?_
    refine br_t rfl ⟨aq_v80 hk, nm_r (e' := nI 1) (by rw [aq_c80 hk]; exact h0) ⟨aq_v81 hk, nm_r (e' := nI a) (by rw [aq_c81 hk]; exact h1) ⟨aq_v82 hk, nm_r (e' := nI b) (by rw [aq_c82 hk]; exact h2) ⟨aq_v83 hk, nm_r (e' := nI e) (by rw [aq_c83 hk]; exact h3) ⟨aq_v80 hk, nm_r (e' := upd ms (k * 8) 0) (by rw [aq_c80 hk]) ?_⟩⟩⟩⟩⟩
    exact br_t rfl (hy _ hp)
theorem aq_Ld2 (J : qd_I B cN rN sN oN wN ph gh rh oC oK oR oS oT cC cO cH lT sI sK sT cM gT (upd ms (k * 8) 0) cR) (hs : sN ≤ 48) (h64 : oN ≤ 64) (hks : k < sN) (hu : ¬ ms (k * 8) = 0) (h0 : ms (k * 8) = nI 2) (h1 : ms (k * 8 + 1) = nI a) (h2 : ms (k * 8 + 2) = nI b) (h3 : ms (k * 8 + 3) = nI e) (hg : iT = qd_ci (fun r => ms (k * 8 + 4 + r)) g 4) (hi : ∀ i, i < 4 → iT i = upd ms (k * 8) 0 (k * 8 + 4 + i)) (ht : qd_TV rN B (fun r => upd ms (k * 8) 0 (k * 8 + 4 + r))) (hB : B < 2 ^ 30) (ha : a < 5) (hb1 : 1 ≤ b) (hbo : b ≤ oN) (he : e ≤ wN) (hbt : bt (cM e) a = true) : qd_LS (B + 7) (fun post => wpX_deliver post (nI cN, nI rN, nI sN, nI oN, ph, nI wN, gh, oC, oK, oR, oS, oT, oW, cC, cO, cH, lT, sI, sK, sT, cM, gT, qd_K ms, qd_S ms, qd_O ms, qd_C ms, qd_T ms, g, uT) (nI k)) (fun post => wpY_deliver post (nI cN, nI rN, nI sN, nI oN, ph, nI wN, rh, cM, oC, oK, oR, oW, oS, oT, cC, cO, cH, cR, sI, sK, sT, gT, ms) (nI k)) := by
  have hk : k < 48 := by omega
  have hv : vp_in (nI k) 48 := vp_in_nI (by omega) (by omega)
  have ek : (nI k).toNatClampNeg = k := nI_clamp (by omega)
  obtain ⟨r, v, hx, hy⟩ := aq_Lqr (iT := iT) (uT := uT) (oW := oW) J hB hk hi ht ha hb1 hbo he hbt
  rw [aq_fK, aq_fS, aq_fO, aq_fC, aq_fT] at hx
  rw [hg] at hx
  refine ⟨r, v, fun P hp => aq_xdel hs hks hu h0 h1 h2 h3 ?_, fun P hp => ?_⟩
  · refine br_t (by decide) ⟨hv, nm_r (e' := upd (qd_K ms) k 0) (by rw [ek]) ?_⟩
    exact br_f (by decide) (br_f (by decide) (br_f (by decide) (br_t rfl (hx _ fun u hu => by obtain ⟨_, _, _, _, _, _, _, _, _, _, _, _, _, _, _, _, _, _, _, _, _, _, _, _, _, _, _, _, _⟩ := u; exact hp _ hu))))
  · obtain ⟨_, _, _, _, _, _, _, _, _, _, _, _, _, _, _, _, _, _, _, _, _, _, _⟩ := v
    unfold wpY_deliver
    refine aq_yu0 hs hks hu ?_
    refine br_t rfl ⟨aq_v80 hk, nm_r (e' := nI 2) (by rw [aq_c80 hk]; exact h0) ⟨aq_v81 hk, nm_r (e' := nI a) (by rw [aq_c81 hk]; exact h1) ⟨aq_v82 hk, nm_r (e' := nI b) (by rw [aq_c82 hk]; exact h2) ⟨aq_v83 hk, nm_r (e' := nI e) (by rw [aq_c83 hk]; exact h3) ⟨aq_v80 hk, nm_r (e' := upd ms (k * 8) 0) (by rw [aq_c80 hk]) ?_⟩⟩⟩⟩⟩
    exact br_f (by decide) (br_f (by decide) (br_t rfl (hy _ hp)))
theorem aq_Ld3 (J : qd_I B cN rN sN oN wN ph gh rh oC oK oR oS oT cC cO cH lT sI sK sT cM gT (upd ms (k * 8) 0) cR) (hs : sN ≤ 48) (h64 : oN ≤ 64) (hks : k < sN) (hu : ¬ ms (k * 8) = 0) (h0 : ms (k * 8) = nI 3) (h1 : ms (k * 8 + 1) = nI a) (h2 : ms (k * 8 + 2) = nI b) (h3 : ms (k * 8 + 3) = nI e) (hg : iT = qd_ci (fun r => ms (k * 8 + 4 + r)) g 4) (hi : ∀ i, i < 4 → iT i = upd ms (k * 8) 0 (k * 8 + 4 + i)) (ht : qd_TV rN B (fun r => upd ms (k * 8) 0 (k * 8 + 4 + r))) (ha : a < 5) (hb1 : 1 ≤ b) (hbo : b ≤ oN) (he : e ≤ wN) (hbt : bt (cM e) a = true) : qd_LS B (fun post => wpX_deliver post (nI cN, nI rN, nI sN, nI oN, ph, nI wN, gh, oC, oK, oR, oS, oT, oW, cC, cO, cH, lT, sI, sK, sT, cM, gT, qd_K ms, qd_S ms, qd_O ms, qd_C ms, qd_T ms, g, uT) (nI k)) (fun post => wpY_deliver post (nI cN, nI rN, nI sN, nI oN, ph, nI wN, rh, cM, oC, oK, oR, oW, oS, oT, cC, cO, cH, cR, sI, sK, sT, gT, ms) (nI k)) := by
  have hk : k < 48 := by omega
  have hv : vp_in (nI k) 48 := vp_in_nI (by omega) (by omega)
  have ek : (nI k).toNatClampNeg = k := nI_clamp (by omega)
  obtain ⟨r, v, hx, hy⟩ := aq_Lrq (kd := nI 3) (iT := iT) (uT := uT) (oW := oW) J hk hi ht (Or.inr rfl) ha hb1 hbo he hbt
  rw [aq_fK, aq_fS, aq_fO, aq_fC, aq_fT] at hx
  rw [hg] at hx
  refine ⟨r, v, fun P hp => aq_xdel hs hks hu h0 h1 h2 h3 ?_, fun P hp => ?_⟩
  · refine br_t (by decide) ⟨hv, nm_r (e' := upd (qd_K ms) k 0) (by rw [ek]) ?_⟩
    exact br_f (by decide) (br_f (by decide) (br_f (by decide) (br_f (by decide) (br_t rfl (hx _ fun u hu => by obtain ⟨_, _, _, _, _, _, _, _, _, _, _, _, _, _, _, _, _, _, _, _, _, _, _, _, _, _, _, _, _⟩ := u; exact hp _ hu)))))
  · obtain ⟨_, _, _, _, _, _, _, _, _, _, _, _, _, _, _, _, _, _, _, _, _, _, _⟩ := v
    unfold wpY_deliver
    refine aq_yu0 hs hks hu ?_
    refine br_t rfl ⟨aq_v80 hk, nm_r (e' := nI 3) (by rw [aq_c80 hk]; exact h0) ⟨aq_v81 hk, nm_r (e' := nI a) (by rw [aq_c81 hk]; exact h1) ⟨aq_v82 hk, nm_r (e' := nI b) (by rw [aq_c82 hk]; exact h2) ⟨aq_v83 hk, nm_r (e' := nI e) (by rw [aq_c83 hk]; exact h3) ⟨aq_v80 hk, nm_r (e' := upd ms (k * 8) 0) (by rw [aq_c80 hk]) ?_⟩⟩⟩⟩⟩
    exact br_f (by decide) (br_t rfl (hy _ hp))
theorem aq_Ld4 (J : qd_I B cN rN sN oN wN ph gh rh oC oK oR oS oT cC cO cH lT sI sK sT cM gT (upd ms (k * 8) 0) cR) (hs : sN ≤ 48) (h64 : oN ≤ 64) (hks : k < sN) (hu : ¬ ms (k * 8) = 0) (h0 : ms (k * 8) = nI 4) (h1 : ms (k * 8 + 1) = nI a) (h2 : ms (k * 8 + 2) = nI b) (h3 : ms (k * 8 + 3) = nI e) (hg : iT = qd_ci (fun r => ms (k * 8 + 4 + r)) g 4) (ha : a < 5) (hb1 : 1 ≤ b) (hbo : b ≤ oN) (he : e ≤ wN) (hbt : bt (cM e) a = true) : qd_LS B (fun post => wpX_deliver post (nI cN, nI rN, nI sN, nI oN, ph, nI wN, gh, oC, oK, oR, oS, oT, oW, cC, cO, cH, lT, sI, sK, sT, cM, gT, qd_K ms, qd_S ms, qd_O ms, qd_C ms, qd_T ms, g, uT) (nI k)) (fun post => wpY_deliver post (nI cN, nI rN, nI sN, nI oN, ph, nI wN, rh, cM, oC, oK, oR, oW, oS, oT, cC, cO, cH, cR, sI, sK, sT, gT, ms) (nI k)) := by
  have hk : k < 48 := by omega
  have hv : vp_in (nI k) 48 := vp_in_nI (by omega) (by omega)
  have ek : (nI k).toNatClampNeg = k := nI_clamp (by omega)
  obtain ⟨r, v, hx, hy⟩ := aq_Lpa (k := k) (iT := iT) (uT := uT) (oW := oW) J ha hb1 hbo he hbt
  rw [aq_fK, aq_fS, aq_fO, aq_fC, aq_fT] at hx
  rw [hg] at hx
  refine ⟨r, v, fun P hp => aq_xdel hs hks hu h0 h1 h2 h3 ?_, fun P hp => ?_⟩
  · refine br_t (by decide) ⟨hv, nm_r (e' := upd (qd_K ms) k 0) (by rw [ek]) ?_⟩
    exact br_f (by decide) (br_f (by decide) (br_f (by decide) (br_f (by decide) (br_f (by decide) (br_t rfl (hx _ fun u hu => by obtain ⟨_, _, _, _, _, _, _, _, _, _, _, _, _, _, _, _, _, _, _, _, _, _, _, _, _, _, _, _, _⟩ := u; exact hp _ hu))))))
  · obtain ⟨_, _, _, _, _, _, _, _, _, _, _, _, _, _, _, _, _, _, _, _, _, _, _⟩ := v
    unfold wpY_deliver
    refine aq_yu0 hs hks hu ?_
    refine br_t rfl ⟨aq_v80 hk, nm_r (e' := nI 4) (by rw [aq_c80 hk]; exact h0) ⟨aq_v81 hk, nm_r (e' := nI a) (by rw [aq_c81 hk]; exact h1) ⟨aq_v82 hk, nm_r (e' := nI b) (by rw [aq_c82 hk]; exact h2) ⟨aq_v83 hk, nm_r (e' := nI e) (by rw [aq_c83 hk]; exact h3) ⟨aq_v80 hk, nm_r (e' := upd ms (k * 8) 0) (by rw [aq_c80 hk]) ?_⟩⟩⟩⟩⟩
    exact br_f (by decide) (br_f (by decide) (br_f (by decide) (br_t rfl (hy _ hp))))
theorem aq_Ld5 (J : qd_I B cN rN sN oN wN ph gh rh oC oK oR oS oT cC cO cH lT sI sK sT cM gT (upd ms (k * 8) 0) cR) (hs : sN ≤ 48) (h64 : oN ≤ 64) (hks : k < sN) (hu : ¬ ms (k * 8) = 0) (h0 : ms (k * 8) = nI 5) (h1 : ms (k * 8 + 1) = nI a) (h2 : ms (k * 8 + 2) = nI b) (h3 : ms (k * 8 + 3) = nI e) (hg : iT = qd_ci (fun r => ms (k * 8 + 4 + r)) g 4) (hb1 : 1 ≤ b) (hbo : b ≤ oN) (he : e ≤ wN) : qd_LS B (fun post => wpX_deliver post (nI cN, nI rN, nI sN, nI oN, ph, nI wN, gh, oC, oK, oR, oS, oT, oW, cC, cO, cH, lT, sI, sK, sT, cM, gT, qd_K ms, qd_S ms, qd_O ms, qd_C ms, qd_T ms, g, uT) (nI k)) (fun post => wpY_deliver post (nI cN, nI rN, nI sN, nI oN, ph, nI wN, rh, cM, oC, oK, oR, oW, oS, oT, cC, cO, cH, cR, sI, sK, sT, gT, ms) (nI k)) := by
  have hk : k < 48 := by omega
  have hv : vp_in (nI k) 48 := vp_in_nI (by omega) (by omega)
  have ek : (nI k).toNatClampNeg = k := nI_clamp (by omega)
  obtain ⟨r, v, hx, hy⟩ := aq_Lrd (iT := iT) (uT := uT) (oW := oW) J hb1 hbo he
  rw [aq_fK, aq_fS, aq_fO, aq_fC, aq_fT] at hx
  rw [hg] at hx
  refine ⟨r, v, fun P hp => aq_xdel hs hks hu h0 h1 h2 h3 ?_, fun P hp => ?_⟩
  · refine br_t (by decide) ⟨hv, nm_r (e' := upd (qd_K ms) k 0) (by rw [ek]) ?_⟩
    exact br_f (by decide) (br_f (by decide) (br_f (by decide) (br_f (by decide) (br_f (by decide) (br_f (by decide) (br_t rfl (hx _ fun u hu => by obtain ⟨_, _, _, _, _, _, _, _, _, _, _, _, _, _, _, _, _, _, _, _, _, _, _, _, _, _, _, _, _⟩ := u; exact hp _ hu)))))))
  · obtain ⟨_, _, _, _, _, _, _, _, _, _, _, _, _, _, _, _, _, _, _, _, _, _, _⟩ := v
    unfold wpY_deliver
    refine aq_yu0 hs hks hu ?_
    refine br_t rfl ⟨aq_v80 hk, nm_r (e' := nI 5) (by rw [aq_c80 hk]; exact h0) ⟨aq_v81 hk, nm_r (e' := nI a) (by rw [aq_c81 hk]; exact h1) ⟨aq_v82 hk, nm_r (e' := nI b) (by rw [aq_c82 hk]; exact h2) ⟨aq_v83 hk, nm_r (e' := nI e) (by rw [aq_c83 hk]; exact h3) ⟨aq_v80 hk, nm_r (e' := upd ms (k * 8) 0) (by rw [aq_c80 hk]) ?_⟩⟩⟩⟩⟩
    exact br_f (by decide) (br_f (by decide) (br_f (by decide) (br_f (by decide) (br_t rfl ⟨vp_in_nI (show b < 65 by omega) (by omega), by rw [nI_clamp (show b < 2 ^ 31 by omega)]; exact hy _ hp⟩))))
theorem aq_Ld6 (J : qd_I B cN rN sN oN wN ph gh rh oC oK oR oS oT cC cO cH lT sI sK sT cM gT (upd ms (k * 8) 0) cR) (hs : sN ≤ 48) (h64 : oN ≤ 64) (hks : k < sN) (hu : ¬ ms (k * 8) = 0) (h0 : ms (k * 8) = nI 6) (h1 : ms (k * 8 + 1) = nI a) (h2 : ms (k * 8 + 2) = nI b) (h3 : ms (k * 8 + 3) = nI e) (hg : iT = qd_ci (fun r => ms (k * 8 + 4 + r)) g 4) (ha : a < 5) (he : e < wN) (hbt : bt (cM e) a = true) : qd_LS B (fun post => wpX_deliver post (nI cN, nI rN, nI sN, nI oN, ph, nI wN, gh, oC, oK, oR, oS, oT, oW, cC, cO, cH, lT, sI, sK, sT, cM, gT, qd_K ms, qd_S ms, qd_O ms, qd_C ms, qd_T ms, g, uT) (nI k)) (fun post => wpY_deliver post (nI cN, nI rN, nI sN, nI oN, ph, nI wN, rh, cM, oC, oK, oR, oW, oS, oT, cC, cO, cH, cR, sI, sK, sT, gT, ms) (nI k)) := by
  have hk : k < 48 := by omega
  have hv : vp_in (nI k) 48 := vp_in_nI (by omega) (by omega)
  have ek : (nI k).toNatClampNeg = k := nI_clamp (by omega)
  obtain ⟨r, v, hx, hy⟩ := aq_Lsl (iT := iT) (uT := uT) (oW := oW) J ha he hbt
  rw [aq_fK, aq_fS, aq_fO, aq_fC, aq_fT] at hx
  rw [hg] at hx
  refine ⟨r, v, fun P hp => aq_xdel hs hks hu h0 h1 h2 h3 ?_, fun P hp => ?_⟩
  · refine br_t (by decide) ⟨hv, nm_r (e' := upd (qd_K ms) k 0) (by rw [ek]) ?_⟩
    exact br_f (by decide) (br_f (by decide) (br_f (by decide) (br_f (by decide) (br_f (by decide) (br_f (by decide) (br_f (by decide) (br_t rfl (hx _ fun u hu => by obtain ⟨_, _, _, _, _, _, _, _, _, _, _, _, _, _, _, _, _, _, _, _, _, _, _, _, _, _, _, _, _⟩ := u; exact hp _ hu))))))))
  · obtain ⟨_, _, _, _, _, _, _, _, _, _, _, _, _, _, _, _, _, _, _, _, _, _, _⟩ := v
    unfold wpY_deliver
    refine aq_yu0 hs hks hu ?_
    refine br_t rfl ⟨aq_v80 hk, nm_r (e' := nI 6) (by rw [aq_c80 hk]; exact h0) ⟨aq_v81 hk, nm_r (e' := nI a) (by rw [aq_c81 hk]; exact h1) ⟨aq_v82 hk, nm_r (e' := nI b) (by rw [aq_c82 hk]; exact h2) ⟨aq_v83 hk, nm_r (e' := nI e) (by rw [aq_c83 hk]; exact h3) ⟨aq_v80 hk, nm_r (e' := upd ms (k * 8) 0) (by rw [aq_c80 hk]) ?_⟩⟩⟩⟩⟩
    exact br_f (by decide) (br_f (by decide) (br_f (by decide) (br_f (by decide) (br_f (by decide) (br_t rfl (hy _ hp))))))
theorem aq_Ld7 (J : qd_I B cN rN sN oN wN ph gh rh oC oK oR oS oT cC cO cH lT sI sK sT cM gT (upd ms (k * 8) 0) cR) (hs : sN ≤ 48) (h64 : oN ≤ 64) (hks : k < sN) (hu : ¬ ms (k * 8) = 0) (h0 : ms (k * 8) = nI 7) (h1 : ms (k * 8 + 1) = nI a) (h2 : ms (k * 8 + 2) = nI b) (h3 : ms (k * 8 + 3) = nI e) (hg : iT = qd_ci (fun r => ms (k * 8 + 4 + r)) g 4) (hi : ∀ i, i < 4 → iT i = upd ms (k * 8) 0 (k * 8 + 4 + i)) (ht : qd_TV rN B (fun r => upd ms (k * 8) 0 (k * 8 + 4 + r))) (ha : a < 5) (he : e < wN) (hbt : bt (cM e) a = true) : qd_LS B (fun post => wpX_deliver post (nI cN, nI rN, nI sN, nI oN, ph, nI wN, gh, oC, oK, oR, oS, oT, oW, cC, cO, cH, lT, sI, sK, sT, cM, gT, qd_K ms, qd_S ms, qd_O ms, qd_C ms, qd_T ms, g, uT) (nI k)) (fun post => wpY_deliver post (nI cN, nI rN, nI sN, nI oN, ph, nI wN, rh, cM, oC, oK, oR, oW, oS, oT, cC, cO, cH, cR, sI, sK, sT, gT, ms) (nI k)) := by
  have hk : k < 48 := by omega
  have hv : vp_in (nI k) 48 := vp_in_nI (by omega) (by omega)
  have ek : (nI k).toNatClampNeg = k := nI_clamp (by omega)
  obtain ⟨r, v, hx, hy⟩ := aq_Lsa (iT := iT) (uT := uT) (oW := oW) J hk hi ht ha he hbt
  rw [aq_fK, aq_fS, aq_fO, aq_fC, aq_fT] at hx
  rw [hg] at hx
  refine ⟨r, v, fun P hp => aq_xdel hs hks hu h0 h1 h2 h3 ?_, fun P hp => ?_⟩
  · refine br_t (by decide) ⟨hv, nm_r (e' := upd (qd_K ms) k 0) (by rw [ek]) ?_⟩
    exact br_f (by decide) (br_f (by decide) (br_f (by decide) (br_f (by decide) (br_f (by decide) (br_f (by decide) (br_f (by decide) (br_f (by decide) (br_t rfl (hx _ fun u hu => by obtain ⟨_, _, _, _, _, _, _, _, _, _, _, _, _, _, _, _, _, _, _, _, _, _, _, _, _, _, _, _, _⟩ := u; exact hp _ hu)))))))))
  · obtain ⟨_, _, _, _, _, _, _, _, _, _, _, _, _, _, _, _, _, _, _, _, _, _, _⟩ := v
    unfold wpY_deliver
    refine aq_yu0 hs hks hu ?_
    refine br_t rfl ⟨aq_v80 hk, nm_r (e' := nI 7) (by rw [aq_c80 hk]; exact h0) ⟨aq_v81 hk, nm_r (e' := nI a) (by rw [aq_c81 hk]; exact h1) ⟨aq_v82 hk, nm_r (e' := nI b) (by rw [aq_c82 hk]; exact h2) ⟨aq_v83 hk, nm_r (e' := nI e) (by rw [aq_c83 hk]; exact h3) ⟨aq_v80 hk, nm_r (e' := upd ms (k * 8) 0) (by rw [aq_c80 hk]) ?_⟩⟩⟩⟩⟩
    exact br_f (by decide) (br_f (by decide) (br_f (by decide) (br_f (by decide) (br_f (by decide) (br_f (by decide) (br_f (by decide) (br_t rfl (hy _ hp))))))))
theorem aq_Ld8 (J : qd_I B cN rN sN oN wN ph gh rh oC oK oR oS oT cC cO cH lT sI sK sT cM gT (upd ms (k * 8) 0) cR) (hs : sN ≤ 48) (h64 : oN ≤ 64) (hks : k < sN) (hu : ¬ ms (k * 8) = 0) (h0 : ms (k * 8) = nI 8) (h1 : ms (k * 8 + 1) = nI a) (h2 : ms (k * 8 + 2) = nI b) (h3 : ms (k * 8 + 3) = nI e) (hg : iT = qd_ci (fun r => ms (k * 8 + 4 + r)) g 4) (hi : ∀ i, i < 4 → iT i = upd ms (k * 8) 0 (k * 8 + 4 + i)) (ht : qd_TV rN B (fun r => upd ms (k * 8) 0 (k * 8 + 4 + r))) (ha : a < 5) (he : e ≤ wN) (hbt : bt (cM e) a = true) : qd_LS B (fun post => wpX_deliver post (nI cN, nI rN, nI sN, nI oN, ph, nI wN, gh, oC, oK, oR, oS, oT, oW, cC, cO, cH, lT, sI, sK, sT, cM, gT, qd_K ms, qd_S ms, qd_O ms, qd_C ms, qd_T ms, g, uT) (nI k)) (fun post => wpY_deliver post (nI cN, nI rN, nI sN, nI oN, ph, nI wN, rh, cM, oC, oK, oR, oW, oS, oT, cC, cO, cH, cR, sI, sK, sT, gT, ms) (nI k)) := by
  have hk : k < 48 := by omega
  have hv : vp_in (nI k) 48 := vp_in_nI (by omega) (by omega)
  have ek : (nI k).toNatClampNeg = k := nI_clamp (by omega)
  obtain ⟨r, v, hx, hy⟩ := aq_Lin (iT := iT) (uT := uT) (oW := oW) J hk hi ht ha he hbt
  rw [aq_fK, aq_fS, aq_fO, aq_fC, aq_fT] at hx
  rw [hg] at hx
  refine ⟨r, v, fun P hp => aq_xdel hs hks hu h0 h1 h2 h3 ?_, fun P hp => ?_⟩
  · refine br_t (by decide) ⟨hv, nm_r (e' := upd (qd_K ms) k 0) (by rw [ek]) ?_⟩
    exact br_f (by decide) (br_f (by decide) (br_f (by decide) (br_f (by decide) (br_f (by decide) (br_f (by decide) (br_f (by decide) (br_f (by decide) (br_f (by decide) (br_t rfl (hx _ fun u hu => by obtain ⟨_, _, _, _, _, _, _, _, _, _, _, _, _, _, _, _, _, _, _, _, _, _, _, _, _, _, _, _, _⟩ := u; exact hp _ hu))))))))))
  · obtain ⟨_, _, _, _, _, _, _, _, _, _, _, _, _, _, _, _, _, _, _, _, _, _, _⟩ := v
    unfold wpY_deliver
    refine aq_yu0 hs hks hu ?_
    refine br_t rfl ⟨aq_v80 hk, nm_r (e' := nI 8) (by rw [aq_c80 hk]; exact h0) ⟨aq_v81 hk, nm_r (e' := nI a) (by rw [aq_c81 hk]; exact h1) ⟨aq_v82 hk, nm_r (e' := nI b) (by rw [aq_c82 hk]; exact h2) ⟨aq_v83 hk, nm_r (e' := nI e) (by rw [aq_c83 hk]; exact h3) ⟨aq_v80 hk, nm_r (e' := upd ms (k * 8) 0) (by rw [aq_c80 hk]) ?_⟩⟩⟩⟩⟩
    exact br_f (by decide) (br_f (by decide) (br_f (by decide) (br_f (by decide) (br_f (by decide) (br_f (by decide) (br_t rfl (hy _ hp)))))))
theorem aq_Ld9 (J : qd_I B cN rN sN oN wN ph gh rh oC oK oR oS oT cC cO cH lT sI sK sT cM gT (upd ms (k * 8) 0) cR) (hs : sN ≤ 48) (h64 : oN ≤ 64) (hks : k < sN) (hu : ¬ ms (k * 8) = 0) (h0 : ms (k * 8) = nI 9) (h1 : ms (k * 8 + 1) = nI a) (h2 : ms (k * 8 + 2) = nI b) (h3 : ms (k * 8 + 3) = nI e) (hg : iT = qd_ci (fun r => ms (k * 8 + 4 + r)) g 4) (ha : a < 5) (he : e ≤ wN) (hbt : bt (cM e) a = true) : qd_LS B (fun post => wpX_deliver post (nI cN, nI rN, nI sN, nI oN, ph, nI wN, gh, oC, oK, oR, oS, oT, oW, cC, cO, cH, lT, sI, sK, sT, cM, gT, qd_K ms, qd_S ms, qd_O ms, qd_C ms, qd_T ms, g, uT) (nI k)) (fun post => wpY_deliver post (nI cN, nI rN, nI sN, nI oN, ph, nI wN, rh, cM, oC, oK, oR, oW, oS, oT, cC, cO, cH, cR, sI, sK, sT, gT, ms) (nI k)) := by
  have hk : k < 48 := by omega
  have hv : vp_in (nI k) 48 := vp_in_nI (by omega) (by omega)
  have ek : (nI k).toNatClampNeg = k := nI_clamp (by omega)
  obtain ⟨r, v, hx, hy⟩ := aq_Lia (k := k) (iT := iT) (uT := uT) (oW := oW) J ha he hbt
  rw [aq_fK, aq_fS, aq_fO, aq_fC, aq_fT] at hx
  rw [hg] at hx
  refine ⟨r, v, fun P hp => aq_xdel hs hks hu h0 h1 h2 h3 ?_, fun P hp => ?_⟩
  · refine br_t (by decide) ⟨hv, nm_r (e' := upd (qd_K ms) k 0) (by rw [ek]) ?_⟩
    exact br_f (by decide) (br_f (by decide) (br_f (by decide) (br_f (by decide) (br_f (by decide) (br_f (by decide) (br_f (by decide) (br_f (by decide) (br_f (by decide) (br_f (by decide) (br_t rfl (hx _ fun u hu => by obtain ⟨_, _, _, _, _, _, _, _, _, _, _, _, _, _, _, _, _, _, _, _, _, _, _, _, _, _, _, _, _⟩ := u; exact hp _ hu)))))))))))
  · obtain ⟨_, _, _, _, _, _, _, _, _, _, _, _, _, _, _, _, _, _, _, _, _, _, _⟩ := v
    unfold wpY_deliver
    refine aq_yu0 hs hks hu ?_
    refine br_t rfl ⟨aq_v80 hk, nm_r (e' := nI 9) (by rw [aq_c80 hk]; exact h0) ⟨aq_v81 hk, nm_r (e' := nI a) (by rw [aq_c81 hk]; exact h1) ⟨aq_v82 hk, nm_r (e' := nI b) (by rw [aq_c82 hk]; exact h2) ⟨aq_v83 hk, nm_r (e' := nI e) (by rw [aq_c83 hk]; exact h3) ⟨aq_v80 hk, nm_r (e' := upd ms (k * 8) 0) (by rw [aq_c80 hk]) ?_⟩⟩⟩⟩⟩
    exact br_f (by decide) (br_f (by decide) (br_f (by decide) (br_f (by decide) (br_f (by decide) (br_f (by decide) (br_f (by decide) (br_f (by decide) (hy _ hp))))))))
theorem aq_Ldel (I : qd_I B cN rN sN oN wN ph gh rh oC oK oR oS oT cC cO cH lT sI sK sT cM gT ms cR) (hB : B < 2 ^ 30) (p : Int32) : qd_LS (B + 7) (fun post => wpX_deliver post (nI cN, nI rN, nI sN, nI oN, ph, nI wN, gh, oC, oK, oR, oS, oT, oW, cC, cO, cH, lT, sI, sK, sT, cM, gT, qd_K ms, qd_S ms, qd_O ms, qd_C ms, qd_T ms, iT, uT) p) (fun post => wpY_deliver post (nI cN, nI rN, nI sN, nI oN, ph, nI wN, rh, cM, oC, oK, oR, oW, oS, oT, cC, cO, cH, cR, sI, sK, sT, gT, ms) p) := by
  obtain ⟨n1, n2, n3, n4, n5, n6, n7, n8, n9⟩ := I.1
  rcases aq_uc sN ms p (by omega) with h | ⟨k, hk, rfl, hu⟩
  · refine aq_LSI (oW := oW) (-1) (aq_Im I (show B ≤ B + 7 by omega)) (fun P hp => ?_) (fun P hp => ?_)
    · unfold wpX_deliver
      refine aq_xu0 n6 h ?_
      exact br_t rfl (hp _ _)
    · unfold wpY_deliver
      refine aq_yu1 n6 h ?_
      exact br_f (by decide) hp
  · obtain ⟨d, a, b, e, h0, h1, h2, h3, g1, g2, g3, g4, g5, g6, g7, g8, g9⟩ := I.2.1 k hu
    have J := aq_Ims I (aq_MIf (k := k) I.2.1)
    have hi : ∀ i, i < 4 → qd_ci (fun r => ms (k * 8 + 4 + r)) iT 4 i = upd ms (k * 8) 0 (k * 8 + 4 + i) := fun i hi => by
      rw [pk_un (by omega)]; exact if_pos hi
    have ht : qd_TV rN B (fun r => upd ms (k * 8) 0 (k * 8 + 4 + r)) := aq_TVc g9 fun r _ => pk_un (by omega)
    have hle : B ≤ B + 7 := by omega
    have hd : d = 1 ∨ d = 2 ∨ d = 3 ∨ d = 4 ∨ d = 5 ∨ d = 6 ∨ d = 7 ∨ d = 8 ∨ d = 9 := by omega
    rcases hd with rfl | rfl | rfl | rfl | rfl | rfl | rfl | rfl | rfl
    · exact aq_LSm hle (aq_Ld1 J n6 n7 hk hu h0 h1 h2 h3 rfl hi ht g3 (g6 (by omega)) g4 g5 (g7 (by omega)))
    · exact aq_Ld2 J n6 n7 hk hu h0 h1 h2 h3 rfl hi ht hB g3 (g6 (by omega)) g4 g5 (g7 (by omega))
    · exact aq_LSm hle (aq_Ld3 J n6 n7 hk hu h0 h1 h2 h3 rfl hi ht g3 (g6 (by omega)) g4 g5 (g7 (by omega)))
    · exact aq_LSm hle (aq_Ld4 J n6 n7 hk hu h0 h1 h2 h3 rfl g3 (g6 (by omega)) g4 g5 (g7 (by omega)))
    · exact aq_LSm hle (aq_Ld5 J n6 n7 hk hu h0 h1 h2 h3 rfl (g6 (by omega)) g4 g5)
    · exact aq_LSm hle (aq_Ld6 J n6 n7 hk hu h0 h1 h2 h3 rfl g3 (g8 (by omega)) (g7 (by omega)))
    · exact aq_LSm hle (aq_Ld7 J n6 n7 hk hu h0 h1 h2 h3 rfl hi ht g3 (g8 (by omega)) (g7 (by omega)))
    · exact aq_LSm hle (aq_Ld8 J n6 n7 hk hu h0 h1 h2 h3 rfl hi ht g3 g5 (g7 (by omega)))
    · exact aq_LSm hle (aq_Ld9 J n6 n7 hk hu h0 h1 h2 h3 rfl g3 g5 (g7 (by omega)))
end
end
section
/-! the public calls that change something, but for run -/
theorem aq_mfi {ms : Nat → Int32} {k i : Nat} (hi : i < 8) : qd_mf (ms (k * 8)) (ms (k * 8 + 1)) (ms (k * 8 + 2)) (ms (k * 8 + 3)) (fun r => ms (k * 8 + 4 + r)) i = ms (k * 8 + i) := by
  unfold qd_mf
  by_cases h0 : i = 0
  · rw [if_pos h0, h0]; rfl
  · rw [if_neg h0]
    by_cases h1 : i = 1
    · rw [if_pos h1, h1]
    · rw [if_neg h1]
      by_cases h2 : i = 2
      · rw [if_pos h2, h2]
      · rw [if_neg h2]
        by_cases h3 : i = 3
        · rw [if_pos h3, h3]
        · rw [if_neg h3]
          show ms (k * 8 + 4 + (i - 4)) = ms (k * 8 + i)
          rw [show k * 8 + 4 + (i - 4) = k * 8 + i by omega]
section
variable {cN rN sN oN wN B : Nat} {ph gh rh : Int32} {oC oK oR oS oT oW cC cO cH lT sI sK sT cM gT ms iT uT cR : Nat → Int32}
variable {s j q m r k : Nat} {x y kd p0 p1 val : Int32} {post2 : Int32 → SX → Prop} {post3 : Int32 → SY → Prop} {mT t f : Nat → Int32}
theorem aq_Lbeg (I : qd_I B cN rN sN oN wN ph gh rh oC oK oR oS oT cC cO cH lT sI sK sT cM gT ms cR) : qd_LS B (fun post => wpX_begin post (nI cN, nI rN, nI sN, nI oN, ph, nI wN, gh, oC, oK, oR, oS, oT, oW, cC, cO, cH, lT, sI, sK, sT, cM, gT, qd_K ms, qd_S ms, qd_O ms, qd_C ms, qd_T ms, iT, uT) p0 p1 kd val) (fun post => wpY_begin post (nI cN, nI rN, nI sN, nI oN, ph, nI wN, rh, cM, oC, oK, oR, oW, oS, oT, cC, cO, cH, cR, sI, sK, sT, gT, ms) p0 p1 kd val) := by
  obtain ⟨n1, n2, n3, n4, n5, n6, n7, n8, n9⟩ := I.1
  rcases aq_noc cN p0 (by omega) with h | ⟨j, hj, rfl⟩
  · refine aq_LSI (oW := oW) (-1) I (fun P hp => ?_) (fun P hp => ?_)
    · unfold wpX_begin
      refine aq_xc0 h ?_
      exact br_t rfl (hp _ _)
    · unfold wpY_begin
      refine aq_yc1 h ?_
      exact br_f (by decide) hp
  · rcases aq_noc rN p1 (by omega) with h | ⟨r, hr, rfl⟩
    · refine aq_LSI (oW := oW) (-1) I (fun P hp => ?_) (fun P hp => ?_)
      · unfold wpX_begin
        refine aq_xc1 hj (by omega) ?_
        refine br_f (by decide) (aq_xr0 h ?_)
        exact br_t rfl (hp _ _)
      · unfold wpY_begin
        refine aq_yc0 hj (by omega) ?_
        refine br_t rfl (aq_yr1 h ?_)
        exact br_f (by decide) hp
    · have hv : vp_in (nI j) 4 := vp_in_nI (by omega) (by omega)
      have ej : (nI j).toNatClampNeg = j := nI_clamp (by omega)
      by_cases hO : cO j = 0
      · by_cases hN : oN < 64
        · have hlt : nI oN < 64 := nI_lt (b := 64) hN (by decide)
          have hw : vp_in (nI (oN + 1)) 65 := vp_in_nI (by omega) (by omega)
          have ew : (nI (oN + 1)).toNatClampNeg = oN + 1 := nI_clamp (by omega)
          obtain ⟨p, m, e1, e2, e3, e4, e5, e6, e7⟩ := I.2.2.2.2.1 j (by omega)
          have J := aq_Ibeg (kd := kd) (r := r) I (show j < 4 by omega) hO hr hN
          have M := aq_MIrq (n := sN) (x := upd oS (oN + 1) 1 (oN + 1)) (set := cM m) (q := oN + 1) (m := m) (r := r) (y := upd oT (oN + 1) 0 (oN + 1)) J.2.1 (by omega) (Nat.le_refl _) e4 hr (by rw [pk_us]; exact aq_Tg0 B) (fun i hi => hi)
          refine aq_LSI (oW := upd oW (oN + 1) val) (nI (oN + 1)) (aq_Ims J M) (fun P hp => ?_) (fun P hp => ?_)
          · unfold wpX_begin
            refine aq_xc1 hj (by omega) ?_
            refine br_f (by decide) (aq_xr1 hr (by omega) ?_)
            refine br_f (by decide) ⟨hv, ?_⟩
            rw [ej]
            refine br_t hO (br_t hlt (nm_r (nI_1 oN) ?_))
            rw [ew]
            exact ⟨hw, nm_e ⟨hw, nm_e ⟨hw, nm_e ⟨hw, nm_e ⟨hw, nm_e ⟨hw, nm_e ⟨hv, nm_e (aq_xrnd n6 (by omega) pk_us (by omega) pk_us (by omega) e3 (by omega) fun uT' => hp _ uT')⟩⟩⟩⟩⟩⟩⟩
          · unfold wpY_begin
            refine aq_yc0 hj (by omega) ?_
            refine br_t rfl (aq_yr0 hr (by omega) ?_)
            refine br_t rfl ⟨hv, ?_⟩
            rw [ej]
            refine br_t hO (br_t hlt (nm_r (nI_1 oN) ?_))
            rw [ew]
            exact ⟨hw, nm_e ⟨hw, nm_e ⟨hw, nm_e ⟨hw, nm_e ⟨hw, nm_e ⟨hw, nm_e ⟨hv, nm_e (aq_yrnd n6 (by omega) pk_us (by omega) pk_us (by omega) e3 (by omega) hp)⟩⟩⟩⟩⟩⟩⟩
        · have hlt : ¬ nI oN < 64 := nI_nlt (b := 64) (by omega) (by omega)
          refine aq_LSI (oW := oW) (-3) I (fun P hp => ?_) (fun P hp => ?_)
          · unfold wpX_begin
            refine aq_xc1 hj (by omega) ?_
            refine br_f (by decide) (aq_xr1 hr (by omega) ?_)
            refine br_f (by decide) ⟨hv, ?_⟩
            rw [ej]
            exact br_t hO (br_f hlt (hp _ _))
          · unfold wpY_begin
            refine aq_yc0 hj (by omega) ?_
            refine br_t rfl (aq_yr0 hr (by omega) ?_)
            refine br_t rfl ⟨hv, ?_⟩
            rw [ej]
            exact br_t hO (br_f hlt hp)
      · refine aq_LSI (oW := oW) (-2) I (fun P hp => ?_) (fun P hp => ?_)
        · unfold wpX_begin
          refine aq_xc1 hj (by omega) ?_
          refine br_f (by decide) (aq_xr1 hr (by omega) ?_)
          refine br_f (by decide) ⟨hv, ?_⟩
          rw [ej]
          exact br_f hO (hp _ _)
        · unfold wpY_begin
          refine aq_yc0 hj (by omega) ?_
          refine br_t rfl (aq_yr0 hr (by omega) ?_)
          refine br_t rfl ⟨hv, ?_⟩
          rw [ej]
          exact br_f hO hp
theorem aq_Lres (I : qd_I B cN rN sN oN wN ph gh rh oC oK oR oS oT cC cO cH lT sI sK sT cM gT ms cR) : qd_LS B (fun post => wpX_resend post (nI cN, nI rN, nI sN, nI oN, ph, nI wN, gh, oC, oK, oR, oS, oT, oW, cC, cO, cH, lT, sI, sK, sT, cM, gT, qd_K ms, qd_S ms, qd_O ms, qd_C ms, qd_T ms, iT, uT) p0) (fun post => wpY_resend post (nI cN, nI rN, nI sN, nI oN, ph, nI wN, rh, cM, oC, oK, oR, oW, oS, oT, cC, cO, cH, cR, sI, sK, sT, gT, ms) p0) := by
  obtain ⟨n1, n2, n3, n4, n5, n6, n7, n8, n9⟩ := I.1
  rcases aq_noc cN p0 (by omega) with h | ⟨j, hj, rfl⟩
  · refine aq_LSI (oW := oW) (-1) I (fun P hp => ?_) (fun P hp => ?_)
    · unfold wpX_resend
      refine aq_xc0 h ?_
      exact br_t rfl (hp _ _)
    · unfold wpY_resend
      refine aq_yc1 h ?_
      exact br_f (by decide) hp
  · have hv : vp_in (nI j) 4 := vp_in_nI (by omega) (by omega)
    have ej : (nI j).toNatClampNeg = j := nI_clamp (by omega)
    obtain ⟨q, m, e1, e2, e3, e4, e5, e6, e7⟩ := I.2.2.2.2.1 j (by omega)
    by_cases hq : q = 0
    · have hO : cO j = 0 := by rw [e1, hq]; rfl
      refine aq_LSI (oW := oW) (-1) I (fun P hp => ?_) (fun P hp => ?_)
      · unfold wpX_resend
        refine aq_xc1 hj (by omega) ?_
        refine br_f (by decide) ⟨hv, ?_⟩
        rw [ej]
        exact br_t hO (hp _ _)
      · unfold wpY_resend
        refine aq_yc0 hj (by omega) ?_
        refine br_t rfl ⟨hv, ?_⟩
        rw [ej]
        exact br_t hO hp
    · have hO : ¬ cO j = 0 := by rw [e1]; exact nI_ne0 (by omega) (by omega)
      obtain ⟨_, r, _, hr, _, _, _, _, _, hR, hT, _⟩ := aq_run I (show 1 ≤ q by omega) e2
      have M := aq_MIrq (n := sN) (x := oS q) (set := cM m &&& (cH j ^^^ (-1))) (q := q) (m := m) (r := r) (y := oT q) I.2.1 (by omega) e2 e4 hr hT (fun i hi => aq_andn hi)
      refine aq_LSI (oW := oW) (qd_rr sN (oS q) (cM m &&& (cH j ^^^ (-1))) q m r (oT q) ms) (aq_Ims I M) (fun P hp => ?_) (fun P hp => ?_)
      · unfold wpX_resend
        refine aq_xc1 hj (by omega) ?_
        refine br_f (by decide) ⟨hv, ?_⟩
        rw [ej]
        exact br_f hO (aq_xreq n6 (by omega) e1 (by omega) hR (by omega) e3 (by omega) fun uT' => hp _ uT')
      · unfold wpY_resend
        refine aq_yc0 hj (by omega) ?_
        refine br_t rfl ⟨hv, ?_⟩
        rw [ej]
        exact br_f hO (aq_yreq n6 (by omega) e1 (by omega) hR (by omega) e3 (by omega) hp)
/-- reconfigure -/
theorem aq_Irec {b : Nat} (h : qd_I B cN rN sN oN wN ph gh rh oC oK oR oS oT cC cO cH lT sI sK sT cM gT ms cR) (hw : wN < 8) (hb1 : 1 ≤ b) (hb2 : b ≤ 31) : qd_I B cN rN sN oN (wN + 1) 1 0 0 oC oK oR oS oT cC cO cH lT sI sK sT (upd cM (wN + 1) (nI b)) (qd_zi gT 4) ms cR := by
  obtain ⟨h1, h2, h3, h4, h5, h6, h7, h8, h9, h10, h11⟩ := h
  obtain ⟨n1, n2, n3, n4, n5, n6, n7, n8, n9⟩ := h1
  have e : ∀ e, e ≤ wN → upd cM (wN + 1) (nI b) e = cM e := fun e he => pk_un (by omega)
  refine ⟨⟨n1, n2, n3, n4, n5, n6, n7, by omega, by omega⟩, aq_MIm h2 (Nat.le_refl _) (by omega) (Nat.le_refl _) e, h3, h4, fun c g1 => ?_, h6, fun s hs => ?_, h8, fun r hr => ?_, fun m g1 g2 => ?_, Or.inr (Or.inl ⟨rfl, by omega, rfl, aq_sub0 _⟩)⟩
  · obtain ⟨p, m', e1, e2, e3, e4, e5, e6, e7⟩ := h5 c g1
    exact ⟨p, m', e1, e2, e3, by omega, e5, e6, by rw [e m' e4]; exact e7⟩
  · obtain ⟨a, c, e1, e2, e3, e4⟩ := h7 s hs
    exact ⟨a, c, e1, by omega, e3, by omega⟩
  · rw [aq_zi4 hr]; exact ⟨aq_Tg0 B, fun _ => rfl⟩
  · by_cases z : m = wN + 1
    · exact ⟨b, hb1, hb2, by rw [z, pk_us]⟩
    · rw [pk_un z]; exact h10 m g1 (by omega)
theorem aq_xrl (hs : sN ≤ 48) (h1 : 1 ≤ wN) (h8 : wN ≤ 8) (hp : ∀ uT', post2 (nI wN) (nI cN, nI rN, nI sN, nI oN, 1, nI wN, 0, oC, oK, oR, oS, oT, oW, cC, cO, cH, lT, sI, sK, sT, cM, qd_zi gT 4, qd_K (qd_sam sN 6 (cM (wN - 1)) 0 (nI (wN - 1)) (fun _ => 0) ms), qd_S (qd_sam sN 6 (cM (wN - 1)) 0 (nI (wN - 1)) (fun _ => 0) ms), qd_O (qd_sam sN 6 (cM (wN - 1)) 0 (nI (wN - 1)) (fun _ => 0) ms), qd_C (qd_sam sN 6 (cM (wN - 1)) 0 (nI (wN - 1)) (fun _ => 0) ms), qd_T (qd_sam sN 6 (cM (wN - 1)) 0 (nI (wN - 1)) (fun _ => 0) ms), iT, uT')) : ∀ d i, i + d = 4 → wX_reconfigure_67 post2 (nI cN) (nI rN) (nI sN) (nI oN) 1 (nI wN) 0 (d + 1) (nI i) oC oK oR oS oT oW cC cO cH lT sI sK sT cM (qd_zi gT i) (qd_K ms) (qd_S ms) (qd_O ms) (qd_C ms) (qd_T ms) iT uT := by
  intro d
  induction d with
  | zero =>
    intro i hi
    have e : i = 4 := by omega
    subst e
    refine br_t (nI_le (a := 4) (b := 4) (by omega) (by omega)) (aq_xsr1 hs h1 h8 fun uT' => ?_)
    rw [aq_n0]
    exact hp uT'
  | succ d ih =>
    intro i hi
    exact br_f (nI_ge (b := 4) (by omega) (by decide)) ⟨vp_in_nI (by omega) (by omega), nm_r (e' := qd_zi gT (i + 1)) (by rw [nI_clamp (by omega)]; exact aq_zis) (nm_r (nI_1 i) (ih (i + 1) (by omega)))⟩
theorem aq_yrl (hs : sN ≤ 48) (h1 : 1 ≤ wN) (h8 : wN ≤ 8) (hp : post3 (nI wN) (nI cN, nI rN, nI sN, nI oN, 1, nI wN, 0, cM, oC, oK, oR, oW, oS, oT, cC, cO, cH, cR, sI, sK, sT, qd_zi gT 4, qd_sam sN 6 (cM (wN - 1)) 0 (nI (wN - 1)) (fun _ => 0) ms)) : ∀ d i, i + d = 4 → wY_reconfigure_67 post3 (nI cN) (nI rN) (nI sN) (nI oN) 1 (nI wN) 0 (d + 1) (nI i) cM oC oK oR oW oS oT cC cO cH cR sI sK sT (qd_zi gT i) ms := by
  intro d
  induction d with
  | zero =>
    intro i hi
    have e : i = 4 := by omega
    subst e
    refine br_t (nI_le (a := 4) (b := 4) (by omega) (by omega)) ?_
    rw [aq_s1 h1, nI_clamp (show wN - 1 < 2 ^ 31 by omega)]
    refine ⟨vp_in_nI (by omega) (by omega), aq_yss hs (t := fun _ => 0) (fun j i ms' p _ hi hpp => aq_car0 (by decide) (by decide) (by decide) (by decide) hpp) hp⟩
  | succ d ih =>
    intro i hi
    exact br_f (nI_ge (b := 4) (by omega) (by decide)) ⟨vp_in_nI (by omega) (by omega), nm_r (e' := qd_zi gT (i + 1)) (by rw [nI_clamp (by omega)]; exact aq_zis) (nm_r (nI_1 i) (ih (i + 1) (by omega)))⟩
theorem aq_Lrec (I : qd_I B cN rN sN oN wN ph gh rh oC oK oR oS oT cC cO cH lT sI sK sT cM gT ms cR) : qd_LS B (fun post => wpX_reconfigure post (nI cN, nI rN, nI sN, nI oN, ph, nI wN, gh, oC, oK, oR, oS, oT, oW, cC, cO, cH, lT, sI, sK, sT, cM, gT, qd_K ms, qd_S ms, qd_O ms, qd_C ms, qd_T ms, iT, uT) p0) (fun post => wpY_reconfigure post (nI cN, nI rN, nI sN, nI oN, ph, nI wN, rh, cM, oC, oK, oR, oW, oS, oT, cC, cO, cH, cR, sI, sK, sT, gT, ms) p0) := by
  obtain ⟨n1, n2, n3, n4, n5, n6, n7, n8, n9⟩ := I.1
  by_cases h1 : p0 < 1
  · exact aq_LSI (oW := oW) (-1) I (fun P hp => br_t h1 (hp _ _)) (fun P hp => br_t h1 hp)
  · by_cases h2 : p0 ≤ 31
    · by_cases h3 : ph = 0
      · by_cases h4 : wN < 8
        · have hlt : nI wN < 8 := nI_lt (b := 8) h4 (by decide)
          obtain ⟨b, hb, rfl⟩ := nI_of2 (x := p0) (M := 31) (n := 31) (by decide) (fun z => h1 (Int32.lt_trans z (by decide))) h2
          have hb1 : 1 ≤ b := by
            by_cases z : b = 0
            · subst z; exact absurd (by decide) h1
            · omega
          have hw : vp_in (nI (wN + 1)) 9 := vp_in_nI (by omega) (by omega)
          have ew : (nI (wN + 1)).toNatClampNeg = wN + 1 := nI_clamp (by omega)
          have J := aq_Irec I h4 hb1 hb
          have M := aq_MIsam (d := 6) (q := 0) (m := wN + 1 - 1) (n := sN) (set := upd cM (wN + 1) (nI b) (wN + 1 - 1)) (t := fun _ => 0) J.2.1 (by omega) (by omega) (by omega) (by omega) (fun z => by omega) (fun i hi => hi) (fun z => by omega) aq_TV0
          refine aq_LSI (oW := oW) (nI (wN + 1)) (aq_Ims J M) (fun P hp => ?_) (fun P hp => ?_)
          · have L := aq_xrl (post2 := P) (wN := wN + 1) (cM := upd cM (wN + 1) (nI b)) (gT := gT) (uT := uT) n6 (by omega) (by omega) (fun uT' => hp iT uT') 4 0 rfl
            rw [aq_zi0] at L
            exact br_f h1 (br_t h2 (br_t h3 (br_t hlt (nm_r (nI_1 wN) ⟨hw, nm_r (e' := upd cM (wN + 1) (nI b)) (by rw [ew]) ⟨5, L⟩⟩))))
          · have L := aq_yrl (post3 := P) (wN := wN + 1) (cM := upd cM (wN + 1) (nI b)) (gT := gT) n6 (by omega) (by omega) hp 4 0 rfl
            rw [aq_zi0] at L
            exact br_f h1 (br_t h2 (br_t h3 (br_t hlt (nm_r (nI_1 wN) ⟨hw, nm_r (e' := upd cM (wN + 1) (nI b)) (by rw [ew]) ⟨5, L⟩⟩))))
        · have hlt : ¬ nI wN < 8 := nI_nlt (b := 8) (by omega) (by omega)
          exact aq_LSI (oW := oW) (-3) I (fun P hp => br_f h1 (br_t h2 (br_t h3 (br_f hlt (hp _ _))))) (fun P hp => br_f h1 (br_t h2 (br_t h3 (br_f hlt hp))))
      · exact aq_LSI (oW := oW) (-2) I (fun P hp => br_f h1 (br_t h2 (br_f h3 (hp _ _)))) (fun P hp => br_f h1 (br_t h2 (br_f h3 hp)))
    · exact aq_LSI (oW := oW) (-1) I (fun P hp => br_f h1 (br_f h2 (hp _ _))) (fun P hp => br_f h1 (br_f h2 hp))
theorem aq_Lrsr (I : qd_I B cN rN sN oN wN ph gh rh oC oK oR oS oT cC cO cH lT sI sK sT cM gT ms cR) : qd_LS B (fun post => wpX_resendReconfiguration post (nI cN, nI rN, nI sN, nI oN, ph, nI wN, gh, oC, oK, oR, oS, oT, oW, cC, cO, cH, lT, sI, sK, sT, cM, gT, qd_K ms, qd_S ms, qd_O ms, qd_C ms, qd_T ms, iT, uT)) (fun post => wpY_resendReconfiguration post (nI cN, nI rN, nI sN, nI oN, ph, nI wN, rh, cM, oC, oK, oR, oW, oS, oT, cC, cO, cH, cR, sI, sK, sT, gT, ms)) := by
  obtain ⟨n1, n2, n3, n4, n5, n6, n7, n8, n9⟩ := I.1
  rcases I.2.2.2.2.2.2.2.2.2.2 with rfl | ⟨rfl, h2, rfl, hsub⟩ | ⟨rfl, rfl, hsub⟩
  · exact aq_LSI (oW := oW) (-1) I (fun P hp => br_t rfl (hp _ _)) (fun P hp => br_t rfl hp)
  · have M := aq_MIsam (d := 6) (q := 0) (m := wN - 1) (n := sN) (set := cM (wN - 1) &&& (gh ^^^ (-1))) (t := fun _ => 0) I.2.1 (by omega) (by omega) (by omega) (by omega) (fun z => by omega) (fun i hi => aq_andn hi) (fun z => by omega) aq_TV0
    refine aq_LSI (oW := oW) (qd_sar sN 6 (cM (wN - 1) &&& (gh ^^^ (-1))) 0 (nI (wN - 1)) (fun _ => 0) ms) (aq_Ims I M) (fun P hp => ?_) (fun P hp => ?_)
    · exact br_f (by decide) (aq_xsr1 n6 n8 n9 fun uT' => hp _ uT')
    · refine br_f (by decide) (br_t rfl ?_)
      rw [aq_s1 n8, nI_clamp (show wN - 1 < 2 ^ 31 by omega)]
      exact ⟨vp_in_nI (by omega) (by omega), aq_yss n6 (t := fun _ => 0) (fun j i ms' p _ hi hpp => aq_car0 (by decide) (by decide) (by decide) (by decide) hpp) hp⟩
  · have M := aq_MIsam (d := 8) (q := 0) (m := wN) (n := sN) (set := cM wN &&& (gh ^^^ (-1))) I.2.1 (by omega) (by omega) (by omega) (by omega) (fun z => by omega) (fun i hi => aq_andn hi) (fun z => by omega) I.2.2.2.2.2.2.2.2.1
    refine aq_LSI (oW := oW) (qd_sar sN 8 (cM wN &&& (gh ^^^ (-1))) 0 (nI wN) gT ms) (aq_Ims I M) (fun P hp => ?_) (fun P hp => ?_)
    · exact br_f (by decide) (aq_xsr2 n6 n9 n4 (fun i h1 h2 => (I.2.2.2.2.2.2.2.2.1 i h2).2 h1) (by decide) fun uT' => hp _ uT')
    · refine br_f (by decide) (br_f (by decide) ⟨vp_in_nI (by omega) (by omega), ?_⟩)
      rw [nI_clamp (show wN < 2 ^ 31 by omega)]
      exact aq_yss n6 (fun j i ms' p _ hi hpp => aq_car8 hi hpp) hp
/-- repeat, lose -/
theorem aq_xrp {k2 : Nat} {mK mS mO mC : Nat → Int32} (hk : k < 48) (hk2 : k2 < 48) (hne : k ≠ k2) (hp : post2 (nI k2) (nI cN, nI rN, nI sN, nI oN, ph, nI wN, gh, oC, oK, oR, oS, oT, oW, cC, cO, cH, lT, sI, sK, sT, cM, gT, mK, mS, mO, mC, qd_aT (qd_T ms) k2 4 (fun r => ms (k * 8 + 4 + r)), iT, uT)) : ∀ d i, i + d = 4 → wX_repeat_72 post2 (nI k) (nI k2) (nI cN) (nI rN) (nI sN) (nI oN) ph (nI wN) gh (d + 1) (nI i) oC oK oR oS oT oW cC cO cH lT sI sK sT cM gT mK mS mO mC (qd_aT (qd_T ms) k2 i (fun r => ms (k * 8 + 4 + r))) iT uT := by
  intro d
  induction d with
  | zero =>
    intro i hi
    have e : i = 4 := by omega
    subst e
    exact br_t (nI_le (a := 4) (b := 4) (by omega) (by omega)) hp
  | succ d ih =>
    intro i hi
    have e : qd_aT (qd_T ms) k2 i (fun r => ms (k * 8 + 4 + r)) (k * 4 + i) = ms (k * 8 + 4 + i) := by
      exact (if_neg (by omega)).trans (aq_Tij (show i < 4 by omega))
    exact br_f (nI_ge (b := 4) (by omega) (by decide)) ⟨aq_v4 (by omega) (by omega), aq_v4 (by omega) (by omega), nm_r (e' := qd_aT (qd_T ms) k2 (i + 1) (fun r => ms (k * 8 + 4 + r))) (by rw [aq_c4 (by omega), aq_c4 (by omega), e]; exact aq_aTs (t := fun r => ms (k * 8 + 4 + r)) (by omega)) (nm_r (nI_1 i) (ih (i + 1) (by omega)))⟩
theorem aq_yrp {k2 : Nat} (hk : k < 48) (hk2 : k2 < 48) (hne : k ≠ k2) (hf : ∀ i, i < 8 → f i = ms (k * 8 + i)) (hp : post3 (nI k2) (nI cN, nI rN, nI sN, nI oN, ph, nI wN, rh, cM, oC, oK, oR, oW, oS, oT, cC, cO, cH, cR, sI, sK, sT, gT, qd_am ms k2 8 f)) : ∀ d i, i + d = 8 → wY_repeat_24 post3 (nI k) (nI k2) (nI cN) (nI rN) (nI sN) (nI oN) ph (nI wN) rh (d + 1) (nI i) cM oC oK oR oW oS oT cC cO cH cR sI sK sT gT (qd_am ms k2 i f) := by
  intro d
  induction d with
  | zero =>
    intro i hi
    have e : i = 8 := by omega
    subst e
    exact br_t (nI_le (a := 8) (b := 8) (by omega) (by omega)) hp
  | succ d ih =>
    intro i hi
    have e : qd_am ms k2 i f (k * 8 + i) = f i := by
      rw [hf i (by omega)]; exact if_neg (by omega)
    exact br_f (nI_ge (b := 8) (by omega) (by decide)) ⟨aq_v8 hk (by omega), aq_v8 hk2 (by omega), nm_r (e' := qd_am ms k2 (i + 1) f) (by rw [aq_c8 hk (by omega), aq_c8 hk2 (by omega), e]; exact aq_ams (by omega)) (nm_r (nI_1 i) (ih (i + 1) (by omega)))⟩
theorem aq_Lrep (I : qd_I B cN rN sN oN wN ph gh rh oC oK oR oS oT cC cO cH lT sI sK sT cM gT ms cR) : qd_LS B (fun post => wpX_repeat post (nI cN, nI rN, nI sN, nI oN, ph, nI wN, gh, oC, oK, oR, oS, oT, oW, cC, cO, cH, lT, sI, sK, sT, cM, gT, qd_K ms, qd_S ms, qd_O ms, qd_C ms, qd_T ms, iT, uT) p0) (fun post => wpY_repeat post (nI cN, nI rN, nI sN, nI oN, ph, nI wN, rh, cM, oC, oK, oR, oW, oS, oT, cC, cO, cH, cR, sI, sK, sT, gT, ms) p0) := by
  obtain ⟨n1, n2, n3, n4, n5, n6, n7, n8, n9⟩ := I.1
  rcases aq_uc sN ms p0 (by omega) with h | ⟨k, hk, rfl, hu⟩
  · refine aq_LSI (oW := oW) (-1) I (fun P hp => ?_) (fun P hp => ?_)
    · unfold wpX_repeat
      refine aq_xu0 n6 h ?_
      exact br_t rfl (hp _ _)
    · unfold wpY_repeat
      refine aq_yu1 n6 h ?_
      exact br_f (by decide) hp
  · rcases aq_ff ms sN with h | ⟨k2, hk2, hf, h⟩
    · refine aq_LSI (oW := oW) (-3) I (fun P hp => ?_) (fun P hp => ?_)
      · unfold wpX_repeat
        refine aq_xu1 n6 hk hu ?_
        refine br_f (by decide) (aq_xlf n6 ?_)
        rw [h]
        exact br_f (by decide) (hp _ _)
      · unfold wpY_repeat
        refine aq_yu0 n6 hk hu ?_
        refine br_t rfl (aq_yff n6 ?_)
        rw [h]
        exact br_f (by decide) hp
    · have hne : k ≠ k2 := fun z => hu (z ▸ hf)
      have M := aq_MIps (k := k2) I.2.1 (I.2.1 k hu)
      have hv : vp_in (nI k) 48 := vp_in_nI (by omega) (by omega)
      have hv2 : vp_in (nI k2) 48 := vp_in_nI (by omega) (by omega)
      have ek : (nI k).toNatClampNeg = k := nI_clamp (by omega)
      have ek2 : (nI k2).toNatClampNeg = k2 := nI_clamp (by omega)
      refine aq_LSI (oW := oW) (nI k2) (aq_Ims I M) (fun P hp => ?_) (fun P hp => ?_)
      · have hq := hp iT uT
        rw [aq_psK, aq_psS, aq_psO, aq_psC, aq_psT (t := fun r => ms (k * 8 + 4 + r)) (fun r => aq_mf4 r)] at hq
        have L := aq_xrp (by omega) (by omega) hne hq 4 0 rfl
        rw [aq_aT0] at L
        unfold wpX_repeat
        refine aq_xu1 n6 hk hu ?_
        refine br_f (by decide) (aq_xlf n6 ?_)
        rw [h]
        exact br_t (nI_pos' (by omega)) ⟨hv, hv2, nm_r (e' := upd (qd_K ms) k2 (ms (k * 8))) (by rw [ek, ek2]; rfl) ⟨hv, hv2, nm_r (e' := upd (qd_S ms) k2 (ms (k * 8 + 1))) (by rw [ek, ek2]; rfl) ⟨hv, hv2, nm_r (e' := upd (qd_O ms) k2 (ms (k * 8 + 2))) (by rw [ek, ek2]; rfl) ⟨hv, hv2, nm_r (e' := upd (qd_C ms) k2 (ms (k * 8 + 3))) (by rw [ek, ek2]; rfl) ⟨5, L⟩⟩⟩⟩⟩
      · rw [← aq_am8] at hp
        have L := aq_yrp (show k < 48 by omega) (show k2 < 48 by omega) hne (fun i hi => aq_mfi hi) hp 8 0 rfl
        rw [aq_am0] at L
        unfold wpY_repeat
        refine aq_yu0 n6 hk hu ?_
        refine br_t rfl (aq_yff n6 ?_)
        rw [h]
        exact br_t (nI_pos' (by omega)) ⟨9, L⟩
theorem aq_Llos (I : qd_I B cN rN sN oN wN ph gh rh oC oK oR oS oT cC cO cH lT sI sK sT cM gT ms cR) : qd_LS B (fun post => wpX_lose post (nI cN, nI rN, nI sN, nI oN, ph, nI wN, gh, oC, oK, oR, oS, oT, oW, cC, cO, cH, lT, sI, sK, sT, cM, gT, qd_K ms, qd_S ms, qd_O ms, qd_C ms, qd_T ms, iT, uT) p0) (fun post => wpY_lose post (nI cN, nI rN, nI sN, nI oN, ph, nI wN, rh, cM, oC, oK, oR, oW, oS, oT, cC, cO, cH, cR, sI, sK, sT, gT, ms) p0) := by
  obtain ⟨n1, n2, n3, n4, n5, n6, n7, n8, n9⟩ := I.1
  rcases aq_uc sN ms p0 (by omega) with h | ⟨k, hk, rfl, hu⟩
  · refine aq_LSI (oW := oW) (-1) I (fun P hp => ?_) (fun P hp => ?_)
    · unfold wpX_lose
      refine aq_xu0 n6 h ?_
      exact br_t rfl (hp _ _)
    · unfold wpY_lose
      refine aq_yu1 n6 h ?_
      exact br_f (by decide) hp
  · have J := aq_Ims I (aq_MIf (k := k) I.2.1)
    have hv : vp_in (nI k) 48 := vp_in_nI (by omega) (by omega)
    have ek : (nI k).toNatClampNeg = k := nI_clamp (by omega)
    refine aq_LSI (oW := oW) 0 J (fun P hp => ?_) (fun P hp => ?_)
    · have hq := hp iT uT
      rw [aq_fK, aq_fS, aq_fO, aq_fC, aq_fT] at hq
      unfold wpX_lose
      refine aq_xu1 n6 hk hu ?_
      exact br_f (by decide) ⟨hv, nm_r (e' := upd (qd_K ms) k 0) (by rw [ek]) hq⟩
    · unfold wpY_lose
      refine aq_yu0 n6 hk hu ?_
      exact br_t rfl ⟨aq_v80 (by omega), nm_r (e' := upd ms (k * 8) 0) (by rw [aq_c80 (by omega)]) hp⟩
end
end
section
/-! run -/
def qd_lfr (ms : Nat → Int32) (set : Int32) : Nat → Nat → Int32
  | 0, _ => -1
  | d + 1, i => if ms (i * 8) = 0 ∨ (set &&& ((1 : Int32) <<< (ms (i * 8 + 1) &&& 31))) = 0 then qd_lfr ms set d (i + 1) else nI i
theorem aq_lfr {ms : Nat → Int32} {set : Int32} {n : Nat} : ∀ d i, i + d = n → qd_lfr ms set d i = -1 ∨ ∃ k, k < n ∧ qd_lfr ms set d i = nI k := by
  intro d
  induction d with
  | zero => intro i _; exact Or.inl rfl
  | succ d ih =>
    intro i hi
    by_cases h : ms (i * 8) = 0 ∨ (set &&& ((1 : Int32) <<< (ms (i * 8 + 1) &&& 31))) = 0
    · rw [show qd_lfr ms set (d + 1) i = qd_lfr ms set d (i + 1) from if_pos h]
      exact ih (i + 1) (by omega)
    · exact Or.inr ⟨i, by omega, if_neg h⟩
theorem aq_cl32 (p : Int32) : ∃ N : Nat, N ≤ 32 ∧ qd_cl p 0 32 = nI N ∧ (∀ i, i < N → ¬ p ≤ nI i) ∧ ((32 : Int32) ≤ nI N ∨ p ≤ nI N) := by
  unfold qd_cl
  by_cases h0 : 0 ≤ p
  · rw [if_pos h0]
    by_cases h1 : p ≤ 32
    · rw [if_pos h1]
      obtain ⟨j, hj, rfl⟩ := nI_of2 (x := p) (M := 32) (n := 32) (by decide) (Int32.not_lt.mpr h0) h1
      exact ⟨j, hj, rfl, fun i hi => nI_ge hi (by omega), Or.inr (Int32.le_refl _)⟩
    · rw [if_neg h1]
      refine ⟨32, Nat.le_refl _, rfl, fun i hi z => ?_, Or.inl (by decide)⟩
      exact h1 (Int32.le_trans z (nI_le (b := 32) (by omega) (by decide)))
  · rw [if_neg h0]
    refine ⟨0, by omega, rfl, fun i hi => absurd hi (by omega), Or.inr ?_⟩
    exact Int32.le_of_lt (Int32.not_le.mp h0)
section
variable {cN rN sN oN wN B : Nat} {ph gh rh : Int32} {oC oK oR oS oT oW cC cO cH lT sI sK sT cM gT ms iT uT cR : Nat → Int32}
variable {set p0 steps : Int32} {post : Int32 → Prop}
theorem aq_xfor_ (hs : sN ≤ 48) : ∀ d i, i + d = sN → post (qd_lfr ms set d i) → wX_lowestFor_2 post set (nI cN) (nI rN) (nI sN) (nI oN) ph (nI wN) gh oC oK oR oS oT oW cC cO cH lT sI sK sT cM gT (qd_K ms) (qd_S ms) (qd_O ms) (qd_C ms) (qd_T ms) iT uT (d + 1) (nI i) := by
  intro d
  induction d with
  | zero =>
    intro i hi hp
    exact br_t (nI_le (by omega) (by omega)) hp
  | succ d ih =>
    intro i hi hp
    have hv : vp_in (nI i) 48 := vp_in_nI (by omega) (by omega)
    have ei : (nI i).toNatClampNeg = i := nI_clamp (by omega)
    refine br_f (nI_ge (by omega) (by omega)) ⟨hv, ?_⟩
    rw [ei]
    by_cases z : ms (i * 8) = 0
    · rw [show qd_lfr ms set (d + 1) i = qd_lfr ms set d (i + 1) from if_pos (Or.inl z)] at hp
      exact br_t z (nm_r (nI_1 i) (ih (i + 1) (by omega) hp))
    · refine br_f z ⟨hv, ?_⟩
      by_cases w : (set &&& ((1 : Int32) <<< (ms (i * 8 + 1) &&& 31))) = 0
      · rw [show qd_lfr ms set (d + 1) i = qd_lfr ms set d (i + 1) from if_pos (Or.inr w)] at hp
        exact br_t w (nm_r (nI_1 i) (ih (i + 1) (by omega) hp))
      · rw [show qd_lfr ms set (d + 1) i = nI i from if_neg (fun h => h.elim z w)] at hp
        exact br_f w hp
theorem aq_xfor (hs : sN ≤ 48) (hp : post (qd_lfr ms set sN 0)) : wpX_lowestFor post (nI cN, nI rN, nI sN, nI oN, ph, nI wN, gh, oC, oK, oR, oS, oT, oW, cC, cO, cH, lT, sI, sK, sT, cM, gT, qd_K ms, qd_S ms, qd_O ms, qd_C ms, qd_T ms, iT, uT) set := Exists.intro (sN + 1) (aq_xfor_ hs sN 0 (by omega) hp)
theorem aq_yfor_ (hs : sN ≤ 48) (hM : ∀ k, ¬ ms (k * 8) = 0 → ∃ a : Nat, a < 5 ∧ ms (k * 8 + 1) = nI a) : ∀ d i, i + d = sN → post (qd_lfr ms set d i) → wY_firstFor_2 post set (nI cN) (nI rN) (nI sN) (nI oN) ph (nI wN) rh cM oC oK oR oW oS oT cC cO cH cR sI sK sT gT ms (d + 1) (nI i) := by
  intro d
  induction d with
  | zero =>
    intro i hi hp
    exact br_t (nI_le (by omega) (by omega)) hp
  | succ d ih =>
    intro i hi hp
    have h48 : i < 48 := by omega
    refine br_f (nI_ge (by omega) (by omega)) ⟨aq_v80 h48, ?_⟩
    rw [aq_c80 h48, aq_c81 h48]
    by_cases z : ms (i * 8) = 0
    · rw [show qd_lfr ms set (d + 1) i = qd_lfr ms set d (i + 1) from if_pos (Or.inl z)] at hp
      exact br_t z (nm_r (nI_1 i) (ih (i + 1) (by omega) hp))
    · obtain ⟨a, ha, e⟩ := hM i z
      refine br_f z ⟨aq_v81 h48, ?_⟩
      rw [e]
      by_cases w : bt set a = true
      · have w2 : ¬ (set &&& ((1 : Int32) <<< (ms (i * 8 + 1) &&& 31))) = 0 := by rw [e]; exact aq_xt ha w
        rw [show qd_lfr ms set (d + 1) i = nI i from if_neg (fun h => h.elim z w2)] at hp
        refine aq_yh1 ha w ?_
        exact br_f (by decide) hp
      · have w2 : (set &&& ((1 : Int32) <<< (ms (i * 8 + 1) &&& 31))) = 0 := by rw [e]; exact aq_xf ha (by simpa using w)
        rw [show qd_lfr ms set (d + 1) i = qd_lfr ms set d (i + 1) from if_pos (Or.inr w2)] at hp
        refine aq_yh0 ha w ?_
        exact br_t rfl (nm_r (nI_1 i) (ih (i + 1) (by omega) hp))
theorem aq_yfor (hs : sN ≤ 48) (hM : qd_MI oN wN rN B cM ms) (hp : post (qd_lfr ms set sN 0)) : wpY_firstFor post (nI cN, nI rN, nI sN, nI oN, ph, nI wN, rh, cM, oC, oK, oR, oW, oS, oT, cC, cO, cH, cR, sI, sK, sT, gT, ms) set := Exists.intro (sN + 1) (aq_yfor_ hs (fun k hk => by
  obtain ⟨d, a, b, e, h0, h1, h2, h3, g1, g2, g3, _⟩ := hM k hk
  exact ⟨a, g3, h1⟩) sN 0 (by omega) hp)
theorem aq_RE2 {u : SX} {v : SY} {Q : Prop} (I : qd_R B u v) (h : ∀ (cN rN sN oN wN : Nat) (ph gh rh : Int32) (oC oK oR oS oT oW cC cO cH lT sI sK sT cM gT ms iT uT cR : Nat → Int32), u = (nI cN, nI rN, nI sN, nI oN, ph, nI wN, gh, oC, oK, oR, oS, oT, oW, cC, cO, cH, lT, sI, sK, sT, cM, gT, qd_K ms, qd_S ms, qd_O ms, qd_C ms, qd_T ms, iT, uT) → v = (nI cN, nI rN, nI sN, nI oN, ph, nI wN, rh, cM, oC, oK, oR, oW, oS, oT, cC, cO, cH, cR, sI, sK, sT, gT, ms) → qd_I B cN rN sN oN wN ph gh rh oC oK oR oS oT cC cO cH lT sI sK sT cM gT ms cR → Q) : Q :=
  I.elim fun cN I => I.elim fun rN I => I.elim fun sN I => I.elim fun oN I => I.elim fun wN I => I.elim fun ph I => I.elim fun gh I => I.elim fun rh I => I.elim fun oC I => I.elim fun oK I => I.elim fun oR I => I.elim fun oS I => I.elim fun oT I => I.elim fun oW I => I.elim fun cC I => I.elim fun cO I => I.elim fun cH I => I.elim fun lT I => I.elim fun sI I => I.elim fun sK I => I.elim fun sT I => I.elim fun cM I => I.elim fun gT I => I.elim fun ms I => I.elim fun iT I => I.elim fun uT I => I.elim fun cR I => h cN rN sN oN wN ph gh rh oC oK oR oS oT oW cC cO cH lT sI sK sT cM gT ms iT uT cR I.1 I.2.1 I.2.2
theorem aq_runl {N B' : Nat} (hN : N ≤ 32) (hB' : B' < 2 ^ 30) (h1 : ∀ i, i < N → ¬ steps ≤ nI i) (h2 : (32 : Int32) ≤ nI N ∨ steps ≤ nI N) (Yw : (Int32 → SY → Prop) → Prop) : ∀ (n i B cN rN sN oN wN : Nat) (ph gh rh : Int32) (oC oK oR oS oT oW cC cO cH lT sI sK sT cM gT ms iT uT cR : Nat → Int32), i + n = N → B + 7 * n ≤ B' → qd_I B cN rN sN oN wN ph gh rh oC oK oR oS oT cC cO cH lT sI sK sT cM gT ms cR → (∀ post, wY_run_12 post p0 (nI N) (n + 1) (nI i) (nI cN) (nI rN) (nI sN) (nI oN) ph (nI wN) rh cM oC oK oR oW oS oT cC cO cH cR sI sK sT gT ms → Yw post) → wX_run_11 (fun r u => Yw (fun r' v => r' = r ∧ qd_R B' u v)) steps (p0 &&& 31) (n + 1) (nI i) (nI i) (nI cN) (nI rN) (nI sN) (nI oN) ph (nI wN) gh oC oK oR oS oT oW cC cO cH lT sI sK sT cM gT (qd_K ms) (qd_S ms) (qd_O ms) (qd_C ms) (qd_T ms) iT uT := by
  intro n
  induction n with
  | zero =>
    intro i B cN rN sN oN wN ph gh rh oC oK oR oS oT oW cC cO cH lT sI sK sT cM gT ms iT uT cR hi hB I hY
    have e : i = N := by omega
    subst e
    have F : Yw (fun r' v => r' = nI i ∧ qd_R B' (nI cN, nI rN, nI sN, nI oN, ph, nI wN, gh, oC, oK, oR, oS, oT, oW, cC, cO, cH, lT, sI, sK, sT, cM, gT, qd_K ms, qd_S ms, qd_O ms, qd_C ms, qd_T ms, iT, uT) v) := hY _ (br_t (Int32.le_refl _) ⟨rfl, aq_RI (aq_Im I (by omega))⟩)
    by_cases w : (32 : Int32) ≤ nI i
    · exact br_t w F
    · exact br_f w (br_t (h2.resolve_left w) F)
  | succ n ih =>
    intro i B cN rN sN oN wN ph gh rh oC oK oR oS oT oW cC cO cH lT sI sK sT cM gT ms iT uT cR hi hB I hY
    obtain ⟨n1, n2, n3, n4, n5, n6, n7, n8, n9⟩ := I.1
    refine br_f (nI_ge (b := 32) (by omega) (by decide)) (br_f (h1 i (by omega)) (aq_xfor n6 ?_))
    have hni : ¬ nI N ≤ nI i := nI_ge (by omega) (by omega)
    rcases aq_lfr (ms := ms) (set := p0 &&& 31) sN 0 (Nat.zero_add sN) with h | ⟨k, hk, h⟩
    · rw [h]
      refine br_f (by decide) (hY _ (br_f hni (aq_yfor n6 I.2.1 ?_)))
      rw [h]
      exact br_f (by decide) ⟨rfl, aq_RI (aq_Im I (by omega))⟩
    · rw [h]
      have hk0 : (0 : Int32) ≤ nI k := nI_pos' (by omega)
      obtain ⟨r, v, hx, hy⟩ := aq_Ldel (iT := iT) (uT := uT) (oW := oW) I (by omega) (nI k)
      refine br_t hk0 (hx _ fun u hu => ?_)
      refine aq_RE2 hu ?_
      intro cN' rN' sN' oN' wN' ph' gh' rh' oC' oK' oR' oS' oT' oW' cC' cO' cH' lT' sI' sK' sT' cM' gT' ms' iT' uT' cR' eu ev I'
      subst eu ev
      refine nm_r (nI_1 i) (nm_r (nI_1 i) (ih (i + 1) (B + 7) _ _ _ _ _ _ _ _ _ _ _ _ _ _ _ _ _ _ _ _ _ _ _ _ _ _ _ (by omega) (by omega) I' fun post hpost => hY post (br_f hni (aq_yfor n6 I.2.1 ?_))))
      rw [h]
      exact br_t hk0 (hy _ (nm_r (nI_1 i) hpost))
end
end
section
/-! the calls that only look, but for linearAt and quorumFloor -/
def qd_AN (wx wy : (Int32 → Prop) → Prop) : Prop := ∃ r : Int32, (∀ post : Int32 → Prop, post r → wx post) ∧ (∀ post : Int32 → Prop, post r → wy post)
theorem aq_opc (n : Nat) (p : Int32) (hn : n ≤ 64) : p < 1 ∨ (¬ p < 1 ∧ nI n < p) ∨ ∃ q : Nat, 1 ≤ q ∧ q ≤ n ∧ p = nI q := by
  by_cases h : p < 1
  · exact Or.inl h
  · by_cases h2 : nI n < p
    · exact Or.inr (Or.inl ⟨h, h2⟩)
    · obtain ⟨j, hj, rfl⟩ := nI_of (x := p) (fun z => h (Int32.lt_trans z (by decide)))
      have h3 : ¬ j < 1 := fun z => h (nI_lt (b := 1) z (by decide))
      have h4 : ¬ n < j := fun z => h2 (nI_lt z hj)
      exact Or.inr (Or.inr ⟨j, by omega, by omega, rfl⟩)
theorem aq_lt1 {q : Nat} (h : 1 ≤ q) (hq : q < 2 ^ 31) : ¬ nI q < 1 := nI_nlt (b := 1) h hq
/-- the value of a tag -/
def qd_vor (oK oS oR oT oW : Nat → Int32) (r tag : Int32) : Nat → Nat → Int32
  | 0, _ => 0
  | d + 1, i => if oK i = 2 ∧ ¬ oS i = 1 ∧ oR i = r ∧ oT i = tag then oW i else qd_vor oK oS oR oT oW r tag d (i + 1)
theorem aq_vor0 {oK oS oR oT oW : Nat → Int32} {r tag : Int32} : ∀ d i, (∀ q, i ≤ q → oK q = 0) → qd_vor oK oS oR oT oW r tag d i = 0 := by
  intro d
  induction d with
  | zero => intro i _; rfl
  | succ d ih =>
    intro i h
    rw [show qd_vor oK oS oR oT oW r tag (d + 1) i = qd_vor oK oS oR oT oW r tag d (i + 1) from if_neg (fun z => by
      rw [h i (Nat.le_refl _)] at z; exact absurd z.1 (by decide))]
    exact ih (i + 1) fun q hq => h q (by omega)
theorem aq_vorx {oK oS oR oT oW : Nat → Int32} {r tag : Int32} {n : Nat} (hz : ∀ q, n < q → oK q = 0) (e : Nat) : ∀ d i, i + d = n + 1 → qd_vor oK oS oR oT oW r tag (d + e) i = qd_vor oK oS oR oT oW r tag d i := by
  intro d
  induction d with
  | zero =>
    intro i hi
    rw [Nat.zero_add]
    exact aq_vor0 e i fun q hq => hz q (by omega)
  | succ d ih =>
    intro i hi
    rw [show d + 1 + e = (d + e) + 1 by omega]
    show (if _ then _ else _) = (if _ then _ else _)
    rw [ih (i + 1) (by omega)]
section
variable {cN rN sN oN wN B : Nat} {ph gh rh : Int32} {oC oK oR oS oT oW cC cO cH lT sI sK sT cM gT ms iT uT cR : Nat → Int32}
variable {s j q m r k : Nat} {x y kd p0 p1 rg tag : Int32} {post : Int32 → Prop}
theorem aq_xop1 (h1 : 1 ≤ q) (h2 : q ≤ oN) (h3 : oN ≤ 64) (hp : post 1) : wpX_isOperation post (nI cN, nI rN, nI sN, nI oN, ph, nI wN, gh, oC, oK, oR, oS, oT, oW, cC, cO, cH, lT, sI, sK, sT, cM, gT, qd_K ms, qd_S ms, qd_O ms, qd_C ms, qd_T ms, iT, uT) (nI q) := br_f (aq_lt1 h1 (by omega)) (br_f (nI_nlt h2 (by omega)) hp)
theorem aq_xop0 (h : p0 < 1 ∨ (¬ p0 < 1 ∧ nI oN < p0)) (hp : post 0) : wpX_isOperation post (nI cN, nI rN, nI sN, nI oN, ph, nI wN, gh, oC, oK, oR, oS, oT, oW, cC, cO, cH, lT, sI, sK, sT, cM, gT, qd_K ms, qd_S ms, qd_O ms, qd_C ms, qd_T ms, iT, uT) p0 := by
  rcases h with h | h
  · exact br_t h hp
  · exact br_f h.1 (br_t h.2 hp)
theorem aq_Aop (I : qd_I B cN rN sN oN wN ph gh rh oC oK oR oS oT cC cO cH lT sI sK sT cM gT ms cR) : qd_AN (fun post => wpX_operation post (nI cN, nI rN, nI sN, nI oN, ph, nI wN, gh, oC, oK, oR, oS, oT, oW, cC, cO, cH, lT, sI, sK, sT, cM, gT, qd_K ms, qd_S ms, qd_O ms, qd_C ms, qd_T ms, iT, uT) p0 p1) (fun post => wpY_operation post (nI cN, nI rN, nI sN, nI oN, ph, nI wN, rh, cM, oC, oK, oR, oW, oS, oT, cC, cO, cH, cR, sI, sK, sT, gT, ms) p0 p1) := by
  obtain ⟨n1, n2, n3, n4, n5, n6, n7, n8, n9⟩ := I.1
  have hbad : (p0 < 1 ∨ (¬ p0 < 1 ∧ nI oN < p0)) → qd_AN (fun post => wpX_operation post (nI cN, nI rN, nI sN, nI oN, ph, nI wN, gh, oC, oK, oR, oS, oT, oW, cC, cO, cH, lT, sI, sK, sT, cM, gT, qd_K ms, qd_S ms, qd_O ms, qd_C ms, qd_T ms, iT, uT) p0 p1) (fun post => wpY_operation post (nI cN, nI rN, nI sN, nI oN, ph, nI wN, rh, cM, oC, oK, oR, oW, oS, oT, cC, cO, cH, cR, sI, sK, sT, gT, ms) p0 p1) := by
    intro h
    refine ⟨-1, fun P hp => ?_, fun P hp => ?_⟩
    · unfold wpX_operation
      refine aq_xop0 h ?_
      exact br_t rfl hp
    · rcases h with h | h
      · exact br_t h hp
      · exact br_f h.1 (br_t h.2 hp)
  rcases aq_opc oN p0 n7 with h | h | ⟨q, h1, h2, rfl⟩
  · exact hbad (Or.inl h)
  · exact hbad (Or.inr h)
  · have hw : vp_in (nI q) 65 := vp_in_nI (by omega) (by omega)
    have eq : (nI q).toNatClampNeg = q := nI_clamp (by omega)
    have g1 : ¬ nI q < 1 := aq_lt1 h1 (by omega)
    have g2 : ¬ nI oN < nI q := nI_nlt h2 (by omega)
    by_cases a : p1 < 0
    · refine ⟨-1, fun P hp => ?_, fun P hp => br_f g1 (br_f g2 (br_t a hp))⟩
      unfold wpX_operation
      refine aq_xop1 h1 h2 n7 ?_
      exact br_f (by decide) (br_t a hp)
    · by_cases b : p1 ≤ 4
      · have b2 : ¬ 4 < p1 := Int32.not_lt.mpr b
        by_cases c0 : p1 = 0
        · refine ⟨oC (nI q).toNatClampNeg, fun P hp => ?_, fun P hp => br_f g1 (br_f g2 (br_f a (br_t b (br_t c0 ⟨hw, hp⟩))))⟩
          unfold wpX_operation
          refine aq_xop1 h1 h2 n7 ?_
          exact br_f (by decide) (br_f a (br_f b2 (br_t c0 ⟨hw, hp⟩)))
        · by_cases c1 : p1 = 1
          · refine ⟨oK (nI q).toNatClampNeg, fun P hp => ?_, fun P hp => br_f g1 (br_f g2 (br_f a (br_t b (br_f c0 (br_t c1 ⟨hw, hp⟩)))))⟩
            unfold wpX_operation
            refine aq_xop1 h1 h2 n7 ?_
            exact br_f (by decide) (br_f a (br_f b2 (br_f c0 (br_t c1 ⟨hw, hp⟩))))
          · by_cases c2 : p1 = 2
            · refine ⟨oR (nI q).toNatClampNeg, fun P hp => ?_, fun P hp => br_f g1 (br_f g2 (br_f a (br_t b (br_f c0 (br_f c1 (br_t c2 ⟨hw, hp⟩))))))⟩
              unfold wpX_operation
              refine aq_xop1 h1 h2 n7 ?_
              exact br_f (by decide) (br_f a (br_f b2 (br_f c0 (br_f c1 (br_t c2 ⟨hw, hp⟩)))))
            · by_cases c3 : p1 = 3
              · refine ⟨oS (nI q).toNatClampNeg, fun P hp => ?_, fun P hp => br_f g1 (br_f g2 (br_f a (br_t b (br_f c0 (br_f c1 (br_f c2 (br_t c3 ⟨hw, hp⟩)))))))⟩
                unfold wpX_operation
                refine aq_xop1 h1 h2 n7 ?_
                exact br_f (by decide) (br_f a (br_f b2 (br_f c0 (br_f c1 (br_f c2 (br_t c3 ⟨hw, hp⟩))))))
              · refine ⟨oT (nI q).toNatClampNeg, fun P hp => ?_, fun P hp => br_f g1 (br_f g2 (br_f a (br_t b (br_f c0 (br_f c1 (br_f c2 (br_f c3 ⟨hw, hp⟩)))))))⟩
                unfold wpX_operation
                refine aq_xop1 h1 h2 n7 ?_
                exact br_f (by decide) (br_f a (br_f b2 (br_f c0 (br_f c1 (br_f c2 (br_f c3 (br_c (fun _ => ⟨hw, hp⟩) fun _ => trivial)))))))
      · have b2 : 4 < p1 := Int32.not_le.mp b
        refine ⟨-1, fun P hp => ?_, fun P hp => br_f g1 (br_f g2 (br_f a (br_f b hp)))⟩
        unfold wpX_operation
        refine aq_xop1 h1 h2 n7 ?_
        exact br_f (by decide) (br_f a (br_t b2 hp))
theorem aq_xval_ (h64 : oN ≤ 64) : ∀ d i, 1 ≤ i → i + d = oN + 1 → post (qd_vor oK oS oR oT oW rg tag d i) → wX_valueOfTag_8 post rg tag (nI cN) (nI rN) (nI sN) (nI oN) ph (nI wN) gh oC oK oR oS oT oW cC cO cH lT sI sK sT cM gT (qd_K ms) (qd_S ms) (qd_O ms) (qd_C ms) (qd_T ms) iT uT (d + 1) (nI i) := by
  intro d
  induction d with
  | zero =>
    intro i h1 hi hp
    exact br_t (nI_lt (by omega) (by omega)) hp
  | succ d ih =>
    intro i h1 hi hp
    have hw : vp_in (nI i) 65 := vp_in_nI (by omega) (by omega)
    have ei : (nI i).toNatClampNeg = i := nI_clamp (by omega)
    refine br_f (nI_nlt (by omega) (by omega)) ⟨hw, ?_⟩
    rw [ei]
    have nx : ¬ (oK i = 2 ∧ ¬ oS i = 1 ∧ oR i = rg ∧ oT i = tag) → wX_valueOfTag_8 post rg tag (nI cN) (nI rN) (nI sN) (nI oN) ph (nI wN) gh oC oK oR oS oT oW cC cO cH lT sI sK sT cM gT (qd_K ms) (qd_S ms) (qd_O ms) (qd_C ms) (qd_T ms) iT uT (d + 1) (nI (i + 1)) := fun z => ih (i + 1) (by omega) (by omega) (by
      rw [show qd_vor oK oS oR oT oW rg tag (d + 1) i = qd_vor oK oS oR oT oW rg tag d (i + 1) from if_neg z] at hp
      exact hp)
    by_cases c1 : oK i = 2
    · refine br_t c1 ⟨hw, ?_⟩
      by_cases c2 : oS i = 1
      · exact br_t c2 (nm_r (nI_1 i) (nx fun z => z.2.1 c2))
      · refine br_f c2 ⟨hw, ?_⟩
        by_cases c3 : oR i = rg
        · refine br_t c3 ⟨hw, ?_⟩
          by_cases c4 : oT i = tag
          · rw [show qd_vor oK oS oR oT oW rg tag (d + 1) i = oW i from if_pos ⟨c1, c2, c3, c4⟩] at hp
            exact br_t c4 ⟨hw, hp⟩
          · exact br_f c4 (nm_r (nI_1 i) (nx fun z => c4 z.2.2.2))
        · exact br_f c3 (nm_r (nI_1 i) (nx fun z => c3 z.2.2.1))
    · exact br_f c1 (nm_r (nI_1 i) (nx fun z => c1 z.1))
def qd_vo (oN : Nat) (oK oS oR oT oW : Nat → Int32) (r tag : Int32) : Int32 := if tag = 0 then 0 else qd_vor oK oS oR oT oW r tag oN 1
theorem aq_xval (h64 : oN ≤ 64) (hp : post (qd_vo oN oK oS oR oT oW rg tag)) : wpX_valueOfTag post (nI cN, nI rN, nI sN, nI oN, ph, nI wN, gh, oC, oK, oR, oS, oT, oW, cC, cO, cH, lT, sI, sK, sT, cM, gT, qd_K ms, qd_S ms, qd_O ms, qd_C ms, qd_T ms, iT, uT) rg tag := by
  unfold qd_vo at hp
  by_cases z : tag = 0
  · rw [if_pos z] at hp; exact br_t z hp
  · rw [if_neg z] at hp
    exact br_f z ⟨oN + 1, aq_xval_ h64 oN 1 (by omega) (by omega) hp⟩
theorem aq_yval0 (z : tag = 0) (hp : post 0) : ∀ d i, 1 ≤ i → i + d = 65 → wY_valueOf_2 post rg tag (nI cN) (nI rN) (nI sN) (nI oN) ph (nI wN) rh cM oC oK oR oW oS oT cC cO cH cR sI sK sT gT ms (d + 1) (nI i) := by
  intro d
  induction d with
  | zero =>
    intro i h1 hi
    exact br_t (nI_lt (a := 64) (by omega) (by omega)) hp
  | succ d ih =>
    intro i h1 hi
    exact br_f (nI_nlt (a := 64) (by omega) (by omega)) (br_t z (nm_r (nI_1 i) (ih (i + 1) (by omega) (by omega))))
theorem aq_yval_ (z : ¬ tag = 0) : ∀ d i, 1 ≤ i → i + d = 65 → post (qd_vor oK oS oR oT oW rg tag d i) → wY_valueOf_2 post rg tag (nI cN) (nI rN) (nI sN) (nI oN) ph (nI wN) rh cM oC oK oR oW oS oT cC cO cH cR sI sK sT gT ms (d + 1) (nI i) := by
  intro d
  induction d with
  | zero =>
    intro i h1 hi hp
    exact br_t (nI_lt (a := 64) (by omega) (by omega)) hp
  | succ d ih =>
    intro i h1 hi hp
    have hw : vp_in (nI i) 65 := vp_in_nI (by omega) (by omega)
    have ei : (nI i).toNatClampNeg = i := nI_clamp (by omega)
    refine br_f (nI_nlt (a := 64) (by omega) (by omega)) (br_f z ⟨hw, ?_⟩)
    rw [ei]
    have nx : ¬ (oK i = 2 ∧ ¬ oS i = 1 ∧ oR i = rg ∧ oT i = tag) → wY_valueOf_2 post rg tag (nI cN) (nI rN) (nI sN) (nI oN) ph (nI wN) rh cM oC oK oR oW oS oT cC cO cH cR sI sK sT gT ms (d + 1) (nI (i + 1)) := fun z => ih (i + 1) (by omega) (by omega) (by
      rw [show qd_vor oK oS oR oT oW rg tag (d + 1) i = qd_vor oK oS oR oT oW rg tag d (i + 1) from if_neg z] at hp
      exact hp)
    by_cases c1 : oK i = 2
    · refine br_t c1 ⟨hw, ?_⟩
      by_cases c3 : oR i = rg
      · refine br_t c3 ⟨hw, ?_⟩
        by_cases c2 : oS i = 1
        · exact br_t c2 (nm_r (nI_1 i) (nx fun z => z.2.1 c2))
        · refine br_f c2 ⟨hw, ?_⟩
          by_cases c4 : oT i = tag
          · rw [show qd_vor oK oS oR oT oW rg tag (d + 1) i = oW i from if_pos ⟨c1, c2, c3, c4⟩] at hp
            exact br_t c4 ⟨hw, hp⟩
          · exact br_f c4 (nm_r (nI_1 i) (nx fun z => c4 z.2.2.2))
      · exact br_f c3 (nm_r (nI_1 i) (nx fun z => c3 z.2.2.1))
    · exact br_f c1 (nm_r (nI_1 i) (nx fun z => c1 z.1))
theorem aq_yval (h64 : oN ≤ 64) (hz : qd_JZ oN oK oS) (hp : post (qd_vo oN oK oS oR oT oW rg tag)) : wpY_valueOf post (nI cN, nI rN, nI sN, nI oN, ph, nI wN, rh, cM, oC, oK, oR, oW, oS, oT, cC, cO, cH, cR, sI, sK, sT, gT, ms) rg tag := by
  unfold qd_vo at hp
  by_cases z : tag = 0
  · rw [if_pos z] at hp
    exact Exists.intro 65 (aq_yval0 z hp 64 1 (by omega) (by omega))
  · rw [if_neg z, ← aq_vorx (n := oN) (fun q hq => (hz q hq).1) (64 - oN) oN 1 (by omega), show oN + (64 - oN) = 64 by omega] at hp
    exact Exists.intro 65 (aq_yval_ z 64 1 (by omega) (by omega) hp)
theorem aq_Aov (I : qd_I B cN rN sN oN wN ph gh rh oC oK oR oS oT cC cO cH lT sI sK sT cM gT ms cR) : qd_AN (fun post => wpX_opValue post (nI cN, nI rN, nI sN, nI oN, ph, nI wN, gh, oC, oK, oR, oS, oT, oW, cC, cO, cH, lT, sI, sK, sT, cM, gT, qd_K ms, qd_S ms, qd_O ms, qd_C ms, qd_T ms, iT, uT) p0) (fun post => wpY_opValue post (nI cN, nI rN, nI sN, nI oN, ph, nI wN, rh, cM, oC, oK, oR, oW, oS, oT, cC, cO, cH, cR, sI, sK, sT, gT, ms) p0) := by
  obtain ⟨n1, n2, n3, n4, n5, n6, n7, n8, n9⟩ := I.1
  rcases aq_opc oN p0 n7 with h | h | ⟨q, h1, h2, rfl⟩
  · refine ⟨0, fun P hp => ?_, fun P hp => br_t h hp⟩
    unfold wpX_opValue
    refine aq_xop0 (Or.inl h) ?_
    exact br_t rfl hp
  · refine ⟨0, fun P hp => ?_, fun P hp => br_f h.1 (br_f (Int32.not_le.mpr h.2) hp)⟩
    unfold wpX_opValue
    refine aq_xop0 (Or.inr h) ?_
    exact br_t rfl hp
  · have hw : vp_in (nI q) 65 := vp_in_nI (by omega) (by omega)
    have eq : (nI q).toNatClampNeg = q := nI_clamp (by omega)
    have g1 : ¬ nI q < 1 := aq_lt1 h1 (by omega)
    have g2 : nI q ≤ nI oN := nI_le h2 (by omega)
    by_cases c : oK q = 2
    · refine ⟨oW q, fun P hp => ?_, fun P hp => ?_⟩
      · unfold wpX_opValue
        refine aq_xop1 h1 h2 n7 ?_
        rw [eq]
        exact br_f (by decide) ⟨hw, br_t c ⟨hw, hp⟩⟩
      · refine br_f g1 (br_t g2 ⟨hw, ?_⟩)
        rw [eq]
        exact br_t c ⟨hw, hp⟩
    · by_cases c2 : oS q = 3
      · refine ⟨qd_vo oN oK oS oR oT oW (oR q) (oT q), fun P hp => ?_, fun P hp => ?_⟩
        · unfold wpX_opValue
          refine aq_xop1 h1 h2 n7 ?_
          rw [eq]
          exact br_f (by decide) ⟨hw, br_f c ⟨hw, br_t c2 ⟨hw, hw, aq_xval n7 hp⟩⟩⟩
        · refine br_f g1 (br_t g2 ⟨hw, ?_⟩)
          rw [eq]
          exact br_f c ⟨hw, br_t c2 ⟨hw, hw, aq_yval n7 I.2.2.2.1 hp⟩⟩
      · refine ⟨0, fun P hp => ?_, fun P hp => ?_⟩
        · unfold wpX_opValue
          refine aq_xop1 h1 h2 n7 ?_
          rw [eq]
          exact br_f (by decide) ⟨hw, br_f c ⟨hw, br_f c2 hp⟩⟩
        · refine br_f g1 (br_t g2 ⟨hw, ?_⟩)
          rw [eq]
          exact br_f c ⟨hw, br_f c2 hp⟩
/-- agreement, one answer -/
theorem aq_Aag (I : qd_I B cN rN sN oN wN ph gh rh oC oK oR oS oT cC cO cH lT sI sK sT cM gT ms cR) (hj : j < 4) : ∃ r : Int32, (r = 0 ∨ r = 1) ∧ (∀ post : Int32 → Prop, post r → wpX_agrees post (nI cN, nI rN, nI sN, nI oN, ph, nI wN, gh, oC, oK, oR, oS, oT, oW, cC, cO, cH, lT, sI, sK, sT, cM, gT, qd_K ms, qd_S ms, qd_O ms, qd_C ms, qd_T ms, iT, uT) (nI j)) ∧ (∀ post : Int32 → Prop, post r → wpY_agree post (nI cN, nI rN, nI sN, nI oN, ph, nI wN, rh, cM, oC, oK, oR, oW, oS, oT, cC, cO, cH, cR, sI, sK, sT, gT, ms) (nI j)) := by
  obtain ⟨n1, n2, n3, n4, n5, n6, n7, n8, n9⟩ := I.1
  obtain ⟨q, m, e1, e2, e3, e4, e5, e6, e7⟩ := I.2.2.2.2.1 j hj
  by_cases h : q = 0 ∨ ¬ oS q = 1
  · exact ⟨0, Or.inl rfl, fun P hp => aq_xag0 hj e1 (by omega) h hp, fun P hp => aq_yag0 hj e1 (by omega) h hp⟩
  · have hq : 1 ≤ q := by
      by_cases z : q = 0
      · exact absurd (Or.inl z) h
      · omega
    have hS : oS q = 1 := Decidable.byContradiction fun z => h (Or.inr z)
    have L := I.2.2.2.2.2.1 j hj q hq (by omega) e1 hS
    by_cases g : qd_ag (cH j) (fun a => cR (j * 5 + a)) (oT q)
    · exact ⟨1, Or.inr rfl, fun P hp => aq_xag hj e1 (by omega) hq hS (Or.inl ⟨rfl, (aq_LWa L).mpr g⟩) hp, fun P hp => aq_yag hj e1 (by omega) hq hS (fun _ => hp) (fun z => absurd g z)⟩
    · have g2 : ¬ (cH j = 0 ∨ lT j = oT q) := fun z => g ((aq_LWa L).mp z)
      exact ⟨0, Or.inl rfl, fun P hp => aq_xag hj e1 (by omega) hq hS (Or.inr ⟨rfl, fun z => g2 (Or.inl z), fun z => g2 (Or.inr z)⟩) hp, fun P hp => aq_yag hj e1 (by omega) hq hS (fun z => absurd z g) (fun _ => hp)⟩
theorem aq_Acl (I : qd_I B cN rN sN oN wN ph gh rh oC oK oR oS oT cC cO cH lT sI sK sT cM gT ms cR) : qd_AN (fun post => wpX_client post (nI cN, nI rN, nI sN, nI oN, ph, nI wN, gh, oC, oK, oR, oS, oT, oW, cC, cO, cH, lT, sI, sK, sT, cM, gT, qd_K ms, qd_S ms, qd_O ms, qd_C ms, qd_T ms, iT, uT) p0 p1) (fun post => wpY_client post (nI cN, nI rN, nI sN, nI oN, ph, nI wN, rh, cM, oC, oK, oR, oW, oS, oT, cC, cO, cH, cR, sI, sK, sT, gT, ms) p0 p1) := by
  obtain ⟨n1, n2, n3, n4, n5, n6, n7, n8, n9⟩ := I.1
  rcases aq_noc cN p0 (by omega) with h | ⟨j, hj, rfl⟩
  · refine ⟨-1, fun P hp => ?_, fun P hp => ?_⟩
    · unfold wpX_client
      refine aq_xc0 h ?_
      exact br_t rfl hp
    · unfold wpY_client
      refine aq_yc1 h ?_
      exact br_f (by decide) hp
  · have hv : vp_in (nI j) 4 := vp_in_nI (by omega) (by omega)
    have key : ∀ r : Int32, (∀ P : Int32 → Prop, P r → ((p1 < 0 → P (-1)) ∧ (¬ p1 < 0 → ((3 < p1 → P (-1)) ∧ (¬ 3 < p1 → ((p1 = 0 → (vp_in (nI j) 4 ∧ P (cC (nI j).toNatClampNeg))) ∧ (¬ p1 = 0 → ((p1 = 1 → (vp_in (nI j) 4 ∧ P (cO (nI j).toNatClampNeg))) ∧ (¬ p1 = 1 → ((p1 = 2 → (vp_in (nI j) 4 ∧ P (cH (nI j).toNatClampNeg))) ∧ (¬ p1 = 2 → ((p1 = 3 → wpX_agrees (fun r_41 => ((r_41 = 0 → P 0) ∧ (¬ r_41 = 0 → P 1))) (nI cN, nI rN, nI sN, nI oN, ph, nI wN, gh, oC, oK, oR, oS, oT, oW, cC, cO, cH, lT, sI, sK, sT, cM, gT, qd_K ms, qd_S ms, qd_O ms, qd_C ms, qd_T ms, iT, uT) (nI j)) ∧ (¬ p1 = 3 → True))))))))))))) → (∀ P : Int32 → Prop, P r → ((p1 < 0 → P (-1)) ∧ (¬ p1 < 0 → ((p1 ≤ 3 → ((p1 = 3 → wpY_agree (fun r_34 => ((r_34 = 0 → P 0) ∧ (¬ r_34 = 0 → P 1))) (nI cN, nI rN, nI sN, nI oN, ph, nI wN, rh, cM, oC, oK, oR, oW, oS, oT, cC, cO, cH, cR, sI, sK, sT, gT, ms) (nI j)) ∧ (¬ p1 = 3 → ((p1 = 0 → (vp_in (nI j) 4 ∧ P (cC (nI j).toNatClampNeg))) ∧ (¬ p1 = 0 → ((p1 = 1 → (vp_in (nI j) 4 ∧ P (cO (nI j).toNatClampNeg))) ∧ (¬ p1 = 1 → (vp_in (nI j) 4 ∧ P (cH (nI j).toNatClampNeg))))))))) ∧ (¬ p1 ≤ 3 → P (-1)))))) → qd_AN (fun post => wpX_client post (nI cN, nI rN, nI sN, nI oN, ph, nI wN, gh, oC, oK, oR, oS, oT, oW, cC, cO, cH, lT, sI, sK, sT, cM, gT, qd_K ms, qd_S ms, qd_O ms, qd_C ms, qd_T ms, iT, uT) (nI j) p1) (fun post => wpY_client post (nI cN, nI rN, nI sN, nI oN, ph, nI wN, rh, cM, oC, oK, oR, oW, oS, oT, cC, cO, cH, cR, sI, sK, sT, gT, ms) (nI j) p1) := by
      intro r hx hy
      refine ⟨r, fun P hp => ?_, fun P hp => ?_⟩
      · unfold wpX_client
        refine aq_xc1 hj (by omega) ?_
        exact br_f (by decide) (hx P hp)
      · unfold wpY_client
        refine aq_yc0 hj (by omega) ?_
        exact br_t rfl (hy P hp)
    by_cases a : p1 < 0
    · exact key (-1) (fun P hp => br_t a hp) (fun P hp => br_t a hp)
    · by_cases b : p1 ≤ 3
      · have b2 : ¬ 3 < p1 := Int32.not_lt.mpr b
        by_cases c0 : p1 = 0
        · have c3 : ¬ p1 = 3 := by rw [c0]; decide
          exact key _ (fun P hp => br_f a (br_f b2 (br_t c0 ⟨hv, hp⟩))) (fun P hp => br_f a (br_t b (br_f c3 (br_t c0 ⟨hv, hp⟩))))
        · by_cases c1 : p1 = 1
          · have c3 : ¬ p1 = 3 := by rw [c1]; decide
            exact key _ (fun P hp => br_f a (br_f b2 (br_f c0 (br_t c1 ⟨hv, hp⟩)))) (fun P hp => br_f a (br_t b (br_f c3 (br_f c0 (br_t c1 ⟨hv, hp⟩)))))
          · by_cases c3 : p1 = 3
            · have c2 : ¬ p1 = 2 := by rw [c3]; decide
              obtain ⟨r, hr, hx, hy⟩ := aq_Aag (iT := iT) (uT := uT) (oW := oW) I (show j < 4 by omega)
              have hrr : ∀ P : Int32 → Prop, P r → ((r = 0 → P 0) ∧ (¬ r = 0 → P 1)) := by
                intro P hp
                rcases hr with rfl | rfl
                · exact br_t rfl hp
                · exact br_f (by decide) hp
              exact key r (fun P hp => br_f a (br_f b2 (br_f c0 (br_f c1 (br_f c2 (br_t c3 (hx _ (hrr P hp)))))))) (fun P hp => br_f a (br_t b (br_t c3 (hy _ (hrr P hp)))))
            · exact key (cH (nI j).toNatClampNeg) (fun P hp => br_f a (br_f b2 (br_f c0 (br_f c1 (br_c (fun _ => ⟨hv, hp⟩) fun _ => br_f c3 trivial))))) (fun P hp => br_f a (br_t b (br_f c3 (br_f c0 (br_f c1 ⟨hv, hp⟩)))))
      · have b2 : 3 < p1 := Int32.not_le.mp b
        exact key (-1) (fun P hp => br_f a (br_t b2 hp)) (fun P hp => br_f a (br_f b hp))
end
end
section
/-! further calls that only look -/
section
variable {cN rN sN oN wN B : Nat} {ph gh rh : Int32} {oC oK oR oS oT oW cC cO cH lT sI sK sT cM gT ms iT uT cR : Nat → Int32}
variable {s j q m r k : Nat} {x y kd p0 p1 rg tag : Int32} {post : Int32 → Prop}
theorem aq_Ain : qd_AN (fun post => wpX_installed post (nI cN, nI rN, nI sN, nI oN, ph, nI wN, gh, oC, oK, oR, oS, oT, oW, cC, cO, cH, lT, sI, sK, sT, cM, gT, qd_K ms, qd_S ms, qd_O ms, qd_C ms, qd_T ms, iT, uT) p0) (fun post => wpY_installed post (nI cN, nI rN, nI sN, nI oN, ph, nI wN, rh, cM, oC, oK, oR, oW, oS, oT, cC, cO, cH, cR, sI, sK, sT, gT, ms) p0) := by
  rcases aq_noc 5 p0 (by omega) with h | ⟨j, hj, rfl⟩
  · refine ⟨-1, fun P hp => ?_, fun P hp => ?_⟩
    · unfold wpX_installed
      refine aq_xv0 h ?_
      exact br_t rfl hp
    · unfold wpY_installed
      refine aq_yv1 h ?_
      exact br_f (by decide) hp
  · have hv : vp_in (nI j) 5 := vp_in_nI (by omega) (by omega)
    refine ⟨sI (nI j).toNatClampNeg, fun P hp => ?_, fun P hp => ?_⟩
    · unfold wpX_installed
      refine aq_xv1 hj ?_
      exact br_f (by decide) ⟨hv, hp⟩
    · unfold wpY_installed
      refine aq_yv0 hj ?_
      exact br_t rfl ⟨hv, hp⟩
theorem aq_Akn : qd_AN (fun post => wpX_known post (nI cN, nI rN, nI sN, nI oN, ph, nI wN, gh, oC, oK, oR, oS, oT, oW, cC, cO, cH, lT, sI, sK, sT, cM, gT, qd_K ms, qd_S ms, qd_O ms, qd_C ms, qd_T ms, iT, uT) p0) (fun post => wpY_known post (nI cN, nI rN, nI sN, nI oN, ph, nI wN, rh, cM, oC, oK, oR, oW, oS, oT, cC, cO, cH, cR, sI, sK, sT, gT, ms) p0) := by
  rcases aq_noc 5 p0 (by omega) with h | ⟨j, hj, rfl⟩
  · refine ⟨-1, fun P hp => ?_, fun P hp => ?_⟩
    · unfold wpX_known
      refine aq_xv0 h ?_
      exact br_t rfl hp
    · unfold wpY_known
      refine aq_yv1 h ?_
      exact br_f (by decide) hp
  · have hv : vp_in (nI j) 5 := vp_in_nI (by omega) (by omega)
    refine ⟨sK (nI j).toNatClampNeg, fun P hp => ?_, fun P hp => ?_⟩
    · unfold wpX_known
      refine aq_xv1 hj ?_
      exact br_f (by decide) ⟨hv, hp⟩
    · unfold wpY_known
      refine aq_yv0 hj ?_
      exact br_t rfl ⟨hv, hp⟩
theorem aq_Ast (h4 : rN ≤ 4) : qd_AN (fun post => wpX_storedTag post (nI cN, nI rN, nI sN, nI oN, ph, nI wN, gh, oC, oK, oR, oS, oT, oW, cC, cO, cH, lT, sI, sK, sT, cM, gT, qd_K ms, qd_S ms, qd_O ms, qd_C ms, qd_T ms, iT, uT) p0 p1) (fun post => wpY_storedTag post (nI cN, nI rN, nI sN, nI oN, ph, nI wN, rh, cM, oC, oK, oR, oW, oS, oT, cC, cO, cH, cR, sI, sK, sT, gT, ms) p0 p1) := by
  rcases aq_noc 5 p0 (by omega) with h | ⟨j, hj, rfl⟩
  · refine ⟨-1, fun P hp => ?_, fun P hp => ?_⟩
    · unfold wpX_storedTag
      refine aq_xv0 h ?_
      exact br_t rfl hp
    · unfold wpY_storedTag
      refine aq_yv1 h ?_
      exact br_f (by decide) hp
  · rcases aq_noc rN p1 (by omega) with h | ⟨r, hr, rfl⟩
    · refine ⟨-1, fun P hp => ?_, fun P hp => ?_⟩
      · unfold wpX_storedTag
        refine aq_xv1 hj ?_
        refine br_f (by decide) (aq_xr0 h ?_)
        exact br_t rfl hp
      · unfold wpY_storedTag
        refine aq_yv0 hj ?_
        refine br_t rfl (aq_yr1 h ?_)
        exact br_f (by decide) hp
    · have hv : vp_in (nI j * 4 + nI r) 20 := aq_v4 (by omega) (by omega)
      refine ⟨sT (nI j * 4 + nI r).toNatClampNeg, fun P hp => ?_, fun P hp => ?_⟩
      · unfold wpX_storedTag
        refine aq_xv1 hj ?_
        refine br_f (by decide) (aq_xr1 hr (by omega) ?_)
        exact br_f (by decide) ⟨hv, hp⟩
      · unfold wpY_storedTag
        refine aq_yv0 hj ?_
        refine br_t rfl (aq_yr0 hr (by omega) ?_)
        exact br_t rfl ⟨hv, hp⟩
theorem aq_Asv (I : qd_I B cN rN sN oN wN ph gh rh oC oK oR oS oT cC cO cH lT sI sK sT cM gT ms cR) : qd_AN (fun post => wpX_storedValue post (nI cN, nI rN, nI sN, nI oN, ph, nI wN, gh, oC, oK, oR, oS, oT, oW, cC, cO, cH, lT, sI, sK, sT, cM, gT, qd_K ms, qd_S ms, qd_O ms, qd_C ms, qd_T ms, iT, uT) p0 p1) (fun post => wpY_storedValue post (nI cN, nI rN, nI sN, nI oN, ph, nI wN, rh, cM, oC, oK, oR, oW, oS, oT, cC, cO, cH, cR, sI, sK, sT, gT, ms) p0 p1) := by
  obtain ⟨n1, n2, n3, n4, n5, n6, n7, n8, n9⟩ := I.1
  rcases aq_noc 5 p0 (by omega) with h | ⟨j, hj, rfl⟩
  · refine ⟨0, fun P hp => ?_, fun P hp => ?_⟩
    · unfold wpX_storedValue
      refine aq_xv0 h ?_
      exact br_t rfl hp
    · unfold wpY_storedValue
      refine aq_yv1 h ?_
      exact br_f (by decide) hp
  · rcases aq_noc rN p1 (by omega) with h | ⟨r, hr, rfl⟩
    · refine ⟨0, fun P hp => ?_, fun P hp => ?_⟩
      · unfold wpX_storedValue
        refine aq_xv1 hj ?_
        refine br_f (by decide) (aq_xr0 h ?_)
        exact br_t rfl hp
      · unfold wpY_storedValue
        refine aq_yv0 hj ?_
        refine br_t rfl (aq_yr1 h ?_)
        exact br_f (by decide) hp
    · have hv : vp_in (nI j * 4 + nI r) 20 := aq_v4 (by omega) (by omega)
      refine ⟨qd_vo oN oK oS oR oT oW (nI r) (sT (nI j * 4 + nI r).toNatClampNeg), fun P hp => ?_, fun P hp => ?_⟩
      · unfold wpX_storedValue
        refine aq_xv1 hj ?_
        refine br_f (by decide) (aq_xr1 hr (by omega) ?_)
        exact br_f (by decide) ⟨hv, aq_xval n7 hp⟩
      · unfold wpY_storedValue
        refine aq_yv0 hj ?_
        refine br_t rfl (aq_yr0 hr (by omega) ?_)
        exact br_t rfl ⟨hv, aq_yval n7 I.2.2.2.1 hp⟩
theorem aq_Amb (h8 : wN ≤ 8) : qd_AN (fun post => wpX_members post (nI cN, nI rN, nI sN, nI oN, ph, nI wN, gh, oC, oK, oR, oS, oT, oW, cC, cO, cH, lT, sI, sK, sT, cM, gT, qd_K ms, qd_S ms, qd_O ms, qd_C ms, qd_T ms, iT, uT) p0) (fun post => wpY_members post (nI cN, nI rN, nI sN, nI oN, ph, nI wN, rh, cM, oC, oK, oR, oW, oS, oT, cC, cO, cH, cR, sI, sK, sT, gT, ms) p0) := by
  by_cases h1 : p0 < 1
  · refine ⟨-1, fun P hp => ?_, fun P hp => br_t h1 hp⟩
    unfold wpX_members
    refine br_t h1 ?_
    exact br_t rfl hp
  · by_cases h2 : nI wN < p0
    · refine ⟨-1, fun P hp => ?_, fun P hp => br_f h1 (br_f (Int32.not_le.mpr h2) hp)⟩
      unfold wpX_members
      refine br_f h1 (br_t h2 ?_)
      exact br_t rfl hp
    · obtain ⟨m, hm, rfl⟩ := nI_of (x := p0) (fun z => h1 (Int32.lt_trans z (by decide)))
      have h3 : m ≤ wN := by
        by_cases z : m ≤ wN
        · exact z
        · exact absurd (nI_lt (by omega) hm) h2
      have hv : vp_in (nI m) 9 := vp_in_nI (by omega) (by omega)
      refine ⟨cM (nI m).toNatClampNeg, fun P hp => ?_, fun P hp => br_f h1 (br_t (Int32.not_lt.mp h2) ⟨hv, hp⟩)⟩
      unfold wpX_members
      refine br_f h1 (br_f h2 ?_)
      exact br_f (by decide) ⟨hv, hp⟩
theorem aq_Arc (I : qd_I B cN rN sN oN wN ph gh rh oC oK oR oS oT cC cO cH lT sI sK sT cM gT ms cR) : qd_AN (fun post => wpX_reconfiguration post (nI cN, nI rN, nI sN, nI oN, ph, nI wN, gh, oC, oK, oR, oS, oT, oW, cC, cO, cH, lT, sI, sK, sT, cM, gT, qd_K ms, qd_S ms, qd_O ms, qd_C ms, qd_T ms, iT, uT) p0) (fun post => wpY_reconfiguration post (nI cN, nI rN, nI sN, nI oN, ph, nI wN, rh, cM, oC, oK, oR, oW, oS, oT, cC, cO, cH, cR, sI, sK, sT, gT, ms) p0) := by
  obtain ⟨n1, n2, n3, n4, n5, n6, n7, n8, n9⟩ := I.1
  have hR := I.2.2.2.2.2.2.2.2.2.2
  have hg : ¬ ph = 0 → gh = rh := by
    intro z
    rcases hR with h | h | h
    · exact absurd h z
    · exact h.2.2.1
    · exact h.2.1
  have e3 : (3 : Int32) + nI rN = nI (3 + rN) := nI_add 3 rN
  by_cases h0 : p0 < 0
  · have ne : ∀ a : Int32, 0 ≤ a → ¬ p0 = a := fun a ha z => Int32.not_lt.mpr ha (z ▸ h0)
    exact ⟨-1, fun P hp => br_f (ne 0 (by decide)) (br_f (ne 1 (by decide)) (br_f (ne 2 (by decide)) (br_t (Int32.lt_trans h0 (by decide)) hp))), fun P hp => br_t h0 hp⟩
  · obtain ⟨n, hn, rfl⟩ := nI_of h0
    have hlt : n < 3 + rN → nI n < 3 + nI rN := fun z => by rw [e3]; exact nI_lt z (by omega)
    by_cases c0 : n = 0
    · subst c0
      exact ⟨ph, fun P hp => br_t rfl hp, fun P hp => br_f h0 (br_t (hlt (by omega)) (br_t rfl (br_t rfl hp)))⟩
    · have d0 : ¬ nI n = 0 := nI_ne0 (by omega) hn
      by_cases c1 : n = 1
      · subst c1
        exact ⟨nI wN, fun P hp => br_f d0 (br_t rfl hp), fun P hp => br_f h0 (br_t (hlt (by omega)) (br_f d0 (br_t rfl (br_f d0 hp))))⟩
      · have d1 : ¬ nI n = 1 := aq_ni (b := 1) c1 hn (by omega)
        by_cases c2 : n = 2
        · subst c2
          by_cases z : ph = 0
          · exact ⟨0, fun P hp => br_f d0 (br_f d1 (br_t rfl (br_t z hp))), fun P hp => br_f h0 (br_t (hlt (by omega)) (br_f d0 (br_f d1 (br_t z hp))))⟩
          · exact ⟨gh, fun P hp => br_f d0 (br_f d1 (br_t rfl (br_f z hp))), fun P hp => br_f h0 (br_t (hlt (by omega)) (br_f d0 (br_f d1 (br_f z (br_t rfl (hg z ▸ hp))))))⟩
        · have d2 : ¬ nI n = 2 := aq_ni (b := 2) c2 hn (by omega)
          have d3 : ¬ nI n < 3 := nI_nlt (b := 3) (by omega) hn
          by_cases c3 : n < 3 + rN
          · have d4 : ¬ (3 : Int32) + nI rN ≤ nI n := Int32.not_le.mpr (hlt c3)
            have e4 : nI n - 3 = nI (n - 3) := pk_sub (b := 3) (by omega)
            by_cases z : ph = 0
            · exact ⟨0, fun P hp => br_f d0 (br_f d1 (br_f d2 (br_f d3 (br_f d4 (br_t z hp))))), fun P hp => br_f h0 (br_t (hlt c3) (br_f d0 (br_f d1 (br_t z hp))))⟩
            · have hv : vp_in (nI n - 3) 4 := by rw [e4]; exact vp_in_nI (by omega) (by omega)
              exact ⟨gT (nI n - 3).toNatClampNeg, fun P hp => br_f d0 (br_f d1 (br_f d2 (br_f d3 (br_f d4 (br_f z ⟨hv, hp⟩))))), fun P hp => br_f h0 (br_t (hlt c3) (br_f d0 (br_f d1 (br_f z (br_f d2 ⟨hv, hp⟩)))))⟩
          · have d4 : (3 : Int32) + nI rN ≤ nI n := by rw [e3]; exact nI_le (by omega) hn
            exact ⟨-1, fun P hp => br_f d0 (br_f d1 (br_f d2 (br_f d3 (br_t d4 hp)))), fun P hp => br_f h0 (br_f (Int32.not_lt.mpr d4) hp)⟩
theorem aq_Ams (I : qd_I B cN rN sN oN wN ph gh rh oC oK oR oS oT cC cO cH lT sI sK sT cM gT ms cR) : qd_AN (fun post => wpX_message post (nI cN, nI rN, nI sN, nI oN, ph, nI wN, gh, oC, oK, oR, oS, oT, oW, cC, cO, cH, lT, sI, sK, sT, cM, gT, qd_K ms, qd_S ms, qd_O ms, qd_C ms, qd_T ms, iT, uT) p0 p1) (fun post => wpY_message post (nI cN, nI rN, nI sN, nI oN, ph, nI wN, rh, cM, oC, oK, oR, oW, oS, oT, cC, cO, cH, cR, sI, sK, sT, gT, ms) p0 p1) := by
  obtain ⟨n1, n2, n3, n4, n5, n6, n7, n8, n9⟩ := I.1
  have e4 : (4 : Int32) + nI rN = nI (4 + rN) := nI_add 4 rN
  by_cases h0 : p0 < 0
  · exact ⟨-1, fun P hp => br_t h0 hp, fun P hp => br_t h0 hp⟩
  · by_cases h1 : p0 < nI sN
    · have h1' : ¬ nI sN ≤ p0 := Int32.not_le.mpr h1
      by_cases h2 : p1 < 0
      · exact ⟨-1, fun P hp => br_f h0 (br_t h1 (br_t h2 hp)), fun P hp => br_f h0 (br_f h1' (br_t h2 hp))⟩
      · by_cases h3 : p1 < 4 + nI rN
        · obtain ⟨k, hk, rfl⟩ := nI_of h0
          obtain ⟨f, hf, rfl⟩ := nI_of h2
          rw [nI_ltI hk (by omega)] at h1
          have h3' := h3
          rw [e4, nI_ltI hf (by omega)] at h3'
          have hk8 : k < 48 := by omega
          have hv : vp_in (nI k) 48 := vp_in_nI hk8 (by omega)
          have ek : (nI k).toNatClampNeg = k := nI_clamp (by omega)
          have h1 : nI k < nI sN := nI_lt h1 (by omega)
          by_cases c0 : f = 0
          · subst c0
            refine ⟨ms (k * 8), fun P hp => br_f h0 (br_t h1 (br_f h2 (br_t h3 (br_t rfl ⟨hv, ?_⟩)))), fun P hp => br_f h0 (br_f h1' (br_f h2 (br_t h3 ⟨aq_v80 hk8, ?_⟩)))⟩
            · rw [ek]; exact hp
            · rw [aq_c80 hk8]
              by_cases z : ms (k * 8) = 0
              · rw [z] at hp
                exact br_t z (br_t rfl hp)
              · refine br_f z ⟨aq_v8 hk8 (by omega), ?_⟩
                rw [aq_c8 hk8 (by omega)]; exact hp
          · have d0 : ¬ nI f = 0 := nI_ne0 (by omega) hf
            by_cases z : ms (k * 8) = 0
            · refine ⟨-1, fun P hp => br_f h0 (br_t h1 (br_f h2 (br_t h3 (br_f d0 ⟨hv, ?_⟩)))), fun P hp => br_f h0 (br_f h1' (br_f h2 (br_t h3 ⟨aq_v80 hk8, ?_⟩)))⟩
              · rw [ek]; exact br_t z hp
              · rw [aq_c80 hk8]; exact br_t z (br_f d0 hp)
            · refine ⟨ms (k * 8 + f), fun P hp => br_f h0 (br_t h1 (br_f h2 (br_t h3 (br_f d0 ⟨hv, ?_⟩)))), fun P hp => br_f h0 (br_f h1' (br_f h2 (br_t h3 ⟨aq_v80 hk8, ?_⟩)))⟩
              · rw [ek]
                refine br_f z (br_f (aq_lt1 (by omega) hf) ?_)
                by_cases c4 : 3 < f
                · have e5 : nI f - 4 = nI (f - 4) := pk_sub (b := 4) (by omega)
                  refine br_t (nI_lt (a := 3) c4 hf) ?_
                  rw [e5]
                  refine ⟨aq_v4 (by omega) (by omega), ?_⟩
                  rw [aq_c4 (by omega), aq_Tij (by omega), show k * 8 + 4 + (f - 4) = k * 8 + f by omega]
                  exact hp
                · refine br_f (nI_nlt (a := 3) (by omega) (by omega)) ?_
                  by_cases c1 : f = 1
                  · subst c1; exact br_t rfl ⟨hv, hp⟩
                  · refine br_f (aq_ni (b := 1) c1 hf (by omega)) ?_
                    by_cases c2 : f = 2
                    · subst c2; exact br_t rfl ⟨hv, hp⟩
                    · refine br_f (aq_ni (b := 2) c2 hf (by omega)) ?_
                      have c3 : f = 3 := by omega
                      subst c3; exact br_t rfl ⟨hv, hp⟩
              · rw [aq_c80 hk8]
                refine br_f z ⟨aq_v8 hk8 (by omega), ?_⟩
                rw [aq_c8 hk8 (by omega)]; exact hp
        · exact ⟨-1, fun P hp => br_f h0 (br_t h1 (br_f h2 (br_f h3 hp))), fun P hp => br_f h0 (br_f h1' (br_f h2 (br_f h3 hp)))⟩
    · exact ⟨-1, fun P hp => br_f h0 (br_f h1 hp), fun P hp => br_f h0 (br_t (Int32.not_lt.mp h1) hp)⟩
end
end
section
/-! linearAt -/
def qd_ls (oR oS oK : Nat → Int32) (rg : Int32) (q : Nat) : Bool := decide (oR q = rg ∧ (oS q = 3 ∨ (oK q = 2 ∧ oS q = 2)))
def qd_pr (oT oK : Nat → Int32) (a b : Nat) : Bool := if oT a = oT b then (if oK a = oK b then decide (a < b) else decide (oK a = 2)) else decide (oT a < oT b)
/-- the rank: of the ops i .. i + d - 1, those listed and ahead of q -/
def qd_rkr (l : Nat → Bool) (g : Nat → Bool) : Nat → Nat → Int32 → Int32
  | 0, _, a => a
  | d + 1, i, a => if l i = true ∧ g i = true then qd_rkr l g d (i + 1) (a + 1) else qd_rkr l g d (i + 1) a
def qd_lar (l : Nat → Bool) (rk : Nat → Int32) (pos : Int32) : Nat → Nat → Int32
  | 0, _ => 0
  | d + 1, i => if l i = true ∧ rk i = pos then nI i else qd_lar l rk pos d (i + 1)
theorem aq_pr0 (oT oK : Nat → Int32) (a : Nat) : qd_pr oT oK a a = false := by
  unfold qd_pr
  rw [if_pos rfl, if_pos rfl]
  exact decide_eq_false (by omega)
theorem aq_rkr0 {l g : Nat → Bool} : ∀ d i a, (∀ q, i ≤ q → l q = false) → qd_rkr l g d i a = a := by
  intro d
  induction d with
  | zero => intro i a _; rfl
  | succ d ih =>
    intro i a h
    rw [show qd_rkr l g (d + 1) i a = qd_rkr l g d (i + 1) a from if_neg (fun z => by
      rw [h i (Nat.le_refl _)] at z; exact absurd z.1 (by decide))]
    exact ih (i + 1) a fun q hq => h q (by omega)
theorem aq_rkrx {l g : Nat → Bool} {n : Nat} (hz : ∀ q, n < q → l q = false) (e : Nat) : ∀ d i a, i + d = n + 1 → qd_rkr l g (d + e) i a = qd_rkr l g d i a := by
  intro d
  induction d with
  | zero =>
    intro i a hi
    rw [Nat.zero_add]
    exact aq_rkr0 e i a fun q hq => hz q (by omega)
  | succ d ih =>
    intro i a hi
    rw [show d + 1 + e = (d + e) + 1 by omega]
    show (if _ then _ else _) = (if _ then _ else _)
    rw [ih (i + 1) _ (by omega), ih (i + 1) _ (by omega)]
theorem aq_lar0 {l : Nat → Bool} {rk : Nat → Int32} {pos : Int32} : ∀ d i, (∀ q, i ≤ q → l q = false) → qd_lar l rk pos d i = 0 := by
  intro d
  induction d with
  | zero => intro i _; rfl
  | succ d ih =>
    intro i h
    rw [show qd_lar l rk pos (d + 1) i = qd_lar l rk pos d (i + 1) from if_neg (fun z => by
      rw [h i (Nat.le_refl _)] at z; exact absurd z.1 (by decide))]
    exact ih (i + 1) fun q hq => h q (by omega)
theorem aq_larx {l : Nat → Bool} {rk : Nat → Int32} {pos : Int32} {n : Nat} (hz : ∀ q, n < q → l q = false) (e : Nat) : ∀ d i, i + d = n + 1 → qd_lar l rk pos (d + e) i = qd_lar l rk pos d i := by
  intro d
  induction d with
  | zero =>
    intro i hi
    rw [Nat.zero_add]
    exact aq_lar0 e i fun q hq => hz q (by omega)
  | succ d ih =>
    intro i hi
    rw [show d + 1 + e = (d + e) + 1 by omega]
    show (if _ then _ else _) = (if _ then _ else _)
    rw [ih (i + 1) (by omega)]
section
variable {cN rN sN oN wN B : Nat} {ph gh rh : Int32} {oC oK oR oS oT oW cC cO cH lT sI sK sT cM gT ms iT uT cR : Nat → Int32}
variable {j q m r k a b : Nat} {p0 p1 rg pos : Int32} {post : Int32 → Prop}
theorem aq_lst {P : Prop} (h : qd_ls oR oS oK rg q = true) (g : oR q = rg → (oS q = 3 ∨ (oK q = 2 ∧ oS q = 2)) → P) : P := by
  have z := of_decide_eq_true h
  exact g z.1 z.2
theorem aq_xls (hq : q ≤ 64) (h1 : qd_ls oR oS oK rg q = true → post 1) (h0 : qd_ls oR oS oK rg q = false → post 0) : wpX_isListed post (nI cN, nI rN, nI sN, nI oN, ph, nI wN, gh, oC, oK, oR, oS, oT, oW, cC, cO, cH, lT, sI, sK, sT, cM, gT, qd_K ms, qd_S ms, qd_O ms, qd_C ms, qd_T ms, iT, uT) (nI q) rg := by
  have hw : vp_in (nI q) 65 := vp_in_nI (by omega) (by omega)
  have eq : (nI q).toNatClampNeg = q := nI_clamp (by omega)
  refine And.intro hw ?_
  rw [eq]
  by_cases c1 : oR q = rg
  · refine br_t c1 ⟨hw, ?_⟩
    by_cases c2 : oS q = 3
    · exact br_t c2 (h1 (decide_eq_true ⟨c1, Or.inl c2⟩))
    · refine br_f c2 ⟨hw, ?_⟩
      by_cases c3 : oK q = 2
      · refine br_t c3 ⟨hw, ?_⟩
        by_cases c4 : oS q = 2
        · exact br_t c4 (h1 (decide_eq_true ⟨c1, Or.inr ⟨c3, c4⟩⟩))
        · exact br_f c4 (h0 (decide_eq_false fun z => z.2.elim c2 fun w => c4 w.2))
      · exact br_f c3 (h0 (decide_eq_false fun z => z.2.elim c2 fun w => c3 w.1))
  · exact br_f c1 (h0 (decide_eq_false fun z => c1 z.1))
theorem aq_yls (hq : q ≤ 64) (h1 : qd_ls oR oS oK rg q = true → post 1) (h0 : qd_ls oR oS oK rg q = false → post 0) : wpY_listed post (nI cN, nI rN, nI sN, nI oN, ph, nI wN, rh, cM, oC, oK, oR, oW, oS, oT, cC, cO, cH, cR, sI, sK, sT, gT, ms) (nI q) rg := by
  have hw : vp_in (nI q) 65 := vp_in_nI (by omega) (by omega)
  have eq : (nI q).toNatClampNeg = q := nI_clamp (by omega)
  refine And.intro hw ?_
  rw [eq]
  by_cases c1 : oR q = rg
  · refine br_t c1 ⟨hw, ?_⟩
    by_cases c2 : oS q = 3
    · exact br_t c2 (h1 (decide_eq_true ⟨c1, Or.inl c2⟩))
    · refine br_f c2 ⟨hw, ?_⟩
      by_cases c4 : oS q = 2
      · refine br_t c4 ⟨hw, ?_⟩
        by_cases c3 : oK q = 2
        · exact br_t c3 (h1 (decide_eq_true ⟨c1, Or.inr ⟨c3, c4⟩⟩))
        · exact br_f c3 (h0 (decide_eq_false fun z => z.2.elim c2 fun w => c3 w.1))
      · exact br_f c4 (h0 (decide_eq_false fun z => z.2.elim c2 fun w => c4 w.2))
  · exact br_f c1 (h0 (decide_eq_false fun z => c1 z.1))
theorem aq_prb (P : Int32 → Prop) (ha : a ≤ 64) (hb : b ≤ 64) (h1 : qd_pr oT oK a b = true → P 1) (h0 : qd_pr oT oK a b = false → P 0) : vp_in (nI a) 65 ∧ (vp_in (nI b) 65 ∧ (((oT (nI a).toNatClampNeg) = (oT (nI b).toNatClampNeg) → (vp_in (nI a) 65 ∧ (vp_in (nI b) 65 ∧ ((((oK (nI a).toNatClampNeg) = (oK (nI b).toNatClampNeg) → (((nI b ≤ nI a → (P 0)) ∧ (¬ nI b ≤ nI a → (P 1))))) ∧ (¬ (oK (nI a).toNatClampNeg) = (oK (nI b).toNatClampNeg) → (vp_in (nI a) 65 ∧ ((((oK (nI a).toNatClampNeg) = 2 → (P 1)) ∧ (¬ (oK (nI a).toNatClampNeg) = 2 → (P 0))))))))))) ∧ (¬ (oT (nI a).toNatClampNeg) = (oT (nI b).toNatClampNeg) → (vp_in (nI a) 65 ∧ (vp_in (nI b) 65 ∧ ((((oT (nI b).toNatClampNeg) ≤ (oT (nI a).toNatClampNeg) → (P 0)) ∧ (¬ (oT (nI b).toNatClampNeg) ≤ (oT (nI a).toNatClampNeg) → (P 1))))))))) := by
  have hv : vp_in (nI a) 65 := vp_in_nI (by omega) (by omega)
  have hw : vp_in (nI b) 65 := vp_in_nI (by omega) (by omega)
  rw [nI_clamp (show a < 2 ^ 31 by omega), nI_clamp (show b < 2 ^ 31 by omega)]
  refine ⟨hv, hw, ?_⟩
  unfold qd_pr at h1 h0
  by_cases c1 : oT a = oT b
  · rw [if_pos c1] at h1 h0
    refine br_t c1 ⟨hv, hw, ?_⟩
    by_cases c2 : oK a = oK b
    · rw [if_pos c2] at h1 h0
      refine br_t c2 ?_
      by_cases c3 : b ≤ a
      · exact br_t (nI_le c3 (by omega)) (h0 (decide_eq_false (by omega)))
      · exact br_f (nI_ge (by omega) (by omega)) (h1 (decide_eq_true (by omega)))
    · rw [if_neg c2] at h1 h0
      refine br_f c2 ⟨hv, ?_⟩
      exact br_c (fun c => h1 (decide_eq_true c)) (fun c => h0 (decide_eq_false c))
  · rw [if_neg c1] at h1 h0
    refine br_f c1 ⟨hv, hw, ?_⟩
    exact br_c (fun c => h0 (decide_eq_false (Int32.not_lt.mpr c))) (fun c => h1 (decide_eq_true (Int32.not_le.mp c)))
theorem aq_xpr (ha : a ≤ 64) (hb : b ≤ 64) (h1 : qd_pr oT oK a b = true → post 1) (h0 : qd_pr oT oK a b = false → post 0) : wpX_comesBefore post (nI cN, nI rN, nI sN, nI oN, ph, nI wN, gh, oC, oK, oR, oS, oT, oW, cC, cO, cH, lT, sI, sK, sT, cM, gT, qd_K ms, qd_S ms, qd_O ms, qd_C ms, qd_T ms, iT, uT) (nI a) (nI b) := aq_prb post ha hb h1 h0
theorem aq_ypr (ha : a ≤ 64) (hb : b ≤ 64) (h1 : qd_pr oT oK a b = true → post 1) (h0 : qd_pr oT oK a b = false → post 0) : wpY_precedes post (nI cN, nI rN, nI sN, nI oN, ph, nI wN, rh, cM, oC, oK, oR, oW, oS, oT, cC, cO, cH, cR, sI, sK, sT, gT, ms) (nI a) (nI b) := aq_prb post ha hb h1 h0
theorem aq_rkt {l g : Nat → Bool} {d i : Nat} {x : Int32} (h : l i = true) (h2 : g i = true) : qd_rkr l g (d + 1) i x = qd_rkr l g d (i + 1) (x + 1) := if_pos ⟨h, h2⟩
theorem aq_rkf {l g : Nat → Bool} {d i : Nat} {x : Int32} (h : l i = false ∨ g i = false) : qd_rkr l g (d + 1) i x = qd_rkr l g d (i + 1) x := if_neg fun z => by
  rcases h with h | h
  · rw [h] at z; exact absurd z.1 (by decide)
  · rw [h] at z; exact absurd z.2 (by decide)
theorem aq_xrk_ (h64 : oN ≤ 64) (hq : q ≤ 64) : ∀ d i x, 1 ≤ i → i + d = oN + 1 → post (qd_rkr (qd_ls oR oS oK rg) (fun p => qd_pr oT oK p q) d i x) → wX_rankOf_5 post (nI q) rg (nI cN) (nI rN) (nI sN) (nI oN) ph (nI wN) gh oC oK oR oS oT oW cC cO cH lT sI sK sT cM gT (qd_K ms) (qd_S ms) (qd_O ms) (qd_C ms) (qd_T ms) iT uT (d + 1) x (nI i) := by
  intro d
  induction d with
  | zero =>
    intro i x h1 hi hp
    exact br_t (nI_lt (by omega) (by omega)) hp
  | succ d ih =>
    intro i x h1 hi hp
    refine br_f (nI_nlt (by omega) (by omega)) ?_
    by_cases c : i = q
    · subst c
      rw [aq_rkf (g := fun p => qd_pr oT oK p i) (Or.inr (aq_pr0 oT oK i))] at hp
      exact br_t rfl (nm_r (nI_1 i) (ih (i + 1) x (by omega) (by omega) hp))
    · refine br_f (aq_ni c (by omega) (by omega)) (aq_xls (by omega) (fun g => ?_) (fun g => ?_))
      · refine br_f (by decide) (aq_xpr (by omega) hq (fun g2 => ?_) (fun g2 => ?_))
        · rw [aq_rkt g g2] at hp
          exact br_f (by decide) (nm_e (nm_r (nI_1 i) (ih (i + 1) (x + 1) (by omega) (by omega) hp)))
        · rw [aq_rkf (g := fun p => qd_pr oT oK p q) (Or.inr g2)] at hp
          exact br_t rfl (nm_r (nI_1 i) (ih (i + 1) x (by omega) (by omega) hp))
      · rw [aq_rkf (Or.inl g)] at hp
        exact br_t rfl (nm_r (nI_1 i) (ih (i + 1) x (by omega) (by omega) hp))
theorem aq_xrk (h64 : oN ≤ 64) (hq : q ≤ 64) (hp : post (qd_rkr (qd_ls oR oS oK rg) (fun p => qd_pr oT oK p q) oN 1 0)) : wpX_rankOf post (nI cN, nI rN, nI sN, nI oN, ph, nI wN, gh, oC, oK, oR, oS, oT, oW, cC, cO, cH, lT, sI, sK, sT, cM, gT, qd_K ms, qd_S ms, qd_O ms, qd_C ms, qd_T ms, iT, uT) (nI q) rg := Exists.intro (oN + 1) (aq_xrk_ h64 hq oN 1 0 (by omega) (by omega) hp)
theorem aq_yrk_ {J : Int32 → Prop} (hq : q ≤ 64) (K : ∀ x, x = qd_rkr (qd_ls oR oS oK rg) (fun p => qd_pr oT oK p q) 64 1 0 → wpY_listed (fun r_29 => (((r_29 = 0 → (∀ x3_54 : Int32, x3_54 = nI q + 1 → (J x3_54))) ∧ (¬ r_29 = 0 → (((x = pos → (post (nI q))) ∧ (¬ x = pos → (∀ x3_56 : Int32, x3_56 = nI q + 1 → (J x3_56))))))))) (nI cN, nI rN, nI sN, nI oN, ph, nI wN, rh, cM, oC, oK, oR, oW, oS, oT, cC, cO, cH, cR, sI, sK, sT, gT, ms) (nI q) rg) : ∀ d i x, 1 ≤ i → i + d = 65 → qd_rkr (qd_ls oR oS oK rg) (fun p => qd_pr oT oK p q) d i x = qd_rkr (qd_ls oR oS oK rg) (fun p => qd_pr oT oK p q) 64 1 0 → wY_linearAt_28 post J rg pos (nI q) (nI cN) (nI rN) (nI sN) (nI oN) ph (nI wN) rh cM oC oK oR oW oS oT cC cO cH cR sI sK sT gT ms (d + 1) x (nI i) := by
  intro d
  induction d with
  | zero =>
    intro i x h1 hi hp
    exact br_t (nI_lt (a := 64) (by omega) (by omega)) (K x hp)
  | succ d ih =>
    intro i x h1 hi hp
    refine br_f (nI_nlt (a := 64) (by omega) (by omega)) (aq_yls (by omega) (fun g => ?_) (fun g => ?_))
    · refine br_f (by decide) (aq_ypr (by omega) hq (fun g2 => ?_) (fun g2 => ?_))
      · rw [aq_rkt g g2] at hp
        exact br_f (by decide) (nm_e (nm_r (nI_1 i) (ih (i + 1) (x + 1) (by omega) (by omega) hp)))
      · rw [aq_rkf (g := fun p => qd_pr oT oK p q) (Or.inr g2)] at hp
        exact br_t rfl (nm_r (nI_1 i) (ih (i + 1) x (by omega) (by omega) hp))
    · rw [aq_rkf (Or.inl g)] at hp
      exact br_t rfl (nm_r (nI_1 i) (ih (i + 1) x (by omega) (by omega) hp))
theorem aq_lat {l : Nat → Bool} {rk : Nat → Int32} {d i : Nat} (h : l i = true) (h2 : rk i = pos) : qd_lar l rk pos (d + 1) i = nI i := if_pos ⟨h, h2⟩
theorem aq_laf {l : Nat → Bool} {rk : Nat → Int32} {d i : Nat} (h : l i = false ∨ ¬ rk i = pos) : qd_lar l rk pos (d + 1) i = qd_lar l rk pos d (i + 1) := if_neg fun z => by
  rcases h with h | h
  · rw [h] at z; exact absurd z.1 (by decide)
  · exact h z.2
theorem aq_xla_ (h64 : oN ≤ 64) : ∀ d i, 1 ≤ i → i + d = oN + 1 → post (qd_lar (qd_ls oR oS oK rg) (fun q => qd_rkr (qd_ls oR oS oK rg) (fun p => qd_pr oT oK p q) oN 1 0) pos d i) → wX_linearAt_16 post rg pos (nI cN) (nI rN) (nI sN) (nI oN) ph (nI wN) gh oC oK oR oS oT oW cC cO cH lT sI sK sT cM gT (qd_K ms) (qd_S ms) (qd_O ms) (qd_C ms) (qd_T ms) iT uT (d + 1) (nI i) := by
  intro d
  induction d with
  | zero =>
    intro i h1 hi hp
    exact br_t (nI_lt (by omega) (by omega)) hp
  | succ d ih =>
    intro i h1 hi hp
    refine br_f (nI_nlt (by omega) (by omega)) (aq_xls (by omega) (fun g => ?_) (fun g => ?_))
    · refine br_f (by decide) (aq_xrk h64 (by omega) ?_)
      by_cases c : qd_rkr (qd_ls oR oS oK rg) (fun p => qd_pr oT oK p i) oN 1 0 = pos
      · rw [aq_lat g c] at hp
        exact br_t c hp
      · rw [aq_laf (Or.inr c)] at hp
        exact br_f c (nm_r (nI_1 i) (ih (i + 1) (by omega) (by omega) hp))
    · rw [aq_laf (Or.inl g)] at hp
      exact br_t rfl (nm_r (nI_1 i) (ih (i + 1) (by omega) (by omega) hp))
theorem aq_yla_ : ∀ d i, 1 ≤ i → i + d = 65 → post (qd_lar (qd_ls oR oS oK rg) (fun q => qd_rkr (qd_ls oR oS oK rg) (fun p => qd_pr oT oK p q) 64 1 0) pos d i) → wY_linearAt_16 post rg pos (nI cN) (nI rN) (nI sN) (nI oN) ph (nI wN) rh cM oC oK oR oW oS oT cC cO cH cR sI sK sT gT ms (d + 1) (nI i) := by
  intro d
  induction d with
  | zero =>
    intro i h1 hi hp
    exact br_t (nI_lt (a := 64) (by omega) (by omega)) hp
  | succ d ih =>
    intro i h1 hi hp
    refine br_f (nI_nlt (a := 64) (by omega) (by omega)) ⟨65, aq_yrk_ (q := i) (by omega) (fun x hx => ?_) 64 1 0 (by omega) (by omega) rfl⟩
    refine aq_yls (by omega) (fun g => ?_) (fun g => ?_)
    · refine br_f (by decide) ?_
      by_cases c : x = pos
      · rw [aq_lat g (show qd_rkr (qd_ls oR oS oK rg) (fun p => qd_pr oT oK p i) 64 1 0 = pos from hx.symm.trans c)] at hp
        exact br_t c hp
      · rw [aq_laf (Or.inr (show ¬ qd_rkr (qd_ls oR oS oK rg) (fun p => qd_pr oT oK p i) 64 1 0 = pos from fun z => c (hx.trans z)))] at hp
        exact br_f c (nm_r (nI_1 i) (ih (i + 1) (by omega) (by omega) hp))
    · rw [aq_laf (Or.inl g)] at hp
      exact br_t rfl (nm_r (nI_1 i) (ih (i + 1) (by omega) (by omega) hp))
theorem aq_Ala (I : qd_I B cN rN sN oN wN ph gh rh oC oK oR oS oT cC cO cH lT sI sK sT cM gT ms cR) : qd_AN (fun post => wpX_linearAt post (nI cN, nI rN, nI sN, nI oN, ph, nI wN, gh, oC, oK, oR, oS, oT, oW, cC, cO, cH, lT, sI, sK, sT, cM, gT, qd_K ms, qd_S ms, qd_O ms, qd_C ms, qd_T ms, iT, uT) p0 p1) (fun post => wpY_linearAt post (nI cN, nI rN, nI sN, nI oN, ph, nI wN, rh, cM, oC, oK, oR, oW, oS, oT, cC, cO, cH, cR, sI, sK, sT, gT, ms) p0 p1) := by
  obtain ⟨n1, n2, n3, n4, n5, n6, n7, n8, n9⟩ := I.1
  rcases aq_noc rN p0 (by omega) with h | ⟨r, hr, rfl⟩
  · refine ⟨-1, fun P hp => ?_, fun P hp => ?_⟩
    · unfold wpX_linearAt
      refine aq_xr0 h ?_
      exact br_t rfl hp
    · unfold wpY_linearAt
      refine aq_yr1 h ?_
      exact br_f (by decide) hp
  · by_cases h1 : 0 ≤ p1
    · have hz : ∀ q, oN < q → qd_ls oR oS oK (nI r) q = false := fun q hq => by
        obtain ⟨g1, g2⟩ := I.2.2.2.1 q hq
        refine decide_eq_false fun z => ?_
        rcases z.2 with w | w
        · rw [g2] at w; exact absurd w (by decide)
        · rw [g1] at w; exact absurd w.1 (by decide)
      refine ⟨qd_lar (qd_ls oR oS oK (nI r)) (fun q => qd_rkr (qd_ls oR oS oK (nI r)) (fun p => qd_pr oT oK p q) oN 1 0) p1 oN 1, fun P hp => ?_, fun P hp => ?_⟩
      · unfold wpX_linearAt
        refine aq_xr1 hr (by omega) ?_
        exact br_f (by decide) (br_t h1 ⟨oN + 1, aq_xla_ n7 oN 1 (by omega) (by omega) hp⟩)
      · unfold wpY_linearAt
        refine aq_yr0 hr (by omega) ?_
        refine br_t rfl (br_t h1 ⟨65, aq_yla_ 64 1 (by omega) (by omega) ?_⟩)
        have e1 : (fun q => qd_rkr (qd_ls oR oS oK (nI r)) (fun p => qd_pr oT oK p q) 64 1 0) = (fun q => qd_rkr (qd_ls oR oS oK (nI r)) (fun p => qd_pr oT oK p q) oN 1 0) := funext fun q => by
          rw [← aq_rkrx hz (64 - oN) oN 1 0 (by omega), show oN + (64 - oN) = 64 by omega]
        rw [e1]
        rw [← aq_larx hz (64 - oN) oN 1 (by omega), show oN + (64 - oN) = 64 by omega] at hp
        exact hp
    · refine ⟨-1, fun P hp => ?_, fun P hp => ?_⟩
      · unfold wpX_linearAt
        refine aq_xr1 hr (by omega) ?_
        exact br_f (by decide) (br_f h1 hp)
      · unfold wpY_linearAt
        refine aq_yr0 hr (by omega) ?_
        exact br_t rfl (br_f h1 hp)
end
end
section
/-! quorumFloor: sets of five servers as numbers below 32 -/
def qd_pc (a : Nat) : Nat := a % 2 + a / 2 % 2 + a / 4 % 2 + a / 8 % 2 + a / 16 % 2
def qd_mkb (b0 b1 b2 b3 b4 : Bool) : Nat := (if b0 then 1 else 0) + (if b1 then 2 else 0) + (if b2 then 4 else 0) + (if b3 then 8 else 0) + (if b4 then 16 else 0)
def qd_mk (c : Nat → Bool) : Nat := qd_mkb (c 0) (c 1) (c 2) (c 3) (c 4)
def qd_cn (c : Nat → Bool) : Nat → Nat → Int32 → Int32
  | 0, _, x => x
  | d + 1, i, x => if c i = true then qd_cn c d (i + 1) (x + 1) else qd_cn c d (i + 1) x
def qd_sl (b0 b1 b2 b3 b4 : Bool) : Nat → Bool := fun i => if i = 0 then b0 else if i = 1 then b1 else if i = 2 then b2 else if i = 3 then b3 else b4
theorem aq_szT : ∀ a, a < 32 → qd_sz (nI a) = nI (qd_pc a) := by decide +kernel
theorem aq_pc5 : ∀ a, a < 32 → qd_pc a ≤ 5 := by decide +kernel
theorem aq_subT : ∀ a, a < 32 → ∀ b, b < 32 → ((nI a &&& (nI b ^^^ (-1)) = 0) ↔ ∀ i, i < 5 → bt (nI a) i = true → bt (nI b) i = true) := by decide +kernel
theorem aq_monT : ∀ a, a < 32 → ∀ b, b < 32 → (∀ i, i < 5 → bt (nI a) i = true → bt (nI b) i = true) → qd_pc a ≤ qd_pc b := by decide +kernel
theorem aq_neT : ∀ a, a < 32 → 1 ≤ a → ∃ i, i < 5 ∧ bt (nI a) i = true := by decide +kernel
theorem aq_posT : ∀ a, a < 32 → 1 ≤ a → 1 ≤ qd_pc a := by decide +kernel
theorem aq_mkbT : ∀ b0 b1 b2 b3 b4 : Bool, qd_mkb b0 b1 b2 b3 b4 < 32 ∧ ∀ i, i < 5 → bt (nI (qd_mkb b0 b1 b2 b3 b4)) i = qd_sl b0 b1 b2 b3 b4 i := by decide +kernel
theorem aq_cnT : ∀ b0 b1 b2 b3 b4 : Bool, qd_cn (qd_sl b0 b1 b2 b3 b4) 5 0 0 = nI (qd_pc (qd_mkb b0 b1 b2 b3 b4)) := by decide +kernel
theorem aq_sl (c : Nat → Bool) : ∀ i, i < 5 → qd_sl (c 0) (c 1) (c 2) (c 3) (c 4) i = c i := by
  intro i hi
  have h : i = 0 ∨ i = 1 ∨ i = 2 ∨ i = 3 ∨ i = 4 := by omega
  rcases h with rfl | rfl | rfl | rfl | rfl <;> rfl
theorem aq_cnc {c c2 : Nat → Bool} (h : ∀ i, i < 5 → c i = c2 i) : ∀ d i x, i + d = 5 → qd_cn c d i x = qd_cn c2 d i x := by
  intro d
  induction d with
  | zero => intro i x _; rfl
  | succ d ih =>
    intro i x hi
    show (if _ then _ else _) = (if _ then _ else _)
    rw [h i (by omega), ih (i + 1) _ (by omega), ih (i + 1) _ (by omega)]
theorem aq_cn (c : Nat → Bool) : qd_cn c 5 0 0 = nI (qd_pc (qd_mk c)) := by
  rw [← aq_cnc (aq_sl c) 5 0 0 rfl]
  exact aq_cnT _ _ _ _ _
theorem aq_mk (c : Nat → Bool) : qd_mk c < 32 ∧ ∀ i, i < 5 → bt (nI (qd_mk c)) i = c i := by
  obtain ⟨h1, h2⟩ := aq_mkbT (c 0) (c 1) (c 2) (c 3) (c 4)
  refine ⟨h1, fun i hi => ?_⟩
  rw [← aq_sl c i hi]
  exact h2 i hi
/-- the servers of the set with a tag not above x -/
def qd_cb (set : Int32) (T : Nat → Int32) (x : Int32) : Nat → Bool := fun i => bt set i && decide (T i ≤ x)
def qd_gd (b : Nat) (T : Nat → Int32) (s : Nat) : Prop := s < 5 ∧ bt (nI b) s = true ∧ qd_pc b < 2 * qd_pc (qd_mk (qd_cb (nI b) T (T s)))
def qd_Q (b a : Nat) : Prop := 1 ≤ a ∧ a < 32 ∧ (∀ i, i < 5 → bt (nI a) i = true → bt (nI b) i = true) ∧ qd_pc b < 2 * qd_pc a
def qd_tp (h : Int32) (T : Nat → Int32) : Nat → Nat → Int32 → Int32
  | 0, _, x => x
  | d + 1, i, x => if bt h i = true then qd_tp h T d (i + 1) (qd_mx x (T i)) else qd_tp h T d (i + 1) x
theorem aq_tpt {h : Int32} {T : Nat → Int32} {d i : Nat} {x : Int32} (hb : bt h i = true) : qd_tp h T (d + 1) i x = qd_tp h T d (i + 1) (qd_mx x (T i)) := if_pos hb
theorem aq_tpf {h : Int32} {T : Nat → Int32} {d i : Nat} {x : Int32} (hb : ¬ bt h i = true) : qd_tp h T (d + 1) i x = qd_tp h T d (i + 1) x := if_neg hb
theorem aq_tp {h : Int32} {T : Nat → Int32} : ∀ d i x, i + d = 5 → x ≤ qd_tp h T d i x ∧ (∀ s, i ≤ s → s < 5 → bt h s = true → T s ≤ qd_tp h T d i x) ∧ (qd_tp h T d i x = x ∨ ∃ s, s < 5 ∧ bt h s = true ∧ qd_tp h T d i x = T s) := by
  intro d
  induction d with
  | zero => intro i x hi; exact ⟨Int32.le_refl _, fun s h1 h2 => absurd h1 (by omega), Or.inl rfl⟩
  | succ d ih =>
    intro i x hi
    by_cases hb : bt h i = true
    · rw [aq_tpt hb]
      obtain ⟨g1, g2, g3⟩ := ih (i + 1) (qd_mx x (T i)) (by omega)
      refine ⟨Int32.le_trans (aq_mx_ge1 _ _) g1, fun s h1 h2 h3 => ?_, ?_⟩
      · by_cases z : s = i
        · subst z; exact Int32.le_trans (aq_mx_ge2 _ _) g1
        · exact g2 s (by omega) h2 h3
      · rcases g3 with g3 | g3
        · rcases aq_mx_or x (T i) with e | e
          · exact Or.inl (g3.trans e)
          · exact Or.inr ⟨i, by omega, hb, g3.trans e⟩
        · exact Or.inr g3
    · rw [aq_tpf hb]
      obtain ⟨g1, g2, g3⟩ := ih (i + 1) x (by omega)
      refine ⟨g1, fun s h1 h2 h3 => ?_, g3⟩
      by_cases z : s = i
      · subst z; exact absurd h3 hb
      · exact g2 s (by omega) h2 h3
/-- the top of a set that isn't empty is a tag in it -/
theorem aq_top {a : Nat} {T : Nat → Int32} (hT : ∀ s, s < 5 → 0 ≤ T s) (h1 : 1 ≤ a) (h2 : a < 32) : (∀ s, s < 5 → bt (nI a) s = true → T s ≤ qd_tp (nI a) T 5 0 0) ∧ ∃ s, s < 5 ∧ bt (nI a) s = true ∧ qd_tp (nI a) T 5 0 0 = T s := by
  obtain ⟨g1, g2, g3⟩ := aq_tp (h := nI a) (T := T) 5 0 0 rfl
  refine ⟨fun s hs hb => g2 s (by omega) hs hb, ?_⟩
  rcases g3 with g3 | g3
  · obtain ⟨i, hi, hb⟩ := aq_neT a h2 h1
    refine ⟨i, hi, hb, ?_⟩
    have g4 := g2 i (by omega) hi hb
    rw [g3] at g4 ⊢
    exact Int32.le_antisymm (hT i hi) g4
  · exact g3
theorem aq_Qgd {a b : Nat} {T : Nat → Int32} (hT : ∀ s, s < 5 → 0 ≤ T s) (hq : qd_Q b a) : ∃ s, qd_gd b T s ∧ qd_tp (nI a) T 5 0 0 = T s := by
  obtain ⟨q1, q2, q3, q4⟩ := hq
  obtain ⟨g1, s, hs, hb, e⟩ := aq_top hT q1 q2
  refine ⟨s, ⟨hs, q3 s hs hb, ?_⟩, e⟩
  obtain ⟨m1, m2⟩ := aq_mk (qd_cb (nI b) T (T s))
  have := aq_monT a q2 _ m1 fun i hi hbi => by
    rw [m2 i hi]
    unfold qd_cb
    rw [q3 i hi hbi, Bool.true_and]
    exact decide_eq_true (e ▸ g1 i hi hbi)
  omega
theorem aq_gdQ {b s : Nat} {T : Nat → Int32} (hT : ∀ s, s < 5 → 0 ≤ T s) (hg : qd_gd b T s) : qd_Q b (qd_mk (qd_cb (nI b) T (T s))) ∧ qd_tp (nI (qd_mk (qd_cb (nI b) T (T s)))) T 5 0 0 ≤ T s := by
  obtain ⟨m1, m2⟩ := aq_mk (qd_cb (nI b) T (T s))
  have h1 : 1 ≤ qd_mk (qd_cb (nI b) T (T s)) := by
    by_cases z : qd_mk (qd_cb (nI b) T (T s)) = 0
    · have := hg.2.2
      rw [z, show qd_pc 0 = 0 from rfl] at this
      omega
    · omega
  refine ⟨⟨h1, m1, fun i hi hb => ?_, hg.2.2⟩, ?_⟩
  · rw [m2 i hi] at hb
    unfold qd_cb at hb
    exact (Bool.and_eq_true _ _ ▸ hb).1
  · obtain ⟨g1, i, hi, hb, e⟩ := aq_top hT h1 m1
    rw [e]
    rw [m2 i hi] at hb
    unfold qd_cb at hb
    exact of_decide_eq_true (Bool.and_eq_true _ _ ▸ hb).2
def qd_PX (b : Nat) (T : Nat → Int32) (n : Nat) (G : Int32) : Prop := (∃ s, s < n ∧ qd_gd b T s ∧ G = T s) ∧ (∀ s, s < n → qd_gd b T s → G ≤ T s)
def qd_PY (b : Nat) (T : Nat → Int32) (n : Nat) (F : Int32) : Prop := (∃ a, a < n ∧ qd_Q b a ∧ F = qd_tp (nI a) T 5 0 0) ∧ (∀ a, a < n → qd_Q b a → F ≤ qd_tp (nI a) T 5 0 0)
theorem aq_link {b : Nat} {T : Nat → Int32} {F G : Int32} (hT : ∀ s, s < 5 → 0 ≤ T s) (hX : qd_PX b T 5 G) (hY : qd_PY b T 32 F) : F = G := by
  obtain ⟨⟨s, hs, g, e⟩, h1⟩ := hX
  obtain ⟨⟨a, ha, q, e2⟩, h2⟩ := hY
  apply Int32.le_antisymm
  · obtain ⟨q3, h3⟩ := aq_gdQ hT g
    rw [e]
    exact Int32.le_trans (h2 _ q3.2.1 q3) h3
  · obtain ⟨s2, g2, e3⟩ := aq_Qgd hT q
    rw [e2, e3]
    exact h1 s2 g2.1 g2
theorem aq_pxu {b : Nat} {T : Nat → Int32} {F G : Int32} (hX : qd_PX b T 5 F) (hY : qd_PX b T 5 G) : F = G := by
  obtain ⟨⟨s, hs, g, e⟩, h1⟩ := hX
  obtain ⟨⟨s2, hs2, g2, e2⟩, h2⟩ := hY
  apply Int32.le_antisymm
  · rw [e2]; exact h1 s2 hs2 g2
  · rw [e]; exact h2 s hs g
theorem aq_Qset {b : Nat} (h1 : 1 ≤ b) (h2 : b ≤ 31) : qd_Q b b := ⟨h1, by omega, fun _ _ h => h, by have := aq_posT b (by omega) h1; omega⟩
end
section
/-! quorumFloor: the walks -/
section
variable {cN rN sN oN wN B : Nat} {ph gh rh : Int32} {oC oK oR oS oT oW cC cO cH lT sI sK sT cM gT ms iT uT cR : Nat → Int32}
variable {j q m r k a b : Nat} {p0 p1 rg pos set y : Int32} {post : Int32 → Prop}
theorem aq_cnt {c : Nat → Bool} {d i : Nat} {x : Int32} (h : c i = true) : qd_cn c (d + 1) i x = qd_cn c d (i + 1) (x + 1) := if_pos h
theorem aq_cnf {c : Nat → Bool} {d i : Nat} {x : Int32} (h : ¬ c i = true) : qd_cn c (d + 1) i x = qd_cn c d (i + 1) x := if_neg h
theorem aq_xcu (hr : r < 4) : ∀ d i x, i + d = 5 → post (qd_cn (qd_cb set (fun s => sT (s * 4 + r)) y) d i x) → wX_countUpTo_6 post set (nI r) y (nI cN) (nI rN) (nI sN) (nI oN) ph (nI wN) gh oC oK oR oS oT oW cC cO cH lT sI sK sT cM gT (qd_K ms) (qd_S ms) (qd_O ms) (qd_C ms) (qd_T ms) iT uT (d + 1) x (nI i) := by
  intro d
  induction d with
  | zero =>
    intro i x hi hp
    exact br_t (nI_le (a := 5) (by omega) (by omega)) hp
  | succ d ih =>
    intro i x hi hp
    refine br_f (nI_ge (b := 5) (by omega) (by decide)) ?_
    by_cases hb : bt set i = true
    · refine br_f (aq_xt (by omega) hb) ⟨aq_v4 (by omega) (by omega), ?_⟩
      rw [aq_c4 (show i * 4 + r < 2 ^ 31 by omega)]
      by_cases z : y < sT (i * 4 + r)
      · rw [aq_cnf (by
          show ¬ (bt set i && decide (sT (i * 4 + r) ≤ y)) = true
          rw [hb, decide_eq_false (Int32.not_le.mpr z)]; decide)] at hp
        exact br_t z (nm_r (nI_1 i) (ih (i + 1) x (by omega) hp))
      · rw [aq_cnt (by
          show (bt set i && decide (sT (i * 4 + r) ≤ y)) = true
          rw [hb, decide_eq_true (Int32.not_lt.mp z)]; rfl)] at hp
        exact br_f z (nm_e (nm_r (nI_1 i) (ih (i + 1) (x + 1) (by omega) hp)))
    · rw [aq_cnf (by
        show ¬ (bt set i && decide (sT (i * 4 + r) ≤ y)) = true
        rw [Bool.eq_false_iff.mpr hb]; simp)] at hp
      exact br_t (aq_xf (by omega) (by simpa using hb)) (nm_r (nI_1 i) (ih (i + 1) x (by omega) hp))
theorem aq_least (hb : b < 32) (ha : a < 32) : (nI (qd_pc a) < (qd_sz (nI b) >>> ((1 : Int32) &&& 31)) + 1) ↔ ¬ qd_pc b < 2 * qd_pc a := by
  have h1 := aq_pc5 b hb
  have h2 := aq_pc5 a ha
  rw [aq_szT b hb, pk_shrN (by omega) ((1 : Int32) &&& 31) 1 (by decide), nI_1, nI_ltI (by omega) (by omega)]
  omega
theorem aq_xfl (hr : r < 4) (hb : b < 32) (hE : ∃ s, qd_gd b (fun s => sT (s * 4 + r)) s) : ∀ d i x6 x7, i + d = 5 → ((x6 = 0 ∧ ∀ s, s < i → ¬ qd_gd b (fun s => sT (s * 4 + r)) s) ∨ (x6 = 1 ∧ qd_PX b (fun s => sT (s * 4 + r)) i x7)) → ∃ G, qd_PX b (fun s => sT (s * 4 + r)) 5 G ∧ ∀ post : Int32 → Prop, post G → wX_quorumFloor_49 post (nI r) (nI b) ((qd_sz (nI b) >>> ((1 : Int32) &&& 31)) + 1) (nI cN) (nI rN) (nI sN) (nI oN) ph (nI wN) gh oC oK oR oS oT oW cC cO cH lT sI sK sT cM gT (qd_K ms) (qd_S ms) (qd_O ms) (qd_C ms) (qd_T ms) iT uT (d + 1) x6 x7 (nI i) := by
  intro d
  induction d with
  | zero =>
    intro i x6 x7 hi h
    have e : i = 5 := by omega
    subst e
    rcases h with ⟨_, h⟩ | ⟨_, h⟩
    · obtain ⟨s, g⟩ := hE
      exact absurd g (h s g.1)
    · exact ⟨x7, h, fun P hp => br_t (nI_le (a := 5) (b := 5) (by omega) (by omega)) hp⟩
  | succ d ih =>
    intro i x6 x7 hi h
    have h5 : ¬ (5 : Int32) ≤ nI i := nI_ge (b := 5) (by omega) (by decide)
    have keep : ¬ qd_gd b (fun s => sT (s * 4 + r)) i → ((x6 = 0 ∧ ∀ s, s < i + 1 → ¬ qd_gd b (fun s => sT (s * 4 + r)) s) ∨ (x6 = 1 ∧ qd_PX b (fun s => sT (s * 4 + r)) (i + 1) x7)) := by
      intro ng
      rcases h with ⟨h0, h⟩ | ⟨h0, ⟨s, hs, g, e⟩, h⟩
      · refine Or.inl ⟨h0, fun s hs => ?_⟩
        by_cases z : s = i
        · rw [z]; exact ng
        · exact h s (by omega)
      · refine Or.inr ⟨h0, ⟨s, by omega, g, e⟩, fun s hs g => ?_⟩
        by_cases z : s = i
        · rw [z] at g; exact absurd g ng
        · exact h s (by omega) g
    by_cases hbt : bt (nI b) i = true
    · obtain ⟨m1, m2⟩ := aq_mk (qd_cb (nI b) (fun s => sT (s * 4 + r)) (sT (i * 4 + r)))
      have hcu : ∀ P : Int32 → Prop, P (nI (qd_pc (qd_mk (qd_cb (nI b) (fun s => sT (s * 4 + r)) (sT (i * 4 + r)))))) → wpX_countUpTo P (nI cN, nI rN, nI sN, nI oN, ph, nI wN, gh, oC, oK, oR, oS, oT, oW, cC, cO, cH, lT, sI, sK, sT, cM, gT, qd_K ms, qd_S ms, qd_O ms, qd_C ms, qd_T ms, iT, uT) (nI b) (nI r) (sT (i * 4 + r)) := fun P hp => Exists.intro 6 (aq_xcu hr 5 0 0 rfl (by rw [aq_cn]; exact hp))
      by_cases hg : qd_gd b (fun s => sT (s * 4 + r)) i
      · have hlt : ¬ nI (qd_pc (qd_mk (qd_cb (nI b) (fun s => sT (s * 4 + r)) (sT (i * 4 + r))))) < (qd_sz (nI b) >>> ((1 : Int32) &&& 31)) + 1 := fun z => (aq_least hb m1).mp z hg.2.2
        have new : (∀ s, s < i → qd_gd b (fun s => sT (s * 4 + r)) s → sT (i * 4 + r) ≤ sT (s * 4 + r)) → ((1 : Int32) = 0 ∧ ∀ s, s < i + 1 → ¬ qd_gd b (fun s => sT (s * 4 + r)) s) ∨ ((1 : Int32) = 1 ∧ qd_PX b (fun s => sT (s * 4 + r)) (i + 1) (sT (i * 4 + r))) := by
          intro hh
          refine Or.inr ⟨rfl, ⟨i, by omega, hg, rfl⟩, fun s hs g => ?_⟩
          by_cases z : s = i
          · rw [z]; exact Int32.le_refl _
          · exact hh s (by omega) g
        rcases h with ⟨h0, h⟩ | ⟨h0, ⟨s, hs, g, e⟩, h⟩
        · obtain ⟨G, hG, hw⟩ := ih (i + 1) 1 (sT (i * 4 + r)) (by omega) (new fun s hs g => absurd g (h s hs))
          refine ⟨G, hG, fun P hp => br_f h5 (br_f (aq_xt (by omega) hbt) ⟨aq_v4 (by omega) (by omega), nm_r (e' := sT (i * 4 + r)) (by rw [aq_c4 (by omega)]) (hcu _ ?_)⟩)⟩
          exact br_f hlt (br_t h0 (nm_r (nI_1 i) (hw P hp)))
        · have h0' : ¬ x6 = 0 := by rw [h0]; decide
          by_cases z : x7 ≤ sT (i * 4 + r)
          · obtain ⟨G, hG, hw⟩ := ih (i + 1) x6 x7 (by omega) (Or.inr ⟨h0, ⟨s, by omega, g, e⟩, fun s hs g => by
              by_cases w : s = i
              · rw [w]; exact z
              · exact h s (by omega) g⟩)
            refine ⟨G, hG, fun P hp => br_f h5 (br_f (aq_xt (by omega) hbt) ⟨aq_v4 (by omega) (by omega), nm_r (e' := sT (i * 4 + r)) (by rw [aq_c4 (by omega)]) (hcu _ ?_)⟩)⟩
            exact br_f hlt (br_f h0' (br_t z (nm_r (nI_1 i) (hw P hp))))
          · obtain ⟨G, hG, hw⟩ := ih (i + 1) 1 (sT (i * 4 + r)) (by omega) (new fun s hs g => Int32.le_trans (Int32.le_of_lt (Int32.not_le.mp z)) (h s hs g))
            refine ⟨G, hG, fun P hp => br_f h5 (br_f (aq_xt (by omega) hbt) ⟨aq_v4 (by omega) (by omega), nm_r (e' := sT (i * 4 + r)) (by rw [aq_c4 (by omega)]) (hcu _ ?_)⟩)⟩
            exact br_f hlt (br_f h0' (br_f z (nm_r (nI_1 i) (hw P hp))))
      · have hlt : nI (qd_pc (qd_mk (qd_cb (nI b) (fun s => sT (s * 4 + r)) (sT (i * 4 + r))))) < (qd_sz (nI b) >>> ((1 : Int32) &&& 31)) + 1 := (aq_least hb m1).mpr fun z => hg ⟨by omega, hbt, z⟩
        obtain ⟨G, hG, hw⟩ := ih (i + 1) x6 x7 (by omega) (keep hg)
        refine ⟨G, hG, fun P hp => br_f h5 (br_f (aq_xt (by omega) hbt) ⟨aq_v4 (by omega) (by omega), nm_r (e' := sT (i * 4 + r)) (by rw [aq_c4 (by omega)]) (hcu _ ?_)⟩)⟩
        exact br_t hlt (nm_r (nI_1 i) (hw P hp))
    · obtain ⟨G, hG, hw⟩ := ih (i + 1) x6 x7 (by omega) (keep fun g => hbt g.2.1)
      exact ⟨G, hG, fun P hp => br_f h5 (br_t (aq_xf (by omega) (by simpa using hbt)) (nm_r (nI_1 i) (hw P hp)))⟩
theorem aq_qQ (ha : a < 32) (hb : b < 32) (h1 : 1 ≤ a) (hs : ∀ i, i < 5 → bt (nI a) i = true → bt (nI b) i = true) : qd_q (nI a) (nI b) = 0 ↔ ¬ qd_Q b a := by
  have g1 := aq_pc5 b hb
  have g2 := aq_pc5 a ha
  have e2 : (2 : Int32) * nI (qd_pc a) = nI (2 * qd_pc a) := pk_mul 2 _
  have hle : (2 * qd_sz (nI a) ≤ qd_sz (nI b)) ↔ 2 * qd_pc a ≤ qd_pc b := by
    rw [aq_szT a ha, aq_szT b hb, e2, nI_leI (by omega) (by omega)]
  unfold qd_q
  by_cases z : 2 * qd_sz (nI a) ≤ qd_sz (nI b)
  · rw [if_pos z]
    exact ⟨fun _ w => by have := w.2.2.2; have := hle.mp z; omega, fun _ => rfl⟩
  · rw [if_neg z]
    refine ⟨fun w => absurd w (by decide), fun w => absurd ⟨h1, ha, hs, ?_⟩ w⟩
    have : ¬ 2 * qd_pc a ≤ qd_pc b := fun w => z (hle.mpr w)
    omega
theorem aq_yft {J : Int32 → Int32 → Prop} {x3 : Int32} (hr : r < 4) (hm : m < 9) (hb : b < 32) (hcm : cM m = nI b) (ha : a < 32) (h1 : 1 ≤ a) (hK : ∀ x, ((¬ qd_Q b a ∧ x = x3) ∨ (qd_Q b a ∧ ((x3 < 0 ∧ x = qd_tp (nI a) (fun s => sT (s * 4 + r)) 5 0 0) ∨ (¬ x3 < 0 ∧ x3 ≤ qd_tp (nI a) (fun s => sT (s * 4 + r)) 5 0 0 ∧ x = x3) ∨ (¬ x3 < 0 ∧ ¬ x3 ≤ qd_tp (nI a) (fun s => sT (s * 4 + r)) 5 0 0 ∧ x = qd_tp (nI a) (fun s => sT (s * 4 + r)) 5 0 0)))) → J x (nI (a + 1))) : ∀ d i x, i + d = 5 → qd_tp (nI a) (fun s => sT (s * 4 + r)) d i x = qd_tp (nI a) (fun s => sT (s * 4 + r)) 5 0 0 → wY_quorumFloor_41 post J (nI m) (nI r) x3 (nI a) (nI cN) (nI rN) (nI sN) (nI oN) ph (nI wN) rh cM oC oK oR oW oS oT cC cO cH cR sI sK sT gT ms (d + 1) x (nI i) := by
  intro d
  induction d with
  | zero =>
    intro i x hi e
    have em : cM (nI m).toNatClampNeg = nI b := by rw [nI_clamp (by omega), hcm]
    have e' : x = qd_tp (nI a) (fun s => sT (s * 4 + r)) 5 0 0 := e
    refine br_t (nI_le (a := 5) (by omega) (by omega)) ⟨vp_in_nI hm (by omega), ?_⟩
    rw [em]
    by_cases hs : ∀ i, i < 5 → bt (nI a) i = true → bt (nI b) i = true
    · refine br_t ((aq_subT a ha b hb).mpr hs) (aq_yq hm ?_)
      rw [hcm]
      by_cases z : qd_q (nI a) (nI b) = 0
      · exact br_t z (nm_r (nI_1 a) (hK x3 (Or.inl ⟨(aq_qQ ha hb h1 hs).mp z, rfl⟩)))
      · have hq : qd_Q b a := Classical.byContradiction fun w => z ((aq_qQ ha hb h1 hs).mpr w)
        refine br_f z ?_
        by_cases c : x3 < 0
        · exact br_t c (nm_r (nI_1 a) (hK x (Or.inr ⟨hq, Or.inl ⟨c, e'⟩⟩)))
        · refine br_f c ?_
          by_cases w : x3 ≤ x
          · exact br_t w (nm_r (nI_1 a) (hK x3 (Or.inr ⟨hq, Or.inr (Or.inl ⟨c, e' ▸ w, rfl⟩)⟩)))
          · exact br_f w (nm_r (nI_1 a) (hK x (Or.inr ⟨hq, Or.inr (Or.inr ⟨c, e' ▸ w, e'⟩)⟩)))
    · exact br_f (fun z => hs ((aq_subT a ha b hb).mp z)) (nm_r (nI_1 a) (hK x3 (Or.inl ⟨fun q => hs q.2.2.1, rfl⟩)))
  | succ d ih =>
    intro i x hi e
    refine br_f (nI_ge (b := 5) (by omega) (by decide)) ?_
    by_cases hbt : bt (nI a) i = true
    · rw [aq_tpt hbt] at e
      refine aq_yh1 (by omega) hbt ?_
      refine br_f (by decide) ⟨aq_v4 (by omega) (by omega), ?_⟩
      rw [aq_c4 (show i * 4 + r < 2 ^ 31 by omega)]
      refine aq_ygr ?_
      exact nm_r (nI_1 i) (ih (i + 1) _ (by omega) e)
    · rw [aq_tpf hbt] at e
      refine aq_yh0 (by omega) hbt ?_
      exact br_t rfl (nm_r (nI_1 i) (ih (i + 1) x (by omega) e))
theorem aq_yfl (hr : r < 4) (hm : m < 9) (hb1 : 1 ≤ b) (hb : b ≤ 31) (hcm : cM m = nI b) (hp : ∀ F, qd_PY b (fun s => sT (s * 4 + r)) 32 F → post F) : ∀ d a x3, a + d = 32 → 1 ≤ a → ((x3 = -1 ∧ ∀ a', a' < a → ¬ qd_Q b a') ∨ (0 ≤ x3 ∧ qd_PY b (fun s => sT (s * 4 + r)) a x3)) → wY_quorumFloor_28 post (nI m) (nI r) (nI cN) (nI rN) (nI sN) (nI oN) ph (nI wN) rh cM oC oK oR oW oS oT cC cO cH cR sI sK sT gT ms (d + 1) x3 (nI a) := by
  intro d
  induction d with
  | zero =>
    intro a x3 ha h1 h
    have e : a = 32 := by omega
    subst e
    rcases h with ⟨_, h⟩ | ⟨_, h⟩
    · exact absurd (aq_Qset hb1 hb) (h b (by omega))
    · exact br_t (nI_le (a := 32) (b := 32) (by omega) (by omega)) (hp x3 h)
  | succ d ih =>
    intro a x3 ha h1 h
    have h0 : (0 : Int32) ≤ qd_tp (nI a) (fun s => sT (s * 4 + r)) 5 0 0 := (aq_tp 5 0 0 rfl).1
    refine br_f (nI_ge (b := 32) (by omega) (by decide)) ⟨6, aq_yft hr hm (by omega) hcm (by omega) h1 (fun x hx => ih (a + 1) x (by omega) (by omega) ?_) 5 0 0 rfl rfl⟩
    rcases hx with ⟨nq, rfl⟩ | ⟨hq, hx⟩
    · rcases h with ⟨e, h⟩ | ⟨e, ⟨c, hc, q, ec⟩, h⟩
      · refine Or.inl ⟨e, fun c hc => ?_⟩
        by_cases z : c = a
        · rw [z]; exact nq
        · exact h c (by omega)
      · refine Or.inr ⟨e, ⟨c, by omega, q, ec⟩, fun c hc q => ?_⟩
        by_cases z : c = a
        · rw [z] at q; exact absurd q nq
        · exact h c (by omega) q
    · rcases h with ⟨e, h⟩ | ⟨e, ⟨c, hc, q, ec⟩, h⟩
      · have hneg : x3 < 0 := by rw [e]; decide
        have ex : x = qd_tp (nI a) (fun s => sT (s * 4 + r)) 5 0 0 := by
          rcases hx with hx | hx | hx
          · exact hx.2
          · exact absurd hneg hx.1
          · exact absurd hneg hx.1
        refine Or.inr ⟨by rw [ex]; exact h0, ⟨a, by omega, hq, ex⟩, fun c hc q => ?_⟩
        by_cases z : c = a
        · rw [z, ex]; exact Int32.le_refl _
        · exact absurd q (h c (by omega))
      · have hneg : ¬ x3 < 0 := Int32.not_lt.mpr e
        rcases hx with hx | ⟨_, hx, rfl⟩ | ⟨_, hx, ex⟩
        · exact absurd hx.1 hneg
        · refine Or.inr ⟨e, ⟨c, by omega, q, ec⟩, fun c hc q => ?_⟩
          by_cases z : c = a
          · rw [z]; exact hx
          · exact h c (by omega) q
        · refine Or.inr ⟨by rw [ex]; exact h0, ⟨a, by omega, hq, ex⟩, fun c hc q => ?_⟩
          by_cases z : c = a
          · rw [z, ex]; exact Int32.le_refl _
          · rw [ex]
            exact Int32.le_trans (Int32.le_of_lt (Int32.not_le.mp hx)) (h c (by omega) q)
theorem aq_Afl (I : qd_I B cN rN sN oN wN ph gh rh oC oK oR oS oT cC cO cH lT sI sK sT cM gT ms cR) (hB : B < 2 ^ 30) : qd_AN (fun post => wpX_quorumFloor post (nI cN, nI rN, nI sN, nI oN, ph, nI wN, gh, oC, oK, oR, oS, oT, oW, cC, cO, cH, lT, sI, sK, sT, cM, gT, qd_K ms, qd_S ms, qd_O ms, qd_C ms, qd_T ms, iT, uT) p0 p1) (fun post => wpY_quorumFloor post (nI cN, nI rN, nI sN, nI oN, ph, nI wN, rh, cM, oC, oK, oR, oW, oS, oT, cC, cO, cH, cR, sI, sK, sT, gT, ms) p0 p1) := by
  obtain ⟨n1, n2, n3, n4, n5, n6, n7, n8, n9⟩ := I.1
  by_cases h1 : p0 < 1
  · refine ⟨-1, fun P hp => ?_, fun P hp => br_t h1 hp⟩
    unfold wpX_quorumFloor
    refine br_t h1 ?_
    exact br_t rfl hp
  · by_cases h2 : nI wN < p0
    · refine ⟨-1, fun P hp => ?_, fun P hp => br_f h1 (br_t h2 hp)⟩
      unfold wpX_quorumFloor
      refine br_f h1 (br_t h2 ?_)
      exact br_t rfl hp
    · rcases aq_noc rN p1 (by omega) with h | ⟨r, hr, rfl⟩
      · refine ⟨-1, fun P hp => ?_, fun P hp => br_f h1 (br_f h2 (aq_yr1 h ?_))⟩
        · unfold wpX_quorumFloor
          refine br_f h1 (br_f h2 ?_)
          refine br_f (by decide) (aq_xr0 h ?_)
          exact br_t rfl hp
        · exact br_f (by decide) hp
      · obtain ⟨m, hm, rfl⟩ := nI_of (x := p0) (fun z => h1 (Int32.lt_trans z (by decide)))
        have h3 : m ≤ wN := by
          by_cases z : m ≤ wN
          · exact z
          · exact absurd (nI_lt (by omega) hm) h2
        have h3' : 1 ≤ m := by
          by_cases z : m = 0
          · subst z; exact absurd (by decide) h1
          · omega
        obtain ⟨b, hb1, hb2, hcm⟩ := I.2.2.2.2.2.2.2.2.2.1 m h3' h3
        have hv : vp_in (nI m) 9 := vp_in_nI (by omega) (by omega)
        have hT : ∀ s, s < 5 → 0 ≤ (fun s => sT (s * 4 + r)) s := fun s hs => by
          obtain ⟨a, ha, e⟩ := (I.2.2.2.2.2.2.2.1 s hs r (by omega)).1
          show (0 : Int32) ≤ sT (s * 4 + r)
          have e2 : sT (s * 4 + r) = nI a := e
          rw [e2]; exact nI_pos' (by omega)
        have hE : ∃ s, qd_gd b (fun s => sT (s * 4 + r)) s := by
          obtain ⟨s, g, _⟩ := aq_Qgd hT (aq_Qset hb1 hb2)
          exact ⟨s, g⟩
        obtain ⟨G, hG, hw⟩ := aq_xfl (cN := cN) (rN := rN) (sN := sN) (oN := oN) (wN := wN) (ph := ph) (gh := gh) (oC := oC) (oK := oK) (oR := oR) (oS := oS) (oT := oT) (oW := oW) (cC := cC) (cO := cO) (cH := cH) (lT := lT) (sI := sI) (sK := sK) (sT := sT) (cM := cM) (gT := gT) (ms := ms) (iT := iT) (uT := uT) (show r < 4 by omega) (show b < 32 by omega) hE 5 0 0 0 rfl (Or.inl ⟨rfl, fun s hs => absurd hs (by omega)⟩)
        refine ⟨G, fun P hp => ?_, fun P hp => br_f h1 (br_f h2 (aq_yr0 hr (by omega) ?_))⟩
        · unfold wpX_quorumFloor
          refine br_f h1 (br_f h2 ?_)
          refine br_f (by decide) (aq_xr1 hr (by omega) ?_)
          refine br_f (by decide) ⟨hv, nm_r (e' := nI b) (by rw [nI_clamp (by omega), hcm]) (aq_xsz ?_)⟩
          exact nm_e ⟨6, hw P hp⟩
        · exact br_t rfl ⟨32, aq_yfl (by omega) (by omega) hb1 hb2 hcm (fun F hF => (aq_link hT hG hF).symm ▸ hp) 31 1 (-1) rfl (by omega) (Or.inl ⟨rfl, fun a ha q => by have := q.1; omega⟩)⟩
end
end
section
/-! the constructors -/
theorem aq_clr (x : Int32) (lo hi : Nat) (h : lo ≤ hi) (hh : hi < 2 ^ 31) : ∃ n : Nat, lo ≤ n ∧ n ≤ hi ∧ qd_cl x (nI lo) (nI hi) = nI n := by
  unfold qd_cl
  by_cases h1 : nI lo ≤ x
  · rw [if_pos h1]
    by_cases h2 : x ≤ nI hi
    · rw [if_pos h2]
      obtain ⟨j, hj, rfl⟩ := nI_of (x := x) (Int32.not_lt.mpr (Int32.le_trans (nI_pos' (by omega)) h1))
      rw [nI_leI (by omega) hj] at h1
      rw [nI_leI hj hh] at h2
      exact ⟨j, h1, h2, rfl⟩
    · rw [if_neg h2]; exact ⟨hi, h, Nat.le_refl _, rfl⟩
  · rw [if_neg h1]; exact ⟨lo, Nat.le_refl _, h, rfl⟩
theorem aq_by0 (x : Int32) {s : Nat} (hs : s < 31) (h : bt x s = false) : ((x >>> (nI s &&& 31)) &&& 1) = 0 := by
  apply b_ext
  intro i hi
  rw [b_and, b_sshr s (by omega) x hi, b_1 i hi, b_0]
  by_cases h0 : i = 0
  · subst h0; rw [if_pos (by omega)]; simp [h]
  · rw [decide_eq_false h0]; simp
def qd_g0 (set : Int32) : Nat → Int32 := fun s => if bt set s = true then 1 else 0
def qd_s0 (set : Int32) (i : Nat) : Nat → Int32 := qd_ci (qd_g0 set) (fun _ => 0) i
theorem aq_s0t {set : Int32} {i : Nat} (h : bt set i = true) : upd (qd_s0 set i) i 1 = qd_s0 set (i + 1) := by
  have e := aq_cis (g := qd_g0 set) (f := fun _ => 0) (i := i)
  rw [show qd_g0 set i = 1 from if_pos h] at e
  exact e
theorem aq_s0f {set : Int32} {i : Nat} (h : ¬ bt set i = true) : qd_s0 set (i + 1) = qd_s0 set i := funext fun j => by
  unfold qd_s0 qd_ci
  by_cases z : j = i
  · subst z
    rw [if_pos (by omega), if_neg (by omega)]
    exact if_neg h
  · by_cases w : j < i
    · rw [if_pos w, if_pos (by omega)]
    · rw [if_neg w, if_neg (by omega)]
theorem aq_s0s {set : Int32} {i : Nat} (hi : i < 5) : upd (qd_s0 set i) i ((set >>> (nI i &&& 31)) &&& 1) = qd_s0 set (i + 1) := by
  by_cases h : bt set i = true
  · rw [aq_yt hi h]; exact aq_s0t h
  · rw [aq_by0 set (by omega) (by simpa using h), aq_s0f h]
    have e : (0 : Int32) = qd_s0 set i i := (if_neg (by omega)).symm
    rw [e, aq_uid]
theorem aq_s0c {set : Int32} : qd_ci (qd_s0 set 5) (fun _ => 0) 5 = qd_s0 set 5 := funext fun j => by
  show (if j < 5 then qd_s0 set 5 j else 0) = qd_s0 set 5 j
  by_cases h : j < 5
  · rw [if_pos h]
  · rw [if_neg h]; exact (if_neg h).symm
section
variable {cN rN sN oN wN B : Nat} {ph gh rh : Int32} {oC oK oR oS oT oW cC cO cH lT sI sK sT cM gT ms iT uT cR : Nat → Int32}
variable {set : Int32} {post0 : SX → Prop} {posy : SY → Prop} {mK mS mO mC mT : Nat → Int32} {b : Nat}
theorem aq_x262 (hp : post0 (nI cN, nI rN, nI sN, nI oN, ph, nI wN, gh, oC, oK, oR, oS, oT, oW, cC, cO, cH, lT, qd_s0 set 5, qd_s0 set 5, sT, cM, gT, mK, mS, mO, mC, mT, iT, uT)) : ∀ d i, i + d = 5 → wX_init_262 post0 set (nI cN) (nI rN) (nI sN) (nI oN) ph (nI wN) gh (d + 1) (nI i) oC oK oR oS oT oW cC cO cH lT (qd_s0 set i) (qd_s0 set i) sT cM gT mK mS mO mC mT iT uT := by
  intro d
  induction d with
  | zero =>
    intro i hi
    have e : i = 5 := by omega
    subst e
    exact br_t (nI_le (a := 5) (b := 5) (by omega) (by omega)) hp
  | succ d ih =>
    intro i hi
    have hv : vp_in (nI i) 5 := vp_in_nI (by omega) (by omega)
    have ei : (nI i).toNatClampNeg = i := nI_clamp (by omega)
    have ihn := ih (i + 1) (by omega)
    refine br_f (nI_ge (b := 5) (by omega) (by decide)) ?_
    by_cases h : bt set i = true
    · exact br_f (aq_xt (by omega) h) ⟨hv, nm_r (e' := qd_s0 set (i + 1)) (by rw [ei]; exact aq_s0t h) ⟨hv, nm_r (e' := qd_s0 set (i + 1)) (by rw [ei]; exact aq_s0t h) (nm_r (nI_1 i) ihn)⟩⟩
    · rw [aq_s0f h] at ihn
      exact br_t (aq_xf (by omega) (by simpa using h)) (nm_r (nI_1 i) ihn)
theorem aq_x239 (K : wX_init_262 post0 set (nI cN) (nI rN) (nI sN) (nI oN) ph (nI wN) gh 6 (nI 0) oC oK oR oS oT oW (qd_ci (fun _ => 1) cC 4) cO cH lT sI sK sT cM gT mK mS mO mC mT iT uT) : ∀ d i, i + d = 4 → wX_init_239 post0 set (nI cN) (nI rN) (nI sN) (nI oN) ph (nI wN) gh (d + 1) (nI i) oC oK oR oS oT oW (qd_ci (fun _ => 1) cC i) cO cH lT sI sK sT cM gT mK mS mO mC mT iT uT := by
  intro d
  induction d with
  | zero =>
    intro i hi
    have e : i = 4 := by omega
    subst e
    exact br_t (nI_le (a := 4) (b := 4) (by omega) (by omega)) ⟨6, K⟩
  | succ d ih =>
    intro i hi
    exact br_f (nI_ge (b := 4) (by omega) (by decide)) ⟨vp_in_nI (by omega) (by omega), nm_r (e' := qd_ci (fun _ => 1) cC (i + 1)) (by rw [nI_clamp (by omega)]; exact aq_cis (g := fun _ => 1)) (nm_r (nI_1 i) (ih (i + 1) (by omega)))⟩
theorem aq_y241 (hp : posy (nI cN, nI rN, nI sN, nI oN, ph, nI wN, rh, cM, oC, oK, oR, oW, oS, oT, cC, cO, cH, cR, sI, qd_ci sI sK 5, sT, gT, ms)) : ∀ d i, i + d = 5 → wY_init_241 posy (nI cN) (nI rN) (nI sN) (nI oN) ph (nI wN) rh (d + 1) (nI i) cM oC oK oR oW oS oT cC cO cH cR sI (qd_ci sI sK i) sT gT ms := by
  intro d
  induction d with
  | zero =>
    intro i hi
    have e : i = 5 := by omega
    subst e
    exact br_t (nI_le (a := 5) (b := 5) (by omega) (by omega)) hp
  | succ d ih =>
    intro i hi
    have hv : vp_in (nI i) 5 := vp_in_nI (by omega) (by omega)
    exact br_f (nI_ge (b := 5) (by omega) (by decide)) ⟨hv, hv, nm_r (e' := qd_ci sI sK (i + 1)) (by rw [nI_clamp (by omega)]; exact aq_cis) (nm_r (nI_1 i) (ih (i + 1) (by omega)))⟩
theorem aq_y208 (hset : cM 1 = set) (K : wY_init_241 posy (nI cN) (nI rN) (nI sN) (nI oN) ph (nI wN) rh 6 (nI 0) cM oC oK oR oW oS oT cC cO cH cR (qd_s0 set 5) sK sT gT ms) : ∀ d i, i + d = 5 → wY_init_208 posy (nI cN) (nI rN) (nI sN) (nI oN) ph (nI wN) rh (d + 1) (nI i) cM oC oK oR oW oS oT cC cO cH cR (qd_s0 set i) sK sT gT ms := by
  intro d
  induction d with
  | zero =>
    intro i hi
    have e : i = 5 := by omega
    subst e
    exact br_t (nI_le (a := 5) (b := 5) (by omega) (by omega)) ⟨6, K⟩
  | succ d ih =>
    intro i hi
    exact br_f (nI_ge (b := 5) (by omega) (by decide)) ⟨vp_in_nI (by omega) (by omega), nm_r (e' := qd_s0 set (i + 1)) (by rw [nI_clamp (by omega), hset]; exact aq_s0s (by omega)) (nm_r (nI_1 i) (ih (i + 1) (by omega)))⟩
theorem aq_y185 (K : wY_init_208 posy (nI cN) (nI rN) (nI sN) (nI oN) ph (nI wN) rh 6 (nI 0) cM oC oK oR oW oS oT (qd_ci (fun _ => 1) cC 4) cO cH cR sI sK sT gT ms) : ∀ d i, i + d = 4 → wY_init_185 posy (nI cN) (nI rN) (nI sN) (nI oN) ph (nI wN) rh (d + 1) (nI i) cM oC oK oR oW oS oT (qd_ci (fun _ => 1) cC i) cO cH cR sI sK sT gT ms := by
  intro d
  induction d with
  | zero =>
    intro i hi
    have e : i = 4 := by omega
    subst e
    exact br_t (nI_le (a := 4) (b := 4) (by omega) (by omega)) ⟨6, K⟩
  | succ d ih =>
    intro i hi
    exact br_f (nI_ge (b := 4) (by omega) (by decide)) ⟨vp_in_nI (by omega) (by omega), nm_r (e' := qd_ci (fun _ => 1) cC (i + 1)) (by rw [nI_clamp (by omega)]; exact aq_cis (g := fun _ => 1)) (nm_r (nI_1 i) (ih (i + 1) (by omega)))⟩
end
section
variable {cN rN sN b : Nat} {k0 k1 k2 k3 : Int32}
theorem aq_xini {post0 : SX → Prop} (e0 : qd_cl k0 1 4 = nI cN) (e1 : qd_cl k1 1 4 = nI rN) (e2 : qd_cl k2 12 48 = nI sN) (e3 : qd_cl k3 1 31 = nI b) (hp : post0 (nI cN, nI rN, nI sN, 0, 0, 1, 0, fun _ => 0, fun _ => 0, fun _ => 0, fun _ => 0, fun _ => 0, fun _ => 0, qd_ci (fun _ => 1) (fun _ => 0) 4, fun _ => 0, fun _ => 0, fun _ => 0, qd_s0 (nI b) 5, qd_s0 (nI b) 5, fun _ => 0, upd (fun _ => 0) 1 (nI b), fun _ => 0, fun _ => 0, fun _ => 0, fun _ => 0, fun _ => 0, fun _ => 0, fun _ => 0, fun _ => 0)) : wpX_init post0 k0 k1 k2 k3 := by
  have L := aq_x262 (cN := cN) (rN := rN) (sN := sN) (oN := 0) (wN := 1) (ph := 0) (gh := 0) (set := nI b) (mK := fun _ => 0) (mS := fun _ => 0) (mO := fun _ => 0) (mC := fun _ => 0) (mT := fun _ => 0) hp 5 0 rfl
  have L2 := aq_x239 (cC := fun _ => 0) L 4 0 rfl
  rw [aq_ci0] at L2
  unfold wpX_init
  refine aq_xclamp ?_
  rw [e0]
  refine aq_xclamp ?_
  rw [e1]
  refine aq_xclamp ?_
  rw [e2]
  refine aq_xclamp ?_
  rw [e3]
  have e5 : qd_s0 (nI b) 0 = fun _ => 0 := aq_ci0
  rw [e5] at L2
  exact nm_e ⟨5, L2⟩
theorem aq_yini {posy : SY → Prop} (e0 : qd_cl k0 1 4 = nI cN) (e1 : qd_cl k1 1 4 = nI rN) (e2 : qd_cl k2 12 48 = nI sN) (e3 : qd_cl k3 1 31 = nI b) (hp : posy (nI cN, nI rN, nI sN, 0, 0, 1, 0, upd (fun _ => 0) 1 (nI b), fun _ => 0, fun _ => 0, fun _ => 0, fun _ => 0, fun _ => 0, fun _ => 0, qd_ci (fun _ => 1) (fun _ => 0) 4, fun _ => 0, fun _ => 0, fun _ => 0, qd_s0 (nI b) 5, qd_s0 (nI b) 5, fun _ => 0, fun _ => 0, fun _ => 0)) : wpY_init posy k0 k1 k2 k3 := by
  have hp2 : posy (nI cN, nI rN, nI sN, 0, 0, 1, 0, upd (fun _ => 0) 1 (nI b), fun _ => 0, fun _ => 0, fun _ => 0, fun _ => 0, fun _ => 0, fun _ => 0, qd_ci (fun _ => 1) (fun _ => 0) 4, fun _ => 0, fun _ => 0, fun _ => 0, qd_s0 (nI b) 5, qd_ci (qd_s0 (nI b) 5) (fun _ => 0) 5, fun _ => 0, fun _ => 0, fun _ => 0) := by
    rw [aq_s0c]; exact hp
  have L := aq_y241 (cN := cN) (rN := rN) (sN := sN) (oN := 0) (wN := 1) (ph := 0) (rh := 0) (sK := fun _ => 0) (sI := qd_s0 (nI b) 5) hp2 5 0 rfl
  rw [aq_ci0] at L
  have L1 := aq_y208 (set := nI b) pk_us L 5 0 rfl
  have e5 : qd_s0 (nI b) 0 = fun _ => 0 := aq_ci0
  rw [e5] at L1
  have L2 := aq_y185 (cC := fun _ => 0) L1 4 0 rfl
  rw [aq_ci0] at L2
  unfold wpY_init
  refine aq_yclamp ?_
  rw [e0]
  refine aq_yclamp ?_
  rw [e1]
  refine aq_yclamp ?_
  rw [e2]
  refine aq_yclamp ?_
  rw [e3]
  exact nm_e ⟨5, L2⟩
theorem aq_I0 {B : Nat} (h1 : 1 ≤ cN ∧ cN ≤ 4) (h2 : 1 ≤ rN ∧ rN ≤ 4) (h3 : 12 ≤ sN ∧ sN ≤ 48) (h4 : 1 ≤ b ∧ b ≤ 31) : qd_I B cN rN sN 0 1 0 0 0 (fun _ => 0) (fun _ => 0) (fun _ => 0) (fun _ => 0) (fun _ => 0) (qd_ci (fun _ => 1) (fun _ => 0) 4) (fun _ => 0) (fun _ => 0) (fun _ => 0) (qd_s0 (nI b) 5) (qd_s0 (nI b) 5) (fun _ => 0) (upd (fun _ => 0) 1 (nI b)) (fun _ => 0) (fun _ => 0) (fun _ => 0) := by
  refine ⟨⟨h1.1, h1.2, h2.1, h2.2, h3.1, h3.2, by omega, by omega, by omega⟩, fun k h => absurd rfl h, fun q g1 g2 => absurd g1 (by omega), fun q _ => ⟨rfl, rfl⟩, fun c hc => ?_, fun c hc q g1 g2 g3 _ => ?_, fun s hs => ?_, fun s hs => aq_TV0, aq_TV0, fun m g1 g2 => ?_, Or.inl rfl⟩
  · refine ⟨0, 1, rfl, Nat.le_refl _, if_pos hc, Nat.le_refl _, fun z => absurd z (by omega), fun _ => rfl, aq_sub0 _⟩
  · exact absurd g3.symm (nI_ne0 (by omega) (by omega))
  · have e : qd_s0 (nI b) 5 s = qd_g0 (nI b) s := if_pos hs
    by_cases z : bt (nI b) s = true
    · have e2 : qd_s0 (nI b) 5 s = nI 1 := e.trans (if_pos z)
      exact ⟨1, 1, e2, Nat.le_refl _, e2, Nat.le_refl _⟩
    · have e2 : qd_s0 (nI b) 5 s = nI 0 := e.trans (if_neg z)
      exact ⟨0, 0, e2, by omega, e2, by omega⟩
  · have e : m = 1 := by omega
    subst e
    exact ⟨b, h4.1, h4.2, pk_us⟩
end
end
section
/-! the owed statements -/
section
variable {cN rN sN oN wN B : Nat} {ph gh rh : Int32} {oC oK oR oS oT oW cC cO cH lT sI sK sT cM gT ms iT uT cR : Nat → Int32}
variable {p0 p1 val : Int32}
theorem aq_Lbr (I : qd_I B cN rN sN oN wN ph gh rh oC oK oR oS oT cC cO cH lT sI sK sT cM gT ms cR) : qd_LS B (fun post => wpX_beginRead post (nI cN, nI rN, nI sN, nI oN, ph, nI wN, gh, oC, oK, oR, oS, oT, oW, cC, cO, cH, lT, sI, sK, sT, cM, gT, qd_K ms, qd_S ms, qd_O ms, qd_C ms, qd_T ms, iT, uT) p0 p1) (fun post => wpY_beginRead post (nI cN, nI rN, nI sN, nI oN, ph, nI wN, rh, cM, oC, oK, oR, oW, oS, oT, cC, cO, cH, cR, sI, sK, sT, gT, ms) p0 p1) := by
  obtain ⟨r, v, hx, hy⟩ := aq_Lbeg (iT := iT) (uT := uT) (oW := oW) (p0 := p0) (p1 := p1) (kd := 1) (val := 0) I
  refine ⟨r, v, fun P hp => ?_, fun P hp => ?_⟩
  · unfold wpX_beginRead
    exact hx _ fun u hu => by obtain ⟨_, _, _, _, _, _, _, _, _, _, _, _, _, _, _, _, _, _, _, _, _, _, _, _, _, _, _, _, _⟩ := u; exact hp _ hu
  · obtain ⟨_, _, _, _, _, _, _, _, _, _, _, _, _, _, _, _, _, _, _, _, _, _, _⟩ := v
    unfold wpY_beginRead
    exact hy _ hp
theorem aq_Lbw (I : qd_I B cN rN sN oN wN ph gh rh oC oK oR oS oT cC cO cH lT sI sK sT cM gT ms cR) : qd_LS B (fun post => wpX_beginWrite post (nI cN, nI rN, nI sN, nI oN, ph, nI wN, gh, oC, oK, oR, oS, oT, oW, cC, cO, cH, lT, sI, sK, sT, cM, gT, qd_K ms, qd_S ms, qd_O ms, qd_C ms, qd_T ms, iT, uT) p0 p1 val) (fun post => wpY_beginWrite post (nI cN, nI rN, nI sN, nI oN, ph, nI wN, rh, cM, oC, oK, oR, oW, oS, oT, cC, cO, cH, cR, sI, sK, sT, gT, ms) p0 p1 val) := by
  obtain ⟨r, v, hx, hy⟩ := aq_Lbeg (iT := iT) (uT := uT) (oW := oW) (p0 := p0) (p1 := p1) (kd := 2) (val := val) I
  refine ⟨r, v, fun P hp => ?_, fun P hp => ?_⟩
  · unfold wpX_beginWrite
    exact hx _ fun u hu => by obtain ⟨_, _, _, _, _, _, _, _, _, _, _, _, _, _, _, _, _, _, _, _, _, _, _, _, _, _, _, _, _⟩ := u; exact hp _ hu
  · obtain ⟨_, _, _, _, _, _, _, _, _, _, _, _, _, _, _, _, _, _, _, _, _, _, _⟩ := v
    unfold wpY_beginWrite
    exact hy _ hp
theorem aq_fin2 {B' : Nat} {wx : (Int32 → SX → Prop) → Prop} {wy : (Int32 → SY → Prop) → Prop} (h : qd_LS B wx wy) (hB : B ≤ B') : wx (fun r u => wy (fun r' v => r' = r ∧ qd_R B' u v)) := by
  obtain ⟨r, v, hx, hy⟩ := h
  exact hx _ fun u hu => hy _ ⟨rfl, aq_Rm hB hu⟩
theorem aq_fin1 {wx wy : (Int32 → Prop) → Prop} {Q : Prop} (h : qd_AN wx wy) (q : Q) : wx (fun r => wy (fun r' => r' = r ∧ Q)) := by
  obtain ⟨r, hx, hy⟩ := h
  exact hx _ (hy _ ⟨rfl, q⟩)
end
def i_Rel (k : Nat) (u : SX) (v : SY) : Prop := qd_R (64 * k) u v
theorem i_up {k : Nat} {u : SX} {v : SY} (h : i_Rel k u v) : i_Rel (k + 4) u v := aq_Rm (by omega) h
theorem i_vc0 (k0 : Int32) (k1 : Int32) (k2 : Int32) (k3 : Int32) : wpX_init (fun u => wpY_init (fun v => i_Rel 4 u v) k0 k1 k2 k3) k0 k1 k2 k3 := by
  obtain ⟨cN, a1, a2, e0⟩ := aq_clr k0 1 4 (by omega) (by omega)
  obtain ⟨rN, b1, b2, e1⟩ := aq_clr k1 1 4 (by omega) (by omega)
  obtain ⟨sN, c1, c2, e2⟩ := aq_clr k2 12 48 (by omega) (by omega)
  obtain ⟨b, d1, d2, e3⟩ := aq_clr k3 1 31 (by omega) (by omega)
  have h := aq_RI (oW := fun _ => 0) (iT := fun _ => 0) (uT := fun _ => 0) (aq_I0 (B := 64 * 4) ⟨a1, a2⟩ ⟨b1, b2⟩ ⟨c1, c2⟩ ⟨d1, d2⟩)
  refine aq_xini e0 e1 e2 e3 ?_
  refine aq_yini e0 e1 e2 e3 ?_
  exact h
theorem i_vc_beginRead {k : Nat} {u : SX} {v : SY} (I : i_Rel k u v) (hk : k + 4 ≤ 2052) (v1 : Int32) (v2 : Int32) : wpX_beginRead (fun r u' => wpY_beginRead (fun r' v' => r' = r ∧ i_Rel (k + 4) u' v') v v1 v2) u v1 v2 := by
  refine aq_RE2 I ?_
  intro cN rN sN oN wN ph gh rh oC oK oR oS oT oW cC cO cH lT sI sK sT cM gT ms iT uT cR eu ev J
  subst eu ev
  exact aq_fin2 (B' := 64 * (k + 4)) (aq_Lbr J) (by omega)
theorem i_vc_beginWrite {k : Nat} {u : SX} {v : SY} (I : i_Rel k u v) (hk : k + 4 ≤ 2052) (v1 : Int32) (v2 : Int32) (v3 : Int32) : wpX_beginWrite (fun r u' => wpY_beginWrite (fun r' v' => r' = r ∧ i_Rel (k + 4) u' v') v v1 v2 v3) u v1 v2 v3 := by
  refine aq_RE2 I ?_
  intro cN rN sN oN wN ph gh rh oC oK oR oS oT oW cC cO cH lT sI sK sT cM gT ms iT uT cR eu ev J
  subst eu ev
  exact aq_fin2 (B' := 64 * (k + 4)) (aq_Lbw J) (by omega)
theorem i_vc_resend {k : Nat} {u : SX} {v : SY} (I : i_Rel k u v) (hk : k + 4 ≤ 2052) (v1 : Int32) : wpX_resend (fun r u' => wpY_resend (fun r' v' => r' = r ∧ i_Rel (k + 4) u' v') v v1) u v1 := by
  refine aq_RE2 I ?_
  intro cN rN sN oN wN ph gh rh oC oK oR oS oT oW cC cO cH lT sI sK sT cM gT ms iT uT cR eu ev J
  subst eu ev
  exact aq_fin2 (B' := 64 * (k + 4)) (aq_Lres J) (by omega)
theorem i_vc_reconfigure {k : Nat} {u : SX} {v : SY} (I : i_Rel k u v) (hk : k + 4 ≤ 2052) (v1 : Int32) : wpX_reconfigure (fun r u' => wpY_reconfigure (fun r' v' => r' = r ∧ i_Rel (k + 4) u' v') v v1) u v1 := by
  refine aq_RE2 I ?_
  intro cN rN sN oN wN ph gh rh oC oK oR oS oT oW cC cO cH lT sI sK sT cM gT ms iT uT cR eu ev J
  subst eu ev
  exact aq_fin2 (B' := 64 * (k + 4)) (aq_Lrec J) (by omega)
theorem i_vc_resendReconfiguration {k : Nat} {u : SX} {v : SY} (I : i_Rel k u v) (hk : k + 4 ≤ 2052) : wpX_resendReconfiguration (fun r u' => wpY_resendReconfiguration (fun r' v' => r' = r ∧ i_Rel (k + 4) u' v') v) u := by
  refine aq_RE2 I ?_
  intro cN rN sN oN wN ph gh rh oC oK oR oS oT oW cC cO cH lT sI sK sT cM gT ms iT uT cR eu ev J
  subst eu ev
  exact aq_fin2 (B' := 64 * (k + 4)) (aq_Lrsr J) (by omega)
theorem i_vc_deliver {k : Nat} {u : SX} {v : SY} (I : i_Rel k u v) (hk : k + 4 ≤ 2052) (v1 : Int32) : wpX_deliver (fun r u' => wpY_deliver (fun r' v' => r' = r ∧ i_Rel (k + 4) u' v') v v1) u v1 := by
  refine aq_RE2 I ?_
  intro cN rN sN oN wN ph gh rh oC oK oR oS oT oW cC cO cH lT sI sK sT cM gT ms iT uT cR eu ev J
  subst eu ev
  exact aq_fin2 (B' := 64 * (k + 4)) (aq_Ldel J (by omega) v1) (by omega)
theorem i_vc_repeat {k : Nat} {u : SX} {v : SY} (I : i_Rel k u v) (hk : k + 4 ≤ 2052) (v1 : Int32) : wpX_repeat (fun r u' => wpY_repeat (fun r' v' => r' = r ∧ i_Rel (k + 4) u' v') v v1) u v1 := by
  refine aq_RE2 I ?_
  intro cN rN sN oN wN ph gh rh oC oK oR oS oT oW cC cO cH lT sI sK sT cM gT ms iT uT cR eu ev J
  subst eu ev
  exact aq_fin2 (B' := 64 * (k + 4)) (aq_Lrep J) (by omega)
theorem i_vc_lose {k : Nat} {u : SX} {v : SY} (I : i_Rel k u v) (hk : k + 4 ≤ 2052) (v1 : Int32) : wpX_lose (fun r u' => wpY_lose (fun r' v' => r' = r ∧ i_Rel (k + 4) u' v') v v1) u v1 := by
  refine aq_RE2 I ?_
  intro cN rN sN oN wN ph gh rh oC oK oR oS oT oW cC cO cH lT sI sK sT cM gT ms iT uT cR eu ev J
  subst eu ev
  exact aq_fin2 (B' := 64 * (k + 4)) (aq_Llos J) (by omega)
theorem i_vc_run {k : Nat} {u : SX} {v : SY} (I : i_Rel k u v) (hk : k + 4 ≤ 2052) (v1 : Int32) (v2 : Int32) : wpX_run (fun r u' => wpY_run (fun r' v' => r' = r ∧ i_Rel (k + 4) u' v') v v1 v2) u v1 v2 := by
  refine aq_RE2 I ?_
  intro cN rN sN oN wN ph gh rh oC oK oR oS oT oW cC cO cH lT sI sK sT cM gT ms iT uT cR eu ev J
  subst eu ev
  obtain ⟨N, hN, eN, h1, h2⟩ := aq_cl32 v2
  refine nm_e (Exists.intro (N + 1) (aq_runl (p0 := v1) (steps := v2) (B' := 64 * (k + 4)) hN (by omega) h1 h2 (fun post => wpY_run post (nI cN, nI rN, nI sN, nI oN, ph, nI wN, rh, cM, oC, oK, oR, oW, oS, oT, cC, cO, cH, cR, sI, sK, sT, gT, ms) v1 v2) N 0 (64 * k) _ _ _ _ _ _ _ _ _ _ _ _ _ _ _ _ _ _ _ _ _ _ _ _ _ _ _ (by omega) (by omega) J fun post hpost => ?_))
  unfold wpY_run
  refine aq_yclamp ?_
  rw [eN]
  exact ⟨N + 1, hpost⟩
theorem i_vc_operations {k : Nat} {u : SX} {v : SY} (I : i_Rel k u v) (hk : k + 4 ≤ 2052) : wpX_operations (fun r => wpY_operations (fun r' => r' = r ∧ i_Rel (k + 4) u v) v) u := by
  refine aq_RE2 I ?_
  intro cN rN sN oN wN ph gh rh oC oK oR oS oT oW cC cO cH lT sI sK sT cM gT ms iT uT cR eu ev J
  subst eu ev
  exact And.intro rfl (aq_RI (aq_Im J (by omega)))
theorem i_vc_operation {k : Nat} {u : SX} {v : SY} (I : i_Rel k u v) (hk : k + 4 ≤ 2052) (v1 : Int32) (v2 : Int32) : wpX_operation (fun r => wpY_operation (fun r' => r' = r ∧ i_Rel (k + 4) u v) v v1 v2) u v1 v2 := by
  refine aq_RE2 I ?_
  intro cN rN sN oN wN ph gh rh oC oK oR oS oT oW cC cO cH lT sI sK sT cM gT ms iT uT cR eu ev J
  subst eu ev
  exact aq_fin1 (aq_Aop J) (aq_RI (aq_Im J (by omega)))
theorem i_vc_opValue {k : Nat} {u : SX} {v : SY} (I : i_Rel k u v) (hk : k + 4 ≤ 2052) (v1 : Int32) : wpX_opValue (fun r => wpY_opValue (fun r' => r' = r ∧ i_Rel (k + 4) u v) v v1) u v1 := by
  refine aq_RE2 I ?_
  intro cN rN sN oN wN ph gh rh oC oK oR oS oT oW cC cO cH lT sI sK sT cM gT ms iT uT cR eu ev J
  subst eu ev
  exact aq_fin1 (aq_Aov J) (aq_RI (aq_Im J (by omega)))
theorem i_vc_client {k : Nat} {u : SX} {v : SY} (I : i_Rel k u v) (hk : k + 4 ≤ 2052) (v1 : Int32) (v2 : Int32) : wpX_client (fun r => wpY_client (fun r' => r' = r ∧ i_Rel (k + 4) u v) v v1 v2) u v1 v2 := by
  refine aq_RE2 I ?_
  intro cN rN sN oN wN ph gh rh oC oK oR oS oT oW cC cO cH lT sI sK sT cM gT ms iT uT cR eu ev J
  subst eu ev
  exact aq_fin1 (aq_Acl J) (aq_RI (aq_Im J (by omega)))
theorem i_vc_installed {k : Nat} {u : SX} {v : SY} (I : i_Rel k u v) (hk : k + 4 ≤ 2052) (v1 : Int32) : wpX_installed (fun r => wpY_installed (fun r' => r' = r ∧ i_Rel (k + 4) u v) v v1) u v1 := by
  refine aq_RE2 I ?_
  intro cN rN sN oN wN ph gh rh oC oK oR oS oT oW cC cO cH lT sI sK sT cM gT ms iT uT cR eu ev J
  subst eu ev
  exact aq_fin1 (aq_Ain) (aq_RI (aq_Im J (by omega)))
theorem i_vc_known {k : Nat} {u : SX} {v : SY} (I : i_Rel k u v) (hk : k + 4 ≤ 2052) (v1 : Int32) : wpX_known (fun r => wpY_known (fun r' => r' = r ∧ i_Rel (k + 4) u v) v v1) u v1 := by
  refine aq_RE2 I ?_
  intro cN rN sN oN wN ph gh rh oC oK oR oS oT oW cC cO cH lT sI sK sT cM gT ms iT uT cR eu ev J
  subst eu ev
  exact aq_fin1 (aq_Akn) (aq_RI (aq_Im J (by omega)))
theorem i_vc_storedTag {k : Nat} {u : SX} {v : SY} (I : i_Rel k u v) (hk : k + 4 ≤ 2052) (v1 : Int32) (v2 : Int32) : wpX_storedTag (fun r => wpY_storedTag (fun r' => r' = r ∧ i_Rel (k + 4) u v) v v1 v2) u v1 v2 := by
  refine aq_RE2 I ?_
  intro cN rN sN oN wN ph gh rh oC oK oR oS oT oW cC cO cH lT sI sK sT cM gT ms iT uT cR eu ev J
  subst eu ev
  exact aq_fin1 (aq_Ast J.1.2.2.2.1) (aq_RI (aq_Im J (by omega)))
theorem i_vc_storedValue {k : Nat} {u : SX} {v : SY} (I : i_Rel k u v) (hk : k + 4 ≤ 2052) (v1 : Int32) (v2 : Int32) : wpX_storedValue (fun r => wpY_storedValue (fun r' => r' = r ∧ i_Rel (k + 4) u v) v v1 v2) u v1 v2 := by
  refine aq_RE2 I ?_
  intro cN rN sN oN wN ph gh rh oC oK oR oS oT oW cC cO cH lT sI sK sT cM gT ms iT uT cR eu ev J
  subst eu ev
  exact aq_fin1 (aq_Asv J) (aq_RI (aq_Im J (by omega)))
theorem i_vc_reconfiguration {k : Nat} {u : SX} {v : SY} (I : i_Rel k u v) (hk : k + 4 ≤ 2052) (v1 : Int32) : wpX_reconfiguration (fun r => wpY_reconfiguration (fun r' => r' = r ∧ i_Rel (k + 4) u v) v v1) u v1 := by
  refine aq_RE2 I ?_
  intro cN rN sN oN wN ph gh rh oC oK oR oS oT oW cC cO cH lT sI sK sT cM gT ms iT uT cR eu ev J
  subst eu ev
  exact aq_fin1 (aq_Arc J) (aq_RI (aq_Im J (by omega)))
theorem i_vc_members {k : Nat} {u : SX} {v : SY} (I : i_Rel k u v) (hk : k + 4 ≤ 2052) (v1 : Int32) : wpX_members (fun r => wpY_members (fun r' => r' = r ∧ i_Rel (k + 4) u v) v v1) u v1 := by
  refine aq_RE2 I ?_
  intro cN rN sN oN wN ph gh rh oC oK oR oS oT oW cC cO cH lT sI sK sT cM gT ms iT uT cR eu ev J
  subst eu ev
  exact aq_fin1 (aq_Amb J.1.2.2.2.2.2.2.2.2) (aq_RI (aq_Im J (by omega)))
theorem i_vc_message {k : Nat} {u : SX} {v : SY} (I : i_Rel k u v) (hk : k + 4 ≤ 2052) (v1 : Int32) (v2 : Int32) : wpX_message (fun r => wpY_message (fun r' => r' = r ∧ i_Rel (k + 4) u v) v v1 v2) u v1 v2 := by
  refine aq_RE2 I ?_
  intro cN rN sN oN wN ph gh rh oC oK oR oS oT oW cC cO cH lT sI sK sT cM gT ms iT uT cR eu ev J
  subst eu ev
  exact aq_fin1 (aq_Ams J) (aq_RI (aq_Im J (by omega)))
theorem i_vc_linearAt {k : Nat} {u : SX} {v : SY} (I : i_Rel k u v) (hk : k + 4 ≤ 2052) (v1 : Int32) (v2 : Int32) : wpX_linearAt (fun r => wpY_linearAt (fun r' => r' = r ∧ i_Rel (k + 4) u v) v v1 v2) u v1 v2 := by
  refine aq_RE2 I ?_
  intro cN rN sN oN wN ph gh rh oC oK oR oS oT oW cC cO cH lT sI sK sT cM gT ms iT uT cR eu ev J
  subst eu ev
  exact aq_fin1 (aq_Ala J) (aq_RI (aq_Im J (by omega)))
theorem i_vc_quorumFloor {k : Nat} {u : SX} {v : SY} (I : i_Rel k u v) (hk : k + 4 ≤ 2052) (v1 : Int32) (v2 : Int32) : wpX_quorumFloor (fun r => wpY_quorumFloor (fun r' => r' = r ∧ i_Rel (k + 4) u v) v v1 v2) u v1 v2 := by
  refine aq_RE2 I ?_
  intro cN rN sN oN wN ph gh rh oC oK oR oS oT oW cC cO cH lT sI sK sT cM gT ms iT uT cR eu ev J
  subst eu ev
  exact aq_fin1 (aq_Afl J (by omega)) (aq_RI (aq_Im J (by omega)))
end
