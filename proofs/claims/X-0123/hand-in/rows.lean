section
/-! rows out of the kit (starting text): stores, nI arithmetic, branches by naturals, Int32 by its bits -/
theorem pk_us {f : Nat → Int32} {k : Nat} {x : Int32} : upd f k x k = x := if_pos rfl
theorem pk_un {f : Nat → Int32} {k j : Nat} {x : Int32} (h : j ≠ k) : upd f k x j = f j := if_neg h
theorem pk_uLs {f : Nat → Int64} {k : Nat} {x : Int64} : vp_updL f k x k = x := if_pos rfl
theorem pk_uLn {f : Nat → Int64} {k j : Nat} {x : Int64} (h : j ≠ k) : vp_updL f k x j = f j := if_neg h
theorem pk_sub {a b : Nat} (h : b ≤ a) : nI a - nI b = nI (a - b) := by
  obtain ⟨c, rfl⟩ : ∃ c, a = c + b := ⟨a - b, by omega⟩
  rw [← nI_add, Int32.add_sub_cancel, Nat.add_sub_cancel]
theorem pk_m1 (n : Nat) : nI (n + 1) + (-1) = nI n := by
  rw [← nI_1, Int32.add_assoc, show (1 : Int32) + (-1) = 0 from rfl, Int32.add_zero]
theorem pk_mul (a b : Nat) : nI a * nI b = nI (a * b) := (Int32.ofNat_mul a b).symm
theorem pk_div {a d : Nat} (ha : a < 2 ^ 31) (h0 : 0 < d) (hd : d < 2 ^ 31) : nI a / nI d = nI (a / d) := by
  apply Int32.toInt_inj.mp
  rw [lg_idiv_nonneg (by rw [nI_toInt ha]; omega) (by rw [nI_toInt hd]; omega), nI_toInt ha, nI_toInt hd, nI_toInt (Nat.lt_of_le_of_lt (Nat.div_le_self a d) ha)]
  first | rfl | exact (Int.natCast_ediv _ _).symm
theorem pk_rem {a d : Nat} (ha : a < 2 ^ 31) (h0 : 0 < d) (hd : d < 2 ^ 31) : nI a - nI a / nI d * nI d = nI (a % d) := by
  rw [pk_div ha h0 hd, pk_mul, pk_sub (Nat.div_mul_le_self a d)]
  exact congrArg nI (by have := Nat.div_add_mod' a d; omega)
theorem pk_sub_toInt {a b : Nat} (ha : a < 2 ^ 30) (hb : b < 2 ^ 30) : (nI a - nI b).toInt = (a : Int) - b := by
  rw [Int32.toInt_sub, nI_toInt (by omega), nI_toInt (by omega)]
  exact Int.bmod_eq_of_le (by omega) (by omega)
theorem pk_sneg {a b : Nat} (hb : b < 2 ^ 30) (h : a < b) : nI a - nI b < 0 := by
  rw [Int32.lt_iff_toInt_lt, pk_sub_toInt (by omega) hb, show (0 : Int32).toInt = 0 from by decide]
  omega
theorem pk_ix (x : Int32) {n : Nat} (hn : n < 2 ^ 31) : x < 0 ∨ nI n ≤ x ∨ ∃ j : Nat, j < n ∧ x = nI j := by
  by_cases h : x < 0
  · exact Or.inl h
  · obtain ⟨j, hj, rfl⟩ := nI_of h
    by_cases h2 : j < n
    · exact Or.inr (Or.inr ⟨j, h2, rfl⟩)
    · exact Or.inr (Or.inl (nI_le (by omega) hj))
theorem pk_le {x y : Int32} {A B : Prop} (a b : Nat) (f : a ≤ b → A) (g : b < a → B) (hx : x = nI a := by rfl) (hy : y = nI b := by rfl) (ha : a < 2 ^ 31 := by omega) (hb : b < 2 ^ 31 := by omega) : (x ≤ y → A) ∧ (¬ x ≤ y → B) := by
  subst hx hy
  rw [nI_leI ha hb]
  exact ⟨f, fun z => g (by omega)⟩
theorem pk_lt {x y : Int32} {A B : Prop} (a b : Nat) (f : a < b → A) (g : b ≤ a → B) (hx : x = nI a := by rfl) (hy : y = nI b := by rfl) (ha : a < 2 ^ 31 := by omega) (hb : b < 2 ^ 31 := by omega) : (x < y → A) ∧ (¬ x < y → B) := by
  subst hx hy
  rw [nI_ltI ha hb]
  exact ⟨f, fun z => g (by omega)⟩
theorem pk_eq {x y : Int32} {A B : Prop} (a b : Nat) (f : a = b → A) (g : a ≠ b → B) (hx : x = nI a := by rfl) (hy : y = nI b := by rfl) (ha : a < 2 ^ 31 := by omega) (hb : b < 2 ^ 31 := by omega) : (x = y → A) ∧ (¬ x = y → B) := by
  subst hx hy
  rw [nI_eq ha hb]
  exact ⟨f, g⟩
theorem pk_in {x : Int32} (n N : Nat) (h : n < N) (hx : x = nI n := by rfl) (hN : N < 2 ^ 31 := by omega) : vp_in x N := by
  subst hx
  exact vp_in_nI h hN
theorem pk_cl {x : Int32} (n : Nat) (hx : x = nI n := by rfl) (h : n < 2 ^ 31 := by omega) : x.toNatClampNeg = n := by
  subst hx
  exact nI_clamp h
theorem pk_tn {n : Nat} (h : n < 2 ^ 32) : (nI n).toBitVec.toNat = n := Nat.mod_eq_of_lt h
theorem pk_least (P : Nat → Prop) (h : ∃ k, P k) : ∃ k, P k ∧ ∀ j, j < k → ¬ P j := by
  obtain ⟨k, hk⟩ := h
  induction k using Nat.strongRecOn with
  | ind k ih =>
    by_cases e : ∃ j, j < k ∧ P j
    · obtain ⟨j, hj, pj⟩ := e
      exact ih j hj pj
    · exact ⟨k, hk, fun j hj pj => e ⟨j, hj, pj⟩⟩
theorem ek_if {c d A B : Prop} (e : c ↔ d) (f : d → A) (g : ¬ d → B) : (c → A) ∧ (¬ c → B) :=
  ⟨fun z => f (e.mp z), fun z => g (fun y => z (e.mpr y))⟩
def bt (x : Int32) (i : Nat) : Bool := x.toBitVec.getLsbD i
theorem b_ext {x y : Int32} (h : ∀ i, i < 32 → bt x i = bt y i) : x = y := Int32.toBitVec_inj.mp (BitVec.eq_of_getLsbD_eq (fun i hi => h i hi))
theorem b_or (x y : Int32) (i : Nat) : bt (x ||| y) i = (bt x i || bt y i) := by unfold bt; rw [Int32.toBitVec_or, BitVec.getLsbD_or]
theorem b_and (x y : Int32) (i : Nat) : bt (x &&& y) i = (bt x i && bt y i) := by unfold bt; rw [Int32.toBitVec_and, BitVec.getLsbD_and]
theorem b_xor (x y : Int32) (i : Nat) : bt (x ^^^ y) i = (bt x i ^^ bt y i) := by unfold bt; rw [Int32.toBitVec_xor, BitVec.getLsbD_xor]
theorem b_big {x : Int32} {i : Nat} (h : 32 ≤ i) : bt x i = false := BitVec.getLsbD_of_ge _ _ h
theorem b_m1 : ∀ i, i < 32 → bt (-1) i = true := by decide +kernel
theorem b_0 (i : Nat) : bt 0 i = false := BitVec.getLsbD_zero
theorem s_l : ∀ n, n < 32 → ((nI n &&& 31).toBitVec.smod 32).toNat = n := by decide +kernel
theorem s_u : ∀ n, n < 32 → (((nI n).toUInt32 &&& Int32.toUInt32 31).toBitVec % 32).toNat = n := by decide +kernel
theorem b_shl (n : Nat) (hn : n < 32) (x : Int32) {i : Nat} (hi : i < 32) : bt (x <<< (nI n &&& 31)) i = (decide (n ≤ i) && bt x (i - n)) := by
  unfold bt
  rw [Int32.toBitVec_shiftLeft]
  show (x.toBitVec <<< ((nI n &&& 31).toBitVec.smod 32).toNat).getLsbD i = _
  rw [s_l n hn, BitVec.getLsbD_shiftLeft]
  rcases Nat.lt_or_ge i n with h | h
  · simp [h, Nat.not_le.mpr h]
  · simp [hi, h, Nat.not_lt.mpr h]
theorem b_ushr (n : Nat) (hn : n < 32) (x : Int32) (i : Nat) : bt ((x.toUInt32 >>> ((nI n).toUInt32 &&& Int32.toUInt32 31)).toInt32) i = bt x (n + i) := by
  show (x.toUInt32 >>> ((nI n).toUInt32 &&& Int32.toUInt32 31)).toBitVec.getLsbD i = x.toUInt32.toBitVec.getLsbD (n + i)
  rw [UInt32.toBitVec_shiftRight]
  show (x.toUInt32.toBitVec >>> (((nI n).toUInt32 &&& Int32.toUInt32 31).toBitVec % 32).toNat).getLsbD i = _
  rw [s_u n hn, BitVec.getLsbD_ushiftRight]
theorem b_sshr (n : Nat) (hn : n < 32) (x : Int32) {i : Nat} (hi : i < 32) : bt (x >>> (nI n &&& 31)) i = if n + i < 32 then bt x (n + i) else bt x 31 := by
  unfold bt
  rw [Int32.toBitVec_shiftRight]
  show (x.toBitVec.sshiftRight ((nI n &&& 31).toBitVec.smod 32).toNat).getLsbD i = _
  rw [s_l n hn, BitVec.getLsbD_sshiftRight, BitVec.msb_eq_getLsbD_last]
  simp [hi]
theorem wb_tb (n : Nat) : (lN n).toBitVec = BitVec.ofNat 64 n := rfl
theorem wb_c : ∀ k, k < 64 → ((nI k).toInt64 &&& 63) = lN k := by decide +kernel
theorem wb_cu : ∀ k, k < 64 → ((nI k).toInt64.toUInt64 &&& Int64.toUInt64 63) = UInt64.ofNat k := by decide +kernel
theorem wb_sm : ∀ k, k < 64 → (BitVec.ofNat 64 k).smod 64 = BitVec.ofNat 64 k := by decide +kernel
end
section
/-! bits of ints and longs, as the print tests them -/
def qb (x : Int64) (i : Nat) : Bool := x.toBitVec.getLsbD i
theorem qb_or (x y : Int64) (i : Nat) : qb (x ||| y) i = (qb x i || qb y i) := by unfold qb; rw [Int64.toBitVec_or, BitVec.getLsbD_or]
theorem qb_and (x y : Int64) (i : Nat) : qb (x &&& y) i = (qb x i && qb y i) := by unfold qb; rw [Int64.toBitVec_and, BitVec.getLsbD_and]
theorem qb_big {x : Int64} {i : Nat} (h : 64 ≤ i) : qb x i = false := BitVec.getLsbD_of_ge _ _ h
theorem qb_lt {x : Int64} {i : Nat} (h : qb x i = true) : i < 64 := by
  rcases Nat.lt_or_ge i 64 with z | z
  · exact z
  · rw [qb_big z] at h; exact absurd h (by decide)
theorem qb_0 (i : Nat) : qb 0 i = false := BitVec.getLsbD_zero
theorem qb_ext {x y : Int64} (h : ∀ i, i < 64 → qb x i = qb y i) : x = y := Int64.toBitVec_inj.mp (BitVec.eq_of_getLsbD_eq (fun i hi => h i hi))
theorem bt_lt {x : Int32} {i : Nat} (h : bt x i = true) : i < 32 := by
  rcases Nat.lt_or_ge i 32 with z | z
  · exact z
  · rw [b_big z] at h; exact absurd h (by decide)
theorem qb_un : ∀ k, k < 64 → (UInt64.ofNat k).toBitVec % 64 = BitVec.ofNat 64 k := by decide +kernel
theorem qb_ushr (n : Nat) (hn : n < 64) (x : Int64) (i : Nat) : qb ((x.toUInt64 >>> ((nI n).toInt64.toUInt64 &&& Int64.toUInt64 63)).toInt64) i = qb x (n + i) := by
  rw [wb_cu n hn]
  show (x.toUInt64 >>> UInt64.ofNat n).toBitVec.getLsbD i = x.toUInt64.toBitVec.getLsbD (n + i)
  rw [UInt64.toBitVec_shiftRight, qb_un n hn]
  show (x.toUInt64.toBitVec >>> (BitVec.ofNat 64 n).toNat).getLsbD i = _
  rw [BitVec.toNat_ofNat, Nat.mod_eq_of_lt (by omega), BitVec.getLsbD_ushiftRight]
theorem qb_shl (n : Nat) (hn : n < 64) (x : Int64) {i : Nat} (hi : i < 64) : qb (x <<< ((nI n).toInt64 &&& 63)) i = (decide (n ≤ i) && qb x (i - n)) := by
  rw [wb_c n hn]
  unfold qb
  rw [Int64.toBitVec_shiftLeft, wb_tb, wb_sm n hn]
  show (x.toBitVec <<< (BitVec.ofNat 64 n).toNat).getLsbD i = _
  rw [BitVec.toNat_ofNat, Nat.mod_eq_of_lt (by omega), BitVec.getLsbD_shiftLeft]
  rcases Nat.lt_or_ge i n with h | h
  · simp [h, Nat.not_le.mpr h]
  · simp [hi, h, Nat.not_lt.mpr h]
theorem qb_sx (x : Int32) {i : Nat} (hi : i < 32) : qb x.toInt64 i = bt x i := by
  unfold qb bt
  rw [Int32.toBitVec_toInt64, BitVec.getLsbD_signExtend]
  simp [hi]
  omega
theorem bt_tr (x : Int64) {i : Nat} (hi : i < 32) : bt x.toInt32 i = qb x i := by
  unfold qb bt
  rw [Int64.toBitVec_toInt32, BitVec.getLsbD_signExtend, if_pos (by omega), decide_eq_true hi, Bool.true_and]
theorem bt_one : ∀ i, i < 32 → bt 1 i = decide (i = 0) := by decide +kernel
theorem qb_one : ∀ i, i < 64 → qb 1 i = decide (i = 0) := by decide +kernel
theorem qb_63 : ∀ i, i < 64 → qb 63 i = decide (i < 6) := by decide +kernel
theorem qb_126 : ∀ i, i < 64 → qb 126 i = decide (1 ≤ i ∧ i < 7) := by decide +kernel
theorem bt_and1 (y : Int32) : (y &&& 1) = 0 ↔ bt y 0 = false := by
  constructor
  · intro h
    have e : bt (y &&& 1) 0 = false := by rw [h, b_0]
    rw [b_and, bt_one 0 (by omega)] at e
    simpa using e
  · intro h
    apply b_ext
    intro i hi
    rw [b_and, b_0, bt_one i hi]
    by_cases z : i = 0
    · subst z; rw [h]; rfl
    · rw [decide_eq_false z, Bool.and_false]
theorem bt_and1' (y : Int32) : (y &&& 1) = 1 ↔ bt y 0 = true := by
  constructor
  · intro h
    have e : bt (y &&& 1) 0 = true := by rw [h, bt_one 0 (by omega)]; rfl
    rw [b_and, bt_one 0 (by omega)] at e
    simpa using e
  · intro h
    apply b_ext
    intro i hi
    rw [b_and, bt_one i hi]
    by_cases z : i = 0
    · subst z; rw [h]; rfl
    · rw [decide_eq_false z, Bool.and_false]
theorem qb_and1 (y : Int64) : (y &&& 1) = 0 ↔ qb y 0 = false := by
  constructor
  · intro h
    have e : qb (y &&& 1) 0 = false := by rw [h, qb_0]
    rw [qb_and, qb_one 0 (by omega)] at e
    simpa using e
  · intro h
    apply qb_ext
    intro i hi
    rw [qb_and, qb_0, qb_one i hi]
    by_cases z : i = 0
    · subst z; rw [h]; rfl
    · rw [decide_eq_false z, Bool.and_false]
theorem bt_t (m : Int32) {d : Nat} (hd : d < 32) : (((m.toUInt32 >>> ((nI d).toUInt32 &&& Int32.toUInt32 31)).toInt32) &&& 1) = 0 ↔ bt m d = false := by
  rw [bt_and1, b_ushr d hd, Nat.add_zero]
theorem bt_s (m : Int32) {d : Nat} (hd : d < 32) : ((m >>> (nI d &&& 31)) &&& 1) = 1 ↔ bt m d = true := by
  rw [bt_and1', b_sshr d hd m (by omega), Nat.add_zero, if_pos hd]
theorem qb_t (m : Int64) {d : Nat} (hd : d < 64) : (((m.toUInt64 >>> ((nI d).toInt64.toUInt64 &&& Int64.toUInt64 63)).toInt64) &&& 1) = 0 ↔ qb m d = false := by
  rw [qb_and1, qb_ushr d hd, Nat.add_zero]
/-- the branches of the print, by bits -/
theorem bt_br {m : Int32} {A B : Prop} {x : Int32} (d : Nat) (hd : d < 32) (f : bt m d = false → A) (g : bt m d = true → B) (hx : x = nI d := by rfl) : ((((m.toUInt32 >>> (x.toUInt32 &&& Int32.toUInt32 31)).toInt32) &&& 1) = 0 → A) ∧ (¬ (((m.toUInt32 >>> (x.toUInt32 &&& Int32.toUInt32 31)).toInt32) &&& 1) = 0 → B) := by
  subst hx
  rw [bt_t m hd]
  exact ⟨f, fun z => g (by simpa using z)⟩
theorem bt_sbr {m : Int32} {A B : Prop} {x : Int32} (d : Nat) (hd : d < 32) (f : bt m d = true → A) (g : bt m d = false → B) (hx : x = nI d := by rfl) : (((m >>> (x &&& 31)) &&& 1) = 1 → A) ∧ (¬ ((m >>> (x &&& 31)) &&& 1) = 1 → B) := by
  subst hx
  rw [bt_s m hd]
  exact ⟨f, fun z => g (by simpa using z)⟩
theorem qb_br {m : Int64} {A B : Prop} {x : Int32} (d : Nat) (hd : d < 64) (f : qb m d = false → A) (g : qb m d = true → B) (hx : x = nI d := by rfl) : ((((m.toUInt64 >>> (x.toInt64.toUInt64 &&& Int64.toUInt64 63)).toInt64) &&& 1) = 0 → A) ∧ (¬ (((m.toUInt64 >>> (x.toInt64.toUInt64 &&& Int64.toUInt64 63)).toInt64) &&& 1) = 0 → B) := by
  subst hx
  rw [qb_t m hd]
  exact ⟨f, fun z => g (by simpa using z)⟩
theorem qb_br1 {m : Int64} {A B : Prop} (f : qb m 0 = false → A) (g : qb m 0 = true → B) : ((m &&& 1) = 0 → A) ∧ (¬ (m &&& 1) = 0 → B) := by
  rw [qb_and1]
  exact ⟨f, fun z => g (by simpa using z)⟩
theorem bt_sh (d : Nat) (hd : d < 32) (i : Nat) : bt ((1 : Int32) <<< (nI d &&& 31)) i = decide (i = d) := by
  rcases Nat.lt_or_ge i 32 with h | h
  · rw [b_shl d hd 1 h]
    rcases Nat.lt_or_ge i d with z | z
    · rw [decide_eq_false (by omega), decide_eq_false (by omega), Bool.false_and]
    · rw [decide_eq_true z, Bool.true_and, bt_one _ (by omega)]
      by_cases e : i = d
      · rw [decide_eq_true e, decide_eq_true (by omega)]
      · rw [decide_eq_false e, decide_eq_false (by omega)]
  · rw [b_big h, decide_eq_false (by omega)]
theorem bt_clr (m : Int32) (d : Nat) (hd : d < 32) (i : Nat) : bt (m &&& (((1 : Int32) <<< (nI d &&& 31)) ^^^ (-1))) i = (bt m i && !decide (i = d)) := by
  rcases Nat.lt_or_ge i 32 with h | h
  · rw [b_and, b_xor, bt_sh d hd, b_m1 i h, Bool.xor_true]
  · rw [b_big h, b_big h, Bool.false_and]
theorem bt_set (m : Int32) (d : Nat) (hd : d < 32) (i : Nat) : bt (m ||| ((1 : Int32) <<< (nI d &&& 31))) i = (bt m i || decide (i = d)) := by
  rw [b_or, bt_sh d hd]
theorem bt_nI {t : Nat} (i : Nat) (hi : i < 32) : bt (nI t) i = t.testBit i := by
  show (BitVec.ofNat 32 t).getLsbD i = _
  rw [BitVec.getLsbD_ofNat, decide_eq_true hi, Bool.true_and]
theorem bt_and0 {x y : Int32} : (x &&& y) = 0 ↔ ∀ p, bt x p = true → bt y p = false := by
  constructor
  · intro h p hp
    have e : bt (x &&& y) p = false := by rw [h, b_0]
    rw [b_and, hp, Bool.true_and] at e
    exact e
  · intro h
    apply b_ext
    intro i hi
    rw [b_and, b_0]
    cases z : bt x i
    · rfl
    · rw [h i z]; rfl
/-- x and y the same words of bits where true -/
theorem bt_eqT {x y : Int32} (h : ∀ i, bt x i = true ↔ bt y i = true) : x = y := b_ext (fun i _ => Bool.eq_iff_iff.mpr (h i))
end
section
/-! languages seen on texts; the stack of languages; paths of the position automaton -/
abbrev la_T : Type := (Nat → Nat) → Nat → Nat → Prop
def la_smb (t : Nat) : la_T := fun x s e => e = s + 1 ∧ t.testBit (x s) = true
def la_eps : la_T := fun _ s e => e = s
def la_cat (A B : la_T) : la_T := fun x s e => ∃ m, A x s m ∧ B x m e
def la_alt (A B : la_T) : la_T := fun x s e => A x s e ∨ B x s e
def la_pls (A : la_T) : la_T := fun x s e => Relation.TransGen (A x) s e
def la_opt (A : la_T) : la_T := fun x s e => A x s e ∨ e = s
/-- depth of the pattern's first i tokens -/
def tg_dp (tk : Nat → Nat) : Nat → Nat
  | 0 => 0
  | i + 1 => if tk i ≤ 64 then tg_dp tk i + 1 else if tk i ≤ 66 then tg_dp tk i - 1 else tg_dp tk i
/-- the stack of languages after i tokens -/
def tg_sm (tk : Nat → Nat) : Nat → Nat → la_T
  | 0 => fun _ _ _ _ => False
  | i + 1 => fun k =>
    if tk i < 64 then (if k = tg_dp tk i then la_smb (tk i) else tg_sm tk i k)
    else if tk i = 64 then (if k = tg_dp tk i then la_eps else tg_sm tk i k)
    else if tk i = 65 then (if k + 2 = tg_dp tk i then la_cat (tg_sm tk i k) (tg_sm tk i (k + 1)) else tg_sm tk i k)
    else if tk i = 66 then (if k + 2 = tg_dp tk i then la_alt (tg_sm tk i k) (tg_sm tk i (k + 1)) else tg_sm tk i k)
    else if tk i = 67 then (if k + 1 = tg_dp tk i then la_opt (la_pls (tg_sm tk i k)) else tg_sm tk i k)
    else if tk i = 68 then (if k + 1 = tg_dp tk i then la_pls (tg_sm tk i k) else tg_sm tk i k)
    else (if k + 1 = tg_dp tk i then la_opt (tg_sm tk i k) else tg_sm tk i k)
/-- a token that the pattern may take -/
def tg_ok (tk : Nat → Nat) (i : Nat) : Prop :=
  1 ≤ tk i ∧ tk i ≤ 69 ∧ (tk i ≤ 64 → tg_dp tk i < 12) ∧ (65 ≤ tk i → tk i ≤ 66 → 2 ≤ tg_dp tk i) ∧ (67 ≤ tk i → 1 ≤ tg_dp tk i)
theorem tg_dp_le (tk : Nat → Nat) : ∀ n, (∀ i, i < n → tg_ok tk i) → tg_dp tk n ≤ 12
  | 0, _ => Nat.zero_le _
  | n + 1, h => by
    have ih := tg_dp_le tk n (fun i hi => h i (by omega))
    have ⟨_, _, h3, _, _⟩ := h n (by omega)
    unfold tg_dp
    by_cases a : tk n ≤ 64
    · rw [if_pos a]; have := h3 a; omega
    · rw [if_neg a]
      by_cases b : tk n ≤ 66
      · rw [if_pos b]; omega
      · rw [if_neg b]; exact ih
theorem tg_dp_leaf {tk : Nat → Nat} {i : Nat} (h : tk i ≤ 64) : tg_dp tk (i + 1) = tg_dp tk i + 1 := by
  rw [tg_dp, if_pos h]
theorem tg_dp_bin {tk : Nat → Nat} {i : Nat} (h : 65 ≤ tk i) (h2 : tk i ≤ 66) : tg_dp tk (i + 1) = tg_dp tk i - 1 := by
  rw [tg_dp, if_neg (by omega), if_pos h2]
theorem tg_dp_un {tk : Nat → Nat} {i : Nat} (h : 67 ≤ tk i) : tg_dp tk (i + 1) = tg_dp tk i := by
  rw [tg_dp, if_neg (by omega), if_neg (by omega)]
theorem tg_dp_cong {tk tk' : Nat → Nat} : ∀ n, (∀ i, i < n → tk' i = tk i) → tg_dp tk' n = tg_dp tk n
  | 0, _ => rfl
  | n + 1, h => by
    rw [tg_dp, tg_dp, tg_dp_cong n (fun i hi => h i (by omega)), h n (by omega)]
theorem tg_ok_cong {tk tk' : Nat → Nat} {i : Nat} (h : ∀ j, j ≤ i → tk' j = tk j) (z : tg_ok tk i) : tg_ok tk' i := by
  unfold tg_ok at *
  rw [tg_dp_cong i (fun j hj => h j (by omega)), h i (by omega)]
  exact z
/-! words go forward -/
def la_Mo (W : la_T) : Prop := ∀ x s e, W x s e → s ≤ e
theorem la_mo_smb (t : Nat) : la_Mo (la_smb t) := fun x s e h => by have := h.1; omega
theorem la_mo_eps : la_Mo la_eps := fun x s e h => by have : e = s := h; omega
theorem la_mo_cat {A B : la_T} (a : la_Mo A) (b : la_Mo B) : la_Mo (la_cat A B) := fun x s e ⟨m, h1, h2⟩ => Nat.le_trans (a x s m h1) (b x m e h2)
theorem la_mo_alt {A B : la_T} (a : la_Mo A) (b : la_Mo B) : la_Mo (la_alt A B) := fun x s e h => h.elim (a x s e) (b x s e)
theorem la_mo_opt {A : la_T} (a : la_Mo A) : la_Mo (la_opt A) := fun x s e h => h.elim (a x s e) (fun z => by omega)
theorem la_mo_pls {A : la_T} (a : la_Mo A) : la_Mo (la_pls A) := fun x s e h => by
  have h' : Relation.TransGen (A x) s e := h
  clear h
  induction h' with
  | single z => exact a x _ _ z
  | tail _ z ih => exact Nat.le_trans ih (a x _ _ z)
theorem tg_mo (tk : Nat → Nat) : ∀ i k, la_Mo (tg_sm tk i k)
  | 0, _ => fun _ _ _ h => h.elim
  | i + 1, k => by
    have ih := tg_mo tk i
    unfold tg_sm
    repeat' split
    all_goals first
      | exact ih _
      | exact la_mo_smb _
      | exact la_mo_eps
      | exact la_mo_cat (ih _) (ih _)
      | exact la_mo_alt (ih _) (ih _)
      | exact la_mo_opt (la_mo_pls (ih _))
      | exact la_mo_pls (ih _)
      | exact la_mo_opt (ih _)
/-- joined words: no letters at all -/
theorem la_pls_nil {A : la_T} (a : la_Mo A) {x : Nat → Nat} {s e : Nat} (h : Relation.TransGen (A x) s e) (z : e ≤ s) : A x s s := by
  induction h with
  | @single b w =>
    have h1 := a x _ _ w
    have e1 : b = s := by omega
    rw [e1] at w
    exact w
  | @tail b c h1 w ih =>
    have h2 := a x _ _ w
    exact ih (by omega)
/-- joined words: the last one that has letters -/
theorem la_pls_last {A : la_T} (a : la_Mo A) {x : Nat → Nat} {s e : Nat} (h : Relation.TransGen (A x) s e) (z : s < e) : ∃ b, s ≤ b ∧ b < e ∧ (b = s ∨ Relation.TransGen (A x) s b) ∧ A x b e := by
  induction h with
  | single w => exact ⟨s, Nat.le_refl _, z, Or.inl rfl, w⟩
  | @tail b c h1 w ih =>
    have hb : s ≤ b := la_mo_pls a x s b h1
    have hc := a x _ _ w
    rcases Nat.lt_or_ge b c with q | q
    · exact ⟨b, hb, q, Or.inr h1, w⟩
    · have e : b = c := by omega
      subst e
      exact ih z
end
section
/-! paths of positions: the automaton of a language, and how it is joined -/
def tg_rn (F : Int32) (fo rc : Nat → Int32) (x : Nat → Nat) (s : Nat) : Nat → Nat → Prop
  | 0 => fun p => bt F p = true ∧ bt (rc (x s)) p = true
  | l + 1 => fun p => (∃ q, tg_rn F fo rc x s l q ∧ bt (fo q) p = true) ∧ bt (rc (x (s + l + 1))) p = true
def tg_Rg (lo hi : Nat) (F E : Int32) (fo : Nat → Int32) : Prop :=
  lo ≤ hi ∧ (∀ p, bt F p = true → lo ≤ p ∧ p < hi) ∧ (∀ p, bt E p = true → lo ≤ p ∧ p < hi) ∧ (∀ q p, lo ≤ q → q < hi → bt (fo q) p = true → lo ≤ p ∧ p < hi)
def tg_Ac (W : la_T) (F E : Int32) (fo rc : Nat → Int32) : Prop :=
  ∀ x : Nat → Nat, (∀ j, x j < 6) → ∀ s l, W x s (s + l + 1) ↔ ∃ p, tg_rn F fo rc x s l p ∧ bt E p = true
def tg_Nu (W : la_T) (b : Bool) : Prop := ∀ x : Nat → Nat, (∀ j, x j < 6) → ∀ s, W x s s ↔ b = true
theorem tg_rn_in {lo hi : Nat} {F E : Int32} {fo rc : Nat → Int32} {x : Nat → Nat} {s : Nat} (R : tg_Rg lo hi F E fo) : ∀ l p, tg_rn F fo rc x s l p → lo ≤ p ∧ p < hi
  | 0, p, h => R.2.1 p h.1
  | l + 1, p, h => by
    obtain ⟨⟨q, hq, hf⟩, _⟩ := h
    have z := tg_rn_in R l q hq
    exact R.2.2.2 q p z.1 z.2 hf
theorem tg_rn_cong {lo hi : Nat} {F E : Int32} {fo rc fo' rc' : Nat → Int32} {x : Nat → Nat} {s : Nat} (R : tg_Rg lo hi F E fo) (hf : ∀ q, lo ≤ q → q < hi → fo' q = fo q) (hr : ∀ c, c < 6 → ∀ p, lo ≤ p → p < hi → bt (rc' c) p = bt (rc c) p) (hx : ∀ j, x j < 6) : ∀ l p, tg_rn F fo' rc' x s l p ↔ tg_rn F fo rc x s l p
  | 0, p => by
    unfold tg_rn
    constructor
    · intro ⟨a, b⟩
      have z := R.2.1 p a
      rw [hr _ (hx _) p z.1 z.2] at b
      exact ⟨a, b⟩
    · intro ⟨a, b⟩
      have z := R.2.1 p a
      rw [← hr _ (hx _) p z.1 z.2] at b
      exact ⟨a, b⟩
  | l + 1, p => by
    have ih := tg_rn_cong (s := s) R hf hr hx l
    unfold tg_rn
    constructor
    · intro ⟨⟨q, hq, a⟩, b⟩
      have hq' := (ih q).mp hq
      have z := tg_rn_in R l q hq'
      rw [hf q z.1 z.2] at a
      have w := R.2.2.2 q p z.1 z.2 a
      rw [hr _ (hx _) p w.1 w.2] at b
      exact ⟨⟨q, hq', a⟩, b⟩
    · intro ⟨⟨q, hq, a⟩, b⟩
      have z := tg_rn_in R l q hq
      have w := R.2.2.2 q p z.1 z.2 a
      rw [← hr _ (hx _) p w.1 w.2] at b
      rw [← hf q z.1 z.2] at a
      exact ⟨⟨q, (ih q).mpr hq, a⟩, b⟩
theorem tg_rg_cong {lo hi : Nat} {F E : Int32} {fo fo' : Nat → Int32} (R : tg_Rg lo hi F E fo) (hf : ∀ q, lo ≤ q → q < hi → fo' q = fo q) : tg_Rg lo hi F E fo' :=
  ⟨R.1, R.2.1, R.2.2.1, fun q p a b c => R.2.2.2 q p a b (by rw [← hf q a b]; exact c)⟩
theorem tg_ac_cong {W : la_T} {lo hi : Nat} {F E : Int32} {fo rc fo' rc' : Nat → Int32} (R : tg_Rg lo hi F E fo) (hf : ∀ q, lo ≤ q → q < hi → fo' q = fo q) (hr : ∀ c, c < 6 → ∀ p, lo ≤ p → p < hi → bt (rc' c) p = bt (rc c) p) (A : tg_Ac W F E fo rc) : tg_Ac W F E fo' rc' := by
  intro x hx s l
  rw [A x hx s l]
  constructor
  · intro ⟨p, a, b⟩
    exact ⟨p, (tg_rn_cong R hf hr hx l p).mpr a, b⟩
  · intro ⟨p, a, b⟩
    exact ⟨p, (tg_rn_cong R hf hr hx l p).mp a, b⟩
/-! a symbol -/
theorem tg_rg_smb {P : Nat} {F : Int32} {fo : Nat → Int32} (hF : ∀ p, bt F p = true ↔ p = P) (h0 : fo P = 0) : tg_Rg P (P + 1) F F fo := by
  refine ⟨by omega, fun p h => ?_, fun p h => ?_, fun q p a b c => ?_⟩
  · have := (hF p).mp h; omega
  · have := (hF p).mp h; omega
  · have e : q = P := by omega
    rw [e, h0, b_0] at c
    exact absurd c (by decide)
theorem tg_ac_smb {t P : Nat} {F : Int32} {fo rc : Nat → Int32} (hF : ∀ p, bt F p = true ↔ p = P) (h0 : fo P = 0) (hr : ∀ c, c < 6 → bt (rc c) P = t.testBit c) : tg_Ac (la_smb t) F F fo rc := by
  intro x hx s l
  cases l with
  | zero =>
    constructor
    · intro h
      refine ⟨P, ⟨(hF P).mpr rfl, ?_⟩, (hF P).mpr rfl⟩
      rw [hr _ (hx s)]; exact h.2
    · intro ⟨p, h, _⟩
      have e := (hF p).mp h.1
      refine ⟨rfl, ?_⟩
      rw [← hr _ (hx s), ← e]; exact h.2
  | succ l =>
    constructor
    · intro h
      have := h.1
      omega
    · intro ⟨p, h, _⟩
      obtain ⟨⟨q, hq, a⟩, _⟩ := h
      have z := tg_rn_in (tg_rg_smb hF h0) l q hq
      have e : q = P := by omega
      rw [e, h0, b_0] at a
      exact absurd a (by decide)
theorem tg_nu_smb (t : Nat) : tg_Nu (la_smb t) false := by
  intro x hx s
  constructor
  · intro h
    have := h.1
    omega
  · intro h
    exact absurd h (by decide)
/-! the word of no letters -/
theorem tg_rg_eps (P : Nat) (fo : Nat → Int32) : tg_Rg P P 0 0 fo := by
  refine ⟨by omega, fun p h => ?_, fun p h => ?_, fun q p a b c => by omega⟩
  · rw [b_0] at h; exact absurd h (by decide)
  · rw [b_0] at h; exact absurd h (by decide)
theorem tg_ac_eps (fo rc : Nat → Int32) : tg_Ac la_eps 0 0 fo rc := by
  intro x hx s l
  constructor
  · intro h
    have : s + l + 1 = s := h
    omega
  · intro ⟨p, _, h⟩
    rw [b_0] at h
    exact absurd h (by decide)
theorem tg_nu_eps : tg_Nu la_eps true := fun _ _ _ => ⟨fun _ => rfl, fun _ => rfl⟩
/-! one language behind another -/
theorem tg_fo {fo fo' : Nat → Int32} {E F : Int32} (hfo : ∀ q, fo' q = if bt E q = true then fo q ||| F else fo q) (q p : Nat) : bt (fo' q) p = true ↔ bt (fo q) p = true ∨ (bt E q = true ∧ bt F p = true) := by
  rw [hfo q]
  by_cases h : bt E q = true
  · rw [if_pos h, b_or, Bool.or_eq_true]
    exact ⟨fun z => z.imp id (fun y => ⟨h, y⟩), fun z => z.imp id (fun y => y.2)⟩
  · rw [if_neg h]
    exact ⟨Or.inl, fun z => z.elim id (fun y => absurd y.1 h)⟩
theorem tg_cat_rn {W1 : la_T} {lo mid hi : Nat} {F1 E1 F2 E2 F' : Int32} {fo rc fo' : Nat → Int32} {b1 : Bool} {x : Nat → Nat} {s : Nat} (R1 : tg_Rg lo mid F1 E1 fo) (R2 : tg_Rg mid hi F2 E2 fo) (A1 : tg_Ac W1 F1 E1 fo rc) (N1 : tg_Nu W1 b1) (hfo : ∀ q, fo' q = if bt E1 q = true then fo q ||| F2 else fo q) (hF : ∀ p, bt F' p = (bt F1 p || (b1 && bt F2 p))) (hx : ∀ j, x j < 6) :
    ∀ l p, (p < mid → (tg_rn F' fo' rc x s l p ↔ tg_rn F1 fo rc x s l p)) ∧ (mid ≤ p → (tg_rn F' fo' rc x s l p ↔ ∃ m, m ≤ l ∧ W1 x s (s + m) ∧ tg_rn F2 fo rc x (s + m) (l - m) p))
  | 0, p => by
    constructor
    · intro hp
      unfold tg_rn
      rw [hF p]
      have z : bt F2 p = false := by
        cases c : bt F2 p
        · rfl
        · have := R2.2.1 p c; omega
      rw [z, Bool.and_false, Bool.or_false]
    · intro hp
      have z : bt F1 p = false := by
        cases c : bt F1 p
        · rfl
        · have := R1.2.1 p c; omega
      constructor
      · intro ⟨a, b⟩
        rw [hF p, z, Bool.false_or, Bool.and_eq_true] at a
        exact ⟨0, Nat.le_refl _, (N1 x hx s).mpr a.1, a.2, b⟩
      · intro ⟨m, hm, w, a⟩
        have e : m = 0 := by omega
        subst e
        refine ⟨?_, a.2⟩
        rw [hF p, z, Bool.false_or, Bool.and_eq_true]
        exact ⟨(N1 x hx s).mp w, a.1⟩
  | l + 1, p => by
    have ih := tg_cat_rn (s := s) R1 R2 A1 N1 hfo hF hx l
    constructor
    · intro hp
      unfold tg_rn
      constructor
      · intro ⟨⟨q, hq, a⟩, b⟩
        rw [tg_fo hfo] at a
        rcases Nat.lt_or_ge q mid with hqm | hqm
        · rcases a with a | a
          · exact ⟨⟨q, ((ih q).1 hqm).mp hq, a⟩, b⟩
          · have := R2.2.1 p a.2; omega
        · obtain ⟨m, _, _, hr⟩ := ((ih q).2 hqm).mp hq
          have z := tg_rn_in R2 _ q hr
          rcases a with a | a
          · have := R2.2.2.2 q p z.1 z.2 a; omega
          · have := R1.2.2.1 q a.1; omega
      · intro ⟨⟨q, hq, a⟩, b⟩
        have z := tg_rn_in R1 _ q hq
        exact ⟨⟨q, ((ih q).1 z.2).mpr hq, (tg_fo hfo q p).mpr (Or.inl a)⟩, b⟩
    · intro hp
      constructor
      · intro ⟨⟨q, hq, a⟩, b⟩
        rw [tg_fo hfo] at a
        rcases Nat.lt_or_ge q mid with hqm | hqm
        · have hq' := ((ih q).1 hqm).mp hq
          have z := tg_rn_in R1 _ q hq'
          rcases a with a | a
          · have := R1.2.2.2 q p z.1 z.2 a; omega
          · refine ⟨l + 1, Nat.le_refl _, (A1 x hx s l).mpr ⟨q, hq', a.1⟩, ?_⟩
            rw [Nat.sub_self]
            exact ⟨a.2, b⟩
        · obtain ⟨m, hm, w, hr⟩ := ((ih q).2 hqm).mp hq
          rcases a with a | a
          · refine ⟨m, by omega, w, ?_⟩
            rw [show l + 1 - m = (l - m) + 1 from by omega]
            refine ⟨⟨q, hr, a⟩, ?_⟩
            rw [show s + m + (l - m) + 1 = s + l + 1 from by omega]
            exact b
          · have := R1.2.2.1 q a.1; omega
      · intro ⟨m, hm, w, a⟩
        rcases Nat.lt_or_ge l m with hlm | hlm
        · have e : m = l + 1 := by omega
          subst e
          rw [Nat.sub_self] at a
          obtain ⟨q, hq, hE⟩ := (A1 x hx s l).mp w
          have z := tg_rn_in R1 _ q hq
          exact ⟨⟨q, ((ih q).1 z.2).mpr hq, (tg_fo hfo q p).mpr (Or.inr ⟨hE, a.1⟩)⟩, a.2⟩
        · rw [show l + 1 - m = (l - m) + 1 from by omega] at a
          obtain ⟨⟨q, hq, h1⟩, h2⟩ := a
          have z := tg_rn_in R2 _ q hq
          rw [show s + m + (l - m) + 1 = s + l + 1 from by omega] at h2
          exact ⟨⟨q, ((ih q).2 z.1).mpr ⟨m, hlm, w, hq⟩, (tg_fo hfo q p).mpr (Or.inl h1)⟩, h2⟩
theorem tg_ac_cat {W1 W2 : la_T} {lo mid hi : Nat} {F1 E1 F2 E2 F' E' : Int32} {fo rc fo' : Nat → Int32} {b1 b2 : Bool} (R1 : tg_Rg lo mid F1 E1 fo) (R2 : tg_Rg mid hi F2 E2 fo) (M1 : la_Mo W1) (M2 : la_Mo W2) (A1 : tg_Ac W1 F1 E1 fo rc) (A2 : tg_Ac W2 F2 E2 fo rc) (N1 : tg_Nu W1 b1) (N2 : tg_Nu W2 b2) (hfo : ∀ q, fo' q = if bt E1 q = true then fo q ||| F2 else fo q) (hF : ∀ p, bt F' p = (bt F1 p || (b1 && bt F2 p))) (hE : ∀ p, bt E' p = (bt E2 p || (b2 && bt E1 p))) : tg_Ac (la_cat W1 W2) F' E' fo' rc := by
  intro x hx s l
  have K := tg_cat_rn (s := s) R1 R2 A1 N1 hfo hF hx l
  constructor
  · intro ⟨m0, w1, w2⟩
    have h1 := M1 _ _ _ w1
    have h2 := M2 _ _ _ w2
    obtain ⟨m, rfl⟩ : ∃ m, m0 = s + m := ⟨m0 - s, by omega⟩
    rcases Nat.lt_or_ge l m with hlm | hlm
    · have e : m = l + 1 := by omega
      subst e
      obtain ⟨q, hq, hE1⟩ := (A1 x hx s l).mp w1
      have z := tg_rn_in R1 _ q hq
      refine ⟨q, ((K q).1 z.2).mpr hq, ?_⟩
      rw [hE q, (N2 x hx (s + l + 1)).mp w2, hE1, Bool.true_and, Bool.or_true]
    · rw [show s + l + 1 = s + m + (l - m) + 1 from by omega] at w2
      obtain ⟨p, hp, hE2⟩ := (A2 x hx (s + m) (l - m)).mp w2
      have z := tg_rn_in R2 _ p hp
      refine ⟨p, ((K p).2 z.1).mpr ⟨m, hlm, w1, hp⟩, ?_⟩
      rw [hE p, hE2, Bool.true_or]
  · intro ⟨p, hp, hE'⟩
    rw [hE p, Bool.or_eq_true, Bool.and_eq_true] at hE'
    rcases Nat.lt_or_ge p mid with hpm | hpm
    · rcases hE' with z | z
      · have := R2.2.2.1 p z; omega
      · exact ⟨s + l + 1, (A1 x hx s l).mpr ⟨p, ((K p).1 hpm).mp hp, z.2⟩, (N2 x hx _).mpr z.1⟩
    · obtain ⟨m, hm, w, hr⟩ := ((K p).2 hpm).mp hp
      rcases hE' with z | z
      · refine ⟨s + m, w, ?_⟩
        rw [show s + l + 1 = s + m + (l - m) + 1 from by omega]
        exact (A2 x hx (s + m) (l - m)).mpr ⟨p, hr, z⟩
      · have := R1.2.2.1 p z.2; omega
theorem tg_rg_cat {lo mid hi : Nat} {F1 E1 F2 E2 F' E' : Int32} {fo fo' : Nat → Int32} {b1 b2 : Bool} (R1 : tg_Rg lo mid F1 E1 fo) (R2 : tg_Rg mid hi F2 E2 fo) (hfo : ∀ q, fo' q = if bt E1 q = true then fo q ||| F2 else fo q) (hF : ∀ p, bt F' p = (bt F1 p || (b1 && bt F2 p))) (hE : ∀ p, bt E' p = (bt E2 p || (b2 && bt E1 p))) : tg_Rg lo hi F' E' fo' := by
  have h1 := R1.1
  have h2 := R2.1
  refine ⟨by omega, fun p h => ?_, fun p h => ?_, fun q p a b c => ?_⟩
  · rw [hF p, Bool.or_eq_true, Bool.and_eq_true] at h
    rcases h with z | z
    · have := R1.2.1 p z; omega
    · have := R2.2.1 p z.2; omega
  · rw [hE p, Bool.or_eq_true, Bool.and_eq_true] at h
    rcases h with z | z
    · have := R2.2.2.1 p z; omega
    · have := R1.2.2.1 p z.2; omega
  · rw [tg_fo hfo] at c
    rcases c with c | c
    · rcases Nat.lt_or_ge q mid with z | z
      · have := R1.2.2.2 q p a z c; omega
      · have := R2.2.2.2 q p z b c; omega
    · have := R2.2.1 p c.2; omega
theorem tg_nu_cat {W1 W2 : la_T} {b1 b2 : Bool} (M1 : la_Mo W1) (M2 : la_Mo W2) (N1 : tg_Nu W1 b1) (N2 : tg_Nu W2 b2) : tg_Nu (la_cat W1 W2) (b1 && b2) := by
  intro x hx s
  rw [Bool.and_eq_true]
  constructor
  · intro ⟨m, w1, w2⟩
    have h1 := M1 _ _ _ w1
    have h2 := M2 _ _ _ w2
    have e : m = s := by omega
    subst e
    exact ⟨(N1 x hx m).mp w1, (N2 x hx m).mp w2⟩
  · intro ⟨a, b⟩
    exact ⟨s, (N1 x hx s).mpr a, (N2 x hx s).mpr b⟩
/-! either language -/
theorem tg_alt_rn {lo mid hi : Nat} {F1 E1 F2 E2 F' : Int32} {fo rc : Nat → Int32} {x : Nat → Nat} {s : Nat} (R1 : tg_Rg lo mid F1 E1 fo) (R2 : tg_Rg mid hi F2 E2 fo) (hF : ∀ p, bt F' p = (bt F1 p || bt F2 p)) :
    ∀ l p, tg_rn F' fo rc x s l p ↔ (tg_rn F1 fo rc x s l p ∨ tg_rn F2 fo rc x s l p)
  | 0, p => by
    unfold tg_rn
    rw [hF p, Bool.or_eq_true]
    exact ⟨fun ⟨a, b⟩ => a.imp (fun z => ⟨z, b⟩) (fun z => ⟨z, b⟩), fun h => h.elim (fun z => ⟨Or.inl z.1, z.2⟩) (fun z => ⟨Or.inr z.1, z.2⟩)⟩
  | l + 1, p => by
    have ih := tg_alt_rn (s := s) (rc := rc) (x := x) R1 R2 hF l
    unfold tg_rn
    constructor
    · intro ⟨⟨q, hq, a⟩, b⟩
      exact ((ih q).mp hq).imp (fun z => ⟨⟨q, z, a⟩, b⟩) (fun z => ⟨⟨q, z, a⟩, b⟩)
    · intro h
      rcases h with ⟨⟨q, hq, a⟩, b⟩ | ⟨⟨q, hq, a⟩, b⟩
      · exact ⟨⟨q, (ih q).mpr (Or.inl hq), a⟩, b⟩
      · exact ⟨⟨q, (ih q).mpr (Or.inr hq), a⟩, b⟩
theorem tg_ac_alt {W1 W2 : la_T} {lo mid hi : Nat} {F1 E1 F2 E2 F' E' : Int32} {fo rc : Nat → Int32} (R1 : tg_Rg lo mid F1 E1 fo) (R2 : tg_Rg mid hi F2 E2 fo) (A1 : tg_Ac W1 F1 E1 fo rc) (A2 : tg_Ac W2 F2 E2 fo rc) (hF : ∀ p, bt F' p = (bt F1 p || bt F2 p)) (hE : ∀ p, bt E' p = (bt E1 p || bt E2 p)) : tg_Ac (la_alt W1 W2) F' E' fo rc := by
  intro x hx s l
  have K := tg_alt_rn (s := s) (rc := rc) (x := x) R1 R2 hF l
  constructor
  · intro h
    rcases h with h | h
    · obtain ⟨p, hp, e⟩ := (A1 x hx s l).mp h
      exact ⟨p, (K p).mpr (Or.inl hp), by rw [hE p, e, Bool.true_or]⟩
    · obtain ⟨p, hp, e⟩ := (A2 x hx s l).mp h
      exact ⟨p, (K p).mpr (Or.inr hp), by rw [hE p, e, Bool.or_true]⟩
  · intro ⟨p, hp, e⟩
    rw [hE p, Bool.or_eq_true] at e
    rcases (K p).mp hp with h | h
    · have z := tg_rn_in R1 _ p h
      rcases e with e | e
      · exact Or.inl ((A1 x hx s l).mpr ⟨p, h, e⟩)
      · have := R2.2.2.1 p e; omega
    · have z := tg_rn_in R2 _ p h
      rcases e with e | e
      · have := R1.2.2.1 p e; omega
      · exact Or.inr ((A2 x hx s l).mpr ⟨p, h, e⟩)
theorem tg_rg_alt {lo mid hi : Nat} {F1 E1 F2 E2 F' E' : Int32} {fo : Nat → Int32} (R1 : tg_Rg lo mid F1 E1 fo) (R2 : tg_Rg mid hi F2 E2 fo) (hF : ∀ p, bt F' p = (bt F1 p || bt F2 p)) (hE : ∀ p, bt E' p = (bt E1 p || bt E2 p)) : tg_Rg lo hi F' E' fo := by
  have h1 := R1.1
  have h2 := R2.1
  refine ⟨by omega, fun p h => ?_, fun p h => ?_, fun q p a b c => ?_⟩
  · rw [hF p, Bool.or_eq_true] at h
    rcases h with z | z
    · have := R1.2.1 p z; omega
    · have := R2.2.1 p z; omega
  · rw [hE p, Bool.or_eq_true] at h
    rcases h with z | z
    · have := R1.2.2.1 p z; omega
    · have := R2.2.2.1 p z; omega
  · rcases Nat.lt_or_ge q mid with z | z
    · have := R1.2.2.2 q p a z c; omega
    · have := R2.2.2.2 q p z b c; omega
theorem tg_nu_alt {W1 W2 : la_T} {b1 b2 : Bool} (N1 : tg_Nu W1 b1) (N2 : tg_Nu W2 b2) : tg_Nu (la_alt W1 W2) (b1 || b2) := by
  intro x hx s
  rw [Bool.or_eq_true, ← N1 x hx s, ← N2 x hx s]
  exact Iff.rfl
/-! one or more words -/
theorem tg_pls_rn {W : la_T} {lo hi : Nat} {F E : Int32} {fo rc fo' : Nat → Int32} {x : Nat → Nat} {s : Nat} (R : tg_Rg lo hi F E fo) (M : la_Mo W) (A : tg_Ac W F E fo rc) (hfo : ∀ q, fo' q = if bt E q = true then fo q ||| F else fo q) (hx : ∀ j, x j < 6) :
    ∀ l p, tg_rn F fo' rc x s l p ↔ ∃ m, m ≤ l ∧ (m = 0 ∨ la_pls W x s (s + m)) ∧ tg_rn F fo rc x (s + m) (l - m) p
  | 0, p => by
    constructor
    · intro h
      exact ⟨0, Nat.le_refl _, Or.inl rfl, h⟩
    · intro ⟨m, hm, _, h⟩
      have e : m = 0 := by omega
      subst e
      exact h
  | l + 1, p => by
    have ih := tg_pls_rn (s := s) R M A hfo hx l
    constructor
    · intro ⟨⟨q, hq, a⟩, b⟩
      obtain ⟨m, hm, w, hr⟩ := (ih q).mp hq
      rcases (tg_fo hfo q p).mp a with a | a
      · refine ⟨m, by omega, w, ?_⟩
        rw [show l + 1 - m = (l - m) + 1 from by omega]
        refine ⟨⟨q, hr, a⟩, ?_⟩
        rw [show s + m + (l - m) + 1 = s + l + 1 from by omega]
        exact b
      · have w2 : W x (s + m) (s + (l + 1)) := by
          rw [show s + (l + 1) = s + m + (l - m) + 1 from by omega]
          exact (A x hx (s + m) (l - m)).mpr ⟨q, hr, a.1⟩
        refine ⟨l + 1, Nat.le_refl _, Or.inr ?_, ?_⟩
        · rcases w with w | w
          · subst w; exact Relation.TransGen.single w2
          · exact Relation.TransGen.tail w w2
        · rw [Nat.sub_self]
          exact ⟨a.2, b⟩
    · intro ⟨m, hm, w, h⟩
      rcases Nat.lt_or_ge l m with hlm | hlm
      · have e : m = l + 1 := by omega
        subst e
        rw [Nat.sub_self] at h
        have w' : Relation.TransGen (W x) s (s + (l + 1)) := by
          rcases w with w | w
          · omega
          · exact w
        obtain ⟨b0, hb1, hb2, hb3, hw⟩ := la_pls_last M w' (by omega)
        obtain ⟨m, rfl⟩ : ∃ m, b0 = s + m := ⟨b0 - s, by omega⟩
        rw [show s + (l + 1) = s + m + (l - m) + 1 from by omega] at hw
        obtain ⟨q, hq, hE⟩ := (A x hx (s + m) (l - m)).mp hw
        have hq' := (ih q).mpr ⟨m, by omega, by
          rcases hb3 with z | z
          · exact Or.inl (by omega)
          · exact Or.inr z, hq⟩
        exact ⟨⟨q, hq', (tg_fo hfo q p).mpr (Or.inr ⟨hE, h.1⟩)⟩, h.2⟩
      · rw [show l + 1 - m = (l - m) + 1 from by omega] at h
        obtain ⟨⟨q, hq, a⟩, b⟩ := h
        rw [show s + m + (l - m) + 1 = s + l + 1 from by omega] at b
        exact ⟨⟨q, (ih q).mpr ⟨m, hlm, w, hq⟩, (tg_fo hfo q p).mpr (Or.inl a)⟩, b⟩
theorem tg_ac_pls {W : la_T} {lo hi : Nat} {F E : Int32} {fo rc fo' : Nat → Int32} (R : tg_Rg lo hi F E fo) (M : la_Mo W) (A : tg_Ac W F E fo rc) (hfo : ∀ q, fo' q = if bt E q = true then fo q ||| F else fo q) : tg_Ac (la_pls W) F E fo' rc := by
  intro x hx s l
  have K := tg_pls_rn (s := s) R M A hfo hx l
  constructor
  · intro w
    obtain ⟨b0, hb1, hb2, hb3, hw⟩ := la_pls_last M w (by omega)
    obtain ⟨m, rfl⟩ : ∃ m, b0 = s + m := ⟨b0 - s, by omega⟩
    rw [show s + l + 1 = s + m + (l - m) + 1 from by omega] at hw
    obtain ⟨q, hq, hE⟩ := (A x hx (s + m) (l - m)).mp hw
    refine ⟨q, (K q).mpr ⟨m, by omega, ?_, hq⟩, hE⟩
    rcases hb3 with z | z
    · exact Or.inl (by omega)
    · exact Or.inr z
  · intro ⟨p, hp, hE⟩
    obtain ⟨m, hm, w, hr⟩ := (K p).mp hp
    have w2 : W x (s + m) (s + l + 1) := by
      rw [show s + l + 1 = s + m + (l - m) + 1 from by omega]
      exact (A x hx (s + m) (l - m)).mpr ⟨p, hr, hE⟩
    rcases w with w | w
    · subst w; exact Relation.TransGen.single w2
    · exact Relation.TransGen.tail w w2
theorem tg_rg_pls {lo hi : Nat} {F E : Int32} {fo fo' : Nat → Int32} (R : tg_Rg lo hi F E fo) (hfo : ∀ q, fo' q = if bt E q = true then fo q ||| F else fo q) : tg_Rg lo hi F E fo' := by
  refine ⟨R.1, R.2.1, R.2.2.1, fun q p a b c => ?_⟩
  rcases (tg_fo hfo q p).mp c with c | c
  · exact R.2.2.2 q p a b c
  · exact R.2.1 p c.2
theorem tg_nu_pls {W : la_T} {b : Bool} (M : la_Mo W) (N : tg_Nu W b) : tg_Nu (la_pls W) b := by
  intro x hx s
  rw [← N x hx s]
  exact ⟨fun h => la_pls_nil M h (Nat.le_refl _), fun h => Relation.TransGen.single h⟩
theorem tg_ac_opt {W : la_T} {F E : Int32} {fo rc : Nat → Int32} (A : tg_Ac W F E fo rc) : tg_Ac (la_opt W) F E fo rc := by
  intro x hx s l
  rw [← A x hx s l]
  constructor
  · intro h
    rcases h with h | h
    · exact h
    · omega
  · exact Or.inl
theorem tg_nu_opt {W : la_T} : tg_Nu (la_opt W) true := fun _ _ _ => ⟨fun _ => rfl, fun _ => Or.inr rfl⟩
end
section
/-! sets of short strings, candidates: what they must hold -/
def tg_sc (x : Nat → Nat) (s e : Nat) : Nat := if e ≤ s then 0 else if e = s + 1 then 1 + x s else 7 + 6 * x s + x (s + 1)
def tg_ec (x : Nat → Nat) (s e : Nat) : Nat := if e ≤ s then 0 else if e = s + 1 then 1 + x s else 7 + 6 * x (e - 2) + x (e - 1)
theorem tg_sc0 {x : Nat → Nat} {s e : Nat} (h : e ≤ s) : tg_sc x s e = 0 := if_pos h
theorem tg_sc1 {x : Nat → Nat} {s e : Nat} (h : e = s + 1) : tg_sc x s e = 1 + x s := by rw [tg_sc, if_neg (by omega), if_pos h]
theorem tg_sc2 {x : Nat → Nat} {s e : Nat} (h : s + 2 ≤ e) : tg_sc x s e = 7 + 6 * x s + x (s + 1) := by rw [tg_sc, if_neg (by omega), if_neg (by omega)]
theorem tg_ec0 {x : Nat → Nat} {s e : Nat} (h : e ≤ s) : tg_ec x s e = 0 := if_pos h
theorem tg_ec1 {x : Nat → Nat} {s e : Nat} (h : e = s + 1) : tg_ec x s e = 1 + x s := by rw [tg_ec, if_neg (by omega), if_pos h]
theorem tg_ec2 {x : Nat → Nat} {s e : Nat} (h : s + 2 ≤ e) : tg_ec x s e = 7 + 6 * x (e - 2) + x (e - 1) := by rw [tg_ec, if_neg (by omega), if_neg (by omega)]
def tg_Se (W : la_T) (st en : Int64) : Prop := ∀ x : Nat → Nat, (∀ j, x j < 6) → ∀ s e, W x s e → qb st (tg_sc x s e) = true ∧ qb en (tg_ec x s e) = true
def tg_Fl (w : Int64) (r : Int32) : Prop := ∀ a, a < 6 → (qb w (1 + a) = true → bt r a = true) ∧ (∀ b, b < 6 → qb w (7 + 6 * a + b) = true → bt r a = true)
def tg_Ll (w : Int64) (r : Int32) : Prop := ∀ b, b < 6 → (qb w (1 + b) = true → bt r b = true) ∧ (∀ a, a < 6 → qb w (7 + 6 * a + b) = true → bt r b = true)
def tg_Ow (w : Int64) (r : Int32) : Prop := ∀ a, a < 6 → qb w (1 + a) = true → bt r a = true
def tg_Pr (h t : Int32) (r : Int64) : Prop := qb r 0 = false ∧ ∀ a b, a < 6 → b < 6 → bt h a = true → bt t b = true → qb r (7 + 6 * a + b) = true
def tg_Ex (o i r : Int64) : Prop := qb r 0 = (qb o 0 && qb i 0) ∧ (∀ j, 7 ≤ j → qb o j = true → qb r j = true) ∧ (qb o 0 = true → ∀ j, qb i j = true → qb r j = true) ∧ (qb i 0 = true → ∀ j, 1 ≤ j → j < 7 → qb o j = true → qb r j = true)
theorem tg_or_l {a b : Int64} {i : Nat} (h : qb a i = true) : qb (a ||| b) i = true := by rw [qb_or, h, Bool.true_or]
theorem tg_or_r {a b : Int64} {i : Nat} (h : qb b i = true) : qb (a ||| b) i = true := by rw [qb_or, h, Bool.or_true]
theorem tg_se_smb {t : Nat} {st : Int64} (h : ∀ a, a < 6 → t.testBit a = true → qb st (1 + a) = true) : tg_Se (la_smb t) st st := by
  intro x hx s e w
  rw [tg_sc1 w.1, tg_ec1 w.1]
  exact ⟨h _ (hx s) w.2, h _ (hx s) w.2⟩
theorem tg_se_eps : tg_Se la_eps 1 1 := by
  intro x hx s e w
  have w' : e = s := w
  rw [tg_sc0 (by omega), tg_ec0 (by omega), qb_one 0 (by omega)]
  exact ⟨rfl, rfl⟩
theorem tg_se_alt {W1 W2 : la_T} {st1 en1 st2 en2 : Int64} (S1 : tg_Se W1 st1 en1) (S2 : tg_Se W2 st2 en2) : tg_Se (la_alt W1 W2) (st1 ||| st2) (en1 ||| en2) := by
  intro x hx s e w
  rcases w with w | w
  · have h := S1 x hx s e w
    exact ⟨tg_or_l h.1, tg_or_l h.2⟩
  · have h := S2 x hx s e w
    exact ⟨tg_or_r h.1, tg_or_r h.2⟩
theorem tg_se_opt {W : la_T} {st en : Int64} (S : tg_Se W st en) : tg_Se (la_opt W) (st ||| 1) (en ||| 1) := by
  intro x hx s e w
  rcases w with w | w
  · have h := S x hx s e w
    exact ⟨tg_or_l h.1, tg_or_l h.2⟩
  · rw [tg_sc0 (by omega), tg_ec0 (by omega)]
    have z : qb 1 0 = true := by rw [qb_one 0 (by omega)]; rfl
    exact ⟨tg_or_r z, tg_or_r z⟩
/-- the first letter of a word is among the heads -/
theorem tg_head {W : la_T} {st en : Int64} {r : Int32} (S : tg_Se W st en) (H : tg_Fl st r) {x : Nat → Nat} (hx : ∀ j, x j < 6) {s e : Nat} (w : W x s e) (h : s < e) : bt r (x s) = true := by
  have q := (S x hx s e w).1
  rcases Nat.lt_or_ge e (s + 2) with z | z
  · rw [tg_sc1 (by omega)] at q
    exact (H _ (hx s)).1 q
  · rw [tg_sc2 z] at q
    exact (H _ (hx s)).2 _ (hx (s + 1)) q
theorem tg_tail {W : la_T} {st en : Int64} {r : Int32} (S : tg_Se W st en) (H : tg_Ll en r) {x : Nat → Nat} (hx : ∀ j, x j < 6) {s e : Nat} (w : W x s e) (h : s < e) : bt r (x (e - 1)) = true := by
  have q := (S x hx s e w).2
  rcases Nat.lt_or_ge e (s + 2) with z | z
  · rw [tg_ec1 (by omega)] at q
    rw [show e - 1 = s from by omega]
    exact (H _ (hx s)).1 q
  · rw [tg_ec2 z] at q
    exact (H _ (hx (e - 1))).2 _ (hx (e - 2)) q
theorem tg_se_cat {W1 W2 : la_T} {st1 en1 st2 en2 xs xe sp ep : Int64} {hd tl o1 o2 : Int32} (M1 : la_Mo W1) (M2 : la_Mo W2) (S1 : tg_Se W1 st1 en1) (S2 : tg_Se W2 st2 en2) (hh : tg_Fl st2 hd) (ht : tg_Ll en1 tl) (h1 : tg_Ow st1 o1) (h2 : tg_Ow en2 o2) (hp : tg_Pr o1 hd sp) (hq : tg_Pr tl o2 ep) (x1 : tg_Ex st1 st2 xs) (x2 : tg_Ex en2 en1 xe) : tg_Se (la_cat W1 W2) (xs ||| sp) (xe ||| ep) := by
  intro x hx s e ⟨m, w1, w2⟩
  have g1 := M1 _ _ _ w1
  have g2 := M2 _ _ _ w2
  have q1 := S1 x hx s m w1
  have q2 := S2 x hx m e w2
  constructor
  · rcases Nat.lt_or_ge s m with z | z
    · rcases Nat.lt_or_ge m (s + 2) with y | y
      · have e1 : m = s + 1 := by omega
        rw [tg_sc1 e1] at q1
        rcases Nat.lt_or_ge m e with v | v
        · have hb := tg_head S2 hh hx w2 v
          rw [tg_sc2 (by omega)]
          rw [e1] at hb
          exact tg_or_r (hp.2 _ _ (hx s) (hx _) (h1 _ (hx s) q1.1) hb)
        · rw [tg_sc1 (by omega)]
          have q := q2.1
          rw [tg_sc0 v] at q
          have := hx s
          exact tg_or_l (x1.2.2.2 q _ (by omega) (by omega) q1.1)
      · have q := q1.1
        rw [tg_sc2 y] at q
        rw [tg_sc2 (by omega)]
        exact tg_or_l (x1.2.1 _ (by omega) q)
    · have e1 : m = s := by omega
      subst e1
      have q := q1.1
      rw [tg_sc0 (by omega)] at q
      exact tg_or_l (x1.2.2.1 q _ q2.1)
  · rcases Nat.lt_or_ge m e with z | z
    · rcases Nat.lt_or_ge e (m + 2) with y | y
      · have e1 : e = m + 1 := by omega
        have qe := q2.2
        rw [tg_ec1 e1] at qe
        rcases Nat.lt_or_ge s m with v | v
        · have hb := tg_tail S1 ht hx w1 v
          rw [tg_ec2 (by omega), show e - 2 = m - 1 from by omega, show e - 1 = m from by omega]
          exact tg_or_r (hq.2 _ _ (hx _) (hx m) hb (h2 _ (hx m) qe))
        · have e2 : m = s := by omega
          rw [tg_ec1 (by omega)]
          have q := q1.2
          rw [tg_ec0 v] at q
          rw [e2] at qe
          have := hx s
          exact tg_or_l (x2.2.2.2 q _ (by omega) (by omega) qe)
      · have q := q2.2
        rw [tg_ec2 y] at q
        rw [tg_ec2 (by omega)]
        exact tg_or_l (x2.2.1 _ (by omega) q)
    · have e1 : m = e := by omega
      subst e1
      have q := q2.2
      rw [tg_ec0 (by omega)] at q
      exact tg_or_l (x2.2.2.1 q _ q1.2)
theorem tg_se_pls {W : la_T} {st en sp ep : Int64} {hd tl o : Int32} (M : la_Mo W) (S : tg_Se W st en) (hh : tg_Fl st hd) (ht : tg_Ll en tl) (ho : tg_Ow st o) (hp : tg_Pr o hd sp) (hq : tg_Pr tl o ep) : tg_Se (la_pls W) (st ||| sp) (en ||| ep) := by
  intro x hx s e w
  have w' : Relation.TransGen (W x) s e := w
  clear w
  have K : (qb (st ||| sp) (tg_sc x s e) = true ∧ qb (en ||| ep) (tg_ec x s e) = true) ∧ (e = s + 1 → qb st (1 + x s) = true) ∧ (s < e → bt tl (x (e - 1)) = true) := by
    induction w' with
    | @single b wb =>
      have q := S x hx s b wb
      refine ⟨⟨tg_or_l q.1, tg_or_l q.2⟩, fun z => ?_, fun z => tg_tail S ht hx wb z⟩
      rw [tg_sc1 z] at q
      exact q.1
    | @tail b c h1 wb ih =>
      have g1 : s ≤ b := la_mo_pls M x s b h1
      have g2 := M _ _ _ wb
      have q := S x hx b c wb
      obtain ⟨⟨i1, i2⟩, i3, i4⟩ := ih
      refine ⟨⟨?_, ?_⟩, fun z => ?_, fun z => ?_⟩
      · rcases Nat.lt_or_ge s b with z | z
        · rcases Nat.lt_or_ge b (s + 2) with y | y
          · have e1 : b = s + 1 := by omega
            rcases Nat.lt_or_ge b c with v | v
            · have hb := tg_head S hh hx wb v
              rw [tg_sc2 (by omega)]
              rw [e1] at hb
              exact tg_or_r (hp.2 _ _ (hx s) (hx _) (ho _ (hx s) (i3 e1)) hb)
            · have e2 : c = b := by omega
              rw [e2]; exact i1
          · rw [tg_sc2 y] at i1
            rw [tg_sc2 (by omega)]
            exact i1
        · have e1 : b = s := by omega
          rw [e1] at q
          exact tg_or_l q.1
      · rcases Nat.lt_or_ge b c with z | z
        · rcases Nat.lt_or_ge c (b + 2) with y | y
          · have e1 : c = b + 1 := by omega
            rcases Nat.lt_or_ge s b with v | v
            · rw [tg_ec2 (by omega), show c - 2 = b - 1 from by omega, show c - 1 = b from by omega]
              have qs := q.1
              rw [tg_sc1 e1] at qs
              exact tg_or_r (hq.2 _ _ (hx _) (hx b) (i4 v) (ho _ (hx b) qs))
            · have e2 : b = s := by omega
              rw [e2] at q
              exact tg_or_l q.2
          · have qe := q.2
            rw [tg_ec2 y] at qe
            rw [tg_ec2 (by omega)]
            exact tg_or_l qe
        · have e2 : c = b := by omega
          rw [e2]; exact i2
      · rcases Nat.lt_or_ge s b with v | v
        · exact i3 (by omega)
        · have e1 : b = s := by omega
          have qs := q.1
          rw [e1, tg_sc1 z] at qs
          exact qs
      · rcases Nat.lt_or_ge b c with v | v
        · exact tg_tail S ht hx wb v
        · have e2 : c = b := by omega
          rw [e2]
          exact i4 (by omega)
  exact K.1
/-! postings and candidates -/
def tg_tri (tx : Nat → Nat) (j : Nat) : Nat := (tx j * 6 + tx (j + 1)) * 6 + tx (j + 2)
def tg_Po (lm : Int32) (tx tl : Nat → Nat) (po : Nat → Int32) : Prop := ∀ t, t < 216 → ∀ d, bt (po t) d = true ↔ (bt lm d = true ∧ ∃ i, i + 2 < tl d ∧ tg_tri tx (d * 16 + i) = t)
def tg_Cd (lm : Int32) (tx tl : Nat → Nat) (W : la_T) (cd : Int32) : Prop := ∀ d, bt lm d = true → ∀ s e, e ≤ tl d → W (fun i => tx (d * 16 + i)) s e → bt cd d = true
def tg_hd (v : Nat) : Nat := if v < 7 then v - 1 else (v - 7) / 6
def tg_ta (u : Nat) : Nat := if u < 7 then u - 1 else (u - 7) % 6
def tg_jn (lm : Int32) (po : Nat → Int32) (u v d : Nat) : Prop := bt lm d = true ∧ (7 ≤ u → 1 ≤ v → bt (po ((u - 7) * 6 + tg_hd v)) d = true) ∧ (1 ≤ u → 7 ≤ v → bt (po (tg_ta u * 36 + (v - 7))) d = true)
def tg_Jc (lm : Int32) (po : Nat → Int32) (c1 c2 : Int32) (en1 st2 : Int64) (r : Int32) : Prop := ∀ d, bt c1 d = true → bt c2 d = true → ∀ u v, u < 43 → v < 43 → qb en1 u = true → qb st2 v = true → tg_jn lm po u v d → bt r d = true
theorem tg_hd_sc {x : Nat → Nat} (hx : ∀ j, x j < 6) {s e : Nat} (h : s < e) : tg_hd (tg_sc x s e) = x s := by
  have a := hx s
  have b := hx (s + 1)
  unfold tg_hd
  rcases Nat.lt_or_ge e (s + 2) with z | z
  · rw [tg_sc1 (by omega), if_pos (by omega)]; omega
  · rw [tg_sc2 z, if_neg (by omega)]; omega
theorem tg_ta_ec {x : Nat → Nat} (hx : ∀ j, x j < 6) {s e : Nat} (h : s < e) : tg_ta (tg_ec x s e) = x (e - 1) := by
  have a := hx (e - 2)
  have b := hx (e - 1)
  have c := hx s
  unfold tg_ta
  rcases Nat.lt_or_ge e (s + 2) with z | z
  · rw [tg_ec1 (by omega), if_pos (by omega), show e - 1 = s from by omega]; omega
  · rw [tg_ec2 z, if_neg (by omega)]; omega
theorem tg_sc_lt {x : Nat → Nat} (hx : ∀ j, x j < 6) (s e : Nat) : tg_sc x s e < 43 := by
  have a := hx s
  have b := hx (s + 1)
  unfold tg_sc
  split
  · omega
  · split <;> omega
theorem tg_ec_lt {x : Nat → Nat} (hx : ∀ j, x j < 6) (s e : Nat) : tg_ec x s e < 43 := by
  have a := hx s
  have b := hx (e - 1)
  have c := hx (e - 2)
  unfold tg_ec
  split
  · omega
  · split <;> omega
theorem tg_cd_cat {lm : Int32} {tx tl : Nat → Nat} {po : Nat → Int32} {W1 W2 : la_T} {st1 en1 st2 en2 : Int64} {c1 c2 r : Int32} (ht : ∀ j, tx j < 6) (P : tg_Po lm tx tl po) (M1 : la_Mo W1) (M2 : la_Mo W2) (S1 : tg_Se W1 st1 en1) (S2 : tg_Se W2 st2 en2) (C1 : tg_Cd lm tx tl W1 c1) (C2 : tg_Cd lm tx tl W2 c2) (J : tg_Jc lm po c1 c2 en1 st2 r) : tg_Cd lm tx tl (la_cat W1 W2) r := by
  intro d hd s e he ⟨m, w1, w2⟩
  have g1 := M1 _ _ _ w1
  have g2 := M2 _ _ _ w2
  have hx : ∀ j, (fun i => tx (d * 16 + i)) j < 6 := fun j => ht _
  have q1 := S1 _ hx s m w1
  have q2 := S2 _ hx m e w2
  refine J d (C1 d hd s m (by omega) w1) (C2 d hd m e he w2) _ _ (tg_ec_lt hx s m) (tg_sc_lt hx m e) q1.2 q2.1 ⟨hd, fun hu hv => ?_, fun hu hv => ?_⟩
  · have hv' : m < e := by
      rcases Nat.lt_or_ge m e with z | z
      · exact z
      · rw [tg_sc0 z] at hv; omega
    have hu' : s + 2 ≤ m := by
      rcases Nat.lt_or_ge m (s + 2) with z | z
      · rcases Nat.lt_or_ge s m with y | y
        · rw [tg_ec1 (by omega)] at hu
          have := ht (d * 16 + s)
          omega
        · rw [tg_ec0 y] at hu; omega
      · exact z
    rw [tg_hd_sc hx hv', tg_ec2 hu']
    have a := ht (d * 16 + (m - 2))
    have b := ht (d * 16 + (m - 1))
    have c := ht (d * 16 + m)
    have e1 : d * 16 + (m - 2) + 1 = d * 16 + (m - 1) := by omega
    have e2 : d * 16 + (m - 2) + 2 = d * 16 + m := by omega
    refine (P _ ?_ d).mpr ⟨hd, m - 2, by omega, ?_⟩
    · show (7 + 6 * tx (d * 16 + (m - 2)) + tx (d * 16 + (m - 1)) - 7) * 6 + tx (d * 16 + m) < 216
      omega
    · show tg_tri tx (d * 16 + (m - 2)) = (7 + 6 * tx (d * 16 + (m - 2)) + tx (d * 16 + (m - 1)) - 7) * 6 + tx (d * 16 + m)
      unfold tg_tri
      rw [e1, e2]
      omega
  · have hu' : s < m := by
      rcases Nat.lt_or_ge s m with z | z
      · exact z
      · rw [tg_ec0 z] at hu; omega
    have hv' : m + 2 ≤ e := by
      rcases Nat.lt_or_ge e (m + 2) with z | z
      · rcases Nat.lt_or_ge m e with y | y
        · rw [tg_sc1 (by omega)] at hv
          have := ht (d * 16 + m)
          omega
        · rw [tg_sc0 y] at hv; omega
      · exact z
    rw [tg_ta_ec hx hu', tg_sc2 hv']
    have a := ht (d * 16 + (m - 1))
    have b := ht (d * 16 + m)
    have c := ht (d * 16 + (m + 1))
    have e1 : d * 16 + (m - 1) + 1 = d * 16 + m := by omega
    have e2 : d * 16 + (m - 1) + 2 = d * 16 + (m + 1) := by omega
    refine (P _ ?_ d).mpr ⟨hd, m - 1, by omega, ?_⟩
    · show tx (d * 16 + (m - 1)) * 36 + (7 + 6 * tx (d * 16 + m) + tx (d * 16 + (m + 1)) - 7) < 216
      omega
    · show tg_tri tx (d * 16 + (m - 1)) = tx (d * 16 + (m - 1)) * 36 + (7 + 6 * tx (d * 16 + m) + tx (d * 16 + (m + 1)) - 7)
      unfold tg_tri
      rw [e1, e2]
      omega
theorem tg_cd_alt {lm : Int32} {tx tl : Nat → Nat} {W1 W2 : la_T} {c1 c2 : Int32} (C1 : tg_Cd lm tx tl W1 c1) (C2 : tg_Cd lm tx tl W2 c2) : tg_Cd lm tx tl (la_alt W1 W2) (c1 ||| c2) := by
  intro d hd s e he w
  rw [b_or, Bool.or_eq_true]
  exact w.imp (C1 d hd s e he) (C2 d hd s e he)
theorem tg_cd_pls {lm : Int32} {tx tl : Nat → Nat} {W : la_T} {c : Int32} (M : la_Mo W) (C : tg_Cd lm tx tl W c) : tg_Cd lm tx tl (la_pls W) c := by
  intro d hd s e he w
  have w' : Relation.TransGen (W (fun i => tx (d * 16 + i))) s e := w
  cases w' with
  | single z => exact C d hd _ _ he z
  | tail _ z => exact C d hd _ _ he z
theorem tg_cd_all {lm : Int32} {tx tl : Nat → Nat} (W : la_T) : tg_Cd lm tx tl W lm := fun _ hd _ _ _ _ => hd
end
section
/-! an entry of the stack of analysed languages; the whole stack -/
def tg_En (lm : Int32) (tx tl : Nat → Nat) (W : la_T) (lo hi : Nat) (F E : Int32) (fo rc : Nat → Int32) (st en : Int64) (cd : Int32) : Prop :=
  tg_Rg lo hi F E fo ∧ tg_Ac W F E fo rc ∧ tg_Nu W (qb st 0) ∧ tg_Se W st en ∧ tg_Cd lm tx tl W cd
theorem tg_en_cong {lm : Int32} {tx tl : Nat → Nat} {W : la_T} {lo hi : Nat} {F E : Int32} {fo rc fo' rc' : Nat → Int32} {st en : Int64} {cd : Int32} (H : tg_En lm tx tl W lo hi F E fo rc st en cd) (hf : ∀ q, lo ≤ q → q < hi → fo' q = fo q) (hr : ∀ c, c < 6 → ∀ p, lo ≤ p → p < hi → bt (rc' c) p = bt (rc c) p) : tg_En lm tx tl W lo hi F E fo' rc' st en cd :=
  ⟨tg_rg_cong H.1 hf, tg_ac_cong H.1 hf hr H.2.1, H.2.2⟩
def tg_St (lm : Int32) (tx tl : Nat → Nat) (tk : Nat → Nat) (i P : Nat) (bo : Nat → Nat) (fi la : Nat → Int32) (st en : Nat → Int64) (cd fo rc : Nat → Int32) : Prop :=
  bo (tg_dp tk i) = P ∧ (∀ k, k < tg_dp tk i → tg_En lm tx tl (tg_sm tk i k) (bo k) (bo (k + 1)) (fi k) (la k) fo rc (st k) (en k) (cd k)) ∧ (∀ c, c < 6 → ∀ p, P ≤ p → bt (rc c) p = false) ∧ P ≤ i
theorem tg_st_mono {lm : Int32} {tx tl : Nat → Nat} {tk : Nat → Nat} {i P : Nat} {bo : Nat → Nat} {fi la : Nat → Int32} {st en : Nat → Int64} {cd fo rc : Nat → Int32} (H : tg_St lm tx tl tk i P bo fi la st en cd fo rc) (k : Nat) : ∀ j, k + j ≤ tg_dp tk i → bo k ≤ bo (k + j)
  | 0, _ => Nat.le_refl _
  | j + 1, h => by
    have ih := tg_st_mono H k j (by omega)
    have z := (H.2.1 (k + j) (by omega)).1.1
    exact Nat.le_trans ih z
theorem tg_st_le {lm : Int32} {tx tl : Nat → Nat} {tk : Nat → Nat} {i P : Nat} {bo : Nat → Nat} {fi la : Nat → Int32} {st en : Nat → Int64} {cd fo rc : Nat → Int32} (H : tg_St lm tx tl tk i P bo fi la st en cd fo rc) {k j : Nat} (h : k ≤ j) (hj : j ≤ tg_dp tk i) : bo k ≤ bo j := by
  have z := tg_st_mono H k (j - k) (by omega)
  rw [show k + (j - k) = j from by omega] at z
  exact z
theorem tg_sm_sym {tk : Nat → Nat} {i : Nat} (h : tk i < 64) : tg_sm tk (i + 1) (tg_dp tk i) = la_smb (tk i) := by
  rw [tg_sm]
  dsimp only
  rw [if_pos h, if_pos rfl]
theorem tg_sm_sym' {tk : Nat → Nat} {i k : Nat} (h : tk i < 64) (hk : k < tg_dp tk i) : tg_sm tk (i + 1) k = tg_sm tk i k := by
  rw [tg_sm]
  dsimp only
  rw [if_pos h, if_neg (by omega)]
theorem tg_sm_eps {tk : Nat → Nat} {i : Nat} (h : tk i = 64) : tg_sm tk (i + 1) (tg_dp tk i) = la_eps := by
  rw [tg_sm]
  dsimp only
  rw [if_neg (by omega), if_pos h, if_pos rfl]
theorem tg_sm_eps' {tk : Nat → Nat} {i k : Nat} (h : tk i = 64) (hk : k < tg_dp tk i) : tg_sm tk (i + 1) k = tg_sm tk i k := by
  rw [tg_sm]
  dsimp only
  rw [if_neg (by omega), if_pos h, if_neg (by omega)]
theorem tg_sm_cat {tk : Nat → Nat} {i k : Nat} (h : tk i = 65) (hk : k + 2 = tg_dp tk i) : tg_sm tk (i + 1) k = la_cat (tg_sm tk i k) (tg_sm tk i (k + 1)) := by
  rw [tg_sm]
  dsimp only
  rw [if_neg (by omega), if_neg (by omega), if_pos h, if_pos hk]
theorem tg_sm_cat' {tk : Nat → Nat} {i k : Nat} (h : tk i = 65) (hk : k + 2 < tg_dp tk i) : tg_sm tk (i + 1) k = tg_sm tk i k := by
  rw [tg_sm]
  dsimp only
  rw [if_neg (by omega), if_neg (by omega), if_pos h, if_neg (by omega)]
theorem tg_sm_alt {tk : Nat → Nat} {i k : Nat} (h : tk i = 66) (hk : k + 2 = tg_dp tk i) : tg_sm tk (i + 1) k = la_alt (tg_sm tk i k) (tg_sm tk i (k + 1)) := by
  rw [tg_sm]
  dsimp only
  rw [if_neg (by omega), if_neg (by omega), if_neg (by omega), if_pos h, if_pos hk]
theorem tg_sm_alt' {tk : Nat → Nat} {i k : Nat} (h : tk i = 66) (hk : k + 2 < tg_dp tk i) : tg_sm tk (i + 1) k = tg_sm tk i k := by
  rw [tg_sm]
  dsimp only
  rw [if_neg (by omega), if_neg (by omega), if_neg (by omega), if_pos h, if_neg (by omega)]
theorem tg_sm_star {tk : Nat → Nat} {i k : Nat} (h : tk i = 67) (hk : k + 1 = tg_dp tk i) : tg_sm tk (i + 1) k = la_opt (la_pls (tg_sm tk i k)) := by
  rw [tg_sm]
  dsimp only
  rw [if_neg (by omega), if_neg (by omega), if_neg (by omega), if_neg (by omega), if_pos h, if_pos hk]
theorem tg_sm_plus {tk : Nat → Nat} {i k : Nat} (h : tk i = 68) (hk : k + 1 = tg_dp tk i) : tg_sm tk (i + 1) k = la_pls (tg_sm tk i k) := by
  rw [tg_sm]
  dsimp only
  rw [if_neg (by omega), if_neg (by omega), if_neg (by omega), if_neg (by omega), if_neg (by omega), if_pos h, if_pos hk]
theorem tg_sm_opt {tk : Nat → Nat} {i k : Nat} (h : 69 ≤ tk i) (hk : k + 1 = tg_dp tk i) : tg_sm tk (i + 1) k = la_opt (tg_sm tk i k) := by
  rw [tg_sm]
  dsimp only
  rw [if_neg (by omega), if_neg (by omega), if_neg (by omega), if_neg (by omega), if_neg (by omega), if_neg (by omega), if_pos hk]
theorem tg_sm_un' {tk : Nat → Nat} {i k : Nat} (h : 67 ≤ tk i) (hk : k + 1 < tg_dp tk i) : tg_sm tk (i + 1) k = tg_sm tk i k := by
  rw [tg_sm]
  dsimp only
  rw [if_neg (by omega), if_neg (by omega), if_neg (by omega), if_neg (by omega)]
  split
  · rw [if_neg (by omega)]
  · split
    · rw [if_neg (by omega)]
    · rw [if_neg (by omega)]
section
variable {lm : Int32} {tx tl : Nat → Nat} {tk : Nat → Nat} {i P : Nat} {bo : Nat → Nat} {fi la fi' la' : Nat → Int32} {st en st' en' : Nat → Int64} {cd fo rc cd' fo' rc' po : Nat → Int32}
/-- before the first token -/
theorem tg_st_0 (h : ∀ c, c < 6 → rc c = 0) : tg_St lm tx tl tk 0 0 (fun _ => 0) fi la st en cd fo rc := by
  refine ⟨rfl, fun k hk => absurd hk (Nat.not_lt_zero k), fun c hc p _ => ?_, Nat.le_refl _⟩
  rw [h c hc, b_0]
/-- a symbol -/
theorem tg_st_sym (H : tg_St lm tx tl tk i P bo fi la st en cd fo rc) (ht : tk i < 64) {B : Int32} {w : Int64} (hB : ∀ p, bt B p = true ↔ p = P) (hw : ∀ a, a < 6 → (tk i).testBit a = true → qb w (1 + a) = true) (hw0 : qb w 0 = false)
    (hfi : ∀ k, k < tg_dp tk i → fi' k = fi k) (hla : ∀ k, k < tg_dp tk i → la' k = la k) (hst : ∀ k, k < tg_dp tk i → st' k = st k) (hen : ∀ k, k < tg_dp tk i → en' k = en k) (hcd : ∀ k, k < tg_dp tk i → cd' k = cd k)
    (gfi : fi' (tg_dp tk i) = B) (gla : la' (tg_dp tk i) = B) (gst : st' (tg_dp tk i) = w) (gen : en' (tg_dp tk i) = w) (gcd : cd' (tg_dp tk i) = lm)
    (hfo : ∀ q, q < P → fo' q = fo q) (gfo : fo' P = 0) (hrc : ∀ c, c < 6 → rc' c = if (tk i).testBit c = true then rc c ||| B else rc c) :
    ∃ bo', tg_St lm tx tl tk (i + 1) (P + 1) bo' fi' la' st' en' cd' fo' rc' := by
  have hP := H.1
  have hb : ∀ c, c < 6 → ∀ p, p ≠ P → bt (rc' c) p = bt (rc c) p := by
    intro c hc p hp
    rw [hrc c hc]
    by_cases z : (tk i).testBit c = true
    · rw [if_pos z, b_or]
      cases y : bt B p
      · rw [Bool.or_false]
      · exact absurd ((hB p).mp y) hp
    · rw [if_neg z]
  have hbP : ∀ c, c < 6 → bt (rc' c) P = (tk i).testBit c := by
    intro c hc
    rw [hrc c hc]
    by_cases z : (tk i).testBit c = true
    · rw [if_pos z, b_or, (hB P).mpr rfl, Bool.or_true, z]
    · rw [if_neg z, H.2.2.1 c hc P (Nat.le_refl _)]
      cases y : (tk i).testBit c
      · rfl
      · exact absurd y z
  refine ⟨fun k => if k ≤ tg_dp tk i then bo k else P + 1, ?_, fun k hk => ?_, fun c hc p hp => ?_, ?_⟩
  · rw [tg_dp_leaf (by omega)]
    exact if_neg (by omega)
  · rw [tg_dp_leaf (by omega)] at hk
    rcases Nat.lt_or_ge k (tg_dp tk i) with z | z
    · have h1 := H.2.1 k z
      have h2 : bo (k + 1) ≤ P := by rw [← hP]; exact tg_st_le H (by omega) (Nat.le_refl _)
      dsimp only
      rw [tg_sm_sym' ht z, if_pos (by omega), if_pos (by omega), hfi k z, hla k z, hst k z, hen k z, hcd k z]
      exact tg_en_cong h1 (fun q _ b => hfo q (by omega)) (fun c hc p _ b => hb c hc p (by omega))
    · have e : k = tg_dp tk i := by omega
      subst e
      dsimp only
      rw [tg_sm_sym ht, if_pos (by omega), if_neg (by omega), gfi, gla, gst, gen, gcd, hP]
      exact ⟨tg_rg_smb hB gfo, tg_ac_smb hB gfo hbP, by rw [hw0]; exact tg_nu_smb _, tg_se_smb hw, tg_cd_all _⟩
  · rw [hb c hc p (by omega)]
    exact H.2.2.1 c hc p (by omega)
  · have := H.2.2.2; omega
/-- the word of no letters -/
theorem tg_st_eps (H : tg_St lm tx tl tk i P bo fi la st en cd fo rc) (ht : tk i = 64)
    (hfi : ∀ k, k < tg_dp tk i → fi' k = fi k) (hla : ∀ k, k < tg_dp tk i → la' k = la k) (hst : ∀ k, k < tg_dp tk i → st' k = st k) (hen : ∀ k, k < tg_dp tk i → en' k = en k) (hcd : ∀ k, k < tg_dp tk i → cd' k = cd k)
    (gfi : fi' (tg_dp tk i) = 0) (gla : la' (tg_dp tk i) = 0) (gst : st' (tg_dp tk i) = 1) (gen : en' (tg_dp tk i) = 1) (gcd : cd' (tg_dp tk i) = lm) :
    ∃ bo', tg_St lm tx tl tk (i + 1) P bo' fi' la' st' en' cd' fo rc := by
  have hP := H.1
  refine ⟨fun k => if k ≤ tg_dp tk i then bo k else P, ?_, fun k hk => ?_, H.2.2.1, ?_⟩
  · rw [tg_dp_leaf (by omega)]
    exact if_neg (by omega)
  · rw [tg_dp_leaf (by omega)] at hk
    rcases Nat.lt_or_ge k (tg_dp tk i) with z | z
    · dsimp only
      rw [tg_sm_eps' ht z, if_pos (by omega), if_pos (by omega), hfi k z, hla k z, hst k z, hen k z, hcd k z]
      exact H.2.1 k z
    · have e : k = tg_dp tk i := by omega
      subst e
      dsimp only
      rw [tg_sm_eps ht, if_pos (by omega), if_neg (by omega), gfi, gla, gst, gen, gcd, hP]
      refine ⟨tg_rg_eps _ _, tg_ac_eps _ _, ?_, tg_se_eps, tg_cd_all _⟩
      rw [qb_one 0 (by omega)]
      exact tg_nu_eps
  · have := H.2.2.2; omega
/-- one behind the other -/
theorem tg_st_cat (htx : ∀ j, tx j < 6) (Po : tg_Po lm tx tl po) (H : tg_St lm tx tl tk i P bo fi la st en cd fo rc) (ht : tk i = 65) {x : Nat} (hx : x + 2 = tg_dp tk i) {hd ta o1 o2 : Int32} {xs xe sp ep : Int64}
    (hfi : ∀ k, k < x → fi' k = fi k) (hla : ∀ k, k < x → la' k = la k) (hst : ∀ k, k < x → st' k = st k) (hen : ∀ k, k < x → en' k = en k) (hcd : ∀ k, k < x → cd' k = cd k)
    (gfi : fi' x = if qb (st x) 0 = true then fi x ||| fi (x + 1) else fi x) (gla : la' x = if qb (st (x + 1)) 0 = true then la x ||| la (x + 1) else la (x + 1))
    (hh : tg_Fl (st (x + 1)) hd) (hta : tg_Ll (en x) ta) (h1 : tg_Ow (st x) o1) (h2 : tg_Ow (en (x + 1)) o2) (hp : tg_Pr o1 hd sp) (hq : tg_Pr ta o2 ep) (x1 : tg_Ex (st x) (st (x + 1)) xs) (x2 : tg_Ex (en (x + 1)) (en x) xe)
    (gst : st' x = xs ||| sp) (gen : en' x = xe ||| ep) (J : tg_Jc lm po (cd x) (cd (x + 1)) (en x) (st (x + 1)) (cd' x))
    (hfo : ∀ q, q < P → fo' q = if bt (la x) q = true then fo q ||| fi (x + 1) else fo q) (gfo : ∀ q, P ≤ q → fo' q = fo q) :
    ∃ bo', tg_St lm tx tl tk (i + 1) P bo' fi' la' st' en' cd' fo' rc := by
  have hP := H.1
  have E1 := H.2.1 x (by omega)
  have E2 := H.2.1 (x + 1) (by omega)
  have m1 := tg_mo tk i x
  have m2 := tg_mo tk i (x + 1)
  have l1 : bo (x + 1) ≤ P := by rw [← hP]; exact tg_st_le H (by omega) (Nat.le_refl _)
  have fo2 : ∀ q, fo' q = if bt (la x) q = true then fo q ||| fi (x + 1) else fo q := by
    intro q
    rcases Nat.lt_or_ge q P with z | z
    · exact hfo q z
    · rw [gfo q z, if_neg]
      intro y
      have := E1.1.2.2.1 q y
      omega
  have hF : ∀ p, bt (fi' x) p = (bt (fi x) p || (qb (st x) 0 && bt (fi (x + 1)) p)) := by
    intro p
    rw [gfi]
    cases z : qb (st x) 0
    · rw [if_neg (by decide), Bool.false_and, Bool.or_false]
    · rw [if_pos rfl, b_or, Bool.true_and]
  have hE : ∀ p, bt (la' x) p = (bt (la (x + 1)) p || (qb (st (x + 1)) 0 && bt (la x) p)) := by
    intro p
    rw [gla]
    cases z : qb (st (x + 1)) 0
    · rw [if_neg (by decide), Bool.false_and, Bool.or_false]
    · rw [if_pos rfl, b_or, Bool.true_and, Bool.or_comm]
  refine ⟨fun k => if k ≤ x then bo k else P, ?_, fun k hk => ?_, H.2.2.1, ?_⟩
  · rw [tg_dp_bin (by omega) (by omega)]
    exact if_neg (by omega)
  · rw [tg_dp_bin (by omega) (by omega)] at hk
    rcases Nat.lt_or_ge k x with z | z
    · have h1 := H.2.1 k (by omega)
      have h2 : bo (k + 1) ≤ bo x := tg_st_le H (by omega) (by omega)
      dsimp only
      rw [tg_sm_cat' ht (by omega), if_pos (by omega), if_pos (by omega), hfi k z, hla k z, hst k z, hen k z, hcd k z]
      refine tg_en_cong h1 (fun q _ b => ?_) (fun c hc p _ b => rfl)
      rw [fo2 q, if_neg]
      intro y
      have := E1.1.2.2.1 q y
      omega
    · have e : k = x := by omega
      subst e
      have hP2 : bo (k + 1 + 1) = P := by rw [← hP, ← hx]
      dsimp only
      rw [tg_sm_cat ht hx, if_pos (by omega), if_neg (by omega), gst, gen]
      rw [hP2] at E2
      refine ⟨tg_rg_cat E1.1 E2.1 fo2 hF hE, tg_ac_cat E1.1 E2.1 m1 m2 E1.2.1 E2.2.1 E1.2.2.1 E2.2.2.1 fo2 hF hE, ?_, tg_se_cat m1 m2 E1.2.2.2.1 E2.2.2.2.1 hh hta h1 h2 hp hq x1 x2, tg_cd_cat htx Po m1 m2 E1.2.2.2.1 E2.2.2.2.1 E1.2.2.2.2 E2.2.2.2.2 J⟩
      rw [qb_or, x1.1, hp.1, Bool.or_false]
      exact tg_nu_cat m1 m2 E1.2.2.1 E2.2.2.1
  · have := H.2.2.2; omega
/-- either -/
theorem tg_st_alt (H : tg_St lm tx tl tk i P bo fi la st en cd fo rc) (ht : tk i = 66) {x : Nat} (hx : x + 2 = tg_dp tk i)
    (hfi : ∀ k, k < x → fi' k = fi k) (hla : ∀ k, k < x → la' k = la k) (hst : ∀ k, k < x → st' k = st k) (hen : ∀ k, k < x → en' k = en k) (hcd : ∀ k, k < x → cd' k = cd k)
    (gfi : fi' x = fi x ||| fi (x + 1)) (gla : la' x = la x ||| la (x + 1)) (gst : st' x = st x ||| st (x + 1)) (gen : en' x = en x ||| en (x + 1)) (gcd : cd' x = cd x ||| cd (x + 1)) :
    ∃ bo', tg_St lm tx tl tk (i + 1) P bo' fi' la' st' en' cd' fo rc := by
  have hP := H.1
  have E1 := H.2.1 x (by omega)
  have E2 := H.2.1 (x + 1) (by omega)
  have hF : ∀ p, bt (fi' x) p = (bt (fi x) p || bt (fi (x + 1)) p) := fun p => by rw [gfi, b_or]
  have hE : ∀ p, bt (la' x) p = (bt (la x) p || bt (la (x + 1)) p) := fun p => by rw [gla, b_or]
  refine ⟨fun k => if k ≤ x then bo k else P, ?_, fun k hk => ?_, H.2.2.1, ?_⟩
  · rw [tg_dp_bin (by omega) (by omega)]
    exact if_neg (by omega)
  · rw [tg_dp_bin (by omega) (by omega)] at hk
    rcases Nat.lt_or_ge k x with z | z
    · dsimp only
      rw [tg_sm_alt' ht (by omega), if_pos (by omega), if_pos (by omega), hfi k z, hla k z, hst k z, hen k z, hcd k z]
      exact H.2.1 k (by omega)
    · have e : k = x := by omega
      subst e
      have hP2 : bo (k + 1 + 1) = P := by rw [← hP, ← hx]
      dsimp only
      rw [tg_sm_alt ht hx, if_pos (by omega), if_neg (by omega), gst, gen, gcd]
      rw [hP2] at E2
      refine ⟨tg_rg_alt E1.1 E2.1 hF hE, tg_ac_alt E1.1 E2.1 E1.2.1 E2.2.1 hF hE, ?_, tg_se_alt E1.2.2.2.1 E2.2.2.2.1, tg_cd_alt E1.2.2.2.2 E2.2.2.2.2⟩
      rw [qb_or]
      exact tg_nu_alt E1.2.2.1 E2.2.2.1
  · have := H.2.2.2; omega
/-- one or more words, in an entry -/
theorem tg_en_pls {W : la_T} {lo hi : Nat} {F E : Int32} {s1 e1 sp ep : Int64} {c hd ta o : Int32} (M : la_Mo W) (H : tg_En lm tx tl W lo hi F E fo rc s1 e1 c) (hh : tg_Fl s1 hd) (hta : tg_Ll e1 ta) (ho : tg_Ow s1 o) (hp : tg_Pr o hd sp) (hq : tg_Pr ta o ep) (hfo : ∀ q, fo' q = if bt E q = true then fo q ||| F else fo q) : tg_En lm tx tl (la_pls W) lo hi F E fo' rc (s1 ||| sp) (e1 ||| ep) c := by
  refine ⟨tg_rg_pls H.1 hfo, tg_ac_pls H.1 M H.2.1 hfo, ?_, tg_se_pls M H.2.2.2.1 hh hta ho hp hq, tg_cd_pls M H.2.2.2.2⟩
  rw [qb_or, hp.1, Bool.or_false]
  exact tg_nu_pls M H.2.2.1
theorem tg_en_opt {W : la_T} {lo hi : Nat} {F E : Int32} {s1 e1 : Int64} {c : Int32} (H : tg_En lm tx tl W lo hi F E fo rc s1 e1 c) : tg_En lm tx tl (la_opt W) lo hi F E fo rc (s1 ||| 1) (e1 ||| 1) lm := by
  refine ⟨H.1, tg_ac_opt H.2.1, ?_, tg_se_opt H.2.2.2.1, tg_cd_all _⟩
  rw [qb_or, qb_one 0 (by omega)]
  rw [show (qb s1 0 || decide (0 = 0)) = true from by simp]
  exact tg_nu_opt
/-- a token of one operand: what the entry on top becomes -/
theorem tg_st_un (H : tg_St lm tx tl tk i P bo fi la st en cd fo rc) (ht : 67 ≤ tk i) {x : Nat} (hx : x + 1 = tg_dp tk i)
    (hst : ∀ k, k < x → st' k = st k) (hen : ∀ k, k < x → en' k = en k) (hcd : ∀ k, k < x → cd' k = cd k)
    (hfo : ∀ q, q < bo x → fo' q = fo q)
    (K : tg_En lm tx tl (tg_sm tk i x) (bo x) (bo (x + 1)) (fi x) (la x) fo rc (st x) (en x) (cd x) → tg_En lm tx tl (tg_sm tk (i + 1) x) (bo x) (bo (x + 1)) (fi x) (la x) fo' rc (st' x) (en' x) (cd' x)) :
    tg_St lm tx tl tk (i + 1) P bo fi la st' en' cd' fo' rc := by
  have hP := H.1
  refine ⟨?_, fun k hk => ?_, H.2.2.1, ?_⟩
  · rw [tg_dp_un ht]; exact hP
  · rw [tg_dp_un ht] at hk
    rcases Nat.lt_or_ge k x with z | z
    · have h2 : bo (k + 1) ≤ bo x := tg_st_le H (by omega) (by omega)
      rw [tg_sm_un' ht (by omega), hst k z, hen k z, hcd k z]
      exact tg_en_cong (H.2.1 k (by omega)) (fun q _ b => hfo q (by omega)) (fun c hc p _ b => rfl)
    · have e : k = x := by omega
      subst e
      exact K (H.2.1 k hk)
  · have := H.2.2.2; omega
end
end
section
/-! the reference's rows of bits; closing a relation step by step; the answer of a search -/
def tg_Rel (a : Nat → Int32) (b n : Nat) (R : Nat → Nat → Prop) : Prop := ∀ s, s ≤ n → ∀ e, bt (a (b + s)) e = true ↔ (e ≤ n ∧ R s e)
def tg_Wi (R : Nat → Nat → Prop) (n m : Nat) (f : Nat → Nat → Prop) : Prop :=
  (∀ s e, s ≤ n → f s e → e ≤ n ∧ Relation.TransGen R s e) ∧ (∀ s e, s ≤ n → e ≤ n → R s e → f s e) ∧ (∀ k s e, k < m → s ≤ n → k ≤ n → f s k → f k e → f s e)
theorem tg_wi_0 {R f : Nat → Nat → Prop} {n : Nat} (h : ∀ s, s ≤ n → ∀ e, f s e ↔ (e ≤ n ∧ R s e)) : tg_Wi R n 0 f :=
  ⟨fun s e hs z => ⟨((h s hs e).mp z).1, Relation.TransGen.single ((h s hs e).mp z).2⟩, fun s e hs he z => (h s hs e).mpr ⟨he, z⟩, fun k s e hk => absurd hk (Nat.not_lt_zero k)⟩
theorem tg_wi_s {R f g : Nat → Nat → Prop} {n m : Nat} (H : tg_Wi R n m f) (hm : m ≤ n) (h : ∀ s, s ≤ n → ∀ e, g s e ↔ (f s e ∨ (f s m ∧ f m e))) : tg_Wi R n (m + 1) g := by
  obtain ⟨h1, h2, h3⟩ := H
  refine ⟨fun s e hs z => ?_, fun s e hs he z => (h s hs e).mpr (Or.inl (h2 s e hs he z)), fun k s e hk hs hkn a b => ?_⟩
  · rcases (h s hs e).mp z with z | z
    · exact h1 s e hs z
    · have a := h1 s m hs z.1
      have b := h1 m e hm z.2
      exact ⟨b.1, Relation.TransGen.trans a.2 b.2⟩
  · rw [h s hs k] at a
    rw [h k hkn e] at b
    rw [h s hs e]
    rcases Nat.lt_or_ge k m with y | y
    · rcases a with a | a
      · rcases b with b | b
        · exact Or.inl (h3 k s e y hs hkn a b)
        · exact Or.inr ⟨h3 k s m y hs hkn a b.1, b.2⟩
      · rcases b with b | b
        · exact Or.inr ⟨a.1, h3 k m e y hm hkn a.2 b⟩
        · exact Or.inr ⟨a.1, b.2⟩
    · have e1 : k = m := by omega
      subst e1
      have a' : f s k := a.elim id (fun z => z.1)
      have b' : f k e := b.elim id (fun z => z.2)
      exact Or.inr ⟨a', b'⟩
theorem tg_wi_e {R f : Nat → Nat → Prop} {n : Nat} (M : ∀ s e, R s e → s ≤ e) (H : tg_Wi R n (n + 1) f) : ∀ s, s ≤ n → ∀ e, f s e ↔ (e ≤ n ∧ Relation.TransGen R s e) := by
  obtain ⟨h1, h2, h3⟩ := H
  intro s hs e
  refine ⟨h1 s e hs, fun ⟨he, z⟩ => ?_⟩
  induction z with
  | single w => exact h2 s _ hs he w
  | @tail b c z1 w ih =>
    have hb := M b c w
    have hs2 : b ≤ n := by omega
    exact h3 b s c (by omega) hs hs2 (ih ⟨hs2, z1⟩ hs2) (h2 b c hs2 he w)
/-- the least end of a word, or -4 -/
def tg_Rs (W : Nat → Nat → Prop) (n : Nat) (r : Int32) : Prop :=
  (∃ e, e ≤ n ∧ r = nI e ∧ (∃ s, W s e) ∧ ∀ e', e' < e → ¬ ∃ s, W s e') ∨ (r = -4 ∧ ∀ e, e ≤ n → ¬ ∃ s, W s e)
theorem tg_rs_u {W : Nat → Nat → Prop} {n : Nat} {r r' : Int32} (h : tg_Rs W n r) (h' : tg_Rs W n r') : r = r' := by
  rcases h with ⟨e, he, rfl, hw, hl⟩ | ⟨rfl, hn⟩
  · rcases h' with ⟨e', he', rfl, hw', hl'⟩ | ⟨_, hn'⟩
    · rcases Nat.lt_trichotomy e e' with z | z | z
      · exact absurd hw (hl' e z)
      · rw [z]
      · exact absurd hw' (hl e' z)
    · exact absurd hw (hn' e he)
  · rcases h' with ⟨e', he', rfl, hw', hl'⟩ | ⟨rfl, _⟩
    · exact absurd hw' (hn e' he')
    · rfl
/-! the state of the verifying automaton -/
def tg_Sg (F : Int32) (fo rc : Nat → Int32) (x : Nat → Nat) (i : Nat) (g : Int32) : Prop := ∀ p, bt g p = true ↔ ∃ s l, s + l + 1 = i ∧ tg_rn F fo rc x s l p
theorem tg_sg_0 (F : Int32) (fo rc : Nat → Int32) (x : Nat → Nat) : tg_Sg F fo rc x 0 0 := by
  intro p
  rw [b_0]
  exact ⟨fun h => absurd h (by decide), fun ⟨s, l, h, _⟩ => by omega⟩
theorem tg_sg_s {F : Int32} {fo rc : Nat → Int32} {x : Nat → Nat} {i : Nat} {g g' : Int32} (H : tg_Sg F fo rc x i g) (h : ∀ p, bt g' p = true ↔ ((bt F p = true ∨ ∃ q, bt g q = true ∧ bt (fo q) p = true) ∧ bt (rc (x i)) p = true)) : tg_Sg F fo rc x (i + 1) g' := by
  intro p
  rw [h p]
  constructor
  · intro ⟨a, b⟩
    rcases a with a | ⟨q, hq, a⟩
    · exact ⟨i, 0, rfl, a, b⟩
    · obtain ⟨s, l, e, hr⟩ := (H q).mp hq
      refine ⟨s, l + 1, by omega, ⟨q, hr, a⟩, ?_⟩
      rw [e]; exact b
  · intro ⟨s, l, e, hr⟩
    cases l with
    | zero =>
      have e1 : s = i := by omega
      rw [e1] at hr
      exact ⟨Or.inl hr.1, hr.2⟩
    | succ l =>
      obtain ⟨⟨q, hq, a⟩, b⟩ := hr
      have e1 : s + l + 1 = i := by omega
      rw [e1] at b
      exact ⟨Or.inr ⟨q, (H q).mpr ⟨s, l, e1, hq⟩, a⟩, b⟩
theorem tg_sg_a {W : la_T} {F E : Int32} {fo rc : Nat → Int32} {x : Nat → Nat} {i : Nat} {g : Int32} (A : tg_Ac W F E fo rc) (hx : ∀ j, x j < 6) (H : tg_Sg F fo rc x i g) : (∃ s, s < i ∧ W x s i) ↔ ∃ p, bt g p = true ∧ bt E p = true := by
  constructor
  · intro ⟨s, hs, w⟩
    rw [show i = s + (i - s - 1) + 1 from by omega] at w
    obtain ⟨p, hp, e⟩ := (A x hx s (i - s - 1)).mp w
    exact ⟨p, (H p).mpr ⟨s, i - s - 1, by omega, hp⟩, e⟩
  · intro ⟨p, hp, e⟩
    obtain ⟨s, l, h, hr⟩ := (H p).mp hp
    refine ⟨s, by omega, ?_⟩
    rw [← h]
    exact (A x hx s l).mpr ⟨p, hr, e⟩
/-- no word ends before or at i -/
def tg_Nn (W : Nat → Nat → Prop) (i : Nat) : Prop := ∀ e, e ≤ i → ¬ ∃ s, W s e
/-- hits counted -/
def tg_cn (lm : Int32) (rs : Nat → Int32) : Nat → Nat
  | 0 => 0
  | d + 1 => tg_cn lm rs d + (if bt lm d = true ∧ rs d ≠ -4 then 1 else 0)
theorem tg_cn_cong {lm : Int32} {rs rs' : Nat → Int32} : ∀ n, (∀ d, d < n → bt lm d = true → rs' d = rs d) → tg_cn lm rs' n = tg_cn lm rs n
  | 0, _ => rfl
  | n + 1, h => by
    have ih := tg_cn_cong n (fun d hd => h d (by omega))
    unfold tg_cn
    rw [ih]
    by_cases z : bt lm n = true
    · rw [h n (by omega) z]
    · rw [if_neg (fun y => z y.1), if_neg (fun y => z y.1)]
theorem tg_cn_le (lm : Int32) (rs : Nat → Int32) : ∀ n, tg_cn lm rs n ≤ n
  | 0 => Nat.le_refl _
  | n + 1 => by
    have ih := tg_cn_le lm rs n
    unfold tg_cn
    split <;> omega
end
section
/-! the component's small methods and the documents' loops -/
section
variable {f_slotCount f_maxLength f_letterCount f_maxTokens f_liveMask f_draftLength f_tokenCount f_patternDepth f_top f_positions : Int32} {a_texts a_textLengths a_results a_draft a_postings a_tokens a_first a_last a_candidates a_follow a_reach : Nat → Int32} {a_starts a_ends : Nat → Int64} {S L A M T : Nat} {tx tl dr tk : Nat → Nat}
theorem wx_let_t {post : Int32 → Prop} {c : Nat} (hA : f_letterCount = nI A) (hA6 : A ≤ 6) (hc : c < A) (h : post 1) : wpX_isLetter post (f_slotCount, f_maxLength, f_letterCount, f_maxTokens, f_liveMask, f_draftLength, f_tokenCount, f_patternDepth, f_top, f_positions, a_texts, a_textLengths, a_results, a_draft, a_postings, a_tokens, a_first, a_last, a_starts, a_ends, a_candidates, a_follow, a_reach) (nI c) := by
  refine br_f (nI_pos (by omega)) (br_f ?_ h)
  rw [hA]; exact nI_ge hc (by omega)
theorem wx_let_f {post : Int32 → Prop} {c : Int32} (hc : c < 0 ∨ f_letterCount ≤ c) (h : post 0) : wpX_isLetter post (f_slotCount, f_maxLength, f_letterCount, f_maxTokens, f_liveMask, f_draftLength, f_tokenCount, f_patternDepth, f_top, f_positions, a_texts, a_textLengths, a_results, a_draft, a_postings, a_tokens, a_first, a_last, a_starts, a_ends, a_candidates, a_follow, a_reach) c := by
  refine br_c (fun _ => h) (fun z => ?_)
  rcases hc with hc | hc
  · exact absurd hc z
  · exact br_t hc h
theorem wx_ss_f {post : Int32 → Prop} {d : Int32} (hd : d < 0 ∨ f_slotCount ≤ d) (h : post (-1)) : wpX_slotState post (f_slotCount, f_maxLength, f_letterCount, f_maxTokens, f_liveMask, f_draftLength, f_tokenCount, f_patternDepth, f_top, f_positions, a_texts, a_textLengths, a_results, a_draft, a_postings, a_tokens, a_first, a_last, a_starts, a_ends, a_candidates, a_follow, a_reach) d := by
  refine br_c (fun _ => h) (fun z => ?_)
  rcases hd with hd | hd
  · exact absurd hd z
  · exact br_f (Int32.not_lt.mpr hd) h
theorem wx_ss_m {post : Int32 → Prop} {d : Nat} (hS : f_slotCount = nI S) (hS12 : S ≤ 12) (hd : d < S) (hl : bt f_liveMask d = false) (h : post (-3)) : wpX_slotState post (f_slotCount, f_maxLength, f_letterCount, f_maxTokens, f_liveMask, f_draftLength, f_tokenCount, f_patternDepth, f_top, f_positions, a_texts, a_textLengths, a_results, a_draft, a_postings, a_tokens, a_first, a_last, a_starts, a_ends, a_candidates, a_follow, a_reach) (nI d) := by
  refine br_f (nI_pos (by omega)) (br_t ?_ (bt_br d (by omega) (fun _ => h) (fun z => ?_)))
  · rw [hS]; exact nI_lt hd (by omega)
  · rw [hl] at z; exact absurd z (by decide)
theorem wx_ss_l {post : Int32 → Prop} {d : Nat} (hS : f_slotCount = nI S) (hS12 : S ≤ 12) (hd : d < S) (hl : bt f_liveMask d = true) (h : post 0) : wpX_slotState post (f_slotCount, f_maxLength, f_letterCount, f_maxTokens, f_liveMask, f_draftLength, f_tokenCount, f_patternDepth, f_top, f_positions, a_texts, a_textLengths, a_results, a_draft, a_postings, a_tokens, a_first, a_last, a_starts, a_ends, a_candidates, a_follow, a_reach) (nI d) := by
  refine br_f (nI_pos (by omega)) (br_t ?_ (bt_br d (by omega) (fun z => ?_) (fun _ => h)))
  · rw [hS]; exact nI_lt hd (by omega)
  · rw [hl] at z; exact absurd z (by decide)
/-! the free slot of the least number -/
theorem wx_lfs_s {post : Int32 → Prop} {d : Nat} (hS : f_slotCount = nI S) (hS12 : S ≤ 12) (hd : d < S) (hl : bt f_liveMask d = false) (hj : ∀ j, j < d → bt f_liveMask j = true) (h : post (nI d)) : ∀ m j, j + m = d → wX_leastFreeSlot_2 post f_slotCount f_maxLength f_letterCount f_maxTokens f_liveMask f_draftLength f_tokenCount f_patternDepth f_top f_positions a_texts a_textLengths a_results a_draft a_postings a_tokens a_first a_last a_starts a_ends a_candidates a_follow a_reach (m + 1) (nI j) := by
  intro m
  induction m with
  | zero =>
    intro j e
    have e1 : j = d := by omega
    subst e1
    rw [wX_leastFreeSlot_2]
    refine br_f ?_ (bt_br j (by omega) (fun _ => h) (fun z => ?_))
    · rw [hS]; exact nI_ge hd (by omega)
    · rw [hl] at z; exact absurd z (by decide)
  | succ m ih =>
    intro j e
    rw [wX_leastFreeSlot_2]
    refine br_f ?_ (bt_br j (by omega) (fun z => ?_) (fun _ => nm_r (nI_1 j) (ih (j + 1) (by omega))))
    · rw [hS]; exact nI_ge (by omega) (by omega)
    · rw [hj j (by omega)] at z; exact absurd z (by decide)
theorem wx_lfs_n {post : Int32 → Prop} (hS : f_slotCount = nI S) (hS12 : S ≤ 12) (hj : ∀ j, j < S → bt f_liveMask j = true) (h : post (-1)) : ∀ m j, j + m = S → wX_leastFreeSlot_2 post f_slotCount f_maxLength f_letterCount f_maxTokens f_liveMask f_draftLength f_tokenCount f_patternDepth f_top f_positions a_texts a_textLengths a_results a_draft a_postings a_tokens a_first a_last a_starts a_ends a_candidates a_follow a_reach (m + 1) (nI j) := by
  intro m
  induction m with
  | zero =>
    intro j e
    rw [wX_leastFreeSlot_2]
    refine br_t ?_ h
    rw [hS]; exact nI_le (by omega) (by omega)
  | succ m ih =>
    intro j e
    rw [wX_leastFreeSlot_2]
    refine br_f ?_ (bt_br j (by omega) (fun z => ?_) (fun _ => nm_r (nI_1 j) (ih (j + 1) (by omega))))
    · rw [hS]; exact nI_ge (by omega) (by omega)
    · rw [hj j (by omega)] at z; exact absurd z (by decide)
/-! trigrams -/
theorem wx_tri {post : Int32 → Prop} (htx : ∀ j, a_texts j = nI (tx j)) {p : Nat} (hp : p + 2 < 192) (h : post (nI (tg_tri tx p))) : wpX_trigramAt post (f_slotCount, f_maxLength, f_letterCount, f_maxTokens, f_liveMask, f_draftLength, f_tokenCount, f_patternDepth, f_top, f_positions, a_texts, a_textLengths, a_results, a_draft, a_postings, a_tokens, a_first, a_last, a_starts, a_ends, a_candidates, a_follow, a_reach) (nI p) := by
  have e1 : nI p + 1 = nI (p + 1) := nI_1 p
  have e2 : nI p + 2 = nI (p + 2) := nI_add p 2
  have e3 : (nI (tx p) * 6 + nI (tx (p + 1))) * 6 + nI (tx (p + 2)) = nI (tg_tri tx p) := by
    rw [show (6 : Int32) = nI 6 from rfl, pk_mul, nI_add, pk_mul, nI_add]; rfl
  show vp_in (nI p) 192 ∧ (vp_in (nI p + 1) 192 ∧ (vp_in (nI p + 2) 192 ∧ post ((a_texts (nI p).toNatClampNeg * 6 + a_texts (nI p + 1).toNatClampNeg) * 6 + a_texts (nI p + 2).toNatClampNeg)))
  rw [e1, e2, nI_clamp (show p < 2 ^ 31 by omega), nI_clamp (show p + 1 < 2 ^ 31 by omega), nI_clamp (show p + 2 < 2 ^ 31 by omega), htx, htx, htx, e3]
  exact ⟨vp_in_nI (by omega) (by omega), vp_in_nI (by omega) (by omega), vp_in_nI (by omega) (by omega), h⟩
theorem tg_tri_lt (h6 : ∀ j, tx j < 6) (p : Nat) : tg_tri tx p < 216 := by
  have a := h6 p
  have b := h6 (p + 1)
  have c := h6 (p + 2)
  unfold tg_tri
  omega
theorem wx_addp {post : SX → Prop} {d : Nat} (hd : d < 12) (htl : a_textLengths d = nI T) (hT : T ≤ 16) (htx : ∀ j, a_texts j = nI (tx j)) (h6 : ∀ j, tx j < 6)
    (K : ∀ po : Nat → Int32, (∀ t e, bt (po t) e = true ↔ (bt (a_postings t) e = true ∨ (e = d ∧ ∃ i, i + 2 < T ∧ tg_tri tx (d * 16 + i) = t))) → post (f_slotCount, f_maxLength, f_letterCount, f_maxTokens, f_liveMask, f_draftLength, f_tokenCount, f_patternDepth, f_top, f_positions, a_texts, a_textLengths, a_results, a_draft, po, a_tokens, a_first, a_last, a_starts, a_ends, a_candidates, a_follow, a_reach)) :
    ∀ m i (po : Nat → Int32), i ≤ 16 → T ≤ i + 2 + m → (∀ t e, bt (po t) e = true ↔ (bt (a_postings t) e = true ∨ (e = d ∧ ∃ j, j < i ∧ j + 2 < T ∧ tg_tri tx (d * 16 + j) = t))) → wX_addPostings_7 post (nI d) (nI (d * 16)) f_slotCount f_maxLength f_letterCount f_maxTokens f_liveMask f_draftLength f_tokenCount f_patternDepth f_top f_positions (m + 1) (nI i) a_texts a_textLengths a_results a_draft po a_tokens a_first a_last a_starts a_ends a_candidates a_follow a_reach := by
  intro m
  induction m with
  | zero =>
    intro i po h16 hm hI
    rw [wX_addPostings_7]
    refine ⟨vp_in_nI hd (by omega), ?_⟩
    rw [nI_clamp (show d < 2 ^ 31 by omega), htl]
    refine br_t ?_ (K po (fun t e => (hI t e).trans (or_congr Iff.rfl (and_congr Iff.rfl ⟨fun ⟨j, _, b, c⟩ => ⟨j, b, c⟩, fun ⟨j, b, c⟩ => ⟨j, by omega, b, c⟩⟩))))
    rw [show nI i + 2 = nI (i + 2) from nI_add i 2]
    exact nI_le (by omega) (by omega)
  | succ m ih =>
    intro i po h16 hm hI
    rw [wX_addPostings_7]
    refine ⟨vp_in_nI hd (by omega), ?_⟩
    rw [nI_clamp (show d < 2 ^ 31 by omega), htl]
    rcases Nat.lt_or_ge (i + 2) T with z | z
    · refine br_f ?_ ?_
      · rw [show nI i + 2 = nI (i + 2) from nI_add i 2]
        exact nI_ge z (by omega)
      · rw [nI_add]
        refine wx_tri htx (by omega) ?_
        have ht := tg_tri_lt h6 (d * 16 + i)
        refine ⟨vp_in_nI ht (by omega), vp_in_nI ht (by omega), nm_e (nm_r (nI_1 i) (ih (i + 1) _ (by omega) (by omega) (fun t e => ?_)))⟩
        rw [nI_clamp (show tg_tri tx (d * 16 + i) < 2 ^ 31 by omega)]
        by_cases q : t = tg_tri tx (d * 16 + i)
        · subst q
          rw [pk_us, bt_set _ d (by omega), Bool.or_eq_true, hI, decide_eq_true_eq]
          constructor
          · intro y
            rcases y with (y | ⟨y, j, a, b, c⟩) | y
            · exact Or.inl y
            · exact Or.inr ⟨y, j, by omega, b, c⟩
            · exact Or.inr ⟨y, i, by omega, z, rfl⟩
          · intro y
            rcases y with y | ⟨y, j, a, b, c⟩
            · exact Or.inl (Or.inl y)
            · exact Or.inr y
        · rw [pk_un q, hI]
          constructor
          · intro y
            rcases y with y | ⟨y, j, a, b, c⟩
            · exact Or.inl y
            · exact Or.inr ⟨y, j, by omega, b, c⟩
          · intro y
            rcases y with y | ⟨y, j, a, b, c⟩
            · exact Or.inl y
            · refine Or.inr ⟨y, j, ?_, b, c⟩
              rcases Nat.lt_or_ge j i with w | w
              · exact w
              · exact absurd (by rw [← c, show j = i from by omega]) q
    · refine br_t ?_ (K po (fun t e => (hI t e).trans (or_congr Iff.rfl (and_congr Iff.rfl ⟨fun ⟨j, _, b, c⟩ => ⟨j, b, c⟩, fun ⟨j, b, c⟩ => ⟨j, by omega, b, c⟩⟩))))
      rw [show nI i + 2 = nI (i + 2) from nI_add i 2]
      exact nI_le z (by omega)
theorem wx_dropp {post : SX → Prop} {d : Nat} (hd : d < 12) (htl : a_textLengths d = nI T) (hT : T ≤ 16) (htx : ∀ j, a_texts j = nI (tx j)) (h6 : ∀ j, tx j < 6)
    (K : ∀ po : Nat → Int32, (∀ t e, bt (po t) e = true ↔ (bt (a_postings t) e = true ∧ ¬ (e = d ∧ ∃ i, i + 2 < T ∧ tg_tri tx (d * 16 + i) = t))) → post (f_slotCount, f_maxLength, f_letterCount, f_maxTokens, f_liveMask, f_draftLength, f_tokenCount, f_patternDepth, f_top, f_positions, a_texts, a_textLengths, a_results, a_draft, po, a_tokens, a_first, a_last, a_starts, a_ends, a_candidates, a_follow, a_reach)) :
    ∀ m i (po : Nat → Int32), i ≤ 16 → T ≤ i + 2 + m → (∀ t e, bt (po t) e = true ↔ (bt (a_postings t) e = true ∧ ¬ (e = d ∧ ∃ j, j < i ∧ j + 2 < T ∧ tg_tri tx (d * 16 + j) = t))) → wX_dropPostings_7 post (nI d) (nI (d * 16)) f_slotCount f_maxLength f_letterCount f_maxTokens f_liveMask f_draftLength f_tokenCount f_patternDepth f_top f_positions (m + 1) (nI i) a_texts a_textLengths a_results a_draft po a_tokens a_first a_last a_starts a_ends a_candidates a_follow a_reach := by
  intro m
  induction m with
  | zero =>
    intro i po h16 hm hI
    rw [wX_dropPostings_7]
    refine ⟨vp_in_nI hd (by omega), ?_⟩
    rw [nI_clamp (show d < 2 ^ 31 by omega), htl]
    refine br_t ?_ (K po (fun t e => (hI t e).trans (and_congr Iff.rfl (not_congr (and_congr Iff.rfl ⟨fun ⟨j, _, b, c⟩ => ⟨j, b, c⟩, fun ⟨j, b, c⟩ => ⟨j, by omega, b, c⟩⟩)))))
    rw [show nI i + 2 = nI (i + 2) from nI_add i 2]
    exact nI_le (by omega) (by omega)
  | succ m ih =>
    intro i po h16 hm hI
    rw [wX_dropPostings_7]
    refine ⟨vp_in_nI hd (by omega), ?_⟩
    rw [nI_clamp (show d < 2 ^ 31 by omega), htl]
    rcases Nat.lt_or_ge (i + 2) T with z | z
    · refine br_f ?_ ?_
      · rw [show nI i + 2 = nI (i + 2) from nI_add i 2]
        exact nI_ge z (by omega)
      · rw [nI_add]
        refine wx_tri htx (by omega) ?_
        have ht := tg_tri_lt h6 (d * 16 + i)
        refine ⟨vp_in_nI ht (by omega), vp_in_nI ht (by omega), nm_e (nm_r (nI_1 i) (ih (i + 1) _ (by omega) (by omega) (fun t e => ?_)))⟩
        rw [nI_clamp (show tg_tri tx (d * 16 + i) < 2 ^ 31 by omega)]
        by_cases q : t = tg_tri tx (d * 16 + i)
        · subst q
          rw [pk_us, bt_clr _ d (by omega), Bool.and_eq_true, hI, Bool.not_eq_true', decide_eq_false_iff_not]
          constructor
          · intro ⟨⟨y, w⟩, v⟩
            exact ⟨y, fun u => v u.1⟩
          · intro ⟨y, w⟩
            exact ⟨⟨y, fun u => w ⟨u.1, i, by omega, z, rfl⟩⟩, fun u => w ⟨u, i, by omega, z, rfl⟩⟩
        · rw [pk_un q, hI]
          refine and_congr Iff.rfl (not_congr (and_congr Iff.rfl ⟨fun ⟨j, a, b, c⟩ => ⟨j, by omega, b, c⟩, fun ⟨j, a, b, c⟩ => ⟨j, ?_, b, c⟩⟩))
          rcases Nat.lt_or_ge j i with w | w
          · exact w
          · exact absurd (by rw [← c, show j = i from by omega]) q
    · refine br_t ?_ (K po (fun t e => (hI t e).trans (and_congr Iff.rfl (not_congr (and_congr Iff.rfl ⟨fun ⟨j, _, b, c⟩ => ⟨j, b, c⟩, fun ⟨j, b, c⟩ => ⟨j, by omega, b, c⟩⟩)))))
      rw [show nI i + 2 = nI (i + 2) from nI_add i 2]
      exact nI_le z (by omega)
end
end
section
/-! the component's analysis: short strings, links, the trigram query -/
theorem wx_c76 (a : Nat) : (7 : Int32) + 6 * nI a = nI (7 + 6 * a) := by
  rw [show (6 : Int32) = nI 6 from rfl, pk_mul, show (7 : Int32) = nI 7 from rfl, nI_add]
theorem wx_63 {m : Int64} {k : Nat} (hk : k < 64) (h : (((m.toUInt64 >>> ((nI k).toInt64.toUInt64 &&& Int64.toUInt64 63)).toInt64) &&& 63) = 0) {b : Nat} (hb : b < 6) : qb m (k + b) = false := by
  have e : qb ((((m.toUInt64 >>> ((nI k).toInt64.toUInt64 &&& Int64.toUInt64 63)).toInt64) &&& 63)) b = false := by rw [h, qb_0]
  rw [qb_and, qb_ushr k hk, qb_63 b (by omega), decide_eq_true hb, Bool.and_true] at e
  exact e
theorem wx_63b {m : Int64} {k : Nat} (hk : k < 64) {b : Nat} (hb : b < 6) (h : qb m (k + b) = true) : bt ((((m.toUInt64 >>> ((nI k).toInt64.toUInt64 &&& Int64.toUInt64 63)).toInt64) &&& 63).toInt32) b = true := by
  rw [bt_tr _ (by omega), qb_and, qb_ushr k hk, qb_63 b (by omega), decide_eq_true hb, Bool.and_true]
  exact h
theorem wx_ow1 (w : Int64) : tg_Ow w ((((w.toUInt64 >>> ((1 : Int32).toInt64.toUInt64 &&& Int64.toUInt64 63)).toInt64) &&& 63).toInt32) :=
  fun a ha h => wx_63b (k := 1) (by omega) ha h
section
variable {f_slotCount f_maxLength f_letterCount f_maxTokens f_liveMask f_draftLength f_tokenCount f_patternDepth f_top f_positions : Int32} {a_texts a_textLengths a_results a_draft a_postings a_tokens a_first a_last a_candidates a_follow a_reach : Nat → Int32} {a_starts a_ends : Nat → Int64} {S T P : Nat} {tx tl dr tk : Nat → Nat}
theorem wx_ow {post : Int32 → Prop} {w : Int64} (K : ∀ r, tg_Ow w r → post r) : wpX_oneLetterWords post (f_slotCount, f_maxLength, f_letterCount, f_maxTokens, f_liveMask, f_draftLength, f_tokenCount, f_patternDepth, f_top, f_positions, a_texts, a_textLengths, a_results, a_draft, a_postings, a_tokens, a_first, a_last, a_starts, a_ends, a_candidates, a_follow, a_reach) w := K _ (wx_ow1 w)
theorem wx_fl {post : Int32 → Prop} {w : Int64} (K : ∀ r, tg_Fl w r → post r) : ∀ m a r, a + m = 6 → (∀ c, c < 6 → qb w (1 + c) = true → bt r c = true) → (∀ c, c < a → ∀ b, b < 6 → qb w (7 + 6 * c + b) = true → bt r c = true) → wX_firstLetters_12 post w f_slotCount f_maxLength f_letterCount f_maxTokens f_liveMask f_draftLength f_tokenCount f_patternDepth f_top f_positions a_texts a_textLengths a_results a_draft a_postings a_tokens a_first a_last a_starts a_ends a_candidates a_follow a_reach (m + 1) r (nI a) := by
  intro m
  induction m with
  | zero =>
    intro a r e h1 h2
    rw [wX_firstLetters_12]
    refine br_t (nI_le (a := 6) (by omega) (by omega)) (K r (fun c hc => ⟨h1 c hc, h2 c (by omega)⟩))
  | succ m ih =>
    intro a r e h1 h2
    rw [wX_firstLetters_12]
    dsimp only
    rw [wx_c76]
    refine br_f (nI_ge (b := 6) (by omega) (by omega)) (br_c (fun z => nm_r (nI_1 a) (ih (a + 1) r (by omega) h1 (fun c hc b hb q => ?_))) (fun z => nm_e (nm_r (nI_1 a) (ih (a + 1) _ (by omega) (fun c hc q => ?_) (fun c hc b hb q => ?_)))))
    · rcases Nat.lt_or_ge c a with y | y
      · exact h2 c y b hb q
      · have e1 : c = a := by omega
        subst e1
        rw [wx_63 (by omega) z hb] at q
        exact absurd q (by decide)
    · rw [bt_set _ a (by omega), h1 c hc q, Bool.true_or]
    · rw [bt_set _ a (by omega)]
      rcases Nat.lt_or_ge c a with y | y
      · rw [h2 c y b hb q, Bool.true_or]
      · rw [decide_eq_true (show c = a by omega), Bool.or_true]
theorem wx_firstLetters {post : Int32 → Prop} {w : Int64} (K : ∀ r, tg_Fl w r → post r) : wpX_firstLetters post (f_slotCount, f_maxLength, f_letterCount, f_maxTokens, f_liveMask, f_draftLength, f_tokenCount, f_patternDepth, f_top, f_positions, a_texts, a_textLengths, a_results, a_draft, a_postings, a_tokens, a_first, a_last, a_starts, a_ends, a_candidates, a_follow, a_reach) w :=
  nm_e ⟨7, wx_fl K 6 0 _ rfl (wx_ow1 w) (fun c hc => absurd hc (Nat.not_lt_zero c))⟩
theorem wx_ll {post : Int32 → Prop} {w : Int64} (K : ∀ r, tg_Ll w r → post r) : ∀ m a r, a + m = 6 → (∀ c, c < 6 → qb w (1 + c) = true → bt r c = true) → (∀ c, c < a → ∀ b, b < 6 → qb w (7 + 6 * c + b) = true → bt r b = true) → wX_lastLetters_12 post w f_slotCount f_maxLength f_letterCount f_maxTokens f_liveMask f_draftLength f_tokenCount f_patternDepth f_top f_positions a_texts a_textLengths a_results a_draft a_postings a_tokens a_first a_last a_starts a_ends a_candidates a_follow a_reach (m + 1) r (nI a) := by
  intro m
  induction m with
  | zero =>
    intro a r e h1 h2
    rw [wX_lastLetters_12]
    refine br_t (nI_le (a := 6) (by omega) (by omega)) (K r (fun b hb => ⟨h1 b hb, fun c hc => h2 c (by omega) b hb⟩))
  | succ m ih =>
    intro a r e h1 h2
    rw [wX_lastLetters_12]
    dsimp only
    rw [wx_c76]
    refine br_f (nI_ge (b := 6) (by omega) (by omega)) (nm_e (nm_r (nI_1 a) (ih (a + 1) _ (by omega) (fun c hc q => ?_) (fun c hc b hb q => ?_))))
    · rw [b_or, h1 c hc q, Bool.true_or]
    · rw [b_or]
      rcases Nat.lt_or_ge c a with y | y
      · rw [h2 c y b hb q, Bool.true_or]
      · have e1 : c = a := by omega
        subst e1
        rw [wx_63b (by omega) hb q, Bool.or_true]
theorem wx_lastLetters {post : Int32 → Prop} {w : Int64} (K : ∀ r, tg_Ll w r → post r) : wpX_lastLetters post (f_slotCount, f_maxLength, f_letterCount, f_maxTokens, f_liveMask, f_draftLength, f_tokenCount, f_patternDepth, f_top, f_positions, a_texts, a_textLengths, a_results, a_draft, a_postings, a_tokens, a_first, a_last, a_starts, a_ends, a_candidates, a_follow, a_reach) w :=
  nm_e ⟨7, wx_ll K 6 0 _ rfl (wx_ow1 w) (fun c hc => absurd hc (Nat.not_lt_zero c))⟩
theorem wx_pr {post : Int64 → Prop} {h t : Int32} (K : ∀ r, tg_Pr h t r → post r) : ∀ m a r, a + m = 6 → qb r 0 = false → (∀ c b, c < a → b < 6 → bt h c = true → bt t b = true → qb r (7 + 6 * c + b) = true) → wX_pairs_5 post h t f_slotCount f_maxLength f_letterCount f_maxTokens f_liveMask f_draftLength f_tokenCount f_patternDepth f_top f_positions a_texts a_textLengths a_results a_draft a_postings a_tokens a_first a_last a_starts a_ends a_candidates a_follow a_reach (m + 1) r (nI a) := by
  intro m
  induction m with
  | zero =>
    intro a r e h1 h2
    rw [wX_pairs_5]
    refine br_t (nI_le (a := 6) (by omega) (by omega)) (K r ⟨h1, fun c b hc => h2 c b (by omega)⟩)
  | succ m ih =>
    intro a r e h1 h2
    rw [wX_pairs_5]
    dsimp only
    rw [wx_c76]
    refine br_f (nI_ge (b := 6) (by omega) (by omega)) (bt_br a (by omega) (fun z => nm_r (nI_1 a) (ih (a + 1) r (by omega) h1 (fun c b hc hb q1 q2 => ?_))) (fun z => nm_e (nm_r (nI_1 a) (ih (a + 1) _ (by omega) ?_ (fun c b hc hb q1 q2 => ?_)))))
    · rcases Nat.lt_or_ge c a with y | y
      · exact h2 c b y hb q1 q2
      · have e1 : c = a := by omega
        subst e1
        rw [z] at q1
        exact absurd q1 (by decide)
    · rw [qb_or, h1, qb_shl _ (by omega) _ (by omega), decide_eq_false (by omega), Bool.false_and, Bool.or_false]
    · rw [qb_or]
      rcases Nat.lt_or_ge c a with y | y
      · rw [h2 c b y hb q1 q2, Bool.true_or]
      · have e1 : c = a := by omega
        subst e1
        rw [qb_shl _ (by omega) _ (by omega), decide_eq_true (by omega), Bool.true_and, show 7 + 6 * c + b - (7 + 6 * c) = b from by omega, qb_sx _ (by omega), q2, Bool.or_true]
theorem wx_pairs {post : Int64 → Prop} {h t : Int32} (K : ∀ r, tg_Pr h t r → post r) : wpX_pairs post (f_slotCount, f_maxLength, f_letterCount, f_maxTokens, f_liveMask, f_draftLength, f_tokenCount, f_patternDepth, f_top, f_positions, a_texts, a_textLengths, a_results, a_draft, a_postings, a_tokens, a_first, a_last, a_starts, a_ends, a_candidates, a_follow, a_reach) h t :=
  ⟨7, wx_pr K 6 0 0 rfl (qb_0 0) (fun c b hc => absurd hc (Nat.not_lt_zero c))⟩
theorem wx_ex7 (o : Int64) {i : Nat} (hi : i < 64) : qb (((o.toUInt64 >>> ((7 : Int32).toInt64.toUInt64 &&& Int64.toUInt64 63)).toInt64) <<< ((7 : Int32).toInt64 &&& 63)) i = (decide (7 ≤ i) && qb o i) := by
  have a := qb_shl 7 (by omega) ((o.toUInt64 >>> ((nI 7).toInt64.toUInt64 &&& Int64.toUInt64 63)).toInt64) hi
  rw [qb_ushr 7 (by omega)] at a
  rcases Nat.lt_or_ge i 7 with z | z
  · rw [decide_eq_false (by omega), Bool.false_and] at a ⊢
    exact a
  · rw [show 7 + (i - 7) = i from by omega] at a
    exact a
theorem wx_extend {post : Int64 → Prop} {o i : Int64} (K : ∀ r, tg_Ex o i r → post r) : wpX_extend post (f_slotCount, f_maxLength, f_letterCount, f_maxTokens, f_liveMask, f_draftLength, f_tokenCount, f_patternDepth, f_top, f_positions, a_texts, a_textLengths, a_results, a_draft, a_postings, a_tokens, a_first, a_last, a_starts, a_ends, a_candidates, a_follow, a_reach) o i := by
  have h0 : qb (((o.toUInt64 >>> ((7 : Int32).toInt64.toUInt64 &&& Int64.toUInt64 63)).toInt64) <<< ((7 : Int32).toInt64 &&& 63)) 0 = false := by
    rw [wx_ex7 o (by omega), decide_eq_false (by omega), Bool.false_and]
  have h7 : ∀ j, 7 ≤ j → qb o j = true → qb (((o.toUInt64 >>> ((7 : Int32).toInt64.toUInt64 &&& Int64.toUInt64 63)).toInt64) <<< ((7 : Int32).toInt64 &&& 63)) j = true := by
    intro j hj q
    rw [wx_ex7 o (qb_lt q), decide_eq_true hj, q]; rfl
  have hm : ∀ j, 1 ≤ j → j < 7 → qb o j = true → qb (o &&& 126) j = true := by
    intro j a b q
    rw [qb_and, q, qb_126 j (by omega), decide_eq_true ⟨a, b⟩]; rfl
  have hm0 : qb (o &&& 126) 0 = false := by
    rw [qb_and, qb_126 0 (by omega), decide_eq_false (by omega), Bool.and_false]
  have k1 : ∀ r, (qb r 0 = (qb o 0 && qb i 0)) → (∀ j, 7 ≤ j → qb o j = true → qb r j = true) → (qb o 0 = true → ∀ j, qb i j = true → qb r j = true) → wX_extend_23 post o i r f_slotCount f_maxLength f_letterCount f_maxTokens f_liveMask f_draftLength f_tokenCount f_patternDepth f_top f_positions a_texts a_textLengths a_results a_draft a_postings a_tokens a_first a_last a_starts a_ends a_candidates a_follow a_reach := by
    intro r r0 r7 ro
    refine qb_br1 (fun z => K r ⟨r0, r7, ro, fun y => ?_⟩) (fun z => nm_e (K _ ⟨?_, fun j a b => ?_, fun a j b => ?_, fun _ j a b c => ?_⟩))
    · rw [z] at y; exact absurd y (by decide)
    · rw [qb_or, r0, hm0, Bool.or_false]
    · rw [qb_or, r7 j a b, Bool.true_or]
    · rw [qb_or, ro a j b, Bool.true_or]
    · rw [qb_or, hm j a b c, Bool.or_true]
  refine nm_e (qb_br1 (fun z => k1 _ ?_ h7 (fun y => ?_)) (fun z => nm_e (k1 _ ?_ (fun j a b => ?_) (fun _ j b => ?_))))
  · rw [h0, z, Bool.false_and]
  · rw [z] at y; exact absurd y (by decide)
  · rw [qb_or, h0, z, Bool.false_or, Bool.true_and]
  · rw [qb_or, h7 j a b, Bool.true_or]
  · rw [qb_or, b, Bool.or_true]
/-! links -/
theorem wx_lk {post : SX → Prop} {f t : Int32} (hP : f_positions = nI P) (hP32 : P ≤ 32) (K : ∀ fo : Nat → Int32, (∀ q, q < P → fo q = if bt f q = true then a_follow q ||| t else a_follow q) → (∀ q, P ≤ q → fo q = a_follow q) → post (f_slotCount, f_maxLength, f_letterCount, f_maxTokens, f_liveMask, f_draftLength, f_tokenCount, f_patternDepth, f_top, f_positions, a_texts, a_textLengths, a_results, a_draft, a_postings, a_tokens, a_first, a_last, a_starts, a_ends, a_candidates, fo, a_reach)) :
    ∀ m q (fo : Nat → Int32), q + m = P → (∀ p, p < q → fo p = if bt f p = true then a_follow p ||| t else a_follow p) → (∀ p, q ≤ p → fo p = a_follow p) → wX_link_2 post f t f_slotCount f_maxLength f_letterCount f_maxTokens f_liveMask f_draftLength f_tokenCount f_patternDepth f_top f_positions (m + 1) (nI q) a_texts a_textLengths a_results a_draft a_postings a_tokens a_first a_last a_starts a_ends a_candidates fo a_reach := by
  intro m
  induction m with
  | zero =>
    intro q fo e h1 h2
    rw [wX_link_2]
    have e1 : q = P := by omega
    subst e1
    refine br_t ?_ (K fo h1 h2)
    rw [hP]; exact nI_le (Nat.le_refl _) (by omega)
  | succ m ih =>
    intro q fo e h1 h2
    rw [wX_link_2]
    dsimp only
    rw [nI_clamp (show q < 2 ^ 31 by omega)]
    refine br_f ?_ (bt_br q (by omega) (fun z => nm_r (nI_1 q) (ih (q + 1) fo (by omega) (fun p hp => ?_) (fun p hp => h2 p (by omega)))) (fun z => ⟨vp_in_nI (by omega) (by omega), vp_in_nI (by omega) (by omega), nm_e (nm_r (nI_1 q) (ih (q + 1) _ (by omega) (fun p hp => ?_) (fun p hp => ?_)))⟩))
    · rw [hP]; exact nI_ge (by omega) (by omega)
    · rcases Nat.lt_or_ge p q with y | y
      · exact h1 p y
      · have e1 : p = q := by omega
        subst e1
        rw [h2 p y, z, if_neg (by decide)]
    · rcases Nat.lt_or_ge p q with y | y
      · rw [pk_un (by omega)]; exact h1 p y
      · have e1 : p = q := by omega
        subst e1
        rw [pk_us, h2 p y, if_pos z]
    · rw [pk_un (by omega)]; exact h2 p (by omega)
theorem wx_link {post : SX → Prop} {f t : Int32} (hP : f_positions = nI P) (hP32 : P ≤ 32) (K : ∀ fo : Nat → Int32, (∀ q, q < P → fo q = if bt f q = true then a_follow q ||| t else a_follow q) → (∀ q, P ≤ q → fo q = a_follow q) → post (f_slotCount, f_maxLength, f_letterCount, f_maxTokens, f_liveMask, f_draftLength, f_tokenCount, f_patternDepth, f_top, f_positions, a_texts, a_textLengths, a_results, a_draft, a_postings, a_tokens, a_first, a_last, a_starts, a_ends, a_candidates, fo, a_reach)) : wpX_link post (f_slotCount, f_maxLength, f_letterCount, f_maxTokens, f_liveMask, f_draftLength, f_tokenCount, f_patternDepth, f_top, f_positions, a_texts, a_textLengths, a_results, a_draft, a_postings, a_tokens, a_first, a_last, a_starts, a_ends, a_candidates, a_follow, a_reach) f t :=
  ⟨P + 1, wx_lk hP hP32 K P 0 a_follow (by omega) (fun p hp => absurd hp (Nat.not_lt_zero p)) (fun p _ => rfl)⟩
/-! the trigram query -/
theorem wx_6 : ¬ (6 : Int32) = 0 := by decide
theorem wx_j85 {post : Int32 → Prop} {mk : Int32} {w v : Nat} (hw : w < 6) (hv : 7 ≤ v) (hv2 : v < 43) (K : ∀ r, (∀ d, bt r d = true ↔ (bt mk d = true ∧ bt (a_postings (w * 36 + (v - 7))) d = true)) → post r) : wX_joined_85 post (nI v) mk (nI w) f_slotCount f_maxLength f_letterCount f_maxTokens f_liveMask f_draftLength f_tokenCount f_patternDepth f_top f_positions a_texts a_textLengths a_results a_draft a_postings a_tokens a_first a_last a_starts a_ends a_candidates a_follow a_reach := by
  have e : nI w * 36 + (nI v - 7) = nI (w * 36 + (v - 7)) := by
    rw [show (36 : Int32) = nI 36 from rfl, pk_mul, show (7 : Int32) = nI 7 from rfl, pk_sub hv, nI_add]
  unfold wX_joined_85
  rw [e, nI_clamp (show w * 36 + (v - 7) < 2 ^ 31 by omega)]
  refine ⟨vp_in_nI (by omega) (by omega), nm_e (K _ (fun d => ?_))⟩
  rw [b_and, Bool.and_eq_true]
theorem wx_j55 {post : Int32 → Prop} {mk : Int32} {u v : Nat} (hu : u < 43) (hv : v < 43) (K : ∀ r, (∀ d, bt r d = true ↔ (bt mk d = true ∧ (1 ≤ u → 7 ≤ v → bt (a_postings (tg_ta u * 36 + (v - 7))) d = true))) → post r) : wX_joined_55 post (nI u) (nI v) mk f_slotCount f_maxLength f_letterCount f_maxTokens f_liveMask f_draftLength f_tokenCount f_patternDepth f_top f_positions a_texts a_textLengths a_results a_draft a_postings a_tokens a_first a_last a_starts a_ends a_candidates a_follow a_reach := by
  refine pk_lt u 1 (fun z => K mk (fun d => ⟨fun y => ⟨y, fun w => by omega⟩, fun y => y.1⟩)) (fun z => pk_lt v 7 (fun y => K mk (fun d => ⟨fun y => ⟨y, fun _ w => by omega⟩, fun y => y.1⟩)) (fun y => pk_le 7 u (fun w => ⟨wx_6, ?_⟩) (fun w => ?_)))
  · have e : (nI u - 7) - (nI u - 7) / 6 * 6 = nI (tg_ta u) := by
      rw [show (7 : Int32) = nI 7 from rfl, pk_sub w, show (6 : Int32) = nI 6 from rfl, pk_rem (by omega) (by omega) (by omega), tg_ta, if_neg (by omega)]
    rw [e]
    have hw : tg_ta u < 6 := by rw [tg_ta, if_neg (by omega)]; omega
    exact wx_j85 hw y hv (fun r hr => K r (fun d => (hr d).trans ⟨fun q => ⟨q.1, fun _ _ => q.2⟩, fun q => ⟨q.1, q.2 z y⟩⟩))
  · have e : nI u - 1 = nI (tg_ta u) := by
      rw [show (1 : Int32) = nI 1 from rfl, pk_sub z, tg_ta, if_pos (by omega)]
    rw [e]
    have hw : tg_ta u < 6 := by rw [tg_ta, if_pos (by omega)]; omega
    exact wx_j85 hw y hv (fun r hr => K r (fun d => (hr d).trans ⟨fun q => ⟨q.1, fun _ _ => q.2⟩, fun q => ⟨q.1, q.2 z y⟩⟩))
theorem wx_j35 {post : Int32 → Prop} {u v w : Nat} (hu : u < 43) (hu7 : 7 ≤ u) (hv : v < 43) (hv1 : 1 ≤ v) (hw : w < 6) (he : w = tg_hd v) (K : ∀ r, (∀ d, bt r d = true ↔ tg_jn f_liveMask a_postings u v d) → post r) : wX_joined_35 post (nI u) (nI v) f_liveMask (nI w) f_slotCount f_maxLength f_letterCount f_maxTokens f_liveMask f_draftLength f_tokenCount f_patternDepth f_top f_positions a_texts a_textLengths a_results a_draft a_postings a_tokens a_first a_last a_starts a_ends a_candidates a_follow a_reach := by
  have e : (nI u - 7) * 6 + nI w = nI ((u - 7) * 6 + w) := by
    rw [show (7 : Int32) = nI 7 from rfl, pk_sub hu7, show (6 : Int32) = nI 6 from rfl, pk_mul, nI_add]
  unfold wX_joined_35
  rw [e, nI_clamp (show (u - 7) * 6 + w < 2 ^ 31 by omega)]
  refine ⟨vp_in_nI (by omega) (by omega), nm_e (wx_j55 hu hv (fun r hr => K r (fun d => ?_)))⟩
  rw [hr d, b_and, Bool.and_eq_true, tg_jn, he]
  exact ⟨fun q => ⟨q.1.1, fun _ _ => q.1.2, q.2⟩, fun q => ⟨⟨q.1, q.2.1 hu7 hv1⟩, q.2.2⟩⟩
theorem wx_joined {post : Int32 → Prop} {u v : Nat} (hu : u < 43) (hv : v < 43) (K : ∀ r, (∀ d, bt r d = true ↔ tg_jn f_liveMask a_postings u v d) → post r) : wpX_joined post (f_slotCount, f_maxLength, f_letterCount, f_maxTokens, f_liveMask, f_draftLength, f_tokenCount, f_patternDepth, f_top, f_positions, a_texts, a_textLengths, a_results, a_draft, a_postings, a_tokens, a_first, a_last, a_starts, a_ends, a_candidates, a_follow, a_reach) (nI u) (nI v) := by
  have k1 : ¬ (7 ≤ u ∧ 1 ≤ v) → wX_joined_55 post (nI u) (nI v) f_liveMask f_slotCount f_maxLength f_letterCount f_maxTokens f_liveMask f_draftLength f_tokenCount f_patternDepth f_top f_positions a_texts a_textLengths a_results a_draft a_postings a_tokens a_first a_last a_starts a_ends a_candidates a_follow a_reach := fun z => wx_j55 hu hv (fun r hr => K r (fun d => (hr d).trans ⟨fun q => ⟨q.1, fun a b => absurd ⟨a, b⟩ z, q.2⟩, fun q => ⟨q.1, q.2.2⟩⟩))
  refine pk_lt u 7 (fun z => k1 (by omega)) (fun z => pk_lt v 1 (fun y => k1 (by omega)) (fun y => pk_le 7 v (fun w => ⟨wx_6, ?_⟩) (fun w => ?_)))
  · have e : (nI v - 7) / 6 = nI (tg_hd v) := by
      rw [show (7 : Int32) = nI 7 from rfl, pk_sub w, show (6 : Int32) = nI 6 from rfl, pk_div (by omega) (by omega) (by omega), tg_hd, if_neg (by omega)]
    rw [e]
    have hw : tg_hd v < 6 := by rw [tg_hd, if_neg (by omega)]; omega
    exact wx_j35 hu z hv y hw rfl K
  · have e : nI v - 1 = nI (tg_hd v) := by
      rw [show (1 : Int32) = nI 1 from rfl, pk_sub y, tg_hd, if_pos (by omega)]
    rw [e]
    have hw : tg_hd v < 6 := by rw [tg_hd, if_pos (by omega)]; omega
    exact wx_j35 hu z hv y hw rfl K
theorem wx_ac {post : Int32 → Prop} {w : Int64} {u : Nat} (hu : u < 43) (K : ∀ r, (∀ v, v < 43 → qb w v = true → ∀ d, tg_jn f_liveMask a_postings u v d → bt r d = true) → post r) : ∀ m v r, v + m = 43 → (∀ c, c < v → qb w c = true → ∀ d, tg_jn f_liveMask a_postings u c d → bt r d = true) → wX_across_6 post (nI u) w f_slotCount f_maxLength f_letterCount f_maxTokens f_liveMask f_draftLength f_tokenCount f_patternDepth f_top f_positions a_texts a_textLengths a_results a_draft a_postings a_tokens a_first a_last a_starts a_ends a_candidates a_follow a_reach (m + 1) r (nI v) := by
  intro m
  induction m with
  | zero =>
    intro v r e h
    rw [wX_across_6]
    exact br_t (nI_le (a := 43) (by omega) (by omega)) (K r (fun c hc => h c (by omega)))
  | succ m ih =>
    intro v r e h
    rw [wX_across_6]
    refine br_f (nI_ge (b := 43) (by omega) (by omega)) (br_c (fun z => K r (fun c _ _ d hj => ?_)) (fun z => qb_br v (by omega) (fun y => nm_r (nI_1 v) (ih (v + 1) r (by omega) (fun c hc q => ?_))) (fun y => wx_joined hu (by omega) (fun r2 hr => nm_e (nm_r (nI_1 v) (ih (v + 1) _ (by omega) (fun c hc q d hj => ?_)))))))
    · rw [z]; exact hj.1
    · rcases Nat.lt_or_ge c v with x | x
      · exact h c x q
      · rw [show c = v from by omega, y] at q
        exact absurd q (by decide)
    · rw [b_or]
      rcases Nat.lt_or_ge c v with x | x
      · rw [h c x q d hj, Bool.true_or]
      · rw [show c = v from by omega] at hj
        rw [(hr d).mpr hj, Bool.or_true]
theorem wx_across {post : Int32 → Prop} {w : Int64} {u : Nat} (hu : u < 43) (K : ∀ r, (∀ v, v < 43 → qb w v = true → ∀ d, tg_jn f_liveMask a_postings u v d → bt r d = true) → post r) : wpX_across post (f_slotCount, f_maxLength, f_letterCount, f_maxTokens, f_liveMask, f_draftLength, f_tokenCount, f_patternDepth, f_top, f_positions, a_texts, a_textLengths, a_results, a_draft, a_postings, a_tokens, a_first, a_last, a_starts, a_ends, a_candidates, a_follow, a_reach) (nI u) w :=
  ⟨44, wx_ac hu K 43 0 0 rfl (fun c hc => absurd hc (Nat.not_lt_zero c))⟩
theorem wx_jc {post : Int32 → Prop} {x : Nat} (hx : x + 1 < 12) {wi : Int32} (K : ∀ r, (∀ d, bt wi d = true → ∀ u v, u < 43 → v < 43 → qb (a_ends x) u = true → qb (a_starts (x + 1)) v = true → tg_jn f_liveMask a_postings u v d → bt r d = true) → post r) : ∀ m u r, u + m = 43 → (∀ d, bt wi d = true → ∀ c v, c < u → v < 43 → qb (a_ends x) c = true → qb (a_starts (x + 1)) v = true → tg_jn f_liveMask a_postings c v d → bt r d = true) → wX_junction_20 post (nI x) (nI (x + 1)) wi f_slotCount f_maxLength f_letterCount f_maxTokens f_liveMask f_draftLength f_tokenCount f_patternDepth f_top f_positions a_texts a_textLengths a_results a_draft a_postings a_tokens a_first a_last a_starts a_ends a_candidates a_follow a_reach (m + 1) r (nI u) := by
  intro m
  induction m with
  | zero =>
    intro u r e h
    rw [wX_junction_20]
    exact br_t (nI_le (a := 43) (by omega) (by omega)) (K r (fun d hd c v hc => h d hd c v (by omega)))
  | succ m ih =>
    intro u r e h
    rw [wX_junction_20]
    dsimp only
    rw [nI_clamp (show x < 2 ^ 31 by omega), nI_clamp (show x + 1 < 2 ^ 31 by omega)]
    refine br_f (nI_ge (b := 43) (by omega) (by omega)) (br_c (fun z => K r (fun d hd _ _ _ _ _ _ _ => ?_)) (fun z => ⟨vp_in_nI (by omega) (by omega), qb_br u (by omega) (fun y => nm_r (nI_1 u) (ih (u + 1) r (by omega) (fun d hd c v hc hv q1 q2 hj => ?_))) (fun y => ⟨vp_in_nI (by omega) (by omega), wx_across (by omega) (fun r2 hr => nm_e (nm_r (nI_1 u) (ih (u + 1) _ (by omega) (fun d hd c v hc hv q1 q2 hj => ?_))))⟩)⟩))
    · rw [z]; exact hd
    · rcases Nat.lt_or_ge c u with w | w
      · exact h d hd c v w hv q1 q2 hj
      · rw [show c = u from by omega, y] at q1
        exact absurd q1 (by decide)
    · rw [b_or, b_and, hd, Bool.true_and]
      rcases Nat.lt_or_ge c u with w | w
      · rw [h d hd c v w hv q1 q2 hj, Bool.true_or]
      · rw [show c = u from by omega] at hj
        rw [hr v hv q2 d hj, Bool.or_true]
theorem wx_junction {post : Int32 → Prop} {x : Nat} (hx : x + 1 < 12) (K : ∀ r, tg_Jc f_liveMask a_postings (a_candidates x) (a_candidates (x + 1)) (a_ends x) (a_starts (x + 1)) r → post r) : wpX_junction post (f_slotCount, f_maxLength, f_letterCount, f_maxTokens, f_liveMask, f_draftLength, f_tokenCount, f_patternDepth, f_top, f_positions, a_texts, a_textLengths, a_results, a_draft, a_postings, a_tokens, a_first, a_last, a_starts, a_ends, a_candidates, a_follow, a_reach) (nI x) (nI (x + 1)) := by
  unfold wpX_junction
  dsimp only
  rw [nI_clamp (show x < 2 ^ 31 by omega), nI_clamp (show x + 1 < 2 ^ 31 by omega)]
  refine ⟨vp_in_nI (by omega) (by omega), vp_in_nI (by omega) (by omega), nm_e ⟨44, wx_jc hx (fun r hr => K r (fun d h1 h2 u v hu hv q1 q2 hj => hr d ?_ u v hu hv q1 q2 hj)) 43 0 0 rfl (fun d _ c v hc => absurd hc (Nat.not_lt_zero c))⟩⟩
  rw [b_and, h1, h2]; rfl
end
end
section
/-! the component's compiler of patterns: each token does to the stack what the stack of languages says -/
section
variable {f_slotCount f_maxLength f_letterCount f_maxTokens f_liveMask f_draftLength f_tokenCount f_patternDepth f_top f_positions : Int32} {a_texts a_textLengths a_results a_draft a_postings a_tokens a_first a_last a_candidates a_follow a_reach : Nat → Int32} {a_starts a_ends : Nat → Int64} {S T P D i : Nat} {tx tl dr tk bo : Nat → Nat}
theorem wx_pl {post : SX → Prop} (hD : f_top = nI D) (hD12 : D < 12) {p : Int32} {w : Int64} (h : post (f_slotCount, f_maxLength, f_letterCount, f_maxTokens, f_liveMask, f_draftLength, f_tokenCount, f_patternDepth, nI (D + 1), f_positions, a_texts, a_textLengths, a_results, a_draft, a_postings, a_tokens, upd a_first D p, upd a_last D p, vp_updL a_starts D w, vp_updL a_ends D w, upd a_candidates D f_liveMask, a_follow, a_reach)) : wpX_pushLeaf post (f_slotCount, f_maxLength, f_letterCount, f_maxTokens, f_liveMask, f_draftLength, f_tokenCount, f_patternDepth, f_top, f_positions, a_texts, a_textLengths, a_results, a_draft, a_postings, a_tokens, a_first, a_last, a_starts, a_ends, a_candidates, a_follow, a_reach) p w := by
  subst hD
  unfold wpX_pushLeaf
  dsimp only
  rw [nI_clamp (show D < 2 ^ 31 by omega)]
  have v : vp_in (nI D) 12 := vp_in_nI hD12 (by omega)
  exact ⟨v, nm_e ⟨v, nm_e ⟨v, nm_e ⟨v, nm_e ⟨v, nm_e (nm_r (nI_1 D) h)⟩⟩⟩⟩⟩
theorem wx_psl {post : SX → Prop} (hD : f_top = nI D) (hD12 : D < 12) {x1 B : Int32} (K : ∀ rc : Nat → Int32, (∀ c, c < 6 → rc c = if bt x1 c = true then a_reach c ||| B else a_reach c) → post (f_slotCount, f_maxLength, f_letterCount, f_maxTokens, f_liveMask, f_draftLength, f_tokenCount, f_patternDepth, nI (D + 1), f_positions, a_texts, a_textLengths, a_results, a_draft, a_postings, a_tokens, upd a_first D B, upd a_last D B, vp_updL a_starts D (x1.toInt64 <<< ((1 : Int32).toInt64 &&& 63)), vp_updL a_ends D (x1.toInt64 <<< ((1 : Int32).toInt64 &&& 63)), upd a_candidates D f_liveMask, a_follow, rc)) :
    ∀ m c (rc : Nat → Int32), c + m = 6 → (∀ e, e < c → rc e = if bt x1 e = true then a_reach e ||| B else a_reach e) → (∀ e, c ≤ e → rc e = a_reach e) → wX_pushSymbol_29 post x1 B f_slotCount f_maxLength f_letterCount f_maxTokens f_liveMask f_draftLength f_tokenCount f_patternDepth f_top f_positions (m + 1) (nI c) a_texts a_textLengths a_results a_draft a_postings a_tokens a_first a_last a_starts a_ends a_candidates a_follow rc := by
  intro m
  induction m with
  | zero =>
    intro c rc e h1 h2
    rw [wX_pushSymbol_29]
    exact br_t (nI_le (a := 6) (by omega) (by omega)) (nm_e (wx_pl hD hD12 (K rc (fun e he => h1 e (by omega)))))
  | succ m ih =>
    intro c rc e h1 h2
    rw [wX_pushSymbol_29]
    dsimp only
    rw [nI_clamp (show c < 2 ^ 31 by omega)]
    refine br_f (nI_ge (b := 6) (by omega) (by omega)) (bt_br c (by omega) (fun z => nm_r (nI_1 c) (ih (c + 1) rc (by omega) (fun p hp => ?_) (fun p hp => h2 p (by omega)))) (fun z => ⟨vp_in_nI (by omega) (by omega), vp_in_nI (by omega) (by omega), nm_e (nm_r (nI_1 c) (ih (c + 1) _ (by omega) (fun p hp => ?_) (fun p hp => ?_)))⟩))
    · rcases Nat.lt_or_ge p c with y | y
      · exact h1 p y
      · have e1 : p = c := by omega
        subst e1
        rw [h2 p y, z, if_neg (by decide)]
    · rcases Nat.lt_or_ge p c with y | y
      · rw [pk_un (by omega)]; exact h1 p y
      · have e1 : p = c := by omega
        subst e1
        rw [pk_us, h2 p y, if_pos z]
    · rw [pk_un (by omega)]; exact h2 p (by omega)
theorem wx_pushSymbol {post : SX → Prop} (hD : f_top = nI D) (hD12 : D < 12) (hP : f_positions = nI P) (hP32 : P < 32) {x1 : Int32} (K : ∀ (B : Int32) (rc : Nat → Int32), (∀ p, bt B p = true ↔ p = P) → (∀ c, c < 6 → rc c = if bt x1 c = true then a_reach c ||| B else a_reach c) → post (f_slotCount, f_maxLength, f_letterCount, f_maxTokens, f_liveMask, f_draftLength, f_tokenCount, f_patternDepth, nI (D + 1), nI (P + 1), a_texts, a_textLengths, a_results, a_draft, a_postings, a_tokens, upd a_first D B, upd a_last D B, vp_updL a_starts D (x1.toInt64 <<< ((1 : Int32).toInt64 &&& 63)), vp_updL a_ends D (x1.toInt64 <<< ((1 : Int32).toInt64 &&& 63)), upd a_candidates D f_liveMask, upd a_follow P 0, rc)) : wpX_pushSymbol post (f_slotCount, f_maxLength, f_letterCount, f_maxTokens, f_liveMask, f_draftLength, f_tokenCount, f_patternDepth, f_top, f_positions, a_texts, a_textLengths, a_results, a_draft, a_postings, a_tokens, a_first, a_last, a_starts, a_ends, a_candidates, a_follow, a_reach) x1 := by
  subst hP
  unfold wpX_pushSymbol
  dsimp only
  rw [nI_clamp (show P < 2 ^ 31 by omega)]
  refine nm_e ⟨vp_in_nI hP32 (by omega), nm_e (nm_r (nI_1 P) ⟨7, wx_psl hD hD12 (K _ · (fun p => ?_)) 6 0 a_reach rfl (fun e he => absurd he (Nat.not_lt_zero e)) (fun e _ => rfl)⟩)⟩
  rw [bt_sh P hP32, decide_eq_true_eq]
/-! a token at a time -/
theorem wx_ap_sym {post : SX → Prop} (H : tg_St f_liveMask tx tl tk i P bo a_first a_last a_starts a_ends a_candidates a_follow a_reach) (hok : tg_ok tk i) (hi : i < 32) (ht : tk i < 64) (hD : f_top = nI (tg_dp tk i)) (hP : f_positions = nI P) (K : ∀ (P' : Nat) (bo' : Nat → Nat) (fi' la' : Nat → Int32) (st' en' : Nat → Int64) (cd' fo' rc' : Nat → Int32), tg_St f_liveMask tx tl tk (i + 1) P' bo' fi' la' st' en' cd' fo' rc' → post (f_slotCount, f_maxLength, f_letterCount, f_maxTokens, f_liveMask, f_draftLength, f_tokenCount, f_patternDepth, nI (tg_dp tk (i + 1)), nI P', a_texts, a_textLengths, a_results, a_draft, a_postings, a_tokens, fi', la', st', en', cd', fo', rc')) : wpX_pushSymbol post (f_slotCount, f_maxLength, f_letterCount, f_maxTokens, f_liveMask, f_draftLength, f_tokenCount, f_patternDepth, f_top, f_positions, a_texts, a_textLengths, a_results, a_draft, a_postings, a_tokens, a_first, a_last, a_starts, a_ends, a_candidates, a_follow, a_reach) (nI (tk i)) := by
  have h1 := H.2.2.2
  refine wx_pushSymbol hD (hok.2.2.1 (by omega)) hP (by omega) (fun B rc hB hrc => ?_)
  have q0 : qb ((nI (tk i)).toInt64 <<< ((1 : Int32).toInt64 &&& 63)) 0 = false := by
    have e := qb_shl 1 (by omega) (nI (tk i)).toInt64 (i := 0) (by omega)
    rw [decide_eq_false (by omega), Bool.false_and] at e
    exact e
  have q1 : ∀ a, a < 6 → (tk i).testBit a = true → qb ((nI (tk i)).toInt64 <<< ((1 : Int32).toInt64 &&& 63)) (1 + a) = true := by
    intro a ha hb
    have e := qb_shl 1 (by omega) (nI (tk i)).toInt64 (i := 1 + a) (by omega)
    rw [decide_eq_true (by omega), Bool.true_and, show 1 + a - 1 = a from by omega, qb_sx _ (by omega), bt_nI _ (by omega), hb] at e
    exact e
  obtain ⟨bo', H'⟩ := tg_st_sym (fi' := upd a_first (tg_dp tk i) B) (la' := upd a_last (tg_dp tk i) B) (st' := vp_updL a_starts (tg_dp tk i) ((nI (tk i)).toInt64 <<< ((1 : Int32).toInt64 &&& 63))) (en' := vp_updL a_ends (tg_dp tk i) ((nI (tk i)).toInt64 <<< ((1 : Int32).toInt64 &&& 63))) (cd' := upd a_candidates (tg_dp tk i) f_liveMask) (fo' := upd a_follow P 0) (rc' := rc) H ht hB q1 q0 (fun k hk => pk_un (by omega)) (fun k hk => pk_un (by omega)) (fun k hk => pk_uLn (by omega)) (fun k hk => pk_uLn (by omega)) (fun k hk => pk_un (by omega)) pk_us pk_us pk_uLs pk_uLs pk_us (fun q hq => pk_un (by omega)) pk_us (fun c hc => by rw [hrc c hc, bt_nI c (by omega)])
  have r := K _ _ _ _ _ _ _ _ _ H'
  rw [tg_dp_leaf (by omega)] at r
  exact r
theorem wx_ap_eps {post : SX → Prop} (H : tg_St f_liveMask tx tl tk i P bo a_first a_last a_starts a_ends a_candidates a_follow a_reach) (hok : tg_ok tk i) (ht : tk i = 64) (hD : f_top = nI (tg_dp tk i)) (hP : f_positions = nI P) (K : ∀ (P' : Nat) (bo' : Nat → Nat) (fi' la' : Nat → Int32) (st' en' : Nat → Int64) (cd' fo' rc' : Nat → Int32), tg_St f_liveMask tx tl tk (i + 1) P' bo' fi' la' st' en' cd' fo' rc' → post (f_slotCount, f_maxLength, f_letterCount, f_maxTokens, f_liveMask, f_draftLength, f_tokenCount, f_patternDepth, nI (tg_dp tk (i + 1)), nI P', a_texts, a_textLengths, a_results, a_draft, a_postings, a_tokens, fi', la', st', en', cd', fo', rc')) : wpX_pushLeaf post (f_slotCount, f_maxLength, f_letterCount, f_maxTokens, f_liveMask, f_draftLength, f_tokenCount, f_patternDepth, f_top, f_positions, a_texts, a_textLengths, a_results, a_draft, a_postings, a_tokens, a_first, a_last, a_starts, a_ends, a_candidates, a_follow, a_reach) 0 1 := by
  refine wx_pl hD (hok.2.2.1 (by omega)) ?_
  obtain ⟨bo', H'⟩ := tg_st_eps (fi' := upd a_first (tg_dp tk i) 0) (la' := upd a_last (tg_dp tk i) 0) (st' := vp_updL a_starts (tg_dp tk i) 1) (en' := vp_updL a_ends (tg_dp tk i) 1) (cd' := upd a_candidates (tg_dp tk i) f_liveMask) H ht (fun k hk => pk_un (by omega)) (fun k hk => pk_un (by omega)) (fun k hk => pk_uLn (by omega)) (fun k hk => pk_uLn (by omega)) (fun k hk => pk_un (by omega)) pk_us pk_us pk_uLs pk_uLs pk_us
  have r := K _ _ _ _ _ _ _ _ _ H'
  rw [tg_dp_leaf (by omega), ← hP] at r
  exact r
/-! one behind the other -/
theorem wx_c123 {post : SX → Prop} {x : Nat} (hx : x + 1 < 12) (K : ∀ (r hd ta o1 o2 : Int32) (xs xe sp ep : Int64), tg_Jc f_liveMask a_postings (a_candidates x) (a_candidates (x + 1)) (a_ends x) (a_starts (x + 1)) r → tg_Fl (a_starts (x + 1)) hd → tg_Ll (a_ends x) ta → tg_Ow (a_starts x) o1 → tg_Ow (a_ends (x + 1)) o2 → tg_Pr o1 hd sp → tg_Pr ta o2 ep → tg_Ex (a_starts x) (a_starts (x + 1)) xs → tg_Ex (a_ends (x + 1)) (a_ends x) xe → post (f_slotCount, f_maxLength, f_letterCount, f_maxTokens, f_liveMask, f_draftLength, f_tokenCount, f_patternDepth, f_top - 1, f_positions, a_texts, a_textLengths, a_results, a_draft, a_postings, a_tokens, a_first, a_last, vp_updL a_starts x (xs ||| sp), vp_updL a_ends x (xe ||| ep), upd a_candidates x r, a_follow, a_reach)) : wX_concatenate_123 post (nI x) (nI (x + 1)) f_slotCount f_maxLength f_letterCount f_maxTokens f_liveMask f_draftLength f_tokenCount f_patternDepth f_top f_positions a_texts a_textLengths a_results a_draft a_postings a_tokens a_first a_last a_starts a_ends a_candidates a_follow a_reach := by
  unfold wX_concatenate_123
  rw [nI_clamp (show x < 2 ^ 31 by omega), nI_clamp (show x + 1 < 2 ^ 31 by omega)]
  have v1 : vp_in (nI x) 12 := vp_in_nI (by omega) (by omega)
  have v2 : vp_in (nI (x + 1)) 12 := vp_in_nI (by omega) (by omega)
  refine wx_junction hx (fun r hJ => ⟨v1, nm_e ⟨v2, wx_firstLetters (fun hd hh => ⟨v1, wx_lastLetters (fun ta hta => ⟨v1, wx_ow (fun o1 h1 => wx_pairs (fun sp hp => ⟨v2, wx_ow (fun o2 h2 => wx_pairs (fun ep hq => ⟨v1, v2, wx_extend (fun xs x1 => ⟨v1, nm_e ⟨v2, v1, wx_extend (fun xe x2 => ⟨v1, nm_e (nm_e ?_)⟩)⟩⟩)⟩))⟩))⟩)⟩)⟩⟩)
  exact K r hd ta o1 o2 xs xe sp ep hJ hh hta h1 h2 hp hq x1 x2
theorem wx_c51 {post : SX → Prop} {x : Nat} (hx : x + 1 < 12) (hP : f_positions = nI P) (hP32 : P ≤ 32) {b1 b2 : Int32} (h1 : (b1 = 0 ∧ qb (a_starts x) 0 = false) ∨ (b1 = 1 ∧ qb (a_starts x) 0 = true)) (h2 : (b2 = 0 ∧ qb (a_starts (x + 1)) 0 = false) ∨ (b2 = 1 ∧ qb (a_starts (x + 1)) 0 = true)) (K : ∀ (fi' la' : Nat → Int32) (r hd ta o1 o2 : Int32) (xs xe sp ep : Int64) (fo : Nat → Int32), (∀ k, k < x → fi' k = a_first k) → (∀ k, k < x → la' k = a_last k) → (fi' x = if qb (a_starts x) 0 = true then a_first x ||| a_first (x + 1) else a_first x) → (la' x = if qb (a_starts (x + 1)) 0 = true then a_last x ||| a_last (x + 1) else a_last (x + 1)) → tg_Jc f_liveMask a_postings (a_candidates x) (a_candidates (x + 1)) (a_ends x) (a_starts (x + 1)) r → tg_Fl (a_starts (x + 1)) hd → tg_Ll (a_ends x) ta → tg_Ow (a_starts x) o1 → tg_Ow (a_ends (x + 1)) o2 → tg_Pr o1 hd sp → tg_Pr ta o2 ep → tg_Ex (a_starts x) (a_starts (x + 1)) xs → tg_Ex (a_ends (x + 1)) (a_ends x) xe → (∀ q, q < P → fo q = if bt (a_last x) q = true then a_follow q ||| a_first (x + 1) else a_follow q) → (∀ q, P ≤ q → fo q = a_follow q) → post (f_slotCount, f_maxLength, f_letterCount, f_maxTokens, f_liveMask, f_draftLength, f_tokenCount, f_patternDepth, f_top - 1, f_positions, a_texts, a_textLengths, a_results, a_draft, a_postings, a_tokens, fi', la', vp_updL a_starts x (xs ||| sp), vp_updL a_ends x (xe ||| ep), upd a_candidates x r, fo, a_reach)) : wX_concatenate_51 post (nI x) (nI (x + 1)) b1 b2 f_slotCount f_maxLength f_letterCount f_maxTokens f_liveMask f_draftLength f_tokenCount f_patternDepth f_top f_positions a_texts a_textLengths a_results a_draft a_postings a_tokens a_first a_last a_starts a_ends a_candidates a_follow a_reach := by
  unfold wX_concatenate_51
  rw [nI_clamp (show x < 2 ^ 31 by omega), nI_clamp (show x + 1 < 2 ^ 31 by omega)]
  have v1 : vp_in (nI x) 12 := vp_in_nI (by omega) (by omega)
  have v2 : vp_in (nI (x + 1)) 12 := vp_in_nI (by omega) (by omega)
  refine ⟨v1, v2, wx_link hP hP32 (fun fo f1 f2 => ?_)⟩
  have k1 : ∀ fi' : Nat → Int32, (∀ k, k < x → fi' k = a_first k) → (fi' x = if qb (a_starts x) 0 = true then a_first x ||| a_first (x + 1) else a_first x) → wX_concatenate_88 post (nI x) (nI (x + 1)) b2 f_slotCount f_maxLength f_letterCount f_maxTokens f_liveMask f_draftLength f_tokenCount f_patternDepth f_top f_positions a_texts a_textLengths a_results a_draft a_postings a_tokens fi' a_last a_starts a_ends a_candidates fo a_reach := by
    intro fi' g1 g2
    unfold wX_concatenate_88
    rw [nI_clamp (show x < 2 ^ 31 by omega), nI_clamp (show x + 1 < 2 ^ 31 by omega)]
    rcases h2 with ⟨e, z⟩ | ⟨e, z⟩
    · refine br_t e ⟨v2, v1, nm_e (wx_c123 hx (fun r hd ta o1 o2 xs xe sp ep hJ hh hta ho1 ho2 hp hq x1 x2 => ?_))⟩
      refine K fi' _ r hd ta o1 o2 xs xe sp ep fo g1 (fun k hk => pk_un (by omega)) g2 ?_ hJ hh hta ho1 ho2 hp hq x1 x2 f1 f2
      rw [pk_us, z, if_neg (by decide)]
    · refine br_f (by rw [e]; decide) ⟨v1, v2, v1, nm_e (wx_c123 hx (fun r hd ta o1 o2 xs xe sp ep hJ hh hta ho1 ho2 hp hq x1 x2 => ?_))⟩
      refine K fi' _ r hd ta o1 o2 xs xe sp ep fo g1 (fun k hk => pk_un (by omega)) g2 ?_ hJ hh hta ho1 ho2 hp hq x1 x2 f1 f2
      rw [pk_us, if_pos z]
  rcases h1 with ⟨e, z⟩ | ⟨e, z⟩
  · refine br_t e (k1 a_first (fun _ _ => rfl) ?_)
    rw [z, if_neg (by decide)]
  · refine br_f (by rw [e]; decide) ⟨v1, v2, v1, nm_e (k1 _ (fun k hk => pk_un (by omega)) ?_)⟩
    rw [pk_us, if_pos z]
theorem wx_concatenate {post : SX → Prop} {x : Nat} (hx : x + 1 < 12) (hD : f_top = nI (x + 2)) (hP : f_positions = nI P) (hP32 : P ≤ 32) (K : ∀ (fi' la' : Nat → Int32) (r hd ta o1 o2 : Int32) (xs xe sp ep : Int64) (fo : Nat → Int32), (∀ k, k < x → fi' k = a_first k) → (∀ k, k < x → la' k = a_last k) → (fi' x = if qb (a_starts x) 0 = true then a_first x ||| a_first (x + 1) else a_first x) → (la' x = if qb (a_starts (x + 1)) 0 = true then a_last x ||| a_last (x + 1) else a_last (x + 1)) → tg_Jc f_liveMask a_postings (a_candidates x) (a_candidates (x + 1)) (a_ends x) (a_starts (x + 1)) r → tg_Fl (a_starts (x + 1)) hd → tg_Ll (a_ends x) ta → tg_Ow (a_starts x) o1 → tg_Ow (a_ends (x + 1)) o2 → tg_Pr o1 hd sp → tg_Pr ta o2 ep → tg_Ex (a_starts x) (a_starts (x + 1)) xs → tg_Ex (a_ends (x + 1)) (a_ends x) xe → (∀ q, q < P → fo q = if bt (a_last x) q = true then a_follow q ||| a_first (x + 1) else a_follow q) → (∀ q, P ≤ q → fo q = a_follow q) → post (f_slotCount, f_maxLength, f_letterCount, f_maxTokens, f_liveMask, f_draftLength, f_tokenCount, f_patternDepth, f_top - 1, f_positions, a_texts, a_textLengths, a_results, a_draft, a_postings, a_tokens, fi', la', vp_updL a_starts x (xs ||| sp), vp_updL a_ends x (xe ||| ep), upd a_candidates x r, fo, a_reach)) : wpX_concatenate post (f_slotCount, f_maxLength, f_letterCount, f_maxTokens, f_liveMask, f_draftLength, f_tokenCount, f_patternDepth, f_top, f_positions, a_texts, a_textLengths, a_results, a_draft, a_postings, a_tokens, a_first, a_last, a_starts, a_ends, a_candidates, a_follow, a_reach) := by
  unfold wpX_concatenate
  dsimp only
  have e1 : f_top - 2 = nI x := by rw [hD]; exact pk_sub (a := x + 2) (b := 2) (by omega)
  have e2 : f_top - 1 = nI (x + 1) := by rw [hD]; exact nI_pred (x + 1)
  have v1 : vp_in (nI x) 12 := vp_in_nI (by omega) (by omega)
  have v2 : vp_in (nI (x + 1)) 12 := vp_in_nI (by omega) (by omega)
  refine nm_r e1 (nm_r e2 ⟨v1, ?_⟩)
  rw [nI_clamp (show x < 2 ^ 31 by omega)]
  refine qb_br1 (fun z => ?_) (fun z => ?_)
  · unfold wX_concatenate_32
    rw [nI_clamp (show x + 1 < 2 ^ 31 by omega)]
    exact ⟨v2, qb_br1 (fun y => wx_c51 hx hP hP32 (Or.inl ⟨rfl, z⟩) (Or.inl ⟨rfl, y⟩) K) (fun y => wx_c51 hx hP hP32 (Or.inl ⟨rfl, z⟩) (Or.inr ⟨rfl, y⟩) K)⟩
  · unfold wX_concatenate_32
    rw [nI_clamp (show x + 1 < 2 ^ 31 by omega)]
    exact ⟨v2, qb_br1 (fun y => wx_c51 hx hP hP32 (Or.inr ⟨rfl, z⟩) (Or.inl ⟨rfl, y⟩) K) (fun y => wx_c51 hx hP hP32 (Or.inr ⟨rfl, z⟩) (Or.inr ⟨rfl, y⟩) K)⟩
theorem wx_ap_cat {post : SX → Prop} (h6 : ∀ j, tx j < 6) (Po : tg_Po f_liveMask tx tl a_postings) (H : tg_St f_liveMask tx tl tk i P bo a_first a_last a_starts a_ends a_candidates a_follow a_reach) (hok : tg_ok tk i) (hi : i < 32) (hd12 : tg_dp tk i ≤ 12) (ht : tk i = 65) (hD : f_top = nI (tg_dp tk i)) (hP : f_positions = nI P) (K : ∀ (P' : Nat) (bo' : Nat → Nat) (fi' la' : Nat → Int32) (st' en' : Nat → Int64) (cd' fo' rc' : Nat → Int32), tg_St f_liveMask tx tl tk (i + 1) P' bo' fi' la' st' en' cd' fo' rc' → post (f_slotCount, f_maxLength, f_letterCount, f_maxTokens, f_liveMask, f_draftLength, f_tokenCount, f_patternDepth, nI (tg_dp tk (i + 1)), nI P', a_texts, a_textLengths, a_results, a_draft, a_postings, a_tokens, fi', la', st', en', cd', fo', rc')) : wpX_concatenate post (f_slotCount, f_maxLength, f_letterCount, f_maxTokens, f_liveMask, f_draftLength, f_tokenCount, f_patternDepth, f_top, f_positions, a_texts, a_textLengths, a_results, a_draft, a_postings, a_tokens, a_first, a_last, a_starts, a_ends, a_candidates, a_follow, a_reach) := by
  have hP2 := H.2.2.2
  have h2 := hok.2.2.2.1 (by omega) (by omega)
  obtain ⟨x, hx⟩ : ∃ x, x + 2 = tg_dp tk i := ⟨tg_dp tk i - 2, by omega⟩
  refine wx_concatenate (x := x) (P := P) (by omega) (by rw [hD, hx]) hP (by omega) (fun fi' la' r hd ta o1 o2 xs xe sp ep fo g1 g2 g3 g4 hJ hh hta ho1 ho2 hp hq x1 x2 f1 f2 => ?_)
  obtain ⟨bo', H'⟩ := tg_st_cat (fi' := fi') (la' := la') (st' := vp_updL a_starts x (xs ||| sp)) (en' := vp_updL a_ends x (xe ||| ep)) (cd' := upd a_candidates x r) (fo' := fo) h6 Po H ht hx g1 g2 (fun k hk => pk_uLn (by omega)) (fun k hk => pk_uLn (by omega)) (fun k hk => pk_un (by omega)) g3 g4 hh hta ho1 ho2 hp hq x1 x2 pk_uLs pk_uLs (by rw [pk_us]; exact hJ) f1 f2
  have q := K _ _ _ _ _ _ _ _ _ H'
  rw [tg_dp_bin (by omega) (by omega), ← hP, show nI (tg_dp tk i - 1) = f_top - 1 from by rw [hD, ← hx]; exact (nI_pred (x + 1)).symm] at q
  exact q
/-! either -/
theorem wx_ap_alt {post : SX → Prop} (H : tg_St f_liveMask tx tl tk i P bo a_first a_last a_starts a_ends a_candidates a_follow a_reach) (hok : tg_ok tk i) (hd12 : tg_dp tk i ≤ 12) (ht : tk i = 66) (hD : f_top = nI (tg_dp tk i)) (hP : f_positions = nI P) (K : ∀ (P' : Nat) (bo' : Nat → Nat) (fi' la' : Nat → Int32) (st' en' : Nat → Int64) (cd' fo' rc' : Nat → Int32), tg_St f_liveMask tx tl tk (i + 1) P' bo' fi' la' st' en' cd' fo' rc' → post (f_slotCount, f_maxLength, f_letterCount, f_maxTokens, f_liveMask, f_draftLength, f_tokenCount, f_patternDepth, nI (tg_dp tk (i + 1)), nI P', a_texts, a_textLengths, a_results, a_draft, a_postings, a_tokens, fi', la', st', en', cd', fo', rc')) : wpX_unite post (f_slotCount, f_maxLength, f_letterCount, f_maxTokens, f_liveMask, f_draftLength, f_tokenCount, f_patternDepth, f_top, f_positions, a_texts, a_textLengths, a_results, a_draft, a_postings, a_tokens, a_first, a_last, a_starts, a_ends, a_candidates, a_follow, a_reach) := by
  have h2 := hok.2.2.2.1 (by omega) (by omega)
  obtain ⟨x, hx⟩ : ∃ x, x + 2 = tg_dp tk i := ⟨tg_dp tk i - 2, by omega⟩
  unfold wpX_unite
  dsimp only
  have e1 : f_top - 2 = nI x := by rw [hD, ← hx]; exact pk_sub (a := x + 2) (b := 2) (by omega)
  have e2 : f_top - 1 = nI (x + 1) := by rw [hD, ← hx]; exact nI_pred (x + 1)
  have v1 : vp_in (nI x) 12 := vp_in_nI (by omega) (by omega)
  have v2 : vp_in (nI (x + 1)) 12 := vp_in_nI (by omega) (by omega)
  refine nm_r e1 (nm_r e2 ?_)
  rw [nI_clamp (show x < 2 ^ 31 by omega), nI_clamp (show x + 1 < 2 ^ 31 by omega)]
  refine ⟨v1, v2, v1, nm_e ⟨v1, v2, v1, nm_e ⟨v1, v2, v1, nm_e ⟨v1, v2, v1, nm_e ⟨v1, v2, v1, nm_e (nm_r e2 ?_)⟩⟩⟩⟩⟩
  obtain ⟨bo', H'⟩ := tg_st_alt (fi' := upd a_first x (a_first x ||| a_first (x + 1))) (la' := upd a_last x (a_last x ||| a_last (x + 1))) (st' := vp_updL a_starts x (a_starts x ||| a_starts (x + 1))) (en' := vp_updL a_ends x (a_ends x ||| a_ends (x + 1))) (cd' := upd a_candidates x (a_candidates x ||| a_candidates (x + 1))) H ht hx (fun k hk => pk_un (by omega)) (fun k hk => pk_un (by omega)) (fun k hk => pk_uLn (by omega)) (fun k hk => pk_uLn (by omega)) (fun k hk => pk_un (by omega)) pk_us pk_us pk_uLs pk_uLs pk_us
  have q := K _ _ _ _ _ _ _ _ _ H'
  rw [tg_dp_bin (by omega) (by omega), ← hP, show tg_dp tk i - 1 = x + 1 from by omega] at q
  exact q
/-! one operand -/
theorem wx_repeat {post : SX → Prop} {x : Nat} (hx : x < 12) (hD : f_top = nI (x + 1)) (hP : f_positions = nI P) (hP32 : P ≤ 32) (K : ∀ (hd ta o : Int32) (sp ep : Int64) (fo : Nat → Int32), tg_Fl (a_starts x) hd → tg_Ll (a_ends x) ta → tg_Ow (a_starts x) o → tg_Pr o hd sp → tg_Pr ta o ep → (∀ q, q < P → fo q = if bt (a_last x) q = true then a_follow q ||| a_first x else a_follow q) → (∀ q, P ≤ q → fo q = a_follow q) → post (f_slotCount, f_maxLength, f_letterCount, f_maxTokens, f_liveMask, f_draftLength, f_tokenCount, f_patternDepth, f_top, f_positions, a_texts, a_textLengths, a_results, a_draft, a_postings, a_tokens, a_first, a_last, vp_updL a_starts x (a_starts x ||| sp), vp_updL a_ends x (a_ends x ||| ep), a_candidates, fo, a_reach)) : wpX_repeat post (f_slotCount, f_maxLength, f_letterCount, f_maxTokens, f_liveMask, f_draftLength, f_tokenCount, f_patternDepth, f_top, f_positions, a_texts, a_textLengths, a_results, a_draft, a_postings, a_tokens, a_first, a_last, a_starts, a_ends, a_candidates, a_follow, a_reach) := by
  unfold wpX_repeat
  dsimp only
  have e1 : f_top - 1 = nI x := by rw [hD]; exact nI_pred x
  have v : vp_in (nI x) 12 := vp_in_nI hx (by omega)
  refine nm_r e1 ?_
  rw [nI_clamp (show x < 2 ^ 31 by omega)]
  refine ⟨v, v, wx_link hP hP32 (fun fo f1 f2 => ⟨v, nm_e ⟨v, wx_firstLetters (fun hd hh => ⟨v, wx_lastLetters (fun ta hta => ⟨v, wx_pairs (fun sp hp => ⟨v, nm_e ⟨v, wx_pairs (fun ep hq => ⟨v, nm_e ?_⟩)⟩⟩)⟩)⟩)⟩⟩)⟩
  exact K hd ta _ sp ep fo hh hta (wx_ow1 (a_starts x)) hp hq f1 f2
theorem wx_admit {post : SX → Prop} {x : Nat} (hx : x < 12) (hD : f_top = nI (x + 1)) (h : post (f_slotCount, f_maxLength, f_letterCount, f_maxTokens, f_liveMask, f_draftLength, f_tokenCount, f_patternDepth, f_top, f_positions, a_texts, a_textLengths, a_results, a_draft, a_postings, a_tokens, a_first, a_last, vp_updL a_starts x (a_starts x ||| 1), vp_updL a_ends x (a_ends x ||| 1), upd a_candidates x f_liveMask, a_follow, a_reach)) : wpX_admitEmpty post (f_slotCount, f_maxLength, f_letterCount, f_maxTokens, f_liveMask, f_draftLength, f_tokenCount, f_patternDepth, f_top, f_positions, a_texts, a_textLengths, a_results, a_draft, a_postings, a_tokens, a_first, a_last, a_starts, a_ends, a_candidates, a_follow, a_reach) := by
  unfold wpX_admitEmpty
  dsimp only
  have e1 : f_top - 1 = nI x := by rw [hD]; exact nI_pred x
  have v : vp_in (nI x) 12 := vp_in_nI hx (by omega)
  refine nm_r e1 ?_
  rw [nI_clamp (show x < 2 ^ 31 by omega)]
  exact ⟨v, v, nm_e ⟨v, v, nm_e ⟨v, nm_e h⟩⟩⟩
theorem wx_ap_opt {post : SX → Prop} (H : tg_St f_liveMask tx tl tk i P bo a_first a_last a_starts a_ends a_candidates a_follow a_reach) (hok : tg_ok tk i) (hd12 : tg_dp tk i ≤ 12) (ht : tk i = 69) (hD : f_top = nI (tg_dp tk i)) (hP : f_positions = nI P) (K : ∀ (P' : Nat) (bo' : Nat → Nat) (fi' la' : Nat → Int32) (st' en' : Nat → Int64) (cd' fo' rc' : Nat → Int32), tg_St f_liveMask tx tl tk (i + 1) P' bo' fi' la' st' en' cd' fo' rc' → post (f_slotCount, f_maxLength, f_letterCount, f_maxTokens, f_liveMask, f_draftLength, f_tokenCount, f_patternDepth, nI (tg_dp tk (i + 1)), nI P', a_texts, a_textLengths, a_results, a_draft, a_postings, a_tokens, fi', la', st', en', cd', fo', rc')) : wX_apply_65 post (nI (tk i)) f_slotCount f_maxLength f_letterCount f_maxTokens f_liveMask f_draftLength f_tokenCount f_patternDepth f_top f_positions a_texts a_textLengths a_results a_draft a_postings a_tokens a_first a_last a_starts a_ends a_candidates a_follow a_reach := by
  have h2 := hok.2.2.2.2 (by omega)
  obtain ⟨x, hx⟩ : ∃ x, x + 1 = tg_dp tk i := ⟨tg_dp tk i - 1, by omega⟩
  refine pk_eq (tk i) 68 (fun z => by omega) (fun _ => wx_admit (x := x) (by omega) (by rw [hD, hx]) ?_)
  have H' := tg_st_un (st' := vp_updL a_starts x (a_starts x ||| 1)) (en' := vp_updL a_ends x (a_ends x ||| 1)) (cd' := upd a_candidates x f_liveMask) (fo' := a_follow) H (by omega) hx (fun k hk => pk_uLn (by omega)) (fun k hk => pk_uLn (by omega)) (fun k hk => pk_un (by omega)) (fun q _ => rfl) (fun E => by
    rw [tg_sm_opt (by omega) hx, pk_uLs, pk_uLs, pk_us]
    exact tg_en_opt E)
  have q := K _ _ _ _ _ _ _ _ _ H'
  rw [tg_dp_un (by omega), ← hD, ← hP] at q
  exact q
theorem wx_ap_rep {post : SX → Prop} (H : tg_St f_liveMask tx tl tk i P bo a_first a_last a_starts a_ends a_candidates a_follow a_reach) (hok : tg_ok tk i) (hi : i < 32) (hd12 : tg_dp tk i ≤ 12) (ht : tk i = 67 ∨ tk i = 68) (hD : f_top = nI (tg_dp tk i)) (hP : f_positions = nI P) (K : ∀ (P' : Nat) (bo' : Nat → Nat) (fi' la' : Nat → Int32) (st' en' : Nat → Int64) (cd' fo' rc' : Nat → Int32), tg_St f_liveMask tx tl tk (i + 1) P' bo' fi' la' st' en' cd' fo' rc' → post (f_slotCount, f_maxLength, f_letterCount, f_maxTokens, f_liveMask, f_draftLength, f_tokenCount, f_patternDepth, nI (tg_dp tk (i + 1)), nI P', a_texts, a_textLengths, a_results, a_draft, a_postings, a_tokens, fi', la', st', en', cd', fo', rc')) : wpX_repeat (fun u => match u with | (f_slotCount, f_maxLength, f_letterCount, f_maxTokens, f_liveMask, f_draftLength, f_tokenCount, f_patternDepth, f_top, f_positions, a_texts, a_textLengths, a_results, a_draft, a_postings, a_tokens, a_first, a_last, a_starts, a_ends, a_candidates, a_follow, a_reach) => wX_apply_65 post (nI (tk i)) f_slotCount f_maxLength f_letterCount f_maxTokens f_liveMask f_draftLength f_tokenCount f_patternDepth f_top f_positions a_texts a_textLengths a_results a_draft a_postings a_tokens a_first a_last a_starts a_ends a_candidates a_follow a_reach) (f_slotCount, f_maxLength, f_letterCount, f_maxTokens, f_liveMask, f_draftLength, f_tokenCount, f_patternDepth, f_top, f_positions, a_texts, a_textLengths, a_results, a_draft, a_postings, a_tokens, a_first, a_last, a_starts, a_ends, a_candidates, a_follow, a_reach) := by
  have h2 := hok.2.2.2.2 (by omega)
  have hP2 := H.2.2.2
  obtain ⟨x, hx⟩ : ∃ x, x + 1 = tg_dp tk i := ⟨tg_dp tk i - 1, by omega⟩
  have E0 := H.2.1 x (by omega)
  have hl : ∀ q, bt (a_last x) q = true → bo x ≤ q ∧ q < P := by
    intro q y
    have a := E0.1.2.2.1 q y
    have b : bo (x + 1) = P := by rw [hx]; exact H.1
    omega
  refine wx_repeat (x := x) (P := P) (by omega) (by rw [hD, hx]) hP (by omega) (fun hd ta o sp ep fo hh hta ho hp hq f1 f2 => ?_)
  have fo2 : ∀ q, fo q = if bt (a_last x) q = true then a_follow q ||| a_first x else a_follow q := by
    intro q
    rcases Nat.lt_or_ge q P with z | z
    · exact f1 q z
    · rw [f2 q z, if_neg]
      intro y
      have := hl q y
      omega
  have fo3 : ∀ q, q < bo x → fo q = a_follow q := by
    intro q hq
    rw [fo2 q, if_neg]
    intro y
    have := hl q y
    omega
  have Ep := tg_en_pls (tg_mo tk i x) E0 hh hta ho hp hq fo2
  refine pk_eq (tk i) 68 (fun z => ?_) (fun z => wx_admit (x := x) (by omega) (by rw [hD, hx]) ?_)
  · have H' := tg_st_un (st' := vp_updL a_starts x (a_starts x ||| sp)) (en' := vp_updL a_ends x (a_ends x ||| ep)) (cd' := a_candidates) (fo' := fo) H (by omega) hx (fun k hk => pk_uLn (by omega)) (fun k hk => pk_uLn (by omega)) (fun k hk => rfl) fo3 (fun E => by
      rw [tg_sm_plus z hx, pk_uLs, pk_uLs]
      exact Ep)
    have q := K _ _ _ _ _ _ _ _ _ H'
    rw [tg_dp_un (by omega), ← hD, ← hP] at q
    exact q
  · have H' := tg_st_un (st' := vp_updL (vp_updL a_starts x (a_starts x ||| sp)) x ((vp_updL a_starts x (a_starts x ||| sp)) x ||| 1)) (en' := vp_updL (vp_updL a_ends x (a_ends x ||| ep)) x ((vp_updL a_ends x (a_ends x ||| ep)) x ||| 1)) (cd' := upd a_candidates x f_liveMask) (fo' := fo) H (by omega) hx (fun k hk => by rw [pk_uLn (by omega), pk_uLn (by omega)]) (fun k hk => by rw [pk_uLn (by omega), pk_uLn (by omega)]) (fun k hk => pk_un (by omega)) fo3 (fun E => by
      rw [tg_sm_star (by omega) hx, pk_uLs, pk_uLs, pk_uLs, pk_uLs, pk_us]
      exact tg_en_opt Ep)
    have q := K _ _ _ _ _ _ _ _ _ H'
    rw [tg_dp_un (by omega), ← hD, ← hP] at q
    exact q
theorem wx_apply {post : SX → Prop} (h6 : ∀ j, tx j < 6) (Po : tg_Po f_liveMask tx tl a_postings) (H : tg_St f_liveMask tx tl tk i P bo a_first a_last a_starts a_ends a_candidates a_follow a_reach) (hok : tg_ok tk i) (hi : i < 32) (hd12 : tg_dp tk i ≤ 12) (hD : f_top = nI (tg_dp tk i)) (hP : f_positions = nI P) (K : ∀ (P' : Nat) (bo' : Nat → Nat) (fi' la' : Nat → Int32) (st' en' : Nat → Int64) (cd' fo' rc' : Nat → Int32), tg_St f_liveMask tx tl tk (i + 1) P' bo' fi' la' st' en' cd' fo' rc' → post (f_slotCount, f_maxLength, f_letterCount, f_maxTokens, f_liveMask, f_draftLength, f_tokenCount, f_patternDepth, nI (tg_dp tk (i + 1)), nI P', a_texts, a_textLengths, a_results, a_draft, a_postings, a_tokens, fi', la', st', en', cd', fo', rc')) : wpX_apply post (f_slotCount, f_maxLength, f_letterCount, f_maxTokens, f_liveMask, f_draftLength, f_tokenCount, f_patternDepth, f_top, f_positions, a_texts, a_textLengths, a_results, a_draft, a_postings, a_tokens, a_first, a_last, a_starts, a_ends, a_candidates, a_follow, a_reach) (nI (tk i)) := by
  have h1 := hok.1
  have h2 := hok.2.1
  refine pk_le 64 (tk i) (fun z => pk_eq (tk i) 64 (fun e => ?_) (fun n4 => pk_eq (tk i) 65 (fun e => ?_) (fun n5 => pk_eq (tk i) 66 (fun e => ?_) (fun n6 => pk_eq (tk i) 69 (fun e => ?_) (fun n9 => ?_))))) (fun z => ?_)
  · exact wx_ap_eps H hok e hD hP K
  · exact wx_ap_cat h6 Po H hok hi hd12 e hD hP K
  · exact wx_ap_alt H hok hd12 e hD hP K
  · exact wx_ap_opt H hok hd12 e hD hP K
  · exact wx_ap_rep H hok hi hd12 (by omega) hD hP K
  · exact wx_ap_sym H hok hi z hD hP K
end
end
section
/-! the component's search: compile, step, verify, the loop over the slots -/
section
variable {f_slotCount f_maxLength f_letterCount f_maxTokens f_liveMask f_draftLength f_tokenCount f_patternDepth f_top f_positions : Int32} {a_texts a_textLengths a_results a_draft a_postings a_tokens a_first a_last a_candidates a_follow a_reach : Nat → Int32} {a_starts a_ends : Nat → Int64} {S T P D n : Nat} {tx tl dr tk bo : Nat → Nat}
theorem wx_c33 {post : SX → Prop} (hn : f_tokenCount = nI n) (hn32 : n ≤ 32) (htk : ∀ j, a_tokens j = nI (tk j)) (h6 : ∀ j, tx j < 6) (Po : tg_Po f_liveMask tx tl a_postings) (hok : ∀ i, i < n → tg_ok tk i) (K : ∀ (P' : Nat) (bo' : Nat → Nat) (fi' la' : Nat → Int32) (st' en' : Nat → Int64) (cd' fo' rc' : Nat → Int32), tg_St f_liveMask tx tl tk n P' bo' fi' la' st' en' cd' fo' rc' → post (f_slotCount, f_maxLength, f_letterCount, f_maxTokens, f_liveMask, f_draftLength, f_tokenCount, f_patternDepth, nI (tg_dp tk n), nI P', a_texts, a_textLengths, a_results, a_draft, a_postings, a_tokens, fi', la', st', en', cd', fo', rc')) :
    ∀ m i (P : Nat) (bo : Nat → Nat) (fi la : Nat → Int32) (st en : Nat → Int64) (cd fo rc : Nat → Int32), i + m = n → tg_St f_liveMask tx tl tk i P bo fi la st en cd fo rc → wX_compile_33 post (m + 1) (nI i) f_slotCount f_maxLength f_letterCount f_maxTokens f_liveMask f_draftLength f_tokenCount f_patternDepth (nI (tg_dp tk i)) (nI P) a_texts a_textLengths a_results a_draft a_postings a_tokens fi la st en cd fo rc := by
  intro m
  induction m with
  | zero =>
    intro i P bo fi la st en cd fo rc e H
    have e1 : i = n := by omega
    subst e1
    rw [wX_compile_33]
    refine br_t ?_ (K _ _ _ _ _ _ _ _ _ H)
    rw [hn]; exact nI_le (Nat.le_refl _) (by omega)
  | succ m ih =>
    intro i P bo fi la st en cd fo rc e H
    rw [wX_compile_33]
    dsimp only
    rw [nI_clamp (show i < 2 ^ 31 by omega), htk i]
    refine br_f ?_ ⟨vp_in_nI (by omega) (by omega), wx_apply h6 Po H (hok i (by omega)) (by omega) (tg_dp_le tk i (fun j hj => hok j (by omega))) rfl rfl (fun P' bo' fi' la' st' en' cd' fo' rc' H' => nm_r (nI_1 i) (ih (i + 1) P' bo' fi' la' st' en' cd' fo' rc' (by omega) H'))⟩
    rw [hn]; exact nI_ge (by omega) (by omega)
theorem wx_c12 {post : SX → Prop} (K : ∀ rc : Nat → Int32, (∀ e, e < 6 → rc e = 0) → ∃ n33 : Nat, wX_compile_33 post n33 0 f_slotCount f_maxLength f_letterCount f_maxTokens f_liveMask f_draftLength f_tokenCount f_patternDepth 0 0 a_texts a_textLengths a_results a_draft a_postings a_tokens a_first a_last a_starts a_ends a_candidates a_follow rc) :
    ∀ m c (rc : Nat → Int32), c + m = 6 → (∀ e, e < c → rc e = 0) → wX_compile_12 post f_slotCount f_maxLength f_letterCount f_maxTokens f_liveMask f_draftLength f_tokenCount f_patternDepth 0 0 (m + 1) (nI c) a_texts a_textLengths a_results a_draft a_postings a_tokens a_first a_last a_starts a_ends a_candidates a_follow rc := by
  intro m
  induction m with
  | zero =>
    intro c rc e h
    rw [wX_compile_12]
    exact br_t (nI_le (a := 6) (by omega) (by omega)) (K rc (fun p hp => h p (by omega)))
  | succ m ih =>
    intro c rc e h
    rw [wX_compile_12]
    dsimp only
    rw [nI_clamp (show c < 2 ^ 31 by omega)]
    refine br_f (nI_ge (b := 6) (by omega) (by omega)) ⟨vp_in_nI (by omega) (by omega), nm_e (nm_r (nI_1 c) (ih (c + 1) _ (by omega) (fun p hp => ?_)))⟩
    rcases Nat.lt_or_ge p c with y | y
    · rw [pk_un (by omega)]; exact h p y
    · rw [show p = c from by omega, pk_us]
theorem wx_compile {post : SX → Prop} (hn : f_tokenCount = nI n) (hn32 : n ≤ 32) (htk : ∀ j, a_tokens j = nI (tk j)) (h6 : ∀ j, tx j < 6) (Po : tg_Po f_liveMask tx tl a_postings) (hok : ∀ i, i < n → tg_ok tk i) (K : ∀ (P' : Nat) (bo' : Nat → Nat) (fi' la' : Nat → Int32) (st' en' : Nat → Int64) (cd' fo' rc' : Nat → Int32), tg_St f_liveMask tx tl tk n P' bo' fi' la' st' en' cd' fo' rc' → post (f_slotCount, f_maxLength, f_letterCount, f_maxTokens, f_liveMask, f_draftLength, f_tokenCount, f_patternDepth, nI (tg_dp tk n), nI P', a_texts, a_textLengths, a_results, a_draft, a_postings, a_tokens, fi', la', st', en', cd', fo', rc')) : wpX_compile post (f_slotCount, f_maxLength, f_letterCount, f_maxTokens, f_liveMask, f_draftLength, f_tokenCount, f_patternDepth, f_top, f_positions, a_texts, a_textLengths, a_results, a_draft, a_postings, a_tokens, a_first, a_last, a_starts, a_ends, a_candidates, a_follow, a_reach) := by
  refine ⟨7, wx_c12 (fun rc hrc => ⟨n + 1, ?_⟩) 6 0 a_reach rfl (fun e he => absurd he (Nat.not_lt_zero e))⟩
  exact wx_c33 hn hn32 htk h6 Po hok K n 0 0 (fun _ => 0) a_first a_last a_starts a_ends a_candidates a_follow rc (by omega) (tg_st_0 hrc)
/-! one letter -/
theorem wx_st {post : Int32 → Prop} {g : Int32} {c : Nat} (hc : c < 6) (hP : f_positions = nI P) (hP32 : P ≤ 32) (K : ∀ r, (∀ b, bt r b = true ↔ ((bt (a_first 0) b = true ∨ ∃ q, q < P ∧ bt g q = true ∧ bt (a_follow q) b = true) ∧ bt (a_reach c) b = true)) → post r) :
    ∀ m p r, p + m = P → (∀ b, bt r b = true ↔ (bt (a_first 0) b = true ∨ ∃ q, q < p ∧ bt g q = true ∧ bt (a_follow q) b = true)) → wX_step_10 post g (nI c) f_slotCount f_maxLength f_letterCount f_maxTokens f_liveMask f_draftLength f_tokenCount f_patternDepth f_top f_positions a_texts a_textLengths a_results a_draft a_postings a_tokens a_first a_last a_starts a_ends a_candidates a_follow a_reach (m + 1) r (nI p) := by
  intro m
  induction m with
  | zero =>
    intro p r e h
    have e1 : p = P := by omega
    subst e1
    rw [wX_step_10]
    dsimp only
    rw [nI_clamp (show c < 2 ^ 31 by omega)]
    refine br_t ?_ ⟨vp_in_nI hc (by omega), K _ (fun b => ?_)⟩
    · rw [hP]; exact nI_le (Nat.le_refl _) (by omega)
    · rw [b_and, Bool.and_eq_true, h b]
  | succ m ih =>
    intro p r e h
    rw [wX_step_10]
    dsimp only
    rw [nI_clamp (show p < 2 ^ 31 by omega)]
    refine br_f ?_ (bt_br p (by omega) (fun z => nm_r (nI_1 p) (ih (p + 1) r (by omega) (fun b => ?_))) (fun z => ⟨vp_in_nI (by omega) (by omega), nm_e (nm_r (nI_1 p) (ih (p + 1) _ (by omega) (fun b => ?_)))⟩))
    · rw [hP]; exact nI_ge (by omega) (by omega)
    · rw [h b]
      refine or_congr Iff.rfl ⟨fun ⟨q, y1, y2, y3⟩ => ⟨q, by omega, y2, y3⟩, fun ⟨q, y1, y2, y3⟩ => ⟨q, ?_, y2, y3⟩⟩
      rcases Nat.lt_or_ge q p with w | w
      · exact w
      · rw [show q = p from by omega, z] at y2
        exact absurd y2 (by decide)
    · rw [b_or, Bool.or_eq_true, h b]
      constructor
      · intro y
        rcases y with (y | ⟨q, y1, y2, y3⟩) | y
        · exact Or.inl y
        · exact Or.inr ⟨q, by omega, y2, y3⟩
        · exact Or.inr ⟨p, by omega, z, y⟩
      · intro y
        rcases y with y | ⟨q, y1, y2, y3⟩
        · exact Or.inl (Or.inl y)
        · rcases Nat.lt_or_ge q p with w | w
          · exact Or.inl (Or.inr ⟨q, w, y2, y3⟩)
          · rw [show q = p from by omega] at y3
            exact Or.inr y3
theorem wx_step {post : Int32 → Prop} {g : Int32} {c : Nat} (hc : c < 6) (hP : f_positions = nI P) (hP32 : P ≤ 32) (K : ∀ r, (∀ b, bt r b = true ↔ ((bt (a_first 0) b = true ∨ ∃ q, q < P ∧ bt g q = true ∧ bt (a_follow q) b = true) ∧ bt (a_reach c) b = true)) → post r) : wpX_step post (f_slotCount, f_maxLength, f_letterCount, f_maxTokens, f_liveMask, f_draftLength, f_tokenCount, f_patternDepth, f_top, f_positions, a_texts, a_textLengths, a_results, a_draft, a_postings, a_tokens, a_first, a_last, a_starts, a_ends, a_candidates, a_follow, a_reach) g (nI c) :=
  nm_e ⟨P + 1, wx_st hc hP hP32 K P 0 _ (by omega) (fun b => ⟨Or.inl, fun y => y.elim id (fun ⟨q, h, _⟩ => absurd h (Nat.not_lt_zero q))⟩)⟩
/-! a text -/
theorem wx_vf {post : Int32 → Prop} {W : la_T} {lo d : Nat} (hd : d < 12) (htx : ∀ j, a_texts j = nI (tx j)) (h6 : ∀ j, tx j < 6) (htl : ∀ j, a_textLengths j = nI (tl j)) (hl : ∀ j, tl j ≤ 16) (hP : f_positions = nI P) (hP32 : P ≤ 32) (M : la_Mo W) (E : tg_En f_liveMask tx tl W lo P (a_first 0) (a_last 0) a_follow a_reach (a_starts 0) (a_ends 0) (a_candidates 0)) (hz : qb (a_starts 0) 0 = false) (K : ∀ r, tg_Rs (W (fun i => tx (d * 16 + i))) (tl d) r → post r) :
    ∀ m i g, tl d ≤ i + m → i ≤ tl d → tg_Sg (a_first 0) a_follow a_reach (fun i => tx (d * 16 + i)) i g → tg_Nn (W (fun i => tx (d * 16 + i))) i → wX_verify_25 post (nI d) (nI (d * 16)) f_slotCount f_maxLength f_letterCount f_maxTokens f_liveMask f_draftLength f_tokenCount f_patternDepth f_top f_positions a_texts a_textLengths a_results a_draft a_postings a_tokens a_first a_last a_starts a_ends a_candidates a_follow a_reach (m + 1) g (nI i) := by
  have hx : ∀ j, (fun i => tx (d * 16 + i)) j < 6 := fun j => h6 _
  have hld := hl d
  intro m
  induction m with
  | zero =>
    intro i g e hi hg hn
    rw [wX_verify_25]
    dsimp only
    rw [nI_clamp (show d < 2 ^ 31 by omega), htl d]
    refine ⟨vp_in_nI hd (by omega), br_t (nI_le (by omega) (by omega)) (K _ (Or.inr ⟨rfl, fun e he => hn e (by omega)⟩))⟩
  | succ m ih =>
    intro i g e hi hg hn
    rw [wX_verify_25]
    dsimp only
    rw [nI_clamp (show d < 2 ^ 31 by omega), htl d]
    refine ⟨vp_in_nI hd (by omega), ?_⟩
    rcases Nat.lt_or_ge i (tl d) with z | z
    · rw [nI_add, nI_clamp (show d * 16 + i < 2 ^ 31 by omega), htx]
      refine br_f (nI_ge z (by omega)) ⟨vp_in_nI (by omega) (by omega), wx_step (h6 _) hP hP32 (fun r hr => ?_)⟩
      have hg' : tg_Sg (a_first 0) a_follow a_reach (fun i => tx (d * 16 + i)) (i + 1) r := by
        refine tg_sg_s hg (fun p => (hr p).trans (and_congr (or_congr Iff.rfl ⟨fun ⟨q, _, b, c⟩ => ⟨q, b, c⟩, fun ⟨q, b, c⟩ => ⟨q, ?_, b, c⟩⟩) Iff.rfl))
        obtain ⟨s, l, _, hrn⟩ := (hg q).mp b
        exact (tg_rn_in E.1 l q hrn).2
      have hA := tg_sg_a E.2.1 hx hg'
      refine br_c (fun y => nm_r (nI_1 i) (ih (i + 1) r (by omega) (by omega) hg' (fun e he ⟨s, hw⟩ => ?_))) (fun y => ?_)
      · rcases Nat.lt_or_ge e (i + 1) with w | w
        · exact hn e (by omega) ⟨s, hw⟩
        · have e1 : e = i + 1 := by omega
          subst e1
          have hs := M _ _ _ hw
          rcases Nat.lt_or_ge s (i + 1) with v | v
          · obtain ⟨p, hp1, hp2⟩ := hA.mp ⟨s, v, hw⟩
            rw [bt_and0.mp y p hp1] at hp2
            exact absurd hp2 (by decide)
          · have e2 : s = i + 1 := by omega
            rw [e2, E.2.2.1 _ hx, hz] at hw
            exact absurd hw (by decide)
      · rw [nI_1]
        refine K _ (Or.inl ⟨i + 1, by omega, rfl, ?_, fun e he => hn e (by omega)⟩)
        have y2 : ∃ p, bt r p = true ∧ bt (a_last 0) p = true := by
          refine Classical.byContradiction (fun w => y (bt_and0.mpr (fun p hp => ?_)))
          cases v : bt (a_last 0) p
          · rfl
          · exact absurd ⟨p, hp, v⟩ w
        obtain ⟨s, _, hw⟩ := hA.mpr y2
        exact ⟨s, hw⟩
    · exact br_t (nI_le z (by omega)) (K _ (Or.inr ⟨rfl, fun e he => hn e (by omega)⟩))
theorem wx_verify {post : Int32 → Prop} {W : la_T} {lo d : Nat} (hd : d < 12) (htx : ∀ j, a_texts j = nI (tx j)) (h6 : ∀ j, tx j < 6) (htl : ∀ j, a_textLengths j = nI (tl j)) (hl : ∀ j, tl j ≤ 16) (hP : f_positions = nI P) (hP32 : P ≤ 32) (M : la_Mo W) (E : tg_En f_liveMask tx tl W lo P (a_first 0) (a_last 0) a_follow a_reach (a_starts 0) (a_ends 0) (a_candidates 0)) (K : ∀ r, tg_Rs (W (fun i => tx (d * 16 + i))) (tl d) r → post r) : wpX_verify post (f_slotCount, f_maxLength, f_letterCount, f_maxTokens, f_liveMask, f_draftLength, f_tokenCount, f_patternDepth, f_top, f_positions, a_texts, a_textLengths, a_results, a_draft, a_postings, a_tokens, a_first, a_last, a_starts, a_ends, a_candidates, a_follow, a_reach) (nI d) := by
  have hx : ∀ j, (fun i => tx (d * 16 + i)) j < 6 := fun j => h6 _
  have hld := hl d
  have e16 : nI d * 16 = nI (d * 16) := pk_mul d 16
  refine qb_br1 (fun z => nm_r e16 ⟨tl d + 1, ?_⟩) (fun z => ?_)
  · refine wx_vf hd htx h6 htl hl hP hP32 M E z K (tl d) 0 0 (by omega) (by omega) (tg_sg_0 _ _ _ _) (fun e he ⟨s, hw⟩ => ?_)
    have hs := M _ _ _ hw
    have e1 : e = 0 := by omega
    subst e1
    have e2 : s = 0 := by omega
    rw [e2, E.2.2.1 _ hx, z] at hw
    exact absurd hw (by decide)
  · refine K 0 (Or.inl ⟨0, by omega, rfl, ⟨0, ?_⟩, fun e he => absurd he (Nat.not_lt_zero e)⟩)
    exact (E.2.2.1 _ hx 0).mpr z
/-! all slots -/
theorem wx_s70 {post : Int32 → SX → Prop} {J : Int32 → Int32 → (Nat → Int32) → (Nat → Int32) → (Nat → Int32) → (Nat → Int32) → (Nat → Int32) → (Nat → Int32) → (Nat → Int32) → (Nat → Int32) → (Nat → Int64) → (Nat → Int64) → (Nat → Int32) → (Nat → Int32) → (Nat → Int32) → Prop} {d : Nat} (hd : d < 12) (hl : bt f_liveMask d = true) (h : J (nI (tg_cn f_liveMask a_results (d + 1))) (nI (d + 1)) a_texts a_textLengths a_results a_draft a_postings a_tokens a_first a_last a_starts a_ends a_candidates a_follow a_reach) : wX_search_70 post J (nI (tg_cn f_liveMask a_results d)) (nI d) f_slotCount f_maxLength f_letterCount f_maxTokens f_liveMask f_draftLength f_tokenCount f_patternDepth f_top f_positions a_texts a_textLengths a_results a_draft a_postings a_tokens a_first a_last a_starts a_ends a_candidates a_follow a_reach := by
  unfold wX_search_70
  rw [nI_clamp (show d < 2 ^ 31 by omega)]
  refine ⟨vp_in_nI hd (by omega), br_c (fun z => nm_r (nI_1 d) ?_) (fun z => nm_r (nI_1 _) (nm_r (nI_1 d) ?_))⟩
  · rw [tg_cn, if_neg (fun y => y.2 z), Nat.add_zero] at h
    exact h
  · rw [tg_cn, if_pos ⟨hl, z⟩] at h
    exact h
theorem wx_s19 {post : Int32 → SX → Prop} {W : la_T} {lo : Nat} (hS : f_slotCount = nI S) (hS12 : S ≤ 12) (htx : ∀ j, a_texts j = nI (tx j)) (h6 : ∀ j, tx j < 6) (htl : ∀ j, a_textLengths j = nI (tl j)) (hl : ∀ j, tl j ≤ 16) (hP : f_positions = nI P) (hP32 : P ≤ 32) (M : la_Mo W) (E : tg_En f_liveMask tx tl W lo P (a_first 0) (a_last 0) a_follow a_reach (a_starts 0) (a_ends 0) (a_candidates 0)) (K : ∀ rs : Nat → Int32, (∀ e, e < S → bt f_liveMask e = true → tg_Rs (W (fun i => tx (e * 16 + i))) (tl e) (rs e)) → post (nI (tg_cn f_liveMask rs S)) (f_slotCount, f_maxLength, f_letterCount, f_maxTokens, f_liveMask, f_draftLength, f_tokenCount, f_patternDepth, f_top, f_positions, a_texts, a_textLengths, rs, a_draft, a_postings, a_tokens, a_first, a_last, a_starts, a_ends, a_candidates, a_follow, a_reach)) :
    ∀ m d (rs : Nat → Int32), d + m = S → (∀ e, e < d → bt f_liveMask e = true → tg_Rs (W (fun i => tx (e * 16 + i))) (tl e) (rs e)) → wX_search_19 post f_slotCount f_maxLength f_letterCount f_maxTokens f_liveMask f_draftLength f_tokenCount f_patternDepth f_top f_positions (m + 1) (nI (tg_cn f_liveMask rs d)) (nI d) a_texts a_textLengths rs a_draft a_postings a_tokens a_first a_last a_starts a_ends a_candidates a_follow a_reach := by
  intro m
  induction m with
  | zero =>
    intro d rs e h
    have e1 : d = S := by omega
    subst e1
    rw [wX_search_19]
    refine br_t ?_ (K rs h)
    rw [hS]; exact nI_le (Nat.le_refl _) (by omega)
  | succ m ih =>
    intro d rs e h
    have kk : ∀ r, tg_Rs (W (fun i => tx (d * 16 + i))) (tl d) r → bt f_liveMask d = true → ∀ rs2 : Nat → Int32, rs2 d = r → (∀ e, e ≠ d → rs2 e = rs e) → wX_search_70 post (wX_search_19 post f_slotCount f_maxLength f_letterCount f_maxTokens f_liveMask f_draftLength f_tokenCount f_patternDepth f_top f_positions (m + 1)) (nI (tg_cn f_liveMask rs d)) (nI d) f_slotCount f_maxLength f_letterCount f_maxTokens f_liveMask f_draftLength f_tokenCount f_patternDepth f_top f_positions a_texts a_textLengths rs2 a_draft a_postings a_tokens a_first a_last a_starts a_ends a_candidates a_follow a_reach := by
      intro r hr hlv rs2 g1 g2
      rw [← tg_cn_cong (lm := f_liveMask) (rs := rs) (rs' := rs2) d (fun e he _ => g2 e (by omega))]
      refine wx_s70 (by omega) hlv (ih (d + 1) rs2 (by omega) (fun e he hle => ?_))
      rcases Nat.lt_or_ge e d with y | y
      · rw [g2 e (by omega)]; exact h e y hle
      · rw [show e = d from by omega, g1]; exact hr
    rw [wX_search_19]
    dsimp only
    rw [nI_clamp (show d < 2 ^ 31 by omega)]
    refine br_f ?_ (bt_br d (by omega) (fun z => nm_r (nI_1 d) ?_) (fun z => ⟨vp_in_nI (by omega) (by omega), nm_e (bt_br d (by omega) (fun y => ?_) (fun y => ?_))⟩))
    · rw [hS]; exact nI_ge (by omega) (by omega)
    · have q := ih (d + 1) rs (by omega) (fun e he hle => by
        rcases Nat.lt_or_ge e d with y | y
        · exact h e y hle
        · rw [show e = d from by omega, z] at hle
          exact absurd hle (by decide))
      rw [tg_cn, if_neg (fun y => by rw [z] at y; exact absurd y.1 (by decide)), Nat.add_zero] at q
      exact q
    · refine kk (-4) (Or.inr ⟨rfl, fun e he ⟨s, hw⟩ => ?_⟩) z _ pk_us (fun e he => pk_un he)
      have c := E.2.2.2.2 d z s e he hw
      rw [y] at c
      exact absurd c (by decide)
    · refine wx_verify (by omega) htx h6 htl hl hP hP32 M E (fun r hr => ⟨vp_in_nI (by omega) (by omega), nm_e ?_⟩)
      exact kk r hr z _ pk_us (fun e he => by rw [pk_un he, pk_un he])
theorem wx_search {post : Int32 → SX → Prop} (hS : f_slotCount = nI S) (hS12 : S ≤ 12) (htx : ∀ j, a_texts j = nI (tx j)) (h6 : ∀ j, tx j < 6) (htl : ∀ j, a_textLengths j = nI (tl j)) (hl : ∀ j, tl j ≤ 16) (hn : f_tokenCount = nI n) (hn32 : n ≤ 32) (htk : ∀ j, a_tokens j = nI (tk j)) (Po : tg_Po f_liveMask tx tl a_postings) (hok : ∀ i, i < n → tg_ok tk i) (hd : f_patternDepth = nI (tg_dp tk n)) (h1 : tg_dp tk n = 1)
    (K : ∀ (rs : Nat → Int32) (P' : Nat) (fi' la' : Nat → Int32) (st' en' : Nat → Int64) (cd' fo' rc' : Nat → Int32), (∀ e, e < S → bt f_liveMask e = true → tg_Rs (tg_sm tk n 0 (fun i => tx (e * 16 + i))) (tl e) (rs e)) → post (nI (tg_cn f_liveMask rs S)) (f_slotCount, f_maxLength, f_letterCount, f_maxTokens, f_liveMask, f_draftLength, f_tokenCount, f_patternDepth, nI (tg_dp tk n), nI P', a_texts, a_textLengths, rs, a_draft, a_postings, a_tokens, fi', la', st', en', cd', fo', rc')) : wpX_search post (f_slotCount, f_maxLength, f_letterCount, f_maxTokens, f_liveMask, f_draftLength, f_tokenCount, f_patternDepth, f_top, f_positions, a_texts, a_textLengths, a_results, a_draft, a_postings, a_tokens, a_first, a_last, a_starts, a_ends, a_candidates, a_follow, a_reach) := by
  refine br_t ?_ (wx_compile hn hn32 htk h6 Po hok (fun P' bo' fi' la' st' en' cd' fo' rc' H => ⟨S + 1, ?_⟩))
  · rw [hd, h1]; rfl
  · have E := H.2.1 0 (by omega)
    have hb : bo' (0 + 1) = P' := by rw [← H.1, h1]
    rw [hb] at E
    have hP := H.2.2.2
    exact wx_s19 hS hS12 htx h6 htl hl rfl (by omega) (tg_mo tk n 0) E (fun rs h => K rs P' fi' la' st' en' cd' fo' rc' h) S 0 a_results (by omega) (fun e he => absurd he (Nat.not_lt_zero e))
end
end
section
/-! the reference's small loops -/
section
variable {g_slots g_maxLen g_letters g_maxTokens g_size g_top : Int32} {b_text b_len b_used b_result b_pattern b_rel : Nat → Int32} {S L A M T n dl : Nat} {tx tl bl dr tk : Nat → Nat} {lm : Int32}
theorem wy_dp {post : Int32 → Prop} (hn : g_size = nI n) (hn32 : n ≤ 32) (htk : ∀ j, b_pattern j = nI (tk j)) (hok : ∀ i, i < n → tg_ok tk i) (h : post (nI (tg_dp tk n))) : ∀ m i, i + m = n → wY_depth_4 post g_slots g_maxLen g_letters g_maxTokens g_size g_top b_text b_len b_used b_result b_pattern b_rel (m + 1) (nI (tg_dp tk i)) (nI i) := by
  intro m
  induction m with
  | zero =>
    intro i e
    have e1 : i = n := by omega
    subst e1
    rw [wY_depth_4]
    refine br_t ?_ h
    rw [hn]; exact nI_le (Nat.le_refl _) (by omega)
  | succ m ih =>
    intro i e
    have ⟨h1, h2, h3, h4, h5⟩ := hok i (by omega)
    have ih' := ih (i + 1) (by omega)
    have v : vp_in (nI i) 32 := vp_in_nI (by omega) (by omega)
    rw [wY_depth_4]
    dsimp only
    rw [nI_clamp (show i < 2 ^ 31 by omega), htk i]
    refine br_f ?_ ⟨v, pk_lt 64 (tk i) (fun z => ⟨v, pk_lt 66 (tk i) (fun y => nm_r (nI_1 i) ?_) (fun y => nm_r (e' := nI (tg_dp tk i - 1)) ?_ (nm_r (nI_1 i) ?_))⟩) (fun z => nm_r (nI_1 _) (nm_r (nI_1 i) ?_))⟩
    · rw [hn]; exact nI_ge (by omega) (by omega)
    · rw [tg_dp_un (by omega)] at ih'; exact ih'
    · have h6 := h4 (by omega) (by omega)
      have e2 := pk_m1 (tg_dp tk i - 1)
      rw [show tg_dp tk i - 1 + 1 = tg_dp tk i from by omega] at e2
      exact e2
    · rw [tg_dp_bin (by omega) y] at ih'; exact ih'
    · rw [tg_dp_leaf z] at ih'; exact ih'
theorem wy_depth {post : Int32 → Prop} (hn : g_size = nI n) (hn32 : n ≤ 32) (htk : ∀ j, b_pattern j = nI (tk j)) (hok : ∀ i, i < n → tg_ok tk i) (h : post (nI (tg_dp tk n))) : wpY_depth post (g_slots, g_maxLen, g_letters, g_maxTokens, g_size, g_top, b_text, b_len, b_used, b_result, b_pattern, b_rel) :=
  ⟨n + 1, wy_dp hn hn32 htk hok h n 0 (by omega)⟩
theorem wy_lv {post : Int32 → Prop} (hS : g_slots = nI S) (hS12 : S ≤ 12) (hu : ∀ d, d < S → (b_used d = 0 ↔ bt lm d = false)) (K : ∀ r, (∀ e, bt r e = true ↔ (e < S ∧ bt lm e = true)) → post r) : ∀ m d r, d + m = S → (∀ e, bt r e = true ↔ (e < d ∧ bt lm e = true)) → wY_live_4 post g_slots g_maxLen g_letters g_maxTokens g_size g_top b_text b_len b_used b_result b_pattern b_rel (m + 1) r (nI d) := by
  intro m
  induction m with
  | zero =>
    intro d r e h
    have e1 : d = S := by omega
    subst e1
    rw [wY_live_4]
    refine br_t ?_ (K r h)
    rw [hS]; exact nI_le (Nat.le_refl _) (by omega)
  | succ m ih =>
    intro d r e h
    rw [wY_live_4]
    dsimp only
    rw [nI_clamp (show d < 2 ^ 31 by omega)]
    refine br_f ?_ ⟨vp_in_nI (by omega) (by omega), br_c (fun z => nm_r (nI_1 d) (ih (d + 1) r (by omega) (fun p => ?_))) (fun z => nm_e (nm_r (nI_1 d) (ih (d + 1) _ (by omega) (fun p => ?_))))⟩
    · rw [hS]; exact nI_ge (by omega) (by omega)
    · rw [h p]
      have q := (hu d (by omega)).mp z
      refine ⟨fun y => ⟨by omega, y.2⟩, fun y => ⟨?_, y.2⟩⟩
      rcases Nat.lt_or_ge p d with w | w
      · exact w
      · have y2 := y.2
        rw [show p = d from by omega, q] at y2
        exact absurd y2 (by decide)
    · rw [bt_set _ d (by omega), Bool.or_eq_true, h p, decide_eq_true_eq]
      have q : bt lm d = true := by
        cases w : bt lm d
        · exact absurd ((hu d (by omega)).mpr w) z
        · rfl
      constructor
      · intro y
        rcases y with y | y
        · exact ⟨by omega, y.2⟩
        · rw [y]; exact ⟨by omega, q⟩
      · intro y
        rcases Nat.lt_or_ge p d with w | w
        · exact Or.inl ⟨w, y.2⟩
        · exact Or.inr (by omega)
theorem wy_live {post : Int32 → Prop} (hS : g_slots = nI S) (hS12 : S ≤ 12) (hu : ∀ d, d < S → (b_used d = 0 ↔ bt lm d = false)) (hl : ∀ d, bt lm d = true → d < S) (h : post lm) : wpY_live post (g_slots, g_maxLen, g_letters, g_maxTokens, g_size, g_top, b_text, b_len, b_used, b_result, b_pattern, b_rel) := by
  refine ⟨S + 1, wy_lv hS hS12 hu (fun r hr => ?_) S 0 0 (by omega) (fun e => ?_)⟩
  · have e : r = lm := bt_eqT (fun i => (hr i).trans ⟨fun y => y.2, fun y => ⟨hl i y, y⟩⟩)
    rw [e]; exact h
  · rw [b_0]
    exact ⟨fun y => absurd y (by decide), fun y => absurd y.1 (Nat.not_lt_zero e)⟩
theorem wy_ht {post : Int32 → Prop} (hS : g_slots = nI S) (hS12 : S ≤ 12) (hu : ∀ d, d < S → (b_used d = 0 ↔ bt lm d = false)) (K : ∀ r, (∀ e, bt r e = true ↔ (e < S ∧ bt lm e = true ∧ b_result e ≠ -4)) → post r) : ∀ m d r, d + m = S → (∀ e, bt r e = true ↔ (e < d ∧ bt lm e = true ∧ b_result e ≠ -4)) → wY_hits_4 post g_slots g_maxLen g_letters g_maxTokens g_size g_top b_text b_len b_used b_result b_pattern b_rel (m + 1) r (nI d) := by
  intro m
  induction m with
  | zero =>
    intro d r e h
    have e1 : d = S := by omega
    subst e1
    rw [wY_hits_4]
    refine br_t ?_ (K r h)
    rw [hS]; exact nI_le (Nat.le_refl _) (by omega)
  | succ m ih =>
    intro d r e h
    have v : vp_in (nI d) 12 := vp_in_nI (by omega) (by omega)
    have keep : ¬ (bt lm d = true ∧ b_result d ≠ -4) → ∀ p, bt r p = true ↔ (p < d + 1 ∧ bt lm p = true ∧ b_result p ≠ -4) := by
      intro q p
      rw [h p]
      refine ⟨fun y => ⟨by omega, y.2⟩, fun y => ⟨?_, y.2⟩⟩
      rcases Nat.lt_or_ge p d with w | w
      · exact w
      · have y2 := y.2
        rw [show p = d from by omega] at y2
        exact absurd y2 q
    rw [wY_hits_4]
    dsimp only
    rw [nI_clamp (show d < 2 ^ 31 by omega)]
    refine br_f ?_ ⟨v, br_c (fun z => nm_r (nI_1 d) (ih (d + 1) r (by omega) (keep (fun y => ?_)))) (fun z => ⟨v, br_c (fun w => nm_r (nI_1 d) (ih (d + 1) r (by omega) (keep (fun y => y.2 w)))) (fun w => nm_e (nm_r (nI_1 d) (ih (d + 1) _ (by omega) (fun p => ?_))))⟩)⟩
    · rw [hS]; exact nI_ge (by omega) (by omega)
    · have q := (hu d (by omega)).mp z
      rw [q] at y
      exact absurd y.1 (by decide)
    · rw [bt_set _ d (by omega), Bool.or_eq_true, h p, decide_eq_true_eq]
      have q : bt lm d = true := by
        cases u : bt lm d
        · exact absurd ((hu d (by omega)).mpr u) z
        · rfl
      constructor
      · intro y
        rcases y with y | y
        · exact ⟨by omega, y.2⟩
        · rw [y]; exact ⟨by omega, q, w⟩
      · intro y
        rcases Nat.lt_or_ge p d with u | u
        · exact Or.inl ⟨u, y.2⟩
        · exact Or.inr (by omega)
theorem wy_hits {post : Int32 → Prop} (hS : g_slots = nI S) (hS12 : S ≤ 12) (hu : ∀ d, d < S → (b_used d = 0 ↔ bt lm d = false)) (K : ∀ r, (∀ e, bt r e = true ↔ (e < S ∧ bt lm e = true ∧ b_result e ≠ -4)) → post r) : wpY_hits post (g_slots, g_maxLen, g_letters, g_maxTokens, g_size, g_top, b_text, b_len, b_used, b_result, b_pattern, b_rel) := by
  refine ⟨S + 1, wy_ht hS hS12 hu K S 0 0 (by omega) (fun e => ?_)⟩
  rw [b_0]
  exact ⟨fun y => absurd y (by decide), fun y => absurd y.1 (Nat.not_lt_zero e)⟩
/-! who holds a trigram -/
theorem tg_dig {a b c a' b' c' : Nat} (h1 : a < 6) (h2 : b < 6) (h3 : c < 6) (h1' : a' < 6) (h2' : b' < 6) (h3' : c' < 6) : (a' * 6 + b') * 6 + c' = (a * 6 + b) * 6 + c ↔ (a' = a ∧ b' = b ∧ c' = c) := by omega
theorem wy_h62 {post : Int32 → Prop} {J : Int32 → Int32 → Prop} {a b c d : Nat} {r0 : Int32} (hd : d < 12) (ha : a < 6) (hb : b < 6) (hc : c < 6) (h6 : ∀ j, tx j < 6) (hT : ∀ j, j < 192 → b_text (16 + j) = nI (tx j)) (hbl : ∀ j, b_len j = nI (bl j)) (hbl16 : ∀ j, bl j ≤ 16) (hu : b_used d = 0 ↔ bt lm d = false) (hl : bt lm d = true → bl (d + 1) = tl d)
    (K : ∀ r, (∀ e, bt r e = true ↔ (bt r0 e = true ∨ (e = d ∧ bt lm d = true ∧ ∃ i, i + 2 < tl d ∧ tg_tri tx (d * 16 + i) = (a * 6 + b) * 6 + c))) → J r (nI (d + 1))) :
    ∀ m i r, i ≤ 16 → bl (d + 1) ≤ i + 2 + m → (∀ e, bt r e = true ↔ (bt r0 e = true ∨ (e = d ∧ bt lm d = true ∧ ∃ j, j < i ∧ j + 2 < tl d ∧ tg_tri tx (d * 16 + j) = (a * 6 + b) * 6 + c))) → wY_holders_62 post J (nI a) (nI b) (nI c) (nI d) g_slots g_maxLen g_letters g_maxTokens g_size g_top b_text b_len b_used b_result b_pattern b_rel (m + 1) r (nI ((d + 1) * 16 + i)) := by
  have e1 : nI d + 1 = nI (d + 1) := nI_1 d
  have e2 : nI (d + 1) * 16 = nI ((d + 1) * 16) := pk_mul (d + 1) 16
  have v1 : vp_in (nI (d + 1)) 13 := vp_in_nI (by omega) (by omega)
  have v2 : vp_in (nI d) 12 := vp_in_nI hd (by omega)
  have hb16 := hbl16 (d + 1)
  have fin : ∀ i r, bl (d + 1) ≤ i + 2 → (∀ e, bt r e = true ↔ (bt r0 e = true ∨ (e = d ∧ bt lm d = true ∧ ∃ j, j < i ∧ j + 2 < tl d ∧ tg_tri tx (d * 16 + j) = (a * 6 + b) * 6 + c))) → J r (nI (d + 1)) := by
    intro i r hi hI
    refine K r (fun e => (hI e).trans (or_congr Iff.rfl ⟨fun ⟨y1, y2, j, y3, y4⟩ => ⟨y1, y2, j, y4⟩, fun ⟨y1, y2, j, y4⟩ => ⟨y1, y2, j, ?_, y4⟩⟩))
    have := hl y2
    omega
  have skip : ∀ i r, (bt lm d = true → i + 2 < tl d → tg_tri tx (d * 16 + i) ≠ (a * 6 + b) * 6 + c) → (∀ e, bt r e = true ↔ (bt r0 e = true ∨ (e = d ∧ bt lm d = true ∧ ∃ j, j < i ∧ j + 2 < tl d ∧ tg_tri tx (d * 16 + j) = (a * 6 + b) * 6 + c))) → (∀ e, bt r e = true ↔ (bt r0 e = true ∨ (e = d ∧ bt lm d = true ∧ ∃ j, j < i + 1 ∧ j + 2 < tl d ∧ tg_tri tx (d * 16 + j) = (a * 6 + b) * 6 + c))) := by
    intro i r hne hI e
    refine (hI e).trans (or_congr Iff.rfl ⟨fun ⟨y1, y2, j, y3, y4⟩ => ⟨y1, y2, j, by omega, y4⟩, fun ⟨y1, y2, j, y3, y4⟩ => ⟨y1, y2, j, ?_, y4⟩⟩)
    rcases Nat.lt_or_ge j i with w | w
    · exact w
    · have e3 : j = i := by omega
      subst e3
      exact absurd y4.2 (hne y2 y4.1)
  intro m
  induction m with
  | zero =>
    intro i r h16 hm hI
    rw [wY_holders_62]
    dsimp only
    rw [e1, e2, nI_clamp (show d + 1 < 2 ^ 31 by omega), hbl, nI_add, show nI ((d + 1) * 16 + i) + 2 = nI ((d + 1) * 16 + i + 2) from nI_add _ 2]
    exact ⟨v1, br_t (nI_le (by omega) (by omega)) (nm_e (fin i r (by omega) hI))⟩
  | succ m ih =>
    intro i r h16 hm hI
    rw [wY_holders_62]
    dsimp only
    rw [e1, e2, nI_clamp (show d + 1 < 2 ^ 31 by omega), nI_clamp (show d < 2 ^ 31 by omega), hbl, nI_add, show nI ((d + 1) * 16 + i) + 2 = nI ((d + 1) * 16 + i + 2) from nI_add _ 2, nI_1 ((d + 1) * 16 + i)]
    refine ⟨v1, ?_⟩
    rcases Nat.lt_or_ge (i + 2) (bl (d + 1)) with z | z
    · rw [nI_clamp (show (d + 1) * 16 + i < 2 ^ 31 by omega), nI_clamp (show (d + 1) * 16 + i + 1 < 2 ^ 31 by omega), nI_clamp (show (d + 1) * 16 + i + 2 < 2 ^ 31 by omega)]
      have t0 : b_text ((d + 1) * 16 + i) = nI (tx (d * 16 + i)) := by rw [show (d + 1) * 16 + i = 16 + (d * 16 + i) from by omega]; exact hT _ (by omega)
      have t1 : b_text ((d + 1) * 16 + i + 1) = nI (tx (d * 16 + i + 1)) := by rw [show (d + 1) * 16 + i + 1 = 16 + (d * 16 + i + 1) from by omega]; exact hT _ (by omega)
      have t2 : b_text ((d + 1) * 16 + i + 2) = nI (tx (d * 16 + i + 2)) := by rw [show (d + 1) * 16 + i + 2 = 16 + (d * 16 + i + 2) from by omega]; exact hT _ (by omega)
      have g0 := h6 (d * 16 + i)
      have g1 := h6 (d * 16 + i + 1)
      have g2 := h6 (d * 16 + i + 2)
      have key : tg_tri tx (d * 16 + i) = (a * 6 + b) * 6 + c ↔ (tx (d * 16 + i) = a ∧ tx (d * 16 + i + 1) = b ∧ tx (d * 16 + i + 2) = c) := tg_dig ha hb hc g0 g1 g2
      rw [t0, t1, t2]
      have nx := ih (i + 1)
      have ei : nI ((d + 1) * 16 + i + 1) = nI ((d + 1) * 16 + (i + 1)) := rfl
      refine br_f (nI_ge (by omega) (by omega)) ⟨v2, br_c (fun y => nm_r ei (nx r (by omega) (by omega) (skip i r (fun q => ?_) hI))) (fun y => ⟨vp_in_nI (by omega) (by omega), pk_eq _ a (fun q0 => ⟨vp_in_nI (by omega) (by omega), pk_eq _ b (fun q1 => ⟨vp_in_nI (by omega) (by omega), pk_eq _ c (fun q2 => nm_e (nm_r ei (nx _ (by omega) (by omega) (fun e => ?_)))) (fun q2 => nm_r ei (nx r (by omega) (by omega) (skip i r (fun _ _ q => q2 (key.mp q).2.2) hI)))⟩) (fun q1 => nm_r ei (nx r (by omega) (by omega) (skip i r (fun _ _ q => q1 (key.mp q).2.1) hI)))⟩) (fun q0 => nm_r ei (nx r (by omega) (by omega) (skip i r (fun _ _ q => q0 (key.mp q).1) hI)))⟩)⟩
      · rw [hu.mp y] at q
        exact absurd q (by decide)
      · have hlv : bt lm d = true := by
          cases w : bt lm d
          · exact absurd (hu.mpr w) y
          · rfl
        rw [bt_set _ d (by omega), Bool.or_eq_true, hI e, decide_eq_true_eq]
        constructor
        · intro q
          rcases q with (q | ⟨y1, y2, j, y3, y4⟩) | q
          · exact Or.inl q
          · exact Or.inr ⟨y1, y2, j, by omega, y4⟩
          · exact Or.inr ⟨q, hlv, i, by omega, by rw [← hl hlv]; exact z, key.mpr ⟨q0, q1, q2⟩⟩
        · intro q
          rcases q with q | ⟨y1, y2, j, y3, y4⟩
          · exact Or.inl (Or.inl q)
          · exact Or.inr y1
    · exact br_t (nI_le (by omega) (by omega)) (nm_e (fin i r z hI))
theorem wy_h44 {post : Int32 → Prop} {a b c : Nat} (hS : g_slots = nI S) (hS12 : S ≤ 12) (ha : a < 6) (hb : b < 6) (hc : c < 6) (h6 : ∀ j, tx j < 6) (hT : ∀ j, j < 192 → b_text (16 + j) = nI (tx j)) (hbl : ∀ j, b_len j = nI (bl j)) (hbl16 : ∀ j, bl j ≤ 16) (hu : ∀ d, d < S → (b_used d = 0 ↔ bt lm d = false)) (hl : ∀ d, bt lm d = true → bl (d + 1) = tl d)
    (K : ∀ r, (∀ e, bt r e = true ↔ (e < S ∧ bt lm e = true ∧ ∃ i, i + 2 < tl e ∧ tg_tri tx (e * 16 + i) = (a * 6 + b) * 6 + c)) → post r) :
    ∀ m d r, d + m = S → (∀ e, bt r e = true ↔ (e < d ∧ bt lm e = true ∧ ∃ i, i + 2 < tl e ∧ tg_tri tx (e * 16 + i) = (a * 6 + b) * 6 + c)) → wY_holders_44 post (nI a) (nI b) (nI c) g_slots g_maxLen g_letters g_maxTokens g_size g_top b_text b_len b_used b_result b_pattern b_rel (m + 1) r (nI d) := by
  intro m
  induction m with
  | zero =>
    intro d r e h
    have e1 : d = S := by omega
    subst e1
    rw [wY_holders_44]
    refine br_t ?_ (K r h)
    rw [hS]; exact nI_le (Nat.le_refl _) (by omega)
  | succ m ih =>
    intro d r e h
    rw [wY_holders_44]
    have e2 : (nI d + 1) * 16 = nI ((d + 1) * 16 + 0) := by rw [nI_1]; exact pk_mul (d + 1) 16
    have hb16 := hbl16 (d + 1)
    refine br_f ?_ (nm_r e2 ⟨17, wy_h62 (r0 := r) (by omega) ha hb hc h6 hT hbl hbl16 (hu d (by omega)) (hl d) (fun r2 hr => ih (d + 1) r2 (by omega) (fun p => ?_)) 16 0 r (by omega) (by omega) (fun p => ?_)⟩)
    · rw [hS]; exact nI_ge (by omega) (by omega)
    · rw [hr p, h p]
      constructor
      · intro y
        rcases y with y | y
        · exact ⟨by omega, y.2⟩
        · rw [y.1]; exact ⟨by omega, y.2⟩
      · intro y
        rcases Nat.lt_or_ge p d with w | w
        · exact Or.inl ⟨w, y.2⟩
        · have e3 : p = d := by omega
          rw [e3] at y
          exact Or.inr ⟨e3, y.2⟩
    · exact ⟨Or.inl, fun y => y.elim id (fun ⟨_, _, j, y3, _⟩ => absurd y3 (Nat.not_lt_zero j))⟩
end
end
section
/-! the reference's step: each token does to the rows what the stack of languages says -/
section
variable {g_slots g_maxLen g_letters g_maxTokens g_size g_top : Int32} {b_text b_len b_used b_result b_pattern b_rel : Nat → Int32} {post : SY → Prop} {t n b : Nat}
theorem wy_367s (h7 : t ≠ 67) (h9 : t ≠ 69) (ht : t ≤ 69) (h : post (g_slots, g_maxLen, g_letters, g_maxTokens, g_size, g_top, b_text, b_len, b_used, b_result, b_pattern, b_rel)) : ∃ f, wY_step_367 post (nI t) (nI n) (nI b) g_slots g_maxLen g_letters g_maxTokens g_size g_top f 0 b_text b_len b_used b_result b_pattern b_rel := by
  refine ⟨1, ?_⟩
  rw [wY_step_367]
  exact pk_eq t 67 (fun z => absurd z h7) (fun _ => pk_eq t 69 (fun z => absurd z h9) (fun _ => h))
theorem wy_367d (h79 : t = 67 ∨ t = 69) (hn : n ≤ 16) (hb : b + n < 221) (K : ∀ rl : Nat → Int32, (∀ j, j < b → rl j = b_rel j) → (∀ s, s ≤ n → ∀ e, bt (rl (b + s)) e = true ↔ (bt (b_rel (b + s)) e = true ∨ e = s)) → post (g_slots, g_maxLen, g_letters, g_maxTokens, g_size, g_top, b_text, b_len, b_used, b_result, b_pattern, rl)) :
    ∀ m s (rl : Nat → Int32), s + m = n + 1 → (∀ j, j < b → rl j = b_rel j) → (∀ j, j < s → ∀ e, bt (rl (b + j)) e = true ↔ (bt (b_rel (b + j)) e = true ∨ e = j)) → (∀ j, b + s ≤ j → rl j = b_rel j) → wY_step_367 post (nI t) (nI n) (nI b) g_slots g_maxLen g_letters g_maxTokens g_size g_top (m + 1) (nI s) b_text b_len b_used b_result b_pattern rl := by
  intro m
  induction m with
  | zero =>
    intro s rl eq0 h1 h2 h3
    have q : wY_step_379 post (wY_step_367 post (nI t) (nI n) (nI b) g_slots g_maxLen g_letters g_maxTokens g_size g_top 0) (nI t) (nI n) (nI b) (nI s) g_slots g_maxLen g_letters g_maxTokens g_size g_top b_text b_len b_used b_result b_pattern rl := br_t (nI_lt (by omega) (by omega)) (K rl h1 (fun j hj => h2 j (by omega)))
    rw [wY_step_367]
    exact pk_eq t 67 (fun _ => q) (fun z => pk_eq t 69 (fun _ => q) (fun y => absurd h79 (by omega)))
  | succ m ih =>
    intro s rl eq0 h1 h2 h3
    have q : wY_step_379 post (wY_step_367 post (nI t) (nI n) (nI b) g_slots g_maxLen g_letters g_maxTokens g_size g_top (m + 1)) (nI t) (nI n) (nI b) (nI s) g_slots g_maxLen g_letters g_maxTokens g_size g_top b_text b_len b_used b_result b_pattern rl := by
      unfold wY_step_379
      rw [nI_add, nI_clamp (show b + s < 2 ^ 31 by omega)]
      refine br_f (nI_nlt (by omega) (by omega)) ⟨vp_in_nI (by omega) (by omega), vp_in_nI (by omega) (by omega), nm_e (nm_r (nI_1 s) (ih (s + 1) _ (by omega) (fun j hj => ?_) (fun j hj e => ?_) (fun j hj => ?_)))⟩
      · rw [pk_un (by omega)]; exact h1 j hj
      · rcases Nat.lt_or_ge j s with y | y
        · rw [pk_un (by omega)]; exact h2 j y e
        · have e1 : j = s := by omega
          subst e1
          rw [pk_us, bt_set _ j (by omega), Bool.or_eq_true, decide_eq_true_eq, h3 (b + j) (by omega)]
      · rw [pk_un (by omega)]; exact h3 j (by omega)
    rw [wY_step_367]
    exact pk_eq t 67 (fun _ => q) (fun z => pk_eq t 69 (fun _ => q) (fun y => absurd h79 (by omega)))
theorem wy_304 {J : (Int32 → (Nat → Int32) → (Nat → Int32) → (Nat → Int32) → (Nat → Int32) → (Nat → Int32) → (Nat → Int32) → Prop)} {m : Nat} (hm : m ≤ n) (hn : n ≤ 16) (hb : b + n < 221) (K : ∀ rl : Nat → Int32, (∀ j, j < b → rl j = b_rel j) → (∀ s, s ≤ n → ∀ e, bt (rl (b + s)) e = true ↔ (bt (b_rel (b + s)) e = true ∨ (bt (b_rel (b + s)) m = true ∧ bt (b_rel (b + m)) e = true))) → J (nI (m + 1)) b_text b_len b_used b_result b_pattern rl) :
    ∀ f s (rl : Nat → Int32), s + f = n + 1 → (∀ j, j < b → rl j = b_rel j) → (∀ j, j < s → ∀ e, bt (rl (b + j)) e = true ↔ (bt (b_rel (b + j)) e = true ∨ (bt (b_rel (b + j)) m = true ∧ bt (b_rel (b + m)) e = true))) → (∀ j, b + s ≤ j → rl j = b_rel j) → wY_step_304 post J (nI t) (nI n) (nI b) (nI m) g_slots g_maxLen g_letters g_maxTokens g_size g_top (f + 1) (nI s) b_text b_len b_used b_result b_pattern rl := by
  intro f
  induction f with
  | zero =>
    intro s rl eq0 h1 h2 h3
    rw [wY_step_304]
    exact br_t (nI_lt (by omega) (by omega)) (nm_r (nI_1 m) (K rl h1 (fun j hj => h2 j (by omega))))
  | succ f ih =>
    intro s rl eq0 h1 h2 h3
    have hrow : ∀ e, bt (rl (b + m)) e = true ↔ bt (b_rel (b + m)) e = true := by
      intro e
      rcases Nat.lt_or_ge m s with y | y
      · rw [h2 m y e]
        exact ⟨fun z => z.elim id (fun w => w.2), Or.inl⟩
      · rw [h3 (b + m) (by omega)]
    rw [wY_step_304]
    dsimp only
    rw [nI_add, nI_add, nI_clamp (show b + s < 2 ^ 31 by omega), nI_clamp (show b + m < 2 ^ 31 by omega)]
    have v : vp_in (nI (b + s)) 221 := vp_in_nI (by omega) (by omega)
    refine br_f (nI_nlt (by omega) (by omega)) ⟨v, bt_sbr m (by omega) (fun z => ⟨v, vp_in_nI (by omega) (by omega), v, nm_e (nm_r (nI_1 s) (ih (s + 1) _ (by omega) (fun j hj => ?_) (fun j hj e => ?_) (fun j hj => ?_)))⟩) (fun z => nm_r (nI_1 s) (ih (s + 1) rl (by omega) h1 (fun j hj e => ?_) (fun j hj => h3 j (by omega))))⟩
    · rw [pk_un (by omega)]; exact h1 j hj
    · rcases Nat.lt_or_ge j s with y | y
      · rw [pk_un (by omega)]; exact h2 j y e
      · have e1 : j = s := by omega
        subst e1
        rw [h3 (b + j) (by omega)] at z
        rw [pk_us, b_or, Bool.or_eq_true, hrow e, h3 (b + j) (by omega)]
        exact or_congr Iff.rfl ⟨fun w => ⟨z, w⟩, fun w => w.2⟩
    · rw [pk_un (by omega)]; exact h3 j (by omega)
    · rcases Nat.lt_or_ge j s with y | y
      · exact h2 j y e
      · have e1 : j = s := by omega
        subst e1
        rw [h3 (b + j) (by omega)] at z ⊢
        rw [z]
        exact ⟨Or.inl, fun w => w.elim id (fun u => absurd u.1 (by decide))⟩
theorem wy_283s (h7 : t ≠ 67) (h8 : t ≠ 68) (ht : t ≤ 69) (h : ∃ f, wY_step_367 post (nI t) (nI n) (nI b) g_slots g_maxLen g_letters g_maxTokens g_size g_top f 0 b_text b_len b_used b_result b_pattern b_rel) : ∃ f, wY_step_283 post (nI t) (nI n) (nI b) g_slots g_maxLen g_letters g_maxTokens g_size g_top f 0 b_text b_len b_used b_result b_pattern b_rel := by
  refine ⟨1, ?_⟩
  rw [wY_step_283]
  exact pk_eq t 67 (fun z => absurd z h7) (fun _ => pk_eq t 68 (fun z => absurd z h8) (fun _ => h))
theorem wy_283d (h78 : t = 67 ∨ t = 68) (hn : n ≤ 16) (hb : b + n < 221) {R : Nat → Nat → Prop} (M : ∀ s e, R s e → s ≤ e) (K : ∀ rl : Nat → Int32, (∀ j, j < b → rl j = b_rel j) → tg_Rel rl b n (Relation.TransGen R) → ∃ f, wY_step_367 post (nI t) (nI n) (nI b) g_slots g_maxLen g_letters g_maxTokens g_size g_top f 0 b_text b_len b_used b_result b_pattern rl) :
    ∀ f m (rl : Nat → Int32), m + f = n + 1 → (∀ j, j < b → rl j = b_rel j) → tg_Wi R n m (fun s e => bt (rl (b + s)) e = true) → wY_step_283 post (nI t) (nI n) (nI b) g_slots g_maxLen g_letters g_maxTokens g_size g_top (f + 1) (nI m) b_text b_len b_used b_result b_pattern rl := by
  intro f
  induction f with
  | zero =>
    intro m rl eq0 h1 h2
    have e1 : m = n + 1 := by omega
    subst e1
    have q : wY_step_295 post (wY_step_283 post (nI t) (nI n) (nI b) g_slots g_maxLen g_letters g_maxTokens g_size g_top 0) (nI t) (nI n) (nI b) (nI (n + 1)) g_slots g_maxLen g_letters g_maxTokens g_size g_top b_text b_len b_used b_result b_pattern rl := br_t (nI_lt (by omega) (by omega)) (K rl h1 (tg_wi_e M h2))
    rw [wY_step_283]
    exact pk_eq t 67 (fun _ => q) (fun z => pk_eq t 68 (fun _ => q) (fun y => absurd h78 (by omega)))
  | succ f ih =>
    intro m rl eq0 h1 h2
    have q : wY_step_295 post (wY_step_283 post (nI t) (nI n) (nI b) g_slots g_maxLen g_letters g_maxTokens g_size g_top (f + 1)) (nI t) (nI n) (nI b) (nI m) g_slots g_maxLen g_letters g_maxTokens g_size g_top b_text b_len b_used b_result b_pattern rl := by
      refine br_f (nI_nlt (by omega) (by omega)) ⟨n + 2, wy_304 (by omega) hn hb (fun rl2 g1 g2 => ih (m + 1) rl2 (by omega) (fun j hj => by rw [g1 j hj, h1 j hj]) ?_) (n + 1) 0 rl (by omega) (fun j _ => rfl) (fun j hj => absurd hj (Nat.not_lt_zero j)) (fun j _ => rfl)⟩
      exact tg_wi_s h2 (by omega) g2
    rw [wY_step_283]
    exact pk_eq t 67 (fun _ => q) (fun z => pk_eq t 68 (fun _ => q) (fun y => absurd h78 (by omega)))
theorem wy_216 {J : (Int32 → (Nat → Int32) → (Nat → Int32) → (Nat → Int32) → (Nat → Int32) → (Nat → Int32) → (Nat → Int32) → Prop)} {s : Nat} (hs : s ≤ n) (hn : n ≤ 16) (hb : b + 17 + n < 221) (K : ∀ row : Int32, (∀ e, bt row e = true ↔ ∃ m, m ≤ n ∧ bt (b_rel (b + s)) m = true ∧ bt (b_rel (b + 17 + m)) e = true) → J (nI (s + 1)) b_text b_len b_used b_result b_pattern (upd b_rel (b + s) row)) :
    ∀ f m row, m + f = n + 1 → (∀ e, bt row e = true ↔ ∃ k, k < m ∧ bt (b_rel (b + s)) k = true ∧ bt (b_rel (b + 17 + k)) e = true) → wY_step_216 post J (nI t) (nI n) (nI b) (nI (b + 17)) (nI s) g_slots g_maxLen g_letters g_maxTokens g_size g_top b_text b_len b_used b_result b_pattern b_rel (f + 1) row (nI m) := by
  have v : vp_in (nI (b + s)) 221 := vp_in_nI (by omega) (by omega)
  intro f
  induction f with
  | zero =>
    intro m row eq0 h
    rw [wY_step_216]
    dsimp only
    rw [nI_add b s, nI_clamp (show b + s < 2 ^ 31 by omega)]
    refine br_t (nI_lt (by omega) (by omega)) ⟨v, nm_e (nm_r (nI_1 s) (K row (fun e => (h e).trans ⟨fun ⟨k, y⟩ => ⟨k, by omega, y.2⟩, fun ⟨k, y⟩ => ⟨k, by omega, y.2⟩⟩)))⟩
  | succ f ih =>
    intro m row eq0 h
    rw [wY_step_216]
    dsimp only
    rw [nI_add b s, nI_clamp (show b + s < 2 ^ 31 by omega), nI_add (b + 17) m, nI_clamp (show b + 17 + m < 2 ^ 31 by omega)]
    refine br_f (nI_nlt (by omega) (by omega)) ⟨v, bt_sbr m (by omega) (fun z => ⟨vp_in_nI (by omega) (by omega), nm_e (nm_r (nI_1 m) (ih (m + 1) _ (by omega) (fun e => ?_)))⟩) (fun z => nm_r (nI_1 m) (ih (m + 1) row (by omega) (fun e => (h e).trans ⟨fun ⟨k, y⟩ => ⟨k, by omega, y.2⟩, fun ⟨k, y⟩ => ⟨k, ?_, y.2⟩⟩)))⟩
    · rw [b_or, Bool.or_eq_true, h e]
      constructor
      · intro y
        rcases y with ⟨k, y⟩ | y
        · exact ⟨k, by omega, y.2⟩
        · exact ⟨m, by omega, z, y⟩
      · intro ⟨k, y⟩
        rcases Nat.lt_or_ge k m with w | w
        · exact Or.inl ⟨k, w, y.2⟩
        · have e1 : k = m := by omega
          subst e1
          exact Or.inr y.2.2
    · rcases Nat.lt_or_ge k m with w | w
      · exact w
      · have y2 := y.2.1
        rw [show k = m from by omega, z] at y2
        exact absurd y2 (by decide)
theorem wy_198s (h5 : t ≠ 65) (ht : t ≤ 69) (h : ∃ f, wY_step_283 post (nI t) (nI n) (nI b) g_slots g_maxLen g_letters g_maxTokens g_size g_top f 0 b_text b_len b_used b_result b_pattern b_rel) : ∃ f, wY_step_198 post (nI t) (nI n) (nI b) (nI (b + 17)) g_slots g_maxLen g_letters g_maxTokens g_size g_top f 0 b_text b_len b_used b_result b_pattern b_rel := by
  refine ⟨1, ?_⟩
  rw [wY_step_198]
  exact pk_eq t 65 (fun z => absurd z h5) (fun _ => h)
theorem wy_198d (h5 : t = 65) (hn : n ≤ 16) (hb : b + 17 + n < 221) (K : ∀ rl : Nat → Int32, (∀ j, j < b → rl j = b_rel j) → (∀ s, s ≤ n → ∀ e, bt (rl (b + s)) e = true ↔ ∃ m, m ≤ n ∧ bt (b_rel (b + s)) m = true ∧ bt (b_rel (b + 17 + m)) e = true) → ∃ f, wY_step_283 post (nI t) (nI n) (nI b) g_slots g_maxLen g_letters g_maxTokens g_size g_top f 0 b_text b_len b_used b_result b_pattern rl) :
    ∀ f s (rl : Nat → Int32), s + f = n + 1 → (∀ j, j < b → rl j = b_rel j) → (∀ j, j < s → ∀ e, bt (rl (b + j)) e = true ↔ ∃ m, m ≤ n ∧ bt (b_rel (b + j)) m = true ∧ bt (b_rel (b + 17 + m)) e = true) → (∀ j, b + s ≤ j → rl j = b_rel j) → wY_step_198 post (nI t) (nI n) (nI b) (nI (b + 17)) g_slots g_maxLen g_letters g_maxTokens g_size g_top (f + 1) (nI s) b_text b_len b_used b_result b_pattern rl := by
  intro f
  induction f with
  | zero =>
    intro s rl eq0 h1 h2 h3
    rw [wY_step_198]
    exact pk_eq t 65 (fun _ => br_t (nI_lt (by omega) (by omega)) (K rl h1 (fun j hj => h2 j (by omega)))) (fun z => absurd h5 z)
  | succ f ih =>
    intro s rl eq0 h1 h2 h3
    rw [wY_step_198]
    refine pk_eq t 65 (fun _ => br_f (nI_nlt (by omega) (by omega)) ⟨n + 2, wy_216 (by omega) hn hb (fun row hr => ih (s + 1) _ (by omega) (fun j hj => ?_) (fun j hj e => ?_) (fun j hj => ?_)) (n + 1) 0 0 (by omega) (fun e => ?_)⟩) (fun z => absurd h5 z)
    · rw [pk_un (by omega)]; exact h1 j hj
    · rcases Nat.lt_or_ge j s with y | y
      · rw [pk_un (by omega)]; exact h2 j y e
      · have e1 : j = s := by omega
        subst e1
        rw [pk_us, hr e]
        refine exists_congr (fun m => and_congr Iff.rfl ?_)
        rw [h3 (b + j) (by omega), h3 (b + 17 + m) (by omega)]
    · rw [pk_un (by omega)]; exact h3 j (by omega)
    · rw [b_0]
      exact ⟨fun y => absurd y (by decide), fun ⟨k, y⟩ => absurd y.1 (Nat.not_lt_zero k)⟩
theorem wy_154s (h6 : t ≠ 66) (ht : t ≤ 69) (h : ∃ f, wY_step_198 post (nI t) (nI n) (nI b) (nI (b + 17)) g_slots g_maxLen g_letters g_maxTokens g_size g_top f 0 b_text b_len b_used b_result b_pattern b_rel) : ∃ f, wY_step_154 post (nI t) (nI n) (nI b) (nI (b + 17)) g_slots g_maxLen g_letters g_maxTokens g_size g_top f 0 b_text b_len b_used b_result b_pattern b_rel := by
  refine ⟨1, ?_⟩
  rw [wY_step_154]
  exact pk_eq t 66 (fun z => absurd z h6) (fun _ => h)
theorem wy_154d (h6 : t = 66) (hn : n ≤ 16) (hb : b + 17 + n < 221) (K : ∀ rl : Nat → Int32, (∀ j, j < b → rl j = b_rel j) → (∀ s, s ≤ n → ∀ e, bt (rl (b + s)) e = true ↔ (bt (b_rel (b + s)) e = true ∨ bt (b_rel (b + 17 + s)) e = true)) → ∃ f, wY_step_198 post (nI t) (nI n) (nI b) (nI (b + 17)) g_slots g_maxLen g_letters g_maxTokens g_size g_top f 0 b_text b_len b_used b_result b_pattern rl) :
    ∀ f s (rl : Nat → Int32), s + f = n + 1 → (∀ j, j < b → rl j = b_rel j) → (∀ j, j < s → ∀ e, bt (rl (b + j)) e = true ↔ (bt (b_rel (b + j)) e = true ∨ bt (b_rel (b + 17 + j)) e = true)) → (∀ j, b + s ≤ j → rl j = b_rel j) → wY_step_154 post (nI t) (nI n) (nI b) (nI (b + 17)) g_slots g_maxLen g_letters g_maxTokens g_size g_top (f + 1) (nI s) b_text b_len b_used b_result b_pattern rl := by
  intro f
  induction f with
  | zero =>
    intro s rl eq0 h1 h2 h3
    rw [wY_step_154]
    exact pk_eq t 66 (fun _ => br_t (nI_lt (by omega) (by omega)) (K rl h1 (fun j hj => h2 j (by omega)))) (fun z => absurd h6 z)
  | succ f ih =>
    intro s rl eq0 h1 h2 h3
    rw [wY_step_154]
    dsimp only
    rw [nI_add b s, nI_clamp (show b + s < 2 ^ 31 by omega), nI_add (b + 17) s, nI_clamp (show b + 17 + s < 2 ^ 31 by omega)]
    have v : vp_in (nI (b + s)) 221 := vp_in_nI (by omega) (by omega)
    refine pk_eq t 66 (fun _ => br_f (nI_nlt (by omega) (by omega)) ⟨v, vp_in_nI (by omega) (by omega), v, nm_e (nm_r (nI_1 s) (ih (s + 1) _ (by omega) (fun j hj => ?_) (fun j hj e => ?_) (fun j hj => ?_)))⟩) (fun z => absurd h6 z)
    · rw [pk_un (by omega)]; exact h1 j hj
    · rcases Nat.lt_or_ge j s with y | y
      · rw [pk_un (by omega)]; exact h2 j y e
      · have e1 : j = s := by omega
        subst e1
        rw [pk_us, b_or, Bool.or_eq_true, h3 (b + j) (by omega), h3 (b + 17 + j) (by omega)]
    · rw [pk_un (by omega)]; exact h3 j (by omega)
/-! a leaf -/
theorem wy_9 {D at0 : Nat} {x : Nat → Nat} (hD : g_top = nI D) (hD12 : D < 12) (hn : n ≤ 16) (ht : t ≤ 64) (hat : at0 + n ≤ 208) (h6 : ∀ j, x j < 6) (hx : ∀ s, s < n → b_text (at0 + s) = nI (x s)) (K : ∀ rl : Nat → Int32, (∀ j, j < D * 17 → rl j = b_rel j) → (∀ s, s ≤ n → ∀ e, bt (rl (D * 17 + s)) e = true ↔ ((t = 64 ∧ e = s) ∨ (t ≠ 64 ∧ s < n ∧ t.testBit (x s) = true ∧ e = s + 1))) → post (g_slots, g_maxLen, g_letters, g_maxTokens, g_size, nI (D + 1), b_text, b_len, b_used, b_result, b_pattern, rl)) :
    ∀ f s (rl : Nat → Int32), s + f = n + 1 → (∀ j, j < D * 17 → rl j = b_rel j) → (∀ j, j < s → ∀ e, bt (rl (D * 17 + j)) e = true ↔ ((t = 64 ∧ e = j) ∨ (t ≠ 64 ∧ j < n ∧ t.testBit (x j) = true ∧ e = j + 1))) → wY_step_9 post (nI t) (nI at0) (nI n) g_slots g_maxLen g_letters g_maxTokens g_size g_top (f + 1) (nI s) b_text b_len b_used b_result b_pattern rl := by
  subst hD
  intro f
  induction f with
  | zero =>
    intro s rl eq0 h1 h2
    rw [wY_step_9]
    exact br_t (nI_lt (by omega) (by omega)) (nm_r (nI_1 D) (K rl h1 (fun j hj => h2 j (by omega))))
  | succ f ih =>
    intro s rl eq0 h1 h2
    have ez : nI D * 17 + nI s = nI (D * 17 + s) := by rw [show (17 : Int32) = nI 17 from rfl, pk_mul, nI_add]
    have v : vp_in (nI (D * 17 + s)) 221 := vp_in_nI (by omega) (by omega)
    have nx : ∀ row : Int32, ∀ rl2 : Nat → Int32, rl2 (D * 17 + s) = row → (∀ j, j ≠ D * 17 + s → rl2 j = rl j) → (∀ e, bt row e = true ↔ ((t = 64 ∧ e = s) ∨ (t ≠ 64 ∧ s < n ∧ t.testBit (x s) = true ∧ e = s + 1))) → wY_step_9 post (nI t) (nI at0) (nI n) g_slots g_maxLen g_letters g_maxTokens g_size (nI D) (f + 1) (nI (s + 1)) b_text b_len b_used b_result b_pattern rl2 := by
      intro row rl2 g1 g2 g3
      refine ih (s + 1) rl2 (by omega) (fun j hj => by rw [g2 j (by omega)]; exact h1 j hj) (fun j hj e => ?_)
      rcases Nat.lt_or_ge j s with y | y
      · rw [g2 _ (by omega)]; exact h2 j y e
      · have e1 : j = s := by omega
        subst e1
        rw [g1]; exact g3 e
    rw [wY_step_9]
    dsimp only
    rw [ez]
    refine br_f (nI_nlt (by omega) (by omega)) (pk_eq t 64 (fun z => ?_) (fun z => ?_))
    · unfold wY_step_43
      rw [nI_clamp (show D * 17 + s < 2 ^ 31 by omega)]
      refine ⟨v, nm_e (pk_eq t 64 (fun _ => nm_r (nI_1 s) (nx _ _ pk_us (fun j hj => pk_un hj) (fun e => ?_))) (fun y => absurd z y))⟩
      rw [bt_sh s (by omega), decide_eq_true_eq]
      exact ⟨fun y => Or.inl ⟨z, y⟩, fun y => y.elim (fun w => w.2) (fun w => absurd z w.1)⟩
    · unfold wY_step_43
      rw [ez, nI_clamp (show D * 17 + s < 2 ^ 31 by omega), nI_add at0 s, nI_clamp (show at0 + s < 2 ^ 31 by omega), nI_1 s]
      refine ⟨v, nm_e (pk_eq t 64 (fun y => absurd y z) (fun _ => pk_le n s (fun y => nm_e (nx _ _ pk_us (fun j hj => pk_un hj) (fun e => ?_))) (fun y => ⟨vp_in_nI (by omega) (by omega), ?_⟩)))⟩
      · rw [b_0]
        exact ⟨fun w => absurd w (by decide), fun w => w.elim (fun u => absurd u.1 z) (fun u => by omega)⟩
      · have g6 := h6 s
        rw [hx s y]
        refine bt_sbr (x s) (by omega) (fun w => ⟨v, nm_e (nm_e (nx _ _ pk_us (fun j hj => by rw [pk_un hj, pk_un hj]) (fun e => ?_)))⟩) (fun w => nm_e (nx _ _ pk_us (fun j hj => pk_un hj) (fun e => ?_)))
        · rw [bt_nI _ (by omega)] at w
          rw [bt_sh (s + 1) (by omega), decide_eq_true_eq]
          exact ⟨fun u => Or.inr ⟨z, y, w, u⟩, fun u => u.elim (fun k => absurd k.1 z) (fun k => k.2.2.2)⟩
        · rw [bt_nI _ (by omega)] at w
          rw [b_0]
          exact ⟨fun u => absurd u (by decide), fun u => u.elim (fun k => absurd k.1 z) (fun k => by rw [w] at k; exact absurd k.2.2.1 (by decide))⟩
end
end
section
/-! the reference's search: tokens, the least end, the loop over the slots -/
def tg_YS (tk : Nat → Nat) (x : Nat → Nat) (n i : Nat) (rl : Nat → Int32) : Prop := ∀ k, k < tg_dp tk i → tg_Rel rl (k * 17) n (tg_sm tk i k x)
theorem tg_ys_fr {tk x : Nat → Nat} {n i m : Nat} {rl rl2 : Nat → Int32} (hn : n ≤ 16) (H : tg_YS tk x n i rl) (hm : m ≤ tg_dp tk i) (h : ∀ j, j < m * 17 → rl2 j = rl j) {k : Nat} (hk : k < m) : tg_Rel rl2 (k * 17) n (tg_sm tk i k x) := by
  intro s hs e
  rw [h (k * 17 + s) (by omega)]
  exact H k (by omega) s hs e
section
variable {g_slots g_maxLen g_letters g_maxTokens g_size g_top : Int32} {b_text b_len b_used b_result b_pattern b_rel : Nat → Int32} {post : SY → Prop} {n i at0 : Nat} {x tk : Nat → Nat}
theorem wy_st_leaf (H : tg_YS tk x n i b_rel) (hok : tg_ok tk i) (hd12 : tg_dp tk i ≤ 12) (hn : n ≤ 16) (hD : g_top = nI (tg_dp tk i)) (hat : at0 + n ≤ 208) (h6 : ∀ j, x j < 6) (hx : ∀ s, s < n → b_text (at0 + s) = nI (x s)) (ht : tk i ≤ 64) (K : ∀ rl : Nat → Int32, tg_YS tk x n (i + 1) rl → post (g_slots, g_maxLen, g_letters, g_maxTokens, g_size, nI (tg_dp tk (i + 1)), b_text, b_len, b_used, b_result, b_pattern, rl)) : wpY_step post (g_slots, g_maxLen, g_letters, g_maxTokens, g_size, g_top, b_text, b_len, b_used, b_result, b_pattern, b_rel) (nI (tk i)) (nI at0) (nI n) := by
  refine br_f (nI_nlt (a := 64) (by omega) (by omega)) ⟨n + 2, wy_9 hD (hok.2.2.1 ht) hn ht hat h6 hx (fun rl g1 g2 => ?_) (n + 1) 0 b_rel (by omega) (fun j _ => rfl) (fun j hj => absurd hj (Nat.not_lt_zero j))⟩
  rw [← tg_dp_leaf ht]
  refine K rl (fun k hk => ?_)
  rw [tg_dp_leaf ht] at hk
  rcases Nat.lt_or_ge (tk i) 64 with z | z
  · rcases Nat.lt_or_ge k (tg_dp tk i) with y | y
    · rw [tg_sm_sym' z y]
      exact tg_ys_fr hn H (Nat.le_refl _) g1 y
    · have e1 : k = tg_dp tk i := by omega
      subst e1
      rw [tg_sm_sym z]
      intro s hs e
      rw [g2 s hs e]
      constructor
      · intro w
        rcases w with w | w
        · exact absurd w.1 (by omega)
        · exact ⟨by omega, w.2.2.2, w.2.2.1⟩
      · intro ⟨w1, w2, w3⟩
        exact Or.inr ⟨by omega, by omega, w3, w2⟩
  · have e64 : tk i = 64 := by omega
    rcases Nat.lt_or_ge k (tg_dp tk i) with y | y
    · rw [tg_sm_eps' e64 y]
      exact tg_ys_fr hn H (Nat.le_refl _) g1 y
    · have e1 : k = tg_dp tk i := by omega
      subst e1
      rw [tg_sm_eps e64]
      intro s hs e
      rw [g2 s hs e]
      constructor
      · intro w
        rcases w with w | w
        · exact ⟨by omega, w.2⟩
        · exact absurd e64 w.1
      · intro ⟨w1, w2⟩
        exact Or.inl ⟨e64, w2⟩
theorem wy_133 {t b p : Nat} (hb : b = p * 17) (hD : g_top = nI (p + 1)) (h : ∃ f, wY_step_154 post (nI t) (nI n) (nI b) (nI (b + 17)) g_slots g_maxLen g_letters g_maxTokens g_size g_top f 0 b_text b_len b_used b_result b_pattern b_rel) : wY_step_133 post (nI t) (nI n) g_slots g_maxLen g_letters g_maxTokens g_size g_top b_text b_len b_used b_result b_pattern b_rel := by
  have e1 : (g_top - 1) * 17 = nI b := by rw [hD, nI_pred, hb]; exact pk_mul p 17
  exact nm_r e1 (nm_r (nI_add b 17) h)
theorem wy_st_cat (H : tg_YS tk x n i b_rel) (hok : tg_ok tk i) (hd12 : tg_dp tk i ≤ 12) (hn : n ≤ 16) (hD : g_top = nI (tg_dp tk i)) (ht : tk i = 65) (K : ∀ rl : Nat → Int32, tg_YS tk x n (i + 1) rl → post (g_slots, g_maxLen, g_letters, g_maxTokens, g_size, nI (tg_dp tk (i + 1)), b_text, b_len, b_used, b_result, b_pattern, rl)) : wpY_step post (g_slots, g_maxLen, g_letters, g_maxTokens, g_size, g_top, b_text, b_len, b_used, b_result, b_pattern, b_rel) (nI (tk i)) (nI at0) (nI n) := by
  have h2 := hok.2.2.2.1 (by omega) (by omega)
  obtain ⟨p, hp⟩ : ∃ p, p + 2 = tg_dp tk i := ⟨tg_dp tk i - 2, by omega⟩
  have e1 : g_top - 1 = nI (p + 1) := by rw [hD, ← hp]; exact nI_pred (p + 1)
  refine br_t (nI_lt (a := 64) (by omega) (by omega)) (pk_eq (tk i) 65 (fun _ => nm_r e1 (wy_133 (b := p * 17) rfl rfl (wy_154s (by omega) (by omega) ⟨n + 2, ?_⟩))) (fun z => absurd ht z))
  refine wy_198d ht hn (by omega) (fun rl g1 g2 => wy_283s (by omega) (by omega) (by omega) (wy_367s (by omega) (by omega) (by omega) ?_)) (n + 1) 0 b_rel (by omega) (fun j _ => rfl) (fun j hj => absurd hj (Nat.not_lt_zero j)) (fun j _ => rfl)
  have q := K rl (fun k hk => by
    rw [tg_dp_bin (by omega) (by omega)] at hk
    rcases Nat.lt_or_ge k p with y | y
    · rw [tg_sm_cat' ht (by omega)]
      exact tg_ys_fr hn H (by omega) g1 y
    · have e2 : k = p := by omega
      subst e2
      rw [tg_sm_cat ht hp]
      intro s hs e
      rw [g2 s hs e]
      have A := H k (by omega)
      have B := H (k + 1) (by omega)
      rw [show (k + 1) * 17 = k * 17 + 17 from by omega] at B
      constructor
      · intro ⟨m, w1, w2, w3⟩
        have a := (A s hs m).mp w2
        have c := (B m w1 e).mp w3
        exact ⟨c.1, m, a.2, c.2⟩
      · intro ⟨w1, m, w2, w3⟩
        have hm := tg_mo tk i (k + 1) x m e w3
        exact ⟨m, by omega, (A s hs m).mpr ⟨by omega, w2⟩, (B m (by omega) e).mpr ⟨w1, w3⟩⟩)
  rw [tg_dp_bin (by omega) (by omega), show tg_dp tk i - 1 = p + 1 from by omega] at q
  exact q
theorem wy_st_alt (H : tg_YS tk x n i b_rel) (hok : tg_ok tk i) (hd12 : tg_dp tk i ≤ 12) (hn : n ≤ 16) (hD : g_top = nI (tg_dp tk i)) (ht : tk i = 66) (K : ∀ rl : Nat → Int32, tg_YS tk x n (i + 1) rl → post (g_slots, g_maxLen, g_letters, g_maxTokens, g_size, nI (tg_dp tk (i + 1)), b_text, b_len, b_used, b_result, b_pattern, rl)) : wpY_step post (g_slots, g_maxLen, g_letters, g_maxTokens, g_size, g_top, b_text, b_len, b_used, b_result, b_pattern, b_rel) (nI (tk i)) (nI at0) (nI n) := by
  have h2 := hok.2.2.2.1 (by omega) (by omega)
  obtain ⟨p, hp⟩ : ∃ p, p + 2 = tg_dp tk i := ⟨tg_dp tk i - 2, by omega⟩
  have e1 : g_top - 1 = nI (p + 1) := by rw [hD, ← hp]; exact nI_pred (p + 1)
  refine br_t (nI_lt (a := 64) (by omega) (by omega)) (pk_eq (tk i) 65 (fun z => by omega) (fun _ => pk_eq (tk i) 66 (fun _ => nm_r e1 (wy_133 (b := p * 17) rfl rfl ⟨n + 2, ?_⟩)) (fun z => absurd ht z)))
  refine wy_154d ht hn (by omega) (fun rl g1 g2 => wy_198s (by omega) (by omega) (wy_283s (by omega) (by omega) (by omega) (wy_367s (by omega) (by omega) (by omega) ?_))) (n + 1) 0 b_rel (by omega) (fun j _ => rfl) (fun j hj => absurd hj (Nat.not_lt_zero j)) (fun j _ => rfl)
  have q := K rl (fun k hk => by
    rw [tg_dp_bin (by omega) (by omega)] at hk
    rcases Nat.lt_or_ge k p with y | y
    · rw [tg_sm_alt' ht (by omega)]
      exact tg_ys_fr hn H (by omega) g1 y
    · have e2 : k = p := by omega
      subst e2
      rw [tg_sm_alt ht hp]
      intro s hs e
      have A := H k (by omega) s hs e
      have B := H (k + 1) (by omega) s hs e
      rw [show (k + 1) * 17 = k * 17 + 17 from by omega] at B
      rw [g2 s hs e, A, B]
      constructor
      · intro w
        rcases w with w | w
        · exact ⟨w.1, Or.inl w.2⟩
        · exact ⟨w.1, Or.inr w.2⟩
      · intro ⟨w1, w2⟩
        exact w2.imp (fun u => ⟨w1, u⟩) (fun u => ⟨w1, u⟩))
  rw [tg_dp_bin (by omega) (by omega), show tg_dp tk i - 1 = p + 1 from by omega] at q
  exact q
/-- the tokens of one operand: what both loops give -/
theorem wy_st_un (H : tg_YS tk x n i b_rel) (hok : tg_ok tk i) (hd12 : tg_dp tk i ≤ 12) (hn : n ≤ 16) (hD : g_top = nI (tg_dp tk i)) (ht : 67 ≤ tk i) (K : ∀ rl : Nat → Int32, tg_YS tk x n (i + 1) rl → post (g_slots, g_maxLen, g_letters, g_maxTokens, g_size, nI (tg_dp tk (i + 1)), b_text, b_len, b_used, b_result, b_pattern, rl)) : wpY_step post (g_slots, g_maxLen, g_letters, g_maxTokens, g_size, g_top, b_text, b_len, b_used, b_result, b_pattern, b_rel) (nI (tk i)) (nI at0) (nI n) := by
  have h2 := hok.2.2.2.2 ht
  have h69 := hok.2.1
  obtain ⟨p, hp⟩ : ∃ p, p + 1 = tg_dp tk i := ⟨tg_dp tk i - 1, by omega⟩
  have hDp : g_top = nI (p + 1) := by rw [hD, hp]
  have hM : ∀ s e, tg_sm tk i p x s e → s ≤ e := fun s e w => tg_mo tk i p x s e w
  have A := H p (by omega)
  have fin : ∀ rl : Nat → Int32, (∀ j, j < p * 17 → rl j = b_rel j) → tg_Rel rl (p * 17) n (tg_sm tk (i + 1) p x) → post (g_slots, g_maxLen, g_letters, g_maxTokens, g_size, g_top, b_text, b_len, b_used, b_result, b_pattern, rl) := by
    intro rl g1 g2
    have q := K rl (fun k hk => by
      rw [tg_dp_un ht] at hk
      rcases Nat.lt_or_ge k p with y | y
      · rw [tg_sm_un' ht (by omega)]
        exact tg_ys_fr hn H (by omega) g1 y
      · have e2 : k = p := by omega
        subst e2
        exact g2)
    rw [tg_dp_un ht, ← hD] at q
    exact q
  refine br_t (nI_lt (a := 64) (by omega) (by omega)) (pk_eq (tk i) 65 (fun z => by omega) (fun _ => pk_eq (tk i) 66 (fun z => by omega) (fun _ => wy_133 (b := p * 17) rfl hDp (wy_154s (by omega) (by omega) (wy_198s (by omega) (by omega) ?_)))))
  rcases Nat.lt_or_ge (tk i) 69 with z | z
  · refine ⟨n + 2, wy_283d (by omega) hn (by omega) hM (fun rl g1 g2 => ?_) (n + 1) 0 b_rel (by omega) (fun j _ => rfl) (tg_wi_0 A)⟩
    rcases Nat.lt_or_ge (tk i) 68 with y | y
    · refine ⟨n + 2, wy_367d (by omega) hn (by omega) (fun rl2 k1 k2 => fin rl2 (fun j hj => by rw [k1 j hj, g1 j hj]) ?_) (n + 1) 0 rl (by omega) (fun j _ => rfl) (fun j hj => absurd hj (Nat.not_lt_zero j)) (fun j _ => rfl)⟩
      rw [tg_sm_star (by omega) hp]
      intro s hs e
      rw [k2 s hs e, g2 s hs e]
      constructor
      · intro w
        rcases w with w | w
        · exact ⟨w.1, Or.inl w.2⟩
        · exact ⟨by omega, Or.inr w⟩
      · intro ⟨w1, w2⟩
        exact w2.imp (fun u => ⟨w1, u⟩) id
    · refine wy_367s (by omega) (by omega) (by omega) (fin rl g1 ?_)
      rw [tg_sm_plus (by omega) hp]
      exact g2
  · refine wy_283s (by omega) (by omega) (by omega) ⟨n + 2, wy_367d (by omega) hn (by omega) (fun rl2 k1 k2 => fin rl2 k1 ?_) (n + 1) 0 b_rel (by omega) (fun j _ => rfl) (fun j hj => absurd hj (Nat.not_lt_zero j)) (fun j _ => rfl)⟩
    rw [tg_sm_opt z hp]
    intro s hs e
    rw [k2 s hs e, A s hs e]
    constructor
    · intro w
      rcases w with w | w
      · exact ⟨w.1, Or.inl w.2⟩
      · exact ⟨by omega, Or.inr w⟩
    · intro ⟨w1, w2⟩
      exact w2.imp (fun u => ⟨w1, u⟩) id
theorem wy_step (H : tg_YS tk x n i b_rel) (hok : tg_ok tk i) (hd12 : tg_dp tk i ≤ 12) (hn : n ≤ 16) (hD : g_top = nI (tg_dp tk i)) (hat : at0 + n ≤ 208) (h6 : ∀ j, x j < 6) (hx : ∀ s, s < n → b_text (at0 + s) = nI (x s)) (K : ∀ rl : Nat → Int32, tg_YS tk x n (i + 1) rl → post (g_slots, g_maxLen, g_letters, g_maxTokens, g_size, nI (tg_dp tk (i + 1)), b_text, b_len, b_used, b_result, b_pattern, rl)) : wpY_step post (g_slots, g_maxLen, g_letters, g_maxTokens, g_size, g_top, b_text, b_len, b_used, b_result, b_pattern, b_rel) (nI (tk i)) (nI at0) (nI n) := by
  rcases Nat.lt_or_ge 64 (tk i) with z | z
  · rcases Nat.lt_or_ge 66 (tk i) with y | y
    · exact wy_st_un H hok hd12 hn hD y K
    · rcases Nat.lt_or_ge 65 (tk i) with w | w
      · exact wy_st_alt H hok hd12 hn hD (by omega) K
      · exact wy_st_cat H hok hd12 hn hD (by omega) K
  · exact wy_st_leaf H hok hd12 hn hD hat h6 hx z K
end
/-! the least end of a word of the pattern -/
section
variable {g_slots g_maxLen g_letters g_maxTokens g_size g_top : Int32} {b_text b_len b_used b_result b_pattern b_rel : Nat → Int32} {post : Int32 → SY → Prop} {n N d S : Nat} {x tk tx tl bl : Nat → Nat} {lm : Int32}
theorem wy_61 {J : Int32 → Prop} {W : Nat → Nat → Prop} {e : Nat} (he : e ≤ N) (hN : N ≤ 16) (M : ∀ s e, W s e → s ≤ e) (R : tg_Rel b_rel 0 N W) (h1 : (∃ s, W s e) → post (nI e) (g_slots, g_maxLen, g_letters, g_maxTokens, g_size, g_top, b_text, b_len, b_used, b_result, b_pattern, b_rel)) (h2 : (¬ ∃ s, W s e) → J (nI (e + 1))) :
    ∀ m s, s + m = e + 1 → (∀ k, k < s → ¬ W k e) → wY_firstMatch_61 post J (nI d) (nI e) g_slots g_maxLen g_letters g_maxTokens g_size g_top b_text b_len b_used b_result b_pattern b_rel (m + 1) (nI s) := by
  intro m
  induction m with
  | zero =>
    intro s e0 h
    rw [wY_firstMatch_61]
    refine br_t (nI_lt (by omega) (by omega)) (nm_r (nI_1 e) (h2 (fun ⟨k, w⟩ => ?_)))
    have := M k e w
    exact h k (by omega) w
  | succ m ih =>
    intro s e0 h
    have r := R s (by omega) e
    rw [Nat.zero_add] at r
    rw [wY_firstMatch_61]
    dsimp only
    rw [nI_clamp (show s < 2 ^ 31 by omega)]
    refine br_f (nI_nlt (by omega) (by omega)) ⟨vp_in_nI (by omega) (by omega), bt_sbr e (by omega) (fun z => h1 ⟨s, (r.mp z).2⟩) (fun z => nm_r (nI_1 s) (ih (s + 1) (by omega) (fun k hk w => ?_)))⟩
    rcases Nat.lt_or_ge k s with y | y
    · exact h k y w
    · rw [show k = s from by omega] at w
      rw [r.mpr ⟨he, w⟩] at z
      exact absurd z (by decide)
theorem wy_47 {W : Nat → Nat → Prop} (hd : d < 12) (hN : N ≤ 16) (hl : b_len (d + 1) = nI N) (M : ∀ s e, W s e → s ≤ e) (R : tg_Rel b_rel 0 N W) (K : ∀ r, tg_Rs W N r → post r (g_slots, g_maxLen, g_letters, g_maxTokens, g_size, g_top, b_text, b_len, b_used, b_result, b_pattern, b_rel)) :
    ∀ m e, e + m = N + 1 → (∀ k, k < e → ¬ ∃ s, W s k) → wY_firstMatch_47 post (nI d) g_slots g_maxLen g_letters g_maxTokens g_size g_top b_text b_len b_used b_result b_pattern b_rel (m + 1) (nI e) := by
  have v : vp_in (nI (d + 1)) 13 := vp_in_nI (by omega) (by omega)
  intro m
  induction m with
  | zero =>
    intro e e0 h
    rw [wY_firstMatch_47]
    dsimp only
    rw [nI_1 d, nI_clamp (show d + 1 < 2 ^ 31 by omega), hl]
    exact ⟨v, br_t (nI_lt (by omega) (by omega)) (K _ (Or.inr ⟨rfl, fun k hk => h k (by omega)⟩))⟩
  | succ m ih =>
    intro e e0 h
    rw [wY_firstMatch_47]
    dsimp only
    rw [nI_1 d, nI_clamp (show d + 1 < 2 ^ 31 by omega), hl]
    refine ⟨v, br_f (nI_nlt (by omega) (by omega)) ⟨e + 2, wy_61 (by omega) hN M R (fun w => K _ (Or.inl ⟨e, by omega, rfl, w, h⟩)) (fun w => ih (e + 1) (by omega) (fun k hk => ?_)) (e + 1) 0 (by omega) (fun k hk => absurd hk (Nat.not_lt_zero k))⟩⟩
    rcases Nat.lt_or_ge k e with y | y
    · exact h k y
    · rw [show k = e from by omega]; exact w
theorem wy_7 (hd : d < 12) (hs : g_size = nI n) (hn32 : n ≤ 32) (htk : ∀ j, b_pattern j = nI (tk j)) (hok : ∀ i, i < n → tg_ok tk i) (h1 : tg_dp tk n = 1) (hN : N ≤ 16) (hl : b_len (d + 1) = nI N) (h6 : ∀ j, x j < 6) (hx : ∀ s, s < N → b_text ((d + 1) * 16 + s) = nI (x s)) (K : ∀ (r : Int32) (rl : Nat → Int32), tg_Rs (tg_sm tk n 0 x) N r → post r (g_slots, g_maxLen, g_letters, g_maxTokens, g_size, nI (tg_dp tk n), b_text, b_len, b_used, b_result, b_pattern, rl)) :
    ∀ m i (rl : Nat → Int32), i + m = n → tg_YS tk x N i rl → wY_firstMatch_7 post (nI d) (m + 1) (nI i) g_slots g_maxLen g_letters g_maxTokens g_size (nI (tg_dp tk i)) b_text b_len b_used b_result b_pattern rl := by
  intro m
  induction m with
  | zero =>
    intro i rl e H
    have e1 : i = n := by omega
    subst e1
    rw [wY_firstMatch_7]
    have R := H 0 (by omega)
    rw [Nat.zero_mul] at R
    refine br_t ?_ ⟨N + 2, wy_47 hd hN hl (fun s e w => tg_mo tk i 0 x s e w) R (fun r hr => K r rl hr) (N + 1) 0 (by omega) (fun k hk => absurd hk (Nat.not_lt_zero k))⟩
    rw [hs]; exact nI_le (Nat.le_refl _) (by omega)
  | succ m ih =>
    intro i rl e H
    rw [wY_firstMatch_7]
    dsimp only
    have e2 : nI (d + 1) * 16 = nI ((d + 1) * 16) := pk_mul (d + 1) 16
    rw [nI_clamp (show i < 2 ^ 31 by omega), nI_1 d, nI_clamp (show d + 1 < 2 ^ 31 by omega), hl, htk i, e2]
    refine br_f ?_ ⟨vp_in_nI (by omega) (by omega), vp_in_nI (by omega) (by omega), wy_step H (hok i (by omega)) (tg_dp_le tk i (fun j hj => hok j (by omega))) hN rfl (by omega) h6 hx (fun rl2 H2 => nm_r (nI_1 i) (ih (i + 1) rl2 (by omega) H2))⟩
    rw [hs]; exact nI_ge (by omega) (by omega)
theorem wy_firstMatch (hd : d < 12) (hs : g_size = nI n) (hn32 : n ≤ 32) (htk : ∀ j, b_pattern j = nI (tk j)) (hok : ∀ i, i < n → tg_ok tk i) (h1 : tg_dp tk n = 1) (hN : N ≤ 16) (hl : b_len (d + 1) = nI N) (h6 : ∀ j, x j < 6) (hx : ∀ s, s < N → b_text ((d + 1) * 16 + s) = nI (x s)) (K : ∀ (r : Int32) (rl : Nat → Int32), tg_Rs (tg_sm tk n 0 x) N r → post r (g_slots, g_maxLen, g_letters, g_maxTokens, g_size, nI (tg_dp tk n), b_text, b_len, b_used, b_result, b_pattern, rl)) : wpY_firstMatch post (g_slots, g_maxLen, g_letters, g_maxTokens, g_size, g_top, b_text, b_len, b_used, b_result, b_pattern, b_rel) (nI d) :=
  ⟨n + 1, wy_7 hd hs hn32 htk hok h1 hN hl h6 hx K n 0 b_rel (by omega) (fun k hk => absurd hk (Nat.not_lt_zero k))⟩
theorem wy_53 (hS : g_slots = nI S) (hS12 : S ≤ 12) (hu : ∀ d, d < S → (b_used d = 0 ↔ bt lm d = false)) (K : post (nI (tg_cn lm b_result S)) (g_slots, g_maxLen, g_letters, g_maxTokens, g_size, g_top, b_text, b_len, b_used, b_result, b_pattern, b_rel)) : ∀ m d, d + m = S → wY_search_53 post g_slots g_maxLen g_letters g_maxTokens g_size g_top b_text b_len b_used b_result b_pattern b_rel (m + 1) (nI (tg_cn lm b_result d)) (nI d) := by
  intro m
  induction m with
  | zero =>
    intro d e
    have e1 : d = S := by omega
    subst e1
    rw [wY_search_53]
    refine br_t ?_ K
    rw [hS]; exact nI_le (Nat.le_refl _) (by omega)
  | succ m ih =>
    intro d e
    have v : vp_in (nI d) 12 := vp_in_nI (by omega) (by omega)
    have q := ih (d + 1) (by omega)
    rw [wY_search_53]
    dsimp only
    rw [nI_clamp (show d < 2 ^ 31 by omega)]
    refine br_f ?_ ⟨v, br_c (fun z => nm_r (nI_1 d) ?_) (fun z => ⟨v, br_c (fun y => nm_r (nI_1 d) ?_) (fun y => nm_r (nI_1 _) (nm_r (nI_1 d) ?_))⟩)⟩
    · rw [hS]; exact nI_ge (by omega) (by omega)
    · have w := (hu d (by omega)).mp z
      rw [tg_cn, if_neg (fun u => by rw [w] at u; exact absurd u.1 (by decide)), Nat.add_zero] at q
      exact q
    · rw [tg_cn, if_neg (fun u => u.2 y), Nat.add_zero] at q
      exact q
    · have w : bt lm d = true := by
        cases u : bt lm d
        · exact absurd ((hu d (by omega)).mpr u) z
        · rfl
      rw [tg_cn, if_pos ⟨w, y⟩] at q
      exact q
theorem wy_15 (hS : g_slots = nI S) (hS12 : S ≤ 12) (hs : g_size = nI n) (hn32 : n ≤ 32) (htk : ∀ j, b_pattern j = nI (tk j)) (hok : ∀ i, i < n → tg_ok tk i) (h1 : tg_dp tk n = 1) (h6 : ∀ j, tx j < 6) (hT : ∀ j, j < 192 → b_text (16 + j) = nI (tx j)) (hl : ∀ d, bt lm d = true → b_len (d + 1) = nI (tl d)) (hl16 : ∀ j, tl j ≤ 16) (hu : ∀ d, d < S → (b_used d = 0 ↔ bt lm d = false))
    (K : ∀ (gt : Int32) (rs rl : Nat → Int32), (∀ e, e < S → bt lm e = true → tg_Rs (tg_sm tk n 0 (fun i => tx (e * 16 + i))) (tl e) (rs e)) → post (nI (tg_cn lm rs S)) (g_slots, g_maxLen, g_letters, g_maxTokens, g_size, gt, b_text, b_len, b_used, rs, b_pattern, rl)) :
    ∀ m d (gt : Int32) (rs rl : Nat → Int32), d + m = S → (∀ e, e < d → bt lm e = true → tg_Rs (tg_sm tk n 0 (fun i => tx (e * 16 + i))) (tl e) (rs e)) → wY_search_15 post (m + 1) (nI d) g_slots g_maxLen g_letters g_maxTokens g_size gt b_text b_len b_used rs b_pattern rl := by
  intro m
  induction m with
  | zero =>
    intro d gt rs rl e h
    have e1 : d = S := by omega
    subst e1
    rw [wY_search_15]
    refine br_t ?_ ⟨d + 1, wy_53 hS hS12 hu (K gt rs rl h) d 0 (by omega)⟩
    rw [hS]; exact nI_le (Nat.le_refl _) (by omega)
  | succ m ih =>
    intro d gt rs rl e h
    have v : vp_in (nI d) 12 := vp_in_nI (by omega) (by omega)
    rw [wY_search_15]
    dsimp only
    rw [nI_clamp (show d < 2 ^ 31 by omega)]
    refine br_f ?_ ⟨v, br_c (fun z => nm_r (nI_1 d) (ih (d + 1) gt rs rl (by omega) (fun p hp w => ?_))) (fun z => ?_)⟩
    · rw [hS]; exact nI_ge (by omega) (by omega)
    · rcases Nat.lt_or_ge p d with y | y
      · exact h p y w
      · rw [show p = d from by omega, (hu d (by omega)).mp z] at w
        exact absurd w (by decide)
    · have w : bt lm d = true := by
        cases u : bt lm d
        · exact absurd ((hu d (by omega)).mpr u) z
        · rfl
      have hld := hl16 d
      refine wy_firstMatch (N := tl d) (x := fun i => tx (d * 16 + i)) (by omega) hs hn32 htk hok h1 (hl16 d) (hl d w) (fun j => h6 _) (fun s hs => ?_) (fun r rl2 hr => ⟨v, nm_e (nm_r (nI_1 d) (ih (d + 1) _ _ rl2 (by omega) (fun p hp wp => ?_)))⟩)
      · rw [show (d + 1) * 16 + s = 16 + (d * 16 + s) from by omega]
        exact hT _ (by omega)
      · rcases Nat.lt_or_ge p d with y | y
        · rw [pk_un (by omega)]; exact h p y wp
        · rw [show p = d from by omega, pk_us]; exact hr
theorem wy_search (hS : g_slots = nI S) (hS12 : S ≤ 12) (hs : g_size = nI n) (hn32 : n ≤ 32) (htk : ∀ j, b_pattern j = nI (tk j)) (hok : ∀ i, i < n → tg_ok tk i) (h1 : tg_dp tk n = 1) (h6 : ∀ j, tx j < 6) (hT : ∀ j, j < 192 → b_text (16 + j) = nI (tx j)) (hl : ∀ d, bt lm d = true → b_len (d + 1) = nI (tl d)) (hl16 : ∀ j, tl j ≤ 16) (hu : ∀ d, d < S → (b_used d = 0 ↔ bt lm d = false))
    (K : ∀ (gt : Int32) (rs rl : Nat → Int32), (∀ e, e < S → bt lm e = true → tg_Rs (tg_sm tk n 0 (fun i => tx (e * 16 + i))) (tl e) (rs e)) → post (nI (tg_cn lm rs S)) (g_slots, g_maxLen, g_letters, g_maxTokens, g_size, gt, b_text, b_len, b_used, rs, b_pattern, rl)) : wpY_search post (g_slots, g_maxLen, g_letters, g_maxTokens, g_size, g_top, b_text, b_len, b_used, b_result, b_pattern, b_rel) := by
  refine wy_depth hs hn32 htk hok (br_t ?_ ⟨S + 1, wy_15 hS hS12 hs hn32 htk hok h1 h6 hT hl hl16 hu K S 0 g_top b_result b_rel (by omega) (fun e he => absurd he (Nat.not_lt_zero e))⟩)
  rw [h1]; rfl
end
end
section
/-! the relation between the two states -/
def tg_ty (dr tx : Nat → Nat) (j : Nat) : Nat := if j < 16 then dr j else tx (j - 16)
def tg_un (f : Nat → Nat) (k v : Nat) (j : Nat) : Nat := if j = k then v else f j
def tg_cp (dr tx : Nat → Nat) (d i j : Nat) : Nat := if d * 16 ≤ j ∧ j < d * 16 + i then dr (j - d * 16) else tx j
theorem tg_ty_lo {dr tx : Nat → Nat} {j : Nat} (h : j < 16) : tg_ty dr tx j = dr j := if_pos h
theorem tg_ty_hi {dr tx : Nat → Nat} (j : Nat) : tg_ty dr tx (16 + j) = tx j := by
  rw [tg_ty, if_neg (by omega), show 16 + j - 16 = j from by omega]
theorem tg_un_s {f : Nat → Nat} {k v : Nat} : tg_un f k v k = v := if_pos rfl
theorem tg_un_n {f : Nat → Nat} {k v j : Nat} (h : j ≠ k) : tg_un f k v j = f j := if_neg h
theorem tg_upd (f : Nat → Nat) (k v : Nat) : upd (fun j => nI (f j)) k (nI v) = fun j => nI (tg_un f k v j) := by
  funext j
  unfold upd tg_un
  by_cases h : j = k
  · rw [if_pos h, if_pos h]
  · rw [if_neg h, if_neg h]
theorem tg_cp_0 (dr tx : Nat → Nat) (d : Nat) : (fun j => nI (tg_cp dr tx d 0 j)) = fun j => nI (tx j) := by
  funext j
  rw [tg_cp, if_neg (by omega)]
theorem tg_cp_s (dr tx : Nat → Nat) (d i : Nat) : upd (fun j => nI (tg_cp dr tx d i j)) (d * 16 + i) (nI (dr i)) = fun j => nI (tg_cp dr tx d (i + 1) j) := by
  funext j
  unfold upd tg_cp
  by_cases h : j = d * 16 + i
  · rw [if_pos h, if_pos (by omega), show j - d * 16 = i from by omega]
  · rw [if_neg h]
    dsimp only
    by_cases g : d * 16 ≤ j ∧ j < d * 16 + i
    · rw [if_pos g, if_pos (by omega)]
    · rw [if_neg g, if_neg (by omega)]
theorem tg_cpy_s (dr tx : Nat → Nat) (d i : Nat) : upd (fun j => nI (tg_ty dr (tg_cp dr tx d i) j)) ((d + 1) * 16 + i) (nI (dr i)) = fun j => nI (tg_ty dr (tg_cp dr tx d (i + 1)) j) := by
  funext j
  unfold upd tg_ty
  by_cases h : j = (d + 1) * 16 + i
  · rw [if_pos h, if_neg (by omega), tg_cp, if_pos (by omega), show j - 16 - d * 16 = i from by omega]
  · rw [if_neg h]
    dsimp only
    by_cases l : j < 16
    · rw [if_pos l, if_pos l]
    · rw [if_neg l, if_neg l]
      unfold tg_cp
      by_cases g : d * 16 ≤ j - 16 ∧ j - 16 < d * 16 + i
      · rw [if_pos g, if_pos (by omega)]
      · rw [if_neg g, if_neg (by omega)]
theorem tg_cpy_0 (dr tx : Nat → Nat) (d : Nat) : (fun j => nI (tg_ty dr (tg_cp dr tx d 0) j)) = fun j => nI (tg_ty dr tx j) := by
  funext j
  unfold tg_ty
  by_cases l : j < 16
  · rw [if_pos l, if_pos l]
  · rw [if_neg l, if_neg l, tg_cp, if_neg (by omega)]
def tg_Fa (S L A M dl n : Nat) (lm : Int32) (dr tx tk tl bl : Nat → Nat) (a_results a_postings b_used b_result : Nat → Int32) : Prop :=
  (2 ≤ S ∧ S ≤ 12 ∧ 4 ≤ L ∧ L ≤ 16 ∧ 2 ≤ A ∧ A ≤ 6 ∧ 8 ≤ M ∧ M ≤ 32 ∧ dl ≤ L ∧ n ≤ M) ∧ (∀ j, dr j < 6) ∧ (∀ j, tx j < 6) ∧ (∀ j, tl j ≤ 16) ∧ (∀ j, bl j ≤ 16) ∧ (∀ i, i < n → tg_ok tk i) ∧ (∀ d, bt lm d = true → d < S) ∧ tg_Po lm tx tl a_postings ∧ bl 0 = dl ∧ (∀ d, d < S → (b_used d = 0 ↔ bt lm d = false)) ∧ (∀ d, bt lm d = true → bl (d + 1) = tl d ∧ b_result d = a_results d)
/-- the relation at the head of a turn -/
def i_Rel (k : Nat) (u : SX) (v : SY) : Prop := ∃ (S L A M dl n : Nat) (lm ft fp gt : Int32) (dr tx tk tl bl : Nat → Nat) (a_results a_postings a_first a_last : Nat → Int32) (a_starts a_ends : Nat → Int64) (a_candidates a_follow a_reach b_used b_result b_rel : Nat → Int32), u = (nI S, nI L, nI A, nI M, lm, nI dl, nI n, nI (tg_dp tk n), ft, fp, (fun j => nI (tx j)), (fun j => nI (tl j)), a_results, (fun j => nI (dr j)), a_postings, (fun j => nI (tk j)), a_first, a_last, a_starts, a_ends, a_candidates, a_follow, a_reach) ∧ v = (nI S, nI L, nI A, nI M, nI n, gt, (fun j => nI (tg_ty dr tx j)), (fun j => nI (bl j)), b_used, b_result, (fun j => nI (tk j)), b_rel) ∧ tg_Fa S L A M dl n lm dr tx tk tl bl a_results a_postings b_used b_result
theorem i_up {k : Nat} {u : SX} {v : SY} (h : i_Rel k u v) : i_Rel (k + 4) u v := h
theorem zz_el {P : SX → SY → Prop} {k : Nat} {u : SX} {v : SY} (I : i_Rel k u v) (h : ∀ (S L A M dl n : Nat) (lm ft fp gt : Int32) (dr tx tk tl bl : Nat → Nat) (a_results a_postings a_first a_last : Nat → Int32) (a_starts a_ends : Nat → Int64) (a_candidates a_follow a_reach b_used b_result b_rel : Nat → Int32), tg_Fa S L A M dl n lm dr tx tk tl bl a_results a_postings b_used b_result → P (nI S, nI L, nI A, nI M, lm, nI dl, nI n, nI (tg_dp tk n), ft, fp, (fun j => nI (tx j)), (fun j => nI (tl j)), a_results, (fun j => nI (dr j)), a_postings, (fun j => nI (tk j)), a_first, a_last, a_starts, a_ends, a_candidates, a_follow, a_reach) (nI S, nI L, nI A, nI M, nI n, gt, (fun j => nI (tg_ty dr tx j)), (fun j => nI (bl j)), b_used, b_result, (fun j => nI (tk j)), b_rel)) : P u v := by
  obtain ⟨S, L, A, M, dl, n, lm, ft, fp, gt, dr, tx, tk, tl, bl, a_results, a_postings, a_first, a_last, a_starts, a_ends, a_candidates, a_follow, a_reach, b_used, b_result, b_rel, e1, e2, F⟩ := I
  rw [e1, e2]
  exact h S L A M dl n lm ft fp gt dr tx tk tl bl a_results a_postings a_first a_last a_starts a_ends a_candidates a_follow a_reach b_used b_result b_rel F
theorem zz_in {k : Nat} {S L A M dl n : Nat} {lm ft fp gt : Int32} {dr tx tk tl bl : Nat → Nat} {a_results a_postings a_first a_last : Nat → Int32} {a_starts a_ends : Nat → Int64} {a_candidates a_follow a_reach b_used b_result b_rel : Nat → Int32} (F : tg_Fa S L A M dl n lm dr tx tk tl bl a_results a_postings b_used b_result) : i_Rel k (nI S, nI L, nI A, nI M, lm, nI dl, nI n, nI (tg_dp tk n), ft, fp, (fun j => nI (tx j)), (fun j => nI (tl j)), a_results, (fun j => nI (dr j)), a_postings, (fun j => nI (tk j)), a_first, a_last, a_starts, a_ends, a_candidates, a_follow, a_reach) (nI S, nI L, nI A, nI M, nI n, gt, (fun j => nI (tg_ty dr tx j)), (fun j => nI (bl j)), b_used, b_result, (fun j => nI (tk j)), b_rel) :=
  ⟨S, L, A, M, dl, n, lm, ft, fp, gt, dr, tx, tk, tl, bl, a_results, a_postings, a_first, a_last, a_starts, a_ends, a_candidates, a_follow, a_reach, b_used, b_result, b_rel, rfl, rfl, F⟩
/-! the beginning -/
theorem zz_clamp (p : Int32) (lo hi : Nat) (h : lo ≤ hi) (hh : hi < 2 ^ 31) : ∃ q : Nat, lo ≤ q ∧ q ≤ hi ∧ (∀ (post : Int32 → Prop) (u : SX), post (nI q) → wpX_clamp post u p (nI lo) (nI hi)) ∧ (∀ (post : Int32 → Prop) (u : SY), post (nI q) → wpY_clamp post u p (nI lo) (nI hi)) := by
  by_cases h1 : nI lo ≤ p
  · by_cases h2 : p ≤ nI hi
    · have hp : ¬ p < 0 := by
        intro z
        have a : nI lo < 0 := Int32.lt_of_le_of_lt h1 z
        exact nI_pos (by omega) a
      obtain ⟨q, hq, rfl⟩ := nI_of hp
      rw [nI_leI (by omega) (by omega)] at h1 h2
      exact ⟨q, h1, h2, fun _ _ z => br_t (nI_le h1 (by omega)) (br_t (nI_le h2 (by omega)) z), fun _ _ z => br_t (nI_le h1 (by omega)) (br_t (nI_le h2 (by omega)) z)⟩
    · exact ⟨hi, h, Nat.le_refl _, fun _ _ z => br_t h1 (br_f h2 z), fun _ _ z => br_t h1 (br_f h2 z)⟩
  · exact ⟨lo, Nat.le_refl _, h, fun _ _ z => br_f h1 z, fun _ _ z => br_f h1 z⟩
theorem i_vc0 (k0 : Int32) (k1 : Int32) (k2 : Int32) (k3 : Int32) : wpX_init (fun u => wpY_init (fun v => i_Rel 4 u v) k0 k1 k2 k3) k0 k1 k2 k3 := by
  obtain ⟨S, s1, s2, sX, sY⟩ := zz_clamp k0 2 12 (by omega) (by omega)
  obtain ⟨L, l1, l2, lX, lY⟩ := zz_clamp k1 4 16 (by omega) (by omega)
  obtain ⟨A, a1, a2, aX, aY⟩ := zz_clamp k2 2 6 (by omega) (by omega)
  obtain ⟨M, m1, m2, mX, mY⟩ := zz_clamp k3 8 32 (by omega) (by omega)
  unfold wpX_init wpY_init
  refine sX _ _ (lX _ _ (aX _ _ (mX _ _ (sY _ _ (lY _ _ (aY _ _ (mY _ _ ?_)))))))
  have F : tg_Fa S L A M 0 0 0 (fun _ => 0) (fun _ => 0) (fun _ => 0) (fun _ => 0) (fun _ => 0) (fun _ => 0) (fun _ => 0) (fun _ => 0) (fun _ => 0) := by
    refine ⟨by omega, fun _ => Nat.zero_lt_succ _, fun _ => Nat.zero_lt_succ _, fun _ => Nat.zero_le _, fun _ => Nat.zero_le _, fun i hi => absurd hi (Nat.not_lt_zero i), fun d h => ?_, fun t _ d => ?_, rfl, fun d _ => ?_, fun d h => ?_⟩
    · rw [b_0] at h; exact absurd h (by decide)
    · show bt 0 d = true ↔ _
      rw [b_0]
      exact ⟨fun h => absurd h (by decide), fun h => absurd h.1 (by decide)⟩
    · rw [b_0]
      exact ⟨fun _ => rfl, fun _ => rfl⟩
    · rw [b_0] at h; exact absurd h (by decide)
  have e : (fun j => nI (tg_ty (fun _ => 0) (fun _ => 0) j)) = fun _ => (0 : Int32) := by
    funext j
    unfold tg_ty
    split <;> rfl
  have R := zz_in (k := 4) (ft := 0) (fp := 0) (gt := 0) (a_first := fun _ => 0) (a_last := fun _ => 0) (a_starts := fun _ => 0) (a_ends := fun _ => 0) (a_candidates := fun _ => 0) (a_follow := fun _ => 0) (a_reach := fun _ => 0) (b_rel := fun _ => 0) F
  rw [e] at R
  exact R
end
section
/-! the methods that read, the draft, the search -/
theorem tg_ty_upd (dr tx : Nat → Nat) {k : Nat} (h : k < 16) (c : Nat) : upd (fun j => nI (tg_ty dr tx j)) k (nI c) = fun j => nI (tg_ty (tg_un dr k c) tx j) := by
  funext j
  unfold upd tg_ty
  by_cases e : j = k
  · subst e
    rw [if_pos rfl, if_pos h, tg_un_s]
  · rw [if_neg e, tg_un_n e]
theorem i_vc_feed {k : Nat} {u : SX} {v : SY} (I : i_Rel k u v) (hk : k + 4 ≤ 2052) (v1 : Int32) : wpX_feed (fun r u' => wpY_feed (fun r' v' => r' = r ∧ i_Rel (k + 4) u' v') v v1) u v1 := by
  refine zz_el (P := fun u v => wpX_feed (fun r u' => wpY_feed (fun r' v' => r' = r ∧ i_Rel (k + 4) u' v') v v1) u v1) I ?_
  intro S L A M dl n lm ft fp gt dr tx tk tl bl a_results a_postings a_first a_last a_starts a_ends a_candidates a_follow a_reach b_used b_result b_rel F
  have ⟨⟨s1, s2, l1, l2, a1, a2, m1, m2, d1, n1⟩, hdr, htx, htl, hbl, hok, hlv, hPo, hb0, hu, hr⟩ := F
  unfold wpX_feed
  dsimp only
  rcases pk_ix v1 (n := A) (by omega) with z | z | ⟨c, hc, rfl⟩
  · exact wx_let_f (Or.inl z) (br_t rfl (br_t z ⟨rfl, zz_in F⟩))
  · exact wx_let_f (Or.inr z) (br_t rfl (br_c (fun _ => ⟨rfl, zz_in F⟩) (fun _ => br_f (Int32.not_lt.mpr z) ⟨rfl, zz_in F⟩)))
  · refine wx_let_t rfl a2 hc (br_f (by decide) ?_)
    rcases Nat.lt_or_ge dl L with z | z
    · refine br_t (nI_lt z (by omega)) ⟨vp_in_nI (by omega) (by omega), nm_r (e' := fun j => nI (tg_un dr dl c j)) (by rw [nI_clamp (show dl < 2 ^ 31 by omega)]; exact tg_upd dr dl c) (nm_r (nI_1 dl) ?_)⟩
      unfold wpY_feed
      dsimp only
      rw [hb0]
      refine br_f (nI_pos (by omega)) (br_t (nI_lt hc (by omega)) (br_t (nI_lt z (by omega)) ⟨vp_in_nI (by omega) (by omega), nm_r (e' := fun j => nI (tg_ty (tg_un dr dl c) tx j)) (by rw [nI_clamp (show dl < 2 ^ 31 by omega)]; exact tg_ty_upd dr tx (by omega) c) (nm_r (e' := fun j => nI (tg_un bl 0 (dl + 1) j)) (by rw [nI_1]; exact tg_upd bl 0 (dl + 1)) ⟨rfl, zz_in (dr := tg_un dr dl c) (bl := tg_un bl 0 (dl + 1)) ?_⟩)⟩))
      refine ⟨by omega, fun j => ?_, htx, htl, fun j => ?_, hok, hlv, hPo, tg_un_s, hu, fun d h => ⟨?_, (hr d h).2⟩⟩
      · unfold tg_un
        split
        · omega
        · exact hdr j
      · unfold tg_un
        split
        · omega
        · exact hbl j
      · rw [tg_un_n (by omega)]; exact (hr d h).1
    · refine br_f (nI_nlt z (by omega)) ?_
      unfold wpY_feed
      dsimp only
      rw [hb0]
      exact br_f (nI_pos (by omega)) (br_t (nI_lt hc (by omega)) (br_f (nI_nlt z (by omega)) ⟨rfl, zz_in F⟩))
theorem i_vc_discard {k : Nat} {u : SX} {v : SY} (I : i_Rel k u v) (hk : k + 4 ≤ 2052) : wpX_discard (fun u' => wpY_discard (fun v' => i_Rel (k + 4) u' v') v) u := by
  refine zz_el (P := fun u v => wpX_discard (fun u' => wpY_discard (fun v' => i_Rel (k + 4) u' v') v) u) I ?_
  intro S L A M dl n lm ft fp gt dr tx tk tl bl a_results a_postings a_first a_last a_starts a_ends a_candidates a_follow a_reach b_used b_result b_rel F
  have ⟨⟨s1, s2, l1, l2, a1, a2, m1, m2, d1, n1⟩, hdr, htx, htl, hbl, hok, hlv, hPo, hb0, hu, hr⟩ := F
  unfold wpX_discard wpY_discard
  dsimp only
  refine nm_r (e' := fun j => nI (tg_un bl 0 0 j)) (tg_upd bl 0 0) (zz_in (dl := 0) (bl := tg_un bl 0 0) ?_)
  refine ⟨by omega, hdr, htx, htl, fun j => ?_, hok, hlv, hPo, tg_un_s, hu, fun d h => ⟨?_, (hr d h).2⟩⟩
  · unfold tg_un
    split
    · omega
    · exact hbl j
  · rw [tg_un_n (by omega)]; exact (hr d h).1
/-! lengths and letters -/
theorem zz_m1 : (-1 : Int32) + 1 = 0 := by decide
theorem zz_cl0 : (0 : Int32).toNatClampNeg = 0 := by decide
theorem zz_nm1 {d : Nat} (h : d < 2 ^ 31) : ¬ nI d = (-1 : Int32) := by
  intro z
  exact nI_pos h (by rw [z]; decide)
section
variable {g_slots g_maxLen g_letters g_maxTokens g_size g_top : Int32} {b_text b_len b_used b_result b_pattern b_rel : Nat → Int32} {S d : Nat} {bl : Nat → Nat} {lm : Int32} {post : Int32 → Prop}
theorem wy_len_d (h : post (b_len 0)) : wpY_length post (g_slots, g_maxLen, g_letters, g_maxTokens, g_size, g_top, b_text, b_len, b_used, b_result, b_pattern, b_rel) (-1) := by
  refine br_t rfl (br_t rfl ?_)
  rw [zz_m1, zz_cl0]
  exact ⟨vp_in_nI (n := 0) (by omega) (by omega), h⟩
theorem wy_len_f {x : Int32} (hn : ¬ x = -1) (hx : x < 0 ∨ g_slots ≤ x) (h : post (-1)) : wpY_length post (g_slots, g_maxLen, g_letters, g_maxTokens, g_size, g_top, b_text, b_len, b_used, b_result, b_pattern, b_rel) x := by
  refine br_f hn (br_c (fun _ => h) (fun z => br_f ?_ h))
  rcases hx with y | y
  · exact absurd y z
  · exact Int32.not_lt.mpr y
theorem wy_len_m (hS : g_slots = nI S) (hS12 : S ≤ 12) (hd : d < S) (hu : b_used d = 0) (h : post (-3)) : wpY_length post (g_slots, g_maxLen, g_letters, g_maxTokens, g_size, g_top, b_text, b_len, b_used, b_result, b_pattern, b_rel) (nI d) := by
  have n1 := zz_nm1 (d := d) (by omega)
  refine br_f n1 (br_f (nI_pos (by omega)) (br_t (by rw [hS]; exact nI_lt hd (by omega)) (br_f n1 ⟨vp_in_nI (by omega) (by omega), br_t ?_ h⟩)))
  rw [nI_clamp (by omega)]; exact hu
theorem wy_len_l (hS : g_slots = nI S) (hS12 : S ≤ 12) (hd : d < S) (hu : ¬ b_used d = 0) (h : post (b_len (d + 1))) : wpY_length post (g_slots, g_maxLen, g_letters, g_maxTokens, g_size, g_top, b_text, b_len, b_used, b_result, b_pattern, b_rel) (nI d) := by
  have n1 := zz_nm1 (d := d) (by omega)
  refine br_f n1 (br_f (nI_pos (by omega)) (br_t (by rw [hS]; exact nI_lt hd (by omega)) (br_f n1 ⟨vp_in_nI (by omega) (by omega), br_f ?_ ?_⟩)))
  · rw [nI_clamp (by omega)]; exact hu
  · rw [nI_1, nI_clamp (by omega)]
    exact ⟨vp_in_nI (by omega) (by omega), h⟩
end
theorem i_vc_length {k : Nat} {u : SX} {v : SY} (I : i_Rel k u v) (hk : k + 4 ≤ 2052) (v1 : Int32) : wpX_length (fun r => wpY_length (fun r' => r' = r ∧ i_Rel (k + 4) u v) v v1) u v1 := by
  refine zz_el (P := fun u v => wpX_length (fun r => wpY_length (fun r' => r' = r ∧ i_Rel (k + 4) u v) v v1) u v1) I ?_
  intro S L A M dl n lm ft fp gt dr tx tk tl bl a_results a_postings a_first a_last a_starts a_ends a_candidates a_follow a_reach b_used b_result b_rel F
  have ⟨⟨s1, s2, l1, l2, a1, a2, m1, m2, d1, n1⟩, hdr, htx, htl, hbl, hok, hlv, hPo, hb0, hu, hr⟩ := F
  have R := zz_in (k := k + 4) (ft := ft) (fp := fp) (gt := gt) (a_first := a_first) (a_last := a_last) (a_starts := a_starts) (a_ends := a_ends) (a_candidates := a_candidates) (a_follow := a_follow) (a_reach := a_reach) (b_rel := b_rel) F
  by_cases h1 : v1 = -1
  · subst h1
    exact br_t rfl (wy_len_d ⟨congrArg nI hb0, R⟩)
  · refine br_f h1 ?_
    rcases pk_ix v1 (n := S) (by omega) with z | z | ⟨d, hd, rfl⟩
    · exact wx_ss_f (Or.inl z) (br_f (by decide) (wy_len_f h1 (Or.inl z) ⟨rfl, R⟩))
    · exact wx_ss_f (Or.inr z) (br_f (by decide) (wy_len_f h1 (Or.inr z) ⟨rfl, R⟩))
    · cases hl : bt lm d
      · exact wx_ss_m rfl s2 hd hl (br_f (by decide) (wy_len_m rfl s2 hd ((hu d hd).mpr hl) ⟨rfl, R⟩))
      · refine wx_ss_l rfl s2 hd hl (br_t rfl ⟨vp_in_nI (by omega) (by omega), wy_len_l rfl s2 hd (fun y => ?_) ⟨?_, R⟩⟩)
        · rw [(hu d hd).mp y] at hl; exact absurd hl (by decide)
        · rw [nI_clamp (by omega)]
          exact congrArg nI (hr d hl).1
theorem zz_ge0 {x : Int32} {n : Nat} (hn : n < 2 ^ 31) (h : nI n ≤ x) : ¬ x < 0 := by
  intro z
  exact nI_pos hn (Int32.lt_of_le_of_lt h z)
theorem i_vc_charAt {k : Nat} {u : SX} {v : SY} (I : i_Rel k u v) (hk : k + 4 ≤ 2052) (v1 : Int32) (v2 : Int32) : wpX_charAt (fun r => wpY_charAt (fun r' => r' = r ∧ i_Rel (k + 4) u v) v v1 v2) u v1 v2 := by
  refine zz_el (P := fun u v => wpX_charAt (fun r => wpY_charAt (fun r' => r' = r ∧ i_Rel (k + 4) u v) v v1 v2) u v1 v2) I ?_
  intro S L A M dl n lm ft fp gt dr tx tk tl bl a_results a_postings a_first a_last a_starts a_ends a_candidates a_follow a_reach b_used b_result b_rel F
  have ⟨⟨s1, s2, l1, l2, a1, a2, m1, m2, d1, n1⟩, hdr, htx, htl, hbl, hok, hlv, hPo, hb0, hu, hr⟩ := F
  have R := zz_in (k := k + 4) (ft := ft) (fp := fp) (gt := gt) (a_first := a_first) (a_last := a_last) (a_starts := a_starts) (a_ends := a_ends) (a_candidates := a_candidates) (a_follow := a_follow) (a_reach := a_reach) (b_rel := b_rel) F
  unfold wpX_charAt wpY_charAt
  dsimp only
  by_cases h1 : v1 = -1
  · subst h1
    refine br_t rfl ?_
    rcases pk_ix v2 (n := dl) (by omega) with z | z | ⟨i, hi, rfl⟩
    · exact br_t z (wy_len_d (br_t (nI_pos' (by have := hbl 0; omega)) (br_t z ⟨rfl, R⟩)))
    · have g := zz_ge0 (by omega) z
      refine br_f g (br_f (Int32.not_lt.mpr z) (wy_len_d (br_t (nI_pos' (by have := hbl 0; omega)) (br_f g (br_f ?_ ⟨rfl, R⟩)))))
      rw [hb0]; exact Int32.not_lt.mpr z
    · have g : ¬ nI i < 0 := nI_pos (by omega)
      refine br_f g (br_t (nI_lt hi (by omega)) ⟨vp_in_nI (by omega) (by omega), wy_len_d (br_t (nI_pos' (by have := hbl 0; omega)) (br_f g (br_t ?_ ?_)))⟩)
      · rw [hb0]; exact nI_lt hi (by omega)
      · have e : ((-1 : Int32) + 1) * 16 + nI i = nI i := by rw [zz_m1, show (0 : Int32) * 16 = 0 from by decide, Int32.zero_add]
        rw [e, nI_clamp (show i < 2 ^ 31 by omega), tg_ty_lo (by omega)]
        exact ⟨vp_in_nI (by omega) (by omega), rfl, R⟩
  · refine br_f h1 ?_
    rcases pk_ix v1 (n := S) (by omega) with z | z | ⟨d, hd, rfl⟩
    · exact wx_ss_f (Or.inl z) (br_f (by decide) (wy_len_f h1 (Or.inl z) (br_f (by decide) ⟨rfl, R⟩)))
    · exact wx_ss_f (Or.inr z) (br_f (by decide) (wy_len_f h1 (Or.inr z) (br_f (by decide) ⟨rfl, R⟩)))
    · cases hl : bt lm d
      · exact wx_ss_m rfl s2 hd hl (br_f (by decide) (wy_len_m rfl s2 hd ((hu d hd).mpr hl) (br_f (by decide) ⟨rfl, R⟩)))
      · have hnu : ¬ b_used d = 0 := by
          intro y
          rw [(hu d hd).mp y] at hl; exact absurd hl (by decide)
        have hbd := (hr d hl).1
        have ht16 := htl d
        refine wx_ss_l rfl s2 hd hl (br_t rfl ?_)
        rw [nI_clamp (show d < 2 ^ 31 by omega)]
        have v : vp_in (nI d) 12 := vp_in_nI (by omega) (by omega)
        rcases pk_ix v2 (n := tl d) (by omega) with z | z | ⟨i, hi, rfl⟩
        · refine br_t z (wy_len_l rfl s2 hd hnu ?_)
          rw [hbd]
          exact br_t (nI_pos' (by omega)) (br_t z ⟨rfl, R⟩)
        · have g := zz_ge0 (by omega) z
          refine br_f g ⟨v, br_f (Int32.not_lt.mpr z) (wy_len_l rfl s2 hd hnu ?_)⟩
          rw [hbd]
          exact br_t (nI_pos' (by omega)) (br_f g (br_f (Int32.not_lt.mpr z) ⟨rfl, R⟩))
        · have g : ¬ nI i < 0 := nI_pos (by omega)
          have e1 : nI d * 16 + nI i = nI (d * 16 + i) := by rw [show (16 : Int32) = nI 16 from rfl, pk_mul, nI_add]
          have e2 : (nI d + 1) * 16 + nI i = nI (16 + (d * 16 + i)) := by rw [nI_1, show (16 : Int32) = nI 16 from rfl, pk_mul, nI_add]; exact congrArg nI (by omega)
          rw [e1, e2, nI_clamp (show d * 16 + i < 2 ^ 31 by omega)]
          refine br_f g ⟨v, br_t (nI_lt hi (by omega)) ⟨vp_in_nI (by omega) (by omega), wy_len_l rfl s2 hd hnu ?_⟩⟩
          rw [hbd, nI_clamp (show 16 + (d * 16 + i) < 2 ^ 31 by omega), tg_ty_hi]
          exact br_t (nI_pos' (by omega)) (br_f g (br_t (nI_lt hi (by omega)) ⟨vp_in_nI (by omega) (by omega), rfl, R⟩))
theorem i_vc_live {k : Nat} {u : SX} {v : SY} (I : i_Rel k u v) (hk : k + 4 ≤ 2052) : wpX_live (fun r => wpY_live (fun r' => r' = r ∧ i_Rel (k + 4) u v) v) u := by
  refine zz_el (P := fun u v => wpX_live (fun r => wpY_live (fun r' => r' = r ∧ i_Rel (k + 4) u v) v) u) I ?_
  intro S L A M dl n lm ft fp gt dr tx tk tl bl a_results a_postings a_first a_last a_starts a_ends a_candidates a_follow a_reach b_used b_result b_rel F
  have ⟨⟨s1, s2, l1, l2, a1, a2, m1, m2, d1, n1⟩, hdr, htx, htl, hbl, hok, hlv, hPo, hb0, hu, hr⟩ := F
  exact wy_live rfl s2 hu hlv ⟨rfl, zz_in F⟩
theorem i_vc_holders {k : Nat} {u : SX} {v : SY} (I : i_Rel k u v) (hk : k + 4 ≤ 2052) (v1 : Int32) (v2 : Int32) (v3 : Int32) : wpX_holders (fun r => wpY_holders (fun r' => r' = r ∧ i_Rel (k + 4) u v) v v1 v2 v3) u v1 v2 v3 := by
  refine zz_el (P := fun u v => wpX_holders (fun r => wpY_holders (fun r' => r' = r ∧ i_Rel (k + 4) u v) v v1 v2 v3) u v1 v2 v3) I ?_
  intro S L A M dl n lm ft fp gt dr tx tk tl bl a_results a_postings a_first a_last a_starts a_ends a_candidates a_follow a_reach b_used b_result b_rel F
  have ⟨⟨s1, s2, l1, l2, a1, a2, m1, m2, d1, n1⟩, hdr, htx, htl, hbl, hok, hlv, hPo, hb0, hu, hr⟩ := F
  have R := zz_in (k := k + 4) (ft := ft) (fp := fp) (gt := gt) (a_first := a_first) (a_last := a_last) (a_starts := a_starts) (a_ends := a_ends) (a_candidates := a_candidates) (a_follow := a_follow) (a_reach := a_reach) (b_rel := b_rel) F
  unfold wpX_holders wpY_holders
  dsimp only
  rcases pk_ix v1 (n := A) (by omega) with z | z | ⟨a, ha, rfl⟩
  · exact wx_let_f (Or.inl z) (br_t rfl (br_t z ⟨rfl, R⟩))
  · exact wx_let_f (Or.inr z) (br_t rfl (br_c (fun _ => ⟨rfl, R⟩) (fun _ => br_t z ⟨rfl, R⟩)))
  · refine wx_let_t rfl a2 ha (br_f (by decide) ?_)
    have ga : ¬ nI a < 0 := nI_pos (by omega)
    have fa : ¬ nI A ≤ nI a := nI_ge ha (by omega)
    rcases pk_ix v2 (n := A) (by omega) with z | z | ⟨b, hb, rfl⟩
    · exact wx_let_f (Or.inl z) (br_t rfl (br_f ga (br_f fa (br_t z ⟨rfl, R⟩))))
    · exact wx_let_f (Or.inr z) (br_t rfl (br_f ga (br_f fa (br_c (fun _ => ⟨rfl, R⟩) (fun _ => br_t z ⟨rfl, R⟩)))))
    · refine wx_let_t rfl a2 hb (br_f (by decide) ?_)
      have gb : ¬ nI b < 0 := nI_pos (by omega)
      have fb : ¬ nI A ≤ nI b := nI_ge hb (by omega)
      rcases pk_ix v3 (n := A) (by omega) with z | z | ⟨c, hc, rfl⟩
      · exact wx_let_f (Or.inl z) (br_t rfl (br_f ga (br_f fa (br_f gb (br_f fb (br_t z ⟨rfl, R⟩))))))
      · exact wx_let_f (Or.inr z) (br_t rfl (br_f ga (br_f fa (br_f gb (br_f fb (br_c (fun _ => ⟨rfl, R⟩) (fun _ => br_f (Int32.not_lt.mpr z) ⟨rfl, R⟩)))))))
      · refine wx_let_t rfl a2 hc (br_f (by decide) ?_)
        have e : (nI a * 6 + nI b) * 6 + nI c = nI ((a * 6 + b) * 6 + c) := by rw [show (6 : Int32) = nI 6 from rfl, pk_mul, nI_add, pk_mul, nI_add]
        rw [e, nI_clamp (show (a * 6 + b) * 6 + c < 2 ^ 31 by omega)]
        refine ⟨vp_in_nI (by omega) (by omega), br_f ga (br_f fa (br_f gb (br_f fb (br_f (nI_pos (by omega)) (br_t (nI_lt hc (by omega)) ⟨S + 1, ?_⟩)))))⟩
        refine wy_h44 (post := fun r' => r' = a_postings ((a * 6 + b) * 6 + c) ∧ i_Rel (k + 4) (nI S, nI L, nI A, nI M, lm, nI dl, nI n, nI (tg_dp tk n), ft, fp, (fun j => nI (tx j)), (fun j => nI (tl j)), a_results, (fun j => nI (dr j)), a_postings, (fun j => nI (tk j)), a_first, a_last, a_starts, a_ends, a_candidates, a_follow, a_reach) (nI S, nI L, nI A, nI M, nI n, gt, (fun j => nI (tg_ty dr tx j)), (fun j => nI (bl j)), b_used, b_result, (fun j => nI (tk j)), b_rel)) (b_text := fun j => nI (tg_ty dr tx j)) (b_len := fun j => nI (bl j)) (tl := tl) (lm := lm) rfl s2 (show a < 6 by omega) (show b < 6 by omega) (show c < 6 by omega) htx (fun j _ => congrArg nI (tg_ty_hi j)) (fun j => rfl) hbl hu (fun d h => (hr d h).1) (fun r hrr => ⟨?_, R⟩) S 0 0 (by omega) (fun e => ?_)
        · refine bt_eqT (fun e => (hrr e).trans ?_)
          rw [hPo _ (by omega) e]
          exact ⟨fun y => y.2, fun y => ⟨hlv e y.1, y⟩⟩
        · rw [b_0]
          exact ⟨fun y => absurd y (by decide), fun y => absurd y.1 (Nat.not_lt_zero e)⟩
theorem i_vc_erase {k : Nat} {u : SX} {v : SY} (I : i_Rel k u v) (hk : k + 4 ≤ 2052) : wpX_erase (fun u' => wpY_erase (fun v' => i_Rel (k + 4) u' v') v) u := by
  refine zz_el (P := fun u v => wpX_erase (fun u' => wpY_erase (fun v' => i_Rel (k + 4) u' v') v) u) I ?_
  intro S L A M dl n lm ft fp gt dr tx tk tl bl a_results a_postings a_first a_last a_starts a_ends a_candidates a_follow a_reach b_used b_result b_rel F
  have ⟨⟨s1, s2, l1, l2, a1, a2, m1, m2, d1, n1⟩, hdr, htx, htl, hbl, hok, hlv, hPo, hb0, hu, hr⟩ := F
  refine zz_in (k := k + 4) (n := 0) (tk := tk) ?_
  exact ⟨by omega, hdr, htx, htl, hbl, fun i hi => absurd hi (Nat.not_lt_zero i), hlv, hPo, hb0, hu, hr⟩
theorem i_vc_depth {k : Nat} {u : SX} {v : SY} (I : i_Rel k u v) (hk : k + 4 ≤ 2052) : wpX_depth (fun r => wpY_depth (fun r' => r' = r ∧ i_Rel (k + 4) u v) v) u := by
  refine zz_el (P := fun u v => wpX_depth (fun r => wpY_depth (fun r' => r' = r ∧ i_Rel (k + 4) u v) v) u) I ?_
  intro S L A M dl n lm ft fp gt dr tx tk tl bl a_results a_postings a_first a_last a_starts a_ends a_candidates a_follow a_reach b_used b_result b_rel F
  have ⟨⟨s1, s2, l1, l2, a1, a2, m1, m2, d1, n1⟩, hdr, htx, htl, hbl, hok, hlv, hPo, hb0, hu, hr⟩ := F
  exact wy_depth rfl (by omega) (fun j => rfl) hok ⟨rfl, zz_in F⟩
theorem i_vc_tokenAt {k : Nat} {u : SX} {v : SY} (I : i_Rel k u v) (hk : k + 4 ≤ 2052) (v1 : Int32) : wpX_tokenAt (fun r => wpY_tokenAt (fun r' => r' = r ∧ i_Rel (k + 4) u v) v v1) u v1 := by
  refine zz_el (P := fun u v => wpX_tokenAt (fun r => wpY_tokenAt (fun r' => r' = r ∧ i_Rel (k + 4) u v) v v1) u v1) I ?_
  intro S L A M dl n lm ft fp gt dr tx tk tl bl a_results a_postings a_first a_last a_starts a_ends a_candidates a_follow a_reach b_used b_result b_rel F
  have ⟨⟨s1, s2, l1, l2, a1, a2, m1, m2, d1, n1⟩, hdr, htx, htl, hbl, hok, hlv, hPo, hb0, hu, hr⟩ := F
  have R := zz_in (k := k + 4) (ft := ft) (fp := fp) (gt := gt) (a_first := a_first) (a_last := a_last) (a_starts := a_starts) (a_ends := a_ends) (a_candidates := a_candidates) (a_follow := a_follow) (a_reach := a_reach) (b_rel := b_rel) F
  rcases pk_ix v1 (n := n) (by omega) with z | z | ⟨i, hi, rfl⟩
  · exact br_t z (br_t z ⟨rfl, R⟩)
  · have g := zz_ge0 (by omega) z
    exact br_f g (br_f (Int32.not_lt.mpr z) (br_f g (br_f (Int32.not_lt.mpr z) ⟨rfl, R⟩)))
  · have g : ¬ nI i < 0 := nI_pos (by omega)
    have w : vp_in (nI i) 32 := vp_in_nI (by omega) (by omega)
    exact br_f g (br_t (nI_lt hi (by omega)) ⟨w, br_f g (br_t (nI_lt hi (by omega)) ⟨w, rfl, R⟩)⟩)
theorem i_vc_firstEnd {k : Nat} {u : SX} {v : SY} (I : i_Rel k u v) (hk : k + 4 ≤ 2052) (v1 : Int32) : wpX_firstEnd (fun r => wpY_firstEnd (fun r' => r' = r ∧ i_Rel (k + 4) u v) v v1) u v1 := by
  refine zz_el (P := fun u v => wpX_firstEnd (fun r => wpY_firstEnd (fun r' => r' = r ∧ i_Rel (k + 4) u v) v v1) u v1) I ?_
  intro S L A M dl n lm ft fp gt dr tx tk tl bl a_results a_postings a_first a_last a_starts a_ends a_candidates a_follow a_reach b_used b_result b_rel F
  have ⟨⟨s1, s2, l1, l2, a1, a2, m1, m2, d1, n1⟩, hdr, htx, htl, hbl, hok, hlv, hPo, hb0, hu, hr⟩ := F
  have R := zz_in (k := k + 4) (ft := ft) (fp := fp) (gt := gt) (a_first := a_first) (a_last := a_last) (a_starts := a_starts) (a_ends := a_ends) (a_candidates := a_candidates) (a_follow := a_follow) (a_reach := a_reach) (b_rel := b_rel) F
  unfold wpX_firstEnd
  dsimp only
  rcases pk_ix v1 (n := S) (by omega) with z | z | ⟨d, hd, rfl⟩
  · exact wx_ss_f (Or.inl z) (br_f (by decide) (br_t z ⟨rfl, R⟩))
  · exact wx_ss_f (Or.inr z) (br_f (by decide) (br_f (zz_ge0 (by omega) z) (br_f (Int32.not_lt.mpr z) ⟨rfl, R⟩)))
  · have w : vp_in (nI d) 12 := vp_in_nI (by omega) (by omega)
    unfold wpY_firstEnd
    dsimp only
    rw [nI_clamp (show d < 2 ^ 31 by omega)]
    cases hl : bt lm d
    · exact wx_ss_m rfl s2 hd hl (br_f (by decide) (br_f (nI_pos (by omega)) (br_t (nI_lt hd (by omega)) ⟨w, br_t ((hu d hd).mpr hl) ⟨rfl, R⟩⟩)))
    · refine wx_ss_l rfl s2 hd hl (br_t rfl ⟨w, br_f (nI_pos (by omega)) (br_t (nI_lt hd (by omega)) ⟨w, br_f (fun y => ?_) ⟨w, (hr d hl).2, R⟩⟩)⟩)
      rw [(hu d hd).mp y] at hl; exact absurd hl (by decide)
section
variable {f_slotCount f_maxLength f_letterCount f_maxTokens f_liveMask f_draftLength f_tokenCount f_patternDepth f_top f_positions : Int32} {a_texts a_textLengths a_results a_draft a_postings a_tokens a_first a_last a_candidates a_follow a_reach : Nat → Int32} {a_starts a_ends : Nat → Int64} {S : Nat}
theorem wx_ht {post : Int32 → Prop} (hS : f_slotCount = nI S) (hS12 : S ≤ 12) (K : ∀ r, (∀ e, bt r e = true ↔ (e < S ∧ bt f_liveMask e = true ∧ a_results e ≠ -4)) → post r) : ∀ m d r, d + m = S → (∀ e, bt r e = true ↔ (e < d ∧ bt f_liveMask e = true ∧ a_results e ≠ -4)) → wX_hits_4 post f_slotCount f_maxLength f_letterCount f_maxTokens f_liveMask f_draftLength f_tokenCount f_patternDepth f_top f_positions a_texts a_textLengths a_results a_draft a_postings a_tokens a_first a_last a_starts a_ends a_candidates a_follow a_reach (m + 1) r (nI d) := by
  intro m
  induction m with
  | zero =>
    intro d r e h
    have e1 : d = S := by omega
    subst e1
    rw [wX_hits_4]
    refine br_t ?_ (K r h)
    rw [hS]; exact nI_le (Nat.le_refl _) (by omega)
  | succ m ih =>
    intro d r e h
    have v : vp_in (nI d) 12 := vp_in_nI (by omega) (by omega)
    have keep : ¬ (bt f_liveMask d = true ∧ a_results d ≠ -4) → ∀ p, bt r p = true ↔ (p < d + 1 ∧ bt f_liveMask p = true ∧ a_results p ≠ -4) := by
      intro q p
      rw [h p]
      refine ⟨fun y => ⟨by omega, y.2⟩, fun y => ⟨?_, y.2⟩⟩
      rcases Nat.lt_or_ge p d with w | w
      · exact w
      · have y2 := y.2
        rw [show p = d from by omega] at y2
        exact absurd y2 q
    rw [wX_hits_4]
    dsimp only
    rw [nI_clamp (show d < 2 ^ 31 by omega)]
    refine br_f ?_ (bt_br d (by omega) (fun z => nm_r (nI_1 d) (ih (d + 1) r (by omega) (keep (fun y => ?_)))) (fun z => ⟨v, br_c (fun w => nm_r (nI_1 d) (ih (d + 1) r (by omega) (keep (fun y => y.2 w)))) (fun w => nm_e (nm_r (nI_1 d) (ih (d + 1) _ (by omega) (fun p => ?_))))⟩))
    · rw [hS]; exact nI_ge (by omega) (by omega)
    · rw [z] at y
      exact absurd y.1 (by decide)
    · rw [bt_set _ d (by omega), Bool.or_eq_true, h p, decide_eq_true_eq]
      constructor
      · intro y
        rcases y with y | y
        · exact ⟨by omega, y.2⟩
        · rw [y]; exact ⟨by omega, z, w⟩
      · intro y
        rcases Nat.lt_or_ge p d with u | u
        · exact Or.inl ⟨u, y.2⟩
        · exact Or.inr (by omega)
theorem wx_hits {post : Int32 → Prop} (hS : f_slotCount = nI S) (hS12 : S ≤ 12) (K : ∀ r, (∀ e, bt r e = true ↔ (e < S ∧ bt f_liveMask e = true ∧ a_results e ≠ -4)) → post r) : wpX_hits post (f_slotCount, f_maxLength, f_letterCount, f_maxTokens, f_liveMask, f_draftLength, f_tokenCount, f_patternDepth, f_top, f_positions, a_texts, a_textLengths, a_results, a_draft, a_postings, a_tokens, a_first, a_last, a_starts, a_ends, a_candidates, a_follow, a_reach) := by
  refine ⟨S + 1, wx_ht hS hS12 K S 0 0 (by omega) (fun e => ?_)⟩
  rw [b_0]
  exact ⟨fun y => absurd y (by decide), fun y => absurd y.1 (Nat.not_lt_zero e)⟩
end
theorem i_vc_hits {k : Nat} {u : SX} {v : SY} (I : i_Rel k u v) (hk : k + 4 ≤ 2052) : wpX_hits (fun r => wpY_hits (fun r' => r' = r ∧ i_Rel (k + 4) u v) v) u := by
  refine zz_el (P := fun u v => wpX_hits (fun r => wpY_hits (fun r' => r' = r ∧ i_Rel (k + 4) u v) v) u) I ?_
  intro S L A M dl n lm ft fp gt dr tx tk tl bl a_results a_postings a_first a_last a_starts a_ends a_candidates a_follow a_reach b_used b_result b_rel F
  have ⟨⟨s1, s2, l1, l2, a1, a2, m1, m2, d1, n1⟩, hdr, htx, htl, hbl, hok, hlv, hPo, hb0, hu, hr⟩ := F
  refine wx_hits rfl s2 (fun r h1 => wy_hits (lm := lm) rfl s2 hu (fun r2 h2 => ⟨bt_eqT (fun e => (h2 e).trans (Iff.trans ?_ (h1 e).symm)), zz_in F⟩))
  refine and_congr Iff.rfl ⟨fun y => ⟨y.1, ?_⟩, fun y => ⟨y.1, ?_⟩⟩
  · rw [← (hr e y.1).2]; exact y.2
  · rw [(hr e y.1).2]; exact y.2
theorem i_vc_search {k : Nat} {u : SX} {v : SY} (I : i_Rel k u v) (hk : k + 4 ≤ 2052) : wpX_search (fun r u' => wpY_search (fun r' v' => r' = r ∧ i_Rel (k + 4) u' v') v) u := by
  refine zz_el (P := fun u v => wpX_search (fun r u' => wpY_search (fun r' v' => r' = r ∧ i_Rel (k + 4) u' v') v) u) I ?_
  intro S L A M dl n lm ft fp gt dr tx tk tl bl a_results a_postings a_first a_last a_starts a_ends a_candidates a_follow a_reach b_used b_result b_rel F
  have ⟨⟨s1, s2, l1, l2, a1, a2, m1, m2, d1, n1⟩, hdr, htx, htl, hbl, hok, hlv, hPo, hb0, hu, hr⟩ := F
  have hd12 := tg_dp_le tk n hok
  by_cases h1 : tg_dp tk n = 1
  · refine wx_search (tx := tx) (tl := tl) (tk := tk) rfl s2 (fun j => rfl) htx (fun j => rfl) htl rfl (by omega) (fun j => rfl) hPo hok rfl h1 (fun rs P' fi' la' st' en' cd' fo' rc' hX => ?_)
    refine wy_search (tx := tx) (tl := tl) (tk := tk) (lm := lm) rfl s2 rfl (by omega) (fun j => rfl) hok h1 htx (fun j _ => congrArg nI (tg_ty_hi j)) (fun d h => congrArg nI (hr d h).1) htl hu (fun gt2 rs2 rl2 hY => ?_)
    have eq : ∀ d, bt lm d = true → rs2 d = rs d := fun d h => tg_rs_u (hY d (hlv d h) h) (hX d (hlv d h) h)
    refine ⟨congrArg nI (tg_cn_cong S (fun d _ h => eq d h)), zz_in ?_⟩
    exact ⟨⟨s1, s2, l1, l2, a1, a2, m1, m2, d1, n1⟩, hdr, htx, htl, hbl, hok, hlv, hPo, hb0, hu, fun d h => ⟨(hr d h).1, eq d h⟩⟩
  · have g : ¬ nI (tg_dp tk n) = 1 := by
      intro z
      exact h1 ((nI_eq (by omega) (by omega)).mp (z : nI (tg_dp tk n) = nI 1))
    exact br_f g (wy_depth rfl (by omega) (fun j => rfl) hok (br_f g ⟨rfl, zz_in F⟩))
end
section
/-! tokens, and the documents that come and go -/
section
variable {f_slotCount f_maxLength f_letterCount f_maxTokens f_liveMask f_draftLength f_tokenCount f_patternDepth f_top f_positions : Int32} {a_texts a_textLengths a_results a_draft a_postings a_tokens a_first a_last a_candidates a_follow a_reach : Nat → Int32} {a_starts a_ends : Nat → Int64} {n D t : Nat} {post : Int32 → SX → Prop}
theorem wx_t135 (hn : f_tokenCount = nI n) (hn32 : n < 32) (hD : f_patternDepth = nI D) {x3 x4 : Int32} {D2 : Nat} (h : (x3 = 0 ∧ x4 = 0 ∧ D2 = D) ∨ (x3 = 0 ∧ x4 = 1 ∧ D2 + 1 = D) ∨ (x3 = 1 ∧ D2 = D + 1)) (K : post 0 (f_slotCount, f_maxLength, f_letterCount, f_maxTokens, f_liveMask, f_draftLength, nI (n + 1), nI D2, f_top, f_positions, a_texts, a_textLengths, a_results, a_draft, a_postings, upd a_tokens n (nI t), a_first, a_last, a_starts, a_ends, a_candidates, a_follow, a_reach)) : wX_token_135 post (nI t) x3 x4 f_slotCount f_maxLength f_letterCount f_maxTokens f_liveMask f_draftLength f_tokenCount f_patternDepth f_top f_positions a_texts a_textLengths a_results a_draft a_postings a_tokens a_first a_last a_starts a_ends a_candidates a_follow a_reach := by
  subst hn hD
  unfold wX_token_135
  rw [nI_clamp (show n < 2 ^ 31 by omega)]
  refine ⟨vp_in_nI hn32 (by omega), nm_e (nm_r (nI_1 n) ?_)⟩
  rcases h with ⟨e3, e4, e⟩ | ⟨e3, e4, e⟩ | ⟨e3, e⟩
  · subst e
    exact br_t e3 (br_t e4 K)
  · subst e
    exact br_t e3 (br_f (by rw [e4]; decide) (nm_r (nI_pred D2) K))
  · subst e
    exact br_f (by rw [e3]; decide) (nm_r (nI_1 D) K)
/-- a leaf -/
theorem wx_t68l (hn : f_tokenCount = nI n) (hn32 : n < 32) (hD : f_patternDepth = nI D) (hD12 : D ≤ 12) (ht : t ≤ 64) (K : D < 12 → post 0 (f_slotCount, f_maxLength, f_letterCount, f_maxTokens, f_liveMask, f_draftLength, nI (n + 1), nI (D + 1), f_top, f_positions, a_texts, a_textLengths, a_results, a_draft, a_postings, upd a_tokens n (nI t), a_first, a_last, a_starts, a_ends, a_candidates, a_follow, a_reach)) (K2 : 12 ≤ D → post (-5) (f_slotCount, f_maxLength, f_letterCount, f_maxTokens, f_liveMask, f_draftLength, f_tokenCount, f_patternDepth, f_top, f_positions, a_texts, a_textLengths, a_results, a_draft, a_postings, a_tokens, a_first, a_last, a_starts, a_ends, a_candidates, a_follow, a_reach)) : wX_token_68 post (nI t) 1 f_slotCount f_maxLength f_letterCount f_maxTokens f_liveMask f_draftLength f_tokenCount f_patternDepth f_top f_positions a_texts a_textLengths a_results a_draft a_postings a_tokens a_first a_last a_starts a_ends a_candidates a_follow a_reach := by
  have o : ¬ (1 : Int32) = 0 := by decide
  refine pk_eq t 65 (fun z => by omega) (fun _ => pk_eq t 66 (fun z => by omega) (fun _ => br_f o ?_))
  refine pk_lt D 12 (fun z => br_t rfl (br_f o (wx_t135 hn hn32 hD (Or.inr (Or.inr ⟨rfl, rfl⟩)) (K z)))) K2 hD
/-- two operands -/
theorem wx_t68b (hn : f_tokenCount = nI n) (hn32 : n < 32) (hD : f_patternDepth = nI D) (hD12 : D ≤ 12) (ht : t = 65 ∨ t = 66) (K : 2 ≤ D → post 0 (f_slotCount, f_maxLength, f_letterCount, f_maxTokens, f_liveMask, f_draftLength, nI (n + 1), nI (D - 1), f_top, f_positions, a_texts, a_textLengths, a_results, a_draft, a_postings, upd a_tokens n (nI t), a_first, a_last, a_starts, a_ends, a_candidates, a_follow, a_reach)) (K2 : D < 2 → post (-6) (f_slotCount, f_maxLength, f_letterCount, f_maxTokens, f_liveMask, f_draftLength, f_tokenCount, f_patternDepth, f_top, f_positions, a_texts, a_textLengths, a_results, a_draft, a_postings, a_tokens, a_first, a_last, a_starts, a_ends, a_candidates, a_follow, a_reach)) : wX_token_68 post (nI t) 0 f_slotCount f_maxLength f_letterCount f_maxTokens f_liveMask f_draftLength f_tokenCount f_patternDepth f_top f_positions a_texts a_textLengths a_results a_draft a_postings a_tokens a_first a_last a_starts a_ends a_candidates a_follow a_reach := by
  have o : ¬ (1 : Int32) = 0 := by decide
  have q : wX_token_81 post (nI t) 0 f_slotCount f_maxLength f_letterCount f_maxTokens f_liveMask f_draftLength f_tokenCount f_patternDepth f_top f_positions a_texts a_textLengths a_results a_draft a_postings a_tokens a_first a_last a_starts a_ends a_candidates a_follow a_reach := by
    refine br_t rfl (br_f o (pk_le 2 D (fun z => br_t rfl (br_t ?_ (wx_t135 hn hn32 hD (Or.inr (Or.inl ⟨rfl, rfl, by omega⟩)) (K z)))) K2 rfl hD))
    rw [hD]; exact nI_le (a := 1) (by omega) (by omega)
  exact pk_eq t 65 (fun _ => q) (fun _ => pk_eq t 66 (fun _ => q) (fun _ => by omega))
/-- one operand -/
theorem wx_t68u (hn : f_tokenCount = nI n) (hn32 : n < 32) (hD : f_patternDepth = nI D) (hD12 : D ≤ 12) (ht : 67 ≤ t) (ht2 : t ≤ 69) (K : 1 ≤ D → post 0 (f_slotCount, f_maxLength, f_letterCount, f_maxTokens, f_liveMask, f_draftLength, nI (n + 1), nI D, f_top, f_positions, a_texts, a_textLengths, a_results, a_draft, a_postings, upd a_tokens n (nI t), a_first, a_last, a_starts, a_ends, a_candidates, a_follow, a_reach)) (K2 : D < 1 → post (-6) (f_slotCount, f_maxLength, f_letterCount, f_maxTokens, f_liveMask, f_draftLength, f_tokenCount, f_patternDepth, f_top, f_positions, a_texts, a_textLengths, a_results, a_draft, a_postings, a_tokens, a_first, a_last, a_starts, a_ends, a_candidates, a_follow, a_reach)) : wX_token_68 post (nI t) 0 f_slotCount f_maxLength f_letterCount f_maxTokens f_liveMask f_draftLength f_tokenCount f_patternDepth f_top f_positions a_texts a_textLengths a_results a_draft a_postings a_tokens a_first a_last a_starts a_ends a_candidates a_follow a_reach := by
  refine pk_eq t 65 (fun z => by omega) (fun _ => pk_eq t 66 (fun z => by omega) (fun _ => br_t rfl (br_t rfl (br_t rfl ?_))))
  exact pk_le 1 D (fun z => wx_t135 hn hn32 hD (Or.inl ⟨rfl, rfl, rfl⟩) (K z)) K2 rfl hD
end
section
variable {g_slots g_maxLen g_letters g_maxTokens g_size g_top : Int32} {b_text b_len b_used b_result b_pattern b_rel : Nat → Int32} {n D t : Nat} {post : Int32 → SY → Prop}
theorem wy_t98 (hn : g_size = nI n) (hn32 : n < 32) (K : post 0 (g_slots, g_maxLen, g_letters, g_maxTokens, nI (n + 1), g_top, b_text, b_len, b_used, b_result, upd b_pattern n (nI t), b_rel)) : wY_token_98 post (nI t) g_slots g_maxLen g_letters g_maxTokens g_size g_top b_text b_len b_used b_result b_pattern b_rel := by
  subst hn
  unfold wY_token_98
  rw [nI_clamp (show n < 2 ^ 31 by omega)]
  exact ⟨vp_in_nI hn32 (by omega), nm_e (nm_r (nI_1 n) K)⟩
end
theorem tg_ok_push {tk : Nat → Nat} {n t : Nat} (hok : ∀ i, i < n → tg_ok tk i) (h1 : 1 ≤ t) (h2 : t ≤ 69) (h3 : t ≤ 64 → tg_dp tk n < 12) (h4 : 65 ≤ t → t ≤ 66 → 2 ≤ tg_dp tk n) (h5 : 67 ≤ t → 1 ≤ tg_dp tk n) : ∀ i, i < n + 1 → tg_ok (tg_un tk n t) i := by
  intro i hi
  rcases Nat.lt_or_ge i n with z | z
  · exact tg_ok_cong (fun j hj => tg_un_n (by omega)) (hok i z)
  · have e : i = n := by omega
    subst e
    unfold tg_ok
    rw [tg_un_s, tg_dp_cong i (fun j hj => tg_un_n (by omega))]
    exact ⟨h1, h2, h3, h4, h5⟩
theorem tg_dp_push {tk : Nat → Nat} {n t : Nat} : tg_dp (tg_un tk n t) (n + 1) = if t ≤ 64 then tg_dp tk n + 1 else if t ≤ 66 then tg_dp tk n - 1 else tg_dp tk n := by
  rw [tg_dp, tg_un_s, tg_dp_cong n (fun j hj => tg_un_n (by omega))]
theorem zz_tok {S L A M dl n : Nat} {lm ft fp gt : Int32} {dr tx tk tl bl : Nat → Nat} {a_results a_postings a_first a_last : Nat → Int32} {a_starts a_ends : Nat → Int64} {a_candidates a_follow a_reach b_used b_result b_rel : Nat → Int32} {k t : Nat} {x2 : Int32} (F : tg_Fa S L A M dl n lm dr tx tk tl bl a_results a_postings b_used b_result) (h1 : 1 ≤ t) (h2 : t ≤ 69) (hx : (x2 = 1 ∧ t < 64) ∨ (x2 = 0 ∧ 64 ≤ t)) {Q : Int32 → SX → Prop} (hQ : ∀ r u', wY_token_31 (fun r' v' => r' = r ∧ i_Rel (k + 4) u' v') (nI t) (nI S) (nI L) (nI A) (nI M) (nI n) gt ((fun j => nI (tg_ty dr tx j))) ((fun j => nI (bl j))) b_used b_result ((fun j => nI (tk j))) b_rel → Q r u') : wX_token_39 Q (nI t) x2 (nI S) (nI L) (nI A) (nI M) lm (nI dl) (nI n) (nI (tg_dp tk n)) ft fp ((fun j => nI (tx j))) ((fun j => nI (tl j))) a_results ((fun j => nI (dr j))) a_postings ((fun j => nI (tk j))) a_first a_last a_starts a_ends a_candidates a_follow a_reach := by
  have ⟨⟨s1, s2, l1, l2, a1, a2, m1, m2, d1, n1⟩, hdr, htx, htl, hbl, hok, hlv, hPo, hb0, hu, hr⟩ := F
  have hd12 := tg_dp_le tk n hok
  have R := zz_in (k := k + 4) (ft := ft) (fp := fp) (gt := gt) (a_first := a_first) (a_last := a_last) (a_starts := a_starts) (a_ends := a_ends) (a_candidates := a_candidates) (a_follow := a_follow) (a_reach := a_reach) (b_rel := b_rel) F
  have push : (t ≤ 64 → tg_dp tk n < 12) → (65 ≤ t → t ≤ 66 → 2 ≤ tg_dp tk n) → (67 ≤ t → 1 ≤ tg_dp tk n) → n < M → ∀ D2, D2 = tg_dp (tg_un tk n t) (n + 1) → i_Rel (k + 4) (nI S, nI L, nI A, nI M, lm, nI dl, nI (n + 1), nI D2, ft, fp, (fun j => nI (tx j)), (fun j => nI (tl j)), a_results, (fun j => nI (dr j)), a_postings, (upd (fun j => nI (tk j)) n (nI t)), a_first, a_last, a_starts, a_ends, a_candidates, a_follow, a_reach) (nI S, nI L, nI A, nI M, nI (n + 1), gt, (fun j => nI (tg_ty dr tx j)), (fun j => nI (bl j)), b_used, b_result, (upd (fun j => nI (tk j)) n (nI t)), b_rel) := by
    intro h3 h4 h5 hnM D2 e
    rw [tg_upd tk n t, e]
    exact zz_in (n := n + 1) (tk := tg_un tk n t) ⟨by omega, hdr, htx, htl, hbl, tg_ok_push hok h1 h2 h3 h4 h5, hlv, hPo, hb0, hu, hr⟩
  refine pk_lt n M (fun hnM => ?_) (fun hnM => hQ _ _ (br_f (nI_nlt hnM (by omega)) ⟨rfl, R⟩))
  have yg : nI n < nI M := nI_lt hnM (by omega)
  have yd : ∀ {p : Int32 → Prop}, p (nI (tg_dp tk n)) → wpY_depth p (nI S, nI L, nI A, nI M, nI n, gt, (fun j => nI (tg_ty dr tx j)), (fun j => nI (bl j)), b_used, b_result, (fun j => nI (tk j)), b_rel) := fun h => wy_depth rfl (by omega) (fun j => rfl) hok h
  rcases Nat.lt_or_ge 64 t with z | z
  · have ex : x2 = 0 := by
      rcases hx with y | y
      · omega
      · exact y.1
    have z64 : (64 : Int32) < nI t := nI_lt (a := 64) z (by omega)
    refine br_t ex (pk_eq t 64 (fun y => by omega) (fun _ => ?_))
    rcases Nat.lt_or_ge 66 t with w | w
    · refine wx_t68u rfl (by omega) rfl hd12 w h2 (fun y => ?_) (fun y => ?_)
      · refine hQ _ _ (br_t yg (yd (br_t z64 (pk_eq t 65 (fun y => by omega) (fun _ => pk_eq t 66 (fun y => by omega) (fun _ => pk_lt t 67 (fun y => by omega) (fun _ => pk_eq (tg_dp tk n) 0 (fun y => by omega) (fun _ => wy_t98 rfl (by omega) ⟨rfl, push (fun _ => by omega) (fun _ _ => by omega) (fun _ => y) hnM _ ?_⟩))))))))
        rw [tg_dp_push, if_neg (by omega), if_neg (by omega)]
      · exact hQ _ _ (br_t yg (yd (br_t z64 (pk_eq t 65 (fun y => by omega) (fun _ => pk_eq t 66 (fun y => by omega) (fun _ => pk_lt t 67 (fun y => by omega) (fun _ => pk_eq (tg_dp tk n) 0 (fun y => ⟨rfl, R⟩) (fun y => by omega))))))))
    · refine wx_t68b rfl (by omega) rfl hd12 (by omega) (fun y => ?_) (fun y => ?_)
      · have q : wY_token_77 (fun r' v' => r' = 0 ∧ i_Rel (k + 4) (nI S, nI L, nI A, nI M, lm, nI dl, nI (n + 1), nI (tg_dp tk n - 1), ft, fp, (fun j => nI (tx j)), (fun j => nI (tl j)), a_results, (fun j => nI (dr j)), a_postings, (upd (fun j => nI (tk j)) n (nI t)), a_first, a_last, a_starts, a_ends, a_candidates, a_follow, a_reach) v') (nI t) (nI (tg_dp tk n)) (nI S) (nI L) (nI A) (nI M) (nI n) gt ((fun j => nI (tg_ty dr tx j))) ((fun j => nI (bl j))) b_used b_result ((fun j => nI (tk j))) b_rel := by
          refine pk_le 2 (tg_dp tk n) (fun _ => pk_lt t 67 (fun _ => wy_t98 rfl (by omega) ⟨rfl, push (fun _ => by omega) (fun _ _ => y) (fun _ => by omega) hnM _ ?_⟩) (fun y => by omega)) (fun y => by omega)
          rw [tg_dp_push, if_neg (by omega), if_pos w]
        exact hQ _ _ (br_t yg (yd (br_t z64 (pk_eq t 65 (fun _ => q) (fun _ => pk_eq t 66 (fun _ => q) (fun y => by omega))))))
      · have q : wY_token_77 (fun r' v' => r' = -6 ∧ i_Rel (k + 4) (nI S, nI L, nI A, nI M, lm, nI dl, nI n, nI (tg_dp tk n), ft, fp, (fun j => nI (tx j)), (fun j => nI (tl j)), a_results, (fun j => nI (dr j)), a_postings, (fun j => nI (tk j)), a_first, a_last, a_starts, a_ends, a_candidates, a_follow, a_reach) v') (nI t) (nI (tg_dp tk n)) (nI S) (nI L) (nI A) (nI M) (nI n) gt ((fun j => nI (tg_ty dr tx j))) ((fun j => nI (bl j))) b_used b_result ((fun j => nI (tk j))) b_rel := pk_le 2 (tg_dp tk n) (fun y => by omega) (fun y => ⟨rfl, R⟩)
        exact hQ _ _ (br_t yg (yd (br_t z64 (pk_eq t 65 (fun _ => q) (fun _ => pk_eq t 66 (fun _ => q) (fun y => by omega))))))
  · have z64 : ¬ (64 : Int32) < nI t := nI_nlt (a := 64) z (by omega)
    have q : wX_token_68 Q (nI t) 1 (nI S) (nI L) (nI A) (nI M) lm (nI dl) (nI n) (nI (tg_dp tk n)) ft fp ((fun j => nI (tx j))) ((fun j => nI (tl j))) a_results ((fun j => nI (dr j))) a_postings ((fun j => nI (tk j))) a_first a_last a_starts a_ends a_candidates a_follow a_reach := by
      refine wx_t68l rfl (by omega) rfl hd12 z (fun y => ?_) (fun y => ?_)
      · refine hQ _ _ (br_t yg (yd (br_f z64 (pk_lt (tg_dp tk n) 12 (fun _ => pk_eq t 65 (fun y => by omega) (fun _ => pk_eq t 66 (fun y => by omega) (fun _ => pk_lt t 67 (fun _ => wy_t98 rfl (by omega) ⟨rfl, push (fun _ => y) (fun _ _ => by omega) (fun _ => by omega) hnM _ ?_⟩) (fun y => by omega)))) (fun y => by omega)))))
        rw [tg_dp_push, if_pos z]
      · exact hQ _ _ (br_t yg (yd (br_f z64 (pk_lt (tg_dp tk n) 12 (fun y => by omega) (fun y => ⟨rfl, R⟩)))))
    rcases hx with y | y
    · exact br_f (by rw [y.1]; decide) q
    · exact br_t y.1 (pk_eq t 64 (fun _ => q) (fun w => by omega))
theorem zz_shA : ∀ A, A < 7 → ∃ q : Nat, q ≤ 64 ∧ 1 ≤ q ∧ (1 : Int32) <<< (nI A &&& 31) = nI q := by
  intro A hA
  refine ⟨2 ^ A, ?_, Nat.one_le_two_pow, ?_⟩
  · exact (by decide : ∀ A, A < 7 → 2 ^ A ≤ 64) A hA
  · exact (by decide +kernel : ∀ A, A < 7 → (1 : Int32) <<< (nI A &&& 31) = nI (2 ^ A)) A hA
theorem i_vc_token {k : Nat} {u : SX} {v : SY} (I : i_Rel k u v) (hk : k + 4 ≤ 2052) (v1 : Int32) : wpX_token (fun r u' => wpY_token (fun r' v' => r' = r ∧ i_Rel (k + 4) u' v') v v1) u v1 := by
  refine zz_el (P := fun u v => wpX_token (fun r u' => wpY_token (fun r' v' => r' = r ∧ i_Rel (k + 4) u' v') v v1) u v1) I ?_
  intro S L A M dl n lm ft fp gt dr tx tk tl bl a_results a_postings a_first a_last a_starts a_ends a_candidates a_follow a_reach b_used b_result b_rel F
  have ⟨⟨s1, s2, l1, l2, a1, a2, m1, m2, d1, n1⟩, hdr, htx, htl, hbl, hok, hlv, hPo, hb0, hu, hr⟩ := F
  have R := zz_in (k := k + 4) (ft := ft) (fp := fp) (gt := gt) (a_first := a_first) (a_last := a_last) (a_starts := a_starts) (a_ends := a_ends) (a_candidates := a_candidates) (a_follow := a_follow) (a_reach := a_reach) (b_rel := b_rel) F
  obtain ⟨q, q64, q1, hq⟩ := zz_shA A (by omega)
  have hq2 : (1 : Int32) <<< (nI A &&& 31) - 1 = nI (q - 1) := by rw [hq]; exact pk_sub (b := 1) q1
  unfold wpX_token wpY_token
  dsimp only
  rw [hq2, hq]
  by_cases h0 : v1 < 0
  · have g1 : v1 < 1 := Int32.lt_trans h0 (by decide)
    have g2 : v1 < 64 := Int32.lt_trans h0 (by decide)
    exact br_t g1 (br_t rfl (br_t g2 (br_t g1 (br_t g2 ⟨rfl, R⟩))))
  · obtain ⟨t, ht, rfl⟩ := nI_of h0
    refine pk_lt t 1 (fun z => br_t rfl (pk_lt t 64 (fun _ => br_t (nI_lt (b := 1) z (by omega)) (br_t (nI_lt (b := 64) (by omega) (by omega)) ⟨rfl, R⟩)) (fun y => by omega))) (fun z => ?_)
    have gz : ¬ nI t < 1 := nI_nlt (b := 1) z (by omega)
    refine pk_le q t (fun y => ?_) (fun y => ?_)
    · have gy : ¬ nI t ≤ nI (q - 1) := nI_ge (by omega) (by omega)
      refine br_t rfl (pk_lt t 64 (fun w => br_f gz (br_f gy (br_t (nI_lt (b := 64) w (by omega)) ⟨rfl, R⟩))) (fun w => pk_le t 69 (fun x => ?_) (fun x => br_f gz (br_f gy (br_f (nI_nlt (b := 64) w (by omega)) (br_f (nI_ge (a := 69) x (by omega)) ⟨rfl, R⟩))))))
      exact zz_tok (k := k) (ft := ft) (fp := fp) (gt := gt) (a_first := a_first) (a_last := a_last) (a_starts := a_starts) (a_ends := a_ends) (a_candidates := a_candidates) (a_follow := a_follow) (a_reach := a_reach) (b_rel := b_rel) (t := t) (x2 := 0) F (by omega) x (Or.inr ⟨rfl, w⟩) (fun r u' h => br_f gz (br_f gy (br_f (nI_nlt (b := 64) w (by omega)) (br_t (nI_le (b := 69) x (by omega)) h))))
    · exact br_f (by decide) (zz_tok (k := k) (ft := ft) (fp := fp) (gt := gt) (a_first := a_first) (a_last := a_last) (a_starts := a_starts) (a_ends := a_ends) (a_candidates := a_candidates) (a_follow := a_follow) (a_reach := a_reach) (b_rel := b_rel) (t := t) (x2 := 1) F z (by omega) (Or.inl ⟨rfl, by omega⟩) (fun r u' h => br_f gz (br_t (nI_le (by omega) (by omega)) h)))
end
section
/-! the documents that come and go -/
theorem tg_cp_lt {dr tx : Nat → Nat} (h1 : ∀ j, dr j < 6) (h2 : ∀ j, tx j < 6) (d i j : Nat) : tg_cp dr tx d i j < 6 := by
  unfold tg_cp
  split
  · exact h1 _
  · exact h2 _
theorem tg_un_le {f : Nat → Nat} {b k v : Nat} (h : ∀ j, f j ≤ b) (hv : v ≤ b) (j : Nat) : tg_un f k v j ≤ b := by
  unfold tg_un
  split
  · exact hv
  · exact h j
theorem tg_cp_e {dr tx : Nat → Nat} {d i j : Nat} (h : j < d * 16 ∨ d * 16 + i ≤ j) : tg_cp dr tx d i j = tx j := by
  rw [tg_cp, if_neg (by omega)]
section
variable {f_slotCount f_maxLength f_letterCount f_maxTokens f_liveMask f_draftLength f_tokenCount f_patternDepth f_top f_positions : Int32} {a_texts a_textLengths a_results a_draft a_postings a_tokens a_first a_last a_candidates a_follow a_reach : Nat → Int32} {a_starts a_ends : Nat → Int64} {T d : Nat} {tx : Nat → Nat} {post : SX → Prop}
theorem wx_addPostings (hd : d < 12) (htl : a_textLengths d = nI T) (hT : T ≤ 16) (htx : ∀ j, a_texts j = nI (tx j)) (h6 : ∀ j, tx j < 6) (K : ∀ po : Nat → Int32, (∀ t e, bt (po t) e = true ↔ (bt (a_postings t) e = true ∨ (e = d ∧ ∃ i, i + 2 < T ∧ tg_tri tx (d * 16 + i) = t))) → post (f_slotCount, f_maxLength, f_letterCount, f_maxTokens, f_liveMask, f_draftLength, f_tokenCount, f_patternDepth, f_top, f_positions, a_texts, a_textLengths, a_results, a_draft, po, a_tokens, a_first, a_last, a_starts, a_ends, a_candidates, a_follow, a_reach)) : wpX_addPostings post (f_slotCount, f_maxLength, f_letterCount, f_maxTokens, f_liveMask, f_draftLength, f_tokenCount, f_patternDepth, f_top, f_positions, a_texts, a_textLengths, a_results, a_draft, a_postings, a_tokens, a_first, a_last, a_starts, a_ends, a_candidates, a_follow, a_reach) (nI d) := by
  have e16 : nI d * 16 = nI (d * 16) := pk_mul d 16
  refine nm_r e16 ⟨17, wx_addp hd htl hT htx h6 K 16 0 a_postings (by omega) (by omega) (fun t e => ?_)⟩
  exact ⟨Or.inl, fun y => y.elim id (fun ⟨_, j, y3, _⟩ => absurd y3 (Nat.not_lt_zero j))⟩
theorem wx_dropPostings (hd : d < 12) (htl : a_textLengths d = nI T) (hT : T ≤ 16) (htx : ∀ j, a_texts j = nI (tx j)) (h6 : ∀ j, tx j < 6) (K : ∀ po : Nat → Int32, (∀ t e, bt (po t) e = true ↔ (bt (a_postings t) e = true ∧ ¬ (e = d ∧ ∃ i, i + 2 < T ∧ tg_tri tx (d * 16 + i) = t))) → post (f_slotCount, f_maxLength, f_letterCount, f_maxTokens, f_liveMask, f_draftLength, f_tokenCount, f_patternDepth, f_top, f_positions, a_texts, a_textLengths, a_results, a_draft, po, a_tokens, a_first, a_last, a_starts, a_ends, a_candidates, a_follow, a_reach)) : wpX_dropPostings post (f_slotCount, f_maxLength, f_letterCount, f_maxTokens, f_liveMask, f_draftLength, f_tokenCount, f_patternDepth, f_top, f_positions, a_texts, a_textLengths, a_results, a_draft, a_postings, a_tokens, a_first, a_last, a_starts, a_ends, a_candidates, a_follow, a_reach) (nI d) := by
  have e16 : nI d * 16 = nI (d * 16) := pk_mul d 16
  refine nm_r e16 ⟨17, wx_dropp hd htl hT htx h6 K 16 0 a_postings (by omega) (by omega) (fun t e => ?_)⟩
  exact ⟨fun y => ⟨y, fun ⟨_, j, u, _⟩ => absurd u (Nat.not_lt_zero j)⟩, fun y => y.1⟩
end
section
variable {f_slotCount f_maxLength f_letterCount f_maxTokens f_liveMask f_draftLength f_tokenCount f_patternDepth f_top f_positions : Int32} {a_texts a_textLengths a_results a_draft a_postings a_tokens a_first a_last a_candidates a_follow a_reach : Nat → Int32} {a_starts a_ends : Nat → Int64} {S d dl : Nat} {dr tx : Nat → Nat} {post : Int32 → SX → Prop}
theorem wx_cm19 (hd : d < 12) (hdl : dl ≤ 16) (hD : f_draftLength = nI dl) (hdr : ∀ j, a_draft j = nI (dr j)) (h6 : ∀ j, dr j < 6) (h7 : ∀ j, tx j < 6) (K : ∀ po : Nat → Int32, (∀ t e, bt (po t) e = true ↔ (bt (a_postings t) e = true ∨ (e = d ∧ ∃ i, i + 2 < dl ∧ tg_tri (tg_cp dr tx d dl) (d * 16 + i) = t))) → post (nI d) (f_slotCount, f_maxLength, f_letterCount, f_maxTokens, f_liveMask ||| ((1 : Int32) <<< (nI d &&& 31)), 0, f_tokenCount, f_patternDepth, f_top, f_positions, (fun j => nI (tg_cp dr tx d dl j)), upd a_textLengths d (nI dl), upd a_results d (-4), a_draft, po, a_tokens, a_first, a_last, a_starts, a_ends, a_candidates, a_follow, a_reach)) :
    ∀ m i, i + m = dl → wX_commit_19 post (nI d) (nI (d * 16)) f_slotCount f_maxLength f_letterCount f_maxTokens f_liveMask f_draftLength f_tokenCount f_patternDepth f_top f_positions (m + 1) (nI i) ((fun j => nI (tg_cp dr tx d i j))) a_textLengths a_results a_draft a_postings a_tokens a_first a_last a_starts a_ends a_candidates a_follow a_reach := by
  subst hD
  have v : vp_in (nI d) 12 := vp_in_nI hd (by omega)
  have e16 : nI d * 16 = nI (d * 16) := pk_mul d 16
  intro m
  induction m with
  | zero =>
    intro i e
    have e1 : i = dl := by omega
    subst e1
    rw [wX_commit_19]
    dsimp only
    rw [nI_clamp (show d < 2 ^ 31 by omega)]
    refine br_t (nI_le (Nat.le_refl _) (by omega)) ⟨v, nm_e ⟨v, nm_e (nm_e ?_)⟩⟩
    exact wx_addPostings (T := i) (tx := tg_cp dr tx d i) hd pk_us hdl (fun j => rfl) (tg_cp_lt h6 h7 d i) (fun po hpo => K po hpo)
  | succ m ih =>
    intro i e
    rw [wX_commit_19]
    dsimp only
    rw [nI_add, nI_clamp (show d * 16 + i < 2 ^ 31 by omega), nI_clamp (show i < 2 ^ 31 by omega), hdr i]
    exact br_f (nI_ge (by omega) (by omega)) ⟨vp_in_nI (by omega) (by omega), vp_in_nI (by omega) (by omega), nm_r (tg_cp_s dr tx d i) (nm_r (nI_1 i) (ih (i + 1) (by omega)))⟩
theorem wx_commit_s (hS : f_slotCount = nI S) (hS12 : S ≤ 12) (hd : d < S) (hl : bt f_liveMask d = false) (hj : ∀ j, j < d → bt f_liveMask j = true) (htx : a_texts = fun j => nI (tx j)) (hdl : dl ≤ 16) (hD : f_draftLength = nI dl) (hdr : ∀ j, a_draft j = nI (dr j)) (h6 : ∀ j, dr j < 6) (h7 : ∀ j, tx j < 6) (K : ∀ po : Nat → Int32, (∀ t e, bt (po t) e = true ↔ (bt (a_postings t) e = true ∨ (e = d ∧ ∃ i, i + 2 < dl ∧ tg_tri (tg_cp dr tx d dl) (d * 16 + i) = t))) → post (nI d) (f_slotCount, f_maxLength, f_letterCount, f_maxTokens, f_liveMask ||| ((1 : Int32) <<< (nI d &&& 31)), 0, f_tokenCount, f_patternDepth, f_top, f_positions, (fun j => nI (tg_cp dr tx d dl j)), upd a_textLengths d (nI dl), upd a_results d (-4), a_draft, po, a_tokens, a_first, a_last, a_starts, a_ends, a_candidates, a_follow, a_reach)) : wpX_commit post (f_slotCount, f_maxLength, f_letterCount, f_maxTokens, f_liveMask, f_draftLength, f_tokenCount, f_patternDepth, f_top, f_positions, a_texts, a_textLengths, a_results, a_draft, a_postings, a_tokens, a_first, a_last, a_starts, a_ends, a_candidates, a_follow, a_reach) := by
  unfold wpX_commit
  dsimp only
  have e16 : nI d * 16 = nI (d * 16) := pk_mul d 16
  refine ⟨d + 1, wx_lfs_s hS hS12 hd hl hj (br_t (nI_pos' (by omega)) (nm_r e16 ⟨dl + 1, ?_⟩)) d 0 (by omega)⟩
  have q := wx_cm19 (by omega) hdl hD hdr h6 h7 K dl 0 (by omega)
  rw [tg_cp_0, ← htx] at q
  exact q
theorem wx_commit_n (hS : f_slotCount = nI S) (hS12 : S ≤ 12) (hj : ∀ j, j < S → bt f_liveMask j = true) (K : post (-2) (f_slotCount, f_maxLength, f_letterCount, f_maxTokens, f_liveMask, f_draftLength, f_tokenCount, f_patternDepth, f_top, f_positions, a_texts, a_textLengths, a_results, a_draft, a_postings, a_tokens, a_first, a_last, a_starts, a_ends, a_candidates, a_follow, a_reach)) : wpX_commit post (f_slotCount, f_maxLength, f_letterCount, f_maxTokens, f_liveMask, f_draftLength, f_tokenCount, f_patternDepth, f_top, f_positions, a_texts, a_textLengths, a_results, a_draft, a_postings, a_tokens, a_first, a_last, a_starts, a_ends, a_candidates, a_follow, a_reach) := by
  unfold wpX_commit
  dsimp only
  exact ⟨S + 1, wx_lfs_n hS hS12 hj (br_f (by decide) K) S 0 (by omega)⟩
end
section
variable {g_slots g_maxLen g_letters g_maxTokens g_size g_top : Int32} {b_text b_len b_used b_result b_pattern b_rel : Nat → Int32} {S d dl : Nat} {dr tx : Nat → Nat} {post : Int32 → SY → Prop}
theorem wy_cm38 (hd : d < 12) (hdl : dl ≤ 16) (hl : b_len 0 = nI dl) (K : post (nI d) (g_slots, g_maxLen, g_letters, g_maxTokens, g_size, g_top, (fun j => nI (tg_ty dr (tg_cp dr tx d dl) j)), upd (upd b_len (d + 1) (nI dl)) 0 0, upd b_used d (vp_nar .boolean 1), upd b_result d (-4), b_pattern, b_rel)) :
    ∀ m i, i + m = dl → wY_commit_38 post (nI d) g_slots g_maxLen g_letters g_maxTokens g_size g_top (m + 1) (nI i) ((fun j => nI (tg_ty dr (tg_cp dr tx d i) j))) b_len b_used b_result b_pattern b_rel := by
  have v : vp_in (nI d) 12 := vp_in_nI hd (by omega)
  intro m
  induction m with
  | zero =>
    intro i e
    have e1 : i = dl := by omega
    subst e1
    rw [wY_commit_38]
    dsimp only
    rw [nI_1 d, nI_clamp (show d < 2 ^ 31 by omega), nI_clamp (show d + 1 < 2 ^ 31 by omega), hl]
    exact br_t (nI_le (Nat.le_refl _) (by omega)) ⟨vp_in_nI (by omega) (by omega), nm_e ⟨v, nm_e ⟨v, nm_e (nm_e K)⟩⟩⟩
  | succ m ih =>
    intro i e
    rw [wY_commit_38]
    dsimp only
    have e2 : (nI d + 1) * 16 + nI i = nI ((d + 1) * 16 + i) := by rw [nI_1, show (16 : Int32) = nI 16 from rfl, pk_mul, nI_add]
    rw [e2, nI_clamp (show (d + 1) * 16 + i < 2 ^ 31 by omega), nI_clamp (show i < 2 ^ 31 by omega), tg_ty_lo (show i < 16 by omega), hl]
    exact br_f (nI_ge (by omega) (by omega)) ⟨vp_in_nI (by omega) (by omega), vp_in_nI (by omega) (by omega), nm_r (tg_cpy_s dr tx d i) (nm_r (nI_1 i) (ih (i + 1) (by omega)))⟩
theorem wy_cm2s (hS : g_slots = nI S) (hS12 : S ≤ 12) (hd : d < S) (hu : b_used d = 0) (hj : ∀ j, j < d → ¬ b_used j = 0) (K : wY_commit_25 post (nI d) g_slots g_maxLen g_letters g_maxTokens g_size g_top b_text b_len b_used b_result b_pattern b_rel) : ∀ m j, j + m = d → wY_commit_2 post g_slots g_maxLen g_letters g_maxTokens g_size g_top b_text b_len b_used b_result b_pattern b_rel (m + 1) (nI j) := by
  intro m
  induction m with
  | zero =>
    intro j e
    have e1 : j = d := by omega
    subst e1
    rw [wY_commit_2]
    dsimp only
    rw [nI_clamp (show j < 2 ^ 31 by omega)]
    refine br_f ?_ ⟨vp_in_nI (by omega) (by omega), br_t hu K⟩
    rw [hS]; exact nI_ge hd (by omega)
  | succ m ih =>
    intro j e
    rw [wY_commit_2]
    dsimp only
    rw [nI_clamp (show j < 2 ^ 31 by omega)]
    refine br_f ?_ ⟨vp_in_nI (by omega) (by omega), br_f (hj j (by omega)) (nm_r (nI_1 j) (ih (j + 1) (by omega)))⟩
    rw [hS]; exact nI_ge (by omega) (by omega)
theorem wy_cm2n (hS : g_slots = nI S) (hS12 : S ≤ 12) (hj : ∀ j, j < S → ¬ b_used j = 0) (K : wY_commit_25 post (nI S) g_slots g_maxLen g_letters g_maxTokens g_size g_top b_text b_len b_used b_result b_pattern b_rel) : ∀ m j, j + m = S → wY_commit_2 post g_slots g_maxLen g_letters g_maxTokens g_size g_top b_text b_len b_used b_result b_pattern b_rel (m + 1) (nI j) := by
  intro m
  induction m with
  | zero =>
    intro j e
    have e1 : j = S := by omega
    subst e1
    rw [wY_commit_2]
    refine br_t ?_ K
    rw [hS]; exact nI_le (Nat.le_refl _) (by omega)
  | succ m ih =>
    intro j e
    rw [wY_commit_2]
    dsimp only
    rw [nI_clamp (show j < 2 ^ 31 by omega)]
    refine br_f ?_ ⟨vp_in_nI (by omega) (by omega), br_f (hj j (by omega)) (nm_r (nI_1 j) (ih (j + 1) (by omega)))⟩
    rw [hS]; exact nI_ge (by omega) (by omega)
theorem wy_commit_s (hS : g_slots = nI S) (hS12 : S ≤ 12) (hd : d < S) (hu : b_used d = 0) (hj : ∀ j, j < d → ¬ b_used j = 0) (htx : b_text = fun j => nI (tg_ty dr tx j)) (hdl : dl ≤ 16) (hl : b_len 0 = nI dl) (K : post (nI d) (g_slots, g_maxLen, g_letters, g_maxTokens, g_size, g_top, (fun j => nI (tg_ty dr (tg_cp dr tx d dl) j)), upd (upd b_len (d + 1) (nI dl)) 0 0, upd b_used d (vp_nar .boolean 1), upd b_result d (-4), b_pattern, b_rel)) : wpY_commit post (g_slots, g_maxLen, g_letters, g_maxTokens, g_size, g_top, b_text, b_len, b_used, b_result, b_pattern, b_rel) := by
  refine ⟨d + 1, wy_cm2s hS hS12 hd hu hj (br_t ?_ ⟨dl + 1, ?_⟩) d 0 (by omega)⟩
  · rw [hS]; exact nI_lt hd (by omega)
  · have q := wy_cm38 (by omega) hdl hl K dl 0 (by omega)
    rw [tg_cpy_0, ← htx] at q
    exact q
theorem wy_commit_n (hS : g_slots = nI S) (hS12 : S ≤ 12) (hj : ∀ j, j < S → ¬ b_used j = 0) (K : post (-2) (g_slots, g_maxLen, g_letters, g_maxTokens, g_size, g_top, b_text, b_len, b_used, b_result, b_pattern, b_rel)) : wpY_commit post (g_slots, g_maxLen, g_letters, g_maxTokens, g_size, g_top, b_text, b_len, b_used, b_result, b_pattern, b_rel) := by
  refine ⟨S + 1, wy_cm2n hS hS12 hj (br_f ?_ K) S 0 (by omega)⟩
  rw [hS]; exact nI_nlt (Nat.le_refl _) (by omega)
end
theorem i_vc_commit {k : Nat} {u : SX} {v : SY} (I : i_Rel k u v) (hk : k + 4 ≤ 2052) : wpX_commit (fun r u' => wpY_commit (fun r' v' => r' = r ∧ i_Rel (k + 4) u' v') v) u := by
  refine zz_el (P := fun u v => wpX_commit (fun r u' => wpY_commit (fun r' v' => r' = r ∧ i_Rel (k + 4) u' v') v) u) I ?_
  intro S L A M dl n lm ft fp gt dr tx tk tl bl a_results a_postings a_first a_last a_starts a_ends a_candidates a_follow a_reach b_used b_result b_rel F
  have ⟨⟨s1, s2, l1, l2, a1, a2, m1, m2, d1, n1⟩, hdr, htx, htl, hbl, hok, hlv, hPo, hb0, hu, hr⟩ := F
  by_cases h : ∃ d, d < S ∧ bt lm d = false
  · obtain ⟨d, ⟨hd, hl⟩, hmin⟩ := pk_least (fun d => d < S ∧ bt lm d = false) h
    have hj : ∀ j, j < d → bt lm j = true := by
      intro j hj
      cases w : bt lm j
      · exact absurd ⟨by omega, w⟩ (hmin j hj)
      · rfl
    have hju : ∀ j, j < d → ¬ b_used j = 0 := by
      intro j hj2 w
      have := hj j hj2
      rw [(hu j (by omega)).mp w] at this
      exact absurd this (by decide)
    refine wx_commit_s rfl s2 hd hl hj rfl (show dl ≤ 16 by omega) rfl (fun j => rfl) hdr htx (fun po hpo => ?_)
    refine wy_commit_s rfl s2 hd ((hu d hd).mpr hl) hju rfl (show dl ≤ 16 by omega) (congrArg nI hb0) ⟨rfl, ?_⟩
    have e1 : upd (fun j => nI (tg_un bl (d + 1) dl j)) 0 0 = fun j => nI (tg_un (tg_un bl (d + 1) dl) 0 0 j) := tg_upd _ 0 0
    rw [tg_upd tl d dl, tg_upd bl (d + 1) dl, e1]
    have hset : ∀ e, bt (lm ||| ((1 : Int32) <<< (nI d &&& 31))) e = true ↔ (bt lm e = true ∨ e = d) := by
      intro e
      rw [bt_set _ d (by omega), Bool.or_eq_true, decide_eq_true_eq]
    refine zz_in (dl := 0) (tx := tg_cp dr tx d dl) (tl := tg_un tl d dl) (bl := tg_un (tg_un bl (d + 1) dl) 0 0) ?_
    refine ⟨by omega, hdr, tg_cp_lt hdr htx d dl, tg_un_le htl (by omega), tg_un_le (tg_un_le hbl (by omega)) (by omega), hok, fun e he => ?_, fun t ht e => ?_, tg_un_s, fun e he => ?_, fun e he => ?_⟩
    · rcases (hset e).mp he with y | y
      · exact hlv e y
      · omega
    · rw [hpo t e, hset e]
      by_cases q : e = d
      · subst q
        rw [tg_un_s]
        constructor
        · intro y
          rcases y with y | y
          · rw [((hPo t ht e).mp y).1] at hl
            exact absurd hl (by decide)
          · exact ⟨Or.inr rfl, y.2⟩
        · intro y
          exact Or.inr ⟨rfl, y.2⟩
      · rw [tg_un_n q, hPo t ht e]
        have ht16 := htl e
        have tri : ∀ i, i + 2 < tl e → tg_tri (tg_cp dr tx d dl) (e * 16 + i) = tg_tri tx (e * 16 + i) := by
          intro i hi
          unfold tg_tri
          rw [tg_cp_e (by omega), tg_cp_e (by omega), tg_cp_e (by omega)]
        constructor
        · intro y
          rcases y with ⟨y1, i, y2, y3⟩ | y
          · exact ⟨Or.inl y1, i, y2, by rw [tri i y2]; exact y3⟩
          · exact absurd y.1 q
        · intro ⟨y1, i, y2, y3⟩
          rw [tri i y2] at y3
          exact Or.inl ⟨y1.elim id (fun w => absurd w q), i, y2, y3⟩
    · have hb : bt (lm ||| ((1 : Int32) <<< (nI d &&& 31))) e = false ↔ (bt lm e = false ∧ e ≠ d) := by
        rw [bt_set _ d (by omega), Bool.or_eq_false_iff, decide_eq_false_iff_not]
      rw [hb]
      by_cases q : e = d
      · subst q
        rw [pk_us]
        exact ⟨fun y => absurd y (by decide), fun y => absurd rfl y.2⟩
      · rw [pk_un q, hu e he]
        exact ⟨fun y => ⟨y, q⟩, fun y => y.1⟩
    · rw [tg_un_n (by omega)]
      by_cases q : e = d
      · subst q
        rw [tg_un_s, tg_un_s, pk_us, pk_us]
        exact ⟨rfl, rfl⟩
      · rw [tg_un_n (by omega), tg_un_n q, pk_un q, pk_un q]
        exact hr e (((hset e).mp he).elim id (fun w => absurd w q))
  · have hall : ∀ j, j < S → bt lm j = true := by
      intro j hj
      cases w : bt lm j
      · exact absurd ⟨j, hj, w⟩ h
      · rfl
    refine wx_commit_n rfl s2 hall (wy_commit_n rfl s2 (fun j hj w => ?_) ⟨rfl, zz_in F⟩)
    have := hall j hj
    rw [(hu j hj).mp w] at this
    exact absurd this (by decide)
theorem i_vc_remove {k : Nat} {u : SX} {v : SY} (I : i_Rel k u v) (hk : k + 4 ≤ 2052) (v1 : Int32) : wpX_remove (fun r u' => wpY_remove (fun r' v' => r' = r ∧ i_Rel (k + 4) u' v') v v1) u v1 := by
  refine zz_el (P := fun u v => wpX_remove (fun r u' => wpY_remove (fun r' v' => r' = r ∧ i_Rel (k + 4) u' v') v v1) u v1) I ?_
  intro S L A M dl n lm ft fp gt dr tx tk tl bl a_results a_postings a_first a_last a_starts a_ends a_candidates a_follow a_reach b_used b_result b_rel F
  have ⟨⟨s1, s2, l1, l2, a1, a2, m1, m2, d1, n1⟩, hdr, htx, htl, hbl, hok, hlv, hPo, hb0, hu, hr⟩ := F
  have R := zz_in (k := k + 4) (ft := ft) (fp := fp) (gt := gt) (a_first := a_first) (a_last := a_last) (a_starts := a_starts) (a_ends := a_ends) (a_candidates := a_candidates) (a_follow := a_follow) (a_reach := a_reach) (b_rel := b_rel) F
  unfold wpX_remove
  dsimp only
  rcases pk_ix v1 (n := S) (by omega) with z | z | ⟨d, hd, rfl⟩
  · exact wx_ss_f (Or.inl z) (br_f (by decide) (br_t z ⟨rfl, R⟩))
  · exact wx_ss_f (Or.inr z) (br_f (by decide) (br_f (zz_ge0 (by omega) z) (br_f (Int32.not_lt.mpr z) ⟨rfl, R⟩)))
  · have w : vp_in (nI d) 12 := vp_in_nI (by omega) (by omega)
    have g0 : ¬ nI d < 0 := nI_pos (by omega)
    have gS : nI d < nI S := nI_lt hd (by omega)
    rw [nI_clamp (show d < 2 ^ 31 by omega)]
    cases hl : bt lm d
    · refine wx_ss_m rfl s2 hd hl (br_f (by decide) (br_f g0 (br_t gS ⟨w, br_t ?_ ⟨rfl, R⟩⟩)))
      rw [nI_clamp (show d < 2 ^ 31 by omega)]
      exact (hu d hd).mpr hl
    · have e16 : nI d * 16 = nI (d * 16) := pk_mul d 16
      have ht16 := htl d
      have hnu : ¬ b_used d = 0 := by
        intro y
        rw [(hu d hd).mp y] at hl; exact absurd hl (by decide)
      refine wx_ss_l rfl s2 hd hl (br_t rfl ?_)
      refine wx_dropPostings (d := d) (T := tl d) (tx := tx) (by omega) rfl (htl d) (fun j => rfl) htx (fun po hpo => ?_)
      refine nm_e ⟨w, nm_r (tg_upd tl d 0) ⟨w, nm_e ?_⟩⟩
      unfold wpY_remove
      dsimp only
      rw [nI_clamp (show d < 2 ^ 31 by omega)]
      refine br_f g0 (br_t gS ⟨w, br_f hnu ⟨w, nm_e ⟨rfl, ?_⟩⟩⟩)
      have hclr : ∀ e, bt (lm &&& (((1 : Int32) <<< (nI d &&& 31)) ^^^ (-1))) e = true ↔ (bt lm e = true ∧ e ≠ d) := by
        intro e
        rw [bt_clr _ d (by omega), Bool.and_eq_true, Bool.not_eq_true', decide_eq_false_iff_not]
      refine zz_in (tl := tg_un tl d 0) ?_
      refine ⟨⟨s1, s2, l1, l2, a1, a2, m1, m2, d1, n1⟩, hdr, htx, tg_un_le htl (by omega), hbl, hok, fun e he => hlv e ((hclr e).mp he).1, fun t ht e => ?_, hb0, fun e he => ?_, fun e he => ?_⟩
      · rw [hpo t e, hclr e, hPo t ht e]
        by_cases q : e = d
        · subst q
          exact ⟨fun y => absurd ⟨rfl, y.1.2⟩ y.2, fun y => absurd rfl y.1.2⟩
        · rw [tg_un_n q]
          exact ⟨fun y => ⟨⟨y.1.1, q⟩, y.1.2⟩, fun y => ⟨⟨y.1.1, y.2⟩, fun u => q u.1⟩⟩
      · have hb : bt (lm &&& (((1 : Int32) <<< (nI d &&& 31)) ^^^ (-1))) e = false ↔ (bt lm e = false ∨ e = d) := by
          rw [bt_clr _ d (by omega), Bool.and_eq_false_iff, Bool.not_eq_false', decide_eq_true_eq]
        rw [hb]
        by_cases q : e = d
        · subst q
          rw [pk_us]
          exact ⟨fun _ => Or.inr rfl, fun _ => rfl⟩
        · rw [pk_un q, hu e he]
          exact ⟨Or.inl, fun y => y.elim id (fun u => absurd u q)⟩
      · have q := (hclr e).mp he
        rw [tg_un_n q.2, pk_un q.2]
        exact hr e q.1
end
