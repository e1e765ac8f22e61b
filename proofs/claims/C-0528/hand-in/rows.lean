section
/-! pure rows to paste: stores, nI and lN arithmetic, masks, shifts, narrowing, branches by naturals (pk_le, pk_lt, pk_eq), loops (lp1 .. lp16: the measure of the state; rp1 ..: recursion), negatives. Take what you need -/
theorem pk_us {f : Nat → Int32} {k : Nat} {x : Int32} : upd f k x k = x := if_pos rfl
theorem pk_un {f : Nat → Int32} {k j : Nat} {x : Int32} (h : j ≠ k) : upd f k x j = f j := if_neg h
theorem pk_uLs {f : Nat → Int64} {k : Nat} {x : Int64} : vp_updL f k x k = x := if_pos rfl
theorem pk_uLn {f : Nat → Int64} {k j : Nat} {x : Int64} (h : j ≠ k) : vp_updL f k x j = f j := if_neg h
theorem pk_sub {a b : Nat} (h : b ≤ a) : nI a - nI b = nI (a - b) := by
  obtain ⟨c, rfl⟩ : ∃ c, a = c + b := ⟨a - b, by omega⟩
  rw [← nI_add, Int32.add_sub_cancel, Nat.add_sub_cancel]
theorem pk_m1 (n : Nat) : nI (n + 1) + (-1) = nI n := by
  rw [← nI_1, Int32.add_assoc, show (1 : Int32) + (-1) = 0 from rfl, Int32.add_zero]
theorem pk_mul (a b : Nat) : nI a * nI b = nI (a * b) := (Int32.ofNat_mul a b).symm
theorem pk_div {a d : Nat} (ha : a < 2 ^ 31) (h0 : 0 < d) (hd : d < 2 ^ 31) : nI a / nI d = nI (a / d) := by
  apply Int32.toInt_inj.mp
  rw [lg_idiv_nonneg (by rw [nI_toInt ha]; omega) (by rw [nI_toInt hd]; omega), nI_toInt ha, nI_toInt hd, nI_toInt (Nat.lt_of_le_of_lt (Nat.div_le_self a d) ha)]
  first | rfl | exact (Int.natCast_ediv _ _).symm
theorem pk_rem {a d : Nat} (ha : a < 2 ^ 31) (h0 : 0 < d) (hd : d < 2 ^ 31) : nI a - nI a / nI d * nI d = nI (a % d) := by
  rw [pk_div ha h0 hd, pk_mul, pk_sub (Nat.div_mul_le_self a d)]
  exact congrArg nI (by have := Nat.div_add_mod' a d; omega)
theorem pk_sub_toInt {a b : Nat} (ha : a < 2 ^ 30) (hb : b < 2 ^ 30) : (nI a - nI b).toInt = (a : Int) - b := by
  rw [Int32.toInt_sub, nI_toInt (by omega), nI_toInt (by omega)]
  exact Int.bmod_eq_of_le (by omega) (by omega)
theorem pk_sneg {a b : Nat} (hb : b < 2 ^ 30) (h : a < b) : nI a - nI b < 0 := by
  rw [Int32.lt_iff_toInt_lt, pk_sub_toInt (by omega) hb, show (0 : Int32).toInt = 0 from by decide]
  omega
theorem pk_ix (x : Int32) {n : Nat} (hn : n < 2 ^ 31) : x < 0 ∨ nI n ≤ x ∨ ∃ j : Nat, j < n ∧ x = nI j := by
  by_cases h : x < 0
  · exact Or.inl h
  · obtain ⟨j, hj, rfl⟩ := nI_of h
    by_cases h2 : j < n
    · exact Or.inr (Or.inr ⟨j, h2, rfl⟩)
    · exact Or.inr (Or.inl (nI_le (by omega) hj))
theorem pk_le {x y : Int32} {A B : Prop} (a b : Nat) (f : a ≤ b → A) (g : b < a → B) (hx : x = nI a := by rfl) (hy : y = nI b := by rfl) (ha : a < 2 ^ 31 := by omega) (hb : b < 2 ^ 31 := by omega) : (x ≤ y → A) ∧ (¬ x ≤ y → B) := by
  subst hx hy
  rw [nI_leI ha hb]
  exact ⟨f, fun z => g (by omega)⟩
theorem pk_lt {x y : Int32} {A B : Prop} (a b : Nat) (f : a < b → A) (g : b ≤ a → B) (hx : x = nI a := by rfl) (hy : y = nI b := by rfl) (ha : a < 2 ^ 31 := by omega) (hb : b < 2 ^ 31 := by omega) : (x < y → A) ∧ (¬ x < y → B) := by
  subst hx hy
  rw [nI_ltI ha hb]
  exact ⟨f, fun z => g (by omega)⟩
theorem pk_eq {x y : Int32} {A B : Prop} (a b : Nat) (f : a = b → A) (g : a ≠ b → B) (hx : x = nI a := by rfl) (hy : y = nI b := by rfl) (ha : a < 2 ^ 31 := by omega) (hb : b < 2 ^ 31 := by omega) : (x = y → A) ∧ (¬ x = y → B) := by
  subst hx hy
  rw [nI_eq ha hb]
  exact ⟨f, g⟩
theorem pk_in {x : Int32} (n N : Nat) (h : n < N) (hx : x = nI n := by rfl) (hN : N < 2 ^ 31 := by omega) : vp_in x N := by
  subst hx
  exact vp_in_nI h hN
theorem pk_cl {x : Int32} (n : Nat) (hx : x = nI n := by rfl) (h : n < 2 ^ 31 := by omega) : x.toNatClampNeg = n := by
  subst hx
  exact nI_clamp h
theorem pk_tn {n : Nat} (h : n < 2 ^ 32) : (nI n).toBitVec.toNat = n := Nat.mod_eq_of_lt h
theorem pk_and (x : Int32) {m : Int32} (k : Nat) (hm : m.toBitVec.toNat = 2 ^ k - 1) : x &&& m = nI (x.toBitVec.toNat % 2 ^ k) := by
  apply Int32.toBitVec_inj.mp
  apply BitVec.eq_of_toNat_eq
  rw [Int32.toBitVec_and, BitVec.toNat_and, hm, Nat.and_two_pow_sub_one_eq_mod]
  show _ = (BitVec.ofNat 32 _).toNat
  rw [BitVec.toNat_ofNat]
  exact (Nat.mod_eq_of_lt (Nat.lt_of_le_of_lt (Nat.mod_le _ _) x.toBitVec.isLt)).symm
theorem pk_andN {n : Nat} (h : n < 2 ^ 32) {m : Int32} (k : Nat) (hm : m.toBitVec.toNat = 2 ^ k - 1) : nI n &&& m = nI (n % 2 ^ k) := by
  rw [pk_and _ k hm, pk_tn h]
theorem pk_andE (x : Int32) {m : Int32} (k : Nat) (hm : m.toBitVec.toNat = 2 ^ k - 1) : ∃ j : Nat, j < 2 ^ k ∧ x &&& m = nI j := ⟨_, Nat.mod_lt _ (Nat.two_pow_pos k), pk_and x k hm⟩
theorem pk_andIn (x : Int32) {m : Int32} (k : Nat) (hm : m.toBitVec.toNat = 2 ^ k - 1) (hk : k ≤ 30) : vp_in (x &&& m) (2 ^ k) := by
  obtain ⟨j, hj, e⟩ := pk_andE x k hm
  rw [e]
  exact vp_in_nI hj (Nat.lt_of_le_of_lt (Nat.pow_le_pow_right (by decide) hk) (by decide))
theorem pk_shl (a s : Int32) (k : Nat) (hs : (s.toBitVec.smod 32).toNat = k) : (a <<< s).toBitVec.toNat = a.toBitVec.toNat * 2 ^ k % 2 ^ 32 := by
  show (a.toBitVec <<< (s.toBitVec.smod 32).toNat).toNat = _
  rw [hs, BitVec.toNat_shiftLeft, Nat.shiftLeft_eq]
theorem pk_shlN {n : Nat} (s : Int32) (k : Nat) (hs : (s.toBitVec.smod 32).toNat = k) (h : n * 2 ^ k < 2 ^ 32) : nI n <<< s = nI (n * 2 ^ k) := by
  apply Int32.toBitVec_inj.mp
  apply BitVec.eq_of_toNat_eq
  have hn : n < 2 ^ 32 := Nat.lt_of_le_of_lt (Nat.le_mul_of_pos_right n (Nat.two_pow_pos k)) h
  rw [pk_shl _ _ k hs, pk_tn hn, pk_tn h, Nat.mod_eq_of_lt h]
theorem pk_shr (a s : Int32) (k : Nat) (hs : (s.toBitVec.smod 32).toNat = k) : (a >>> s).toInt = a.toInt >>> k := by
  show (a.toBitVec.sshiftRight (s.toBitVec.smod 32).toNat).toInt = _
  rw [hs, BitVec.toInt_sshiftRight]
  rfl
theorem pk_shrN {n : Nat} (h : n < 2 ^ 31) (s : Int32) (k : Nat) (hs : (s.toBitVec.smod 32).toNat = k) : nI n >>> s = nI (n / 2 ^ k) := by
  apply Int32.toInt_inj.mp
  have h2 : n / 2 ^ k ≤ n := Nat.div_le_self _ _
  rw [pk_shr _ _ k hs, nI_toInt h, nI_toInt (by omega), Int.shiftRight_eq_div_pow]
  rfl
theorem pk_ushr (x s : Int32) (k : Nat) (hs : ((s.toUInt32 &&& Int32.toUInt32 31).toBitVec % 32).toNat = k) : (x.toUInt32 >>> (s.toUInt32 &&& Int32.toUInt32 31)).toInt32.toBitVec.toNat = x.toBitVec.toNat / 2 ^ k := by
  have e : (x.toUInt32 >>> (s.toUInt32 &&& Int32.toUInt32 31)).toInt32.toBitVec = x.toBitVec >>> k := by
    rw [← hs]
    exact UInt32.toBitVec_shiftRight _ _
  rw [e, BitVec.toNat_ushiftRight, Nat.shiftRight_eq_div_pow]
theorem pk_ushrN {n : Nat} (hn : n < 2 ^ 32) (s : Int32) (k : Nat) (hs : ((s.toUInt32 &&& Int32.toUInt32 31).toBitVec % 32).toNat = k) : ((nI n).toUInt32 >>> (s.toUInt32 &&& Int32.toUInt32 31)).toInt32 = nI (n / 2 ^ k) := by
  apply Int32.toBitVec_inj.mp
  apply BitVec.eq_of_toNat_eq
  rw [pk_ushr _ s k hs, pk_tn hn, pk_tn (Nat.lt_of_le_of_lt (Nat.div_le_self _ _) hn)]
theorem s_l : ∀ n, n < 32 → ((nI n &&& 31).toBitVec.smod 32).toNat = n := by decide +kernel
theorem s_u : ∀ n, n < 32 → (((nI n).toUInt32 &&& Int32.toUInt32 31).toBitVec % 32).toNat = n := by decide +kernel
theorem nx_and (a b : Nat) : nI a &&& nI b = nI (a &&& b) := by
  apply Int32.toBitVec_inj.1
  show BitVec.ofNat 32 a &&& BitVec.ofNat 32 b = BitVec.ofNat 32 (a &&& b)
  apply BitVec.eq_of_getLsbD_eq
  intro i hi
  simp [hi]
theorem nx_xor (a b : Nat) : nI a ^^^ nI b = nI (a ^^^ b) := by
  apply Int32.toBitVec_inj.1
  show BitVec.ofNat 32 a ^^^ BitVec.ofNat 32 b = BitVec.ofNat 32 (a ^^^ b)
  apply BitVec.eq_of_getLsbD_eq
  intro i hi
  simp [hi]
theorem nx_cnt : ∀ j : Fin 32, (UInt32.ofNat j.val &&& Int32.toUInt32 31).toNat % 32 = j.val := by decide +kernel
theorem nx_ush {k j : Nat} (hk : k < 65536) (hj : j < 32) : ((nI k).toUInt32 >>> ((nI j).toUInt32 &&& Int32.toUInt32 31)).toInt32 = nI (k >>> j) := by
  have hs : k >>> j ≤ k := by
    rw [Nat.shiftRight_eq_div_pow]
    exact Nat.div_le_self _ _
  have e2 : UInt32.ofNat k >>> (UInt32.ofNat j &&& Int32.toUInt32 31) = UInt32.ofNat (k >>> j) := by
    apply UInt32.toNat_inj.1
    have h1 : (UInt32.ofNat k).toNat = k := Nat.mod_eq_of_lt (by omega)
    have h2 : (UInt32.ofNat (k >>> j)).toNat = k >>> j := Nat.mod_eq_of_lt (by omega)
    rw [UInt32.toNat_shiftRight, nx_cnt ⟨j, hj⟩, h1, h2]
  show (UInt32.ofNat k >>> (UInt32.ofNat j &&& Int32.toUInt32 31)).toInt32 = _
  rw [e2]
  rfl
theorem nx_bit {k j : Nat} (hk : k < 65536) (hj : j < 16) : (((nI k).toUInt32 >>> ((nI j).toUInt32 &&& Int32.toUInt32 31)).toInt32 &&& 1) = 0 ↔ k.testBit j = false := by
  rw [nx_ush hk (by omega)]
  show nI (k >>> j) &&& nI 1 = 0 ↔ _
  rw [nx_and, Nat.and_one_is_mod, ← nI_0, nI_eq (by omega) (by omega), Nat.testBit_eq_decide_div_mod_eq, Nat.shiftRight_eq_div_pow, decide_eq_false_iff_not]
  generalize k / 2 ^ j = z
  omega
end
section
/-! Sets of lines as ints. -/
theorem tx_or (a b : Nat) : nI a ||| nI b = nI (a ||| b) := by
  apply Int32.toBitVec_inj.1
  show BitVec.ofNat 32 a ||| BitVec.ofNat 32 b = BitVec.ofNat 32 (a ||| b)
  apply BitVec.eq_of_getLsbD_eq
  intro i hi
  simp [hi]
theorem tx_shl {k : Nat} (hk : k < 10) : (1 : Int32) <<< (nI k &&& 31) = nI (2 ^ k) := by
  have h : 1 * 2 ^ k < 2 ^ 32 := by
    rw [Nat.one_mul]
    exact Nat.pow_lt_pow_right (by omega) (by omega)
  have e := pk_shlN (n := 1) (nI k &&& 31) k (s_l k (by omega)) h
  rw [Nat.one_mul] at e
  exact e
/-- the bit as X asks for it -/
theorem tx_bit {m k : Nat} (hm : m < 1024) (hk : k < 10) : (((nI m).toUInt32 >>> ((nI k).toUInt32 &&& Int32.toUInt32 31)).toInt32 &&& 1) = nI (if m.testBit k = true then 1 else 0) := by
  rw [nx_ush (by omega) (by omega)]
  show nI (m >>> k) &&& nI 1 = _
  rw [nx_and, Nat.and_one_is_mod]
  apply congrArg nI
  rw [Nat.testBit_eq_decide_div_mod_eq, Nat.shiftRight_eq_div_pow]
  generalize m / 2 ^ k = z
  by_cases h : z % 2 = 1
  · rw [if_pos (by rw [decide_eq_true h])]
    exact h
  · rw [if_neg (by rw [decide_eq_false h]; decide)]
    omega
/-- the bit as Y asks for it -/
theorem tx_bitY {m k : Nat} (hm : m < 1024) (hk : k < 10) : ((nI m >>> (nI k &&& 31)) &&& 1) = nI (if m.testBit k = true then 1 else 0) := by
  rw [pk_shrN (by omega) (nI k &&& 31) k (s_l k (by omega))]
  show nI (m / 2 ^ k) &&& nI 1 = _
  rw [nx_and, Nat.and_one_is_mod]
  apply congrArg nI
  rw [Nat.testBit_eq_decide_div_mod_eq]
  generalize m / 2 ^ k = z
  by_cases h : z % 2 = 1
  · rw [if_pos (by rw [decide_eq_true h])]
    exact h
  · rw [if_neg (by rw [decide_eq_false h]; decide)]
    omega
theorem tx_b0 {x : Int32} {c : Bool} {A B : Prop} (hx : x = nI (if c = true then 1 else 0)) (f : c = false → A) (g : c = true → B) : (x = 0 → A) ∧ (¬ x = 0 → B) := by
  subst hx
  cases c
  · exact br_t rfl (f rfl)
  · exact br_f (by decide) (g rfl)
theorem tx_b1 {x : Int32} {c : Bool} {A B : Prop} (hx : x = nI (if c = true then 1 else 0)) (f : c = true → A) (g : c = false → B) : (x = 1 → A) ∧ (¬ x = 1 → B) := by
  subst hx
  cases c
  · exact br_f (by decide) (g rfl)
  · exact br_t rfl (f rfl)
theorem tx_or_lt {a b : Nat} (ha : a < 1024) (hb : b < 1024) : a ||| b < 1024 := Nat.or_lt_two_pow (n := 10) ha hb
theorem tx_p_lt {k : Nat} (hk : k < 10) : 2 ^ k < 1024 := by
  have : 2 ^ k < 2 ^ 10 := Nat.pow_lt_pow_right (by omega) hk
  exact this
theorem tx_and_lt {a b : Nat} (ha : a < 1024) : a &&& b < 1024 := Nat.lt_of_le_of_lt Nat.and_le_left ha
/-- m has no line but those of l -/
theorem tx_not {m l : Nat} (hm : m < 1024) (hl : l < 1024) : (nI m &&& (nI l ^^^ (-1))) = 0 ↔ m &&& l = m := by
  have e : nI l ^^^ (-1) = nI (l ^^^ 4294967295) := nx_xor l 4294967295
  rw [e, nx_and, ← nI_0]
  have hlt : m &&& (l ^^^ 4294967295) < 2 ^ 31 := Nat.lt_of_le_of_lt Nat.and_le_left (by omega)
  rw [nI_eq hlt (by omega)]
  have hb : ∀ j, j < 32 → (4294967295 : Nat).testBit j = true := by
    intro j hj
    have : (4294967295 : Nat) = 2 ^ 32 - 1 := rfl
    rw [this, Nat.testBit_two_pow_sub_one]
    exact decide_eq_true hj
  constructor
  · intro h
    apply Nat.eq_of_testBit_eq
    intro j
    have q : (m &&& (l ^^^ 4294967295)).testBit j = (0 : Nat).testBit j := by rw [h]
    rw [Nat.testBit_and, Nat.testBit_xor, Nat.zero_testBit] at q
    rw [Nat.testBit_and]
    by_cases hj : j < 32
    · rw [hb j hj] at q
      cases h1 : m.testBit j <;> cases h2 : l.testBit j <;> simp [h1, h2] at q ⊢
    · have : m.testBit j = false := by
        apply Nat.testBit_lt_two_pow
        have : 2 ^ 10 ≤ 2 ^ j := Nat.pow_le_pow_right (by omega) (by omega)
        omega
      rw [this, Bool.false_and]
  · intro h
    apply Nat.eq_of_testBit_eq
    intro j
    have q : (m &&& l).testBit j = m.testBit j := by rw [h]
    rw [Nat.testBit_and] at q
    rw [Nat.testBit_and, Nat.testBit_xor, Nat.zero_testBit]
    by_cases hj : j < 32
    · rw [hb j hj]
      cases h1 : m.testBit j <;> cases h2 : l.testBit j <;> simp [h1, h2] at q ⊢
    · have : m.testBit j = false := by
        apply Nat.testBit_lt_two_pow
        have : 2 ^ 10 ≤ 2 ^ j := Nat.pow_le_pow_right (by omega) (by omega)
        omega
      rw [this, Bool.false_and]
end
section
/-! The number of trees of a weighted graph by taking away its vertices one by one (star and mesh). -/
def tw_sm (f : Nat → Rat) : List Nat → Rat
  | [] => 0
  | x :: l => f x + tw_sm f l
def tw_el (w : Nat → Nat → Rat) (v : Nat) (V : List Nat) : Nat → Nat → Rat :=
  fun x y => w x y + w x v * w v y / tw_sm (w v) V
def tw_tau : List Nat → (Nat → Nat → Rat) → Rat
  | [], _ => 0
  | [_], _ => 1
  | v :: u :: V, w => tw_sm (w v) (u :: V) * tw_tau (u :: V) (tw_el w v (u :: V))
/-- symmetric, and nowhere negative -/
def tw_N (w : Nat → Nat → Rat) : Prop := (∀ x y, w x y = w y x) ∧ (∀ x y, 0 ≤ w x y)
theorem tw_tau_c {v : Nat} {V : List Nat} (h : V ≠ []) (w : Nat → Nat → Rat) : tw_tau (v :: V) w = tw_sm (w v) V * tw_tau V (tw_el w v V) := by
  cases V with
  | nil => exact absurd rfl h
  | cons u V => simp only [tw_tau]
theorem tw_sm_congr {f g : Nat → Rat} : ∀ {l : List Nat}, (∀ x ∈ l, f x = g x) → tw_sm f l = tw_sm g l := by
  intro l
  induction l with
  | nil => intro _; rfl
  | cons x l ih =>
    intro h
    simp only [tw_sm]
    rw [h x (List.mem_cons_self), ih (fun y hy => h y (List.mem_cons_of_mem _ hy))]
theorem tw_sm_nn {f : Nat → Rat} (h : ∀ x, 0 ≤ f x) : ∀ l : List Nat, 0 ≤ tw_sm f l := by
  intro l
  induction l with
  | nil => exact Rat.le_refl
  | cons x l ih => exact Rat.add_nonneg (h x) ih
theorem tw_sm_z {f : Nat → Rat} (h : ∀ x, 0 ≤ f x) : ∀ l : List Nat, tw_sm f l = 0 → ∀ x ∈ l, f x = 0 := by
  intro l
  induction l with
  | nil => intro _ x hx; exact absurd hx List.not_mem_nil
  | cons y l ih =>
    intro e x hx
    have h1 := h y
    have h2 := tw_sm_nn h l
    have e' : f y + tw_sm f l = 0 := e
    have e1 : f y = 0 := by grind
    have e2 : tw_sm f l = 0 := by grind
    rcases List.mem_cons.mp hx with r | r
    · rw [r]; exact e1
    · exact ih e2 x r
theorem tw_sm_perm {f : Nat → Rat} {l l' : List Nat} (h : l.Perm l') : tw_sm f l = tw_sm f l' := by
  induction h with
  | nil => rfl
  | cons x _ ih => simp only [tw_sm, ih]
  | swap x y l => simp only [tw_sm]; grind
  | trans _ _ ih1 ih2 => exact ih1.trans ih2
theorem tw_sm_app (f : Nat → Rat) (l l' : List Nat) : tw_sm f (l ++ l') = tw_sm f l + tw_sm f l' := by
  induction l with
  | nil => simp only [List.nil_append, tw_sm]; grind
  | cons x l ih => simp only [List.cons_append, tw_sm, ih]; grind
theorem tw_div_nn {a b : Rat} (ha : 0 ≤ a) (hb : 0 ≤ b) : 0 ≤ a / b := by
  rw [Rat.div_def]
  refine Rat.mul_nonneg ha ?_
  by_cases z : b = 0
  · rw [z, Rat.inv_zero]; exact Rat.le_refl
  · exact Rat.le_of_lt (Rat.inv_pos.mpr (Rat.lt_of_le_of_ne hb (Ne.symm z)))
theorem tw_N_el {w : Nat → Nat → Rat} (h : tw_N w) (v : Nat) (V : List Nat) : tw_N (tw_el w v V) := by
  refine ⟨fun x y => ?_, fun x y => ?_⟩
  · simp only [tw_el]
    rw [h.1 x y, h.1 x v, h.1 v y, Rat.mul_comm (w v x) (w y v)]
  · simp only [tw_el]
    exact Rat.add_nonneg (h.2 x y) (tw_div_nn (Rat.mul_nonneg (h.2 x v) (h.2 v y)) (tw_sm_nn (h.2 v) V))
theorem tw_sm_el (w : Nat → Nat → Rat) (u v : Nat) (V : List Nat) : ∀ l : List Nat, tw_sm (tw_el w u V v) l = tw_sm (w v) l + w v u * tw_sm (w u) l / tw_sm (w u) V := by
  intro l
  induction l with
  | nil => simp only [tw_sm]; grind
  | cons x l ih =>
    have e : tw_sm (tw_el w u V v) (x :: l) = tw_el w u V v x + tw_sm (tw_el w u V v) l := rfl
    rw [e, ih]
    simp only [tw_el, tw_sm]
    generalize tw_sm (w u) V = d
    grind
theorem tw_k1 {a p q : Rat} (ha : 0 ≤ a) (hp : 0 ≤ p) : (a + p) * (q + a * p / (a + p)) = a * q + a * p + p * q := by
  by_cases z : a + p = 0
  · have e1 : a = 0 := by grind
    have e2 : p = 0 := by grind
    rw [e1, e2]; grind
  · have h : a * p / (a + p) * (a + p) = a * p := Rat.div_mul_cancel z
    grind
/-- both ways to take away two vertices u, v: what they leave -/
theorem tw_k2 {a p q s D xy xu xv uy vy : Rat} (hs : s = a + p) (hD : D = a * q + a * p + p * q) (z : s ≠ 0) (zD : D ≠ 0) :
    (xy + xu * uy / s) + (xv + xu * a / s) * (vy + a * uy / s) / (q + a * p / s) = xy + ((a + q) * xu * uy + (a + p) * xv * vy + a * xu * vy + a * xv * uy) / D := by
  have e : q + a * p / s = D / s := by
    have h1 : a * p / s = a * p * s⁻¹ := Rat.div_def _ _
    have h2 : D / s = D * s⁻¹ := Rat.div_def _ _
    have h3 : s * s⁻¹ = 1 := Rat.mul_inv_cancel s z
    rw [h1, h2, hD]
    grind
  rw [e]
  have i1 : s * s⁻¹ = 1 := Rat.mul_inv_cancel s z
  have i2 : D * D⁻¹ = 1 := Rat.mul_inv_cancel D zD
  have i3 : (D / s)⁻¹ = s * D⁻¹ := by
    apply Rat.inv_eq_of_mul_eq_one
    rw [Rat.div_def]
    grind
  simp only [Rat.div_def] at i3 ⊢
  rw [i3]
  generalize s⁻¹ = r at i1 ⊢
  generalize D⁻¹ = t at i2 ⊢
  subst hs
  subst hD
  grind
theorem tw_swap {w : Nat → Nat → Rat} (hw : tw_N w) (u v : Nat) (V : List Nat) : tw_tau (u :: v :: V) w = tw_tau (v :: u :: V) w := by
  cases V with
  | nil =>
    simp only [tw_tau, tw_sm]
    rw [hw.1 u v]
  | cons x V =>
    have n1 : (v :: x :: V) ≠ [] := List.cons_ne_nil _ _
    have n2 : (u :: x :: V) ≠ [] := List.cons_ne_nil _ _
    have n3 : (x :: V) ≠ [] := List.cons_ne_nil _ _
    rw [tw_tau_c n1, tw_tau_c n3, tw_tau_c n2, tw_tau_c n3, tw_sm_el, tw_sm_el]
    generalize x :: V = L
    have e1 : tw_sm (w u) (v :: L) = w u v + tw_sm (w u) L := rfl
    have e2 : tw_sm (w v) (u :: L) = w u v + tw_sm (w v) L := by rw [hw.1 u v]; rfl
    have ha : 0 ≤ w u v := hw.2 u v
    have hp : 0 ≤ tw_sm (w u) L := tw_sm_nn (hw.2 u) L
    have hq : 0 ≤ tw_sm (w v) L := tw_sm_nn (hw.2 v) L
    have s1 : w v u = w u v := hw.1 v u
    rw [← Rat.mul_assoc, ← Rat.mul_assoc, e1, e2, s1, tw_k1 ha hp, tw_k1 ha hq]
    have hD : w u v * tw_sm (w u) L + w u v * tw_sm (w v) L + tw_sm (w v) L * tw_sm (w u) L = w u v * tw_sm (w v) L + w u v * tw_sm (w u) L + tw_sm (w u) L * tw_sm (w v) L := by grind
    rw [hD]
    by_cases zD : w u v * tw_sm (w v) L + w u v * tw_sm (w u) L + tw_sm (w u) L * tw_sm (w v) L = 0
    · rw [zD, Rat.zero_mul, Rat.zero_mul]
    · have z1 : w u v + tw_sm (w u) L ≠ 0 := by
        intro z
        have e3 : w u v = 0 := by grind
        have e4 : tw_sm (w u) L = 0 := by grind
        exact zD (by rw [e3, e4]; grind)
      have z2 : w u v + tw_sm (w v) L ≠ 0 := by
        intro z
        have e3 : w u v = 0 := by grind
        have e4 : tw_sm (w v) L = 0 := by grind
        exact zD (by rw [e3, e4]; grind)
      have zD' : w u v * tw_sm (w u) L + w u v * tw_sm (w v) L + tw_sm (w v) L * tw_sm (w u) L ≠ 0 := by rw [hD]; exact zD
      have F : tw_el (tw_el w u (v :: L)) v L = tw_el (tw_el w v (u :: L)) u L := by
        funext y z
        have q1 : tw_el (tw_el w u (v :: L)) v L y z = (w y z + w y u * w u z / (w u v + tw_sm (w u) L)) + (w y v + w y u * w u v / (w u v + tw_sm (w u) L)) * (w v z + w u v * w u z / (w u v + tw_sm (w u) L)) / (tw_sm (w v) L + w u v * tw_sm (w u) L / (w u v + tw_sm (w u) L)) := by
          show tw_el w u (v :: L) y z + tw_el w u (v :: L) y v * tw_el w u (v :: L) v z / tw_sm (tw_el w u (v :: L) v) L = _
          rw [tw_sm_el, e1]
          simp only [tw_el, e1, s1]
        have q2 : tw_el (tw_el w v (u :: L)) u L y z = (w y z + w y v * w v z / (w u v + tw_sm (w v) L)) + (w y u + w y v * w u v / (w u v + tw_sm (w v) L)) * (w u z + w u v * w v z / (w u v + tw_sm (w v) L)) / (tw_sm (w u) L + w u v * tw_sm (w v) L / (w u v + tw_sm (w v) L)) := by
          show tw_el w v (u :: L) y z + tw_el w v (u :: L) y u * tw_el w v (u :: L) u z / tw_sm (tw_el w v (u :: L) u) L = _
          rw [tw_sm_el, e2]
          simp only [tw_el, e2, s1]
        rw [q1, q2, tw_k2 rfl rfl z1 zD, tw_k2 rfl rfl z2 zD', hD]
        congr 2
        grind
      rw [F]
theorem tw_tau_perm {l l' : List Nat} (h : l.Perm l') : ∀ w : Nat → Nat → Rat, tw_N w → tw_tau l w = tw_tau l' w := by
  induction h with
  | nil => intro _ _; rfl
  | @cons x l₁ l₂ hp ih =>
    intro w hw
    by_cases z : l₁ = []
    · subst z
      rw [← List.Perm.nil_eq hp]
    · have z' : l₂ ≠ [] := by
        intro e
        subst e
        exact z (List.Perm.eq_nil hp)
      have e : tw_el w x l₁ = tw_el w x l₂ := by
        unfold tw_el
        rw [tw_sm_perm hp]
      rw [tw_tau_c z, tw_tau_c z', ih _ (tw_N_el hw _ _), tw_sm_perm hp, e]
  | swap x y l => intro w hw; exact tw_swap hw y x l
  | trans _ _ ih1 ih2 => intro w hw; rw [ih1 w hw, ih2 w hw]
theorem tw_tau_congr : ∀ (V : List Nat) (w w' : Nat → Nat → Rat), V.Nodup → (∀ x ∈ V, ∀ y ∈ V, x ≠ y → w x y = w' x y) → tw_tau V w = tw_tau V w' := by
  intro V
  induction V with
  | nil => intro _ _ _ _; rfl
  | cons v V ih =>
    intro w w' hn h
    by_cases z : V = []
    · subst z; rfl
    · have hv : v ∉ V := (List.nodup_cons.mp hn).1
      have hm : ∀ x ∈ V, x ≠ v := fun x hx e => hv (e ▸ hx)
      have e1 : tw_sm (w v) V = tw_sm (w' v) V := tw_sm_congr (fun x hx => h v List.mem_cons_self x (List.mem_cons_of_mem _ hx) (fun e => hm x hx e.symm))
      rw [tw_tau_c z, tw_tau_c z, e1]
      congr 1
      refine ih _ _ (List.nodup_cons.mp hn).2 (fun x hx y hy ne => ?_)
      simp only [tw_el]
      rw [e1, h x (List.mem_cons_of_mem _ hx) y (List.mem_cons_of_mem _ hy) ne, h x (List.mem_cons_of_mem _ hx) v List.mem_cons_self (hm x hx), h v List.mem_cons_self y (List.mem_cons_of_mem _ hy) (fun e => hm y hy e.symm)]
/-- one more line between the last two vertices: the trees without it, and those with it (the two made one) -/
theorem tw_dc {a b : Nat} : ∀ (V : List Nat) (w w1 w2 : Nat → Nat → Rat), (∀ x y, (x ∈ V ∨ y ∈ V) → w1 x y = w x y) → w1 a b = w a b + 1 →
    (∀ x ∈ V, ∀ y ∈ V, w2 x y = w x y) → (∀ x ∈ V, w2 x a = w x a + w x b) → (∀ x ∈ V, w2 a x = w a x + w b x) →
    tw_tau (V ++ [a, b]) w1 = tw_tau (V ++ [a, b]) w + tw_tau (V ++ [a]) w2 := by
  intro V
  induction V with
  | nil =>
    intro w w1 w2 _ h _ _ _
    simp only [List.nil_append, tw_tau, tw_sm, h]
    grind
  | cons v V ih =>
    intro w w1 w2 h1 h2 h3 h4 h5
    have hv : v ∈ v :: V := List.mem_cons_self
    have hc : ∀ x ∈ V, x ∈ v :: V := fun x hx => List.mem_cons_of_mem _ hx
    have n1 : V ++ [a, b] ≠ [] := by simp
    have n2 : V ++ [a] ≠ [] := by simp
    have d1 : tw_sm (w1 v) (V ++ [a, b]) = tw_sm (w v) (V ++ [a, b]) := tw_sm_congr (fun x _ => h1 v x (Or.inl hv))
    have d2 : tw_sm (w2 v) (V ++ [a]) = tw_sm (w v) (V ++ [a, b]) := by
      rw [tw_sm_app, tw_sm_app, tw_sm_congr (g := w v) (fun x hx => h3 v hv x (hc x hx))]
      simp only [tw_sm]
      rw [h4 v hv]
      grind
    rw [List.cons_append, List.cons_append, tw_tau_c n1, tw_tau_c n1, tw_tau_c n2, d1, d2]
    have k := ih (tw_el w v (V ++ [a, b])) (tw_el w1 v (V ++ [a, b])) (tw_el w2 v (V ++ [a]))
      (by
        intro x y hxy
        simp only [tw_el]
        rw [d1, h1 v y (Or.inl hv), h1 x v (Or.inr hv), h1 x y (hxy.elim (fun h => Or.inl (hc x h)) (fun h => Or.inr (hc y h)))])
      (by
        simp only [tw_el]
        rw [d1, h2, h1 v b (Or.inl hv), h1 a v (Or.inr hv)]
        grind)
      (by
        intro x hx y hy
        simp only [tw_el]
        rw [d2, h3 x (hc x hx) y (hc y hy), h3 x (hc x hx) v hv, h3 v hv y (hc y hy)])
      (by
        intro x hx
        simp only [tw_el]
        rw [d2, h4 x (hc x hx), h4 v hv, h3 x (hc x hx) v hv]
        generalize tw_sm (w v) (V ++ [a, b]) = d
        grind)
      (by
        intro x hx
        simp only [tw_el]
        rw [d2, h5 x (hc x hx), h5 v hv, h3 v hv x (hc x hx)]
        generalize tw_sm (w v) (V ++ [a, b]) = d
        grind)
    rw [k]
    grind
end
section
/-! Names of joined points; the recursion of deletion and contraction; ringless lists of lines. -/
def tn_jn (nm : Nat → Nat) (x y : Nat) : Nat → Nat := fun p => if nm p = nm y then nm x else nm p
def tn_cT (a b : Nat → Nat) : List Nat → (Nat → Nat) → Nat → Nat
  | [], _, r => if r = 1 then 1 else 0
  | k :: E, nm, r => tn_cT a b E nm r + if nm (a k) = nm (b k) then 0 else tn_cT a b E (tn_jn nm (a k) (b k)) (r - 1)
def tn_w (a b : Nat → Nat) (nm : Nat → Nat) : List Nat → Nat → Nat → Rat
  | [], _, _ => 0
  | k :: E, x, y => tn_w a b nm E x y + ((if nm (a k) = x ∧ nm (b k) = y then 1 else 0) + (if nm (a k) = y ∧ nm (b k) = x then 1 else 0))
theorem tn_w_N (a b nm : Nat → Nat) : ∀ E : List Nat, tw_N (tn_w a b nm E) := by
  intro E
  induction E with
  | nil => exact ⟨fun _ _ => rfl, fun _ _ => Rat.le_refl⟩
  | cons k E ih =>
    refine ⟨fun x y => ?_, fun x y => ?_⟩
    · simp only [tn_w]
      rw [ih.1 x y]
      grind
    · simp only [tn_w]
      have h0 : (0 : Rat) ≤ 1 := by decide
      refine Rat.add_nonneg (ih.2 x y) (Rat.add_nonneg ?_ ?_)
      · split
        · exact h0
        · exact Rat.le_refl
      · split
        · exact h0
        · exact Rat.le_refl
theorem tn_w_c (a b nm : Nat → Nat) (k : Nat) (E : List Nat) (x y : Nat) : tn_w a b nm (k :: E) x y = tn_w a b nm E x y + ((if nm (a k) = x ∧ nm (b k) = y then 1 else 0) + (if nm (a k) = y ∧ nm (b k) = x then 1 else 0)) := rfl
theorem tn_cT_c (a b nm : Nat → Nat) (k : Nat) (E : List Nat) (r : Nat) : tn_cT a b (k :: E) nm r = tn_cT a b E nm r + if nm (a k) = nm (b k) then 0 else tn_cT a b E (tn_jn nm (a k) (b k)) (r - 1) := rfl
theorem tn_jn_o {nm : Nat → Nat} {p q x : Nat} (hA : x ≠ nm p) (hB : x ≠ nm q) (u : Nat) : (tn_jn nm p q u = x) = (nm u = x) := by
  unfold tn_jn
  apply propext
  split
  · constructor
    · intro h; exact absurd h.symm hA
    · intro h; omega
  · exact Iff.rfl
theorem tn_jn_a {nm : Nat → Nat} {p q : Nat} (u : Nat) : (tn_jn nm p q u = nm p) = (nm u = nm p ∨ nm u = nm q) := by
  unfold tn_jn
  apply propext
  split
  · constructor
    · intro _; right; assumption
    · intro _; rfl
  · constructor
    · intro h; left; exact h
    · intro h; omega
theorem tn_w_j1 (a b : Nat → Nat) {nm : Nat → Nat} {p q x y : Nat} (xA : x ≠ nm p) (xB : x ≠ nm q) (yA : y ≠ nm p) (yB : y ≠ nm q) : ∀ E : List Nat, tn_w a b (tn_jn nm p q) E x y = tn_w a b nm E x y := by
  intro E
  induction E with
  | nil => rfl
  | cons k E ih =>
    rw [tn_w_c, tn_w_c, ih]
    simp only [tn_jn_o xA xB, tn_jn_o yA yB]
theorem tn_ifs {α β A B x : Nat} (hx : x ≠ A) (hx' : x ≠ B) (hAB : A ≠ B) (s t : Rat) :
    (s + t) + ((if α = x ∧ (β = A ∨ β = B) then (1 : Rat) else 0) + (if (α = A ∨ α = B) ∧ β = x then 1 else 0)) = (s + ((if α = x ∧ β = A then 1 else 0) + (if α = A ∧ β = x then 1 else 0))) + (t + ((if α = x ∧ β = B then 1 else 0) + (if α = B ∧ β = x then 1 else 0))) := by
  by_cases h1 : α = x
  · have h3 : α ≠ A := by omega
    have h4 : α ≠ B := by omega
    by_cases h2 : β = A
    · have h5 : β ≠ B := by omega
      have h6 : β ≠ x := by omega
      simp only [h1, h2, hx, hx', hAB, Ne.symm hx, and_true, and_false, true_or, or_true, or_false, false_or, if_true, if_false, true_and, false_and]
      grind
    · by_cases h7 : β = B
      · simp only [h1, h7, hx, hx', Ne.symm hAB, Ne.symm hx', and_true, and_false, true_or, or_true, or_false, false_or, if_true, if_false, true_and, false_and]
        grind
      · simp only [h1, h2, h7, hx, hx', and_true, and_false, true_or, or_true, or_false, false_or, if_true, if_false, true_and, false_and]
        grind
  · by_cases h2 : β = x
    · have h3 : β ≠ A := by omega
      have h4 : β ≠ B := by omega
      by_cases h5 : α = A
      · have h6 : α ≠ B := by omega
        simp only [h1, h2, h5, hx, hx', hAB, Ne.symm hx, and_true, and_false, true_or, or_true, or_false, false_or, if_true, if_false, true_and, false_and]
        grind
      · by_cases h7 : α = B
        · simp only [h2, h7, hx, hx', Ne.symm hAB, Ne.symm hx', and_true, and_false, true_or, or_true, or_false, false_or, if_true, if_false, true_and, false_and]
          grind
        · simp only [h1, h2, h5, h7, and_true, and_false, true_or, or_true, or_false, false_or, if_true, if_false, true_and, false_and]
          grind
    · simp only [h1, h2, and_true, and_false, true_or, or_true, or_false, false_or, if_true, if_false, true_and, false_and]
      grind
theorem tn_w_j2 (a b : Nat → Nat) {nm : Nat → Nat} {p q x : Nat} (xA : x ≠ nm p) (xB : x ≠ nm q) (hAB : nm p ≠ nm q) : ∀ E : List Nat, tn_w a b (tn_jn nm p q) E x (nm p) = tn_w a b nm E x (nm p) + tn_w a b nm E x (nm q) := by
  intro E
  induction E with
  | nil => simp only [tn_w]; grind
  | cons k E ih =>
    rw [tn_w_c, tn_w_c, tn_w_c, ih]
    simp only [tn_jn_o xA xB, tn_jn_a]
    exact tn_ifs xA xB hAB _ _
theorem tw_sm_0 {f : Nat → Rat} : ∀ {l : List Nat}, (∀ x ∈ l, f x = 0) → tw_sm f l = 0 := by
  intro l
  induction l with
  | nil => intro _; rfl
  | cons x l ih =>
    intro h
    simp only [tw_sm]
    rw [h x List.mem_cons_self, ih (fun y hy => h y (List.mem_cons_of_mem _ hy))]
    grind
theorem tn_tau (a b : Nat → Nat) : ∀ (E : List Nat) (nm : Nat → Nat) (V : List Nat), V.Nodup → V ≠ [] → (∀ k ∈ E, nm (a k) ∈ V ∧ nm (b k) ∈ V) →
    tw_tau V (tn_w a b nm E) = ((tn_cT a b E nm V.length : Nat) : Rat) := by
  intro E
  induction E with
  | nil =>
    intro nm V _ hV _
    cases V with
    | nil => exact absurd rfl hV
    | cons v V =>
      cases V with
      | nil =>
        have e2 : tn_cT a b [] nm [v].length = 1 := by simp [tn_cT]
        rw [e2]; rfl
      | cons u V =>
        have e : tw_sm (tn_w a b nm [] v) (u :: V) = 0 := tw_sm_0 (fun x _ => rfl)
        have e2 : tn_cT a b [] nm (v :: u :: V).length = 0 := by
          simp only [tn_cT, List.length_cons]
          rw [if_neg (by omega)]
        rw [e2]
        simp only [tw_tau]
        rw [e, Rat.zero_mul]
        rfl
  | cons k E ih =>
    intro nm V hn hV hE
    have hE' : ∀ j ∈ E, nm (a j) ∈ V ∧ nm (b j) ∈ V := fun j hj => hE j (List.mem_cons_of_mem _ hj)
    have hk := hE k List.mem_cons_self
    by_cases z : nm (a k) = nm (b k)
    · rw [tn_cT_c, if_pos z, Nat.add_zero, ← ih nm V hn hV hE']
      refine tw_tau_congr V _ _ hn (fun x _ y _ ne => ?_)
      rw [tn_w_c, if_neg (fun h => ne (h.1.symm.trans (z.trans h.2))), if_neg (fun h => ne (h.2.symm.trans (z.symm.trans h.1)))]
      grind
    · rw [tn_cT_c, if_neg z]
      have hBA : nm (b k) ∈ V.erase (nm (a k)) := (List.mem_erase_of_ne (Ne.symm z)).mpr hk.2
      obtain ⟨V0, h0⟩ : ∃ V0, V0 = (V.erase (nm (a k))).erase (nm (b k)) := ⟨_, rfl⟩
      have p1 : V.Perm (nm (a k) :: nm (b k) :: V0) := by
        rw [h0]
        exact (List.perm_cons_erase hk.1).trans ((List.perm_cons_erase hBA).cons _)
      have p2 : V.Perm (V0 ++ [nm (a k), nm (b k)]) := p1.trans (List.perm_append_comm (l₁ := [nm (a k), nm (b k)]) (l₂ := V0))
      have n0 : ∀ x ∈ V0, x ≠ nm (a k) ∧ x ≠ nm (b k) := by
        intro x hx
        rw [h0] at hx
        have h1 := (List.Nodup.mem_erase_iff (hn.erase (nm (a k)))).mp hx
        have h2 := (List.Nodup.mem_erase_iff hn).mp h1.2
        exact ⟨h2.1, h1.1⟩
      have nd : (V0 ++ [nm (a k)]).Nodup := by
        have q1 : (V.erase (nm (b k))).Perm (nm (a k) :: V0) := by
          have q := p1.erase (nm (b k))
          rw [List.erase_cons_tail (by simpa using z), List.erase_cons_head] at q
          exact q
        exact (q1.trans (List.perm_append_comm (l₁ := [nm (a k)]) (l₂ := V0))).nodup (hn.erase _)
      have L : V.length = V0.length + 2 := by
        have := p1.length_eq
        simpa using this
      have hm : ∀ u, nm u ∈ V → tn_jn nm (a k) (b k) u ∈ V0 ++ [nm (a k)] := by
        intro u hu
        unfold tn_jn
        split
        · simp
        · rename_i h
          by_cases h2 : nm u = nm (a k)
          · rw [h2]; simp
          · refine List.mem_append_left _ ?_
            rw [h0]
            exact (List.mem_erase_of_ne h).mpr ((List.mem_erase_of_ne h2).mpr hu)
      have L2 : (V0 ++ [nm (a k)]).length = V.length - 1 := by
        rw [L]; simp
      have D := tw_dc (a := nm (a k)) (b := nm (b k)) V0 (tn_w a b nm E) (tn_w a b nm (k :: E)) (tn_w a b (tn_jn nm (a k) (b k)) E)
        (by
          intro x y hxy
          have c1 : ¬ (nm (a k) = x ∧ nm (b k) = y) := by
            intro h
            rcases hxy with h' | h'
            · exact (n0 x h').1 h.1.symm
            · exact (n0 y h').2 h.2.symm
          have c2 : ¬ (nm (a k) = y ∧ nm (b k) = x) := by
            intro h
            rcases hxy with h' | h'
            · exact (n0 x h').2 h.2.symm
            · exact (n0 y h').1 h.1.symm
          rw [tn_w_c, if_neg c1, if_neg c2]
          grind)
        (by
          rw [tn_w_c, if_pos ⟨rfl, rfl⟩, if_neg (fun h => z h.1)]
          grind)
        (fun x hx y hy => tn_w_j1 a b (n0 x hx).1 (n0 x hx).2 (n0 y hy).1 (n0 y hy).2 E)
        (fun x hx => tn_w_j2 a b (n0 x hx).1 (n0 x hx).2 z E)
        (by
          intro x hx
          rw [(tn_w_N a b (tn_jn nm (a k) (b k)) E).1, (tn_w_N a b nm E).1 (nm (a k)) x, (tn_w_N a b nm E).1 (nm (b k)) x]
          exact tn_w_j2 a b (n0 x hx).1 (n0 x hx).2 z E)
      rw [tw_tau_perm p2 _ (tn_w_N a b nm (k :: E)), D, ← tw_tau_perm p2 _ (tn_w_N a b nm E), ih nm V hn hV hE',
        ih (tn_jn nm (a k) (b k)) (V0 ++ [nm (a k)]) nd (by simp) (fun j hj => ⟨hm _ (hE' j hj).1, hm _ (hE' j hj).2⟩), L2, Rat.natCast_add]
/-- two ways to name that part the points alike -/
def tn_eqv (f g : Nat → Nat) : Prop := ∀ x y, f x = f y ↔ g x = g y
theorem tn_jn_iff (nm : Nat → Nat) (a b x y : Nat) : tn_jn nm a b x = tn_jn nm a b y ↔ (nm x = nm y ∨ ((nm x = nm a ∨ nm x = nm b) ∧ (nm y = nm a ∨ nm y = nm b))) := by
  unfold tn_jn
  split <;> split <;> omega
theorem tn_eqv_jn {f g : Nat → Nat} (h : tn_eqv f g) (a b : Nat) : tn_eqv (tn_jn f a b) (tn_jn g a b) := by
  intro x y
  rw [tn_jn_iff, tn_jn_iff, h x y, h x a, h x b, h y a, h y b]
theorem tn_comm0 (X Y A B C D : Nat) :
    ((X = Y ∨ ((X = A ∨ X = B) ∧ (Y = A ∨ Y = B))) ∨ (((X = C ∨ ((X = A ∨ X = B) ∧ (C = A ∨ C = B))) ∨ (X = D ∨ ((X = A ∨ X = B) ∧ (D = A ∨ D = B)))) ∧ ((Y = C ∨ ((Y = A ∨ Y = B) ∧ (C = A ∨ C = B))) ∨ (Y = D ∨ ((Y = A ∨ Y = B) ∧ (D = A ∨ D = B)))))) →
    ((X = Y ∨ ((X = C ∨ X = D) ∧ (Y = C ∨ Y = D))) ∨ (((X = A ∨ ((X = C ∨ X = D) ∧ (A = C ∨ A = D))) ∨ (X = B ∨ ((X = C ∨ X = D) ∧ (B = C ∨ B = D)))) ∧ ((Y = A ∨ ((Y = C ∨ Y = D) ∧ (A = C ∨ A = D))) ∨ (Y = B ∨ ((Y = C ∨ Y = D) ∧ (B = C ∨ B = D)))))) := by
  grind
theorem tn_jn_comm (nm : Nat → Nat) (a b c d : Nat) : tn_eqv (tn_jn (tn_jn nm a b) c d) (tn_jn (tn_jn nm c d) a b) := by
  intro x y
  simp only [tn_jn_iff]
  exact ⟨tn_comm0 _ _ _ _ _ _, tn_comm0 _ _ _ _ _ _⟩
theorem tn_eqv_symm {f g : Nat → Nat} (h : tn_eqv f g) : tn_eqv g f := fun x y => (h x y).symm
theorem tn_cT_eqv (a b : Nat → Nat) : ∀ (E : List Nat) (f g : Nat → Nat) (r : Nat), tn_eqv f g → tn_cT a b E f r = tn_cT a b E g r := by
  intro E
  induction E with
  | nil => intro _ _ _ _; rfl
  | cons k E ih =>
    intro f g r h
    rw [tn_cT_c, tn_cT_c, ih f g r h, ih _ _ _ (tn_eqv_jn h (a k) (b k))]
    by_cases z : f (a k) = f (b k)
    · rw [if_pos z, if_pos ((h _ _).mp z)]
    · rw [if_neg z, if_neg (fun e => z ((h _ _).mpr e))]
/-- the lines are all there, and put down one by one none makes a ring -/
def tn_rl (t : Nat → Bool) (a b : Nat → Nat) : List Nat → (Nat → Nat) → Bool
  | [], _ => true
  | k :: L, nm => t k && (decide (nm (a k) ≠ nm (b k)) && tn_rl t a b L (tn_jn nm (a k) (b k)))
def tn_af (a b : Nat → Nat) : List Nat → (Nat → Nat) → Nat → Nat
  | [], nm => nm
  | k :: L, nm => tn_af a b L (tn_jn nm (a k) (b k))
theorem tn_rl_c (t : Nat → Bool) (a b : Nat → Nat) (k : Nat) (L : List Nat) (nm : Nat → Nat) : tn_rl t a b (k :: L) nm = (t k && (decide (nm (a k) ≠ nm (b k)) && tn_rl t a b L (tn_jn nm (a k) (b k)))) := rfl
theorem tn_rl_eqv (t : Nat → Bool) (a b : Nat → Nat) : ∀ (L : List Nat) (f g : Nat → Nat), tn_eqv f g → tn_rl t a b L f = tn_rl t a b L g := by
  intro L
  induction L with
  | nil => intro _ _ _; rfl
  | cons k L ih =>
    intro f g h
    rw [tn_rl_c, tn_rl_c, ih _ _ (tn_eqv_jn h (a k) (b k))]
    have e : decide (f (a k) ≠ f (b k)) = decide (g (a k) ≠ g (b k)) := decide_eq_decide.mpr (not_congr (h _ _))
    rw [e]
theorem tn_sw0 (A B C D : Nat) : (¬ A = B ∧ ¬ (C = D ∨ ((C = A ∨ C = B) ∧ (D = A ∨ D = B)))) → (¬ C = D ∧ ¬ (A = B ∨ ((A = C ∨ A = D) ∧ (B = C ∨ B = D)))) := by
  omega
theorem tn_rl_swap (t : Nat → Bool) (a b : Nat → Nat) (j k : Nat) (L : List Nat) (nm : Nat → Nat) : tn_rl t a b (j :: k :: L) nm = tn_rl t a b (k :: j :: L) nm := by
  rw [tn_rl_c, tn_rl_c, tn_rl_c, tn_rl_c, tn_rl_eqv t a b L _ _ (tn_jn_comm nm (a j) (b j) (a k) (b k))]
  generalize tn_rl t a b L _ = R
  rw [Bool.eq_iff_iff]
  simp only [Bool.and_eq_true, decide_eq_true_eq, ne_eq, tn_jn_iff]
  constructor
  · intro ⟨h1, h2, h3, h4, h5⟩
    have h := tn_sw0 _ _ _ _ ⟨h2, h4⟩
    exact ⟨h3, h.1, h1, h.2, h5⟩
  · intro ⟨h1, h2, h3, h4, h5⟩
    have h := tn_sw0 _ _ _ _ ⟨h2, h4⟩
    exact ⟨h3, h.1, h1, h.2, h5⟩
theorem tn_rl_perm (t : Nat → Bool) (a b : Nat → Nat) {L L' : List Nat} (h : L.Perm L') : ∀ nm : Nat → Nat, tn_rl t a b L nm = tn_rl t a b L' nm := by
  induction h with
  | nil => intro _; rfl
  | cons x _ ih => intro nm; rw [tn_rl_c, tn_rl_c, ih]
  | swap x y l => intro nm; exact tn_rl_swap t a b y x l nm
  | trans _ _ ih1 ih2 => intro nm; rw [ih1, ih2]
theorem tn_rl_app (t : Nat → Bool) (a b : Nat → Nat) : ∀ (L L' : List Nat) (nm : Nat → Nat), tn_rl t a b (L ++ L') nm = (tn_rl t a b L nm && tn_rl t a b L' (tn_af a b L nm)) := by
  intro L
  induction L with
  | nil => intro L' nm; simp [tn_rl, tn_af]
  | cons k L ih =>
    intro L' nm
    rw [List.cons_append, tn_rl_c, tn_rl_c, ih]
    simp only [tn_af, Bool.and_assoc]
theorem tn_af_app (a b : Nat → Nat) : ∀ (L L' : List Nat) (nm : Nat → Nat), tn_af a b (L ++ L') nm = tn_af a b L' (tn_af a b L nm) := by
  intro L
  induction L with
  | nil => intro _ _; rfl
  | cons k L ih => intro L' nm; rw [List.cons_append]; exact ih L' _
theorem tn_rl_t (t : Nat → Bool) (a b : Nat → Nat) : ∀ (L : List Nat) (nm : Nat → Nat), tn_rl t a b L nm = true → ∀ k ∈ L, t k = true := by
  intro L
  induction L with
  | nil => intro _ _ k hk; exact absurd hk List.not_mem_nil
  | cons j L ih =>
    intro nm h k hk
    rw [tn_rl_c, Bool.and_eq_true, Bool.and_eq_true] at h
    rcases List.mem_cons.mp hk with e | e
    · rw [e]; exact h.1
    · exact ih _ h.2.2 k e
end
section
/-! Counting: sublists of lines, and sets of lines as the bits of a number. -/
def tc_cs : List Nat → (List Nat → Bool) → Nat
  | [], p => if p [] = true then 1 else 0
  | k :: E, p => tc_cs E p + tc_cs E (fun S => p (k :: S))
theorem tc_cs_0 : ∀ (E : List Nat) (p : List Nat → Bool), (∀ S, p S = false) → tc_cs E p = 0 := by
  intro E
  induction E with
  | nil => intro p h; simp only [tc_cs]; rw [h]; rfl
  | cons k E ih => intro p h; simp only [tc_cs]; rw [ih p h, ih _ (fun S => h (k :: S))]
theorem tc_cs_congr (E : List Nat) {p q : List Nat → Bool} (h : ∀ S, p S = q S) : tc_cs E p = tc_cs E q := by
  rw [funext h]
theorem tc_cT (t : Nat → Bool) (a b : Nat → Nat) : ∀ (E : List Nat) (nm : Nat → Nat) (r : Nat), (∀ k ∈ E, t k = true) → tn_cT a b E nm r = tc_cs E (fun S => tn_rl t a b S nm && decide (S.length + 1 = r)) := by
  intro E
  induction E with
  | nil =>
    intro nm r _
    simp only [tn_cT, tc_cs, tn_rl, Bool.true_and, decide_eq_true_eq, List.length_nil]
    by_cases h : r = 1
    · rw [if_pos h, if_pos (by omega)]
    · rw [if_neg h, if_neg (by omega)]
  | cons k E ih =>
    intro nm r hE
    have hE' : ∀ j ∈ E, t j = true := fun j hj => hE j (List.mem_cons_of_mem _ hj)
    have hk := hE k List.mem_cons_self
    rw [tn_cT_c, ih nm r hE']
    simp only [tc_cs]
    congr 1
    by_cases z : nm (a k) = nm (b k)
    · rw [if_pos z]
      refine (tc_cs_0 E _ (fun S => ?_)).symm
      rw [tn_rl_c]
      simp [z]
    · rw [if_neg z, ih _ _ hE']
      refine tc_cs_congr E (fun S => ?_)
      rw [tn_rl_c, hk]
      have e1 : decide (nm (a k) ≠ nm (b k)) = true := decide_eq_true z
      have e2 : decide (S.length + 1 = r - 1) = decide ((k :: S).length + 1 = r) := by
        apply decide_eq_decide.mpr
        rw [List.length_cons]
        omega
      rw [e1, e2, Bool.true_and, Bool.true_and]
def tc_cC (i o : Nat → Bool) : List Nat → (List Nat → Bool) → Nat
  | [], p => if p [] = true then 1 else 0
  | k :: L, p => (if i k = true then 0 else tc_cC i o L p) + (if o k = true then 0 else tc_cC i o L (fun S => p (k :: S)))
def tc_fr (t i o : Nat → Bool) (k : Nat) : Bool := t k && (!i k && !o k)
theorem tc_split (t i o : Nat → Bool) : ∀ (L : List Nat) (p : List Nat → Bool), (∀ S S' : List Nat, S.Perm S' → p S = p S') → (∀ (k : Nat) (S : List Nat), t k = false → k ∈ S → p S = false) → (∀ k ∈ L, ¬ (i k = true ∧ o k = true)) →
    tc_cC i o L p = tc_cs (L.filter (tc_fr t i o)) (fun S => p (L.filter i ++ S)) := by
  intro L
  induction L with
  | nil => intro p _ _ _; rfl
  | cons k L ih =>
    intro p hp hf hd
    have hd' : ∀ j ∈ L, ¬ (i j = true ∧ o j = true) := fun j hj => hd j (List.mem_cons_of_mem _ hj)
    have hk := hd k List.mem_cons_self
    have hp' : ∀ S S' : List Nat, S.Perm S' → p (k :: S) = p (k :: S') := fun S S' h => hp _ _ (h.cons k)
    have hf' : ∀ (j : Nat) (S : List Nat), t j = false → j ∈ S → p (k :: S) = false := fun j S h1 h2 => hf j _ h1 (List.mem_cons_of_mem _ h2)
    have I1 := ih p hp hf hd'
    have I2 := ih (fun S => p (k :: S)) hp' hf' hd'
    simp only [tc_cC]
    rw [I1, I2]
    by_cases zi : i k = true
    · have zo : ¬ o k = true := fun h => hk ⟨zi, h⟩
      have e1 : (k :: L).filter (tc_fr t i o) = L.filter (tc_fr t i o) := by
        rw [List.filter_cons_of_neg]
        simp [tc_fr, zi]
      have e2 : (k :: L).filter i = k :: L.filter i := List.filter_cons_of_pos zi
      rw [if_pos zi, if_neg zo, e1, e2, Nat.zero_add]
      rfl
    · have e2 : (k :: L).filter i = L.filter i := List.filter_cons_of_neg zi
      by_cases zo : o k = true
      · have e1 : (k :: L).filter (tc_fr t i o) = L.filter (tc_fr t i o) := by
          rw [List.filter_cons_of_neg]
          simp [tc_fr, zo]
        rw [if_neg zi, if_pos zo, e1, e2, Nat.add_zero]
      · rw [if_neg zi, if_neg zo, e2]
        by_cases zt : t k = true
        · have e1 : (k :: L).filter (tc_fr t i o) = k :: L.filter (tc_fr t i o) := by
            rw [List.filter_cons_of_pos]
            simp [tc_fr, zo, zi, zt]
          rw [e1]
          simp only [tc_cs]
          congr 1
          refine tc_cs_congr _ (fun S => ?_)
          exact hp _ _ List.perm_middle.symm
        · have e1 : (k :: L).filter (tc_fr t i o) = L.filter (tc_fr t i o) := by
            rw [List.filter_cons_of_neg]
            simp [tc_fr, zt]
          have zt' : t k = false := by simpa using zt
          rw [e1, tc_cs_0 (L.filter (tc_fr t i o)) (fun S => p (k :: (L.filter i ++ S))) (fun S => hf k _ zt' List.mem_cons_self), Nat.add_zero]
def tc_cb (p : Nat → Bool) : Nat → Nat
  | 0 => 0
  | s + 1 => tc_cb p s + if p s = true then 1 else 0
theorem tc_cb_add (p : Nat → Bool) (s : Nat) : ∀ d, tc_cb p (s + d) = tc_cb p s + tc_cb (fun m => p (s + m)) d := by
  intro d
  induction d with
  | zero => rfl
  | succ d ih =>
    rw [← Nat.add_assoc]
    simp only [tc_cb]
    rw [ih]
    omega
theorem tc_cb_congr {p q : Nat → Bool} : ∀ {s : Nat}, (∀ m, m < s → p m = q m) → tc_cb p s = tc_cb q s := by
  intro s
  induction s with
  | zero => intro _; rfl
  | succ s ih =>
    intro h
    simp only [tc_cb]
    rw [ih (fun m hm => h m (by omega)), h s (by omega)]
theorem tc_cb_0 {p : Nat → Bool} : ∀ {s : Nat}, (∀ m, m < s → p m = false) → tc_cb p s = 0 := by
  intro s
  induction s with
  | zero => intro _; rfl
  | succ s ih =>
    intro h
    simp only [tc_cb]
    rw [ih (fun m hm => h m (by omega)), h s (by omega)]
    rfl
theorem tc_cb_le (p : Nat → Bool) : ∀ s, tc_cb p s ≤ s := by
  intro s
  induction s with
  | zero => exact Nat.le_refl _
  | succ s ih =>
    simp only [tc_cb]
    split <;> omega
theorem tc_cb_mono (p : Nat → Bool) {s s' : Nat} (h : s ≤ s') : tc_cb p s ≤ tc_cb p s' := by
  obtain ⟨d, rfl⟩ := Nat.exists_eq_add_of_le h
  rw [tc_cb_add]
  omega
/-- the lines of a set, from the greatest down -/
def tc_hl (m : Nat) : Nat → List Nat
  | 0 => []
  | k + 1 => if m.testBit k = true then k :: tc_hl m k else tc_hl m k
/-- the same from the least up -/
def tc_up (m : Nat) : Nat → List Nat
  | 0 => []
  | k + 1 => if m.testBit k = true then tc_up m k ++ [k] else tc_up m k
def tc_dn : Nat → List Nat
  | 0 => []
  | k + 1 => k :: tc_dn k
def tc_ok (i o : Nat → Bool) (m : Nat) : Nat → Bool
  | 0 => true
  | k + 1 => tc_ok i o m k && ((!i k || m.testBit k) && (!o k || !m.testBit k))
theorem tc_up_perm (m : Nat) : ∀ k, (tc_up m k).Perm (tc_hl m k) := by
  intro k
  induction k with
  | zero => exact List.Perm.refl _
  | succ k ih =>
    simp only [tc_up, tc_hl]
    split
    · exact (List.perm_append_comm (l₁ := tc_up m k) (l₂ := [k])).trans (ih.cons k)
    · exact ih
theorem tc_hl_congr {m m' : Nat} : ∀ {k : Nat}, (∀ j, j < k → m.testBit j = m'.testBit j) → tc_hl m k = tc_hl m' k := by
  intro k
  induction k with
  | zero => intro _; rfl
  | succ k ih =>
    intro h
    simp only [tc_hl]
    rw [ih (fun j hj => h j (by omega)), h k (by omega)]
theorem tc_ok_congr {i o : Nat → Bool} {m m' : Nat} : ∀ {k : Nat}, (∀ j, j < k → m.testBit j = m'.testBit j) → tc_ok i o m k = tc_ok i o m' k := by
  intro k
  induction k with
  | zero => intro _; rfl
  | succ k ih =>
    intro h
    simp only [tc_ok]
    rw [ih (fun j hj => h j (by omega)), h k (by omega)]
theorem tc_bits (i o : Nat → Bool) : ∀ (k : Nat) (p : List Nat → Bool), tc_cb (fun m => tc_ok i o m k && p (tc_hl m k)) (2 ^ k) = tc_cC i o (tc_dn k) p := by
  intro k
  induction k with
  | zero =>
    intro p
    show 0 + (if (true && p []) = true then 1 else 0) = if p [] = true then 1 else 0
    rw [Bool.true_and, Nat.zero_add]
  | succ k ih =>
    intro p
    have A : tc_cb (fun m => tc_ok i o m (k + 1) && p (tc_hl m (k + 1))) (2 ^ k) = if i k = true then 0 else tc_cC i o (tc_dn k) p := by
      by_cases z : i k = true
      · rw [if_pos z]
        apply tc_cb_0
        intro m hm
        have hb := Nat.testBit_lt_two_pow hm
        simp [tc_ok, z, hb]
      · rw [if_neg z, ← ih p]
        apply tc_cb_congr
        intro m hm
        have hb := Nat.testBit_lt_two_pow hm
        have z' : i k = false := by simpa using z
        simp [tc_ok, tc_hl, z', hb]
    have B : tc_cb (fun m => tc_ok i o (2 ^ k + m) (k + 1) && p (tc_hl (2 ^ k + m) (k + 1))) (2 ^ k) = if o k = true then 0 else tc_cC i o (tc_dn k) (fun S => p (k :: S)) := by
      by_cases z : o k = true
      · rw [if_pos z]
        apply tc_cb_0
        intro m hm
        have hb : (2 ^ k + m).testBit k = true := by rw [Nat.testBit_two_pow_add_eq, Nat.testBit_lt_two_pow hm]; rfl
        simp [tc_ok, z, hb]
      · rw [if_neg z, ← ih (fun S => p (k :: S))]
        apply tc_cb_congr
        intro m hm
        have hb : (2 ^ k + m).testBit k = true := by rw [Nat.testBit_two_pow_add_eq, Nat.testBit_lt_two_pow hm]; rfl
        have e1 : tc_hl (2 ^ k + m) k = tc_hl m k := tc_hl_congr (fun j hj => Nat.testBit_two_pow_add_gt hj m)
        have e2 : tc_ok i o (2 ^ k + m) k = tc_ok i o m k := tc_ok_congr (fun j hj => Nat.testBit_two_pow_add_gt hj m)
        have z' : o k = false := by simpa using z
        simp [tc_ok, tc_hl, z', hb, e1, e2]
    rw [Nat.pow_succ, Nat.mul_two, tc_cb_add, A, B]
    rfl
theorem tc_ok_iff (i o : Nat → Bool) (m : Nat) : ∀ k, tc_ok i o m k = true ↔ ∀ j, j < k → (i j = true → m.testBit j = true) ∧ (o j = true → m.testBit j = false) := by
  intro k
  induction k with
  | zero => exact ⟨fun _ j hj => absurd hj (Nat.not_lt_zero j), fun _ => rfl⟩
  | succ k ih =>
    simp only [tc_ok, Bool.and_eq_true]
    rw [ih]
    constructor
    · intro ⟨h1, h2, h3⟩ j hj
      by_cases e : j = k
      · subst e
        refine ⟨fun hi => ?_, fun ho => ?_⟩
        · simpa [hi] using h2
        · simpa [ho] using h3
      · exact h1 j (by omega)
    · intro h
      refine ⟨fun j hj => h j (by omega), ?_, ?_⟩
      · have := (h k (by omega)).1
        cases hi : i k
        · rfl
        · simpa using this hi
      · have := (h k (by omega)).2
        cases ho : o k
        · rfl
        · simpa using this ho
theorem tc_dn_filter (i : Nat) : ∀ k, (tc_dn k).filter i.testBit = tc_hl i k := by
  intro k
  induction k with
  | zero => rfl
  | succ k ih =>
    simp only [tc_dn, tc_hl]
    by_cases z : i.testBit k = true
    · rw [List.filter_cons_of_pos z, if_pos z, ih]
    · rw [List.filter_cons_of_neg z, if_neg z, ih]
theorem tc_sub_iff {m i : Nat} : m &&& i = i ↔ ∀ j, i.testBit j = true → m.testBit j = true := by
  constructor
  · intro h j hj
    have e : (m &&& i).testBit j = i.testBit j := by rw [h]
    rw [Nat.testBit_and, hj, Bool.and_true] at e
    exact e
  · intro h
    apply Nat.eq_of_testBit_eq
    intro j
    rw [Nat.testBit_and]
    cases hi : i.testBit j
    · rw [Bool.and_false]
    · rw [h j hi]; rfl
theorem tc_dis_iff {m o : Nat} : m &&& o = 0 ↔ ∀ j, o.testBit j = true → m.testBit j = false := by
  constructor
  · intro h j hj
    have e : (m &&& o).testBit j = (0 : Nat).testBit j := by rw [h]
    rw [Nat.testBit_and, hj, Bool.and_true, Nat.zero_testBit] at e
    exact e
  · intro h
    apply Nat.eq_of_testBit_eq
    intro j
    rw [Nat.testBit_and, Nat.zero_testBit]
    cases ho : o.testBit j
    · rw [Bool.and_false]
    · rw [h j ho]; rfl
theorem tc_big {m j : Nat} (h : m < 1024) (hj : 10 ≤ j) : m.testBit j = false := by
  apply Nat.testBit_lt_two_pow
  have h2 : 2 ^ 10 ≤ 2 ^ j := Nat.pow_le_pow_right (by omega) hj
  omega
/-- the set is a tree of the n points -/
def tc_it (t : Nat → Bool) (a b : Nat → Nat) (n m : Nat) : Bool := decide ((tc_hl m 10).length + 1 = n) && tn_rl t a b (tc_hl m 10) id
/-- the number of trees that have all lines of i and none of o -/
def tc_N (t : Nat → Bool) (a b : Nat → Nat) (n i o : Nat) : Nat := tc_cb (fun m => (decide (m &&& i = i) && decide (m &&& o = 0)) && tc_it t a b n m) 1024
def tc_F (t : Nat → Bool) (i o k : Nat) : List Nat := (tc_dn k).filter (tc_fr t i.testBit o.testBit)
theorem tc_N_00 {t : Nat → Bool} {a b : Nat → Nat} {n i o : Nat} (h : ¬ i &&& o = 0) : tc_N t a b n i o = 0 := by
  apply tc_cb_0
  intro m _
  by_cases h1 : m &&& i = i
  · by_cases h2 : m &&& o = 0
    · exfalso
      apply h
      rw [← h1, Nat.and_comm m i, Nat.and_assoc, h2, Nat.and_zero]
    · simp [h2]
  · simp [h1]
theorem tc_N_1 {t : Nat → Bool} {a b : Nat → Nat} {n i o : Nat} (hi : i < 1024) (ho : o < 1024) (hd : i &&& o = 0) : tc_N t a b n i o =
    tc_cs (tc_F t i o 10) (fun S => decide ((tc_up i 10 ++ S).length + 1 = n) && tn_rl t a b (tc_up i 10 ++ S) id) := by
  have e1 : tc_N t a b n i o = tc_cb (fun m => tc_ok i.testBit o.testBit m 10 && (fun S : List Nat => decide (S.length + 1 = n) && tn_rl t a b S id) (tc_hl m 10)) (2 ^ 10) := by
    apply tc_cb_congr
    intro m hm
    have e : (decide (m &&& i = i) && decide (m &&& o = 0)) = tc_ok i.testBit o.testBit m 10 := by
      rw [Bool.eq_iff_iff, tc_ok_iff, Bool.and_eq_true, decide_eq_true_eq, decide_eq_true_eq, tc_sub_iff, tc_dis_iff]
      constructor
      · intro h j _
        exact ⟨h.1 j, h.2 j⟩
      · intro h
        refine ⟨fun j hj => ?_, fun j hj => ?_⟩
        · by_cases hl : j < 10
          · exact (h j hl).1 hj
          · rw [tc_big hi (by omega)] at hj
            exact absurd hj (by decide)
        · by_cases hl : j < 10
          · exact (h j hl).2 hj
          · rw [tc_big ho (by omega)] at hj
            exact absurd hj (by decide)
    rw [e]
    rfl
  refine e1.trans ((tc_bits i.testBit o.testBit 10 (fun S : List Nat => decide (S.length + 1 = n) && tn_rl t a b S id)).trans ?_)
  rw [tc_split t _ _ _ _ ?h1 ?h2 ?h3, tc_dn_filter]
  · refine tc_cs_congr _ (fun S => ?_)
    have pm : (tc_hl i 10 ++ S).Perm (tc_up i 10 ++ S) := (tc_up_perm i 10).symm.append_right S
    show (decide ((tc_hl i 10 ++ S).length + 1 = n) && tn_rl t a b (tc_hl i 10 ++ S) id) = _
    rw [pm.length_eq, tn_rl_perm t a b pm]
  case h1 =>
    intro S S' h
    show (decide (S.length + 1 = n) && tn_rl t a b S id) = (decide (S'.length + 1 = n) && tn_rl t a b S' id)
    rw [h.length_eq, tn_rl_perm t a b h]
  case h2 =>
    intro k S h1 h2
    show (decide (S.length + 1 = n) && tn_rl t a b S id) = false
    cases hr : tn_rl t a b S id
    · rw [Bool.and_false]
    · have := tn_rl_t t a b S id hr k h2
      rw [h1] at this
      exact absurd this (by decide)
  case h3 =>
    intro k _ h
    have := tc_dis_iff.mp hd k h.2
    rw [h.1] at this
    exact absurd this (by decide)
theorem tc_N_0 {t : Nat → Bool} {a b : Nat → Nat} {n i o : Nat} (hi : i < 1024) (ho : o < 1024) (hr : tn_rl t a b (tc_up i 10) id = false) : tc_N t a b n i o = 0 := by
  by_cases hd : i &&& o = 0
  · rw [tc_N_1 hi ho hd]
    apply tc_cs_0
    intro S
    rw [tn_rl_app, hr, Bool.false_and, Bool.and_false]
  · exact tc_N_00 hd
theorem tc_F_t (t : Nat → Bool) (i o k : Nat) : ∀ j ∈ tc_F t i o k, t j = true := by
  intro j hj
  have h := (List.mem_filter.mp hj).2
  unfold tc_fr at h
  rw [Bool.and_eq_true] at h
  exact h.1
theorem tc_N_eq {t : Nat → Bool} {a b : Nat → Nat} {n i o : Nat} (hi : i < 1024) (ho : o < 1024) (hd : i &&& o = 0) (hr : tn_rl t a b (tc_up i 10) id = true) :
    tc_N t a b n i o = tn_cT a b (tc_F t i o 10) (tn_af a b (tc_up i 10) id) (n - (tc_up i 10).length) := by
  rw [tc_N_1 hi ho hd, tc_cT t a b _ _ _ (tc_F_t t i o 10)]
  refine tc_cs_congr _ (fun S => ?_)
  rw [tn_rl_app, hr, Bool.true_and, Bool.and_comm]
  congr 1
  apply decide_eq_decide.mpr
  rw [List.length_append]
  omega
end
section
/-! Elimination without fractions: the numbers that the matrix holds are whole, small, and end at the number of trees. -/
def tb_G (M : Nat → Nat → Int) : Nat → Nat → Nat → Rat
  | 0, i, j => ((M i j : Int) : Rat)
  | k + 1, i, j => tb_G M k i j - tb_G M k i k * tb_G M k k j / tb_G M k k k
def tb_P (M : Nat → Nat → Int) : Nat → Rat
  | 0 => 1
  | k + 1 => tb_P M k * tb_G M k k k
def tb_L (M : Nat → Nat → Int) (r k : Nat) : Prop :=
  (∀ i j, tb_G M k i j = tb_G M k j i) ∧ (∀ i j, k ≤ i → i < r → k ≤ j → j < r → i ≠ j → tb_G M k i j ≤ 0) ∧
  (∀ i, k ≤ i → i < r → tw_sm (tb_G M k i) (List.range' k (r - k)) = 0) ∧ (∀ i, k ≤ i → i < r → tb_G M k i i ≤ 10)
theorem tb_sm_le {f : Nat → Rat} : ∀ l : List Nat, (∀ x ∈ l, f x ≤ 0) → tw_sm f l ≤ 0 := by
  intro l
  induction l with
  | nil => intro _; exact Rat.le_refl
  | cons x l ih =>
    intro h
    have h1 := h x List.mem_cons_self
    have h2 := ih (fun y hy => h y (List.mem_cons_of_mem _ hy))
    simp only [tw_sm]
    grind
theorem tb_sm_1 {f : Nat → Rat} {l : List Nat} {i : Nat} (hn : l.Nodup) (hi : i ∈ l) (h : ∀ x ∈ l, x ≠ i → f x ≤ 0) : tw_sm f l ≤ f i := by
  rw [tw_sm_perm (List.perm_cons_erase hi)]
  have h2 : tw_sm f (l.erase i) ≤ 0 := by
    apply tb_sm_le
    intro x hx
    have := (List.Nodup.mem_erase_iff hn).mp hx
    exact h x this.2 this.1
  simp only [tw_sm]
  grind
theorem tb_sm_2 {f : Nat → Rat} {l : List Nat} {i j : Nat} (hn : l.Nodup) (hi : i ∈ l) (hj : j ∈ l) (hij : j ≠ i) (h : ∀ x ∈ l, x ≠ i → f x ≤ 0) : tw_sm f l ≤ f i + f j := by
  rw [tw_sm_perm (List.perm_cons_erase hi)]
  have hj' : j ∈ l.erase i := (List.mem_erase_of_ne hij).mpr hj
  have h2 : tw_sm f (l.erase i) ≤ f j := by
    apply tb_sm_1 (hn.erase i) hj'
    intro x hx _
    have := (List.Nodup.mem_erase_iff hn).mp hx
    exact h x this.2 this.1
  simp only [tw_sm]
  grind
theorem tb_mem {k r i : Nat} (h1 : k ≤ i) (h2 : i < r) : i ∈ List.range' k (r - k) := by
  rw [List.mem_range'_1]
  omega
theorem tb_pos {M : Nat → Nat → Int} {r k i : Nat} (h : tb_L M r k) (h1 : k ≤ i) (h2 : i < r) : 0 ≤ tb_G M k i i := by
  have e := h.2.2.1 i h1 h2
  have l := tb_sm_1 (f := tb_G M k i) (i := i) (List.nodup_range' (s := k) (n := r - k)) (tb_mem h1 h2) (by
    intro x hx ne
    rw [List.mem_range'_1] at hx
    exact h.2.1 i x h1 h2 hx.1 (by omega) (Ne.symm ne))
  rw [e] at l
  exact l
theorem tb_abs {M : Nat → Nat → Int} {r k i j : Nat} (h : tb_L M r k) (h1 : k ≤ i) (h2 : i < r) (h3 : k ≤ j) (h4 : j < r) : -10 ≤ tb_G M k i j ∧ tb_G M k i j ≤ 10 := by
  have p := tb_pos h h1 h2
  have q := h.2.2.2 i h1 h2
  by_cases z : j = i
  · subst z
    exact ⟨by grind, q⟩
  · have e := h.2.2.1 i h1 h2
    have l := tb_sm_2 (f := tb_G M k i) (i := i) (j := j) (List.nodup_range' (s := k) (n := r - k)) (tb_mem h1 h2) (tb_mem h3 h4) z (by
      intro x hx ne
      rw [List.mem_range'_1] at hx
      exact h.2.1 i x h1 h2 hx.1 (by omega) (Ne.symm ne))
    rw [e] at l
    have u := h.2.1 i j h1 h2 h3 h4 (Ne.symm z)
    exact ⟨by grind, by grind⟩
theorem tb_range {k r : Nat} (h : k < r) : List.range' k (r - k) = k :: List.range' (k + 1) (r - (k + 1)) := by
  have e : r - k = (r - (k + 1)) + 1 := by omega
  rw [e, List.range'_succ]
theorem tb_sm_lin (f g : Nat → Rat) (c : Rat) : ∀ l : List Nat, tw_sm (fun x => f x - c * g x) l = tw_sm f l - c * tw_sm g l := by
  intro l
  induction l with
  | nil => simp only [tw_sm]; grind
  | cons x l ih => simp only [tw_sm, ih]; grind
theorem tb_L_s {M : Nat → Nat → Int} {r k : Nat} (h : tb_L M r k) (hk : k < r) (hz : tb_G M k k k ≠ 0) : tb_L M r (k + 1) := by
  have hp : 0 ≤ tb_G M k k k := tb_pos h (Nat.le_refl k) hk
  refine ⟨?_, ?_, ?_, ?_⟩
  · intro i j
    simp only [tb_G]
    rw [h.1 i j, h.1 i k, h.1 k j, Rat.mul_comm (tb_G M k k i)]
  · intro i j h1 h2 h3 h4 ne
    simp only [tb_G]
    have a1 := h.2.1 i j (by omega) h2 (by omega) h4 ne
    have a2 := h.2.1 i k (by omega) h2 (Nat.le_refl k) hk (by omega)
    have a3 := h.2.1 k j (Nat.le_refl k) hk (by omega) h4 (by omega)
    have a4 : 0 ≤ tb_G M k i k * tb_G M k k j := by
      have e : tb_G M k i k * tb_G M k k j = (- tb_G M k i k) * (- tb_G M k k j) := by grind
      rw [e]
      exact Rat.mul_nonneg (by grind) (by grind)
    have a5 := tw_div_nn a4 hp
    grind
  · intro i h1 h2
    have e1 := h.2.2.1 i (by omega) h2
    have e2 := h.2.2.1 k (Nat.le_refl k) hk
    rw [tb_range hk] at e1 e2
    simp only [tw_sm] at e1 e2
    have e3 : tw_sm (tb_G M (k + 1) i) (List.range' (k + 1) (r - (k + 1))) = tw_sm (tb_G M k i) (List.range' (k + 1) (r - (k + 1))) - (tb_G M k i k / tb_G M k k k) * tw_sm (tb_G M k k) (List.range' (k + 1) (r - (k + 1))) := by
      rw [← tb_sm_lin]
      apply tw_sm_congr
      intro x _
      simp only [tb_G, Rat.div_def]
      grind
    rw [e3]
    have e4 : tb_G M k i k / tb_G M k k k * tb_G M k k k = tb_G M k i k := Rat.div_mul_cancel hz
    generalize tw_sm (tb_G M k i) (List.range' (k + 1) (r - (k + 1))) = s1 at e1 ⊢
    generalize tw_sm (tb_G M k k) (List.range' (k + 1) (r - (k + 1))) = s2 at e2 ⊢
    have e5 : s2 = - tb_G M k k k := by grind
    rw [e5]
    grind
  · intro i h1 h2
    simp only [tb_G]
    have a1 := h.2.2.2 i (by omega) h2
    have a4 : 0 ≤ tb_G M k i k * tb_G M k k i := by
      rw [h.1 k i]
      have a2 := h.2.1 i k (by omega) h2 (Nat.le_refl k) hk (by omega)
      have e : tb_G M k i k * tb_G M k i k = (- tb_G M k i k) * (- tb_G M k i k) := by grind
      rw [e]
      exact Rat.mul_nonneg (by grind) (by grind)
    have a5 := tw_div_nn a4 hp
    grind
theorem tb_sm_neg (f : Nat → Rat) : ∀ l : List Nat, tw_sm (fun x => - f x) l = - tw_sm f l := by
  intro l
  induction l with
  | nil => simp only [tw_sm]; grind
  | cons x l ih => simp only [tw_sm, ih]; grind
theorem tb_tau {M : Nat → Nat → Int} {r k : Nat} (h : tb_L M r k) (hk : k + 1 < r) :
    tw_tau (List.range' k (r - k)) (fun x y => - tb_G M k x y) = tb_G M k k k * tw_tau (List.range' (k + 1) (r - (k + 1))) (fun x y => - tb_G M (k + 1) x y) := by
  have e2 := h.2.2.1 k (Nat.le_refl k) (by omega)
  rw [tb_range (show k < r by omega)] at e2 ⊢
  have ne : List.range' (k + 1) (r - (k + 1)) ≠ [] := by
    have e : r - (k + 1) = (r - (k + 1) - 1) + 1 := by omega
    rw [e, List.range'_succ]
    exact List.cons_ne_nil _ _
  simp only [tw_sm] at e2
  have d : tw_sm ((fun x y => - tb_G M k x y) k) (List.range' (k + 1) (r - (k + 1))) = tb_G M k k k := by
    show tw_sm (fun y => - tb_G M k k y) _ = _
    rw [tb_sm_neg]
    grind
  rw [tw_tau_c ne, d]
  congr 2
  funext x y
  simp only [tw_el]
  rw [d]
  simp only [tb_G, Rat.div_def]
  grind
theorem tb_run {M : Nat → Nat → Int} {r : Nat} (h0 : tb_L M r 0) : ∀ k, k < r → (∀ j, j < k → tb_G M j j j ≠ 0) →
    tb_L M r k ∧ tw_tau (List.range' 0 r) (fun x y => - tb_G M 0 x y) = tb_P M k * tw_tau (List.range' k (r - k)) (fun x y => - tb_G M k x y) := by
  intro k
  induction k with
  | zero =>
    intro _ _
    refine ⟨h0, ?_⟩
    simp only [tb_P, Nat.sub_zero]
    grind
  | succ k ih =>
    intro hk hj
    have I := ih (by omega) (fun j h => hj j (by omega))
    refine ⟨tb_L_s I.1 (by omega) (hj k (by omega)), ?_⟩
    rw [I.2, tb_tau I.1 hk]
    simp only [tb_P]
    rw [Rat.mul_assoc]
theorem tb_P_b {M : Nat → Nat → Int} {r : Nat} (h0 : tb_L M r 0) : ∀ k, k ≤ r → (∀ j, j < k → tb_G M j j j ≠ 0) → 0 ≤ tb_P M k ∧ tb_P M k ≤ 10 ^ k := by
  intro k
  induction k with
  | zero =>
    intro _ _
    simp only [tb_P, Rat.pow_zero]
    exact ⟨by decide, Rat.le_refl⟩
  | succ k ih =>
    intro hk hj
    have I := ih (by omega) (fun j h => hj j (by omega))
    have R := (tb_run h0 k (by omega) (fun j h => hj j (by omega))).1
    have p := tb_pos R (Nat.le_refl k) (by omega)
    have q := R.2.2.2 k (Nat.le_refl k) (by omega)
    simp only [tb_P, Rat.pow_succ]
    refine ⟨Rat.mul_nonneg I.1 p, ?_⟩
    have s1 : tb_P M k * tb_G M k k k ≤ tb_P M k * 10 := Rat.mul_le_mul_of_nonneg_left q I.1
    have s2 : tb_P M k * 10 ≤ 10 ^ k * 10 := Rat.mul_le_mul_of_nonneg_right I.2 (by decide)
    exact Rat.le_trans s1 s2
def tb_z1 (M : Nat → Nat → Int) (i j : Nat) : Int := M 0 0 * M i j - M i 0 * M 0 j
def tb_z2 (M : Nat → Nat → Int) (i j : Nat) : Int := M 0 0 * (M 1 1 * M i j - M 1 j * M i 1) - M 0 1 * (M 1 0 * M i j - M 1 j * M i 0) + M 0 j * (M 1 0 * M i 1 - M 1 1 * M i 0)
def tb_d3 (M : Nat → Nat → Int) (p q s : Nat) : Int := M 0 p * (M 1 q * M 2 s - M 1 s * M 2 q) - M 0 q * (M 1 p * M 2 s - M 1 s * M 2 p) + M 0 s * (M 1 p * M 2 q - M 1 q * M 2 p)
def tb_z3 (M : Nat → Nat → Int) (i j : Nat) : Int := M i j * tb_d3 M 0 1 2 - M i 2 * tb_d3 M 0 1 j + M i 1 * tb_d3 M 0 2 j - M i 0 * tb_d3 M 1 2 j
theorem tb_I2 (m00 m01 m10 m11 m0j m1j mi0 mi1 mij : Int) :
    (m00 * m11 - m10 * m01) * (m00 * mij - mi0 * m0j) - (m00 * mi1 - mi0 * m01) * (m00 * m1j - m10 * m0j) = m00 * (m00 * (m11 * mij - m1j * mi1) - m01 * (m10 * mij - m1j * mi0) + m0j * (m10 * mi1 - m11 * mi0)) := by
  grind
theorem tb_I2' (M : Nat → Nat → Int) (i j : Nat) : tb_z1 M 1 1 * tb_z1 M i j - tb_z1 M i 1 * tb_z1 M 1 j = M 0 0 * tb_z2 M i j := by
  unfold tb_z1 tb_z2
  exact tb_I2 _ _ _ _ _ _ _ _ _
theorem tb_I3 (m00 m01 m02 m10 m11 m12 m20 m21 m22 m0j m1j m2j mi0 mi1 mi2 mij : Int) :
    (m00 * (m11 * m22 - m12 * m21) - m01 * (m10 * m22 - m12 * m20) + m02 * (m10 * m21 - m11 * m20)) * (m00 * (m11 * mij - m1j * mi1) - m01 * (m10 * mij - m1j * mi0) + m0j * (m10 * mi1 - m11 * mi0)) -
    (m00 * (m11 * mi2 - m12 * mi1) - m01 * (m10 * mi2 - m12 * mi0) + m02 * (m10 * mi1 - m11 * mi0)) * (m00 * (m11 * m2j - m1j * m21) - m01 * (m10 * m2j - m1j * m20) + m0j * (m10 * m21 - m11 * m20)) =
    (m00 * m11 - m10 * m01) * (mij * (m00 * (m11 * m22 - m12 * m21) - m01 * (m10 * m22 - m12 * m20) + m02 * (m10 * m21 - m11 * m20)) - mi2 * (m00 * (m11 * m2j - m1j * m21) - m01 * (m10 * m2j - m1j * m20) + m0j * (m10 * m21 - m11 * m20)) + mi1 * (m00 * (m12 * m2j - m1j * m22) - m02 * (m10 * m2j - m1j * m20) + m0j * (m10 * m22 - m12 * m20)) - mi0 * (m01 * (m12 * m2j - m1j * m22) - m02 * (m11 * m2j - m1j * m21) + m0j * (m11 * m22 - m12 * m21))) := by
  grind
theorem tb_I3' (M : Nat → Nat → Int) (i j : Nat) : tb_z2 M 2 2 * tb_z2 M i j - tb_z2 M i 2 * tb_z2 M 2 j = tb_z1 M 1 1 * tb_z3 M i j := by
  unfold tb_z3 tb_z2 tb_z1 tb_d3
  exact tb_I3 _ _ _ _ _ _ _ _ _ _ _ _ _ _ _ _
theorem tb_rec {M : Nat → Nat → Int} {k : Nat} (hz : tb_G M k k k ≠ 0) (i j : Nat) :
    tb_P M (k + 1) * tb_G M (k + 1) i j * tb_P M k = (tb_P M k * tb_G M k k k) * (tb_P M k * tb_G M k i j) - (tb_P M k * tb_G M k i k) * (tb_P M k * tb_G M k k j) := by
  simp only [tb_P, tb_G, Rat.div_def]
  have i1 : tb_G M k k k * (tb_G M k k k)⁻¹ = 1 := Rat.mul_inv_cancel _ hz
  generalize (tb_G M k k k)⁻¹ = r at i1 ⊢
  generalize tb_G M k k k = g at i1 ⊢
  generalize tb_G M k i j = x
  generalize tb_G M k i k = y
  generalize tb_G M k k j = z
  generalize tb_P M k = p
  grind
theorem tb_can {x y z : Rat} (h : x * z = y * z) (hz : z ≠ 0) : x = y := by
  have h1 : x * z / z = x := Rat.mul_div_cancel hz
  have h2 : y * z / z = y := Rat.mul_div_cancel hz
  rw [← h1, ← h2, h]
theorem tb_Z1 {M : Nat → Nat → Int} (h0 : tb_G M 0 0 0 ≠ 0) (i j : Nat) : ((tb_z1 M i j : Int) : Rat) = tb_P M 1 * tb_G M 1 i j := by
  have h := tb_rec h0 i j
  have e0 : tb_P M 0 = 1 := rfl
  have e1 : ∀ i j, tb_G M 0 i j = ((M i j : Int) : Rat) := fun _ _ => rfl
  rw [e0] at h
  simp only [e1] at h
  unfold tb_z1
  rw [Rat.intCast_sub, Rat.intCast_mul, Rat.intCast_mul]
  simp only [Nat.zero_add] at h
  grind
theorem tb_P1 (M : Nat → Nat → Int) : tb_P M 1 = ((M 0 0 : Int) : Rat) := by
  show 1 * tb_G M 0 0 0 = _
  rw [Rat.one_mul]
  rfl
theorem tb_Z2 {M : Nat → Nat → Int} (h0 : tb_G M 0 0 0 ≠ 0) (h1 : tb_G M 1 1 1 ≠ 0) (i j : Nat) : ((tb_z2 M i j : Int) : Rat) = tb_P M 2 * tb_G M 2 i j := by
  have h := tb_rec h1 i j
  rw [← tb_Z1 h0, ← tb_Z1 h0, ← tb_Z1 h0, ← tb_Z1 h0, ← Rat.intCast_mul, ← Rat.intCast_mul, ← Rat.intCast_sub, tb_I2', Rat.intCast_mul, tb_P1, Rat.mul_comm ((M 0 0 : Int) : Rat)] at h
  exact (tb_can h h0).symm
theorem tb_P2 {M : Nat → Nat → Int} (h0 : tb_G M 0 0 0 ≠ 0) : tb_P M 2 = ((tb_z1 M 1 1 : Int) : Rat) := by
  rw [tb_Z1 h0]
  rfl
theorem tb_Z3 {M : Nat → Nat → Int} (h0 : tb_G M 0 0 0 ≠ 0) (h1 : tb_G M 1 1 1 ≠ 0) (h2 : tb_G M 2 2 2 ≠ 0) (i j : Nat) : ((tb_z3 M i j : Int) : Rat) = tb_P M 3 * tb_G M 3 i j := by
  have h := tb_rec h2 i j
  have n : ((tb_z1 M 1 1 : Int) : Rat) ≠ 0 := by
    rw [tb_Z1 h0, tb_P1]
    intro e
    rcases Rat.mul_eq_zero.mp e with e | e
    · exact h0 e
    · exact h1 e
  rw [← tb_Z2 h0 h1, ← tb_Z2 h0 h1, ← tb_Z2 h0 h1, ← tb_Z2 h0 h1, ← Rat.intCast_mul, ← Rat.intCast_mul, ← Rat.intCast_sub, tb_I3', Rat.intCast_mul, tb_P2 h0, Rat.mul_comm ((tb_z1 M 1 1 : Int) : Rat)] at h
  exact (tb_can h n).symm
def tb_Z (M : Nat → Nat → Int) (c : Int) : Nat → Nat → Nat → Int
  | 0, i, j => M i j
  | 1, i, j => tb_z1 M i j
  | 2, i, j => tb_z2 M i j
  | 3, i, j => tb_z3 M i j
  | _ + 4, _, _ => c
/-- the divisor at step k -/
def tb_Q (M : Nat → Nat → Int) (c : Int) : Nat → Int
  | 0 => 1
  | k + 1 => tb_Z M c k k k
theorem tb_ZG {M : Nat → Nat → Int} {r : Nat} {c : Int} (h0 : tb_L M r 0) (hr : r ≤ 6) (hc : tw_tau (List.range' 0 r) (fun x y => - tb_G M 0 x y) = ((c : Int) : Rat)) {k i j : Nat} (hk : k + 1 < r) (hg : ∀ l, l < k → tb_G M l l l ≠ 0)
    (h1 : k ≤ i) (h2 : i + 1 < r) (h3 : k ≤ j) (h4 : j + 1 < r) : ((tb_Z M c k i j : Int) : Rat) = tb_P M k * tb_G M k i j := by
  match k, hk, hg, h1, h3 with
  | 0, _, _, _, _ =>
    show ((M i j : Int) : Rat) = 1 * ((M i j : Int) : Rat)
    rw [Rat.one_mul]
  | 1, _, hg, _, _ => exact tb_Z1 (hg 0 (by omega)) i j
  | 2, _, hg, _, _ => exact tb_Z2 (hg 0 (by omega)) (hg 1 (by omega)) i j
  | 3, _, hg, _, _ => exact tb_Z3 (hg 0 (by omega)) (hg 1 (by omega)) (hg 2 (by omega)) i j
  | 4, hk, hg, h1, h3 =>
    have er : r = 6 := by omega
    subst er
    have ei : i = 4 := by omega
    have ej : j = 4 := by omega
    subst ei
    subst ej
    have R := tb_run h0 4 (by omega) hg
    have T := tb_tau R.1 (by omega)
    have e1 : tw_tau (List.range' (4 + 1) (6 - (4 + 1))) (fun x y => - tb_G M (4 + 1) x y) = 1 := rfl
    rw [e1, Rat.mul_one] at T
    rw [T, hc] at R
    exact R.2
  | k + 5, hk, _, _, _ => omega
theorem tb_nz {M : Nat → Nat → Int} {r : Nat} {c : Int} (h0 : tb_L M r 0) (hr : r ≤ 6) (hc : tw_tau (List.range' 0 r) (fun x y => - tb_G M 0 x y) = ((c : Int) : Rat)) :
    ∀ k, k < r → (∀ l, l < k → tb_Z M c l l l ≠ 0) → (∀ l, l < k → tb_G M l l l ≠ 0) := by
  intro k
  induction k with
  | zero => intro _ _ l hl; exact absurd hl (Nat.not_lt_zero l)
  | succ k ih =>
    intro hk hz l hl
    have I := ih (by omega) (fun l h => hz l (by omega))
    by_cases e : l = k
    · subst e
      intro g
      have z := tb_ZG h0 hr hc (k := l) (i := l) (j := l) hk I (Nat.le_refl l) hk (Nat.le_refl l) hk
      rw [g, Rat.mul_zero] at z
      exact hz l hl (Rat.intCast_eq_zero_iff.mp z)
    · exact I l (by omega)
theorem tb_QP {M : Nat → Nat → Int} {r : Nat} {c : Int} (h0 : tb_L M r 0) (hr : r ≤ 6) (hc : tw_tau (List.range' 0 r) (fun x y => - tb_G M 0 x y) = ((c : Int) : Rat)) {k : Nat} (hk : k < r) (hz : ∀ l, l < k → tb_Z M c l l l ≠ 0) : ((tb_Q M c k : Int) : Rat) = tb_P M k := by
  cases k with
  | zero => rfl
  | succ k => exact tb_ZG h0 hr hc hk (tb_nz h0 hr hc k (by omega) (fun l h => hz l (by omega))) (Nat.le_refl k) hk (Nat.le_refl k) hk
theorem tb_p10 {k : Nat} (hk : k < 5) : (10 : Rat) ^ k * 10 ≤ 100000 := by
  match k, hk with
  | 0, _ => grind
  | 1, _ => grind
  | 2, _ => grind
  | 3, _ => grind
  | 4, _ => grind
theorem tb_bd {M : Nat → Nat → Int} {r : Nat} {c : Int} (h0 : tb_L M r 0) (hr : r ≤ 6) (hc : tw_tau (List.range' 0 r) (fun x y => - tb_G M 0 x y) = ((c : Int) : Rat)) {k i j : Nat} (hk : k + 1 < r) (hz : ∀ l, l < k → tb_Z M c l l l ≠ 0)
    (h1 : k ≤ i) (h2 : i + 1 < r) (h3 : k ≤ j) (h4 : j + 1 < r) : -100000 ≤ tb_Z M c k i j ∧ tb_Z M c k i j ≤ 100000 := by
  have hg := tb_nz h0 hr hc k (by omega) hz
  have z := tb_ZG h0 hr hc hk hg h1 h2 h3 h4
  have p := tb_P_b h0 k (by omega) hg
  have R := (tb_run h0 k (by omega) hg).1
  have q := tb_abs R h1 (show i < r by omega) h3 (show j < r by omega)
  have t := tb_p10 (show k < 5 by omega)
  have u1 : tb_P M k * tb_G M k i j ≤ tb_P M k * 10 := Rat.mul_le_mul_of_nonneg_left q.2 p.1
  have u2 : tb_P M k * -10 ≤ tb_P M k * tb_G M k i j := Rat.mul_le_mul_of_nonneg_left q.1 p.1
  have u3 : tb_P M k * 10 ≤ 10 ^ k * 10 := Rat.mul_le_mul_of_nonneg_right p.2 (by decide)
  rw [← z] at u1 u2
  generalize (10 : Rat) ^ k * 10 = w at t u3
  constructor
  · have : ((-100000 : Int) : Rat) ≤ ((tb_Z M c k i j : Int) : Rat) := by
      have e : ((-100000 : Int) : Rat) = -100000 := rfl
      rw [e]
      grind
    exact Rat.intCast_le_intCast.mp this
  · have : ((tb_Z M c k i j : Int) : Rat) ≤ ((100000 : Int) : Rat) := by
      have e : ((100000 : Int) : Rat) = 100000 := rfl
      rw [e]
      grind
    exact Rat.intCast_le_intCast.mp this
theorem tb_step {M : Nat → Nat → Int} {r : Nat} {c : Int} (h0 : tb_L M r 0) (hr : r ≤ 6) (hc : tw_tau (List.range' 0 r) (fun x y => - tb_G M 0 x y) = ((c : Int) : Rat)) {k i j : Nat} (hz : ∀ l, l ≤ k → tb_Z M c l l l ≠ 0)
    (h1 : k < i) (h2 : i + 1 < r) (h3 : k < j) (h4 : j + 1 < r) : tb_Z M c k k k * tb_Z M c k i j - tb_Z M c k i k * tb_Z M c k k j = tb_Z M c (k + 1) i j * tb_Q M c k := by
  have hg1 := tb_nz h0 hr hc (k + 1) (by omega) (fun l h => hz l (by omega))
  have hg : ∀ l, l < k → tb_G M l l l ≠ 0 := fun l h => hg1 l (by omega)
  have e := tb_rec (M := M) (k := k) (hg1 k (by omega)) i j
  have k1 : k + 1 < r := by omega
  have z : ∀ x y, k ≤ x → x + 1 < r → k ≤ y → y + 1 < r → ((tb_Z M c k x y : Int) : Rat) = tb_P M k * tb_G M k x y := fun x y a1 a2 a3 a4 => tb_ZG h0 hr hc k1 hg a1 a2 a3 a4
  have z1 := tb_ZG h0 hr hc (k := k + 1) (i := i) (j := j) (by omega) hg1 (by omega) h2 (by omega) h4
  have q := tb_QP h0 hr hc (k := k) (by omega) (fun l h => hz l (by omega))
  rw [← z k k (by omega) (by omega) (by omega) (by omega), ← z i j (by omega) (by omega) (by omega) (by omega), ← z i k (by omega) (by omega) (by omega) (by omega), ← z k j (by omega) (by omega) (by omega) (by omega), ← z1, ← q, ← Rat.intCast_mul, ← Rat.intCast_mul, ← Rat.intCast_mul, ← Rat.intCast_sub] at e
  exact (Rat.intCast_inj.mp e).symm
theorem tb_end {M : Nat → Nat → Int} {r : Nat} {c : Int} (h0 : tb_L M r 0) (hr : r ≤ 6) (hc : tw_tau (List.range' 0 r) (fun x y => - tb_G M 0 x y) = ((c : Int) : Rat)) {k : Nat} (hk : k + 1 = r) (hz : ∀ l, l < k → tb_Z M c l l l ≠ 0) : tb_Q M c k = c := by
  have hg := tb_nz h0 hr hc k (by omega) hz
  have q := tb_QP h0 hr hc (k := k) (by omega) hz
  have R := (tb_run h0 k (by omega) hg).2
  have e1 : r - k = 1 := by omega
  have e2 : tw_tau (List.range' k 1) (fun x y => - tb_G M k x y) = 1 := rfl
  rw [e1, e2, Rat.mul_one, ← q, hc] at R
  exact (Rat.intCast_inj.mp R).symm
theorem tb_zero {M : Nat → Nat → Int} {r : Nat} {c : Int} (h0 : tb_L M r 0) (hr : r ≤ 6) (hc : tw_tau (List.range' 0 r) (fun x y => - tb_G M 0 x y) = ((c : Int) : Rat)) {k : Nat} (hk : k + 1 < r) (hz : ∀ l, l < k → tb_Z M c l l l ≠ 0) (z0 : tb_Z M c k k k = 0) : c = 0 := by
  have hg := tb_nz h0 hr hc k (by omega) hz
  have z := tb_ZG h0 hr hc hk hg (Nat.le_refl k) hk (Nat.le_refl k) hk
  have R := tb_run h0 k (by omega) hg
  rw [tb_tau R.1 hk, ← Rat.mul_assoc, ← z, z0, hc] at R
  have e : ((c : Int) : Rat) = 0 := by
    rw [R.2]
    show (0 : Rat) * _ = 0
    rw [Rat.zero_mul]
  exact Rat.intCast_eq_zero_iff.mp e
end
section
/-! Rows of names, the matrix of the free lines, and sets in an interval. -/
def tn_rk (nm : Nat → Nat) : Nat → Nat
  | 0 => 0
  | p + 1 => tn_rk nm p + if nm p = p then 1 else 0
def tn_Id (n : Nat) (nm : Nat → Nat) : Prop := (∀ p, nm (nm p) = nm p) ∧ (∀ p, p < n → nm p < n)
theorem tn_Id_id (n : Nat) : tn_Id n id := ⟨fun _ => rfl, fun _ h => h⟩
theorem tn_Id_jn {n : Nat} {nm : Nat → Nat} {a b : Nat} (h : tn_Id n nm) (ha : a < n) (ne : nm a ≠ nm b) : tn_Id n (tn_jn nm a b) := by
  refine ⟨fun p => ?_, fun p hp => ?_⟩
  · unfold tn_jn
    by_cases z : nm p = nm b
    · rw [if_pos z, if_neg (by rw [h.1 a]; exact ne), h.1 a]
    · rw [if_neg z, if_neg (by rw [h.1 p]; exact z), h.1 p]
  · unfold tn_jn
    split
    · exact h.2 a ha
    · exact h.2 p hp
theorem tn_rk_j0 {n : Nat} {nm : Nat → Nat} {a b : Nat} (h : tn_Id n nm) (ne : nm a ≠ nm b) (p : Nat) : tn_jn nm a b p = p ↔ (nm p = p ∧ p ≠ nm b) := by
  unfold tn_jn
  by_cases z : nm p = nm b
  · rw [if_pos z]
    constructor
    · intro e
      exfalso
      apply ne
      have := h.1 a
      rw [e] at this
      exact e.trans (this.symm.trans z)
    · intro ⟨h1, h2⟩
      exact absurd (h1.symm.trans z) h2
  · rw [if_neg z]
    constructor
    · intro e
      exact ⟨e, fun h2 => z (by rw [e]; exact h2)⟩
    · intro e; exact e.1
theorem tn_rk_jn {n : Nat} {nm : Nat → Nat} {a b : Nat} (h : tn_Id n nm) (ne : nm a ≠ nm b) : ∀ s, tn_rk (tn_jn nm a b) s + (if nm b < s then 1 else 0) = tn_rk nm s := by
  intro s
  induction s with
  | zero => rfl
  | succ s ih =>
    simp only [tn_rk]
    have r := tn_rk_j0 h ne s
    by_cases z : s = nm b
    · have e1 : ¬ tn_jn nm a b s = s := fun e => (r.mp e).2 z
      have e2 : nm s = s := by rw [z]; exact h.1 b
      rw [if_neg e1, if_pos e2, if_pos (by omega)]
      rw [if_neg (by omega)] at ih
      omega
    · have e : (nm b < s + 1) = (nm b < s) := by
        apply propext
        omega
      simp only [e]
      by_cases y : nm s = s
      · rw [if_pos (r.mpr ⟨y, z⟩), if_pos y]
        omega
      · rw [if_neg (fun e => y (r.mp e).1), if_neg y]
        omega
theorem tn_rk_id : ∀ n, tn_rk id n = n := by
  intro n
  induction n with
  | zero => rfl
  | succ n ih =>
    simp only [tn_rk, id]
    rw [if_pos trivial]
    omega
theorem tn_af_rk (t : Nat → Bool) (a b : Nat → Nat) {n : Nat} : ∀ (L : List Nat) (nm : Nat → Nat), tn_Id n nm → (∀ k ∈ L, a k < n ∧ b k < n) → tn_rl t a b L nm = true → tn_Id n (tn_af a b L nm) ∧ tn_rk (tn_af a b L nm) n + L.length = tn_rk nm n := by
  intro L
  induction L with
  | nil => intro nm h _ _; exact ⟨h, rfl⟩
  | cons k L ih =>
    intro nm h hL hr
    rw [tn_rl_c, Bool.and_eq_true, Bool.and_eq_true, decide_eq_true_eq] at hr
    have hk := hL k List.mem_cons_self
    have I := ih (tn_jn nm (a k) (b k)) (tn_Id_jn h hk.1 hr.2.1) (fun j hj => hL j (List.mem_cons_of_mem _ hj)) hr.2.2
    refine ⟨I.1, ?_⟩
    have e := tn_rk_jn h hr.2.1 n
    rw [if_pos (h.2 _ hk.2)] at e
    show tn_rk (tn_af a b L (tn_jn nm (a k) (b k))) n + (L.length + 1) = _
    omega
theorem tn_rk_mono (nm : Nat → Nat) {s s' : Nat} (h : s ≤ s') : tn_rk nm s ≤ tn_rk nm s' := by
  induction s' with
  | zero =>
    have : s = 0 := by omega
    rw [this]
    exact Nat.le_refl _
  | succ s' ih =>
    by_cases e : s = s' + 1
    · rw [e]
      exact Nat.le_refl _
    · have := ih (by omega)
      simp only [tn_rk]
      omega
theorem tn_rk_lt {nm : Nat → Nat} {u v : Nat} (hu : nm u = u) (h : u < v) : tn_rk nm u < tn_rk nm v := by
  have h1 : tn_rk nm (u + 1) ≤ tn_rk nm v := tn_rk_mono nm h
  have h2 : tn_rk nm (u + 1) = tn_rk nm u + 1 := by
    simp only [tn_rk]
    rw [if_pos hu]
  omega
/-- the row of a point -/
def tn_rn (nm : Nat → Nat) (x : Nat) : Nat := tn_rk nm (nm x)
theorem tn_rn_eqv {n : Nat} {nm : Nat → Nat} (h : tn_Id n nm) : tn_eqv (tn_rn nm) nm := by
  intro x y
  constructor
  · intro e
    unfold tn_rn at e
    rcases Nat.lt_trichotomy (nm x) (nm y) with l | l | l
    · have := tn_rk_lt (h.1 x) l
      omega
    · exact l
    · have := tn_rk_lt (h.1 y) l
      omega
  · intro e
    unfold tn_rn
    rw [e]
theorem tn_rn_lt {n : Nat} {nm : Nat → Nat} (h : tn_Id n nm) {x : Nat} (hx : x < n) : tn_rn nm x < tn_rk nm n := tn_rk_lt (h.1 x) (h.2 x hx)
theorem tn_rk_le (nm : Nat → Nat) : ∀ n, tn_rk nm n ≤ n := by
  intro n
  induction n with
  | zero => exact Nat.le_refl _
  | succ n ih =>
    simp only [tn_rk]
    split <;> omega
def tb_dl (x p q : Nat) : Int := (if x = p then 1 else 0) - (if x = q then 1 else 0)
/-- what one free line adds to the matrix -/
def tb_ed (p q x y : Nat) : Int := tb_dl x p q * tb_dl y p q
def tb_M (a b rn : Nat → Nat) : List Nat → Nat → Nat → Int
  | [], _, _ => 0
  | k :: E, x, y => tb_M a b rn E x y + tb_ed (rn (a k)) (rn (b k)) x y
theorem tb_M_sym (a b rn : Nat → Nat) (x y : Nat) : ∀ E : List Nat, tb_M a b rn E x y = tb_M a b rn E y x := by
  intro E
  induction E with
  | nil => rfl
  | cons k E ih =>
    simp only [tb_M, tb_ed]
    rw [ih, Int.mul_comm]
theorem tb_dl_sq (x p q : Nat) : tb_dl x p q * tb_dl x p q ≤ 1 := by
  unfold tb_dl
  split <;> split <;> decide
theorem tb_M_dg (a b rn : Nat → Nat) (x : Nat) : ∀ E : List Nat, tb_M a b rn E x x ≤ E.length := by
  intro E
  induction E with
  | nil => exact Int.le_refl _
  | cons k E ih =>
    simp only [tb_M, tb_ed, List.length_cons]
    have := tb_dl_sq x (rn (a k)) (rn (b k))
    omega
theorem tb_ed_off {p q x y : Nat} (h : x ≠ y) : ((tb_ed p q x y : Int) : Rat) = - ((if p = x ∧ q = y then (1 : Rat) else 0) + (if p = y ∧ q = x then 1 else 0)) := by
  unfold tb_ed tb_dl
  by_cases h1 : x = p
  · by_cases h2 : x = q
    · have h3 : ¬ y = p := by omega
      have h4 : ¬ y = q := by omega
      rw [if_pos h1, if_pos h2, if_neg h3, if_neg h4, if_neg (by omega), if_neg (by omega)]
      simp only [Rat.intCast_mul, Rat.intCast_sub, Rat.intCast_zero, Rat.intCast_one]
      grind
    · by_cases h4 : y = q
      · have h3 : ¬ y = p := by omega
        rw [if_pos h1, if_neg h2, if_neg h3, if_pos h4, if_pos (by omega), if_neg (by omega)]
        simp only [Rat.intCast_mul, Rat.intCast_sub, Rat.intCast_zero, Rat.intCast_one]
        grind
      · have h3 : ¬ y = p := by omega
        rw [if_pos h1, if_neg h2, if_neg h3, if_neg h4, if_neg (by omega), if_neg (by omega)]
        simp only [Rat.intCast_mul, Rat.intCast_sub, Rat.intCast_zero, Rat.intCast_one]
        grind
  · by_cases h2 : x = q
    · by_cases h3 : y = p
      · have h4 : ¬ y = q := by omega
        rw [if_neg h1, if_pos h2, if_pos h3, if_neg h4, if_neg (by omega), if_pos (by omega)]
        simp only [Rat.intCast_mul, Rat.intCast_sub, Rat.intCast_zero, Rat.intCast_one]
        grind
      · have h4 : ¬ y = q := by omega
        rw [if_neg h1, if_pos h2, if_neg h3, if_neg h4, if_neg (by omega), if_neg (by omega)]
        simp only [Rat.intCast_mul, Rat.intCast_sub, Rat.intCast_zero, Rat.intCast_one]
        grind
    · rw [if_neg h1, if_neg h2, Int.sub_zero, Int.zero_mul, if_neg (by omega), if_neg (by omega)]
      simp only [Rat.intCast_mul, Rat.intCast_sub, Rat.intCast_zero, Rat.intCast_one]
      grind
theorem tb_M_off (a b rn : Nat → Nat) {x y : Nat} (h : x ≠ y) : ∀ E : List Nat, ((tb_M a b rn E x y : Int) : Rat) = - tn_w a b rn E x y := by
  intro E
  induction E with
  | nil => rfl
  | cons k E ih =>
    simp only [tb_M]
    rw [tn_w_c, Rat.intCast_add, ih, tb_ed_off h]
    grind
theorem tb_sm_one (c : Nat) : ∀ (l : List Nat), l.Nodup → c ∈ l → tw_sm (fun y => (((if y = c then (1 : Int) else 0) : Int) : Rat)) l = 1 := by
  intro l hn hc
  rw [tw_sm_perm (List.perm_cons_erase hc)]
  simp only [tw_sm]
  rw [tw_sm_0]
  · rw [if_pos trivial, Rat.intCast_one, Rat.add_zero]
  · intro x hx
    have := (List.Nodup.mem_erase_iff hn).mp hx
    rw [if_neg this.1]
    rfl
theorem tb_sm_sub (f g : Nat → Rat) : ∀ l : List Nat, tw_sm (fun x => f x - g x) l = tw_sm f l - tw_sm g l := by
  intro l
  induction l with
  | nil => simp only [tw_sm]; grind
  | cons x l ih => simp only [tw_sm, ih]; grind
theorem tb_sm_add (f g : Nat → Rat) : ∀ l : List Nat, tw_sm (fun x => f x + g x) l = tw_sm f l + tw_sm g l := by
  intro l
  induction l with
  | nil => simp only [tw_sm]; grind
  | cons x l ih => simp only [tw_sm, ih]; grind
theorem tb_sm_mul (c : Rat) (f : Nat → Rat) : ∀ l : List Nat, tw_sm (fun x => c * f x) l = c * tw_sm f l := by
  intro l
  induction l with
  | nil => simp only [tw_sm]; grind
  | cons x l ih => simp only [tw_sm, ih]; grind
theorem tb_ed_sum {p q : Nat} (x : Nat) {l : List Nat} (hn : l.Nodup) (hp : p ∈ l) (hq : q ∈ l) : tw_sm (fun y => ((tb_ed p q x y : Int) : Rat)) l = 0 := by
  have e : (fun y => ((tb_ed p q x y : Int) : Rat)) = (fun y => ((tb_dl x p q : Int) : Rat) * ((((if y = p then (1 : Int) else 0) : Int) : Rat) - (((if y = q then (1 : Int) else 0) : Int) : Rat))) := by
    funext y
    unfold tb_ed
    rw [Rat.intCast_mul]
    congr 1
    unfold tb_dl
    rw [Rat.intCast_sub]
  rw [e, tb_sm_mul, tb_sm_sub, tb_sm_one p l hn hp, tb_sm_one q l hn hq]
  grind
theorem tb_M_sum (a b rn : Nat → Nat) (x : Nat) {l : List Nat} (hn : l.Nodup) : ∀ E : List Nat, (∀ k ∈ E, rn (a k) ∈ l ∧ rn (b k) ∈ l) → tw_sm (fun y => ((tb_M a b rn E x y : Int) : Rat)) l = 0 := by
  intro E
  induction E with
  | nil => intro _; exact tw_sm_0 (fun _ _ => rfl)
  | cons k E ih =>
    intro h
    have e : (fun y => ((tb_M a b rn (k :: E) x y : Int) : Rat)) = (fun y => ((tb_M a b rn E x y : Int) : Rat) + ((tb_ed (rn (a k)) (rn (b k)) x y : Int) : Rat)) := by
      funext y
      simp only [tb_M]
      rw [Rat.intCast_add]
    have hk := h k List.mem_cons_self
    rw [e, tb_sm_add, ih (fun j hj => h j (List.mem_cons_of_mem _ hj)), tb_ed_sum x hn hk.1 hk.2]
    grind
theorem tb_M_L (a b rn : Nat → Nat) {E : List Nat} {r : Nat} (hE : ∀ k ∈ E, rn (a k) < r ∧ rn (b k) < r) (hl : E.length ≤ 10) : tb_L (tb_M a b rn E) r 0 := by
  refine ⟨fun i j => ?_, fun i j _ _ _ _ ne => ?_, fun i _ _ => ?_, fun i _ _ => ?_⟩
  · show ((tb_M a b rn E i j : Int) : Rat) = ((tb_M a b rn E j i : Int) : Rat)
    rw [tb_M_sym]
  · show ((tb_M a b rn E i j : Int) : Rat) ≤ 0
    rw [tb_M_off a b rn ne]
    have := (tn_w_N a b rn E).2 i j
    grind
  · show tw_sm (fun y => ((tb_M a b rn E i y : Int) : Rat)) (List.range' 0 (r - 0)) = 0
    refine tb_M_sum a b rn i (List.nodup_range' (s := 0) (n := r - 0)) E (fun k hk => ?_)
    have := hE k hk
    exact ⟨tb_mem (Nat.zero_le _) this.1, tb_mem (Nat.zero_le _) this.2⟩
  · show ((tb_M a b rn E i i : Int) : Rat) ≤ 10
    have h1 := tb_M_dg a b rn i E
    have h2 : tb_M a b rn E i i ≤ 10 := by omega
    exact Rat.intCast_le_intCast.mpr h2
theorem tb_M_tau (a b rn : Nat → Nat) {E : List Nat} {r : Nat} (hr : 0 < r) (hE : ∀ k ∈ E, rn (a k) < r ∧ rn (b k) < r) :
    tw_tau (List.range' 0 r) (fun x y => - tb_G (tb_M a b rn E) 0 x y) = (((tn_cT a b E rn r : Nat) : Int) : Rat) := by
  have nd := List.nodup_range' (s := 0) (n := r)
  have ne : List.range' 0 r ≠ [] := by
    intro e
    have := congrArg List.length e
    rw [List.length_range'] at this
    exact absurd this (by simp; omega)
  have e := tn_tau a b E rn (List.range' 0 r) nd ne (fun k hk => by
    have := hE k hk
    rw [List.mem_range'_1, List.mem_range'_1]
    omega)
  rw [List.length_range'] at e
  have e2 : (((tn_cT a b E rn r : Nat) : Int) : Rat) = ((tn_cT a b E rn r : Nat) : Rat) := rfl
  rw [e2, ← e]
  refine tw_tau_congr _ _ _ nd (fun x _ y _ h => ?_)
  show - ((tb_M a b rn E x y : Int) : Rat) = _
  rw [tb_M_off a b rn h]
  grind
theorem tc_F_len (t : Nat → Bool) (i o : Nat) : (tc_F t i o 10).length ≤ 10 := List.length_filter_le _ _
/-- sets that hold what is settled at k and above: an interval -/
theorem tc_iv {t : Nat → Bool} {a b : Nat → Nat} {n k i o : Nat} (hk : k ≤ 10) (hi : i < 1024) (h1 : ∀ j, i.testBit j = true → k ≤ j ∧ o.testBit j = false) (h2 : ∀ j, o.testBit j = true → k ≤ j)
    (h3 : ∀ j, k ≤ j → j < 10 → i.testBit j = true ∨ o.testBit j = true ∨ t j = false) :
    tc_cb (tc_it t a b n) i + tc_N t a b n i o = tc_cb (tc_it t a b n) (i + 2 ^ k) ∧ i + 2 ^ k ≤ 1024 := by
  have m0 : i % 2 ^ k = 0 := by
    apply Nat.eq_of_testBit_eq
    intro j
    rw [Nat.testBit_mod_two_pow, Nat.zero_testBit]
    by_cases l : j < k
    · cases hb : i.testBit j
      · rw [Bool.and_false]
      · have := (h1 j hb).1
        omega
    · rw [decide_eq_false l, Bool.false_and]
  have hp : 0 < 2 ^ k := Nat.two_pow_pos k
  have e10 : 2 ^ k * 2 ^ (10 - k) = 1024 := by
    rw [← Nat.pow_add]
    have : k + (10 - k) = 10 := by omega
    rw [this]
  have hle : i + 2 ^ k ≤ 1024 := by
    have hq : i / 2 ^ k < 2 ^ (10 - k) := Nat.div_lt_of_lt_mul (by rw [e10]; exact hi)
    have hq2 : 2 ^ k * (i / 2 ^ k + 1) ≤ 2 ^ k * 2 ^ (10 - k) := Nat.mul_le_mul_left _ hq
    have hq3 : 2 ^ k * (i / 2 ^ k) + i % 2 ^ k = i := Nat.div_add_mod i (2 ^ k)
    rw [e10, Nat.mul_add, Nat.mul_one] at hq2
    omega
  have key : ∀ m, m < 1024 → tc_it t a b n m = true → ((m &&& i = i ∧ m &&& o = 0) ↔ (i ≤ m ∧ m < i + 2 ^ k)) := by
    intro m hm ht
    have hl : ∀ j, m.testBit j = true → j < 10 → t j = true := by
      intro j hj hj2
      unfold tc_it at ht
      rw [Bool.and_eq_true] at ht
      refine tn_rl_t t a b _ _ ht.2 j ?_
      rw [← tc_dn_filter]
      refine List.mem_filter.mpr ⟨?_, hj⟩
      have hd : ∀ q, j < q → j ∈ tc_dn q := by
        intro q
        induction q with
        | zero => intro h; omega
        | succ q ih =>
          intro h
          simp only [tc_dn]
          by_cases e : j = q
          · rw [e]; exact List.mem_cons_self
          · exact List.mem_cons_of_mem _ (ih (by omega))
      exact hd 10 hj2
    have hdm := Nat.div_add_mod m (2 ^ k)
    have hdi := Nat.div_add_mod i (2 ^ k)
    have hmm := Nat.mod_lt m hp
    constructor
    · intro ⟨c1, c2⟩
      have c1' := tc_sub_iff.mp c1
      have c2' := tc_dis_iff.mp c2
      have e : m / 2 ^ k = i / 2 ^ k := by
        apply Nat.eq_of_testBit_eq
        intro j
        rw [Nat.testBit_div_two_pow, Nat.testBit_div_two_pow]
        by_cases l : j + k < 10
        · rcases h3 (j + k) (by omega) l with h | h | h
          · rw [h, c1' _ h]
          · have : i.testBit (j + k) = false := by
              cases hb : i.testBit (j + k)
              · rfl
              · have := (h1 _ hb).2
                rw [h] at this
                exact absurd this (by decide)
            rw [this, c2' _ h]
          · have q1 : m.testBit (j + k) = false := by
              cases hb : m.testBit (j + k)
              · rfl
              · have := hl _ hb l
                rw [h] at this
                exact absurd this (by decide)
            have q2 : i.testBit (j + k) = false := by
              cases hb : i.testBit (j + k)
              · rfl
              · rw [c1' _ hb] at q1
                exact absurd q1 (by decide)
            rw [q1, q2]
        · rw [tc_big hm (by omega), tc_big hi (by omega)]
      rw [e] at hdm
      omega
    · intro ⟨c1, c2⟩
      have e : m / 2 ^ k = i / 2 ^ k := by
        have q1 : i / 2 ^ k ≤ m / 2 ^ k := Nat.div_le_div_right c1
        have q2 : m / 2 ^ k < i / 2 ^ k + 1 := by
          apply Nat.div_lt_of_lt_mul
          rw [Nat.mul_add, Nat.mul_one]
          omega
        omega
      have hb : ∀ j, k ≤ j → m.testBit j = i.testBit j := by
        intro j hj
        have q : (m / 2 ^ k).testBit (j - k) = (i / 2 ^ k).testBit (j - k) := by rw [e]
        rw [Nat.testBit_div_two_pow, Nat.testBit_div_two_pow] at q
        have : j - k + k = j := by omega
        rw [this] at q
        exact q
      refine ⟨tc_sub_iff.mpr (fun j hj => ?_), tc_dis_iff.mpr (fun j hj => ?_)⟩
      · rw [hb j (h1 j hj).1]
        exact hj
      · rw [hb j (h2 j hj)]
        cases hc : i.testBit j
        · rfl
        · have := (h1 j hc).2
          rw [hj] at this
          exact absurd this (by decide)
  refine ⟨?_, hle⟩
  obtain ⟨d, hd⟩ := Nat.exists_eq_add_of_le hle
  unfold tc_N
  rw [hd, tc_cb_add, tc_cb_add, tc_cb_add]
  rw [tc_cb_0 (p := fun m => (decide (m &&& i = i) && decide (m &&& o = 0)) && tc_it t a b n m) (s := i) (fun m hm => by
    cases ht : tc_it t a b n m
    · rw [Bool.and_false]
    · rw [Bool.and_true, ← Bool.not_eq_true, Bool.and_eq_true, decide_eq_true_eq, decide_eq_true_eq]
      intro h
      have := (key m (by omega) ht).mp h
      omega)]
  rw [tc_cb_0 (s := d) (fun m hm => by
    cases ht : tc_it t a b n (i + 2 ^ k + m)
    · rw [Bool.and_false]
    · rw [Bool.and_true, ← Bool.not_eq_true, Bool.and_eq_true, decide_eq_true_eq, decide_eq_true_eq]
      intro h
      have := (key (i + 2 ^ k + m) (by omega) ht).mp h
      omega)]
  rw [tc_cb_congr (q := fun m => tc_it t a b n (i + m)) (s := 2 ^ k) (fun m hm => by
    cases ht : tc_it t a b n (i + m)
    · rw [Bool.and_false]
    · rw [Bool.and_true, Bool.and_eq_true, decide_eq_true_eq, decide_eq_true_eq]
      exact (key (i + m) (by omega) ht).mpr (by omega))]
  omega
theorem tc_or_add {i k : Nat} (h : ∀ j, i.testBit j = true → k < j) : i ||| 2 ^ k = i + 2 ^ k := by
  have m0 : i % 2 ^ (k + 1) = 0 := by
    apply Nat.eq_of_testBit_eq
    intro j
    rw [Nat.testBit_mod_two_pow, Nat.zero_testBit]
    by_cases l : j < k + 1
    · cases hb : i.testBit j
      · rw [Bool.and_false]
      · have := h j hb
        omega
    · rw [decide_eq_false l, Bool.false_and]
  have e : i = (i / 2 ^ (k + 1)) <<< (k + 1) := by
    rw [Nat.shiftLeft_eq]
    have := Nat.div_add_mod i (2 ^ (k + 1))
    rw [Nat.mul_comm]
    omega
  have l : 2 ^ k < 2 ^ (k + 1) := Nat.pow_lt_pow_right (by omega) (by omega)
  rw [e]
  exact (Nat.shiftLeft_add_eq_or_of_lt l _).symm
end
section
/-! The lines that are left over: taking each line that makes no ring gives a largest ringless set. -/
def tg_gr (a b : Nat → Nat) : List Nat → (Nat → Nat) → Nat
  | [], _ => 0
  | k :: L, nm => if nm (a k) = nm (b k) then tg_gr a b L nm else tg_gr a b L (tn_jn nm (a k) (b k)) + 1
theorem tg_gr_c (a b : Nat → Nat) (k : Nat) (L : List Nat) (nm : Nat → Nat) : tg_gr a b (k :: L) nm = if nm (a k) = nm (b k) then tg_gr a b L nm else tg_gr a b L (tn_jn nm (a k) (b k)) + 1 := rfl
theorem tg_e0 (A B C D X Y : Nat) (h1 : ¬ A = B) (h2 : ¬ C = D) (h3 : C = D ∨ ((C = A ∨ C = B) ∧ (D = A ∨ D = B))) :
    (X = Y ∨ ((X = A ∨ X = B) ∧ (Y = A ∨ Y = B))) ↔ (X = Y ∨ ((X = C ∨ X = D) ∧ (Y = C ∨ Y = D))) := by
  omega
theorem tg_x1 (t : Nat → Bool) (a b : Nat → Nat) : ∀ (S : List Nat) (nm : Nat → Nat) (x y : Nat), tn_rl t a b S nm = true → nm x ≠ nm y →
    ∃ S' : List Nat, S'.Sublist S ∧ tn_rl t a b S' (tn_jn nm x y) = true ∧ S.length ≤ S'.length + 1 := by
  intro S
  induction S with
  | nil => intro nm x y _ _; exact ⟨[], List.Sublist.refl _, rfl, Nat.zero_le _⟩
  | cons k S ih =>
    intro nm x y hr ne
    rw [tn_rl_c, Bool.and_eq_true, Bool.and_eq_true, decide_eq_true_eq] at hr
    by_cases z : tn_jn nm x y (a k) = tn_jn nm x y (b k)
    · refine ⟨S, List.sublist_cons_self k S, ?_, Nat.le_refl _⟩
      rw [tn_rl_eqv t a b S (tn_jn nm x y) (tn_jn nm (a k) (b k))]
      · exact hr.2.2
      · intro p q
        rw [tn_jn_iff] at z
        rw [tn_jn_iff, tn_jn_iff]
        exact tg_e0 _ _ _ _ _ _ ne hr.2.1 z
    · have s := tn_sw0 (nm x) (nm y) (nm (a k)) (nm (b k)) ⟨ne, by rw [← tn_jn_iff]; exact z⟩
      have ne' : tn_jn nm (a k) (b k) x ≠ tn_jn nm (a k) (b k) y := by
        intro e
        rw [tn_jn_iff] at e
        exact s.2 e
      obtain ⟨S', h1, h2, h3⟩ := ih (tn_jn nm (a k) (b k)) x y hr.2.2 ne'
      refine ⟨k :: S', h1.cons₂ k, ?_, ?_⟩
      · rw [tn_rl_c, hr.1, decide_eq_true z, Bool.true_and, Bool.true_and, tn_rl_eqv t a b S' _ _ (tn_jn_comm nm x y (a k) (b k))]
        exact h2
      · rw [List.length_cons, List.length_cons]
        omega
theorem tg_A (t : Nat → Bool) (a b : Nat → Nat) : ∀ (L S : List Nat) (nm : Nat → Nat), S.Sublist L → tn_rl t a b S nm = true → S.length ≤ tg_gr a b L nm := by
  intro L
  induction L with
  | nil =>
    intro S nm h _
    rw [List.sublist_nil.mp h]
    exact Nat.le_refl _
  | cons k L ih =>
    intro S nm h hr
    rw [tg_gr_c]
    cases h with
    | cons _ h =>
      by_cases z : nm (a k) = nm (b k)
      · rw [if_pos z]
        exact ih S nm h hr
      · rw [if_neg z]
        obtain ⟨S', h1, h2, h3⟩ := tg_x1 t a b S nm (a k) (b k) hr z
        have := ih S' _ (h1.trans h) h2
        omega
    | cons_cons _ h =>
      rename_i S
      rw [tn_rl_c, Bool.and_eq_true, Bool.and_eq_true, decide_eq_true_eq] at hr
      rw [if_neg hr.2.1]
      have := ih S _ h hr.2.2
      rw [List.length_cons]
      omega
theorem tg_B (t : Nat → Bool) (a b : Nat → Nat) : ∀ (L : List Nat) (nm : Nat → Nat), (∀ k ∈ L, t k = true) → ∃ S : List Nat, S.Sublist L ∧ tn_rl t a b S nm = true ∧ S.length = tg_gr a b L nm := by
  intro L
  induction L with
  | nil => intro nm _; exact ⟨[], List.Sublist.refl _, rfl, rfl⟩
  | cons k L ih =>
    intro nm h
    rw [tg_gr_c]
    by_cases z : nm (a k) = nm (b k)
    · rw [if_pos z]
      obtain ⟨S, h1, h2, h3⟩ := ih nm (fun j hj => h j (List.mem_cons_of_mem _ hj))
      exact ⟨S, h1.cons k, h2, h3⟩
    · rw [if_neg z]
      obtain ⟨S, h1, h2, h3⟩ := ih (tn_jn nm (a k) (b k)) (fun j hj => h j (List.mem_cons_of_mem _ hj))
      refine ⟨k :: S, h1.cons₂ k, ?_, ?_⟩
      · rw [tn_rl_c, h k List.mem_cons_self, decide_eq_true z, h2]
        rfl
      · rw [List.length_cons, h3]
theorem tc_up_congr {m m' : Nat} : ∀ {k : Nat}, (∀ j, j < k → m.testBit j = m'.testBit j) → tc_up m k = tc_up m' k := by
  intro k
  induction k with
  | zero => intro _; rfl
  | succ k ih =>
    intro h
    simp only [tc_up]
    rw [ih (fun j hj => h j (by omega)), h k (by omega)]
theorem tg_up_sub {m l : Nat} (h : ∀ j, m.testBit j = true → l.testBit j = true) : ∀ k, (tc_up m k).Sublist (tc_up l k) := by
  intro k
  induction k with
  | zero => exact List.Sublist.refl _
  | succ k ih =>
    simp only [tc_up]
    by_cases z : m.testBit k = true
    · rw [if_pos z, if_pos (h k z)]
      exact List.Sublist.append ih (List.Sublist.refl _)
    · rw [if_neg z]
      by_cases y : l.testBit k = true
      · rw [if_pos y]
        exact ih.trans (List.sublist_append_left _ _)
      · rw [if_neg y]
        exact ih
theorem tg_mask (l : Nat) : ∀ (k : Nat) (S : List Nat), S.Sublist (tc_up l k) → ∃ m, m < 2 ^ k ∧ (∀ j, m.testBit j = true → l.testBit j = true) ∧ tc_up m k = S := by
  intro k
  induction k with
  | zero =>
    intro S h
    refine ⟨0, by decide, fun j hj => ?_, ?_⟩
    · rw [Nat.zero_testBit] at hj
      exact absurd hj (by decide)
    · exact (List.sublist_nil.mp h).symm
  | succ k ih =>
    intro S h
    have hpw : 2 ^ (k + 1) = 2 ^ k + 2 ^ k := by rw [Nat.pow_succ, Nat.mul_two]
    simp only [tc_up] at h
    by_cases z : l.testBit k = true
    · rw [if_pos z] at h
      obtain ⟨S1, S2, e, g1, g2⟩ := List.sublist_append_iff.mp h
      obtain ⟨m, hm, hb, hu⟩ := ih S1 g1
      have nb : m.testBit k = false := Nat.testBit_lt_two_pow hm
      by_cases y : S2 = []
      · refine ⟨m, by omega, hb, ?_⟩
        simp only [tc_up]
        rw [if_neg (by rw [nb]; decide), hu, e, y, List.append_nil]
      · have e2 : S2 = [k] := by
          rcases List.sublist_cons_iff.mp g2 with q | ⟨q, q1, q2⟩
          · exact absurd (List.sublist_nil.mp q) y
          · rw [q1, List.sublist_nil.mp q2]
        have hb1 : (2 ^ k + m).testBit k = true := by rw [Nat.testBit_two_pow_add_eq, nb]; rfl
        have hb2 : ∀ j, j < k → (2 ^ k + m).testBit j = m.testBit j := fun j hj => Nat.testBit_two_pow_add_gt hj m
        refine ⟨2 ^ k + m, by omega, fun j hj => ?_, ?_⟩
        · rcases Nat.lt_trichotomy j k with q | q | q
          · rw [hb2 j q] at hj
            exact hb j hj
          · rw [q]; exact z
          · have : (2 ^ k + m).testBit j = false := by
              apply Nat.testBit_lt_two_pow
              have : 2 ^ (k + 1) ≤ 2 ^ j := Nat.pow_le_pow_right (by omega) q
              omega
            rw [this] at hj
            exact absurd hj (by decide)
        · simp only [tc_up]
          rw [if_pos hb1, tc_up_congr hb2, hu, e, e2]
    · rw [if_neg z] at h
      obtain ⟨m, hm, hb, hu⟩ := ih S h
      have nb : m.testBit k = false := Nat.testBit_lt_two_pow hm
      refine ⟨m, by omega, hb, ?_⟩
      simp only [tc_up]
      rw [if_neg (by rw [nb]; decide), hu]
def tg_ls (q : Nat → Bool) (v : Nat → Nat) : Nat → Nat
  | 0 => 10
  | s + 1 => if q s = true then (if v s < tg_ls q v s then v s else tg_ls q v s) else tg_ls q v s
theorem tg_ls_ge {q : Nat → Bool} {v : Nat → Nat} {e : Nat} (he : e ≤ 10) : ∀ s, (∀ m, m < s → q m = true → e ≤ v m) → e ≤ tg_ls q v s := by
  intro s
  induction s with
  | zero => intro _; exact he
  | succ s ih =>
    intro h
    have I := ih (fun m hm => h m (by omega))
    simp only [tg_ls]
    by_cases z : q s = true
    · rw [if_pos z]
      have := h s (by omega) z
      split <;> omega
    · rw [if_neg z]
      exact I
theorem tg_ls_mono (q : Nat → Bool) (v : Nat → Nat) (s : Nat) : ∀ d, tg_ls q v (s + d) ≤ tg_ls q v s := by
  intro d
  induction d with
  | zero => exact Nat.le_refl _
  | succ d ih =>
    rw [← Nat.add_assoc]
    simp only [tg_ls]
    split
    · split <;> omega
    · exact ih
theorem tg_ls_eq {q : Nat → Bool} {v : Nat → Nat} {e N m : Nat} (he : e ≤ 10) (h1 : ∀ m, m < N → q m = true → e ≤ v m) (hm : m < N) (hq : q m = true) (hv : v m = e) : tg_ls q v N = e := by
  have g := tg_ls_ge he N h1
  obtain ⟨d, hd⟩ := Nat.exists_eq_add_of_le (show m + 1 ≤ N from hm)
  have l := tg_ls_mono q v (m + 1) d
  rw [← hd] at l
  have l2 : tg_ls q v (m + 1) ≤ e := by
    simp only [tg_ls]
    rw [if_pos hq]
    split <;> omega
  omega
theorem tc_up_len (m : Nat) : ∀ k, (tc_up m k).length ≤ k := by
  intro k
  induction k with
  | zero => exact Nat.le_refl _
  | succ k ih =>
    simp only [tc_up]
    split
    · rw [List.length_append, List.length_singleton]
      omega
    · omega
theorem tc_up_mem {m j : Nat} : ∀ {k : Nat}, j ∈ tc_up m k → m.testBit j = true ∧ j < k := by
  intro k
  induction k with
  | zero => intro h; exact absurd h List.not_mem_nil
  | succ k ih =>
    intro h
    simp only [tc_up] at h
    by_cases z : m.testBit k = true
    · rw [if_pos z] at h
      rcases List.mem_append.mp h with q | q
      · have := ih q
        exact ⟨this.1, by omega⟩
      · rw [List.mem_singleton.mp q]
        exact ⟨z, by omega⟩
    · rw [if_neg z] at h
      have := ih h
      exact ⟨this.1, by omega⟩
theorem tg_main {t : Nat → Bool} {a b : Nat → Nat} {l : Nat} (ht : ∀ j, l.testBit j = true → t j = true) :
    tg_ls (fun m => decide (m &&& l = m) && tn_rl t a b (tc_up m 10) id) (fun m => (tc_up l 10).length - (tc_up m 10).length) 1024 = (tc_up l 10).length - tg_gr a b (tc_up l 10) id := by
  have sub : ∀ m, m &&& l = m ↔ ∀ j, m.testBit j = true → l.testBit j = true := by
    intro m
    rw [Nat.and_comm]
    exact tc_sub_iff
  obtain ⟨S, s1, s2, s3⟩ := tg_B t a b (tc_up l 10) id (fun k hk => ht k (tc_up_mem hk).1)
  obtain ⟨m, hm, hb, hu⟩ := tg_mask l 10 S s1
  have len := tc_up_len l 10
  refine tg_ls_eq (m := m) (by omega) (fun m' _ hq => ?_) hm ?_ ?_
  · rw [Bool.and_eq_true, decide_eq_true_eq] at hq
    have := tg_A t a b (tc_up l 10) (tc_up m' 10) id (tg_up_sub ((sub m').mp hq.1) 10) hq.2
    show _ ≤ (tc_up l 10).length - (tc_up m' 10).length
    omega
  · rw [Bool.and_eq_true, decide_eq_true_eq]
    exact ⟨(sub m).mpr hb, by rw [hu]; exact s2⟩
  · show (tc_up l 10).length - (tc_up m 10).length = _
    rw [hu, s3]
/-- names and rings behind the first k lines -/
def tg_gs (a b : Nat → Nat) (l : Nat) : Nat → (Nat → Nat) × Nat
  | 0 => (id, 0)
  | k + 1 => if l.testBit k = true then (if (tg_gs a b l k).1 (a k) = (tg_gs a b l k).1 (b k) then ((tg_gs a b l k).1, (tg_gs a b l k).2 + 1) else (tn_jn (tg_gs a b l k).1 (a k) (b k), (tg_gs a b l k).2)) else tg_gs a b l k
theorem tg_gs_gr (a b : Nat → Nat) (l : Nat) : ∀ (k : Nat) (L : List Nat), tg_gr a b (tc_up l k ++ L) id + (tg_gs a b l k).2 = (tc_up l k).length + tg_gr a b L (tg_gs a b l k).1 := by
  intro k
  induction k with
  | zero =>
    intro L
    simp only [tc_up, tg_gs, List.nil_append, List.length_nil]
    omega
  | succ k ih =>
    intro L
    by_cases z : l.testBit k = true
    · have I := ih (k :: L)
      rw [tg_gr_c] at I
      simp only [tc_up, tg_gs]
      rw [if_pos z, if_pos z, List.append_assoc, List.singleton_append, List.length_append, List.length_singleton]
      by_cases y : (tg_gs a b l k).1 (a k) = (tg_gs a b l k).1 (b k)
      · rw [if_pos y] at I ⊢
        show _ + ((tg_gs a b l k).2 + 1) = _ + tg_gr a b L (tg_gs a b l k).1
        omega
      · rw [if_neg y] at I ⊢
        show _ + (tg_gs a b l k).2 = _ + tg_gr a b L (tn_jn (tg_gs a b l k).1 (a k) (b k))
        omega
    · simp only [tc_up, tg_gs]
      rw [if_neg z, if_neg z]
      exact ih L
theorem tg_gs_end (a b : Nat → Nat) (l : Nat) : (tg_gs a b l 10).2 = (tc_up l 10).length - tg_gr a b (tc_up l 10) id := by
  have h := tg_gs_gr a b l 10 []
  rw [List.append_nil] at h
  simp only [tg_gr] at h
  omega
end
section
/-! The component's walks: names, rows, matrix. -/
section
variable {fn fm : Int32} {th ea eb nx ro : Nat → Int32} {mx : Nat → Int64}
theorem tx_fresh_l {post : SX → Prop} (h : ∀ na : Nat → Int32, (∀ p, p < 6 → na p = nI p) → post (fn, fm, th, ea, eb, na, ro, mx)) : ∀ (d i : Nat) (nx : Nat → Int32), i + d = 6 → (∀ p, p < i → nx p = nI p) → wX_freshNames_2 post fn fm (d + 1) (nI i) th ea eb nx ro mx := by
  intro d
  induction d with
  | zero =>
    intro i nx hi hp
    have e : i = 6 := by omega
    subst e
    exact br_t (nI_le (a := 6) (b := 6) (Nat.le_refl 6) (by decide)) (h nx hp)
  | succ d ih =>
    intro i nx hi hp
    refine br_f (nI_ge (b := 6) (by omega) (by decide)) ⟨vp_in_nI (by omega) (by omega), ?_⟩
    intro na ena x ex
    subst ena
    rw [ex, nI_1]
    refine ih (i + 1) _ (by omega) ?_
    intro p hp'
    rw [nI_clamp (by omega)]
    by_cases e : p = i
    · subst e
      exact pk_us
    · rw [pk_un e]
      exact hp p (by omega)
theorem tx_fresh {post : SX → Prop} (h : ∀ na : Nat → Int32, (∀ p, p < 6 → na p = nI p) → post (fn, fm, th, ea, eb, na, ro, mx)) : wpX_freshNames post (fn, fm, th, ea, eb, nx, ro, mx) := by
  unfold wpX_freshNames
  dsimp only
  exact ⟨7, tx_fresh_l h 6 0 nx rfl (fun p hp => absurd hp (Nat.not_lt_zero p))⟩
theorem tx_join_l {post : SX → Prop} {nm : Nat → Nat} {p q : Nat} (hb : ∀ x, x < 6 → nm x < 6) (hp : p < 6) (hq : q < 6)
    (h : ∀ na : Nat → Int32, (∀ x, x < 6 → na x = nI (tn_jn nm p q x)) → post (fn, fm, th, ea, eb, na, ro, mx)) : ∀ (d i : Nat) (na : Nat → Int32), i + d = 6 → (∀ x, x < i → na x = nI (tn_jn nm p q x)) → (∀ x, i ≤ x → x < 6 → na x = nI (nm x)) →
    wX_join_18 post (nI (nm p)) (nI (nm q)) fn fm (d + 1) (nI i) th ea eb na ro mx := by
  intro d
  induction d with
  | zero =>
    intro i na hi h1 _
    have e : i = 6 := by omega
    subst e
    exact br_t (nI_le (a := 6) (b := 6) (Nat.le_refl 6) (by decide)) (h na h1)
  | succ d ih =>
    intro i na hi h1 h2
    have e : na (nI i).toNatClampNeg = nI (nm i) := by
      rw [nI_clamp (by omega)]
      exact h2 i (Nat.le_refl i) (by omega)
    have b1 := hb i (by omega)
    have b2 := hb q hq
    refine br_f (nI_ge (b := 6) (by omega) (by decide)) ⟨vp_in_nI (by omega) (by omega), ?_⟩
    by_cases z : nm i = nm q
    · refine br_t (e.trans (congrArg nI z)) ⟨vp_in_nI (by omega) (by omega), ?_⟩
      intro na' ena x ex
      subst ena
      rw [ex, nI_1]
      refine ih (i + 1) _ (by omega) ?_ ?_
      · intro y hy
        rw [nI_clamp (by omega)]
        by_cases w : y = i
        · subst w
          rw [pk_us]
          unfold tn_jn
          rw [if_pos z]
        · rw [pk_un w]
          exact h1 y (by omega)
      · intro y hy hy2
        rw [nI_clamp (by omega), pk_un (by omega)]
        exact h2 y (by omega) hy2
    · refine br_f (fun w => z ((nI_eq (by omega) (by omega)).mp (e.symm.trans w))) ?_
      intro x ex
      rw [ex, nI_1]
      refine ih (i + 1) na (by omega) ?_ (fun y hy hy2 => h2 y (by omega) hy2)
      intro y hy
      by_cases w : y = i
      · subst w
        rw [h2 y (Nat.le_refl y) (by omega)]
        unfold tn_jn
        rw [if_neg z]
      · exact h1 y (by omega)
theorem tx_join {post : SX → Prop} {na : Nat → Int32} {nm : Nat → Nat} {p q : Nat} (hn : ∀ x, x < 6 → na x = nI (nm x)) (hb : ∀ x, x < 6 → nm x < 6) (hp : p < 6) (hq : q < 6)
    (h : ∀ na : Nat → Int32, (∀ x, x < 6 → na x = nI (tn_jn nm p q x)) → post (fn, fm, th, ea, eb, na, ro, mx)) : wpX_join post (fn, fm, th, ea, eb, na, ro, mx) (nI p) (nI q) := by
  unfold wpX_join
  dsimp only
  have e1 : na (nI p).toNatClampNeg = nI (nm p) := by rw [nI_clamp (by omega)]; exact hn p hp
  have e2 : na (nI q).toNatClampNeg = nI (nm q) := by rw [nI_clamp (by omega)]; exact hn q hq
  exact ⟨vp_in_nI hp (by omega), nm_r e1 ⟨vp_in_nI hq (by omega), nm_r e2 ⟨7, tx_join_l hb hp hq h 6 0 na rfl (fun x hx => absurd hx (Nat.not_lt_zero x)) (fun x _ hx => hn x hx)⟩⟩⟩
theorem tx_rows_l {post : Int32 → SX → Prop} {na : Nat → Int32} {nm : Nat → Nat} {N : Nat} (hN : N ≤ 6) (hn : ∀ x, x < 6 → na x = nI (nm x)) (hb : ∀ x, x < 6 → nm x < 6)
    (h : ∀ ro : Nat → Int32, (∀ x, x < N → nm x = x → ro x = nI (tn_rk nm x)) → post (nI (tn_rk nm N)) (nI N, fm, th, ea, eb, na, ro, mx)) : ∀ (d i : Nat) (ro : Nat → Int32), i + d = N → (∀ x, x < i → nm x = x → ro x = nI (tn_rk nm x)) →
    wX_numberRows_4 post (nI N) fm (d + 1) (nI (tn_rk nm i)) (nI i) th ea eb na ro mx := by
  intro d
  induction d with
  | zero =>
    intro i ro hi h1
    have e : i = N := by omega
    subst e
    exact br_t (nI_le (Nat.le_refl _) (by omega)) (h ro h1)
  | succ d ih =>
    intro i ro hi h1
    have e : na (nI i).toNatClampNeg = nI (nm i) := by
      rw [nI_clamp (by omega)]
      exact hn i (by omega)
    have b1 := hb i (by omega)
    refine br_f (nI_ge (b := N) (by omega) (by omega)) ⟨vp_in_nI (by omega) (by omega), ?_⟩
    by_cases z : nm i = i
    · refine br_t (e.trans (congrArg nI z)) ⟨vp_in_nI (by omega) (by omega), ?_⟩
      intro ro' ero x1 ex1 x2 ex2
      subst ero
      have e3 : tn_rk nm (i + 1) = tn_rk nm i + 1 := by
        simp only [tn_rk]
        rw [if_pos z]
      rw [ex2, nI_1, ex1, nI_1, ← e3]
      refine ih (i + 1) _ (by omega) ?_
      intro x hx hr
      rw [nI_clamp (by omega)]
      by_cases w : x = i
      · subst w
        exact pk_us
      · rw [pk_un w]
        exact h1 x (by omega) hr
    · refine br_f (fun w => z ((nI_eq (by omega) (by omega)).mp (e.symm.trans w))) ?_
      intro x2 ex2
      have e3 : tn_rk nm (i + 1) = tn_rk nm i := by
        simp only [tn_rk]
        rw [if_neg z]
        rfl
      rw [ex2, nI_1, ← e3]
      refine ih (i + 1) ro (by omega) ?_
      intro x hx hr
      by_cases w : x = i
      · subst w
        exact absurd hr z
      · exact h1 x (by omega) hr
theorem tx_rows {post : Int32 → SX → Prop} {na : Nat → Int32} {nm : Nat → Nat} {N : Nat} (hN : N ≤ 6) (hn : ∀ x, x < 6 → na x = nI (nm x)) (hb : ∀ x, x < 6 → nm x < 6)
    (h : ∀ ro : Nat → Int32, (∀ x, x < N → nm x = x → ro x = nI (tn_rk nm x)) → post (nI (tn_rk nm N)) (nI N, fm, th, ea, eb, na, ro, mx)) : wpX_numberRows post (nI N, fm, th, ea, eb, na, ro, mx) := by
  unfold wpX_numberRows
  dsimp only
  exact ⟨N + 1, tx_rows_l hN hn hb h N 0 ro (by omega) (fun x hx => absurd hx (Nat.not_lt_zero x))⟩
end
/-- the matrix holds the whole numbers M -/
def tx_MX (mx : Nat → Int64) (M : Nat → Nat → Int) : Prop := ∀ x y, x < 6 → y < 6 → mx (6 * x + y) = Int64.ofInt (M x y)
theorem tx_up1 {mx : Nat → Int64} {M : Nat → Nat → Int} {u v : Nat} {w : Int64} {c : Int} (h : tx_MX mx M) (hu : u < 6) (hv : v < 6) (hw : w = mx (6 * u + v) + Int64.ofInt c) : tx_MX (vp_updL mx (6 * u + v) w) (fun x y => M x y + if x = u ∧ y = v then c else 0) := by
  intro x y hx hy
  by_cases e : x = u ∧ y = v
  · obtain ⟨e1, e2⟩ := e
    subst e1
    subst e2
    rw [pk_uLs, hw, h x y hx hy]
    show _ = Int64.ofInt (M x y + if x = x ∧ y = y then c else 0)
    rw [if_pos ⟨rfl, rfl⟩, Int64.ofInt_add]
  · rw [pk_uLn (by omega), h x y hx hy]
    show _ = Int64.ofInt (M x y + if x = u ∧ y = v then c else 0)
    rw [if_neg e, Int.add_zero]
theorem tx_ed4 {p q x y : Nat} (ne : p ≠ q) (m : Int) : m + (if x = p ∧ y = p then 1 else 0) + (if x = q ∧ y = q then 1 else 0) + (if x = p ∧ y = q then -1 else 0) + (if x = q ∧ y = p then -1 else 0) = m + tb_ed p q x y := by
  unfold tb_ed tb_dl
  by_cases h1 : x = p
  · have h2 : ¬ x = q := by omega
    by_cases h3 : y = p
    · have h4 : ¬ y = q := by omega
      simp [h1, h3, ne]
    · by_cases h4 : y = q
      · simp [h1, h4, ne, Ne.symm ne]
      · simp [h1, h3, h4, ne]
  · by_cases h2 : x = q
    · by_cases h3 : y = p
      · simp [h2, h3, ne, Ne.symm ne]
      · by_cases h4 : y = q
        · simp [h2, h4, ne, Ne.symm ne]
        · simp [h2, h3, h4, Ne.symm ne]
    · simp [h1, h2]
theorem tb_ed_0 (p x y : Nat) : tb_ed p p x y = 0 := by
  unfold tb_ed tb_dl
  rw [Int.sub_self, Int.zero_mul]
theorem tx_sub1 (w : Int64) : w - 1 = w + Int64.ofInt (-1) := by
  rw [Int64.sub_eq_add_neg]
  rfl
theorem tx_ix (p q : Nat) : (6 : Int32) * nI p + nI q = nI (6 * p + q) := by
  have e : (6 : Int32) * nI p = nI (6 * p) := pk_mul 6 p
  rw [e, nI_add]
theorem tx_ix7 (p : Nat) : (7 : Int32) * nI p = nI (6 * p + p) := by
  have e : (7 : Int32) * nI p = nI (7 * p) := pk_mul 7 p
  rw [e]
  exact congrArg nI (by omega)
section
variable {fn fm : Int32} {th ea eb na ro : Nat → Int32} {t : Nat → Bool} {a b nm : Nat → Nat} {N : Nat}
theorem tx_fill_2 {post : SX → Prop} {i o : Nat} (hi : i < 1024) (ho : o < 1024) (hT : ∀ k, k < 10 → (th k = 0 ↔ t k = false)) (hA : ∀ k, k < 10 → ea k = nI (a k) ∧ a k < N) (hB : ∀ k, k < 10 → eb k = nI (b k) ∧ b k < N) (hN : N ≤ 6)
    (hn : ∀ x, x < 6 → na x = nI (nm x)) (hI : tn_Id N nm) (hr : ∀ x, x < N → nm x = x → ro x = nI (tn_rk nm x))
    (h : ∀ mx : Nat → Int64, tx_MX mx (tb_M a b (tn_rn nm) (tc_F t i o 10)) → post (fn, fm, th, ea, eb, na, ro, mx)) : ∀ (d k : Nat) (mx : Nat → Int64), k + d = 10 → tx_MX mx (tb_M a b (tn_rn nm) (tc_F t i o k)) →
    wX_fillMatrix_23 post (nI (i ||| o)) fn fm (d + 1) (nI k) th ea eb na ro mx := by
  intro d
  induction d with
  | zero =>
    intro k mx hk hm
    have e : k = 10 := by omega
    subst e
    exact br_t (nI_le (a := 10) (b := 10) (Nat.le_refl 10) (by decide)) (h mx hm)
  | succ d ih =>
    intro k mx hk hm
    have hk10 : k < 10 := by omega
    have hv : vp_in (nI k) 10 := vp_in_nI hk10 (by omega)
    have ck : (nI k).toNatClampNeg = k := nI_clamp (by omega)
    have dn1 : tc_dn (k + 1) = k :: tc_dn k := rfl
    refine br_f (nI_ge (b := 10) (by omega) (by decide)) ⟨hv, ?_⟩
    rw [ck]
    refine br_c (fun z => ?_) (fun z => ?_)
    · intro x ex
      rw [ex, nI_1]
      have e : tc_F t i o (k + 1) = tc_F t i o k := by
        unfold tc_F
        rw [dn1, List.filter_cons_of_neg]
        simp [tc_fr, (hT k hk10).mp z]
      exact ih (k + 1) mx (by omega) (by rw [e]; exact hm)
    · have zt : t k = true := by
        cases ht : t k
        · exact absurd ((hT k hk10).mpr ht) z
        · rfl
      refine tx_b0 (tx_bit (tx_or_lt hi ho) hk10) (fun w => ?_) (fun w => ?_)
      · have wi : i.testBit k = false ∧ o.testBit k = false := by
          rw [Nat.testBit_or, Bool.or_eq_false_iff] at w
          exact w
        have e : tc_F t i o (k + 1) = k :: tc_F t i o k := by
          unfold tc_F
          rw [dn1, List.filter_cons_of_pos]
          simp [tc_fr, zt, wi.1, wi.2]
        have A := hA k hk10
        have B := hB k hk10
        have nA := hI.2 _ A.2
        have nB := hI.2 _ B.2
        have rA : tn_rn nm (a k) < 6 := by
          have := tn_rn_lt hI A.2
          have := tn_rk_le nm N
          omega
        have rB : tn_rn nm (b k) < 6 := by
          have := tn_rn_lt hI B.2
          have := tn_rk_le nm N
          omega
        have cA : (ea k).toNatClampNeg = a k := by rw [A.1]; exact nI_clamp (by omega)
        have cB : (eb k).toNatClampNeg = b k := by rw [B.1]; exact nI_clamp (by omega)
        have vA : na (ea k).toNatClampNeg = nI (nm (a k)) := by rw [cA]; exact hn _ (by omega)
        have vB : na (eb k).toNatClampNeg = nI (nm (b k)) := by rw [cB]; exact hn _ (by omega)
        have qA : ro (na (ea k).toNatClampNeg).toNatClampNeg = nI (tn_rn nm (a k)) := by
          rw [vA, nI_clamp (by omega)]
          exact hr _ nA (hI.1 _)
        have qB : ro (na (eb k).toNatClampNeg).toNatClampNeg = nI (tn_rn nm (b k)) := by
          rw [vB, nI_clamp (by omega)]
          exact hr _ nB (hI.1 _)
        have iA : vp_in (ea k) 6 := by rw [A.1]; exact vp_in_nI (by omega) (by omega)
        have iB : vp_in (eb k) 6 := by rw [B.1]; exact vp_in_nI (by omega) (by omega)
        have jA : vp_in (na (ea k).toNatClampNeg) 6 := by rw [vA]; exact vp_in_nI (by omega) (by omega)
        have jB : vp_in (na (eb k).toNatClampNeg) 6 := by rw [vB]; exact vp_in_nI (by omega) (by omega)
        refine ⟨hv, iA, jA, nm_r qA ⟨hv, iB, jB, nm_r qB ?_⟩⟩
        refine pk_eq (tn_rn nm (a k)) (tn_rn nm (b k)) (fun yy => ?_) (fun yy => ?_)
        · intro x ex
          rw [ex, nI_1]
          refine ih (k + 1) mx (by omega) ?_
          rw [e]
          intro x y hx hy
          simp only [tb_M]
          rw [yy, tb_ed_0, Int.add_zero]
          exact hm x y hx hy
        · have g : ∀ u v : Nat, u < 6 → v < 6 → vp_in ((6 : Int32) * nI u + nI v) 36 := by
            intro u v hu hv
            rw [tx_ix]
            exact vp_in_nI (by omega) (by omega)
          have c : ∀ u v : Nat, u < 6 → v < 6 → ((6 : Int32) * nI u + nI v).toNatClampNeg = 6 * u + v := by
            intro u v hu hv
            rw [tx_ix]
            exact nI_clamp (by omega)
          refine ⟨g _ _ rA rA, g _ _ rA rA, ?_⟩
          intro m1 e1
          refine ⟨g _ _ rB rB, g _ _ rB rB, ?_⟩
          intro m2 e2
          refine ⟨g _ _ rA rB, g _ _ rA rB, ?_⟩
          intro m3 e3
          refine ⟨g _ _ rB rA, g _ _ rB rA, ?_⟩
          intro m4 e4
          intro x ex
          rw [ex, nI_1]
          refine ih (k + 1) m4 (by omega) ?_
          rw [c _ _ rA rA] at e1
          rw [c _ _ rB rB] at e2
          rw [c _ _ rA rB] at e3
          rw [c _ _ rB rA] at e4
          have s1 := tx_up1 (c := 1) hm rA rA (show mx (6 * tn_rn nm (a k) + tn_rn nm (a k)) + 1 = _ from rfl)
          rw [← e1] at s1
          have s2 := tx_up1 (c := 1) s1 rB rB (show m1 (6 * tn_rn nm (b k) + tn_rn nm (b k)) + 1 = _ from rfl)
          rw [← e2] at s2
          have s3 := tx_up1 (c := -1) s2 rA rB (tx_sub1 _)
          rw [← e3] at s3
          have s4 := tx_up1 (c := -1) s3 rB rA (tx_sub1 _)
          rw [← e4] at s4
          rw [e]
          intro u v hu hv
          rw [s4 u v hu hv]
          apply congrArg Int64.ofInt
          simp only [tb_M]
          exact tx_ed4 yy _
      · intro x ex
        rw [ex, nI_1]
        have e : tc_F t i o (k + 1) = tc_F t i o k := by
          unfold tc_F
          rw [dn1, List.filter_cons_of_neg]
          rw [Nat.testBit_or, Bool.or_eq_true] at w
          rcases w with w | w
          · simp [tc_fr, w]
          · simp [tc_fr, w]
        exact ih (k + 1) mx (by omega) (by rw [e]; exact hm)
theorem tx_fill_1 {post : SX → Prop} {s : Int32} (h : ∀ mx : Nat → Int64, (∀ i, i < 36 → mx i = 0) → ∃ n, wX_fillMatrix_23 post s fn fm n 0 th ea eb na ro mx) : ∀ (d i : Nat) (mx : Nat → Int64), i + d = 36 → (∀ j, j < i → mx j = 0) →
    wX_fillMatrix_2 post s fn fm (d + 1) (nI i) th ea eb na ro mx := by
  intro d
  induction d with
  | zero =>
    intro i mx hi hm
    have e : i = 36 := by omega
    subst e
    exact br_t (nI_le (a := 36) (b := 36) (Nat.le_refl 36) (by decide)) (h mx hm)
  | succ d ih =>
    intro i mx hi hm
    refine br_f (nI_ge (b := 36) (by omega) (by decide)) ⟨vp_in_nI (by omega) (by omega), ?_⟩
    intro m1 e1 x ex
    subst e1
    rw [ex, nI_1]
    refine ih (i + 1) _ (by omega) ?_
    intro j hj
    rw [nI_clamp (by omega)]
    by_cases w : j = i
    · subst w
      exact pk_uLs
    · rw [pk_uLn w]
      exact hm j (by omega)
theorem tx_fill {post : SX → Prop} {i o : Nat} {mx : Nat → Int64} (hi : i < 1024) (ho : o < 1024) (hT : ∀ k, k < 10 → (th k = 0 ↔ t k = false)) (hA : ∀ k, k < 10 → ea k = nI (a k) ∧ a k < N) (hB : ∀ k, k < 10 → eb k = nI (b k) ∧ b k < N) (hN : N ≤ 6)
    (hn : ∀ x, x < 6 → na x = nI (nm x)) (hI : tn_Id N nm) (hr : ∀ x, x < N → nm x = x → ro x = nI (tn_rk nm x))
    (h : ∀ mx : Nat → Int64, tx_MX mx (tb_M a b (tn_rn nm) (tc_F t i o 10)) → post (fn, fm, th, ea, eb, na, ro, mx)) : wpX_fillMatrix post (fn, fm, th, ea, eb, na, ro, mx) (nI (i ||| o)) := by
  unfold wpX_fillMatrix
  dsimp only
  refine ⟨37, tx_fill_1 (fun m hm => ⟨11, tx_fill_2 hi ho hT hA hB hN hn hI hr h 10 0 m rfl ?_⟩) 36 0 mx rfl (fun j hj => absurd hj (Nat.not_lt_zero j))⟩
  intro x y hx hy
  exact hm _ (by omega)
end
end
section
/-! The component's walks: elimination, and the count. -/
theorem tx_div {a b : Int} {A B C D : Int} (hA : -100000 ≤ A ∧ A ≤ 100000) (hB : -100000 ≤ B ∧ B ≤ 100000) (ha : -100000 ≤ a ∧ a ≤ 100000) (hb : -100000 ≤ b ∧ b ≤ 100000) (hD : -100000 ≤ D ∧ D ≤ 100000) (h0 : D ≠ 0) (e : A * b - a * B = C * D) :
    (Int64.ofInt A * Int64.ofInt b - Int64.ofInt a * Int64.ofInt B) / Int64.ofInt D = Int64.ofInt C := by
  have m1 : -10000000000 ≤ A * b ∧ A * b ≤ 10000000000 := by
    have q : (A * b).natAbs ≤ 100000 * 100000 := by
      rw [Int.natAbs_mul]
      exact Nat.mul_le_mul (by omega) (by omega)
    omega
  have m2 : -10000000000 ≤ a * B ∧ a * B ≤ 10000000000 := by
    have q : (a * B).natAbs ≤ 100000 * 100000 := by
      rw [Int.natAbs_mul]
      exact Nat.mul_le_mul (by omega) (by omega)
    omega
  rw [← Int64.ofInt_mul, ← Int64.ofInt_mul, ← Int64.ofInt_sub]
  have mn : Int64.minValue.toInt = -9223372036854775808 := rfl
  have mxx : Int64.maxValue.toInt = 9223372036854775807 := rfl
  rw [← Int64.ofInt_tdiv (by rw [mn]; omega) (by rw [mxx]; omega) (by rw [mn]; omega) (by rw [mxx]; omega), e, Int.mul_tdiv_cancel _ h0]
theorem tx_of0 {D : Int} (hD : -100000 ≤ D ∧ D ≤ 100000) : Int64.ofInt D = 0 ↔ D = 0 := by
  constructor
  · intro h
    have e := congrArg Int64.toInt h
    rw [Int64.toInt_ofInt_of_le (by omega) (by omega)] at e
    exact e
  · intro h
    rw [h]
    rfl
section
variable {fn fm : Int32} {th ea eb na ro : Nat → Int32}
theorem tx_clear_l {post : SX → Prop} {mx : Nat → Int64} {i k S : Nat} {A B C : Nat → Int} {D : Int} (hik : k < i) (hiS : i < S) (hS : S ≤ 6)
    (h1 : ∀ j, k ≤ j → j < S → mx (6 * i + j) = Int64.ofInt (A j) ∧ -100000 ≤ A j ∧ A j ≤ 100000) (h2 : ∀ j, k ≤ j → j < S → mx (6 * k + j) = Int64.ofInt (B j) ∧ -100000 ≤ B j ∧ B j ≤ 100000)
    (hD : -100000 ≤ D ∧ D ≤ 100000) (h0 : D ≠ 0) (he : ∀ j, k < j → j < S → A j * B k - A k * B j = C j * D)
    (h : ∀ mx' : Nat → Int64, (∀ j, k < j → j < S → mx' (6 * i + j) = Int64.ofInt (C j)) → (∀ z, (∀ j, k < j → j < S → z ≠ 6 * i + j) → mx' z = mx z) → post (fn, fm, th, ea, eb, na, ro, mx')) :
    ∀ (d j : Nat) (mx' : Nat → Int64), j + d = S → k < j → (∀ l, k < l → l < j → mx' (6 * i + l) = Int64.ofInt (C l)) → (∀ z, (∀ l, k < l → l < j → z ≠ 6 * i + l) → mx' z = mx z) →
    wX_clearColumn_44 post (nI i) (nI k) (nI S) (Int64.ofInt (A k)) (Int64.ofInt (B k)) (Int64.ofInt D) fn fm (d + 1) (nI j) th ea eb na ro mx' := by
  intro d
  induction d with
  | zero =>
    intro j mx' hj hkj g1 g2
    have e : j = S := by omega
    subst e
    exact br_t (nI_le (Nat.le_refl _) (by omega)) (h mx' g1 g2)
  | succ d ih =>
    intro j mx' hj hkj g1 g2
    have p1 := h1 j (by omega) (by omega)
    have p2 := h2 j (by omega) (by omega)
    have p3 := h1 k (by omega) (by omega)
    have p4 := h2 k (by omega) (by omega)
    have v1 : vp_in ((6 : Int32) * nI i + nI j) 36 := by
      rw [tx_ix]
      exact vp_in_nI (by omega) (by omega)
    have v2 : vp_in ((6 : Int32) * nI k + nI j) 36 := by
      rw [tx_ix]
      exact vp_in_nI (by omega) (by omega)
    have c1 : ((6 : Int32) * nI i + nI j).toNatClampNeg = 6 * i + j := by
      rw [tx_ix]
      exact nI_clamp (by omega)
    have c2 : ((6 : Int32) * nI k + nI j).toNatClampNeg = 6 * k + j := by
      rw [tx_ix]
      exact nI_clamp (by omega)
    have q1 : mx' (6 * i + j) = Int64.ofInt (A j) := by
      rw [g2 _ (fun l _ _ => by omega)]
      exact p1.1
    have q2 : mx' (6 * k + j) = Int64.ofInt (B j) := by
      rw [g2 _ (fun l _ _ => by omega)]
      exact p2.1
    refine br_f (nI_ge (by omega) (by omega)) ⟨v1, v2, ?_, v1, ?_⟩
    · rw [tx_of0 hD]
      exact h0
    · intro m em x ex
      rw [ex, nI_1]
      rw [c1, c2, q1, q2, tx_div p1.2 p2.2 p3.2 p4.2 hD h0 (he j hkj (by omega))] at em
      subst em
      refine ih (j + 1) _ (by omega) (by omega) ?_ ?_
      · intro l hl1 hl2
        by_cases w : l = j
        · subst w
          exact pk_uLs
        · rw [pk_uLn (by omega)]
          exact g1 l hl1 (by omega)
      · intro z hz
        have := hz j hkj (by omega)
        rw [pk_uLn this]
        exact g2 z (fun l a1 a2 => hz l a1 (by omega))
theorem tx_clear {post : SX → Prop} {mx : Nat → Int64} {i k S : Nat} {A B C : Nat → Int} {D : Int} (hik : k < i) (hiS : i < S) (hS : S ≤ 6)
    (h1 : ∀ j, k ≤ j → j < S → mx (6 * i + j) = Int64.ofInt (A j) ∧ -100000 ≤ A j ∧ A j ≤ 100000) (h2 : ∀ j, k ≤ j → j < S → mx (6 * k + j) = Int64.ofInt (B j) ∧ -100000 ≤ B j ∧ B j ≤ 100000)
    (hD : -100000 ≤ D ∧ D ≤ 100000) (h0 : D ≠ 0) (he : ∀ j, k < j → j < S → A j * B k - A k * B j = C j * D)
    (h : ∀ mx' : Nat → Int64, (∀ j, k < j → j < S → mx' (6 * i + j) = Int64.ofInt (C j)) → (∀ z, (∀ j, k < j → j < S → z ≠ 6 * i + j) → mx' z = mx z) → post (fn, fm, th, ea, eb, na, ro, mx')) :
    wpX_clearColumn post (fn, fm, th, ea, eb, na, ro, mx) (nI i) (nI k) (nI S) (Int64.ofInt D) := by
  unfold wpX_clearColumn
  dsimp only
  have v1 : vp_in ((6 : Int32) * nI i + nI k) 36 := by
    rw [tx_ix]
    exact vp_in_nI (by omega) (by omega)
  have v2 : vp_in ((7 : Int32) * nI k) 36 := by
    rw [tx_ix7]
    exact vp_in_nI (by omega) (by omega)
  have e1 : mx ((6 : Int32) * nI i + nI k).toNatClampNeg = Int64.ofInt (A k) := by
    rw [tx_ix, nI_clamp (by omega)]
    exact (h1 k (by omega) (by omega)).1
  have e2 : mx ((7 : Int32) * nI k).toNatClampNeg = Int64.ofInt (B k) := by
    rw [tx_ix7, nI_clamp (by omega)]
    exact (h2 k (by omega) (by omega)).1
  refine ⟨v1, nm_r e1 ⟨v2, nm_r e2 (br_f ?_ ?_)⟩⟩
  · rw [tx_of0 hD]
    exact h0
  · refine nm_r (nI_1 k) ⟨S - (k + 1) + 1, ?_⟩
    exact tx_clear_l hik hiS hS h1 h2 hD h0 he h (S - (k + 1)) (k + 1) mx (by omega) (by omega) (fun l a1 a2 => by omega) (fun z _ => rfl)
/-- what the elimination asks of the numbers -/
def tx_El (S : Nat) (c : Int) (Z : Nat → Nat → Nat → Int) (Q : Nat → Int) : Prop :=
  (∀ k i j, k < S → (∀ l, l < k → Z l l l ≠ 0) → k ≤ i → i < S → k ≤ j → j < S → -100000 ≤ Z k i j ∧ Z k i j ≤ 100000) ∧
  (∀ k i j, (∀ l, l ≤ k → Z l l l ≠ 0) → k < i → i < S → k < j → j < S → Z k k k * Z k i j - Z k i k * Z k k j = Z (k + 1) i j * Q k) ∧
  ((∀ l, l < S → Z l l l ≠ 0) → Q S = c) ∧ (∀ k, k < S → (∀ l, l < k → Z l l l ≠ 0) → Z k k k = 0 → c = 0) ∧ Q 0 = 1 ∧ (∀ k, Q (k + 1) = Z k k k)
theorem tx_Q {S : Nat} {c : Int} {Z : Nat → Nat → Nat → Int} {Q : Nat → Int} (E : tx_El S c Z Q) {k : Nat} (hk : k < S) (hz : ∀ l, l < k → Z l l l ≠ 0) : Q k ≠ 0 ∧ -100000 ≤ Q k ∧ Q k ≤ 100000 := by
  cases k with
  | zero => rw [E.2.2.2.2.1]; exact ⟨by decide, by decide, by decide⟩
  | succ k =>
    rw [E.2.2.2.2.2 k]
    exact ⟨hz k (by omega), E.1 k k k (by omega) (fun l h => hz l (by omega)) (Nat.le_refl k) (by omega) (Nat.le_refl k) (by omega)⟩
theorem tx_det_in {post : Int64 → SX → Prop} {J : Int64 → Int32 → Int32 → Int32 → (Nat → Int32) → (Nat → Int32) → (Nat → Int32) → (Nat → Int32) → (Nat → Int32) → (Nat → Int64) → Prop}
    {S k : Nat} {c : Int} {Z : Nat → Nat → Nat → Int} {Q : Nat → Int} (hS : S ≤ 6) (E : tx_El S c Z Q) (hk : k < S) (hz : ∀ l, l ≤ k → Z l l l ≠ 0)
    (h : ∀ mx : Nat → Int64, (∀ i j, k < i → i < S → k < j → j < S → mx (6 * i + j) = Int64.ofInt (Z (k + 1) i j)) → J (Int64.ofInt (Z k k k)) (nI (k + 1)) fn fm th ea eb na ro mx) :
    ∀ (d i : Nat) (mx : Nat → Int64), i + d = S → k < i → (∀ u j, k < u → u < i → k < j → j < S → mx (6 * u + j) = Int64.ofInt (Z (k + 1) u j)) → (∀ u j, (u = k ∨ i ≤ u) → u < S → k ≤ j → j < S → mx (6 * u + j) = Int64.ofInt (Z k u j)) →
    wX_determinant_38 post J (nI S) (Int64.ofInt (Q k)) (nI k) (Int64.ofInt (Z k k k)) (d + 1) (nI i) fn fm th ea eb na ro mx := by
  intro d
  induction d with
  | zero =>
    intro i mx hi hki g1 _
    have e : i = S := by omega
    subst e
    exact br_t (nI_le (Nat.le_refl _) (by omega)) (nm_r (nI_1 k) (h mx g1))
  | succ d ih =>
    intro i mx hi hki g1 g2
    have hz' : ∀ l, l < k → Z l l l ≠ 0 := fun l h => hz l (by omega)
    have q := tx_Q E hk hz'
    have bd : ∀ u j, k ≤ u → u < S → k ≤ j → j < S → -100000 ≤ Z k u j ∧ Z k u j ≤ 100000 := fun u j a1 a2 a3 a4 => E.1 k u j hk hz' a1 a2 a3 a4
    refine br_f (nI_ge (by omega) (by omega)) ?_
    refine tx_clear (A := fun j => Z k i j) (B := fun j => Z k k j) (C := fun j => Z (k + 1) i j) hki (by omega) hS
      (fun j a1 a2 => ⟨g2 i j (Or.inr (Nat.le_refl i)) (by omega) a1 a2, bd i j (by omega) (by omega) a1 a2⟩)
      (fun j a1 a2 => ⟨g2 k j (Or.inl rfl) hk a1 a2, bd k j (Nat.le_refl k) hk a1 a2⟩) q.2 q.1 ?_ ?_
    · intro j a1 a2
      have := E.2.1 k i j hz hki (by omega) a1 a2
      rw [← this, Int.mul_comm (Z k i j) (Z k k k)]
    · intro mx' f1 f2
      dsimp only
      intro x ex
      rw [ex, nI_1]
      refine ih (i + 1) mx' (by omega) (by omega) ?_ ?_
      · intro u j a1 a2 a3 a4
        by_cases w : u = i
        · subst w
          exact f1 j a3 a4
        · rw [f2 _ (fun j' b1 b2 => by omega)]
          exact g1 u j a1 (by omega) a3 a4
      · intro u j a1 a2 a3 a4
        rw [f2 _ (fun j' b1 b2 => by omega)]
        exact g2 u j (by omega) a2 a3 a4
theorem tx_det_l {post : Int64 → SX → Prop} {S : Nat} {c : Int} {Z : Nat → Nat → Nat → Int} {Q : Nat → Int} (hS : S ≤ 6) (E : tx_El S c Z Q)
    (h : ∀ mx : Nat → Int64, post (Int64.ofInt c) (fn, fm, th, ea, eb, na, ro, mx)) : ∀ (d k : Nat) (mx : Nat → Int64), k + d = S → (∀ l, l < k → Z l l l ≠ 0) → (∀ i j, k ≤ i → i < S → k ≤ j → j < S → mx (6 * i + j) = Int64.ofInt (Z k i j)) →
    wX_determinant_5 post (nI S) (d + 1) (Int64.ofInt (Q k)) (nI k) fn fm th ea eb na ro mx := by
  intro d
  induction d with
  | zero =>
    intro k mx hk hz _
    have e : k = S := by omega
    subst e
    refine br_t (nI_le (Nat.le_refl _) (by omega)) ?_
    rw [E.2.2.1 hz]
    exact h mx
  | succ d ih =>
    intro k mx hk hz g
    have hkS : k < S := by omega
    have v : vp_in ((7 : Int32) * nI k) 36 := by
      rw [tx_ix7]
      exact vp_in_nI (by omega) (by omega)
    have e : mx ((7 : Int32) * nI k).toNatClampNeg = Int64.ofInt (Z k k k) := by
      rw [tx_ix7, nI_clamp (by omega)]
      exact g k k (Nat.le_refl k) hkS (Nat.le_refl k) hkS
    have bd := E.1 k k k hkS hz (Nat.le_refl k) hkS (Nat.le_refl k) hkS
    refine br_f (nI_ge (by omega) (by omega)) ⟨v, nm_r e ?_⟩
    refine br_c (fun z => ?_) (fun z => ?_)
    · have z0 := (tx_of0 bd).mp z
      have c0 := E.2.2.2.1 k hkS hz z0
      have := h mx
      rw [c0] at this
      exact this
    · have z0 : Z k k k ≠ 0 := fun w => z ((tx_of0 bd).mpr w)
      have hz1 : ∀ l, l ≤ k → Z l l l ≠ 0 := by
        intro l hl
        by_cases w : l = k
        · subst w
          exact z0
        · exact hz l (by omega)
      refine nm_r (nI_1 k) ⟨S - (k + 1) + 1, ?_⟩
      refine tx_det_in hS E hkS hz1 ?_ (S - (k + 1)) (k + 1) mx (by omega) (by omega) (fun u j a1 a2 => by omega) (fun u j a1 a2 a3 a4 => g u j (by omega) a2 a3 a4)
      intro m gm
      rw [← E.2.2.2.2.2 k]
      exact ih (k + 1) m (by omega) (fun l hl => hz1 l (by omega)) (fun i j a1 a2 a3 a4 => gm i j (by omega) a2 (by omega) a4)
theorem tx_det {post : Int64 → SX → Prop} {S : Nat} {c : Int} {Z : Nat → Nat → Nat → Int} {Q : Nat → Int} {mx : Nat → Int64} (hS : S ≤ 6) (E : tx_El S c Z Q) (hm : ∀ i j, i < S → j < S → mx (6 * i + j) = Int64.ofInt (Z 0 i j))
    (h : ∀ mx : Nat → Int64, post (Int64.ofInt c) (fn, fm, th, ea, eb, na, ro, mx)) : wpX_determinant post (fn, fm, th, ea, eb, na, ro, mx) (nI S) := by
  unfold wpX_determinant
  dsimp only
  refine ⟨S + 1, ?_⟩
  have := tx_det_l hS E h S 0 mx (by omega) (fun l hl => absurd hl (Nat.not_lt_zero l)) (fun i j _ a2 _ a4 => hm i j a2 a4)
  rw [E.2.2.2.2.1] at this
  exact this
end
theorem tx_El_of {a b rn : Nat → Nat} {E : List Nat} {r : Nat} (hr : 0 < r) (hr6 : r ≤ 6) (hE : ∀ k ∈ E, rn (a k) < r ∧ rn (b k) < r) (hl : E.length ≤ 10) :
    tx_El (r - 1) ((tn_cT a b E rn r : Nat) : Int) (tb_Z (tb_M a b rn E) ((tn_cT a b E rn r : Nat) : Int)) (tb_Q (tb_M a b rn E) ((tn_cT a b E rn r : Nat) : Int)) := by
  have L := tb_M_L a b rn hE hl
  have T := tb_M_tau a b rn hr hE
  refine ⟨?_, ?_, ?_, ?_, rfl, fun _ => rfl⟩
  · intro k i j hk hz h1 h2 h3 h4
    exact tb_bd L hr6 T (by omega) hz h1 (by omega) h3 (by omega)
  · intro k i j hz h1 h2 h3 h4
    exact tb_step L hr6 T hz h1 (by omega) h3 (by omega)
  · intro hz
    exact tb_end L hr6 T (by omega) hz
  · intro k hk hz h0
    exact tb_zero L hr6 T (by omega) hz h0
/-- what the fields of both sides hold: n points, the lines that are there, their ends -/
def tx_St (N : Nat) (th ea eb : Nat → Int32) (t : Nat → Bool) (a b : Nat → Nat) : Prop :=
  1 ≤ N ∧ N ≤ 6 ∧ (∀ k, k < 10 → (th k = 0 ↔ t k = false)) ∧ (∀ k, k < 10 → ea k = nI (a k) ∧ a k < N) ∧ (∀ k, k < 10 → eb k = nI (b k) ∧ b k < N)
theorem tx_rl_bad (t : Nat → Bool) (a b : Nat → Nat) (i k : Nat) (h : tn_rl t a b (tc_up i k) id = false) : ∀ d, tn_rl t a b (tc_up i (k + d)) id = false := by
  intro d
  induction d with
  | zero => exact h
  | succ d ih =>
    rw [← Nat.add_assoc]
    simp only [tc_up]
    split
    · rw [tn_rl_app, ih, Bool.false_and]
    · exact ih
section
variable {fm : Int32} {th ea eb : Nat → Int32} {t : Nat → Bool} {a b : Nat → Nat} {N : Nat}
theorem tx_ct_end {post : Int32 → SX → Prop} {i o : Nat} {na ro : Nat → Int32} {mx : Nat → Int64} (H : tx_St N th ea eb t a b) (hi : i < 1024) (ho : o < 1024) (hd : i &&& o = 0) (hrl : tn_rl t a b (tc_up i 10) id = true)
    (hn : ∀ x, x < 6 → na x = nI (tn_af a b (tc_up i 10) id x))
    (h : ∀ (na ro : Nat → Int32) (mx : Nat → Int64), post (nI (tc_N t a b N i o)) (nI N, fm, th, ea, eb, na, ro, mx)) (n : Nat) : wX_countTrees_14 post (nI i) (nI o) (n + 1) (nI 10) (nI N) fm th ea eb na ro mx := by
  obtain ⟨hN1, hN6, hT, hA, hB⟩ := H
  have R := tn_af_rk t a b (n := N) (tc_up i 10) id (tn_Id_id N) (fun k hk => ⟨(hA k (tc_up_mem hk).2).2, (hB k (tc_up_mem hk).2).2⟩) hrl
  have R6 := (tn_af_rk t a b (n := 6) (tc_up i 10) id (tn_Id_id 6) (fun k hk => by
    have h1 := (hA k (tc_up_mem hk).2).2
    have h2 := (hB k (tc_up_mem hk).2).2
    exact ⟨by omega, by omega⟩) hrl).1
  have EQ := tc_N_eq (n := N) hi ho hd hrl
  generalize tn_af a b (tc_up i 10) id = nm at R R6 hn EQ
  rw [tn_rk_id] at R
  have e1 : N - (tc_up i 10).length = tn_rk nm N := by omega
  rw [e1, ← tn_cT_eqv a b _ _ _ (tn_rk nm N) (tn_rn_eqv R.1)] at EQ
  have r1 : 0 < tn_rk nm N := by
    have := tn_rn_lt R.1 (x := 0) (by omega)
    omega
  have r6 : tn_rk nm N ≤ 6 := by
    have := tn_rk_le nm N
    omega
  refine br_t (nI_le (a := 10) (b := 10) (Nat.le_refl 10) (by decide)) ?_
  refine tx_rows hN6 hn R6.2 (fun ro1 hro => ?_)
  dsimp only
  rw [tx_or]
  refine tx_fill hi ho hT hA hB hN6 hn R.1 hro (fun mx1 hmx => ?_)
  dsimp only
  have e2 : nI (tn_rk nm N) - 1 = nI (tn_rk nm N - 1) := by
    have e3 : tn_rk nm N = (tn_rk nm N - 1) + 1 := by omega
    rw [e3]
    exact nI_pred _
  rw [e2]
  have hE : ∀ k ∈ tc_F t i o 10, tn_rn nm (a k) < tn_rk nm N ∧ tn_rn nm (b k) < tn_rk nm N := by
    intro k hk
    have hk10 : k < 10 := by
      have hm := (List.mem_filter.mp hk).1
      have hd : ∀ q, k ∈ tc_dn q → k < q := by
        intro q
        induction q with
        | zero => intro h; exact absurd h List.not_mem_nil
        | succ q ih =>
          intro h
          rcases List.mem_cons.mp h with e | e
          · omega
          · have := ih e
            omega
      exact hd 10 hm
    exact ⟨tn_rn_lt R.1 (hA k hk10).2, tn_rn_lt R.1 (hB k hk10).2⟩
  refine tx_det (by omega) (tx_El_of r1 r6 hE (tc_F_len t i o)) (fun x y hx hy => hmx x y (by omega) (by omega)) (fun mx2 => ?_)
  dsimp only
  have e4 : (Int64.ofInt ((tn_cT a b (tc_F t i o 10) (tn_rn nm) (tn_rk nm N) : Nat) : Int)).toInt32 = nI (tc_N t a b N i o) := by
    rw [Int64.toInt32_ofInt, Int32.ofInt_eq_ofNat, EQ]
    rfl
  rw [e4]
  exact h _ _ _
theorem tx_ct_l {post : Int32 → SX → Prop} {i o : Nat} {ro : Nat → Int32} {mx : Nat → Int64} (H : tx_St N th ea eb t a b) (hi : i < 1024) (ho : o < 1024) (hd : i &&& o = 0)
    (h : ∀ (na ro : Nat → Int32) (mx : Nat → Int64), post (nI (tc_N t a b N i o)) (nI N, fm, th, ea, eb, na, ro, mx)) : ∀ (d k : Nat) (na : Nat → Int32), k + d = 10 → tn_rl t a b (tc_up i k) id = true → (∀ x, x < 6 → na x = nI (tn_af a b (tc_up i k) id x)) →
    wX_countTrees_14 post (nI i) (nI o) (d + 1) (nI k) (nI N) fm th ea eb na ro mx := by
  intro d
  induction d with
  | zero =>
    intro k na hk hrl hn
    have e : k = 10 := by omega
    subst e
    exact tx_ct_end H hi ho hd hrl hn h 0
  | succ d ih =>
    intro k na hk hrl hn
    have hk10 : k < 10 := by omega
    have hv : vp_in (nI k) 10 := vp_in_nI hk10 (by omega)
    have ck : (nI k).toNatClampNeg = k := nI_clamp (by omega)
    have H' := H
    obtain ⟨hN1, hN6, hT, hA, hB⟩ := H'
    have bad : tn_rl t a b (tc_up i (k + 1)) id = false → post 0 (nI N, fm, th, ea, eb, na, ro, mx) := by
      intro hb
      have q := tx_rl_bad t a b i (k + 1) hb (9 - k)
      have e : k + 1 + (9 - k) = 10 := by omega
      rw [e] at q
      have := h na ro mx
      rw [tc_N_0 hi ho q] at this
      exact this
    refine br_f (nI_ge (b := 10) (by omega) (by decide)) ?_
    refine tx_b0 (tx_bit hi hk10) (fun w => ?_) (fun w => ?_)
    · intro x ex
      rw [ex, nI_1]
      have e : tc_up i (k + 1) = tc_up i k := by
        simp only [tc_up]
        rw [if_neg (by rw [w]; decide)]
      exact ih (k + 1) na (by omega) (by rw [e]; exact hrl) (by rw [e]; exact hn)
    · have e : tc_up i (k + 1) = tc_up i k ++ [k] := by
        simp only [tc_up]
        rw [if_pos w]
      have e5 : tn_rl t a b (tc_up i (k + 1)) id = (t k && decide (tn_af a b (tc_up i k) id (a k) ≠ tn_af a b (tc_up i k) id (b k))) := by
        rw [e, tn_rl_app, hrl, Bool.true_and, tn_rl_c]
        show (t k && (_ && true)) = _
        rw [Bool.and_true]
      have e6 : tn_af a b (tc_up i (k + 1)) id = tn_jn (tn_af a b (tc_up i k) id) (a k) (b k) := by
        rw [e, tn_af_app]
        rfl
      have A := hA k hk10
      have B := hB k hk10
      have R6 := (tn_af_rk t a b (n := 6) (tc_up i k) id (tn_Id_id 6) (fun j hj => by
        have hj10 : j < 10 := by
          have := (tc_up_mem hj).2
          omega
        have h1 := (hA j hj10).2
        have h2 := (hB j hj10).2
        exact ⟨by omega, by omega⟩) hrl).1
      refine ⟨hv, ?_⟩
      rw [ck]
      refine br_c (fun z => ?_) (fun z => ?_)
      · apply bad
        rw [e5, (hT k hk10).mp z, Bool.false_and]
      · have zt : t k = true := by
          cases ht : t k
          · exact absurd ((hT k hk10).mpr ht) z
          · rfl
        have cA : (ea k).toNatClampNeg = a k := by rw [A.1]; exact nI_clamp (by omega)
        have cB : (eb k).toNatClampNeg = b k := by rw [B.1]; exact nI_clamp (by omega)
        have iA : vp_in (ea k) 6 := by rw [A.1]; exact vp_in_nI (by omega) (by omega)
        have iB : vp_in (eb k) 6 := by rw [B.1]; exact vp_in_nI (by omega) (by omega)
        have b1 := R6.2 (a k) (by omega)
        have b2 := R6.2 (b k) (by omega)
        refine ⟨hv, iA, hv, iB, ?_⟩
        rw [cA, cB, hn (a k) (by omega), hn (b k) (by omega)]
        refine pk_eq _ _ (fun y => ?_) (fun y => ?_)
        · apply bad
          rw [e5, zt, Bool.true_and]
          exact decide_eq_false (fun n => n y)
        · refine ⟨hv, hv, ?_⟩
          rw [A.1, B.1]
          refine tx_join hn R6.2 (by omega) (by omega) (fun na1 hn1 => ?_)
          dsimp only
          intro x ex
          rw [ex, nI_1]
          refine ih (k + 1) na1 (by omega) ?_ ?_
          · rw [e5, zt, Bool.true_and]
            exact decide_eq_true y
          · rw [e6]
            exact hn1
theorem tx_count {post : Int32 → SX → Prop} {i o : Nat} {na ro : Nat → Int32} {mx : Nat → Int64} (H : tx_St N th ea eb t a b) (hi : i < 1024) (ho : o < 1024)
    (h : ∀ (na ro : Nat → Int32) (mx : Nat → Int64), post (nI (tc_N t a b N i o)) (nI N, fm, th, ea, eb, na, ro, mx)) : wpX_countTrees post (nI N, fm, th, ea, eb, na, ro, mx) (nI i) (nI o) := by
  unfold wpX_countTrees
  dsimp only
  rw [nx_and]
  have hlt : i &&& o < 1024 := tx_and_lt hi
  refine pk_eq (i &&& o) 0 (fun z => ?_) (fun z => ?_)
  · refine tx_fresh (fun na1 hn1 => ?_)
    dsimp only
    exact ⟨11, tx_ct_l H hi ho z h 10 0 na1 rfl rfl hn1⟩
  · have := h na ro mx
    rw [tc_N_00 z] at this
    exact this
end
end
section
/-! The component's loops over the count: below, tree, rank, surplus. -/
theorem tc_it_up (t : Nat → Bool) (a b : Nat → Nat) (n m : Nat) : tc_it t a b n m = (decide ((tc_up m 10).length + 1 = n) && tn_rl t a b (tc_up m 10) id) := by
  unfold tc_it
  rw [(tc_up_perm m 10).length_eq, tn_rl_perm t a b (tc_up_perm m 10)]
theorem tc_cb_pos {p : Nat → Bool} {m s : Nat} (hm : m < s) (h : p m = true) : 0 < tc_cb p s := by
  have h1 : tc_cb p (m + 1) ≤ tc_cb p s := tc_cb_mono p hm
  have h2 : tc_cb p (m + 1) = tc_cb p m + 1 := by
    simp only [tc_cb]
    rw [if_pos h]
  omega
theorem tx_lt_of {m : Nat} (h : ∀ j, m.testBit j = true → j < 10) : m < 1024 := by
  refine Nat.lt_pow_two_of_testBit (n := 10) m (fun j hj => ?_)
  cases hb : m.testBit j
  · rfl
  · have := h j hb
    omega
theorem tx_or_bit {m k j : Nat} : (m ||| 2 ^ k).testBit j = true ↔ (m.testBit j = true ∨ j = k) := by
  rw [Nat.testBit_or, Bool.or_eq_true, Nat.testBit_two_pow, decide_eq_true_eq]
  constructor
  · intro h
    rcases h with h | h
    · exact Or.inl h
    · exact Or.inr h.symm
  · intro h
    rcases h with h | h
    · exact Or.inl h
    · exact Or.inr h.symm
theorem tx_nor {m k j : Nat} (h1 : m.testBit j = false) (h2 : j ≠ k) : (m ||| 2 ^ k).testBit j = false := by
  rw [Nat.testBit_or, h1, Nat.testBit_two_pow, decide_eq_false (fun e => h2 e.symm)]
  rfl
section
variable {fm : Int32} {th ea eb : Nat → Int32} {t : Nat → Bool} {a b : Nat → Nat} {N : Nat}
theorem tx_below_l {post : Int32 → SX → Prop} {mk : Nat} (H : tx_St N th ea eb t a b) (hmk : mk < 1024)
    (h : ∀ (na ro : Nat → Int32) (mx : Nat → Int64), post (nI (tc_cb (tc_it t a b N) mk)) (nI N, nI mk, th, ea, eb, na, ro, mx)) :
    ∀ (K i o : Nat) (na ro : Nat → Int32) (mx : Nat → Int64), K ≤ 10 → (∀ j, i.testBit j = true ↔ (K ≤ j ∧ mk.testBit j = true)) → (∀ j, o.testBit j = true ↔ (K ≤ j ∧ j < 10 ∧ mk.testBit j = false)) →
    wX_below_10 post (K + 1) (nI (tc_cb (tc_it t a b N) i)) (nI i) (nI o) (nI K + (-1)) (nI N) (nI mk) th ea eb na ro mx := by
  intro K
  induction K with
  | zero =>
    intro i o na ro mx _ hi _
    have e : i = mk := by
      apply Nat.eq_of_testBit_eq
      intro j
      rw [Bool.eq_iff_iff, hi j]
      exact ⟨fun w => w.2, fun w => ⟨Nat.zero_le j, w⟩⟩
    subst e
    exact br_t (by decide) (h na ro mx)
  | succ k ih =>
    intro i o na ro mx hK hi ho
    have hk : k < 10 := by omega
    have hi10 : i < 1024 := tx_lt_of (fun j hj => by
      have w := ((hi j).mp hj).2
      by_cases l : j < 10
      · exact l
      · rw [tc_big hmk (by omega)] at w
        exact absurd w (by decide))
    have ho10 : o < 1024 := tx_lt_of (fun j hj => ((ho j).mp hj).2.1)
    have so : nI o ||| ((1 : Int32) <<< (nI k &&& 31)) = nI (o ||| 2 ^ k) := by rw [tx_shl hk, tx_or]
    have si : nI i ||| ((1 : Int32) <<< (nI k &&& 31)) = nI (i ||| 2 ^ k) := by rw [tx_shl hk, tx_or]
    rw [pk_m1]
    refine br_f (nI_pos (by omega)) ?_
    refine tx_b0 (tx_bit hmk hk) (fun w => ?_) (fun w => ?_)
    · refine nm_r so (nm_e ?_)
      refine ih i (o ||| 2 ^ k) na ro mx (by omega) ?_ ?_
      · intro j
        rw [hi j]
        constructor
        · intro q
          exact ⟨by omega, q.2⟩
        · intro q
          refine ⟨?_, q.2⟩
          by_cases e : j = k
          · rw [e, w] at q
            exact absurd q.2 (by decide)
          · omega
      · intro j
        rw [tx_or_bit, ho j]
        constructor
        · intro q
          rcases q with q | q
          · exact ⟨by omega, q.2⟩
          · rw [q]
            exact ⟨Nat.le_refl k, hk, w⟩
        · intro q
          by_cases e : j = k
          · exact Or.inr e
          · exact Or.inl ⟨by omega, q.2⟩
    · rw [so]
      refine tx_count H hi10 (tx_or_lt ho10 (tx_p_lt hk)) (fun na1 ro1 mx1 => ?_)
      dsimp only
      have V := tc_iv (t := t) (a := a) (b := b) (n := N) (k := k) (i := i) (o := o ||| 2 ^ k) (by omega) hi10
        (fun j hj => by
          have q := (hi j).mp hj
          refine ⟨by omega, tx_nor ?_ (by omega)⟩
          cases hb : o.testBit j
          · rfl
          · have := ((ho j).mp hb).2.2
            rw [q.2] at this
            exact absurd this (by decide))
        (fun j hj => by
          rcases tx_or_bit.mp hj with q | q
          · have := ((ho j).mp q).1
            omega
          · omega)
        (fun j h1 h2 => by
          by_cases e : j = k
          · exact Or.inr (Or.inl (tx_or_bit.mpr (Or.inr e)))
          · cases hb : mk.testBit j
            · exact Or.inr (Or.inl (tx_or_bit.mpr (Or.inl ((ho j).mpr ⟨by omega, h2, hb⟩))))
            · exact Or.inl ((hi j).mpr ⟨by omega, hb⟩))
      have ea : i ||| 2 ^ k = i + 2 ^ k := tc_or_add (fun j hj => by
        have := ((hi j).mp hj).1
        omega)
      have es : nI (tc_cb (tc_it t a b N) i) + nI (tc_N t a b N i (o ||| 2 ^ k)) = nI (tc_cb (tc_it t a b N) (i ||| 2 ^ k)) := by
        rw [nI_add, V.1, ea]
      refine nm_r es (nm_r si (nm_e ?_))
      refine ih (i ||| 2 ^ k) o na1 ro1 mx1 (by omega) ?_ ?_
      · intro j
        rw [tx_or_bit, hi j]
        constructor
        · intro q
          rcases q with q | q
          · exact ⟨by omega, q.2⟩
          · rw [q]
            exact ⟨Nat.le_refl k, w⟩
        · intro q
          by_cases e : j = k
          · exact Or.inr e
          · exact Or.inl ⟨by omega, q.2⟩
      · intro j
        rw [ho j]
        constructor
        · intro q
          exact ⟨by omega, q.2⟩
        · intro q
          refine ⟨?_, q.2⟩
          by_cases e : j = k
          · rw [e, w] at q
            exact absurd q.2.2 (by decide)
          · omega
theorem tx_below {post : Int32 → SX → Prop} {mk : Nat} {na ro : Nat → Int32} {mx : Nat → Int64} (H : tx_St N th ea eb t a b) (hmk : mk < 1024)
    (h : ∀ (na ro : Nat → Int32) (mx : Nat → Int64), post (nI (tc_cb (tc_it t a b N) mk)) (nI N, nI mk, th, ea, eb, na, ro, mx)) : wpX_below post (nI N, nI mk, th, ea, eb, na, ro, mx) := by
  unfold wpX_below
  dsimp only
  refine ⟨11, ?_⟩
  refine tx_below_l H hmk h 10 0 0 na ro mx (Nat.le_refl 10) ?_ ?_
  · intro j
    rw [Nat.zero_testBit]
    constructor
    · intro q
      exact absurd q (by decide)
    · intro q
      rw [tc_big hmk q.1] at q
      exact absurd q.2 (by decide)
  · intro j
    rw [Nat.zero_testBit]
    constructor
    · intro q
      exact absurd q (by decide)
    · intro q
      omega
theorem tx_tree_l {post : Int32 → SX → Prop} {rank : Nat} (H : tx_St N th ea eb t a b)
    (h : ∀ (s : Nat) (na ro : Nat → Int32) (mx : Nat → Int64), s < 1024 → tc_it t a b N s = true → tc_cb (tc_it t a b N) s = rank → post (nI s) (nI N, fm, th, ea, eb, na, ro, mx)) :
    ∀ (K rest i o : Nat) (na ro : Nat → Int32) (mx : Nat → Int64), K ≤ 10 → (∀ j, i.testBit j = true → K ≤ j ∧ j < 10 ∧ o.testBit j = false) → (∀ j, o.testBit j = true → K ≤ j ∧ j < 10) →
    (∀ j, K ≤ j → j < 10 → i.testBit j = true ∨ o.testBit j = true ∨ t j = false) → rank = tc_cb (tc_it t a b N) i + rest → rank < tc_cb (tc_it t a b N) (i + 2 ^ K) →
    wX_tree_25 post (K + 1) (nI rest) (nI i) (nI o) (nI K + (-1)) (nI N) fm th ea eb na ro mx := by
  intro K
  induction K with
  | zero =>
    intro rest i o na ro mx _ h1 _ _ h4 h5
    have e : tc_cb (tc_it t a b N) (i + 2 ^ 0) = tc_cb (tc_it t a b N) i + if tc_it t a b N i = true then 1 else 0 := rfl
    rw [e] at h5
    have hi10 : i < 1024 := tx_lt_of (fun j hj => (h1 j hj).2.1)
    refine br_t (by decide) ?_
    by_cases z : tc_it t a b N i = true
    · rw [if_pos z] at h5
      exact h i na ro mx hi10 z (by omega)
    · rw [if_neg z] at h5
      omega
  | succ k ih =>
    intro rest i o na ro mx hK h1 h2 h3 h4 h5
    have hk : k < 10 := by omega
    have hi10 : i < 1024 := tx_lt_of (fun j hj => (h1 j hj).2.1)
    have ho10 : o < 1024 := tx_lt_of (fun j hj => (h2 j hj).2)
    have so : nI o ||| ((1 : Int32) <<< (nI k &&& 31)) = nI (o ||| 2 ^ k) := by rw [tx_shl hk, tx_or]
    have si : nI i ||| ((1 : Int32) <<< (nI k &&& 31)) = nI (i ||| 2 ^ k) := by rw [tx_shl hk, tx_or]
    have hT := H.2.2.1
    rw [pk_m1]
    refine br_f (nI_pos (by omega)) ⟨vp_in_nI hk (by omega), ?_⟩
    rw [nI_clamp (show k < 2 ^ 31 by omega)]
    refine br_c (fun z => ?_) (fun z => ?_)
    · have zt := (hT k hk).mp z
      refine nm_e ?_
      have V1 := (tc_iv (t := t) (a := a) (b := b) (n := N) (k := k) (i := i) (o := o) (by omega) hi10
        (fun j hj => ⟨by have := (h1 j hj).1; omega, (h1 j hj).2.2⟩) (fun j hj => by have := (h2 j hj).1; omega)
        (fun j a1 a2 => by
          by_cases e : j = k
          · rw [e]
            exact Or.inr (Or.inr zt)
          · exact h3 j (by omega) a2)).1
      have V2 := (tc_iv (t := t) (a := a) (b := b) (n := N) (k := k + 1) (i := i) (o := o) hK hi10
        (fun j hj => ⟨(h1 j hj).1, (h1 j hj).2.2⟩) (fun j hj => (h2 j hj).1) h3).1
      refine ih rest i o na ro mx (by omega) (fun j hj => ⟨by have := (h1 j hj).1; omega, (h1 j hj).2⟩) (fun j hj => ⟨by have := (h2 j hj).1; omega, (h2 j hj).2⟩) ?_ h4 (by omega)
      intro j a1 a2
      by_cases e : j = k
      · rw [e]
        exact Or.inr (Or.inr zt)
      · exact h3 j (by omega) a2
    · rw [so]
      refine tx_count H hi10 (tx_or_lt ho10 (tx_p_lt hk)) (fun na1 ro1 mx1 => ?_)
      dsimp only
      have V := (tc_iv (t := t) (a := a) (b := b) (n := N) (k := k) (i := i) (o := o ||| 2 ^ k) (by omega) hi10
        (fun j hj => by
          have q := h1 j hj
          exact ⟨by omega, tx_nor q.2.2 (by omega)⟩)
        (fun j hj => by
          rcases tx_or_bit.mp hj with q | q
          · have := (h2 j q).1
            omega
          · omega)
        (fun j a1 a2 => by
          by_cases e : j = k
          · exact Or.inr (Or.inl (tx_or_bit.mpr (Or.inr e)))
          · rcases h3 j (by omega) a2 with q | q | q
            · exact Or.inl q
            · exact Or.inr (Or.inl (tx_or_bit.mpr (Or.inl q)))
            · exact Or.inr (Or.inr q))).1
      have ea : i ||| 2 ^ k = i + 2 ^ k := tc_or_add (fun j hj => by
        have := (h1 j hj).1
        omega)
      have nb : tc_N t a b N i (o ||| 2 ^ k) < 2 ^ 31 := by
        have := tc_cb_le (fun m => (decide (m &&& i = i) && decide (m &&& (o ||| 2 ^ k) = 0)) && tc_it t a b N m) 1024
        unfold tc_N
        omega
      have rb : rest < 2 ^ 31 := by
        have q1 := tc_cb_le (tc_it t a b N) (i + 2 ^ (k + 1))
        have q2 : 2 ^ (k + 1) ≤ 2 ^ 10 := Nat.pow_le_pow_right (by omega) hK
        omega
      have pw : 2 ^ (k + 1) = 2 ^ k + 2 ^ k := by rw [Nat.pow_succ, Nat.mul_two]
      refine pk_le (tc_N t a b N i (o ||| 2 ^ k)) rest (fun y => ?_) (fun y => ?_) rfl rfl nb rb
      · refine nm_r (pk_sub y) (nm_r si (nm_e ?_))
        refine ih (rest - tc_N t a b N i (o ||| 2 ^ k)) (i ||| 2 ^ k) o na1 ro1 mx1 (by omega) ?_ ?_ ?_ ?_ ?_
        · intro j hj
          rcases tx_or_bit.mp hj with q | q
          · have := h1 j q
            exact ⟨by omega, this.2⟩
          · refine ⟨by omega, by omega, ?_⟩
            cases hb : o.testBit j
            · rfl
            · have := (h2 j hb).1
              omega
        · intro j hj
          have := h2 j hj
          exact ⟨by omega, this.2⟩
        · intro j a1 a2
          by_cases e : j = k
          · exact Or.inl (tx_or_bit.mpr (Or.inr e))
          · rcases h3 j (by omega) a2 with q | q | q
            · exact Or.inl (tx_or_bit.mpr (Or.inl q))
            · exact Or.inr (Or.inl q)
            · exact Or.inr (Or.inr q)
        · rw [ea]
          omega
        · rw [ea, Nat.add_assoc, ← pw]
          exact h5
      · refine nm_e (nm_e ?_)
        refine ih rest i (o ||| 2 ^ k) na1 ro1 mx1 (by omega) ?_ ?_ ?_ h4 (by omega)
        · intro j hj
          have q := h1 j hj
          exact ⟨by omega, q.2.1, tx_nor q.2.2 (by omega)⟩
        · intro j hj
          rcases tx_or_bit.mp hj with q | q
          · have := h2 j q
            exact ⟨by omega, this.2⟩
          · exact ⟨by omega, by omega⟩
        · intro j a1 a2
          by_cases e : j = k
          · exact Or.inr (Or.inl (tx_or_bit.mpr (Or.inr e)))
          · rcases h3 j (by omega) a2 with q | q | q
            · exact Or.inl q
            · exact Or.inr (Or.inl (tx_or_bit.mpr (Or.inl q)))
            · exact Or.inr (Or.inr q)
theorem tc_N_all (t : Nat → Bool) (a b : Nat → Nat) (n : Nat) : tc_N t a b n 0 0 = tc_cb (tc_it t a b n) 1024 := by
  apply tc_cb_congr
  intro m _
  rw [Nat.and_zero]
  rfl
theorem tx_tree_w {post : Int32 → SX → Prop} {rank : Nat} {na ro : Nat → Int32} {mx : Nat → Int64} (H : tx_St N th ea eb t a b) (hr : rank < tc_cb (tc_it t a b N) 1024)
    (h : ∀ (s : Nat) (na ro : Nat → Int32) (mx : Nat → Int64), s < 1024 → tc_it t a b N s = true → tc_cb (tc_it t a b N) s = rank → post (nI s) (nI N, fm, th, ea, eb, na, ro, mx)) :
    wX_tree_25 post 11 (nI rank) 0 0 9 (nI N) fm th ea eb na ro mx := by
  refine tx_tree_l H h 10 rank 0 0 na ro mx (Nat.le_refl 10) ?_ ?_ ?_ ?_ ?_
  · intro j hj
    rw [Nat.zero_testBit] at hj
    exact absurd hj (by decide)
  · intro j hj
    rw [Nat.zero_testBit] at hj
    exact absurd hj (by decide)
  · intro j a1 a2
    omega
  · show rank = 0 + rank
    omega
  · exact hr
/-- X.tree: the set of that rank, or -1 -/
theorem tx_tree {post : Int32 → SX → Prop} {v : Int32} {na ro : Nat → Int32} {mx : Nat → Int64} (H : tx_St N th ea eb t a b)
    (h1 : ∀ (s r : Nat) (na ro : Nat → Int32) (mx : Nat → Int64), v = nI r → r < 2 ^ 31 → s < 1024 → tc_it t a b N s = true → tc_cb (tc_it t a b N) s = r → post (nI s) (nI N, fm, th, ea, eb, na, ro, mx))
    (h2 : (∀ s, s < 1024 → tc_it t a b N s = true → nI (tc_cb (tc_it t a b N) s) ≠ v) → ∀ (na ro : Nat → Int32) (mx : Nat → Int64), post (-1) (nI N, fm, th, ea, eb, na, ro, mx)) :
    wpX_tree post (nI N, fm, th, ea, eb, na, ro, mx) v := by
  unfold wpX_tree
  dsimp only
  refine br_c (fun z => ?_) (fun z => ?_)
  · refine h2 (fun s hs ht e => ?_) na ro mx
    rw [← e] at z
    have := tc_cb_le (tc_it t a b N) s
    exact nI_pos (by omega) z
  · obtain ⟨r, hr, rfl⟩ := nI_of z
    unfold wpX_trees
    dsimp only
    refine tx_count (i := 0) (o := 0) H (by omega) (by omega) (fun na1 ro1 mx1 => ?_)
    dsimp only
    rw [tc_N_all]
    have cb := tc_cb_le (tc_it t a b N) 1024
    refine pk_lt r (tc_cb (tc_it t a b N) 1024) (fun y => ?_) (fun y => ?_)
    · exact ⟨11, tx_tree_w H y (fun s na2 ro2 mx2 a1 a2 a3 => h1 s r na2 ro2 mx2 rfl hr a1 a2 a3)⟩
    · refine h2 (fun s hs ht e => ?_) na1 ro1 mx1
      have q := tc_cb_le (tc_it t a b N) s
      rw [nI_eq (by omega) hr] at e
      have q2 := tc_cb_mono (tc_it t a b N) (show s + 1 ≤ 1024 by omega)
      have q3 : tc_cb (tc_it t a b N) (s + 1) = tc_cb (tc_it t a b N) s + 1 := by
        simp only [tc_cb]
        rw [if_pos ht]
      omega
theorem tx_rank_l {post : Int32 → SX → Prop} {mk : Nat} {na ro : Nat → Int32} {mx : Nat → Int64} (H : tx_St N th ea eb t a b) (hmk : mk < 1024)
    (h : ∀ (na ro : Nat → Int32) (mx : Nat → Int64), post (if tc_it t a b N mk = true then nI (tc_cb (tc_it t a b N) mk) else -1) (nI N, nI mk, th, ea, eb, na, ro, mx)) :
    ∀ (d k : Nat), k + d = 10 → wX_rank_4 post (nI N) (nI mk) th ea eb na ro mx (d + 1) (nI (tc_up mk k).length) (nI k) := by
  intro d
  induction d with
  | zero =>
    intro k hk
    have e : k = 10 := by omega
    subst e
    have hN := H.1
    have hN6 := H.2.1
    have len := tc_up_len mk 10
    have e2 : nI N - 1 = nI (N - 1) := by
      have e3 : N = (N - 1) + 1 := by omega
      rw [e3]
      exact nI_pred _
    refine br_t (nI_le (a := 10) (b := 10) (Nat.le_refl 10) (by decide)) ?_
    rw [e2]
    refine pk_eq (tc_up mk 10).length (N - 1) (fun y => ?_) (fun y => ?_)
    · refine tx_count (o := 0) H hmk (by omega) (fun na1 ro1 mx1 => ?_)
      dsimp only
      have nb : tc_N t a b N mk 0 < 2 ^ 31 := by
        have := tc_cb_le (fun m => (decide (m &&& mk = mk) && decide (m &&& 0 = 0)) && tc_it t a b N m) 1024
        unfold tc_N
        omega
      have key : tc_N t a b N mk 0 = 0 ↔ tc_it t a b N mk = false := by
        constructor
        · intro z
          cases ht : tc_it t a b N mk
          · rfl
          · have : 0 < tc_N t a b N mk 0 := by
              unfold tc_N
              refine tc_cb_pos (m := mk) hmk ?_
              rw [ht, Nat.and_self, Nat.and_zero]
              simp
            omega
        · intro z
          rw [tc_it_up, decide_eq_true (by omega), Bool.true_and] at z
          exact tc_N_0 hmk (by omega) z
      refine pk_eq (tc_N t a b N mk 0) 0 (fun w => ?_) (fun w => ?_)
      · have := h na1 ro1 mx1
        rw [if_neg (by rw [key.mp w]; decide)] at this
        exact this
      · have ht : tc_it t a b N mk = true := by
          cases ht : tc_it t a b N mk
          · exact absurd (key.mpr ht) w
          · rfl
        refine tx_below H hmk (fun na2 ro2 mx2 => ?_)
        dsimp only
        have := h na2 ro2 mx2
        rw [if_pos ht] at this
        exact this
    · have ht : tc_it t a b N mk = false := by
        rw [tc_it_up, decide_eq_false (by omega), Bool.false_and]
      have := h na ro mx
      rw [if_neg (by rw [ht]; decide)] at this
      exact this
  | succ d ih =>
    intro k hk
    refine br_f (nI_ge (b := 10) (by omega) (by decide)) ?_
    have e : nI (tc_up mk k).length + (((nI mk).toUInt32 >>> ((nI k).toUInt32 &&& Int32.toUInt32 31)).toInt32 &&& 1) = nI (tc_up mk (k + 1)).length := by
      rw [tx_bit hmk (by omega), nI_add]
      apply congrArg nI
      simp only [tc_up]
      split
      · rw [List.length_append, List.length_singleton]
      · rfl
    refine nm_r e (nm_r (nI_1 k) ?_)
    exact ih (k + 1) (by omega)
theorem tx_rank {post : Int32 → SX → Prop} {mk : Nat} {na ro : Nat → Int32} {mx : Nat → Int64} (H : tx_St N th ea eb t a b) (hmk : mk < 1024)
    (h : ∀ (na ro : Nat → Int32) (mx : Nat → Int64), post (if tc_it t a b N mk = true then nI (tc_cb (tc_it t a b N) mk) else -1) (nI N, nI mk, th, ea, eb, na, ro, mx)) : wpX_rank post (nI N, nI mk, th, ea, eb, na, ro, mx) := by
  unfold wpX_rank
  dsimp only
  exact ⟨11, tx_rank_l H hmk h 10 0 rfl⟩
theorem tg_gs_b (a b : Nat → Nat) (l : Nat) (hA : ∀ k, k < 10 → a k < 6) : ∀ k, k ≤ 10 → ∀ x, x < 6 → (tg_gs a b l k).1 x < 6 := by
  intro k
  induction k with
  | zero => intro _ x hx; exact hx
  | succ k ih =>
    intro hk x hx
    have I := ih (by omega)
    simp only [tg_gs]
    split
    · split
      · exact I x hx
      · show tn_jn (tg_gs a b l k).1 (a k) (b k) x < 6
        unfold tn_jn
        split
        · exact I _ (hA k (by omega))
        · exact I x hx
    · exact I x hx
theorem tx_surplus_l {post : Int32 → SX → Prop} {mk l : Nat} {ro : Nat → Int32} {mx : Nat → Int64} (H : tx_St N th ea eb t a b) (hmk : mk < 1024) (hl : ∀ k, k < 10 → l.testBit k = (t k && mk.testBit k))
    (h : ∀ (na : Nat → Int32), post (nI (tg_gs a b l 10).2) (nI N, nI mk, th, ea, eb, na, ro, mx)) :
    ∀ (d k : Nat) (na : Nat → Int32), k + d = 10 → (∀ x, x < 6 → na x = nI ((tg_gs a b l k).1 x)) → wX_surplus_8 post (d + 1) (nI (tg_gs a b l k).2) (nI k) (nI N) (nI mk) th ea eb na ro mx := by
  obtain ⟨hN1, hN6, hT, hA, hB⟩ := H
  intro d
  induction d with
  | zero =>
    intro k na hk _
    have e : k = 10 := by omega
    subst e
    exact br_t (nI_le (a := 10) (b := 10) (Nat.le_refl 10) (by decide)) (h na)
  | succ d ih =>
    intro k na hk hn
    have hk10 : k < 10 := by omega
    have hv : vp_in (nI k) 10 := vp_in_nI hk10 (by omega)
    have ck : (nI k).toNatClampNeg = k := nI_clamp (by omega)
    have skip : l.testBit k = false → tg_gs a b l (k + 1) = tg_gs a b l k := by
      intro w
      simp only [tg_gs]
      rw [if_neg (by rw [w]; decide)]
    refine br_f (nI_ge (b := 10) (by omega) (by decide)) ⟨hv, ?_⟩
    rw [ck]
    refine br_c (fun z => ?_) (fun z => ?_)
    · refine nm_r (nI_1 k) ?_
      have e := skip (by rw [hl k hk10, (hT k hk10).mp z, Bool.false_and])
      rw [← e] at hn ⊢
      exact ih (k + 1) na (by omega) hn
    · have zt : t k = true := by
        cases ht : t k
        · exact absurd ((hT k hk10).mpr ht) z
        · rfl
      refine tx_b0 (tx_bit hmk hk10) (fun w => ?_) (fun w => ?_)
      · refine nm_r (nI_1 k) ?_
        have e := skip (by rw [hl k hk10, w, Bool.and_false])
        rw [← e] at hn ⊢
        exact ih (k + 1) na (by omega) hn
      · have lb : l.testBit k = true := by rw [hl k hk10, zt, w]; rfl
        have A := hA k hk10
        have B := hB k hk10
        have cA : (ea k).toNatClampNeg = a k := by rw [A.1]; exact nI_clamp (by omega)
        have cB : (eb k).toNatClampNeg = b k := by rw [B.1]; exact nI_clamp (by omega)
        have iA : vp_in (ea k) 6 := by rw [A.1]; exact vp_in_nI (by omega) (by omega)
        have iB : vp_in (eb k) 6 := by rw [B.1]; exact vp_in_nI (by omega) (by omega)
        have G := tg_gs_b a b l (fun j hj => by have := (hA j hj).2; omega) k (by omega)
        have b1 := G (a k) (by omega)
        have b2 := G (b k) (by omega)
        refine ⟨hv, iA, hv, iB, ?_⟩
        rw [cA, cB, hn (a k) (by omega), hn (b k) (by omega)]
        refine pk_eq _ _ (fun y => ?_) (fun y => ?_)
        · have e : tg_gs a b l (k + 1) = ((tg_gs a b l k).1, (tg_gs a b l k).2 + 1) := by
            simp only [tg_gs]
            rw [if_pos lb, if_pos y]
          refine nm_r (nI_1 _) (nm_r (nI_1 k) ?_)
          have I := ih (k + 1) na (by omega)
          rw [e] at I
          exact I hn
        · have e : tg_gs a b l (k + 1) = (tn_jn (tg_gs a b l k).1 (a k) (b k), (tg_gs a b l k).2) := by
            simp only [tg_gs]
            rw [if_pos lb, if_neg y]
          refine ⟨hv, hv, ?_⟩
          rw [A.1, B.1]
          refine tx_join hn G (by omega) (by omega) (fun na1 hn1 => ?_)
          dsimp only
          refine nm_r (nI_1 k) ?_
          have I := ih (k + 1) na1 (by omega)
          rw [e] at I
          exact I hn1
theorem tx_surplus {post : Int32 → SX → Prop} {mk l : Nat} {na ro : Nat → Int32} {mx : Nat → Int64} (H : tx_St N th ea eb t a b) (hmk : mk < 1024) (hl : ∀ k, k < 10 → l.testBit k = (t k && mk.testBit k))
    (h : ∀ (na : Nat → Int32), post (nI (tg_gs a b l 10).2) (nI N, nI mk, th, ea, eb, na, ro, mx)) : wpX_surplus post (nI N, nI mk, th, ea, eb, na, ro, mx) := by
  unfold wpX_surplus
  dsimp only
  refine tx_fresh (fun na1 hn1 => ?_)
  dsimp only
  exact ⟨11, tx_surplus_l H hmk hl h 10 0 na1 rfl hn1⟩
end
end
section
/-! The reference's walks. -/
theorem tq_ones_l {post : Int32 → Prop} {m : Nat} (hm : m < 1024) (h : post (nI (tc_up m 10).length)) : ∀ (d k : Nat), k + d = 10 → wY_ones_4 post (nI m) (d + 1) (nI (tc_up m k).length) (nI k) := by
  intro d
  induction d with
  | zero =>
    intro k hk
    have e : k = 10 := by omega
    subst e
    exact br_t (nI_le (a := 10) (b := 10) (Nat.le_refl 10) (by decide)) h
  | succ d ih =>
    intro k hk
    refine br_f (nI_ge (b := 10) (by omega) (by decide)) ?_
    have e : nI (tc_up m k).length + ((nI m >>> (nI k &&& 31)) &&& 1) = nI (tc_up m (k + 1)).length := by
      rw [tx_bitY hm (by omega), nI_add]
      apply congrArg nI
      simp only [tc_up]
      split
      · rw [List.length_append, List.length_singleton]
      · rfl
    exact nm_r e (nm_r (nI_1 k) (ih (k + 1) (by omega)))
theorem tq_ones {post : Int32 → Prop} {m : Nat} (hm : m < 1024) (h : post (nI (tc_up m 10).length)) : wpY_ones post (nI m) := ⟨11, tq_ones_l hm h 10 0 rfl⟩
section
variable {fn fm : Int32} {th fr to pa : Nat → Int32}
theorem tq_join_l {post : Int32 → SY → Prop} {J : Int32 → (Nat → Int32) → (Nat → Int32) → (Nat → Int32) → (Nat → Int32) → Prop} {x1 : Int32} {k : Nat} {nm : Nat → Nat} {p q : Nat} (hb : ∀ x, x < 6 → nm x < 6) (hp : p < 6) (hq : q < 6)
    (h : ∀ pa : Nat → Int32, (∀ x, x < 6 → pa x = nI (tn_jn nm p q x)) → J (nI (k + 1)) th fr to pa) : ∀ (d i : Nat) (pa : Nat → Int32), i + d = 6 → (∀ x, x < i → pa x = nI (tn_jn nm p q x)) → (∀ x, i ≤ x → x < 6 → pa x = nI (nm x)) →
    wY_ringless_83 post J x1 (nI k) (nI (nm p)) (nI (nm q)) fn fm (d + 1) (nI i) th fr to pa := by
  intro d
  induction d with
  | zero =>
    intro i na hi h1 _
    have e : i = 6 := by omega
    subst e
    exact br_t (nI_le (a := 6) (b := 6) (Nat.le_refl 6) (by decide)) (nm_r (nI_1 k) (h na h1))
  | succ d ih =>
    intro i na hi h1 h2
    have e : na (nI i).toNatClampNeg = nI (nm i) := by
      rw [nI_clamp (by omega)]
      exact h2 i (Nat.le_refl i) (by omega)
    have b1 := hb i (by omega)
    have b2 := hb q hq
    refine br_f (nI_ge (b := 6) (by omega) (by decide)) ⟨vp_in_nI (by omega) (by omega), ?_⟩
    by_cases z : nm i = nm q
    · refine br_t (e.trans (congrArg nI z)) ⟨vp_in_nI (by omega) (by omega), ?_⟩
      intro na' ena x ex
      subst ena
      rw [ex, nI_1]
      refine ih (i + 1) _ (by omega) ?_ ?_
      · intro y hy
        rw [nI_clamp (by omega)]
        by_cases w : y = i
        · subst w
          rw [pk_us]
          unfold tn_jn
          rw [if_pos z]
        · rw [pk_un w]
          exact h1 y (by omega)
      · intro y hy hy2
        rw [nI_clamp (by omega), pk_un (by omega)]
        exact h2 y (by omega) hy2
    · refine br_f (fun w => z ((nI_eq (by omega) (by omega)).mp (e.symm.trans w))) ?_
      intro x ex
      rw [ex, nI_1]
      refine ih (i + 1) na (by omega) ?_ (fun y hy hy2 => h2 y (by omega) hy2)
      intro y hy
      by_cases w : y = i
      · subst w
        rw [h2 y (Nat.le_refl y) (by omega)]
        unfold tn_jn
        rw [if_neg z]
      · exact h1 y (by omega)
theorem tq_fresh_l {post : Int32 → SY → Prop} {x1 : Int32} (h : ∀ pa : Nat → Int32, (∀ p, p < 6 → pa p = nI p) → ∃ n, wY_ringless_23 post x1 fn fm n 0 th fr to pa) : ∀ (d i : Nat) (pa : Nat → Int32), i + d = 6 → (∀ p, p < i → pa p = nI p) → wY_ringless_2 post x1 fn fm (d + 1) (nI i) th fr to pa := by
  intro d
  induction d with
  | zero =>
    intro i nx hi hp
    have e : i = 6 := by omega
    subst e
    exact br_t (nI_le (a := 6) (b := 6) (Nat.le_refl 6) (by decide)) (h nx hp)
  | succ d ih =>
    intro i nx hi hp
    refine br_f (nI_ge (b := 6) (by omega) (by decide)) ⟨vp_in_nI (by omega) (by omega), ?_⟩
    intro na ena x ex
    subst ena
    rw [ex, nI_1]
    refine ih (i + 1) _ (by omega) ?_
    intro p hp'
    rw [nI_clamp (by omega)]
    by_cases e : p = i
    · subst e
      exact pk_us
    · rw [pk_un e]
      exact hp p (by omega)
end
section
variable {fm : Int32} {th fr to : Nat → Int32} {t : Nat → Bool} {a b : Nat → Nat} {N : Nat}
theorem tq_ring_l {post : Int32 → SY → Prop} {m : Nat} (H : tx_St N th fr to t a b) (hm : m < 1024)
    (h : ∀ pa : Nat → Int32, post (if tn_rl t a b (tc_up m 10) id = true then 1 else 0) (nI N, fm, th, fr, to, pa)) : ∀ (d k : Nat) (pa : Nat → Int32), k + d = 10 → tn_rl t a b (tc_up m k) id = true → (∀ x, x < 6 → pa x = nI (tn_af a b (tc_up m k) id x)) →
    wY_ringless_23 post (nI m) (nI N) fm (d + 1) (nI k) th fr to pa := by
  obtain ⟨hN1, hN6, hT, hA, hB⟩ := H
  intro d
  induction d with
  | zero =>
    intro k pa hk hrl hn
    have e : k = 10 := by omega
    subst e
    have := h pa
    rw [if_pos hrl] at this
    exact br_t (nI_le (a := 10) (b := 10) (Nat.le_refl 10) (by decide)) this
  | succ d ih =>
    intro k pa hk hrl hn
    have hk10 : k < 10 := by omega
    have hv : vp_in (nI k) 10 := vp_in_nI hk10 (by omega)
    have ck : (nI k).toNatClampNeg = k := nI_clamp (by omega)
    have bad : tn_rl t a b (tc_up m (k + 1)) id = false → post 0 (nI N, fm, th, fr, to, pa) := by
      intro hb
      have q := tx_rl_bad t a b m (k + 1) hb (9 - k)
      have e : k + 1 + (9 - k) = 10 := by omega
      rw [e] at q
      have := h pa
      rw [if_neg (by rw [q]; decide)] at this
      exact this
    refine br_f (nI_ge (b := 10) (by omega) (by decide)) ?_
    refine tx_b1 (tx_bitY hm hk10) (fun w => ?_) (fun w => ?_)
    · have e : tc_up m (k + 1) = tc_up m k ++ [k] := by
        simp only [tc_up]
        rw [if_pos w]
      have e5 : tn_rl t a b (tc_up m (k + 1)) id = (t k && decide (tn_af a b (tc_up m k) id (a k) ≠ tn_af a b (tc_up m k) id (b k))) := by
        rw [e, tn_rl_app, hrl, Bool.true_and, tn_rl_c]
        show (t k && (_ && true)) = _
        rw [Bool.and_true]
      have e6 : tn_af a b (tc_up m (k + 1)) id = tn_jn (tn_af a b (tc_up m k) id) (a k) (b k) := by
        rw [e, tn_af_app]
        rfl
      have A := hA k hk10
      have B := hB k hk10
      have R6 := (tn_af_rk t a b (n := 6) (tc_up m k) id (tn_Id_id 6) (fun j hj => by
        have hj10 : j < 10 := by
          have := (tc_up_mem hj).2
          omega
        have h1 := (hA j hj10).2
        have h2 := (hB j hj10).2
        exact ⟨by omega, by omega⟩) hrl).1
      have cA : (fr k).toNatClampNeg = a k := by rw [A.1]; exact nI_clamp (by omega)
      have cB : (to k).toNatClampNeg = b k := by rw [B.1]; exact nI_clamp (by omega)
      have iA : vp_in (fr k) 6 := by rw [A.1]; exact vp_in_nI (by omega) (by omega)
      have iB : vp_in (to k) 6 := by rw [B.1]; exact vp_in_nI (by omega) (by omega)
      have b1 := R6.2 (a k) (by omega)
      have b2 := R6.2 (b k) (by omega)
      have vA : pa (fr k).toNatClampNeg = nI (tn_af a b (tc_up m k) id (a k)) := by rw [cA]; exact hn _ (by omega)
      have vB : pa (to k).toNatClampNeg = nI (tn_af a b (tc_up m k) id (b k)) := by rw [cB]; exact hn _ (by omega)
      rw [ck]
      refine ⟨hv, iA, nm_r vA ⟨hv, iB, nm_r vB ⟨hv, ?_⟩⟩⟩
      refine br_c (fun z => ?_) (fun z => ?_)
      · apply bad
        rw [e5, (hT k hk10).mp z, Bool.false_and]
      · have zt : t k = true := by
          cases ht : t k
          · exact absurd ((hT k hk10).mpr ht) z
          · rfl
        refine pk_eq (tn_af a b (tc_up m k) id (a k)) (tn_af a b (tc_up m k) id (b k)) (fun y => ?_) (fun y => ?_)
        · apply bad
          rw [e5, zt, Bool.true_and]
          exact decide_eq_false (fun n => n y)
        · refine ⟨7, tq_join_l R6.2 (by omega) (by omega) (fun pa1 hn1 => ?_) 6 0 pa rfl (fun x hx => absurd hx (Nat.not_lt_zero x)) (fun x _ hx => hn x hx)⟩
          refine ih (k + 1) pa1 (by omega) ?_ ?_
          · rw [e5, zt, Bool.true_and]
            exact decide_eq_true y
          · rw [e6]
            exact hn1
    · have e : tc_up m (k + 1) = tc_up m k := by
        simp only [tc_up]
        rw [if_neg (by rw [w]; decide)]
      exact nm_r (nI_1 k) (ih (k + 1) pa (by omega) (by rw [e]; exact hrl) (by rw [e]; exact hn))
theorem tq_ring {post : Int32 → SY → Prop} {m : Nat} {pa : Nat → Int32} (H : tx_St N th fr to t a b) (hm : m < 1024)
    (h : ∀ pa : Nat → Int32, post (if tn_rl t a b (tc_up m 10) id = true then 1 else 0) (nI N, fm, th, fr, to, pa)) : wpY_ringless post (nI N, fm, th, fr, to, pa) (nI m) := by
  unfold wpY_ringless
  dsimp only
  exact ⟨7, tq_fresh_l (fun pa1 hn1 => ⟨11, tq_ring_l H hm h 10 0 pa1 rfl rfl hn1⟩) 6 0 pa rfl (fun p hp => absurd hp (Nat.not_lt_zero p))⟩
theorem tq_isTree {post : Int32 → SY → Prop} {m : Nat} {pa : Nat → Int32} (H : tx_St N th fr to t a b) (hm : m < 1024)
    (h : ∀ pa : Nat → Int32, post (if tc_it t a b N m = true then 1 else 0) (nI N, fm, th, fr, to, pa)) : wpY_isTree post (nI N, fm, th, fr, to, pa) (nI m) := by
  unfold wpY_isTree
  dsimp only
  have hN1 := H.1
  have hN6 := H.2.1
  have len := tc_up_len m 10
  have e2 : nI N - 1 = nI (N - 1) := by
    have e3 : N = (N - 1) + 1 := by omega
    rw [e3]
    exact nI_pred _
  refine tq_ones hm ?_
  rw [e2]
  refine pk_eq (tc_up m 10).length (N - 1) (fun y => ?_) (fun y => ?_)
  · have e : tc_it t a b N m = tn_rl t a b (tc_up m 10) id := by
      rw [tc_it_up, decide_eq_true (by omega), Bool.true_and]
    rw [e] at h
    refine tq_ring H hm (fun pa1 => ?_)
    dsimp only
    have := h pa1
    by_cases z : tn_rl t a b (tc_up m 10) id = true
    · rw [if_pos z] at this ⊢
      exact br_f (by decide) this
    · rw [if_neg z] at this ⊢
      exact br_t rfl this
  · have e : tc_it t a b N m = false := by
      rw [tc_it_up, decide_eq_false (by omega), Bool.false_and]
    have := h pa
    rw [if_neg (by rw [e]; decide)] at this
    exact this
/-- the sets below the bound that the reference counts -/
def tq_p (t : Nat → Bool) (a b : Nat → Nat) (n l m : Nat) : Bool := decide (m &&& l = l) && tc_it t a b n m
theorem tq_count_l {post : Int32 → SY → Prop} {B l : Nat} (H : tx_St N th fr to t a b) (hB : B ≤ 1024) (hl : l < 1024)
    (h : ∀ pa : Nat → Int32, post (nI (tc_cb (tq_p t a b N l) B)) (nI N, fm, th, fr, to, pa)) : ∀ (d s : Nat) (pa : Nat → Int32), s + d = B →
    wY_count_5 post (nI B) (nI l) (d + 1) (nI (tc_cb (tq_p t a b N l) s)) (nI s) (nI N) fm th fr to pa := by
  intro d
  induction d with
  | zero =>
    intro s pa hs
    have e : s = B := by omega
    subst e
    exact br_t (nI_le (Nat.le_refl _) (by omega)) (h pa)
  | succ d ih =>
    intro s pa hs
    have hs10 : s < 1024 := by omega
    have sl : s &&& l < 1024 := tx_and_lt hs10
    refine br_f (nI_ge (by omega) (by omega)) ?_
    rw [nx_and]
    refine pk_eq (s &&& l) l (fun y => ?_) (fun y => ?_)
    · have e : tq_p t a b N l s = tc_it t a b N s := by
        unfold tq_p
        rw [decide_eq_true y, Bool.true_and]
      refine tq_isTree H hs10 (fun pa1 => ?_)
      dsimp only
      by_cases z : tc_it t a b N s = true
      · rw [if_pos z]
        have e2 : tc_cb (tq_p t a b N l) (s + 1) = tc_cb (tq_p t a b N l) s + 1 := by
          simp only [tc_cb]
          rw [e, if_pos z]
        refine br_f (by decide) (nm_r (nI_1 _) (nm_r (nI_1 s) ?_))
        rw [← e2]
        exact ih (s + 1) pa1 (by omega)
      · rw [if_neg z]
        have e2 : tc_cb (tq_p t a b N l) (s + 1) = tc_cb (tq_p t a b N l) s := by
          simp only [tc_cb]
          rw [e, if_neg z]
          rfl
        refine br_t rfl (nm_r (nI_1 s) ?_)
        rw [← e2]
        exact ih (s + 1) pa1 (by omega)
    · have e : tq_p t a b N l s = false := by
        unfold tq_p
        rw [decide_eq_false y, Bool.false_and]
      have e2 : tc_cb (tq_p t a b N l) (s + 1) = tc_cb (tq_p t a b N l) s := by
        simp only [tc_cb]
        rw [e]
        rfl
      refine nm_r (nI_1 s) ?_
      rw [← e2]
      exact ih (s + 1) pa (by omega)
theorem tq_count {post : Int32 → SY → Prop} {B l : Nat} {pa : Nat → Int32} (H : tx_St N th fr to t a b) (hB : B ≤ 1024) (hl : l < 1024)
    (h : ∀ pa : Nat → Int32, post (nI (tc_cb (tq_p t a b N l) B)) (nI N, fm, th, fr, to, pa)) : wpY_count post (nI N, fm, th, fr, to, pa) (nI B) (nI l) := by
  unfold wpY_count
  dsimp only
  exact ⟨B + 1, tq_count_l H hB hl h B 0 pa (by omega)⟩
theorem tq_all (t : Nat → Bool) (a b : Nat → Nat) (n l : Nat) : tc_cb (tq_p t a b n l) 1024 = tc_N t a b n l 0 := by
  apply tc_cb_congr
  intro m _
  unfold tq_p
  rw [Nat.and_zero]
  simp
theorem tq_low (t : Nat → Bool) (a b : Nat → Nat) (n B : Nat) : tc_cb (tq_p t a b n 0) B = tc_cb (tc_it t a b n) B := by
  apply tc_cb_congr
  intro m _
  unfold tq_p
  rw [Nat.and_zero]
  simp
theorem tq_tree_1 {post : Int32 → SY → Prop} {s0 r : Nat} (H : tx_St N th fr to t a b) (hs0 : s0 < 1024) (ht0 : tc_it t a b N s0 = true) (hr : tc_cb (tc_it t a b N) s0 = r) 
    (h : ∀ pa : Nat → Int32, post (nI s0) (nI N, fm, th, fr, to, pa)) : ∀ (d s : Nat) (pa : Nat → Int32), s + d = s0 →
    wY_tree_4 post (nI r) (d + 1) (nI (tc_cb (tc_it t a b N) s)) (nI s) (nI N) fm th fr to pa := by
  intro d
  induction d with
  | zero =>
    intro s pa hs
    have e : s = s0 := by omega
    subst e
    refine br_f (nI_ge (b := 1024) hs0 (by decide)) ?_
    refine tq_isTree H hs0 (fun pa1 => ?_)
    dsimp only
    rw [if_pos ht0]
    refine br_f (by decide) (br_t (congrArg nI hr) (h pa1))
  | succ d ih =>
    intro s pa hs
    have hs10 : s < 1024 := by omega
    have c1 := tc_cb_le (tc_it t a b N) s
    have c2 := tc_cb_le (tc_it t a b N) s0
    refine br_f (nI_ge (b := 1024) hs10 (by decide)) ?_
    refine tq_isTree H hs10 (fun pa1 => ?_)
    dsimp only
    by_cases z : tc_it t a b N s = true
    · rw [if_pos z]
      have e2 : tc_cb (tc_it t a b N) (s + 1) = tc_cb (tc_it t a b N) s + 1 := by
        simp only [tc_cb]
        rw [if_pos z]
      have mono := tc_cb_mono (tc_it t a b N) (show s + 1 ≤ s0 by omega)
      refine br_f (by decide) (br_f (fun w => ?_) (nm_r (nI_1 _) (nm_r (nI_1 s) ?_)))
      · rw [nI_eq (by omega) (by omega)] at w
        omega
      · rw [← e2]
        exact ih (s + 1) pa1 (by omega)
    · rw [if_neg z]
      have e2 : tc_cb (tc_it t a b N) (s + 1) = tc_cb (tc_it t a b N) s := by
        simp only [tc_cb]
        rw [if_neg z]
        rfl
      refine br_t rfl (nm_r (nI_1 s) ?_)
      rw [← e2]
      exact ih (s + 1) pa1 (by omega)
theorem tq_tree_2 {post : Int32 → SY → Prop} {v : Int32} (H : tx_St N th fr to t a b) (hv : ∀ s, s < 1024 → tc_it t a b N s = true → nI (tc_cb (tc_it t a b N) s) ≠ v)
    (h : ∀ pa : Nat → Int32, post (-1) (nI N, fm, th, fr, to, pa)) : ∀ (d s : Nat) (pa : Nat → Int32), s + d = 1024 →
    wY_tree_4 post v (d + 1) (nI (tc_cb (tc_it t a b N) s)) (nI s) (nI N) fm th fr to pa := by
  intro d
  induction d with
  | zero =>
    intro s pa hs
    have e : s = 1024 := by omega
    subst e
    exact br_t (nI_le (a := 1024) (b := 1024) (Nat.le_refl 1024) (by decide)) (h pa)
  | succ d ih =>
    intro s pa hs
    have hs10 : s < 1024 := by omega
    refine br_f (nI_ge (b := 1024) hs10 (by decide)) ?_
    refine tq_isTree H hs10 (fun pa1 => ?_)
    dsimp only
    by_cases z : tc_it t a b N s = true
    · rw [if_pos z]
      have e2 : tc_cb (tc_it t a b N) (s + 1) = tc_cb (tc_it t a b N) s + 1 := by
        simp only [tc_cb]
        rw [if_pos z]
      refine br_f (by decide) (br_f (hv s hs10 z) (nm_r (nI_1 _) (nm_r (nI_1 s) ?_)))
      rw [← e2]
      exact ih (s + 1) pa1 (by omega)
    · rw [if_neg z]
      have e2 : tc_cb (tc_it t a b N) (s + 1) = tc_cb (tc_it t a b N) s := by
        simp only [tc_cb]
        rw [if_neg z]
        rfl
      refine br_t rfl (nm_r (nI_1 s) ?_)
      rw [← e2]
      exact ih (s + 1) pa1 (by omega)
/-- the marked lines that are there -/
def tq_lk (t : Nat → Bool) (mk : Nat) : Nat → Nat
  | 0 => 0
  | k + 1 => if (t k && mk.testBit k) = true then tq_lk t mk k ||| 2 ^ k else tq_lk t mk k
theorem tq_lk_b (t : Nat → Bool) (mk : Nat) : ∀ (k j : Nat), (tq_lk t mk k).testBit j = true ↔ (j < k ∧ (t j && mk.testBit j) = true) := by
  intro k
  induction k with
  | zero =>
    intro j
    simp only [tq_lk]
    rw [Nat.zero_testBit]
    constructor
    · intro h
      exact absurd h (by decide)
    · intro h
      omega
  | succ k ih =>
    intro j
    simp only [tq_lk]
    by_cases z : (t k && mk.testBit k) = true
    · rw [if_pos z, tx_or_bit, ih j]
      constructor
      · intro h
        rcases h with h | h
        · exact ⟨by omega, h.2⟩
        · rw [h]
          exact ⟨by omega, z⟩
      · intro h
        by_cases e : j = k
        · exact Or.inr e
        · exact Or.inl ⟨by omega, h.2⟩
    · rw [if_neg z, ih j]
      constructor
      · intro h
        exact ⟨by omega, h.2⟩
      · intro h
        refine ⟨?_, h.2⟩
        by_cases e : j = k
        · rw [e] at h
          exact absurd h.2 z
        · omega
theorem tq_lk_lt (t : Nat → Bool) (mk k : Nat) (hk : k ≤ 10) : tq_lk t mk k < 1024 := tx_lt_of (fun j hj => by
  have := ((tq_lk_b t mk k j).mp hj).1
  omega)
theorem tq_sur_2 {post : Int32 → SY → Prop} {l : Nat} (H : tx_St N th fr to t a b) (hl : l < 1024)
    (h : ∀ pa : Nat → Int32, post (nI (tg_ls (fun m => decide (m &&& l = m) && tn_rl t a b (tc_up m 10) id) (fun m => (tc_up l 10).length - (tc_up m 10).length) 1024)) (nI N, fm, th, fr, to, pa)) : ∀ (d s : Nat) (pa : Nat → Int32), s + d = 1024 →
    wY_surplus_48 post (nI l) (d + 1) (nI (tg_ls (fun m => decide (m &&& l = m) && tn_rl t a b (tc_up m 10) id) (fun m => (tc_up l 10).length - (tc_up m 10).length) s)) (nI s) (nI N) fm th fr to pa := by
  obtain ⟨q, hq⟩ : ∃ q : Nat → Bool, q = (fun m => decide (m &&& l = m) && tn_rl t a b (tc_up m 10) id) := ⟨_, rfl⟩
  obtain ⟨v, hv⟩ : ∃ v : Nat → Nat, v = (fun m => (tc_up l 10).length - (tc_up m 10).length) := ⟨_, rfl⟩
  rw [← hq, ← hv] at h ⊢
  have lb : ∀ s, tg_ls q v s ≤ 10 := by
    intro s
    have := tg_ls_mono q v 0 s
    rw [Nat.zero_add] at this
    exact this
  have ll := tc_up_len l 10
  intro d
  induction d with
  | zero =>
    intro s pa hs
    have e : s = 1024 := by omega
    subst e
    exact br_t (nI_le (a := 1024) (b := 1024) (Nat.le_refl 1024) (by decide)) (h pa)
  | succ d ih =>
    intro s pa hs
    have hs10 : s < 1024 := by omega
    have skip : q s = false → tg_ls q v (s + 1) = tg_ls q v s := by
      intro w
      simp only [tg_ls]
      rw [if_neg (by rw [w]; decide)]
    refine br_f (nI_ge (b := 1024) hs10 (by decide)) ?_
    refine br_c (fun z => ?_) (fun z => ?_)
    · have zs := (tx_not hs10 hl).mp z
      have eq1 : q s = tn_rl t a b (tc_up s 10) id := by
        rw [hq]
        show (decide (s &&& l = s) && _) = _
        rw [decide_eq_true zs, Bool.true_and]
      refine tq_ring H hs10 (fun pa1 => ?_)
      dsimp only
      by_cases y : tn_rl t a b (tc_up s 10) id = true
      · rw [if_pos y]
        refine br_f (by decide) ?_
        refine tq_ones hl (tq_ones hs10 ?_)
        have sub : (tc_up s 10).length ≤ (tc_up l 10).length := by
          apply List.Sublist.length_le
          apply tg_up_sub
          apply tc_sub_iff.mp
          rw [Nat.and_comm]
          exact zs
        refine nm_r (pk_sub sub) ?_
        have ev : (tc_up l 10).length - (tc_up s 10).length = v s := by rw [hv]
        rw [ev]
        have vb : v s ≤ 10 := by omega
        have l1 := lb s
        refine pk_le (tg_ls q v s) (v s) (fun w => ?_) (fun w => ?_)
        · have e2 : tg_ls q v (s + 1) = tg_ls q v s := by
            simp only [tg_ls]
            rw [eq1, if_pos y, if_neg (by omega)]
          refine nm_r (nI_1 s) ?_
          rw [← e2]
          exact ih (s + 1) pa1 (by omega)
        · have e2 : tg_ls q v (s + 1) = v s := by
            simp only [tg_ls]
            rw [eq1, if_pos y, if_pos w]
          refine nm_r (nI_1 s) ?_
          rw [← e2]
          exact ih (s + 1) pa1 (by omega)
      · rw [if_neg y]
        refine br_t rfl (nm_r (nI_1 s) ?_)
        have y' : tn_rl t a b (tc_up s 10) id = false := by simpa using y
        rw [← skip (by rw [eq1]; exact y')]
        exact ih (s + 1) pa1 (by omega)
    · have zs : ¬ s &&& l = s := fun w => z ((tx_not hs10 hl).mpr w)
      refine nm_r (nI_1 s) ?_
      rw [← skip (by
        rw [hq]
        show (decide (s &&& l = s) && _) = _
        rw [decide_eq_false zs, Bool.false_and])]
      exact ih (s + 1) pa (by omega)
theorem tq_sur_1 {post : Int32 → SY → Prop} {mk : Nat} {pa : Nat → Int32} (H : tx_St N th fr to t a b) (hmk : mk < 1024)
    (h : ∃ n, wY_surplus_48 post (nI (tq_lk t mk 10)) n 10 0 (nI N) (nI mk) th fr to pa) : ∀ (d k : Nat), k + d = 10 → wY_surplus_4 post (nI N) (nI mk) th fr to pa (d + 1) (nI (tq_lk t mk k)) (nI k) := by
  obtain ⟨hN1, hN6, hT, hA, hB⟩ := H
  intro d
  induction d with
  | zero =>
    intro k hk
    have e : k = 10 := by omega
    subst e
    exact br_t (nI_le (a := 10) (b := 10) (Nat.le_refl 10) (by decide)) h
  | succ d ih =>
    intro k hk
    have hk10 : k < 10 := by omega
    have hv : vp_in (nI k) 10 := vp_in_nI hk10 (by omega)
    have ck : (nI k).toNatClampNeg = k := nI_clamp (by omega)
    have skip : (t k && mk.testBit k) = false → tq_lk t mk (k + 1) = tq_lk t mk k := by
      intro w
      simp only [tq_lk]
      rw [if_neg (by rw [w]; decide)]
    refine br_f (nI_ge (b := 10) (by omega) (by decide)) ⟨hv, ?_⟩
    rw [ck]
    refine br_c (fun z => ?_) (fun z => ?_)
    · refine nm_r (nI_1 k) ?_
      rw [← skip (by rw [(hT k hk10).mp z, Bool.false_and])]
      exact ih (k + 1) (by omega)
    · have zt : t k = true := by
        cases ht : t k
        · exact absurd ((hT k hk10).mpr ht) z
        · rfl
      refine tx_b1 (tx_bitY hmk hk10) (fun w => ?_) (fun w => ?_)
      · have e : nI (tq_lk t mk k) ||| ((1 : Int32) <<< (nI k &&& 31)) = nI (tq_lk t mk (k + 1)) := by
          rw [tx_shl hk10, tx_or]
          apply congrArg nI
          simp only [tq_lk]
          rw [if_pos (by rw [zt, w]; rfl)]
        exact nm_r e (nm_r (nI_1 k) (ih (k + 1) (by omega)))
      · refine nm_r (nI_1 k) ?_
        rw [← skip (by rw [w, Bool.and_false])]
        exact ih (k + 1) (by omega)
theorem tq_surplus {post : Int32 → SY → Prop} {mk : Nat} {pa : Nat → Int32} (H : tx_St N th fr to t a b) (hmk : mk < 1024)
    (h : ∀ pa : Nat → Int32, post (nI (tg_gs a b (tq_lk t mk 10) 10).2) (nI N, nI mk, th, fr, to, pa)) : wpY_surplus post (nI N, nI mk, th, fr, to, pa) := by
  unfold wpY_surplus
  dsimp only
  refine ⟨11, tq_sur_1 H hmk ⟨1025, ?_⟩ 10 0 rfl⟩
  refine tq_sur_2 H (tq_lk_lt t mk 10 (Nat.le_refl 10)) (fun pa1 => ?_) 1024 0 pa rfl
  rw [tg_main (fun j hj => by
    have := ((tq_lk_b t mk 10 j).mp hj).2
    rw [Bool.and_eq_true] at this
    exact this.1), ← tg_gs_end]
  exact h pa1
end
end
section
/-! The relation, and what is owed. -/
/-- the same points, lines, ends and marks on both sides; names, rows, matrix and parts are anything -/
def i_Rel (k : Nat) (u : SX) (v : SY) : Prop :=
  ∃ (N mk : Nat) (th ea eb na ro : Nat → Int32) (mx : Nat → Int64) (pa : Nat → Int32) (t : Nat → Bool) (a b : Nat → Nat),
    tx_St N th ea eb t a b ∧ mk < 1024 ∧ u = (nI N, nI mk, th, ea, eb, na, ro, mx) ∧ v = (nI N, nI mk, th, ea, eb, pa)
theorem tz_rel {k N mk : Nat} {th ea eb : Nat → Int32} {t : Nat → Bool} {a b : Nat → Nat} (H : tx_St N th ea eb t a b) (hmk : mk < 1024) (na ro : Nat → Int32) (mx : Nat → Int64) (pa : Nat → Int32) :
    i_Rel k (nI N, nI mk, th, ea, eb, na, ro, mx) (nI N, nI mk, th, ea, eb, pa) := ⟨N, mk, th, ea, eb, na, ro, mx, pa, t, a, b, H, hmk, rfl, rfl⟩
theorem i_up {k : Nat} {u : SX} {v : SY} (h : i_Rel k u v) : i_Rel (k + 4) u v := h
theorem tz_new {k N : Nat} (h1 : 1 ≤ N) (h6 : N ≤ 6) : i_Rel k (nI N, 0, (fun _ => 0), (fun _ => 0), (fun _ => 0), (fun _ => 0), (fun _ => 0), (fun _ => 0)) (nI N, 0, (fun _ => 0), (fun _ => 0), (fun _ => 0), (fun _ => 0)) := by
  refine tz_rel (k := k) (N := N) (mk := 0) (th := fun _ => 0) (ea := fun _ => 0) (eb := fun _ => 0) (t := fun _ => false) (a := fun _ => 0) (b := fun _ => 0) ⟨h1, h6, fun j _ => ⟨fun _ => rfl, fun _ => rfl⟩, fun j _ => ⟨rfl, h1⟩, fun j _ => ⟨rfl, h1⟩⟩ (by omega) _ _ _ _
theorem i_vc0 (k0 : Int32) : wpX_init (fun u => wpY_init (fun v => i_Rel 1 u v) k0) k0 := by
  unfold wpX_init wpY_init
  by_cases z1 : 1 ≤ k0
  · by_cases z6 : k0 ≤ 6
    · have n0 : ¬ k0 < 0 := by
        intro w
        rw [Int32.le_iff_toInt_le] at z1
        rw [Int32.lt_iff_toInt_lt] at w
        have e1 : (1 : Int32).toInt = 1 := by decide
        have e0 : (0 : Int32).toInt = 0 := by decide
        omega
      obtain ⟨j, hj, rfl⟩ := nI_of2 (M := 6) (n := 6) (by decide) n0 z6
      have j1 : 1 ≤ j := by
        have := (nI_leI (a := 1) (b := j) (by decide) (by omega)).mp z1
        exact this
      exact br_t z1 (br_t z6 (br_t z1 (br_t z6 (tz_new j1 hj))))
    · exact br_t z1 (br_f z6 (br_t z1 (br_f z6 (tz_new (N := 6) (by decide) (by decide)))))
  · exact br_f z1 (br_f z1 (tz_new (N := 1) (by decide) (by decide)))
theorem tz_line1 {post : Int32 → Prop} {k : Nat} (hk : k < 10) (h : post 1) : wpX_isLine post (nI k) :=
  br_f (nI_pos (by omega)) (br_f (fun w => absurd ((nI_ltI (a := 9) (b := k) (by decide) (by omega)).mp w) (by omega)) h)
theorem tz_line0 {post : Int32 → Prop} {v : Int32} (L : ¬ ∃ k, k < 10 ∧ v = nI k) (h : post 0) : wpX_isLine post v := by
  refine br_c (fun _ => h) (fun z => ?_)
  obtain ⟨j, hj, rfl⟩ := nI_of z
  exact br_t ((nI_ltI (a := 9) (b := j) (by decide) hj).mpr (by
    have : ¬ j < 10 := fun w => L ⟨j, w, rfl⟩
    omega)) h
theorem tz_bad1 {post : Int32 → Prop} {k : Nat} (hk : k < 10) (h : post 0) : wpY_badLine post (nI k) :=
  br_f (nI_pos (by omega)) (br_t ((nI_leI (a := k) (b := 9) (by omega) (by decide)).mpr (by omega)) h)
theorem tz_bad0 {post : Int32 → Prop} {v : Int32} (L : ¬ ∃ k, k < 10 ∧ v = nI k) (h : post 1) : wpY_badLine post v := by
  refine br_c (fun _ => h) (fun z => ?_)
  obtain ⟨j, hj, rfl⟩ := nI_of z
  refine br_f (fun w => ?_) h
  have w' := (nI_leI (a := j) (b := 9) hj (by decide)).mp w
  exact L ⟨j, by omega, rfl⟩
theorem tz_pt1 {A B C : Prop} {p N : Nat} (hp : p < N) (hN : N ≤ 6) (h : C) : ((nI p < 0 → A) ∧ (¬ nI p < 0 → ((nI N ≤ nI p → B) ∧ (¬ nI N ≤ nI p → C)))) :=
  br_f (nI_pos (by omega)) (br_f (nI_ge hp (by omega)) h)
theorem tz_pt0 {A C : Prop} {v : Int32} {N : Nat} (hN : N ≤ 6) (P : ¬ ∃ p, p < N ∧ v = nI p) (h : A) : ((v < 0 → A) ∧ (¬ v < 0 → ((nI N ≤ v → A) ∧ (¬ nI N ≤ v → C)))) := by
  refine br_c (fun _ => h) (fun z => ?_)
  obtain ⟨j, hj, rfl⟩ := nI_of z
  exact br_t (nI_le (by
    have : ¬ j < N := fun w => P ⟨j, w, rfl⟩
    omega) hj) h
theorem tz_bp1 {post : Int32 → Prop} {fm : Int32} {th fr to pa : Nat → Int32} {p N : Nat} (hp : p < N) (hN : N ≤ 6) (h : post 0) : wpY_badPoint post (nI N, fm, th, fr, to, pa) (nI p) :=
  br_f (nI_pos (by omega)) (br_t (nI_lt hp (by omega)) h)
theorem tz_bp0 {post : Int32 → Prop} {fm : Int32} {th fr to pa : Nat → Int32} {v : Int32} {N : Nat} (hN : N ≤ 6) (P : ¬ ∃ p, p < N ∧ v = nI p) (h : post 1) : wpY_badPoint post (nI N, fm, th, fr, to, pa) v := by
  refine br_c (fun _ => h) (fun z => ?_)
  obtain ⟨j, hj, rfl⟩ := nI_of z
  refine br_f (fun w => ?_) h
  have w' := (nI_ltI hj (by omega)).mp w
  exact P ⟨j, w', rfl⟩
theorem tz_nar1 : vp_nar .boolean 1 = 1 := rfl
theorem tz_nar0 : vp_nar .boolean 0 = 0 := rfl
theorem tz_St_draw {N : Nat} {th ea eb : Nat → Int32} {t : Nat → Bool} {a b : Nat → Nat} (H : tx_St N th ea eb t a b) {k p q : Nat} (hp : p < N) (hq : q < N) :
    tx_St N (upd th k (vp_nar .boolean 1)) (upd ea k (nI p)) (upd eb k (nI q)) (fun j => if j = k then true else t j) (fun j => if j = k then p else a j) (fun j => if j = k then q else b j) := by
  obtain ⟨h1, h2, h3, h4, h5⟩ := H
  refine ⟨h1, h2, fun j hj => ?_, fun j hj => ?_, fun j hj => ?_⟩
  · by_cases e : j = k
    · subst e
      rw [pk_us, tz_nar1]
      dsimp only
      rw [if_pos rfl]
      exact ⟨fun w => absurd w (by decide), fun w => absurd w (by decide)⟩
    · rw [pk_un e]
      dsimp only
      rw [if_neg e]
      exact h3 j hj
  · by_cases e : j = k
    · subst e
      rw [pk_us]
      dsimp only
      rw [if_pos rfl]
      exact ⟨rfl, hp⟩
    · rw [pk_un e]
      dsimp only
      rw [if_neg e]
      exact h4 j hj
  · by_cases e : j = k
    · subst e
      rw [pk_us]
      dsimp only
      rw [if_pos rfl]
      exact ⟨rfl, hq⟩
    · rw [pk_un e]
      dsimp only
      rw [if_neg e]
      exact h5 j hj
theorem tz_St_cut {N : Nat} {th ea eb : Nat → Int32} {t : Nat → Bool} {a b : Nat → Nat} (H : tx_St N th ea eb t a b) (k : Nat) :
    tx_St N (upd th k (vp_nar .boolean 0)) ea eb (fun j => if j = k then false else t j) a b := by
  obtain ⟨h1, h2, h3, h4, h5⟩ := H
  refine ⟨h1, h2, fun j hj => ?_, h4, h5⟩
  by_cases e : j = k
  · subst e
    rw [pk_us, tz_nar0]
    dsimp only
    rw [if_pos rfl]
    exact ⟨fun _ => rfl, fun _ => rfl⟩
  · rw [pk_un e]
    dsimp only
    rw [if_neg e]
    exact h3 j hj
theorem i_vc_draw {k : Nat} {u : SX} {v : SY} (I : i_Rel k u v) (hk : k + 4 ≤ 2049) (v1 : Int32) (v2 : Int32) (v3 : Int32) : wpX_draw (fun r u' => wpY_draw (fun r' v' => r' = r ∧ i_Rel (k + 4) u' v') v v1 v2 v3) u v1 v2 v3 := by
  obtain ⟨N, mk, th, ea, eb, na, ro, mx, pa, t, a, b, H, hmk, rfl, rfl⟩ := I
  have hN6 := H.2.1
  unfold wpX_draw wpY_draw
  dsimp only
  have R := tz_rel (k := k + 4) H hmk na ro mx pa
  by_cases L : ∃ j, j < 10 ∧ v1 = nI j
  · obtain ⟨l, hl, rfl⟩ := L
    refine tz_line1 hl (br_f (by decide) ?_)
    by_cases P : ∃ p, p < N ∧ v2 = nI p
    · obtain ⟨p, hp, rfl⟩ := P
      refine tz_pt1 hp hN6 ?_
      by_cases Q : ∃ q, q < N ∧ v3 = nI q
      · obtain ⟨q, hq, rfl⟩ := Q
        refine tz_pt1 hq hN6 ?_
        have hv : vp_in (nI l) 10 := vp_in_nI hl (by omega)
        have cl : (nI l).toNatClampNeg = l := nI_clamp (by omega)
        refine pk_eq p q (fun y => ?_) (fun y => ?_)
        · refine tz_bad1 hl (br_t rfl (tz_bp1 hp hN6 (br_t rfl (tz_bp1 hq hN6 (br_t rfl (br_t (congrArg nI y) ⟨rfl, R⟩))))))
        · refine ⟨hv, ?_⟩
          intro th1 e1
          refine ⟨hv, ?_⟩
          intro ea1 e2
          refine ⟨hv, ?_⟩
          intro eb1 e3
          rw [cl] at e1 e2 e3
          have ny : ¬ nI p = nI q := fun w => y ((nI_eq (by omega) (by omega)).mp w)
          refine tz_bad1 hl (br_t rfl (tz_bp1 hp hN6 (br_t rfl (tz_bp1 hq hN6 (br_t rfl (br_f ny ?_))))))
          refine ⟨hv, ?_⟩
          intro th2 f1
          refine ⟨hv, ?_⟩
          intro ea2 f2
          refine ⟨hv, ?_⟩
          intro eb2 f3
          rw [cl] at f1 f2 f3
          subst e1 e2 e3 f1 f2 f3
          exact ⟨rfl, tz_rel (tz_St_draw H hp hq) hmk na ro mx pa⟩
      · exact tz_pt0 hN6 Q (tz_bad1 hl (br_t rfl (tz_bp1 hp hN6 (br_t rfl (tz_bp0 hN6 Q (br_f (by decide) ⟨rfl, R⟩))))))
    · exact tz_pt0 hN6 P (tz_bad1 hl (br_t rfl (tz_bp0 hN6 P (br_f (by decide) ⟨rfl, R⟩))))
  · exact tz_line0 L (br_t rfl (tz_bad0 L (br_f (by decide) ⟨rfl, R⟩)))
theorem i_vc_cut {k : Nat} {u : SX} {v : SY} (I : i_Rel k u v) (hk : k + 4 ≤ 2049) (v1 : Int32) : wpX_cut (fun r u' => wpY_cut (fun r' v' => r' = r ∧ i_Rel (k + 4) u' v') v v1) u v1 := by
  obtain ⟨N, mk, th, ea, eb, na, ro, mx, pa, t, a, b, H, hmk, rfl, rfl⟩ := I
  unfold wpX_cut wpY_cut wX_cut_23 wY_cut_23
  dsimp only
  have R := tz_rel (k := k + 4) H hmk na ro mx pa
  by_cases L : ∃ j, j < 10 ∧ v1 = nI j
  · obtain ⟨l, hl, rfl⟩ := L
    have hv : vp_in (nI l) 10 := vp_in_nI hl (by omega)
    have cl : (nI l).toNatClampNeg = l := nI_clamp (by omega)
    refine tz_line1 hl (br_f (by decide) ⟨hv, ?_⟩)
    rw [cl]
    by_cases z : th l = 0
    · refine br_t z ⟨hv, ?_⟩
      intro th1 e1
      refine tz_bad1 hl (br_t rfl ⟨hv, ?_⟩)
      refine br_t z ⟨hv, ?_⟩
      intro th2 e2
      subst e1 e2
      exact ⟨rfl, tz_rel (tz_St_cut H l) hmk na ro mx pa⟩
    · refine br_f z ⟨hv, ?_⟩
      intro th1 e1
      refine tz_bad1 hl (br_t rfl ⟨hv, ?_⟩)
      refine br_f z ⟨hv, ?_⟩
      intro th2 e2
      subst e1 e2
      exact ⟨rfl, tz_rel (tz_St_cut H l) hmk na ro mx pa⟩
  · exact tz_line0 L (br_t rfl (tz_bad0 L (br_f (by decide) ⟨rfl, R⟩)))
theorem i_vc_trees {k : Nat} {u : SX} {v : SY} (I : i_Rel k u v) (hk : k + 4 ≤ 2049) : wpX_trees (fun r u' => wpY_trees (fun r' v' => r' = r ∧ i_Rel (k + 4) u' v') v) u := by
  obtain ⟨N, mk, th, ea, eb, na, ro, mx, pa, t, a, b, H, hmk, rfl, rfl⟩ := I
  unfold wpX_trees wpY_trees
  dsimp only
  refine tx_count (i := 0) (o := 0) H (by omega) (by omega) (fun na1 ro1 mx1 => ?_)
  dsimp only
  refine tq_count (B := 1024) (l := 0) H (by omega) (by omega) (fun pa1 => ?_)
  dsimp only
  exact ⟨by rw [tq_all], tz_rel H hmk na1 ro1 mx1 pa1⟩
theorem i_vc_treesWith {k : Nat} {u : SX} {v : SY} (I : i_Rel k u v) (hk : k + 4 ≤ 2049) (v1 : Int32) : wpX_treesWith (fun r u' => wpY_treesWith (fun r' v' => r' = r ∧ i_Rel (k + 4) u' v') v v1) u v1 := by
  obtain ⟨N, mk, th, ea, eb, na, ro, mx, pa, t, a, b, H, hmk, rfl, rfl⟩ := I
  unfold wpX_treesWith wpY_treesWith
  dsimp only
  have R := tz_rel (k := k + 4) H hmk na ro mx pa
  by_cases L : ∃ j, j < 10 ∧ v1 = nI j
  · obtain ⟨l, hl, rfl⟩ := L
    rw [tx_shl hl]
    refine tz_line1 hl (br_f (by decide) ?_)
    refine tx_count (i := 2 ^ l) (o := 0) H (tx_p_lt hl) (by omega) (fun na1 ro1 mx1 => ?_)
    dsimp only
    refine tz_bad1 hl (br_t rfl ?_)
    refine tq_count (B := 1024) (l := 2 ^ l) H (by omega) (tx_p_lt hl) (fun pa1 => ?_)
    dsimp only
    exact ⟨by rw [tq_all], tz_rel H hmk na1 ro1 mx1 pa1⟩
  · exact tz_line0 L (br_t rfl (tz_bad0 L (br_f (by decide) ⟨rfl, R⟩)))
theorem i_vc_treesWithBoth {k : Nat} {u : SX} {v : SY} (I : i_Rel k u v) (hk : k + 4 ≤ 2049) (v1 : Int32) (v2 : Int32) : wpX_treesWithBoth (fun r u' => wpY_treesWithBoth (fun r' v' => r' = r ∧ i_Rel (k + 4) u' v') v v1 v2) u v1 v2 := by
  obtain ⟨N, mk, th, ea, eb, na, ro, mx, pa, t, a, b, H, hmk, rfl, rfl⟩ := I
  unfold wpX_treesWithBoth wpY_treesWithBoth
  dsimp only
  have R := tz_rel (k := k + 4) H hmk na ro mx pa
  by_cases L : ∃ j, j < 10 ∧ v1 = nI j
  · obtain ⟨l, hl, rfl⟩ := L
    refine tz_line1 hl (br_f (by decide) ?_)
    by_cases L2 : ∃ j, j < 10 ∧ v2 = nI j
    · obtain ⟨m, hm, rfl⟩ := L2
      have lt := tx_or_lt (tx_p_lt hl) (tx_p_lt hm)
      rw [tx_shl hl, tx_shl hm, tx_or]
      refine tz_line1 hm (br_f (by decide) ?_)
      refine tx_count (i := 2 ^ l ||| 2 ^ m) (o := 0) H lt (by omega) (fun na1 ro1 mx1 => ?_)
      dsimp only
      refine tz_bad1 hl (br_t rfl (tz_bad1 hm (br_t rfl ?_)))
      refine tq_count (B := 1024) (l := 2 ^ l ||| 2 ^ m) H (by omega) lt (fun pa1 => ?_)
      dsimp only
      exact ⟨by rw [tq_all], tz_rel H hmk na1 ro1 mx1 pa1⟩
    · exact tz_line0 L2 (br_t rfl (tz_bad1 hl (br_t rfl (tz_bad0 L2 (br_f (by decide) ⟨rfl, R⟩)))))
  · exact tz_line0 L (br_t rfl (tz_bad0 L (br_f (by decide) ⟨rfl, R⟩)))
theorem i_vc_tree {k : Nat} {u : SX} {v : SY} (I : i_Rel k u v) (hk : k + 4 ≤ 2049) (v1 : Int32) : wpX_tree (fun r u' => wpY_tree (fun r' v' => r' = r ∧ i_Rel (k + 4) u' v') v v1) u v1 := by
  obtain ⟨N, mk, th, ea, eb, na, ro, mx, pa, t, a, b, H, hmk, rfl, rfl⟩ := I
  refine tx_tree H ?_ ?_
  · intro s r na1 ro1 mx1 e hr hs ht hc
    subst e
    unfold wpY_tree
    dsimp only
    exact ⟨s + 1, tq_tree_1 H hs ht hc (fun pa1 => ⟨rfl, tz_rel H hmk na1 ro1 mx1 pa1⟩) s 0 pa (by omega)⟩
  · intro hv na1 ro1 mx1
    unfold wpY_tree
    dsimp only
    exact ⟨1025, tq_tree_2 H hv (fun pa1 => ⟨rfl, tz_rel H hmk na1 ro1 mx1 pa1⟩) 1024 0 pa rfl⟩
theorem tz_xor_lt {a b : Nat} (ha : a < 1024) (hb : b < 1024) : a ^^^ b < 1024 := Nat.xor_lt_two_pow (n := 10) ha hb
theorem i_vc_mark {k : Nat} {u : SX} {v : SY} (I : i_Rel k u v) (hk : k + 4 ≤ 2049) (v1 : Int32) : wpX_mark (fun r u' => wpY_mark (fun r' v' => r' = r ∧ i_Rel (k + 4) u' v') v v1) u v1 := by
  obtain ⟨N, mk, th, ea, eb, na, ro, mx, pa, t, a, b, H, hmk, rfl, rfl⟩ := I
  unfold wpX_mark wpY_mark
  dsimp only
  have R := tz_rel (k := k + 4) H hmk na ro mx pa
  by_cases L : ∃ j, j < 10 ∧ v1 = nI j
  · obtain ⟨l, hl, rfl⟩ := L
    have lt := tz_xor_lt hmk (tx_p_lt hl)
    rw [tx_shl hl, nx_xor]
    refine tz_line1 hl (br_f (by decide) (nm_e ?_))
    refine tz_bad1 hl (br_t rfl (nm_e ?_))
    exact ⟨by rw [tx_bit lt hl, tx_bitY lt hl], tz_rel H lt na ro mx pa⟩
  · exact tz_line0 L (br_t rfl (tz_bad0 L (br_f (by decide) ⟨rfl, R⟩)))
theorem i_vc_rank {k : Nat} {u : SX} {v : SY} (I : i_Rel k u v) (hk : k + 4 ≤ 2049) : wpX_rank (fun r u' => wpY_rank (fun r' v' => r' = r ∧ i_Rel (k + 4) u' v') v) u := by
  obtain ⟨N, mk, th, ea, eb, na, ro, mx, pa, t, a, b, H, hmk, rfl, rfl⟩ := I
  refine tx_rank H hmk (fun na1 ro1 mx1 => ?_)
  unfold wpY_rank
  dsimp only
  refine tq_isTree H hmk (fun pa1 => ?_)
  dsimp only
  by_cases z : tc_it t a b N mk = true
  · rw [if_pos z, if_pos z]
    refine br_f (by decide) ?_
    refine tq_count (l := 0) H (by omega) (by omega) (fun pa2 => ?_)
    dsimp only
    exact ⟨by rw [tq_low], tz_rel H hmk na1 ro1 mx1 pa2⟩
  · rw [if_neg z, if_neg z]
    exact br_t rfl ⟨rfl, tz_rel H hmk na1 ro1 mx1 pa1⟩
theorem i_vc_below {k : Nat} {u : SX} {v : SY} (I : i_Rel k u v) (hk : k + 4 ≤ 2049) : wpX_below (fun r u' => wpY_below (fun r' v' => r' = r ∧ i_Rel (k + 4) u' v') v) u := by
  obtain ⟨N, mk, th, ea, eb, na, ro, mx, pa, t, a, b, H, hmk, rfl, rfl⟩ := I
  refine tx_below H hmk (fun na1 ro1 mx1 => ?_)
  unfold wpY_below
  dsimp only
  refine tq_count (l := 0) H (by omega) (by omega) (fun pa2 => ?_)
  dsimp only
  exact ⟨by rw [tq_low], tz_rel H hmk na1 ro1 mx1 pa2⟩
theorem i_vc_extensions {k : Nat} {u : SX} {v : SY} (I : i_Rel k u v) (hk : k + 4 ≤ 2049) : wpX_extensions (fun r u' => wpY_extensions (fun r' v' => r' = r ∧ i_Rel (k + 4) u' v') v) u := by
  obtain ⟨N, mk, th, ea, eb, na, ro, mx, pa, t, a, b, H, hmk, rfl, rfl⟩ := I
  unfold wpX_extensions wpY_extensions
  dsimp only
  refine tx_count (o := 0) H hmk (by omega) (fun na1 ro1 mx1 => ?_)
  dsimp only
  refine tq_count (B := 1024) H (by omega) hmk (fun pa1 => ?_)
  dsimp only
  exact ⟨by rw [tq_all], tz_rel H hmk na1 ro1 mx1 pa1⟩
theorem i_vc_surplus {k : Nat} {u : SX} {v : SY} (I : i_Rel k u v) (hk : k + 4 ≤ 2049) : wpX_surplus (fun r u' => wpY_surplus (fun r' v' => r' = r ∧ i_Rel (k + 4) u' v') v) u := by
  obtain ⟨N, mk, th, ea, eb, na, ro, mx, pa, t, a, b, H, hmk, rfl, rfl⟩ := I
  refine tx_surplus (l := tq_lk t mk 10) H hmk (fun j hj => ?_) (fun na1 => ?_)
  · rw [Bool.eq_iff_iff, tq_lk_b]
    exact ⟨fun w => w.2, fun w => ⟨hj, w⟩⟩
  · exact tq_surplus H hmk (fun pa1 => ⟨rfl, tz_rel H hmk na1 ro mx pa1⟩)
end
