section
/-! rows of kit/rows, pasted (starting texts) -/
theorem pk_us {f : Nat → Int32} {k : Nat} {x : Int32} : upd f k x k = x := if_pos rfl
theorem pk_un {f : Nat → Int32} {k j : Nat} {x : Int32} (h : j ≠ k) : upd f k x j = f j := if_neg h
theorem pk_uLs {f : Nat → Int64} {k : Nat} {x : Int64} : vp_updL f k x k = x := if_pos rfl
theorem pk_uLn {f : Nat → Int64} {k j : Nat} {x : Int64} (h : j ≠ k) : vp_updL f k x j = f j := if_neg h
theorem pk_sub {a b : Nat} (h : b ≤ a) : nI a - nI b = nI (a - b) := by
  obtain ⟨c, rfl⟩ : ∃ c, a = c + b := ⟨a - b, by omega⟩
  rw [← nI_add, Int32.add_sub_cancel, Nat.add_sub_cancel]
theorem pk_m1 (n : Nat) : nI (n + 1) + (-1) = nI n := by
  rw [← nI_1, Int32.add_assoc, show (1 : Int32) + (-1) = 0 from rfl, Int32.add_zero]
theorem pk_ix (x : Int32) {n : Nat} (hn : n < 2 ^ 31) : x < 0 ∨ nI n ≤ x ∨ ∃ j : Nat, j < n ∧ x = nI j := by
  by_cases h : x < 0
  · exact Or.inl h
  · obtain ⟨j, hj, rfl⟩ := nI_of h
    by_cases h2 : j < n
    · exact Or.inr (Or.inr ⟨j, h2, rfl⟩)
    · exact Or.inr (Or.inl (nI_le (by omega) hj))
theorem pk_le {x y : Int32} {A B : Prop} (a b : Nat) (f : a ≤ b → A) (g : b < a → B) (hx : x = nI a := by rfl) (hy : y = nI b := by rfl) (ha : a < 2 ^ 31 := by omega) (hb : b < 2 ^ 31 := by omega) : (x ≤ y → A) ∧ (¬ x ≤ y → B) := by
  subst hx hy
  rw [nI_leI ha hb]
  exact ⟨f, fun z => g (by omega)⟩
theorem pk_lt {x y : Int32} {A B : Prop} (a b : Nat) (f : a < b → A) (g : b ≤ a → B) (hx : x = nI a := by rfl) (hy : y = nI b := by rfl) (ha : a < 2 ^ 31 := by omega) (hb : b < 2 ^ 31 := by omega) : (x < y → A) ∧ (¬ x < y → B) := by
  subst hx hy
  rw [nI_ltI ha hb]
  exact ⟨f, fun z => g (by omega)⟩
theorem pk_eq {x y : Int32} {A B : Prop} (a b : Nat) (f : a = b → A) (g : a ≠ b → B) (hx : x = nI a := by rfl) (hy : y = nI b := by rfl) (ha : a < 2 ^ 31 := by omega) (hb : b < 2 ^ 31 := by omega) : (x = y → A) ∧ (¬ x = y → B) := by
  subst hx hy
  rw [nI_eq ha hb]
  exact ⟨f, g⟩
theorem pk_in {x : Int32} (n N : Nat) (h : n < N) (hx : x = nI n := by rfl) (hN : N < 2 ^ 31 := by omega) : vp_in x N := by
  subst hx
  exact vp_in_nI h hN
theorem pk_cl {x : Int32} (n : Nat) (hx : x = nI n := by rfl) (h : n < 2 ^ 31 := by omega) : x.toNatClampNeg = n := by
  subst hx
  exact nI_clamp h
theorem pk_tn {n : Nat} (h : n < 2 ^ 32) : (nI n).toBitVec.toNat = n := Nat.mod_eq_of_lt h
theorem pk_and (x : Int32) {m : Int32} (k : Nat) (hm : m.toBitVec.toNat = 2 ^ k - 1) : x &&& m = nI (x.toBitVec.toNat % 2 ^ k) := by
  apply Int32.toBitVec_inj.mp
  apply BitVec.eq_of_toNat_eq
  rw [Int32.toBitVec_and, BitVec.toNat_and, hm, Nat.and_two_pow_sub_one_eq_mod]
  show _ = (BitVec.ofNat 32 _).toNat
  rw [BitVec.toNat_ofNat]
  exact (Nat.mod_eq_of_lt (Nat.lt_of_le_of_lt (Nat.mod_le _ _) x.toBitVec.isLt)).symm
def bt (x : Int32) (i : Nat) : Bool := x.toBitVec.getLsbD i
theorem b_ext {x y : Int32} (h : ∀ i, i < 32 → bt x i = bt y i) : x = y := Int32.toBitVec_inj.mp (BitVec.eq_of_getLsbD_eq (fun i hi => h i hi))
theorem b_or (x y : Int32) (i : Nat) : bt (x ||| y) i = (bt x i || bt y i) := by unfold bt; rw [Int32.toBitVec_or, BitVec.getLsbD_or]
theorem b_and (x y : Int32) (i : Nat) : bt (x &&& y) i = (bt x i && bt y i) := by unfold bt; rw [Int32.toBitVec_and, BitVec.getLsbD_and]
theorem b_xor (x y : Int32) (i : Nat) : bt (x ^^^ y) i = (bt x i ^^ bt y i) := by unfold bt; rw [Int32.toBitVec_xor, BitVec.getLsbD_xor]
theorem b_0 (i : Nat) : bt 0 i = false := BitVec.getLsbD_zero
theorem s_l : ∀ n, n < 32 → ((nI n &&& 31).toBitVec.smod 32).toNat = n := by decide +kernel
theorem b_sshr (n : Nat) (hn : n < 32) (x : Int32) {i : Nat} (hi : i < 32) : bt (x >>> (nI n &&& 31)) i = if n + i < 32 then bt x (n + i) else bt x 31 := by
  unfold bt
  rw [Int32.toBitVec_shiftRight]
  show (x.toBitVec.sshiftRight ((nI n &&& 31).toBitVec.smod 32).toNat).getLsbD i = _
  rw [s_l n hn, BitVec.getLsbD_sshiftRight, BitVec.msb_eq_getLsbD_last]
  simp [hi]
theorem nx_and (a b : Nat) : nI a &&& nI b = nI (a &&& b) := by
  apply Int32.toBitVec_inj.1
  show BitVec.ofNat 32 a &&& BitVec.ofNat 32 b = BitVec.ofNat 32 (a &&& b)
  apply BitVec.eq_of_getLsbD_eq
  intro i hi
  simp [hi]
theorem nx_xor (a b : Nat) : nI a ^^^ nI b = nI (a ^^^ b) := by
  apply Int32.toBitVec_inj.1
  show BitVec.ofNat 32 a ^^^ BitVec.ofNat 32 b = BitVec.ofNat 32 (a ^^^ b)
  apply BitVec.eq_of_getLsbD_eq
  intro i hi
  simp [hi]
theorem ts_nf {x : Bool} (h : ¬ x = false) : x = true := by cases x <;> first | rfl | exact absurd rfl h
theorem ts_nt {x : Bool} (h : ¬ x = true) : x = false := by cases x <;> first | rfl | exact absurd rfl h
theorem ts_bit {w : Int64} {s : UInt64} {j : Nat} (hj : j < 64) (hs : s.toNat = j) : ((w.toUInt64 >>> s).toInt64 &&& 1) = 0 ↔ w.toBitVec.getLsbD j = false := by
  have e : (w.toUInt64 >>> s).toInt64.toBitVec = w.toBitVec >>> j := by
    apply BitVec.eq_of_toNat_eq
    show (w.toUInt64 >>> s).toNat = _
    rw [UInt64.toNat_shiftRight, hs, Nat.mod_eq_of_lt hj, BitVec.toNat_ushiftRight]
    rfl
  rw [← Int64.toBitVec_inj, Int64.toBitVec_and, e]
  show w.toBitVec >>> j &&& 1#64 = 0#64 ↔ _
  constructor
  · intro h
    have t := congrArg (fun x => x.getLsbD 0) h
    simpa using t
  · intro h
    apply BitVec.eq_of_getLsbD_eq
    intro i hi
    cases i with
    | zero => simp [h]
    | succ i => simp
theorem wb_tb (n : Nat) : (lN n).toBitVec = BitVec.ofNat 64 n := rfl
theorem wb_inj {a b : Int64} (h : a.toBitVec = b.toBitVec) : a = b := Int64.toBitVec_inj.mp h
theorem wb_cu : ∀ k, k < 64 → ((nI k).toInt64.toUInt64 &&& Int64.toUInt64 63) = UInt64.ofNat k := by decide +kernel
theorem u_tn {n : Nat} (h : n < 2 ^ 64) : (UInt64.ofNat n).toNat = n := Nat.mod_eq_of_lt h
end
section
/-! sets of clauses as naturals below 128: bits, difference, inclusion; the Int32 forms of them -/
def cf_dif (a b : Nat) : Nat := a &&& (127 ^^^ b)
def cf_sub (a b : Nat) : Prop := ∀ k, k < 7 → a.testBit k = true → b.testBit k = true
theorem cf_hi {a k : Nat} (ha : a < 128) (h : 7 ≤ k) : a.testBit k = false :=
  Nat.testBit_lt_two_pow (Nat.lt_of_lt_of_le ha (show 2 ^ 7 ≤ 2 ^ k from Nat.pow_le_pow_right (by decide) h))
theorem cf_127 : ∀ k, k < 7 → (127 : Nat).testBit k = true := by decide
theorem cf_full : ∀ k, k < 7 → (4294967295 : Nat).testBit k = true := by decide
theorem cf_difB {a : Nat} (ha : a < 128) (b k : Nat) : (cf_dif a b).testBit k = (a.testBit k && !b.testBit k) := by
  unfold cf_dif
  rw [Nat.testBit_and, Nat.testBit_xor]
  rcases Nat.lt_or_ge k 7 with h | h
  · rw [cf_127 k h, Bool.true_xor]
  · rw [cf_hi ha h, Bool.false_and, Bool.false_and]
theorem cf_difL {a : Nat} (ha : a < 128) (b : Nat) : cf_dif a b < 128 := Nat.lt_of_le_of_lt Nat.and_le_left ha
theorem cf_difL' {a m : Nat} (ha : a < m) (b : Nat) : cf_dif a b < m := Nat.lt_of_le_of_lt Nat.and_le_left ha
theorem cf_m1 : (-1 : Int32) = nI 4294967295 := by decide
theorem cf_nIdif {a : Nat} (ha : a < 128) (b : Nat) : nI a &&& (nI b ^^^ (-1)) = nI (cf_dif a b) := by
  rw [cf_m1, nx_xor, nx_and]
  refine congrArg nI (Nat.eq_of_testBit_eq (fun i => ?_))
  rw [cf_difB ha, Nat.testBit_and, Nat.testBit_xor]
  rcases Nat.lt_or_ge i 7 with h | h
  · rw [cf_full i h, Bool.xor_true]
  · rw [cf_hi ha h, Bool.false_and, Bool.false_and]
theorem nx_or (a b : Nat) : nI a ||| nI b = nI (a ||| b) := by
  apply Int32.toBitVec_inj.1
  show BitVec.ofNat 32 a ||| BitVec.ofNat 32 b = BitVec.ofNat 32 (a ||| b)
  apply BitVec.eq_of_getLsbD_eq
  intro i hi
  simp [hi]
theorem cf_eq0 {a : Nat} (ha : a < 2 ^ 31) : nI a = 0 ↔ a = 0 :=
  ⟨fun h => (nI_eq ha (by decide)).mp (h.trans nI_0.symm), fun h => by rw [h]; exact nI_0⟩
theorem cf_sub0 {a : Nat} (ha : a < 128) (b : Nat) : cf_dif a b = 0 ↔ cf_sub a b := by
  constructor
  · intro h k _ hb
    have e := cf_difB ha b k
    rw [h, Nat.zero_testBit, hb, Bool.true_and] at e
    cases hc : b.testBit k
    · rw [hc] at e; exact absurd e (by decide)
    · rfl
  · intro h
    refine Nat.eq_of_testBit_eq (fun i => ?_)
    rw [cf_difB ha, Nat.zero_testBit]
    rcases Nat.lt_or_ge i 7 with hi | hi
    · cases hc : a.testBit i
      · rfl
      · rw [h i hi hc]; rfl
    · rw [cf_hi ha hi, Bool.false_and]
theorem cf_subI {a : Nat} (ha : a < 128) (b : Nat) : (nI a &&& (nI b ^^^ (-1))) = 0 ↔ cf_sub a b := by
  rw [cf_nIdif ha, cf_eq0 (by have := cf_difL ha b; omega), cf_sub0 ha]
theorem cf_ext {a b : Nat} (ha : a < 128) (hb : b < 128) (h1 : cf_sub a b) (h2 : cf_sub b a) : a = b := by
  refine Nat.eq_of_testBit_eq (fun i => ?_)
  rcases Nat.lt_or_ge i 7 with h | h
  · exact Bool.eq_iff_iff.mpr ⟨h1 i h, h2 i h⟩
  · rw [cf_hi ha h, cf_hi hb h]
theorem cf_rf (a : Nat) : cf_sub a a := fun _ _ h => h
theorem cf_tr {a b c : Nat} (h1 : cf_sub a b) (h2 : cf_sub b c) : cf_sub a c := fun k hk h => h2 k hk (h1 k hk h)
theorem cf_subAnd {a b : Nat} (ha : a < 128) (h : cf_sub a b) : a &&& b = a := by
  refine Nat.eq_of_testBit_eq (fun i => ?_)
  rw [Nat.testBit_and]
  rcases Nat.lt_or_ge i 7 with hi | hi
  · cases hc : a.testBit i
    · rfl
    · rw [h i hi hc]; rfl
  · rw [cf_hi ha hi, Bool.false_and]
theorem cf_subLe {a b : Nat} (ha : a < 128) (h : cf_sub a b) : a ≤ b := by
  have e := cf_subAnd ha h
  have l : a &&& b ≤ b := Nat.and_le_right
  omega
theorem cf_nsub {a b : Nat} (h : ¬ cf_sub a b) : ∃ k, k < 7 ∧ a.testBit k = true ∧ b.testBit k = false := by
  refine Classical.byContradiction (fun z => h (fun k hk ha => ?_))
  cases hc : b.testBit k
  · exact absurd ⟨k, hk, ha, hc⟩ z
  · rfl
theorem cf_neq {a b : Nat} (ha : a < 128) (hb : b < 128) (h1 : cf_sub a b) (h2 : a ≠ b) : ∃ k, k < 7 ∧ b.testBit k = true ∧ a.testBit k = false :=
  cf_nsub (fun z => h2 (cf_ext ha hb h1 z))
theorem cf_orL {a k : Nat} (ha : a < 128) (hk : k < 7) : a ||| 2 ^ k < 128 :=
  Nat.or_lt_two_pow (n := 7) ha (Nat.pow_lt_pow_right (by decide) hk)
theorem cf_orB (a k j : Nat) : (a ||| 2 ^ k).testBit j = (a.testBit j || decide (k = j)) := by
  rw [Nat.testBit_or, Nat.testBit_two_pow]
theorem cf_delB {a : Nat} (ha : a < 128) (k j : Nat) : (cf_dif a (2 ^ k)).testBit j = (a.testBit j && !decide (k = j)) := by
  rw [cf_difB ha, Nat.testBit_two_pow]
theorem cf_subOr (a k : Nat) : cf_sub a (a ||| 2 ^ k) := fun j _ h => by rw [cf_orB, h]; rfl
theorem cf_orSub {a b k : Nat} (h : cf_sub a b) (hk : b.testBit k = true) : cf_sub (a ||| 2 ^ k) b := fun j hj hb => by
  rw [cf_orB] at hb
  rcases Bool.or_eq_true_iff.mp hb with z | z
  · exact h j hj z
  · rw [← of_decide_eq_true z]; exact hk
theorem cf_difSub {a : Nat} (ha : a < 128) (b : Nat) : cf_sub (cf_dif a b) a := fun j _ h => by
  rw [cf_difB ha] at h
  exact (Bool.and_eq_true_iff.mp h).1
theorem cf_difT {a b k : Nat} (ha : a < 128) (h : (cf_dif a b).testBit k = true) : a.testBit k = true ∧ b.testBit k = false := by
  rw [cf_difB ha] at h
  have := Bool.and_eq_true_iff.mp h
  exact ⟨this.1, by have z := this.2; cases hc : b.testBit k; rfl; rw [hc] at z; exact absurd z (by decide)⟩
theorem cf_difI {a b k : Nat} (ha : a < 128) (h1 : a.testBit k = true) (h2 : b.testBit k = false) : (cf_dif a b).testBit k = true := by
  rw [cf_difB ha, h1, h2]; rfl
theorem cf_subDel {a b k : Nat} (hb : b < 128) (h : cf_sub a b) (hk : a.testBit k = false) : cf_sub a (cf_dif b (2 ^ k)) := fun j hj hj1 => by
  rw [cf_delB hb, h j hj hj1]
  have : k ≠ j := fun e => by rw [e, hj1] at hk; exact absurd hk (by decide)
  simp [this]
theorem cf_delMono {a b k : Nat} (ha : a < 128) (hb : b < 128) (h : cf_sub a b) : cf_sub (cf_dif a (2 ^ k)) (cf_dif b (2 ^ k)) := fun j hj z => by
  rw [cf_delB ha] at z
  rw [cf_delB hb]
  have := Bool.and_eq_true_iff.mp z
  rw [h j hj this.1, this.2]; rfl
theorem cf_orMono {a b k : Nat} (h : cf_sub a b) : cf_sub (a ||| 2 ^ k) (b ||| 2 ^ k) := fun j hj z => by
  rw [cf_orB] at z ⊢
  rcases Bool.or_eq_true_iff.mp z with y | y
  · rw [h j hj y]; rfl
  · rw [y, Bool.or_true]
theorem cf_difDif {a b : Nat} (ha : a < 128) (hb : b < 128) (h : cf_sub b a) : cf_dif a (cf_dif a b) = b := by
  refine cf_ext (cf_difL ha _) hb (fun k _ z => ?_) (fun k hk z => ?_)
  · have := cf_difT ha z
    cases hc : b.testBit k
    · rw [cf_difI ha this.1 hc] at this; exact absurd this.2 (by decide)
    · rfl
  · refine cf_difI ha (h k hk z) ?_
    rw [cf_difB ha, z, Bool.not_true, Bool.and_false]
theorem cf_difAnti {a b c : Nat} (ha : a < 128) (h : cf_sub b c) : cf_sub (cf_dif a c) (cf_dif a b) := fun k hk z => by
  have := cf_difT ha z
  refine cf_difI ha this.1 ?_
  cases hc : b.testBit k
  · rfl
  · rw [h k hk hc] at this; exact absurd this.2 (by decide)
/-! one bit of an int, and one more or less -/
theorem cf_bt1 : ∀ i, i < 32 → bt 1 i = decide (i = 0) := by decide +kernel
theorem cf_bit (x : Int32) {k : Nat} (hk : k < 7) : ((x >>> (nI k &&& 31)) &&& 1) = 0 ↔ bt x k = false := by
  constructor
  · intro h
    have t : bt ((x >>> (nI k &&& 31)) &&& 1) 0 = bt 0 0 := congrArg (fun y => bt y 0) h
    rw [b_and, b_sshr k (by omega) x (by omega), b_0, cf_bt1 0 (by omega), if_pos (by omega), decide_eq_true rfl, Bool.and_true] at t
    exact t
  · intro h
    refine b_ext (fun i hi => ?_)
    rw [b_and, b_0, cf_bt1 i hi, b_sshr k (by omega) x hi]
    by_cases e : i = 0
    · subst e; rw [if_pos (by omega), Nat.add_zero, h, Bool.false_and]
    · rw [decide_eq_false e, Bool.and_false]
theorem cf_btN (s : Nat) {k : Nat} (hk : k < 32) : bt (nI s) k = s.testBit k := by
  unfold bt
  show (BitVec.ofNat 32 s).getLsbD k = _
  rw [BitVec.getLsbD_ofNat, decide_eq_true hk, Bool.true_and]
theorem cf_bitN (s : Nat) {k : Nat} (hk : k < 7) : ((nI s >>> (nI k &&& 31)) &&& 1) = 0 ↔ s.testBit k = false := by
  rw [cf_bit _ hk, cf_btN s (by omega)]
theorem cf_bit2 (s : Nat) {k : Nat} (hk : k < 7) {A B : Prop} (h0 : s.testBit k = false → A) (h1 : s.testBit k = true → B) : (((nI s >>> (nI k &&& 31)) &&& 1) = 0 → A) ∧ (¬ ((nI s >>> (nI k &&& 31)) &&& 1) = 0 → B) :=
  ⟨fun z => h0 ((cf_bitN s hk).mp z), fun z => h1 (ts_nf (fun w => z ((cf_bitN s hk).mpr w)))⟩
theorem cf_bitV : ∀ s, s < 128 → ∀ k, k < 7 → ((nI s >>> (nI k &&& 31)) &&& 1) = nI (s.testBit k).toNat := by decide +kernel
theorem cf_pw : ∀ k, k < 7 → ((1 : Int32) <<< (nI k &&& 31)) = nI (2 ^ k) := by decide +kernel
theorem cf_seen : ∀ L, L < 5 → (15 : Int32) &&& ((((1 : Int32) <<< (nI L &&& 31)) - 1) ^^^ (-1)) = nI (16 - 2 ^ L) := by decide +kernel
theorem cf_or1 (s : Nat) {k : Nat} (hk : k < 7) : nI s ||| ((1 : Int32) <<< (nI k &&& 31)) = nI (s ||| 2 ^ k) := by rw [cf_pw k hk, nx_or]
theorem cf_del1 {s : Nat} (hs : s < 128) {k : Nat} (hk : k < 7) : nI s &&& (((1 : Int32) <<< (nI k &&& 31)) ^^^ (-1)) = nI (cf_dif s (2 ^ k)) := by rw [cf_pw k hk, cf_nIdif hs]
theorem cf_subB {a : Nat} (ha : a < 128) (b : Nat) {A B : Prop} (h1 : cf_sub a b → A) (h0 : ¬ cf_sub a b → B) : ((nI a &&& (nI b ^^^ (-1))) = 0 → A) ∧ (¬ (nI a &&& (nI b ^^^ (-1))) = 0 → B) :=
  ⟨fun z => h1 ((cf_subI ha b).mp z), fun z => h0 (fun w => z ((cf_subI ha b).mpr w))⟩
/-! the number of clauses of a set -/
def cf_popd (s : Nat) : Nat → Nat → Nat
  | 0, _ => 0
  | d + 1, k => (s.testBit k).toNat + cf_popd s d (k + 1)
def cf_pop (s : Nat) : Nat := cf_popd s 7 0
theorem cf_popd_le (s : Nat) : ∀ d k, cf_popd s d k ≤ d := by
  intro d
  induction d with
  | zero => intro k; exact Nat.le_refl _
  | succ d ih =>
    intro k
    have h := ih (k + 1)
    have b := Bool.toNat_le (s.testBit k)
    show (s.testBit k).toNat + cf_popd s d (k + 1) ≤ d + 1
    omega
theorem cf_popd_mono {a b : Nat} (h : cf_sub a b) : ∀ d k, k + d = 7 → cf_popd a d k ≤ cf_popd b d k := by
  intro d
  induction d with
  | zero => intro k _; exact Nat.le_refl _
  | succ d ih =>
    intro k hk
    have i := ih (k + 1) (by omega)
    have g : (a.testBit k).toNat ≤ (b.testBit k).toNat := by
      cases hc : a.testBit k
      · exact Nat.zero_le _
      · rw [h k (by omega) hc]; exact Nat.le_refl _
    show (a.testBit k).toNat + cf_popd a d (k + 1) ≤ (b.testBit k).toNat + cf_popd b d (k + 1)
    omega
theorem cf_pop_le (s : Nat) : cf_pop s ≤ 7 := cf_popd_le s 7 0
theorem cf_pop_mono {a b : Nat} (h : cf_sub a b) : cf_pop a ≤ cf_pop b := cf_popd_mono h 7 0 rfl
/-! sets of sets: two words of 64 bits -/
def cf_mem (a : Nat → Int64) (s : Nat) : Bool := (a (s / 64)).toBitVec.getLsbD (s % 64)
def cf_ins (a : Nat → Int64) (s : Nat) : Nat → Int64 := vp_updL a (nI s >>> ((6 : Int32) &&& 31)).toNatClampNeg ((a (nI s >>> ((6 : Int32) &&& 31)).toNatClampNeg) ||| ((1 : Int64) <<< ((nI s &&& 63).toInt64 &&& 63)))
theorem cf_s6 : ∀ s, s < 128 → nI s >>> ((6 : Int32) &&& 31) = nI (s / 64) := by decide +kernel
theorem cf_l6 : ∀ s, s < 128 → ((1 : Int64) <<< ((nI s &&& 63).toInt64 &&& 63)).toBitVec = BitVec.twoPow 64 (s % 64) := by decide +kernel
theorem cf_in6 {s : Nat} (hs : s < 128) : vp_in (nI s >>> ((6 : Int32) &&& 31)) 2 := by
  rw [cf_s6 s hs]
  exact vp_in_nI (by omega) (by decide)
theorem cf_insM (a : Nat → Int64) {s : Nat} (hs : s < 128) (t : Nat) : cf_mem (cf_ins a s) t = true ↔ (t = s ∨ cf_mem a t = true) := by
  have e : cf_ins a s = vp_updL a (s / 64) (a (s / 64) ||| ((1 : Int64) <<< ((nI s &&& 63).toInt64 &&& 63))) := by
    unfold cf_ins
    rw [cf_s6 s hs, nI_clamp (by omega)]
  rw [e]
  unfold cf_mem
  by_cases q : t / 64 = s / 64
  · rw [q, pk_uLs, Int64.toBitVec_or, BitVec.getLsbD_or, cf_l6 s hs, BitVec.getLsbD_twoPow]
    have l : s % 64 < 64 := Nat.mod_lt _ (by decide)
    rw [decide_eq_true l, Bool.true_and, Bool.or_eq_true_iff, decide_eq_true_iff]
    constructor
    · rintro (h | h)
      · exact Or.inr h
      · exact Or.inl (by omega)
    · rintro (h | h)
      · exact Or.inr (by rw [h])
      · exact Or.inl h
  · rw [pk_uLn q]
    constructor
    · exact Or.inr
    · rintro (h | h)
      · exact absurd (by rw [h]) q
      · exact h
theorem cf_mem0 (a : Nat → Int64) {t : Nat} (ht : t < 128) : ¬ cf_mem (vp_updL (vp_updL a 0 0) 1 0) t = true := by
  unfold cf_mem
  have z : (vp_updL (vp_updL a 0 0) 1 0) (t / 64) = 0 := by
    rcases Nat.lt_or_ge t 64 with h | h
    · rw [show t / 64 = 0 by omega, pk_uLn (by decide), pk_uLs]
    · rw [show t / 64 = 1 by omega, pk_uLs]
  rw [z]
  show ¬ (0#64).getLsbD (t % 64) = true
  rw [BitVec.getLsbD_zero]
  decide
end
section
/-! the mathematics: clauses, consistency, cores, repairs, the map of decided sets -/
def cf_h (p n : Nat → Nat) (k v : Nat) : Prop := ¬ (p k &&& v = 0) ∨ ¬ (cf_dif (n k) v = 0)
def cf_ok (p n : Nat → Nat) (S v : Nat) : Prop := ∀ k, k < 7 → S.testBit k = true → cf_h p n k v
def cf_cons (p n : Nat → Nat) (S : Nat) : Prop := ∃ v, v < 16 ∧ cf_ok p n S v
theorem cf_okMono {p n : Nat → Nat} {a b v : Nat} (h : cf_sub a b) (hb : cf_ok p n b v) : cf_ok p n a v := fun k hk z => hb k hk (h k hk z)
theorem cf_mono {p n : Nat → Nat} {a b : Nat} (h : cf_sub a b) (hb : cf_cons p n b) : cf_cons p n a :=
  Exists.elim hb (fun v hv => ⟨v, hv.1, cf_okMono h hv.2⟩)
def cf_K (p n : Nat → Nat) (P s : Nat) : Prop := cf_sub s P ∧ ¬ cf_cons p n s ∧ ∀ k, k < 7 → s.testBit k = true → cf_cons p n (cf_dif s (2 ^ k))
def cf_R (p n : Nat → Nat) (P r : Nat) : Prop := cf_sub r P ∧ cf_cons p n (cf_dif P r) ∧ ∀ t, t < r → cf_sub t r → ¬ cf_cons p n (cf_dif P t)
def cf_Fin (p n : Nat → Nat) (P : Nat) (C R : Nat → Int64) : Prop :=
  (∀ s, s < 128 → (cf_mem C s = true ↔ cf_K p n P s)) ∧ (∀ s, s < 128 → (cf_mem R s = true ↔ cf_R p n P s)) ∧
  (∀ t, t < 128 → cf_sub t P → cf_cons p n t → ∃ r, r < 128 ∧ cf_mem R r = true ∧ cf_sub t (cf_dif P r))
def cf_Inv (p n : Nat → Nat) (P : Nat) (D C R : Nat → Int64) : Prop :=
  (∀ s, s < 128 → cf_mem C s = true → cf_K p n P s) ∧ (∀ s, s < 128 → cf_mem R s = true → cf_R p n P s) ∧
  (∀ t, t < 128 → cf_sub t P → cf_mem D t = true → (∃ c, c < 128 ∧ cf_mem C c = true ∧ cf_sub c t) ∨ (∃ r, r < 128 ∧ cf_mem R r = true ∧ cf_sub t (cf_dif P r)))
/-- a greatest consistent set's rest is a repair -/
theorem cf_growR {p n : Nat → Nat} {P M : Nat} (hP : P < 128) (hM : M < 128) (h1 : cf_sub M P) (h2 : cf_cons p n M) (h3 : ∀ j, j < 7 → P.testBit j = true → M.testBit j = false → ¬ cf_cons p n (M ||| 2 ^ j)) : cf_R p n P (cf_dif P M) := by
  refine ⟨cf_difSub hP M, ?_, fun t ht hs hc => ?_⟩
  · rw [cf_difDif hP hM h1]; exact h2
  · have hd := cf_difL hP M
    obtain ⟨j, hj, hb, hn⟩ := cf_neq (by omega) hd hs (by omega)
    have hb' := cf_difT hP hb
    refine h3 j hj hb'.1 hb'.2 (cf_mono (cf_orSub ?_ (cf_difI hP hb'.1 hn)) hc)
    have := cf_difAnti hP hs
    rw [cf_difDif hP hM h1] at this
    exact this
theorem cf_fin {p n : Nat → Nat} {P : Nat} {D C R : Nat → Int64} (hP : P < 128) (I : cf_Inv p n P D C R) (hD : ∀ t, t < 128 → cf_sub t P → cf_mem D t = true) : cf_Fin p n P C R := by
  have hT : ∀ t, t < 128 → cf_sub t P → cf_cons p n t → ∃ r, r < 128 ∧ cf_mem R r = true ∧ cf_sub t (cf_dif P r) := by
    intro t ht hs hc
    rcases I.2.2 t ht hs (hD t ht hs) with ⟨c, hc1, hc2, hc3⟩ | h
    · exact absurd (cf_mono hc3 hc) (I.1 c hc1 hc2).2.1
    · exact h
  refine ⟨fun s hs => ⟨I.1 s hs, fun k => ?_⟩, fun s hs => ⟨I.2.1 s hs, fun k => ?_⟩, hT⟩
  · rcases I.2.2 s hs k.1 (hD s hs k.1) with ⟨c, hc1, hc2, hc3⟩ | ⟨r, hr1, hr2, hr3⟩
    · by_cases e : c = s
      · rw [← e]; exact hc2
      · obtain ⟨j, hj, hb, hn⟩ := cf_neq hc1 hs hc3 e
        exact absurd (cf_mono (cf_subDel hs hc3 hn) (k.2.2 j hj hb)) (I.1 c hc1 hc2).2.1
    · exact absurd (cf_mono hr3 (I.2.1 r hr1 hr2).2.1) k.2.1
  · obtain ⟨r, hr1, hr2, hr3⟩ := hT (cf_dif P s) (cf_difL hP s) (cf_difSub hP s) k.2.1
    have R' := I.2.1 r hr1 hr2
    have q : cf_sub r s := by
      have := cf_difAnti (a := P) hP hr3
      rw [cf_difDif hP hr1 R'.1, cf_difDif hP hs k.1] at this
      exact this
    by_cases e : r = s
    · rw [← e]; exact hr2
    · have l := cf_subLe hr1 q
      exact absurd R'.2.1 (k.2.2 r (by omega) q)
theorem cf_invGrow {p n : Nat → Nat} {P M : Nat} {D D' C R : Nat → Int64} (hP : P < 128) (I : cf_Inv p n P D C R) (hM : M < 128) (h1 : cf_sub M P) (h2 : cf_cons p n M) (h3 : ∀ j, j < 7 → P.testBit j = true → M.testBit j = false → ¬ cf_cons p n (M ||| 2 ^ j)) (hD : ∀ t, t < 128 → (cf_mem D' t = true ↔ (cf_mem D t = true ∨ cf_sub t M))) : cf_Inv p n P D' C (cf_ins R (cf_dif P M)) := by
  have hd := cf_difL hP M
  refine ⟨I.1, fun s hs h => ?_, fun t ht hs h => ?_⟩
  · rcases (cf_insM R hd s).mp h with e | e
    · rw [e]; exact cf_growR hP hM h1 h2 h3
    · exact I.2.1 s hs e
  · rcases (hD t ht).mp h with e | e
    · rcases I.2.2 t ht hs e with z | ⟨r, z1, z2, z3⟩
      · exact Or.inl z
      · exact Or.inr ⟨r, z1, (cf_insM R hd r).mpr (Or.inr z2), z3⟩
    · exact Or.inr ⟨cf_dif P M, hd, (cf_insM R hd _).mpr (Or.inl rfl), by rw [cf_difDif hP hM h1]; exact e⟩
theorem cf_invShrink {p n : Nat → Nat} {P M : Nat} {D D' C R : Nat → Int64} (I : cf_Inv p n P D C R) (hM : M < 128) (h1 : cf_sub M P) (h2 : ¬ cf_cons p n M) (h3 : ∀ j, j < 7 → M.testBit j = true → cf_cons p n (cf_dif M (2 ^ j))) (hD : ∀ t, t < 128 → (cf_mem D' t = true ↔ (cf_mem D t = true ∨ cf_sub M t))) : cf_Inv p n P D' (cf_ins C M) R := by
  refine ⟨fun s hs h => ?_, I.2.1, fun t ht hs h => ?_⟩
  · rcases (cf_insM C hM s).mp h with e | e
    · rw [e]; exact ⟨h1, h2, h3⟩
    · exact I.1 s hs e
  · rcases (hD t ht).mp h with e | e
    · rcases I.2.2 t ht hs e with ⟨c, z1, z2, z3⟩ | z
      · exact Or.inl ⟨c, z1, (cf_insM C hM c).mpr (Or.inr z2), z3⟩
      · exact Or.inr z
    · exact Or.inl ⟨M, hM, (cf_insM C hM _).mpr (Or.inl rfl), e⟩
/-! the search for truth values: the order of the nodes, backtracking -/
def cf_bk : Nat → Nat → Nat → Nat × Nat
  | 0, L, V => (L, V)
  | d + 1, L, V => if V.testBit L = true then cf_bk d (L + 1) (cf_dif V (2 ^ L)) else (L, V)
def cf_ix (L V : Nat) : Nat := 2 * V + 4 - L - cf_popd V 4 0
theorem cf_ixT : ∀ L, L < 5 → ∀ V, V < 16 → V % 2 ^ L = 0 → cf_ix L V < 31 := by decide +kernel
theorem cf_ixD : ∀ L, L < 4 → ∀ V, V < 16 → V % 2 ^ (L + 1) = 0 → cf_ix (L + 1) V + 1 ≤ cf_ix L V ∧ V % 2 ^ L = 0 := by decide +kernel
theorem cf_bkT1 : ∀ L, L < 5 → ∀ V, V < 16 → (cf_bk (4 - L) L V).1 < 5 := by decide +kernel
theorem cf_bkT2 : ∀ L, L < 5 → ∀ V, V < 16 → V % 2 ^ L = 0 ∧ (cf_bk (4 - L) L V).1 = 4 → V + 2 ^ L = 16 := by decide +kernel
theorem cf_bkT3 : ∀ L, L < 5 → ∀ V, V < 16 → V % 2 ^ L = 0 ∧ ¬ (cf_bk (4 - L) L V).1 = 4 → (cf_bk (4 - L) L V).2 ||| 2 ^ (cf_bk (4 - L) L V).1 = V + 2 ^ L ∧ V + 2 ^ L < 16 := by decide +kernel
theorem cf_bkT4 : ∀ L, L < 5 → ∀ V, V < 16 → V % 2 ^ L = 0 ∧ ¬ (cf_bk (4 - L) L V).1 = 4 → (V + 2 ^ L) % 2 ^ (cf_bk (4 - L) L V).1 = 0 ∧ cf_ix L V + 1 ≤ cf_ix (cf_bk (4 - L) L V).1 (V + 2 ^ L) := by decide +kernel
theorem cf_bkT {L V : Nat} (hL : L < 5) (hV : V < 16) (hm : V % 2 ^ L = 0) : (cf_bk (4 - L) L V).1 < 5 ∧ ((cf_bk (4 - L) L V).1 = 4 → V + 2 ^ L = 16) ∧ (¬ (cf_bk (4 - L) L V).1 = 4 → (cf_bk (4 - L) L V).2 ||| 2 ^ (cf_bk (4 - L) L V).1 = V + 2 ^ L ∧ V + 2 ^ L < 16 ∧ (V + 2 ^ L) % 2 ^ (cf_bk (4 - L) L V).1 = 0 ∧ cf_ix L V + 1 ≤ cf_ix (cf_bk (4 - L) L V).1 (V + 2 ^ L)) :=
  ⟨cf_bkT1 L hL V hV, fun e => cf_bkT2 L hL V hV ⟨hm, e⟩, fun e => ⟨(cf_bkT3 L hL V hV ⟨hm, e⟩).1, (cf_bkT3 L hL V hV ⟨hm, e⟩).2, (cf_bkT4 L hL V hV ⟨hm, e⟩).1, (cf_bkT4 L hL V hV ⟨hm, e⟩).2⟩⟩
/-- what the letters from L on decide -/
theorem cf_t1 : ∀ L, L < 5 → ∀ a, a < 16 → ∀ v, v < 16 → cf_dif a (16 - 2 ^ L) = 0 → a &&& v = a &&& (v / 2 ^ L * 2 ^ L) ∧ cf_dif a v = cf_dif a (v / 2 ^ L * 2 ^ L) := by decide +kernel
theorem cf_t2 : ∀ L, L < 5 → ∀ a, a < 16 → ∀ b, b < 16 → cf_dif (a ||| b) (16 - 2 ^ L) = 0 → cf_dif a (16 - 2 ^ L) = 0 ∧ cf_dif b (16 - 2 ^ L) = 0 := by decide +kernel
theorem cf_t3 : ∀ L, L < 5 → ∀ a, a < 16 → ∀ v, v < 16 → a &&& v = 0 → a &&& (v / 2 ^ L * 2 ^ L) = 0 := by decide +kernel
theorem cf_t4 : ∀ L, L < 5 → ∀ a, a < 16 → ∀ v, v < 16 → cf_dif a v = 0 → cf_dif (a &&& (16 - 2 ^ L)) (v / 2 ^ L * 2 ^ L) = 0 := by decide +kernel
theorem cf_t5 : ∀ a, a < 16 → cf_dif a (16 - 2 ^ 0) = 0 ∧ a &&& (16 - 2 ^ 0) = a := by decide +kernel
theorem cf_t6' : ∀ L, L < 5 → ∀ V, V < 16 → ∀ v, v < 16 → V % 2 ^ L = 0 ∧ V ≤ v ∧ v < V + 2 ^ L → v / 2 ^ L * 2 ^ L = V := by decide +kernel
theorem cf_t6 (L : Nat) (hL : L < 5) (V : Nat) (hV : V < 16) (hm : V % 2 ^ L = 0) (v : Nat) (hv : v < 16) (h1 : V ≤ v) (h2 : v < V + 2 ^ L) : v / 2 ^ L * 2 ^ L = V := cf_t6' L hL V hV v hv ⟨hm, h1, h2⟩
def cf_b1 (p n : Nat → Nat) (S L V k : Nat) : Prop := S.testBit k = true ∧ cf_dif (p k ||| n k) (16 - 2 ^ L) = 0 ∧ ¬ cf_h p n k V
def cf_F (p n : Nat → Nat) (S I O L V : Nat) : Prop := (∃ k, k < 7 ∧ cf_b1 p n S L V k) ∨ ¬ cf_dif (I &&& (16 - 2 ^ L)) V = 0 ∨ ¬ (O &&& V = 0)
def cf_G (p n : Nat → Nat) (S I O v : Nat) : Prop := cf_ok p n S v ∧ cf_dif I v = 0 ∧ O &&& v = 0
theorem cf_FG {p n : Nat → Nat} {S I O L V v : Nat} (hp : ∀ k, k < 7 → p k < 16 ∧ n k < 16) (hI : I < 16) (hO : O < 16) (hL : L < 5) (hV : V < 16) (hm : V % 2 ^ L = 0) (hv : v < 16) (h1 : V ≤ v) (h2 : v < V + 2 ^ L) (hF : cf_F p n S I O L V) : ¬ cf_G p n S I O v := by
  intro g
  have e := cf_t6 L hL V hV hm v hv h1 h2
  rcases hF with ⟨k, hk, b1, b2, b3⟩ | f | f
  · have hpk := hp k hk
    have s := cf_t2 L hL (p k) hpk.1 (n k) hpk.2 b2
    have t1 := (cf_t1 L hL (p k) hpk.1 v hv s.1).1
    have t2 := (cf_t1 L hL (n k) hpk.2 v hv s.2).2
    rw [e] at t1 t2
    rcases g.1 k hk b1 with z | z
    · exact b3 (Or.inl (by rw [← t1]; exact z))
    · exact b3 (Or.inr (by rw [← t2]; exact z))
  · have := cf_t4 L hL I hI v hv g.2.1
    rw [e] at this
    exact f this
  · have := cf_t3 L hL O hO v hv g.2.2
    rw [e] at this
    exact f this
theorem cf_FG0 {p n : Nat → Nat} {S I O V : Nat} (hp : ∀ k, k < 7 → p k < 16 ∧ n k < 16) (hI : I < 16) (h : ¬ cf_F p n S I O 0 V) : cf_G p n S I O V := by
  refine ⟨fun k hk hb => ?_, ?_, ?_⟩
  · refine Classical.byContradiction (fun z => h (Or.inl ⟨k, hk, hb, ?_, z⟩))
    have hpk := hp k hk
    exact (cf_t5 (p k ||| n k) (Nat.or_lt_two_pow (n := 4) hpk.1 hpk.2)).1
  · refine Classical.byContradiction (fun z => h (Or.inr (Or.inl ?_)))
    rw [(cf_t5 I hI).2]
    exact z
  · exact Classical.byContradiction (fun z => h (Or.inr (Or.inr z)))
/-- the least number below 16 with G, or -1 -/
def cf_Ans (G : Nat → Prop) (r : Int32) : Prop := (∃ v, v < 16 ∧ r = nI v ∧ G v ∧ ∀ w, w < v → ¬ G w) ∨ (r = -1 ∧ ∀ w, w < 16 → ¬ G w)
theorem cf_ansU {G : Nat → Prop} {r r' : Int32} (h : cf_Ans G r) (h' : cf_Ans G r') : r' = r := by
  rcases h with ⟨v, hv, e, g, l⟩ | ⟨e, l⟩
  · rcases h' with ⟨v', hv', e', g', l'⟩ | ⟨e', l'⟩
    · have : v' = v := by
        rcases Nat.lt_trichotomy v v' with z | z | z
        · exact absurd g (l' v z)
        · exact z.symm
        · exact absurd g' (l v' z)
      rw [e, e', this]
    · exact absurd g (l' v hv)
  · rcases h' with ⟨v', hv', e', g', l'⟩ | ⟨e', l'⟩
    · exact absurd g' (l v' hv')
    · rw [e, e']
end
section
/-! the component's walks: has, ones, broken, solve, holdsTogether, the words -/
def cf_A (p n : Nat → Nat) (ap an : Nat → Int32) : Prop := ∀ k, k < 7 → ap k = nI (p k) ∧ an k = nI (n k) ∧ p k < 16 ∧ n k < 16
section
variable {P : Nat} {kn : Int32} {ap an : Nat → Int32} {D C R : Nat → Int64} {p n : Nat → Nat}
theorem cf_has {post : Int32 → Prop} {k : Nat} (hk : k < 7) (h0 : P.testBit k = false → post 0) (h1 : P.testBit k = true → post 1) : wpX_has post (nI P, kn, ap, an, D, C, R) (nI k) :=
  br_f (nI_pos (by omega)) (br_f (nI_ge (b := 7) hk (by decide)) (cf_bit2 P hk h0 h1))
theorem cf_ones_4 {post : Int32 → Prop} {s : Nat} (hs : s < 128) : ∀ d k m, k + d = 7 → post (nI (m + cf_popd s d k)) → wX_ones_4 post (nI s) (d + 1) (nI m) (nI k) := by
  intro d
  induction d with
  | zero =>
    intro k m hk hp
    exact br_t (nI_le (a := 7) (by omega) (by omega)) hp
  | succ d ih =>
    intro k m hk hp
    refine br_f (nI_ge (b := 7) (by omega) (by decide)) (nm_r (e' := nI (m + (s.testBit k).toNat)) ?_ (nm_r (nI_1 k) (ih (k + 1) _ (by omega) ?_)))
    · rw [cf_bitV s hs k (by omega), nI_add]
    · rw [Nat.add_assoc]; exact hp
theorem cf_ones {post : Int32 → Prop} {s : Nat} (hs : s < 128) (h : post (nI (cf_pop s))) : wpX_ones post (nI s) :=
  Exists.intro 8 (cf_ones_4 hs 7 0 0 rfl (by rw [Nat.zero_add]; exact h))
theorem cf_b92 {post J : Int32 → Prop} {x1 x3 x4 z y f : Int32} {i : Nat} (hz : z = 0 → J (nI (i + 1))) (hy : ¬ z = 0 → (y = 0 → post 1) ∧ (¬ y = 0 → J (nI (i + 1)))) : wX_broken_92 post J x1 x3 x4 (nI i) z y f kn ap an D C R :=
  br_c (fun h => nm_r (nI_1 i) (hz h)) (fun h => br_c (fun g => (hy h).1 g) (fun g => nm_r (nI_1 i) ((hy h).2 g)))
theorem cf_b59 {post J : Int32 → Prop} {x1 x4 z f : Int32} {i V : Nat} (hA : cf_A p n ap an) (hi : i < 7) (hz : z = 0 → J (nI (i + 1))) (hh : cf_h p n i V → J (nI (i + 1))) (hn : ¬ z = 0 → ¬ cf_h p n i V → post 1) : wX_broken_59 post J x1 (nI V) x4 (nI i) z f kn ap an D C R := by
  have a := hA i hi
  have vi : vp_in (nI i) 8 := vp_in_nI (by omega) (by decide)
  have e1 : (ap (nI i).toNatClampNeg) &&& nI V = nI (p i &&& V) := by rw [nI_clamp (by omega), a.1, nx_and]
  have e2 : (an (nI i).toNatClampNeg) &&& (nI V ^^^ (-1)) = nI (cf_dif (n i) V) := by rw [nI_clamp (by omega), a.2.1, cf_nIdif (by omega)]
  have l1 : p i &&& V < 2 ^ 31 := Nat.lt_of_le_of_lt Nat.and_le_left (by omega)
  have l2 : cf_dif (n i) V < 2 ^ 31 := Nat.lt_of_le_of_lt Nat.and_le_left (by omega)
  unfold wX_broken_59
  rw [e1, e2, cf_eq0 l1, cf_eq0 l2]
  refine ⟨vi, br_c (fun c1 => ⟨vi, br_c (fun c2 => ?_) (fun c2 => ?_)⟩) (fun c1 => ?_)⟩
  · exact cf_b92 hz (fun h => br_t rfl (hn h (fun z => by rcases z with z | z; exact z c1; exact z c2)))
  · exact cf_b92 hz (fun h => br_f (by decide) (hh (Or.inr c2)))
  · exact cf_b92 hz (fun h => br_f (by decide) (hh (Or.inl c1)))
theorem cf_b15 {post : Int32 → Prop} {f : Int32} {S L V : Nat} (hA : cf_A p n ap an) (h1 : ∀ k, k < 7 → cf_b1 p n S L V k → post 1) (h0 : (∀ k, k < 7 → ¬ cf_b1 p n S L V k) → post 0) : ∀ d i, i + d = 7 → (∀ j, j < i → ¬ cf_b1 p n S L V j) → wX_broken_15 post (nI S) (nI V) (nI (16 - 2 ^ L)) f kn ap an D C R (d + 1) (nI i) := by
  intro d
  induction d with
  | zero =>
    intro i hi hj
    exact br_t (nI_le (a := 7) (by omega) (by omega)) (h0 (fun k hk => hj k (by omega)))
  | succ d ih =>
    intro i hi hj
    have hi7 : i < 7 := by omega
    have a := hA i hi7
    have vi : vp_in (nI i) 8 := vp_in_nI (by omega) (by decide)
    have l3 : p i ||| n i < 16 := Nat.or_lt_two_pow (n := 4) a.2.2.1 a.2.2.2
    have e3 : ((ap (nI i).toNatClampNeg) ||| (an (nI i).toNatClampNeg)) &&& (nI (16 - 2 ^ L) ^^^ (-1)) = nI (cf_dif (p i ||| n i) (16 - 2 ^ L)) := by rw [nI_clamp (by omega), a.1, a.2.1, nx_or, cf_nIdif (by omega)]
    have l4 : cf_dif (p i ||| n i) (16 - 2 ^ L) < 2 ^ 31 := Nat.lt_of_le_of_lt Nat.and_le_left (by omega)
    have nx : ¬ cf_b1 p n S L V i → wX_broken_15 post (nI S) (nI V) (nI (16 - 2 ^ L)) f kn ap an D C R (d + 1) (nI (i + 1)) := fun hb =>
      ih (i + 1) (by omega) (fun j hji => by
        rcases Nat.lt_or_ge j i with z | z
        · exact hj j z
        · rw [show j = i by omega]; exact hb)
    refine br_f (nI_ge (b := 7) (by omega) (by decide)) (cf_bit2 S hi7 (fun hb => nm_r (nI_1 i) (nx (fun z => ?_))) (fun hb => ⟨vi, vi, ?_⟩))
    · exact absurd (z.1.symm.trans hb) (by decide)
    · rw [e3, cf_eq0 l4]
      refine br_c (fun hc => ?_) (fun hc => ?_)
      · exact cf_b59 hA hi7 (fun z => absurd z (by decide)) (fun hh => nx (fun z => z.2.2 hh)) (fun _ hh => h1 i hi7 ⟨hb, hc, hh⟩)
      · exact cf_b59 hA hi7 (fun _ => nx (fun z => hc z.2.1)) (fun _ => nx (fun z => hc z.2.1)) (fun z => absurd rfl z)
theorem cf_broken {post : Int32 → Prop} {f : Int32} {S L V : Nat} (hA : cf_A p n ap an) (hL : L < 5) (h1 : ∀ k, k < 7 → cf_b1 p n S L V k → post 1) (h0 : (∀ k, k < 7 → ¬ cf_b1 p n S L V k) → post 0) : wpX_broken post (f, kn, ap, an, D, C, R) (nI S) (nI L) (nI V) :=
  nm_r (cf_seen L hL) ⟨8, cf_b15 hA h1 h0 7 0 rfl (fun _ h => absurd h (Nat.not_lt_zero _))⟩
/-! solve -/
theorem cf_s91 {post : Int32 → Prop} {J : Int32 → Int32 → Int32 → Prop} {x1 x2 x3 x6 f : Int32} : ∀ d L V, L + d = 4 → V < 16 → wX_solve_124 post J x1 x2 x3 (nI (cf_bk d L V).1) (nI (cf_bk d L V).2) x6 f kn ap an D C R → wX_solve_91 post J x1 x2 x3 x6 f kn ap an D C R (d + 1) (nI L) (nI V) := by
  intro d
  induction d with
  | zero =>
    intro L V hL hV h
    exact br_t (nI_le (a := 4) (by omega) (by omega)) h
  | succ d ih =>
    intro L V hL hV h
    refine br_f (nI_ge (b := 4) (by omega) (by decide)) (cf_bit2 V (by omega) (fun hb => ?_) (fun hb => nm_r (cf_del1 (by omega) (by omega)) (nm_r (nI_1 L) (ih (L + 1) _ (by omega) (cf_difL' hV _) ?_))))
    · have e : cf_bk (d + 1) L V = (L, V) := by rw [cf_bk, hb, if_neg (by decide)]
      rw [e] at h; exact h
    · have e : cf_bk (d + 1) L V = cf_bk d (L + 1) (cf_dif V (2 ^ L)) := by rw [cf_bk, hb, if_pos rfl]
      rw [e] at h; exact h
theorem cf_s60 {post : Int32 → Prop} {J : Int32 → Int32 → Int32 → Prop} {x1 x2 x3 x6 f : Int32} {L V : Nat} (hL : L < 5) (hV : V < 16) (h : wX_solve_124 post J x1 x2 x3 (nI (cf_bk (4 - L) L V).1) (nI (cf_bk (4 - L) L V).2) x6 f kn ap an D C R) : wX_solve_60 post J x1 x2 x3 (nI L) (nI V) x6 f kn ap an D C R :=
  br_f (by decide) (br_f (by decide) ⟨_, cf_s91 (4 - L) L V (by omega) hV h⟩)
theorem cf_s124 {post : Int32 → Prop} {J : Int32 → Int32 → Int32 → Prop} {x1 x2 x3 f : Int32} {L V r : Nat} (hL : L < 5) (hn : L = 4 → post (-1)) (hj : ¬ L = 4 → J (nI L) (nI (V ||| 2 ^ L)) (nI (r + 1))) : wX_solve_124 post J x1 x2 x3 (nI L) (nI V) (nI r) f kn ap an D C R :=
  pk_eq L 4 hn (fun h => nm_r (cf_or1 V (by omega)) (nm_r (nI_1 r) (hj h)))
theorem cf_s65 {post : Int32 → Prop} {J : Int32 → Int32 → Int32 → Prop} {x1 x2 x3 f : Int32} {L V r : Nat} (hL : L < 5) (h0 : L = 0 → post (nI V)) (hj : ∀ m, L = m + 1 → J (nI m) (nI V) (nI (r + 1))) : wX_solve_65 post J x1 x2 x3 (nI L) (nI V) (nI r) 0 f kn ap an D C R := by
  refine br_t rfl (pk_eq L 0 h0 (fun h => br_t rfl ?_))
  obtain ⟨m, rfl⟩ : ∃ m, L = m + 1 := ⟨L - 1, by omega⟩
  exact nm_r (pk_m1 m) (nm_r (nI_1 r) (hj m rfl))
theorem cf_s9 {post : Int32 → Prop} {f : Int32} {S I O : Nat} (hA : cf_A p n ap an) (hI : I < 16) (hO : O < 16) (h : ∀ r, cf_Ans (cf_G p n S I O) r → post r) : ∀ d r L V, r + d = 64 → L < 5 → V < 16 → V % 2 ^ L = 0 → (∀ v, v < V → ¬ cf_G p n S I O v) → r ≤ cf_ix L V → wX_solve_9 post (nI S) (nI I) (nI O) f kn ap an D C R (d + 1) (nI L) (nI V) (nI r) := by
  have hp : ∀ k, k < 7 → p k < 16 ∧ n k < 16 := fun k hk => (hA k hk).2.2
  intro d
  induction d with
  | zero =>
    intro r L V hr hL hV hm _ hx
    have := cf_ixT L hL V hV hm
    omega
  | succ d ih =>
    intro r L V hr hL hV hm hg hx
    have T := cf_bkT hL hV hm
    have ff : cf_F p n S I O L V → wX_solve_60 post (wX_solve_9 post (nI S) (nI I) (nI O) f kn ap an D C R (d + 1)) (nI S) (nI I) (nI O) (nI L) (nI V) (nI r) f kn ap an D C R := fun hF => by
      have cov : ∀ v, v < 16 → v < V + 2 ^ L → ¬ cf_G p n S I O v := fun v hv h2 => by
        rcases Nat.lt_or_ge v V with z | z
        · exact hg v z
        · exact cf_FG hp hI hO hL hV hm hv z h2 hF
      refine cf_s60 hL hV (cf_s124 T.1 (fun e => h _ (Or.inr ⟨rfl, fun w hw => cov w hw (by have := T.2.1 e; omega)⟩)) (fun e => ?_))
      have T2 := T.2.2 e
      rw [T2.1]
      exact ih (r + 1) _ _ (by omega) T.1 T2.2.1 T2.2.2.1 (fun v hv => cov v (by omega) hv) (by omega)
    have gg : ¬ cf_F p n S I O L V → wX_solve_65 post (wX_solve_9 post (nI S) (nI I) (nI O) f kn ap an D C R (d + 1)) (nI S) (nI I) (nI O) (nI L) (nI V) (nI r) 0 f kn ap an D C R := fun hF => by
      refine cf_s65 hL (fun e => ?_) (fun m e => ?_)
      · subst e
        exact h _ (Or.inl ⟨V, hV, rfl, cf_FG0 hp hI hF, hg⟩)
      · subst e
        have T3 := cf_ixD m (by omega) V hV hm
        exact ih (r + 1) m V (by omega) (by omega) hV T3.2 hg (by omega)
    have e1 : (nI I &&& nI (16 - 2 ^ L)) &&& (nI V ^^^ (-1)) = nI (cf_dif (I &&& (16 - 2 ^ L)) V) := by
      rw [nx_and, cf_nIdif (Nat.lt_of_le_of_lt Nat.and_le_left (by omega))]
    have l1 : cf_dif (I &&& (16 - 2 ^ L)) V < 2 ^ 31 := Nat.lt_of_le_of_lt Nat.and_le_left (Nat.lt_of_le_of_lt Nat.and_le_left (by omega))
    have l2 : O &&& V < 2 ^ 31 := Nat.lt_of_le_of_lt Nat.and_le_left (by omega)
    refine br_f (nI_ge (b := 64) (by omega) (by decide)) (nm_r (cf_seen L hL) (cf_broken hA hL (fun k hk hb => br_f (by decide) (ff (Or.inl ⟨k, hk, hb⟩))) (fun hb => br_t rfl ?_)))
    rw [e1, nx_and, cf_eq0 l1, cf_eq0 l2]
    refine br_c (fun c1 => br_c (fun c2 => gg ?_) (fun c2 => ff (Or.inr (Or.inr c2)))) (fun c1 => ff (Or.inr (Or.inl c1)))
    rintro (⟨k, hk, z⟩ | z | z)
    · exact hb k hk z
    · exact z c1
    · exact z c2
theorem cf_solve {post : Int32 → Prop} {f : Int32} {S I O : Nat} (hA : cf_A p n ap an) (hI : I < 16) (hO : O < 16) (h : ∀ r, cf_Ans (cf_G p n S I O) r → post r) : wpX_solve post (f, kn, ap, an, D, C, R) (nI S) (nI I) (nI O) :=
  Exists.intro 65 (cf_s9 hA hI hO h 64 0 4 0 rfl (by decide) (by decide) (by decide) (fun _ h => absurd h (Nat.not_lt_zero _)) (Nat.zero_le _))
theorem cf_Gok (S v : Nat) : cf_G p n S 0 0 v ↔ cf_ok p n S v := by
  have e1 : cf_dif 0 v = 0 := Nat.zero_and _
  have e2 : 0 &&& v = 0 := Nat.zero_and _
  exact ⟨fun h => h.1, fun h => ⟨h, e1, e2⟩⟩
theorem cf_ansC {S : Nat} {r : Int32} (h : cf_Ans (cf_G p n S 0 0) r) : (r < 0 ∧ ¬ cf_cons p n S) ∨ (¬ r < 0 ∧ cf_cons p n S) := by
  rcases h with ⟨v, hv, e, g, _⟩ | ⟨e, l⟩
  · exact Or.inr ⟨by rw [e]; exact nI_pos (by omega), v, hv, g.1⟩
  · exact Or.inl ⟨by rw [e]; decide, fun ⟨v, hv, g⟩ => l v hv ((cf_Gok S v).mpr g)⟩
theorem cf_ht {post : Int32 → Prop} {f : Int32} {S : Nat} (hA : cf_A p n ap an) (h1 : cf_cons p n S → post 1) (h0 : ¬ cf_cons p n S → post 0) : wpX_holdsTogether post (f, kn, ap, an, D, C, R) (nI S) := by
  refine cf_solve (I := 0) (O := 0) hA (by decide) (by decide) (fun r hr => ?_)
  rcases cf_ansC hr with ⟨a, b⟩ | ⟨a, b⟩
  · exact br_t a (h0 b)
  · exact br_f a (h1 b)
/-! the words -/
theorem cf_iw21 {post : Int32 → Prop} {w : Int64} {q : UInt64} {j : Nat} (hj : j < 64) (hq : q.toNat = j) (h0 : w.toBitVec.getLsbD j = false → post 0) (h1 : w.toBitVec.getLsbD j = true → post 1) : wX_inWords_21 post ((w.toUInt64 >>> q).toInt64) :=
  br_c (fun z => h0 ((ts_bit hj hq).mp z)) (fun z => h1 (ts_nf (fun y => z ((ts_bit hj hq).mpr y))))
theorem cf_iw {post : Int32 → Prop} {a : Nat → Int64} {s : Nat} (hs : s < 128) (h0 : ¬ cf_mem a s = true → post 0) (h1 : cf_mem a s = true → post 1) : wpX_inWords post (a 0) (a 1) (nI s) := by
  refine pk_le 64 s (fun h => ?_) (fun h => ?_)
  · have e : nI s - 64 = nI (s - 64) := pk_sub (b := 64) h
    rw [e, wb_cu _ (by omega)]
    have m : cf_mem a s = (a 1).toBitVec.getLsbD (s - 64) := by
      unfold cf_mem
      rw [show s / 64 = 1 by omega, show s % 64 = s - 64 by omega]
    rw [m] at h0 h1
    exact cf_iw21 (by omega) (u_tn (by omega)) (fun z => h0 (by rw [z]; decide)) h1
  · rw [wb_cu _ (by omega)]
    have m : cf_mem a s = (a 0).toBitVec.getLsbD s := by
      unfold cf_mem
      rw [show s / 64 = 0 by omega, show s % 64 = s by omega]
    rw [m] at h0 h1
    exact cf_iw21 (by omega) (u_tn (by omega)) (fun z => h0 (by rw [z]; decide)) h1
theorem cf_isD {post : Int32 → Prop} {f : Int32} {s : Nat} (hs : s < 128) (h0 : ¬ cf_mem D s = true → post 0) (h1 : cf_mem D s = true → post 1) : wpX_isDecided post (f, kn, ap, an, D, C, R) (nI s) :=
  cf_iw (a := D) hs (fun z => ⟨rfl, h0 z⟩) (fun z => ⟨rfl, h1 z⟩)
theorem cf_isC {post : Int32 → Prop} {f : Int32} {s : Nat} (hs : s < 128) (h0 : ¬ cf_mem C s = true → post 0) (h1 : cf_mem C s = true → post 1) : wpX_isCore post (f, kn, ap, an, D, C, R) (nI s) :=
  cf_iw (a := C) hs (fun z => ⟨rfl, h0 z⟩) (fun z => ⟨rfl, h1 z⟩)
theorem cf_isR {post : Int32 → Prop} {f : Int32} {s : Nat} (hs : s < 128) (h0 : ¬ cf_mem R s = true → post 0) (h1 : cf_mem R s = true → post 1) : wpX_isRepair post (f, kn, ap, an, D, C, R) (nI s) :=
  cf_iw (a := R) hs (fun z => ⟨rfl, h0 z⟩) (fun z => ⟨rfl, h1 z⟩)
end
end
section
/-! the component's map: undecided, grow, shrink, learn -/
section
variable {P : Nat} {kn : Int32} {ap an : Nat → Int32} {p n : Nat → Nat}
theorem cf_und {post : Int32 → Prop} {D C R : Nat → Int64} (h1 : ∀ s, s < 128 → cf_sub s P → ¬ cf_mem D s = true → (∀ t, s < t → t < 128 → cf_sub t P → cf_mem D t = true) → post (nI s)) (h0 : (∀ t, t < 128 → cf_sub t P → cf_mem D t = true) → post (-1)) : ∀ i, i ≤ 128 → (∀ t, i ≤ t → t < 128 → cf_sub t P → cf_mem D t = true) → wX_undecided_3 post (nI P) kn ap an D C R (i + 1) (nI i + (-1)) := by
  intro i
  induction i with
  | zero =>
    intro _ ht
    exact br_t (by decide) (h0 (fun t h => ht t (Nat.zero_le _) h))
  | succ i ih =>
    intro hi ht
    rw [pk_m1]
    have nx : (cf_sub i P → cf_mem D i = true) → wX_undecided_3 post (nI P) kn ap an D C R (i + 1) (nI i + (-1)) := fun hd =>
      ih (by omega) (fun t h2 h3 h4 => by
        rcases Nat.lt_or_ge i t with z | z
        · exact ht t z h3 h4
        · have e : t = i := by omega
          rw [e] at h4 ⊢; exact hd h4)
    refine br_f (nI_pos (by omega)) (cf_subB (by omega) P (fun hs => cf_isD (by omega) (fun hm => br_t rfl (h1 i (by omega) hs hm (fun t h2 h3 h4 => ht t h2 h3 h4))) (fun hm => br_f (by decide) (nm_e (nx (fun _ => hm))))) (fun hs => nm_e (nx (fun z => absurd z hs))))
theorem cf_undecided {post : Int32 → Prop} {D C R : Nat → Int64} (h1 : ∀ s, s < 128 → cf_sub s P → ¬ cf_mem D s = true → (∀ t, s < t → t < 128 → cf_sub t P → cf_mem D t = true) → post (nI s)) (h0 : (∀ t, t < 128 → cf_sub t P → cf_mem D t = true) → post (-1)) : wpX_undecided post (nI P, kn, ap, an, D, C, R) := by
  have h := cf_und (kn := kn) (ap := ap) (an := an) (C := C) (R := R) h1 h0 128 (Nat.le_refl _) (fun t a b => absurd b (by omega))
  rw [pk_m1] at h
  exact Exists.intro 129 h
theorem cf_g72 {post : SX → Prop} {f : Int32} {M : Nat} {C R : Nat → Int64} : ∀ d i (D : Nat → Int64), i + d = 128 → (∀ D', (∀ t, t < 128 → (cf_mem D' t = true ↔ (cf_mem D t = true ∨ (i ≤ t ∧ cf_sub t M)))) → post (f, kn, ap, an, D', C, R)) → wX_grow_72 post (nI M) f kn (d + 1) (nI i) ap an D C R := by
  intro d
  induction d with
  | zero =>
    intro i D hi h
    exact br_t (nI_le (a := 128) (by omega) (by omega)) (h D (fun t ht => ⟨Or.inl, fun z => by
      rcases z with z | z
      · exact z
      · exact absurd z.1 (by omega)⟩))
  | succ d ih =>
    intro i D hi h
    have hi7 : i < 128 := by omega
    have v6 := cf_in6 hi7
    refine br_f (nI_ge (b := 128) (by omega) (by decide)) (cf_subB hi7 M (fun hs => ⟨v6, v6, nm_r (e' := cf_ins D i) rfl (nm_r (nI_1 i) (ih (i + 1) _ (by omega) (fun D' hD => h D' (fun t ht => ?_))))⟩) (fun hs => nm_r (nI_1 i) (ih (i + 1) _ (by omega) (fun D' hD => h D' (fun t ht => ?_)))))
    · rw [hD t ht, cf_insM D hi7]
      constructor
      · rintro ((z | z) | z)
        · exact Or.inr ⟨by omega, by rw [z]; exact hs⟩
        · exact Or.inl z
        · exact Or.inr ⟨by omega, z.2⟩
      · rintro (z | z)
        · exact Or.inl (Or.inr z)
        · by_cases e : t = i
          · exact Or.inl (Or.inl e)
          · exact Or.inr ⟨by omega, z.2⟩
    · rw [hD t ht]
      constructor
      · rintro (z | z)
        · exact Or.inl z
        · exact Or.inr ⟨by omega, z.2⟩
      · rintro (z | z)
        · exact Or.inl z
        · by_cases e : t = i
          · rw [e] at z; exact absurd z.2 hs
          · exact Or.inr ⟨by omega, z.2⟩
theorem cf_s66 {post : SX → Prop} {f : Int32} {M : Nat} {C R : Nat → Int64} (hM : M < 128) : ∀ d i (D : Nat → Int64), i + d = 128 → (∀ D', (∀ t, t < 128 → (cf_mem D' t = true ↔ (cf_mem D t = true ∨ (i ≤ t ∧ cf_sub M t)))) → post (f, kn, ap, an, D', C, R)) → wX_shrink_66 post (nI M) f kn (d + 1) (nI i) ap an D C R := by
  intro d
  induction d with
  | zero =>
    intro i D hi h
    exact br_t (nI_le (a := 128) (by omega) (by omega)) (h D (fun t ht => ⟨Or.inl, fun z => by
      rcases z with z | z
      · exact z
      · exact absurd z.1 (by omega)⟩))
  | succ d ih =>
    intro i D hi h
    have hi7 : i < 128 := by omega
    have v6 := cf_in6 hi7
    refine br_f (nI_ge (b := 128) (by omega) (by decide)) (cf_subB hM i (fun hs => ⟨v6, v6, nm_r (e' := cf_ins D i) rfl (nm_r (nI_1 i) (ih (i + 1) _ (by omega) (fun D' hD => h D' (fun t ht => ?_))))⟩) (fun hs => nm_r (nI_1 i) (ih (i + 1) _ (by omega) (fun D' hD => h D' (fun t ht => ?_)))))
    · rw [hD t ht, cf_insM D hi7]
      constructor
      · rintro ((z | z) | z)
        · exact Or.inr ⟨by omega, by rw [z]; exact hs⟩
        · exact Or.inl z
        · exact Or.inr ⟨by omega, z.2⟩
      · rintro (z | z)
        · exact Or.inl (Or.inr z)
        · by_cases e : t = i
          · exact Or.inl (Or.inl e)
          · exact Or.inr ⟨by omega, z.2⟩
    · rw [hD t ht]
      constructor
      · rintro (z | z)
        · exact Or.inl z
        · exact Or.inr ⟨by omega, z.2⟩
      · rintro (z | z)
        · exact Or.inl z
        · by_cases e : t = i
          · rw [e] at z; exact absurd z.2 hs
          · exact Or.inr ⟨by omega, z.2⟩
theorem cf_g4 {post : SX → Prop} {S : Nat} {D C R : Nat → Int64} (hA : cf_A p n ap an) (hP : P < 128) (H : ∀ M, M < 128 → cf_sub M P → cf_sub S M → cf_cons p n M → (∀ j, j < 7 → P.testBit j = true → M.testBit j = false → ¬ cf_cons p n (M ||| 2 ^ j)) → ∀ D', (∀ t, t < 128 → (cf_mem D' t = true ↔ (cf_mem D t = true ∨ cf_sub t M))) → post (nI P, kn, ap, an, D', C, cf_ins R (cf_dif P M))) : ∀ d k M, k + d = 7 → M < 128 → cf_sub M P → cf_sub S M → cf_cons p n M → (∀ j, j < k → P.testBit j = true → M.testBit j = false → ¬ cf_cons p n (M ||| 2 ^ j)) → wX_grow_4 post (nI P) kn ap an D C R (d + 1) (nI M) (nI k) := by
  intro d
  induction d with
  | zero =>
    intro k M hk hM h1 h2 h3 h4
    have v6 := cf_in6 (cf_difL hP M)
    refine br_t (nI_le (a := 7) (by omega) (by omega)) (nm_r (cf_nIdif hP M) ⟨v6, v6, nm_r (e' := cf_ins R (cf_dif P M)) rfl ⟨129, cf_g72 128 0 D rfl (fun D' hD => H M hM h1 h2 h3 (fun j hj => h4 j (by omega)) D' (fun t ht => ?_))⟩⟩)
    rw [hD t ht]
    exact ⟨fun z => z.elim Or.inl (fun y => Or.inr y.2), fun z => z.elim Or.inl (fun y => Or.inr ⟨Nat.zero_le _, y⟩)⟩
  | succ d ih =>
    intro k M hk hM h1 h2 h3 h4
    have k7 : k < 7 := by omega
    refine br_f (nI_ge (b := 7) (by omega) (by decide)) (cf_has k7 (fun hb => br_t rfl (nm_r (nI_1 k) (ih (k + 1) M (by omega) hM h1 h2 h3 (fun j hj => ?_)))) (fun hb => br_f (by decide) ?_))
    · rcases Nat.lt_or_ge j k with z | z
      · exact h4 j z
      · have e : j = k := by omega
        rw [e]; intro y; rw [hb] at y; exact absurd y (by decide)
    · rw [cf_or1 M k7]
      refine cf_ht hA (fun hc => br_f (by decide) (nm_e (nm_r (nI_1 k) (ih (k + 1) _ (by omega) (cf_orL hM k7) (cf_orSub h1 hb) (cf_tr h2 (cf_subOr M k)) hc (fun j hj hjP hjM => ?_))))) (fun hc => br_t rfl (nm_r (nI_1 k) (ih (k + 1) M (by omega) hM h1 h2 h3 (fun j hj => ?_))))
      · rw [cf_orB] at hjM
        have hj' := Bool.or_eq_false_iff.mp hjM
        have e : ¬ k = j := of_decide_eq_false hj'.2
        exact fun z => h4 j (by omega) hjP hj'.1 (cf_mono (cf_orMono (cf_subOr M k)) z)
      · rcases Nat.lt_or_ge j k with z | z
        · exact h4 j z
        · have e : j = k := by omega
          rw [e]; intro _ _; exact hc
theorem cf_grow {post : SX → Prop} {S : Nat} {D C R : Nat → Int64} (hA : cf_A p n ap an) (hP : P < 128) (hS : S < 128) (h1 : cf_sub S P) (h2 : cf_cons p n S) (H : ∀ M, M < 128 → cf_sub M P → cf_sub S M → cf_cons p n M → (∀ j, j < 7 → P.testBit j = true → M.testBit j = false → ¬ cf_cons p n (M ||| 2 ^ j)) → ∀ D', (∀ t, t < 128 → (cf_mem D' t = true ↔ (cf_mem D t = true ∨ cf_sub t M))) → post (nI P, kn, ap, an, D', C, cf_ins R (cf_dif P M))) : wpX_grow post (nI P, kn, ap, an, D, C, R) (nI S) :=
  Exists.intro 8 (cf_g4 hA hP H 7 0 S rfl hS h1 (cf_rf S) h2 (fun _ h => absurd h (Nat.not_lt_zero _)))
theorem cf_s4 {post : SX → Prop} {S : Nat} {f : Int32} {D C R : Nat → Int64} (hA : cf_A p n ap an) (H : ∀ M, M < 128 → cf_sub M S → ¬ cf_cons p n M → (∀ j, j < 7 → M.testBit j = true → cf_cons p n (cf_dif M (2 ^ j))) → ∀ D', (∀ t, t < 128 → (cf_mem D' t = true ↔ (cf_mem D t = true ∨ cf_sub M t))) → post (f, kn, ap, an, D', cf_ins C M, R)) : ∀ d k M, k + d = 7 → M < 128 → cf_sub M S → ¬ cf_cons p n M → (∀ j, j < k → M.testBit j = true → cf_cons p n (cf_dif M (2 ^ j))) → wX_shrink_4 post f kn ap an D C R (d + 1) (nI M) (nI k) := by
  intro d
  induction d with
  | zero =>
    intro k M hk hM h1 h3 h4
    have v6 := cf_in6 hM
    refine br_t (nI_le (a := 7) (by omega) (by omega)) ⟨v6, v6, nm_r (e' := cf_ins C M) rfl ⟨129, cf_s66 hM 128 0 D rfl (fun D' hD => H M hM h1 h3 (fun j hj => h4 j (by omega)) D' (fun t ht => ?_))⟩⟩
    rw [hD t ht]
    exact ⟨fun z => z.elim Or.inl (fun y => Or.inr y.2), fun z => z.elim Or.inl (fun y => Or.inr ⟨Nat.zero_le _, y⟩)⟩
  | succ d ih =>
    intro k M hk hM h1 h3 h4
    have k7 : k < 7 := by omega
    refine br_f (nI_ge (b := 7) (by omega) (by decide)) (cf_bit2 M k7 (fun hb => nm_r (nI_1 k) (ih (k + 1) M (by omega) hM h1 h3 (fun j hj => ?_))) (fun hb => ?_))
    · rcases Nat.lt_or_ge j k with z | z
      · exact h4 j z
      · have e : j = k := by omega
        rw [e]; intro y; rw [hb] at y; exact absurd y (by decide)
    · rw [cf_del1 hM k7]
      refine cf_ht hA (fun hc => br_f (by decide) (nm_r (nI_1 k) (ih (k + 1) M (by omega) hM h1 h3 (fun j hj => ?_)))) (fun hc => br_t rfl (nm_e (nm_r (nI_1 k) (ih (k + 1) _ (by omega) (cf_difL hM _) (cf_tr (cf_difSub hM _) h1) hc (fun j hj hjM => ?_)))))
      · rcases Nat.lt_or_ge j k with z | z
        · exact h4 j z
        · have e : j = k := by omega
          rw [e]; intro _; exact hc
      · have hj' := cf_difT hM hjM
        have e : ¬ k = j := fun e => by have h2 := hj'.2; rw [Nat.testBit_two_pow, decide_eq_true e] at h2; exact absurd h2 (by decide)
        exact cf_mono (cf_delMono (cf_difL hM _) hM (cf_difSub hM _)) (h4 j (by omega) hj'.1)
theorem cf_shrink {post : SX → Prop} {S : Nat} {f : Int32} {D C R : Nat → Int64} (hA : cf_A p n ap an) (hS : S < 128) (h2 : ¬ cf_cons p n S) (H : ∀ M, M < 128 → cf_sub M S → ¬ cf_cons p n M → (∀ j, j < 7 → M.testBit j = true → cf_cons p n (cf_dif M (2 ^ j))) → ∀ D', (∀ t, t < 128 → (cf_mem D' t = true ↔ (cf_mem D t = true ∨ cf_sub M t))) → post (f, kn, ap, an, D', cf_ins C M, R)) : wpX_shrink post (f, kn, ap, an, D, C, R) (nI S) :=
  Exists.intro 8 (cf_s4 hA H 7 0 S rfl hS (cf_rf S) h2 (fun _ h => absurd h (Nat.not_lt_zero _)))
theorem cf_l49 {post : SX → Prop} (hA : cf_A p n ap an) (hP : P < 128) (H : ∀ D C R, cf_Fin p n P C R → post (nI P, kn, ap, an, D, C, R)) : ∀ d i (D C R : Nat → Int64), i + d = 128 → cf_Inv p n P D C R → (∀ t, 128 ≤ t + i → t < 128 → cf_sub t P → cf_mem D t = true) → wX_learn_49 post (d + 1) (nI i) (nI P) kn ap an D C R := by
  intro d
  induction d with
  | zero =>
    intro i D C R hi I h
    exact br_t (nI_le (a := 128) (by omega) (by omega)) (H D C R (cf_fin hP I (fun t ht hs => h t (by omega) ht hs)))
  | succ d ih =>
    intro i D C R hi I h
    refine br_f (nI_ge (b := 128) (by omega) (by decide)) (cf_undecided (fun s hs hsP hu hb => br_t (nI_pos' (by omega)) ?_) (fun hall => br_f (by decide) (H D C R (cf_fin hP I hall))))
    refine cf_ht hA (fun hc => br_f (by decide) (cf_grow hA hP hs hsP hc (fun M hM m1 m2 m3 m4 D' hD => ?_))) (fun hc => br_t rfl (cf_shrink hA hs hc (fun M hM m1 m3 m4 D' hD => ?_)))
    · refine nm_r (nI_1 i) (ih (i + 1) _ _ _ (by omega) (cf_invGrow hP I hM m1 m3 m4 hD) (fun t t1 t2 t3 => (hD t t2).mpr ?_))
      rcases Nat.lt_or_ge s t with z | z
      · exact Or.inl (hb t z t2 t3)
      · by_cases e : t = s
        · rw [e]; exact Or.inr m2
        · have q : ¬ 128 ≤ s + i := fun y => hu (h s y hs hsP)
          exact Or.inl (h t (by omega) t2 t3)
    · refine nm_r (nI_1 i) (ih (i + 1) _ _ _ (by omega) (cf_invShrink I hM (cf_tr m1 hsP) m3 m4 hD) (fun t t1 t2 t3 => (hD t t2).mpr ?_))
      rcases Nat.lt_or_ge s t with z | z
      · exact Or.inl (hb t z t2 t3)
      · by_cases e : t = s
        · rw [e]; exact Or.inr m1
        · have q : ¬ 128 ≤ s + i := fun y => hu (h s y hs hsP)
          exact Or.inl (h t (by omega) t2 t3)
theorem cf_learn {post : SX → Prop} {D C R : Nat → Int64} (hA : cf_A p n ap an) (hP : P < 128) (hk : kn ≠ 0 → cf_Fin p n P C R) (H : ∀ kn D C R, cf_Fin p n P C R → post (nI P, kn, ap, an, D, C, R)) : wpX_learn post (nI P, kn, ap, an, D, C, R) := by
  refine br_c (fun _ => ⟨0 + 1 + 1 + 1, ?_⟩) (fun z => H _ _ _ _ (hk z))
  have e0 : (0 : Int32).toNatClampNeg = 0 := by decide
  have e1 : (1 : Int32).toNatClampNeg = 1 := by decide
  have v0 : vp_in (0 : Int32) 2 := vp_in_nI (n := 0) (by decide) (by decide)
  have v1 : vp_in (1 : Int32) 2 := vp_in_nI (n := 1) (by decide) (by decide)
  have z2 : ∀ a : Nat → Int64, vp_updL (vp_updL a (0 : Int32).toNatClampNeg 0) (1 : Int32).toNatClampNeg 0 = vp_updL (vp_updL a 0 0) 1 0 := fun a => by rw [e0, e1]
  refine br_f (by decide) ⟨v0, nm_e ⟨v0, nm_e ⟨v0, nm_e (nm_r (e' := 1) (by decide) ?_)⟩⟩⟩
  refine br_f (by decide) ⟨v1, nm_r (z2 D) ⟨v1, nm_r (z2 C) ⟨v1, nm_r (z2 R) (nm_r (e' := 2) (by decide) ?_)⟩⟩⟩
  refine br_t (by decide) ⟨129, cf_l49 hA hP (H 1) 128 0 _ _ _ rfl ?_ (fun t h1 h2 => absurd h2 (by omega))⟩
  exact ⟨fun s hs h => absurd h (cf_mem0 _ hs), fun s hs h => absurd h (cf_mem0 _ hs), fun s hs _ h => absurd h (cf_mem0 _ hs)⟩
end
end
section
/-! the reference's walks -/
def cf_Y (p n : Nat → Nat) (P : Nat) (th ye no : Nat → Int32) : Prop := ∀ k, k < 7 → th k = nI (P.testBit k).toNat ∧ ye k = nI (p k) ∧ no k = nI (n k)
def cf_B (p n : Nat → Nat) : Prop := ∀ k, k < 7 → p k < 16 ∧ n k < 16
theorem cf_cl1 : ∀ P, P < 128 → ∀ k, k < 7 → (P.testBit k = true → P % 2 ^ k ||| 2 ^ k = P % 2 ^ (k + 1)) ∧ (P.testBit k = false → P % 2 ^ k = P % 2 ^ (k + 1)) := by decide +kernel
section
variable {P : Nat} {th ye no fi : Nat → Int32} {p n : Nat → Nat}
theorem cf_thB {k : Nat} (hY : cf_Y p n P th ye no) (hk : k < 7) {A B : Prop} (h0 : P.testBit k = false → A) (h1 : P.testBit k = true → B) : ((th (nI k).toNatClampNeg) = 0 → A) ∧ (¬ (th (nI k).toNatClampNeg) = 0 → B) := by
  rw [nI_clamp (by omega), (hY k hk).1]
  cases hb : P.testBit k
  · exact br_t rfl (h0 hb)
  · exact br_f (by decide) (h1 hb)
theorem cf_ycl4 {post : Int32 → Prop} (hY : cf_Y p n P th ye no) (hP : P < 128) (h : post (nI P)) : ∀ d k, k + d = 7 → wY_clauses_4 post th ye no fi (d + 1) (nI (P % 2 ^ k)) (nI k) := by
  intro d
  induction d with
  | zero =>
    intro k hk
    have e : k = 7 := by omega
    subst e
    rw [show P % 2 ^ 7 = P from Nat.mod_eq_of_lt hP]
    exact br_t (nI_le (a := 7) (by omega) (by omega)) h
  | succ d ih =>
    intro k hk
    have k7 : k < 7 := by omega
    have i := ih (k + 1) (by omega)
    refine br_f (nI_ge (b := 7) (by omega) (by decide)) ⟨vp_in_nI k7 (by decide), cf_thB hY k7 (fun hb => nm_r (nI_1 k) ?_) (fun hb => nm_r (cf_or1 _ k7) (nm_r (nI_1 k) ?_))⟩
    · rw [(cf_cl1 P hP k k7).2 hb]; exact i
    · rw [(cf_cl1 P hP k k7).1 hb]; exact i
theorem cf_ycl {post : Int32 → Prop} (hY : cf_Y p n P th ye no) (hP : P < 128) (h : post (nI P)) : wpY_clauses post (th, ye, no, fi) := by
  have g := cf_ycl4 (fi := fi) hY hP h 7 0 rfl
  rw [show P % 2 ^ 0 = 0 from Nat.mod_one P] at g
  exact Exists.intro 8 g
theorem cf_yholds {post : Int32 → Prop} {a b V : Nat} (ha : a < 128) (hb : b < 128) (h1 : ¬ (a &&& V = 0) ∨ ¬ (cf_dif b V = 0) → post 1) (h0 : ¬ (¬ (a &&& V = 0) ∨ ¬ (cf_dif b V = 0)) → post 0) : wpY_holds post (th, ye, no, fi) (nI a) (nI b) (nI V) := by
  have l1 : a &&& V < 2 ^ 31 := Nat.lt_of_le_of_lt Nat.and_le_left (by omega)
  have l2 : cf_dif b V < 2 ^ 31 := Nat.lt_of_le_of_lt Nat.and_le_left (by omega)
  unfold wpY_holds
  dsimp only
  rw [nx_and, cf_nIdif hb, cf_eq0 l1, cf_eq0 l2]
  exact br_c (fun c1 => br_c (fun c2 => h0 (fun z => by rcases z with z | z; exact z c1; exact z c2)) (fun c2 => h1 (Or.inr c2))) (fun c1 => h1 (Or.inl c1))
theorem cf_yah0 {post : Int32 → Prop} {x y : Int32} (h : post 0) : ∀ d k, k + d = 7 → wY_allHold_5 post x y th ye no fi (d + 1) 0 (nI k) := by
  intro d
  induction d with
  | zero =>
    intro k hk
    exact br_t (nI_le (a := 7) (by omega) (by omega)) ⟨rfl, h⟩
  | succ d ih =>
    intro k hk
    exact br_f (nI_ge (b := 7) (by omega) (by decide)) (br_t rfl (nm_r (nI_1 k) (ih (k + 1) (by omega))))
theorem cf_yah1 {post : Int32 → Prop} {x : Int32} {S V : Nat} (hY : cf_Y p n P th ye no) (hB : cf_B p n) (hx : ∀ k, k < 7 → bt x k = S.testBit k) (h1 : cf_ok p n (S &&& P) V → post 1) (h0 : ¬ cf_ok p n (S &&& P) V → post 0) : ∀ d k, k + d = 7 → (∀ j, j < k → (S &&& P).testBit j = true → cf_h p n j V) → wY_allHold_5 post x (nI V) th ye no fi (d + 1) 1 (nI k) := by
  intro d
  induction d with
  | zero =>
    intro k hk hj
    exact br_t (nI_le (a := 7) (by omega) (by omega)) ⟨rfl, h1 (fun j j7 => hj j (by omega))⟩
  | succ d ih =>
    intro k hk hj
    have k7 : k < 7 := by omega
    have y := hY k k7
    have b := hB k k7
    have vi : vp_in (nI k) 7 := vp_in_nI k7 (by decide)
    have nx : ((S &&& P).testBit k = true → cf_h p n k V) → wY_allHold_5 post x (nI V) th ye no fi (d + 1) 1 (nI (k + 1)) := fun hb =>
      ih (k + 1) (by omega) (fun j hji => by
        rcases Nat.lt_or_ge j k with z | z
        · exact hj j z
        · rw [show j = k by omega]; exact hb)
    have eb := cf_bit x k7
    rw [hx k k7] at eb
    refine br_f (nI_ge (b := 7) (by omega) (by decide)) (br_f (by decide) (br_c (fun c => nm_r (nI_1 k) (nx (fun z => ?_))) (fun c => ⟨vi, cf_thB hY k7 (fun hb => nm_r (nI_1 k) (nx (fun z => ?_))) (fun hb => ⟨vi, vi, ?_⟩)⟩)))
    · rw [Nat.testBit_and, eb.mp c, Bool.false_and] at z; exact absurd z (by decide)
    · rw [Nat.testBit_and, hb, Bool.and_false] at z; exact absurd z (by decide)
    · rw [nI_clamp (by omega), y.2.1, y.2.2]
      refine cf_yholds (by omega) (by omega) (fun hh => br_f (by decide) (nm_r (nI_1 k) (nx (fun _ => hh)))) (fun hh => br_t rfl (nm_r (nI_1 k) (cf_yah0 (h0 (fun z => hh (z k k7 ?_))) d (k + 1) (by omega))))
      rw [Nat.testBit_and, hb, ts_nf (fun w => c (eb.mpr w))]; rfl
theorem cf_yah {post : Int32 → Prop} {x : Int32} {S V : Nat} (hY : cf_Y p n P th ye no) (hB : cf_B p n) (hx : ∀ k, k < 7 → bt x k = S.testBit k) (h1 : cf_ok p n (S &&& P) V → post 1) (h0 : ¬ cf_ok p n (S &&& P) V → post 0) : wpY_allHold post (th, ye, no, fi) x (nI V) :=
  Exists.intro 8 (cf_yah1 hY hB hx h1 h0 7 0 rfl (fun _ h => absurd h (Nat.not_lt_zero _)))
theorem cf_ywit2 {post : Int32 → Prop} {x : Int32} {S : Nat} (hY : cf_Y p n P th ye no) (hB : cf_B p n) (hx : ∀ k, k < 7 → bt x k = S.testBit k) (h : ∀ r, cf_Ans (cf_G p n (S &&& P) 0 0) r → post r) : ∀ d v, v + d = 16 → (∀ w, w < v → ¬ cf_G p n (S &&& P) 0 0 w) → wY_witness_2 post x th ye no fi (d + 1) (nI v) := by
  intro d
  induction d with
  | zero =>
    intro v hv hw
    exact br_t (nI_le (a := 16) (by omega) (by omega)) (h _ (Or.inr ⟨rfl, fun w hw' => hw w (by omega)⟩))
  | succ d ih =>
    intro v hv hw
    refine br_f (nI_ge (b := 16) (by omega) (by decide)) (cf_yah hY hB hx (fun g => br_f (by decide) (h _ (Or.inl ⟨v, by omega, rfl, (cf_Gok _ v).mpr g, hw⟩))) (fun g => br_t rfl (nm_r (nI_1 v) (ih (v + 1) (by omega) (fun w hw' => ?_)))))
    rcases Nat.lt_or_ge w v with z | z
    · exact hw w z
    · rw [show w = v by omega]; exact fun y => g y.1
theorem cf_ywit {post : Int32 → Prop} {x : Int32} {S : Nat} (hY : cf_Y p n P th ye no) (hB : cf_B p n) (hx : ∀ k, k < 7 → bt x k = S.testBit k) (h : ∀ r, cf_Ans (cf_G p n (S &&& P) 0 0) r → post r) : wpY_witness post (th, ye, no, fi) x :=
  Exists.intro 17 (cf_ywit2 hY hB hx h 16 0 rfl (fun _ h => absurd h (Nat.not_lt_zero _)))
theorem cf_ycons {post : Int32 → Prop} {x : Int32} {S : Nat} (hY : cf_Y p n P th ye no) (hB : cf_B p n) (hx : ∀ k, k < 7 → bt x k = S.testBit k) (h1 : cf_cons p n (S &&& P) → post 1) (h0 : ¬ cf_cons p n (S &&& P) → post 0) : wpY_consistent post (th, ye, no, fi) x := by
  refine cf_ywit hY hB hx (fun r hr => ?_)
  rcases cf_ansC hr with ⟨a, b⟩ | ⟨a, b⟩
  · exact br_t a (h0 b)
  · exact br_f a (h1 b)
def cf_fine (p n : Nat → Nat) (P : Nat) (fi : Nat → Int32) (t : Nat) : Prop := (cf_cons p n (t &&& P) ∧ fi t = 1) ∨ (¬ cf_cons p n (t &&& P) ∧ fi t = 0)
theorem cf_ywork2 {post : SY → Prop} (hY : cf_Y p n P th ye no) (hB : cf_B p n) (H : ∀ fi, (∀ t, t < 128 → cf_fine p n P fi t) → post (th, ye, no, fi)) : ∀ d s (fi : Nat → Int32), s + d = 128 → (∀ t, t < s → cf_fine p n P fi t) → wY_work_2 post (d + 1) (nI s) th ye no fi := by
  intro d
  induction d with
  | zero =>
    intro s fi hs h
    exact br_t (nI_le (a := 128) (by omega) (by omega)) (H fi (fun t ht => h t (by omega)))
  | succ d ih =>
    intro s fi hs h
    have vi : vp_in (nI s) 128 := vp_in_nI (by omega) (by decide)
    have st : ∀ x : Int32, ((cf_cons p n (s &&& P) ∧ x = 1) ∨ (¬ cf_cons p n (s &&& P) ∧ x = 0)) → ∀ t, t < s + 1 → cf_fine p n P (upd fi (nI s).toNatClampNeg x) t := fun x hx t ht => by
      rw [nI_clamp (by omega)]
      by_cases e : t = s
      · subst e; unfold cf_fine; rw [pk_us]; exact hx
      · have := h t (by omega)
        unfold cf_fine at this ⊢
        rw [pk_un e]; exact this
    exact br_f (nI_ge (b := 128) (by omega) (by decide)) (cf_ycons hY hB (fun k hk => cf_btN s (by omega)) (fun g => ⟨vi, nm_e (nm_r (nI_1 s) (ih (s + 1) _ (by omega) (st _ (Or.inl ⟨g, rfl⟩))))⟩) (fun g => ⟨vi, nm_e (nm_r (nI_1 s) (ih (s + 1) _ (by omega) (st _ (Or.inr ⟨g, rfl⟩))))⟩))
theorem cf_ywork {post : SY → Prop} (hY : cf_Y p n P th ye no) (hB : cf_B p n) (H : ∀ fi, (∀ t, t < 128 → cf_fine p n P fi t) → post (th, ye, no, fi)) : wpY_work post (th, ye, no, fi) :=
  Exists.intro 129 (cf_ywork2 hY hB H 128 0 fi rfl (fun _ h => absurd h (Nat.not_lt_zero _)))
theorem cf_fiB {t : Nat} (hF : ∀ t, t < 128 → cf_fine p n P fi t) (ht : t < 128) (hs : cf_sub t P) {A B : Prop} (h0 : ¬ cf_cons p n t → A) (h1 : cf_cons p n t → B) : ((fi (nI t).toNatClampNeg) = 0 → A) ∧ (¬ (fi (nI t).toNatClampNeg) = 0 → B) := by
  rw [nI_clamp (by omega)]
  have h := hF t ht
  unfold cf_fine at h
  rw [cf_subAnd ht hs] at h
  rcases h with ⟨a, b⟩ | ⟨a, b⟩
  · exact br_f (by rw [b]; decide) (h1 a)
  · exact br_t b (h0 a)
theorem cf_yic0 {post : Int32 → Prop} {x : Int32} (h : post 0) : ∀ d k, k + d = 7 → wY_isCore_28 post x th ye no fi (d + 1) 0 (nI k) := by
  intro d
  induction d with
  | zero =>
    intro k hk
    exact br_t (nI_le (a := 7) (by omega) (by omega)) ⟨rfl, h⟩
  | succ d ih =>
    intro k hk
    exact br_f (nI_ge (b := 7) (by omega) (by decide)) (br_t rfl (nm_r (nI_1 k) (ih (k + 1) (by omega))))
theorem cf_yic1 {post : Int32 → Prop} {s : Nat} (hF : ∀ t, t < 128 → cf_fine p n P fi t) (hs : s < 128) (hsP : cf_sub s P) (h1 : (∀ k, k < 7 → s.testBit k = true → cf_cons p n (cf_dif s (2 ^ k))) → post 1) (h0 : ∀ k, k < 7 → s.testBit k = true → ¬ cf_cons p n (cf_dif s (2 ^ k)) → post 0) : ∀ d k, k + d = 7 → (∀ j, j < k → s.testBit j = true → cf_cons p n (cf_dif s (2 ^ j))) → wY_isCore_28 post (nI s) th ye no fi (d + 1) 1 (nI k) := by
  intro d
  induction d with
  | zero =>
    intro k hk hj
    exact br_t (nI_le (a := 7) (by omega) (by omega)) ⟨rfl, h1 (fun j j7 => hj j (by omega))⟩
  | succ d ih =>
    intro k hk hj
    have k7 : k < 7 := by omega
    have nx : (s.testBit k = true → cf_cons p n (cf_dif s (2 ^ k))) → wY_isCore_28 post (nI s) th ye no fi (d + 1) 1 (nI (k + 1)) := fun hb =>
      ih (k + 1) (by omega) (fun j hji => by
        rcases Nat.lt_or_ge j k with z | z
        · exact hj j z
        · rw [show j = k by omega]; exact hb)
    refine br_f (nI_ge (b := 7) (by omega) (by decide)) (br_f (by decide) (cf_bit2 s k7 (fun hb => nm_r (nI_1 k) (nx (fun z => ?_))) (fun hb => ?_)))
    · rw [hb] at z; exact absurd z (by decide)
    · rw [cf_del1 hs k7]
      have hd := cf_difL hs (2 ^ k)
      exact ⟨vp_in_nI hd (by decide), cf_fiB hF hd (cf_tr (cf_difSub hs _) hsP) (fun g => nm_r (nI_1 k) (cf_yic0 (h0 k k7 hb g) d (k + 1) (by omega))) (fun g => nm_r (nI_1 k) (nx (fun _ => g)))⟩
theorem cf_yic {post : Int32 → Prop} {s : Nat} (hY : cf_Y p n P th ye no) (hP : P < 128) (hF : ∀ t, t < 128 → cf_fine p n P fi t) (hs : s < 128) (h0 : ¬ cf_K p n P s → post 0) (h1 : cf_K p n P s → post 1) : wpY_isCore post (th, ye, no, fi) (nI s) := by
  refine cf_ycl hY hP (cf_subB hs P (fun hsP => ⟨vp_in_nI hs (by decide), cf_fiB hF hs hsP (fun g => ⟨8, ?_⟩) (fun g => ⟨8, ?_⟩)⟩) (fun hsP => ⟨8, ?_⟩))
  · exact cf_yic1 hF hs hsP (fun z => h1 ⟨hsP, g, z⟩) (fun k hk hb z => h0 (fun y => z (y.2.2 k hk hb))) 7 0 rfl (fun _ h => absurd h (Nat.not_lt_zero _))
  · exact cf_yic0 (h0 (fun y => y.2.1 g)) 7 0 rfl
  · exact cf_yic0 (h0 (fun y => hsP y.1)) 7 0 rfl
theorem cf_yir0 {post : Int32 → Prop} {s : Nat} {x : Int32} (hs : s < 128) (h : post 0) : ∀ d t, t + d = s → wY_isRepair_35 post (nI s) x th ye no fi (d + 1) 0 (nI t) := by
  intro d
  induction d with
  | zero =>
    intro t ht
    exact br_t (nI_le (by omega) (by omega)) ⟨rfl, h⟩
  | succ d ih =>
    intro t ht
    exact br_f (nI_ge (by omega) (by omega)) (br_t rfl (nm_r (nI_1 t) (ih (t + 1) (by omega))))
theorem cf_yir1 {post : Int32 → Prop} {s : Nat} (hP : P < 128) (hF : ∀ t, t < 128 → cf_fine p n P fi t) (hs : s < 128) (h1 : (∀ t, t < s → cf_sub t s → ¬ cf_cons p n (cf_dif P t)) → post 1) (h0 : ∀ t, t < s → cf_sub t s → cf_cons p n (cf_dif P t) → post 0) : ∀ d t, t + d = s → (∀ j, j < t → cf_sub j s → ¬ cf_cons p n (cf_dif P j)) → wY_isRepair_35 post (nI s) (nI P) th ye no fi (d + 1) 1 (nI t) := by
  intro d
  induction d with
  | zero =>
    intro t ht hj
    exact br_t (nI_le (by omega) (by omega)) ⟨rfl, h1 (fun j js => hj j (by omega))⟩
  | succ d ih =>
    intro t ht hj
    have nx : (cf_sub t s → ¬ cf_cons p n (cf_dif P t)) → wY_isRepair_35 post (nI s) (nI P) th ye no fi (d + 1) 1 (nI (t + 1)) := fun hb =>
      ih (t + 1) (by omega) (fun j hji => by
        rcases Nat.lt_or_ge j t with z | z
        · exact hj j z
        · rw [show j = t by omega]; exact hb)
    refine br_f (nI_ge (by omega) (by omega)) (br_f (by decide) (cf_subB (by omega) s (fun hb => ?_) (fun hb => nm_r (nI_1 t) (nx (fun z => absurd z hb)))))
    rw [cf_nIdif hP]
    have hd := cf_difL hP t
    exact ⟨vp_in_nI hd (by decide), cf_fiB hF hd (cf_difSub hP _) (fun g => nm_r (nI_1 t) (nx (fun _ => g))) (fun g => nm_r (nI_1 t) (cf_yir0 hs (h0 t (by omega) hb g) d (t + 1) (by omega)))⟩
theorem cf_yir {post : Int32 → Prop} {s : Nat} (hY : cf_Y p n P th ye no) (hP : P < 128) (hF : ∀ t, t < 128 → cf_fine p n P fi t) (hs : s < 128) (h0 : ¬ cf_R p n P s → post 0) (h1 : cf_R p n P s → post 1) : wpY_isRepair post (th, ye, no, fi) (nI s) := by
  refine cf_ycl hY hP (cf_subB hs P (fun hsP => ?_) (fun hsP => ⟨s + 1, cf_yir0 hs (h0 (fun y => hsP y.1)) s 0 (by omega)⟩))
  rw [cf_nIdif hP]
  have hd := cf_difL hP s
  refine ⟨vp_in_nI hd (by decide), cf_fiB hF hd (cf_difSub hP _) (fun g => ⟨s + 1, cf_yir0 hs (h0 (fun y => g y.2.1)) s 0 (by omega)⟩) (fun g => ⟨s + 1, ?_⟩)⟩
  exact cf_yir1 hP hF hs (fun z => h1 ⟨hsP, g, z⟩) (fun t ht hb z => h0 (fun y => y.2.2 t ht hb z)) s 0 (by omega) (fun _ h => absurd h (Nat.not_lt_zero _))
theorem cf_yones4 {post : Int32 → Prop} {s : Nat} (hs : s < 128) : ∀ d k m, k + d = 7 → post (nI (m + cf_popd s d k)) → wY_ones_4 post (nI s) th ye no fi (d + 1) (nI m) (nI k) := by
  intro d
  induction d with
  | zero =>
    intro k m hk hp
    exact br_t (nI_le (a := 7) (by omega) (by omega)) hp
  | succ d ih =>
    intro k m hk hp
    refine br_f (nI_ge (b := 7) (by omega) (by decide)) (nm_r (e' := nI (m + (s.testBit k).toNat)) ?_ (nm_r (nI_1 k) (ih (k + 1) _ (by omega) ?_)))
    · rw [cf_bitV s hs k (by omega), nI_add]
    · rw [Nat.add_assoc]; exact hp
theorem cf_yones {post : Int32 → Prop} {s : Nat} (hs : s < 128) (h : post (nI (cf_pop s))) : wpY_ones post (th, ye, no, fi) (nI s) :=
  Exists.intro 8 (cf_yones4 hs 7 0 0 rfl (by rw [Nat.zero_add]; exact h))
end
end
section
/-! the loops of the answers over all 128 sets -/
def cf_fold (g : Nat → Int32 → Int32) : Nat → Nat → Int32 → Int32
  | 0, _, x => x
  | d + 1, s, x => cf_fold g d (s + 1) (g s x)
def cf_fcnt (b : Nat → Bool) (s : Nat) (x : Int32) : Int32 := if b s = true then x + 1 else x
def cf_fgu (b : Nat → Bool) (s : Nat) (x : Int32) : Int32 := if b s = true then x ||| nI s else x
def cf_fce (b : Nat → Bool) (s : Nat) (x : Int32) : Int32 := if b s = true then x &&& nI s else x
def cf_fsm (b : Nat → Bool) (s : Nat) (x : Int32) : Int32 := if b s = true then (if x < 0 then nI (cf_pop s) else if x ≤ nI (cf_pop s) then x else nI (cf_pop s)) else x
def cf_nth (b : Nat → Bool) (q : Int32) : Nat → Nat → Int32 → Int32
  | 0, _, _ => -1
  | d + 1, s, x => if b s = true then (if x = q then nI s else cf_nth b q d (s + 1) (x + 1)) else cf_nth b q d (s + 1) x
theorem cf_foldS {Q : Int32 → Prop} {g : Nat → Int32 → Int32} {d s : Nat} {x y : Int32} (h : Q (cf_fold g (d + 1) s x)) (e : g s x = y) : Q (cf_fold g d (s + 1) y) := by
  rw [← e]; exact h
theorem cf_and127 {m : Nat} (hm : m < 128) : nI m &&& 127 = nI m := by
  show nI m &&& nI 127 = nI m
  rw [nx_and, show (127 : Nat) = 2 ^ 7 - 1 from rfl, Nat.and_two_pow_sub_one_eq_mod]
  exact congrArg nI (Nat.mod_eq_of_lt hm)
section
variable {P : Nat} {f kn : Int32} {ap an : Nat → Int32} {D C R : Nat → Int64} {th ye no fi : Nat → Int32} {p n : Nat → Nat} {b : Nat → Bool}
theorem cf_yicb {post : Int32 → Prop} {s : Nat} (hY : cf_Y p n P th ye no) (hP : P < 128) (hF : ∀ t, t < 128 → cf_fine p n P fi t) (hb : ∀ s, s < 128 → (b s = true ↔ cf_K p n P s)) (hs : s < 128) (h0 : ¬ b s = true → post 0) (h1 : b s = true → post 1) : wpY_isCore post (th, ye, no, fi) (nI s) :=
  cf_yic hY hP hF hs (fun z => h0 (fun y => z ((hb s hs).mp y))) (fun z => h1 ((hb s hs).mpr z))
theorem cf_yirb {post : Int32 → Prop} {s : Nat} (hY : cf_Y p n P th ye no) (hP : P < 128) (hF : ∀ t, t < 128 → cf_fine p n P fi t) (hb : ∀ s, s < 128 → (b s = true ↔ cf_R p n P s)) (hs : s < 128) (h0 : ¬ b s = true → post 0) (h1 : b s = true → post 1) : wpY_isRepair post (th, ye, no, fi) (nI s) :=
  cf_yir hY hP hF hs (fun z => h0 (fun y => z ((hb s hs).mp y))) (fun z => h1 ((hb s hs).mpr z))
theorem cf_x_cores {post : Int32 → SX → Prop} : ∀ d s x, s + d = 128 → post (cf_fold (cf_fcnt (cf_mem C)) d s x) (f, kn, ap, an, D, C, R) → wX_cores_8 post f kn ap an D C R (d + 1) x (nI s) := by
  intro d
  induction d with
  | zero =>
    intro s x hs h
    exact br_t (nI_le (a := 128) (by omega) (by omega)) h
  | succ d ih =>
    intro s x hs h
    refine br_f (nI_ge (b := 128) (by omega) (by decide)) (cf_isC (by omega) (fun z => br_t rfl (nm_r (e' := x) (Int32.add_zero x) (nm_r (nI_1 s) (ih (s + 1) _ (by omega) (cf_foldS (Q := fun r => post r _) h (if_neg z)))))) (fun z => br_f (by decide) (nm_e (nm_r (nI_1 s) (ih (s + 1) _ (by omega) (cf_foldS (Q := fun r => post r _) h (if_pos z)))))))
theorem cf_x_repairs {post : Int32 → SX → Prop} : ∀ d s x, s + d = 128 → post (cf_fold (cf_fcnt (cf_mem R)) d s x) (f, kn, ap, an, D, C, R) → wX_repairs_8 post f kn ap an D C R (d + 1) x (nI s) := by
  intro d
  induction d with
  | zero =>
    intro s x hs h
    exact br_t (nI_le (a := 128) (by omega) (by omega)) h
  | succ d ih =>
    intro s x hs h
    refine br_f (nI_ge (b := 128) (by omega) (by decide)) (cf_isR (by omega) (fun z => br_t rfl (nm_r (e' := x) (Int32.add_zero x) (nm_r (nI_1 s) (ih (s + 1) _ (by omega) (cf_foldS (Q := fun r => post r _) h (if_neg z)))))) (fun z => br_f (by decide) (nm_e (nm_r (nI_1 s) (ih (s + 1) _ (by omega) (cf_foldS (Q := fun r => post r _) h (if_pos z)))))))
theorem cf_x_guilty {post : Int32 → SX → Prop} : ∀ d s x, s + d = 128 → post (cf_fold (cf_fgu (cf_mem C)) d s x) (f, kn, ap, an, D, C, R) → wX_guilty_8 post f kn ap an D C R (d + 1) x (nI s) := by
  intro d
  induction d with
  | zero =>
    intro s x hs h
    exact br_t (nI_le (a := 128) (by omega) (by omega)) h
  | succ d ih =>
    intro s x hs h
    refine br_f (nI_ge (b := 128) (by omega) (by decide)) (cf_isC (by omega) (fun z => br_t rfl (nm_r (e' := x) Int32.or_zero (nm_r (nI_1 s) (ih (s + 1) _ (by omega) (cf_foldS (Q := fun r => post r _) h (if_neg z)))))) (fun z => br_f (by decide) (nm_e (nm_r (nI_1 s) (ih (s + 1) _ (by omega) (cf_foldS (Q := fun r => post r _) h (if_pos z)))))))
theorem cf_y_cores {post : Int32 → SY → Prop} (hY : cf_Y p n P th ye no) (hP : P < 128) (hF : ∀ t, t < 128 → cf_fine p n P fi t) (hb : ∀ s, s < 128 → (b s = true ↔ cf_K p n P s)) : ∀ d s x, s + d = 128 → post (cf_fold (cf_fcnt b) d s x) (th, ye, no, fi) → wY_cores_8 post th ye no fi (d + 1) x (nI s) := by
  intro d
  induction d with
  | zero =>
    intro s x hs h
    exact br_t (nI_le (a := 128) (by omega) (by omega)) h
  | succ d ih =>
    intro s x hs h
    refine br_f (nI_ge (b := 128) (by omega) (by decide)) (cf_yicb hY hP hF hb (by omega) (fun z => br_t rfl (nm_r (nI_1 s) (ih (s + 1) _ (by omega) (cf_foldS (Q := fun r => post r _) h (if_neg z))))) (fun z => br_f (by decide) (nm_e (nm_r (nI_1 s) (ih (s + 1) _ (by omega) (cf_foldS (Q := fun r => post r _) h (if_pos z)))))))
theorem cf_y_repairs {post : Int32 → SY → Prop} (hY : cf_Y p n P th ye no) (hP : P < 128) (hF : ∀ t, t < 128 → cf_fine p n P fi t) (hb : ∀ s, s < 128 → (b s = true ↔ cf_R p n P s)) : ∀ d s x, s + d = 128 → post (cf_fold (cf_fcnt b) d s x) (th, ye, no, fi) → wY_repairs_8 post th ye no fi (d + 1) x (nI s) := by
  intro d
  induction d with
  | zero =>
    intro s x hs h
    exact br_t (nI_le (a := 128) (by omega) (by omega)) h
  | succ d ih =>
    intro s x hs h
    refine br_f (nI_ge (b := 128) (by omega) (by decide)) (cf_yirb hY hP hF hb (by omega) (fun z => br_t rfl (nm_r (nI_1 s) (ih (s + 1) _ (by omega) (cf_foldS (Q := fun r => post r _) h (if_neg z))))) (fun z => br_f (by decide) (nm_e (nm_r (nI_1 s) (ih (s + 1) _ (by omega) (cf_foldS (Q := fun r => post r _) h (if_pos z)))))))
theorem cf_y_guilty {post : Int32 → SY → Prop} (hY : cf_Y p n P th ye no) (hP : P < 128) (hF : ∀ t, t < 128 → cf_fine p n P fi t) (hb : ∀ s, s < 128 → (b s = true ↔ cf_K p n P s)) : ∀ d s x, s + d = 128 → post (cf_fold (cf_fgu b) d s x) (th, ye, no, fi) → wY_guilty_8 post th ye no fi (d + 1) x (nI s) := by
  intro d
  induction d with
  | zero =>
    intro s x hs h
    exact br_t (nI_le (a := 128) (by omega) (by omega)) h
  | succ d ih =>
    intro s x hs h
    refine br_f (nI_ge (b := 128) (by omega) (by decide)) (cf_yicb hY hP hF hb (by omega) (fun z => br_t rfl (nm_r (nI_1 s) (ih (s + 1) _ (by omega) (cf_foldS (Q := fun r => post r _) h (if_neg z))))) (fun z => br_f (by decide) (nm_e (nm_r (nI_1 s) (ih (s + 1) _ (by omega) (cf_foldS (Q := fun r => post r _) h (if_pos z)))))))
theorem cf_y_central {post : Int32 → SY → Prop} (hY : cf_Y p n P th ye no) (hP : P < 128) (hF : ∀ t, t < 128 → cf_fine p n P fi t) (hb : ∀ s, s < 128 → (b s = true ↔ cf_K p n P s)) : ∀ d s x, s + d = 128 → post (cf_fold (cf_fce b) d s x) (th, ye, no, fi) → wY_central_11 post th ye no fi (d + 1) x (nI s) := by
  intro d
  induction d with
  | zero =>
    intro s x hs h
    exact br_t (nI_le (a := 128) (by omega) (by omega)) h
  | succ d ih =>
    intro s x hs h
    refine br_f (nI_ge (b := 128) (by omega) (by decide)) (cf_yicb hY hP hF hb (by omega) (fun z => br_t rfl (nm_r (nI_1 s) (ih (s + 1) _ (by omega) (cf_foldS (Q := fun r => post r _) h (if_neg z))))) (fun z => br_f (by decide) (nm_e (nm_r (nI_1 s) (ih (s + 1) _ (by omega) (cf_foldS (Q := fun r => post r _) h (if_pos z)))))))
theorem cf_x_core {post : Int32 → SX → Prop} {q : Int32} : ∀ d s x, s + d = 128 → post (cf_nth (cf_mem C) q d s x) (f, kn, ap, an, D, C, R) → wX_core_8 post q f kn ap an D C R (d + 1) x (nI s) := by
  intro d
  induction d with
  | zero =>
    intro s x hs h
    exact br_t (nI_le (a := 128) (by omega) (by omega)) h
  | succ d ih =>
    intro s x hs h
    rw [cf_nth] at h
    refine br_f (nI_ge (b := 128) (by omega) (by decide)) (cf_isC (by omega) (fun z => br_t rfl (nm_r (nI_1 s) (ih (s + 1) _ (by omega) ?_))) (fun z => br_f (by decide) (br_c (fun c => ?_) (fun c => nm_e (nm_r (nI_1 s) (ih (s + 1) _ (by omega) ?_))))))
    · rw [if_neg z] at h; exact h
    · rw [if_pos z, if_pos c] at h; exact h
    · rw [if_pos z, if_neg c] at h; exact h
theorem cf_x_repair {post : Int32 → SX → Prop} {q : Int32} : ∀ d s x, s + d = 128 → post (cf_nth (cf_mem R) q d s x) (f, kn, ap, an, D, C, R) → wX_repair_8 post q f kn ap an D C R (d + 1) x (nI s) := by
  intro d
  induction d with
  | zero =>
    intro s x hs h
    exact br_t (nI_le (a := 128) (by omega) (by omega)) h
  | succ d ih =>
    intro s x hs h
    rw [cf_nth] at h
    refine br_f (nI_ge (b := 128) (by omega) (by decide)) (cf_isR (by omega) (fun z => br_t rfl (nm_r (nI_1 s) (ih (s + 1) _ (by omega) ?_))) (fun z => br_f (by decide) (br_c (fun c => ?_) (fun c => nm_e (nm_r (nI_1 s) (ih (s + 1) _ (by omega) ?_))))))
    · rw [if_neg z] at h; exact h
    · rw [if_pos z, if_pos c] at h; exact h
    · rw [if_pos z, if_neg c] at h; exact h
theorem cf_y_core {post : Int32 → SY → Prop} {q : Int32} (hY : cf_Y p n P th ye no) (hP : P < 128) (hF : ∀ t, t < 128 → cf_fine p n P fi t) (hb : ∀ s, s < 128 → (b s = true ↔ cf_K p n P s)) : ∀ d s x, s + d = 128 → post (cf_nth b q d s x) (th, ye, no, fi) → wY_core_8 post q th ye no fi (d + 1) x (nI s) := by
  intro d
  induction d with
  | zero =>
    intro s x hs h
    exact br_t (nI_le (a := 128) (by omega) (by omega)) h
  | succ d ih =>
    intro s x hs h
    rw [cf_nth] at h
    refine br_f (nI_ge (b := 128) (by omega) (by decide)) (cf_yicb hY hP hF hb (by omega) (fun z => br_t rfl (nm_r (nI_1 s) (ih (s + 1) _ (by omega) ?_))) (fun z => br_f (by decide) (br_c (fun c => ?_) (fun c => nm_e (nm_r (nI_1 s) (ih (s + 1) _ (by omega) ?_))))))
    · rw [if_neg z] at h; exact h
    · rw [if_pos z, if_pos c] at h; exact h
    · rw [if_pos z, if_neg c] at h; exact h
theorem cf_y_repair {post : Int32 → SY → Prop} {q : Int32} (hY : cf_Y p n P th ye no) (hP : P < 128) (hF : ∀ t, t < 128 → cf_fine p n P fi t) (hb : ∀ s, s < 128 → (b s = true ↔ cf_R p n P s)) : ∀ d s x, s + d = 128 → post (cf_nth b q d s x) (th, ye, no, fi) → wY_repair_8 post q th ye no fi (d + 1) x (nI s) := by
  intro d
  induction d with
  | zero =>
    intro s x hs h
    exact br_t (nI_le (a := 128) (by omega) (by omega)) h
  | succ d ih =>
    intro s x hs h
    rw [cf_nth] at h
    refine br_f (nI_ge (b := 128) (by omega) (by decide)) (cf_yirb hY hP hF hb (by omega) (fun z => br_t rfl (nm_r (nI_1 s) (ih (s + 1) _ (by omega) ?_))) (fun z => br_f (by decide) (br_c (fun c => ?_) (fun c => nm_e (nm_r (nI_1 s) (ih (s + 1) _ (by omega) ?_))))))
    · rw [if_neg z] at h; exact h
    · rw [if_pos z, if_pos c] at h; exact h
    · rw [if_pos z, if_neg c] at h; exact h
theorem cf_x_central {post : Int32 → SX → Prop} : ∀ d s m, s + d = 128 → m < 128 → post (cf_fold (cf_fce (cf_mem C)) d s (nI m)) (f, kn, ap, an, D, C, R) → wX_central_11 post f kn ap an D C R (d + 1) (nI m) (nI s) := by
  intro d
  induction d with
  | zero =>
    intro s m hs hm h
    exact br_t (nI_le (a := 128) (by omega) (by omega)) h
  | succ d ih =>
    intro s m hs hm h
    refine br_f (nI_ge (b := 128) (by omega) (by decide)) (cf_isC (by omega) (fun z => br_t rfl (nm_r (cf_and127 hm) (nm_r (nI_1 s) (ih (s + 1) _ (by omega) hm (cf_foldS (Q := fun r => post r _) h (if_neg z)))))) (fun z => br_f (by decide) (nm_r (nx_and m s) (nm_r (nI_1 s) (ih (s + 1) _ (by omega) (Nat.lt_of_le_of_lt Nat.and_le_left hm) (cf_foldS (Q := fun r => post r _) h ((if_pos z).trans (nx_and m s))))))))
theorem cf_x_31 {post : Int32 → SX → Prop} {J : Int32 → Int32 → Prop} {x : Int32} {s w : Nat} (hw : w < 128) (h : J (if x < 0 then nI w else if x ≤ nI w then x else nI w) (nI (s + 1))) : wX_smallestCore_31 post J x (nI s) (nI w) f kn ap an D C R := by
  refine br_f (nI_pos (by omega)) (br_c (fun c => nm_r (nI_1 s) ?_) (fun c => br_c (fun c2 => nm_r (nI_1 s) ?_) (fun c2 => nm_r (nI_1 s) ?_)))
  · rw [if_pos c] at h; exact h
  · rw [if_neg c, if_pos c2] at h; exact h
  · rw [if_neg c, if_neg c2] at h; exact h
theorem cf_x_small {post : Int32 → SX → Prop} : ∀ d s x, s + d = 128 → post (cf_fold (cf_fsm (cf_mem C)) d s x) (f, kn, ap, an, D, C, R) → wX_smallestCore_8 post f kn ap an D C R (d + 1) x (nI s) := by
  intro d
  induction d with
  | zero =>
    intro s x hs h
    exact br_t (nI_le (a := 128) (by omega) (by omega)) h
  | succ d ih =>
    intro s x hs h
    have hp := cf_pop_le s
    refine br_f (nI_ge (b := 128) (by omega) (by decide)) (cf_isC (by omega) (fun z => br_t rfl (br_t (by decide) (nm_r (nI_1 s) (ih (s + 1) _ (by omega) (cf_foldS (Q := fun r => post r _) h (if_neg z)))))) (fun z => br_f (by decide) (cf_ones (by omega) (cf_x_31 (by omega) (ih (s + 1) _ (by omega) (cf_foldS (Q := fun r => post r _) h (if_pos z)))))))
theorem cf_y_small {post : Int32 → SY → Prop} (hY : cf_Y p n P th ye no) (hP : P < 128) (hF : ∀ t, t < 128 → cf_fine p n P fi t) (hb : ∀ s, s < 128 → (b s = true ↔ cf_K p n P s)) : ∀ d s x, s + d = 128 → post (cf_fold (cf_fsm b) d s x) (th, ye, no, fi) → wY_smallestCore_8 post th ye no fi (d + 1) x (nI s) := by
  intro d
  induction d with
  | zero =>
    intro s x hs h
    exact br_t (nI_le (a := 128) (by omega) (by omega)) h
  | succ d ih =>
    intro s x hs h
    have hp := cf_pop_le s
    refine br_f (nI_ge (b := 128) (by omega) (by decide)) (cf_yones (by omega) (cf_yicb hY hP hF hb (by omega) (fun z => br_t rfl (nm_r (nI_1 s) (ih (s + 1) _ (by omega) (cf_foldS (Q := fun r => post r _) h (if_neg z))))) (fun z => br_f (by decide) ?_)))
    have g := cf_foldS (Q := fun r => post r (th, ye, no, fi)) h (if_pos z)
    refine br_c (fun c => nm_r (nI_1 s) (ih (s + 1) _ (by omega) ?_)) (fun c => br_c (fun c2 => nm_r (nI_1 s) (ih (s + 1) _ (by omega) ?_)) (fun c2 => nm_r (nI_1 s) (ih (s + 1) _ (by omega) ?_)))
    · rw [if_pos c] at g; exact g
    · rw [if_neg c, if_pos c2] at g; exact g
    · rw [if_neg c, if_neg c2] at g; exact g
/-! the greatest number of clauses together -/
def cf_max (Q : Nat → Prop) (w : Nat → Nat) (s m : Nat) : Prop := (∀ t, t < s → Q t → w t ≤ m) ∧ (m = 0 ∨ ∃ t, t < 128 ∧ Q t ∧ w t = m) ∧ m ≤ 7
theorem cf_maxN {Q : Nat → Prop} {w : Nat → Nat} {s m : Nat} (h : cf_max Q w s m) (hn : ¬ Q s) : cf_max Q w (s + 1) m :=
  ⟨fun t ht hq => by
    by_cases e : t = s
    · rw [e] at hq; exact absurd hq hn
    · exact h.1 t (by omega) hq, h.2⟩
theorem cf_maxL {Q : Nat → Prop} {w : Nat → Nat} {s m : Nat} (h : cf_max Q w s m) (hl : w s ≤ m) : cf_max Q w (s + 1) m :=
  ⟨fun t ht hq => by
    by_cases e : t = s
    · rw [e]; exact hl
    · exact h.1 t (by omega) hq, h.2⟩
theorem cf_maxG {Q : Nat → Prop} {w : Nat → Nat} {s m : Nat} (h : cf_max Q w s m) (hs : s < 128) (hq : Q s) (h7 : w s ≤ 7) (hl : m < w s) : cf_max Q w (s + 1) (w s) :=
  ⟨fun t ht hq => by
    by_cases e : t = s
    · rw [e]; exact Nat.le_refl _
    · have := h.1 t (by omega) hq; omega, Or.inr ⟨s, hs, hq, rfl⟩, h7⟩
theorem cf_x_most {post : Int32 → SX → Prop} (hP : P < 128) (H : ∀ m, cf_max (fun t => cf_mem R t = true) (fun t => cf_pop (cf_dif P t)) 128 m → post (nI m) (nI P, kn, ap, an, D, C, R)) : ∀ d s m, s + d = 128 → cf_max (fun t => cf_mem R t = true) (fun t => cf_pop (cf_dif P t)) s m → wX_mostTogether_8 post (nI P) kn ap an D C R (d + 1) (nI m) (nI s) := by
  intro d
  induction d with
  | zero =>
    intro s m hs h
    have e : s = 128 := by omega
    rw [e] at h ⊢
    exact br_t (nI_le (a := 128) (by omega) (by omega)) (H m h)
  | succ d ih =>
    intro s m hs h
    have m7 := h.2.2
    have hd := cf_difL hP s
    have w7 := cf_pop_le (cf_dif P s)
    refine br_f (nI_ge (b := 128) (by omega) (by decide)) (cf_isR (by omega) (fun z => br_t rfl (pk_le 0 m (fun _ => nm_r (nI_1 s) (ih (s + 1) _ (by omega) (cf_maxN h z))) (fun c => absurd c (by omega)))) (fun z => br_f (by decide) ?_))
    rw [cf_nIdif hP]
    exact cf_ones hd (pk_le (cf_pop (cf_dif P s)) m (fun c => nm_r (nI_1 s) (ih (s + 1) _ (by omega) (cf_maxL h c))) (fun c => nm_r (nI_1 s) (ih (s + 1) _ (by omega) (cf_maxG h (by omega) z w7 c))))
theorem cf_y_most {post : Int32 → SY → Prop} (hY : cf_Y p n P th ye no) (hP : P < 128) (hF : ∀ t, t < 128 → cf_fine p n P fi t) (H : ∀ m, cf_max (fun t => cf_sub t P ∧ cf_cons p n t) cf_pop 128 m → post (nI m) (th, ye, no, fi)) : ∀ d s m, s + d = 128 → cf_max (fun t => cf_sub t P ∧ cf_cons p n t) cf_pop s m → wY_mostTogether_8 post th ye no fi (d + 1) (nI m) (nI s) := by
  intro d
  induction d with
  | zero =>
    intro s m hs h
    have e : s = 128 := by omega
    rw [e] at h ⊢
    exact br_t (nI_le (a := 128) (by omega) (by omega)) (H m h)
  | succ d ih =>
    intro s m hs h
    have m7 := h.2.2
    have w7 := cf_pop_le s
    have hs7 : s < 128 := by omega
    exact br_f (nI_ge (b := 128) (by omega) (by decide)) (cf_yones hs7 (cf_ycl hY hP (cf_subB hs7 P (fun c1 => ⟨vp_in_nI hs7 (by decide), cf_fiB hF hs7 c1 (fun c2 => nm_r (nI_1 s) (ih (s + 1) _ (by omega) (cf_maxN h (fun z => c2 z.2)))) (fun c2 => pk_le (cf_pop s) m (fun c => nm_r (nI_1 s) (ih (s + 1) _ (by omega) (cf_maxL h c))) (fun c => nm_r (nI_1 s) (ih (s + 1) _ (by omega) (cf_maxG h hs7 ⟨c1, c2⟩ w7 c))))⟩) (fun c1 => nm_r (nI_1 s) (ih (s + 1) _ (by omega) (cf_maxN h (fun z => c1 z.1)))))))
theorem cf_mostU {m m' : Nat} (hP : P < 128) (hf : cf_Fin p n P C R) (h : cf_max (fun t => cf_mem R t = true) (fun t => cf_pop (cf_dif P t)) 128 m) (h' : cf_max (fun t => cf_sub t P ∧ cf_cons p n t) cf_pop 128 m') : m' = m := by
  have a : m ≤ m' := by
    rcases h.2.1 with z | ⟨t, t1, t2, t3⟩
    · omega
    · have r := (hf.2.1 t t1).mp t2
      rw [← t3]
      exact h'.1 _ (cf_difL hP t) ⟨cf_difSub hP t, r.2.1⟩
  have c : m' ≤ m := by
    rcases h'.2.1 with z | ⟨t, t1, t2, t3⟩
    · omega
    · obtain ⟨r, r1, r2, r3⟩ := hf.2.2 t t1 t2.1 t2.2
      have q : cf_pop (cf_dif P r) ≤ m := h.1 r r1 r2
      have q2 := cf_pop_mono r3
      omega
  omega
end
end
section
/-! add, remove, follows: both sides' loops -/
theorem cf_ofI (x : Int32) : ∃ S : Nat, x = nI S := ⟨x.toBitVec.toNat, Int32.toBitVec_inj.mp (by show _ = BitVec.ofNat 32 _; simp)⟩
theorem cf_byte {a : Nat} (ha : a < 16) : vp_nar .byte (nI a).toInt8.toInt32 = nI a := by
  rw [vp_nar_byte]
  exact (by decide +kernel : ∀ a, a < 16 → (nI a).toInt8.toInt32.toInt8.toInt32 = nI a) a ha
theorem cf_set (x : Int32) : ((∀ post : Int32 → Prop, post 0 → wpX_isSet post x) ∧ (∀ (post : Int32 → Prop) (v : SY), post 0 → wpY_letters post v x)) ∨ (∃ a, a < 16 ∧ x = nI a ∧ (∀ post : Int32 → Prop, post 1 → wpX_isSet post x) ∧ (∀ (post : Int32 → Prop) (v : SY), post 1 → wpY_letters post v x)) := by
  rcases pk_ix x (n := 16) (by decide) with h | h | ⟨a, ha, rfl⟩
  · exact Or.inl ⟨fun post hp => br_t h hp, fun post v hp => br_t h hp⟩
  · have h0 : ¬ x < 0 := Int32.not_lt.mpr (Int32.le_trans (by decide : (0 : Int32) ≤ 16) h)
    have h1 : (15 : Int32) < x := Int32.lt_of_lt_of_le (by decide : (15 : Int32) < 16) h
    exact Or.inl ⟨fun post hp => br_f h0 (br_t h1 hp), fun post v hp => br_f h0 (br_t h1 hp)⟩
  · have h0 : ¬ nI a < 0 := nI_pos (by omega)
    have h1 : ¬ (15 : Int32) < nI a := nI_nlt (a := 15) (by omega) (by decide)
    exact Or.inr ⟨a, ha, rfl, fun post hp => br_f h0 (br_f h1 hp), fun post v hp => br_f h0 (br_f h1 hp)⟩
section
variable {P : Nat} {kn : Int32} {ap an : Nat → Int32} {D C R : Nat → Int64} {th ye no fi : Nat → Int32} {p n : Nat → Nat}
theorem cf_xadd {post : Int32 → SX → Prop} {a c : Nat} (ha : a < 16) (hc : c < 16) (hf : (∀ j, j < 7 → P.testBit j = true) → post (-2) (nI P, kn, ap, an, D, C, R)) (hn : ∀ k, k < 7 → P.testBit k = false → (∀ j, j < k → P.testBit j = true) → post (nI k) (nI (P ||| 2 ^ k), 0, upd ap k (nI a), upd an k (nI c), D, C, R)) : ∀ d k, k + d = 7 → (∀ j, j < k → P.testBit j = true) → wX_add_18 post (nI a) (nI c) (nI P) kn ap an D C R (d + 1) (nI k) := by
  intro d
  induction d with
  | zero =>
    intro k hk h
    exact br_t (nI_le (a := 7) (by omega) (by omega)) (hf (fun j hj => h j (by omega)))
  | succ d ih =>
    intro k hk h
    have k7 : k < 7 := by omega
    have vi : vp_in (nI k) 8 := vp_in_nI (by omega) (by decide)
    refine br_f (nI_ge (b := 7) (by omega) (by decide)) (cf_has k7 (fun hb => br_t rfl (nm_r (cf_or1 P k7) ⟨vi, nm_r (e' := upd ap k (nI a)) ?_ ⟨vi, nm_r (e' := upd an k (nI c)) ?_ (hn k k7 hb h)⟩⟩)) (fun hb => br_f (by decide) (nm_r (nI_1 k) (ih (k + 1) (by omega) (fun j hj => ?_)))))
    · rw [nI_clamp (by omega), cf_byte ha]
    · rw [nI_clamp (by omega), cf_byte hc]
    · rcases Nat.lt_or_ge j k with z | z
      · exact h j z
      · rw [show j = k by omega]; exact hb
theorem cf_yadd {post : Int32 → SY → Prop} {x y : Int32} (hY : cf_Y p n P th ye no) (hf : (∀ j, j < 7 → P.testBit j = true) → post (-2) (th, ye, no, fi)) (hn : ∀ k, k < 7 → P.testBit k = false → (∀ j, j < k → P.testBit j = true) → post (nI k) (upd th k 1, upd ye k x, upd no k y, fi)) : ∀ d k, k + d = 7 → (∀ j, j < k → P.testBit j = true) → wY_add_20 post x y th ye no fi (d + 1) (nI k) := by
  intro d
  induction d with
  | zero =>
    intro k hk h
    exact br_t (nI_le (a := 7) (by omega) (by omega)) (hf (fun j hj => h j (by omega)))
  | succ d ih =>
    intro k hk h
    have k7 : k < 7 := by omega
    have vi : vp_in (nI k) 7 := vp_in_nI (by omega) (by decide)
    refine br_f (nI_ge (b := 7) (by omega) (by decide)) ⟨vi, cf_thB hY k7 (fun hb => ⟨vi, nm_r (e' := upd th k 1) ?_ ⟨vi, nm_r (e' := upd ye k x) ?_ ⟨vi, nm_r (e' := upd no k y) ?_ (hn k k7 hb h)⟩⟩⟩) (fun hb => nm_r (nI_1 k) (ih (k + 1) (by omega) (fun j hj => ?_)))⟩
    · rw [nI_clamp (by omega)]; rfl
    · rw [nI_clamp (by omega)]
    · rw [nI_clamp (by omega)]
    · rcases Nat.lt_or_ge j k with z | z
      · exact h j z
      · rw [show j = k by omega]; exact hb
def cf_put (g : Nat → Nat) (k a : Nat) : Nat → Nat := fun j => if j = k then a else g j
theorem cf_putS {g : Nat → Nat} {k a : Nat} : cf_put g k a k = a := if_pos rfl
theorem cf_putN {g : Nat → Nat} {k j a : Nat} (h : j ≠ k) : cf_put g k a j = g j := if_neg h
theorem cf_Aput {k a c : Nat} (hA : cf_A p n ap an) (ha : a < 16) (hc : c < 16) : cf_A (cf_put p k a) (cf_put n k c) (upd ap k (nI a)) (upd an k (nI c)) := fun j hj => by
  by_cases e : j = k
  · subst e; rw [pk_us, pk_us, cf_putS, cf_putS]; exact ⟨rfl, rfl, ha, hc⟩
  · rw [pk_un e, pk_un e, cf_putN e, cf_putN e]; exact hA j hj
theorem cf_Yput {k a c : Nat} (hY : cf_Y p n P th ye no) : cf_Y (cf_put p k a) (cf_put n k c) (P ||| 2 ^ k) (upd th k 1) (upd ye k (nI a)) (upd no k (nI c)) := fun j hj => by
  by_cases e : j = k
  · subst e; rw [pk_us, pk_us, pk_us, cf_putS, cf_putS, cf_orB, decide_eq_true rfl, Bool.or_true]; exact ⟨rfl, rfl, rfl⟩
  · rw [pk_un e, pk_un e, pk_un e, cf_putN e, cf_putN e, cf_orB, decide_eq_false (fun z => e z.symm), Bool.or_false]; exact hY j hj
theorem cf_Ydel {k : Nat} (hP : P < 128) (hY : cf_Y p n P th ye no) : cf_Y p n (cf_dif P (2 ^ k)) (upd th k 0) ye no := fun j hj => by
  have h := hY j hj
  by_cases e : j = k
  · subst e; rw [pk_us, cf_delB hP, decide_eq_true rfl, Bool.not_true, Bool.and_false]; exact ⟨rfl, h.2⟩
  · rw [pk_un e, cf_delB hP, decide_eq_false (fun z => e z.symm), Bool.not_false, Bool.and_true]; exact h
theorem cf_yfo0 {post : Int32 → Prop} {x y : Int32} (h : post 0) : ∀ d v, v + d = 16 → wY_follows_25 post x y th ye no fi (d + 1) 0 (nI v) := by
  intro d
  induction d with
  | zero =>
    intro v hv
    exact br_t (nI_le (a := 16) (by omega) (by omega)) ⟨rfl, h⟩
  | succ d ih =>
    intro v hv
    exact br_f (nI_ge (b := 16) (by omega) (by decide)) (br_t rfl (nm_r (nI_1 v) (ih (v + 1) (by omega))))
theorem cf_yfo1 {post : Int32 → Prop} {a c : Nat} (hY : cf_Y p n P th ye no) (hB : cf_B p n) (hP : P < 128) (ha : a < 16) (hc : c < 16) (h1 : (∀ v, v < 16 → ¬ cf_G p n P c a v) → post 1) (h0 : ∀ v, v < 16 → cf_G p n P c a v → post 0) : ∀ d v, v + d = 16 → (∀ w, w < v → ¬ cf_G p n P c a w) → wY_follows_25 post (nI a) (nI c) th ye no fi (d + 1) 1 (nI v) := by
  have e127 : (127 : Nat) &&& P = P := by
    rw [Nat.and_comm, show (127 : Nat) = 2 ^ 7 - 1 from rfl, Nat.and_two_pow_sub_one_eq_mod]
    exact Nat.mod_eq_of_lt hP
  intro d
  induction d with
  | zero =>
    intro v hv hw
    exact br_t (nI_le (a := 16) (by omega) (by omega)) ⟨rfl, h1 (fun w hw' => hw w (by omega))⟩
  | succ d ih =>
    intro v hv hw
    have nx : ¬ cf_G p n P c a v → wY_follows_25 post (nI a) (nI c) th ye no fi (d + 1) 1 (nI (v + 1)) := fun g =>
      ih (v + 1) (by omega) (fun w hw' => by
        rcases Nat.lt_or_ge w v with z | z
        · exact hw w z
        · rw [show w = v by omega]; exact g)
    refine br_f (nI_ge (b := 16) (by omega) (by decide)) (br_f (by decide) (cf_yah (S := 127) hY hB (fun k hk => cf_btN 127 (by omega)) (fun g => br_f (by decide) (cf_yholds (by omega) (by omega) (fun hh => br_f (by decide) (nm_r (nI_1 v) (nx (fun z => ?_)))) (fun hh => br_t rfl (nm_r (nI_1 v) (cf_yfo0 (h0 v (by omega) ⟨?_, ?_, ?_⟩) d (v + 1) (by omega)))))) (fun g => br_t rfl (nm_r (nI_1 v) (nx (fun z => g ?_))))))
    · rcases hh with y | y
      · exact y z.2.2
      · exact y z.2.1
    · rw [e127] at g; exact g
    · exact Classical.byContradiction (fun y => hh (Or.inr y))
    · exact Classical.byContradiction (fun y => hh (Or.inl y))
    · rw [e127]; exact z.1
end
end
section
/-- one table of clauses p, n below the present ones P for both; what the component knows is right -/
def i_Rel (k : Nat) (u : SX) (v : SY) : Prop := ∃ (P : Nat) (p n : Nat → Nat) (kn : Int32) (ap an : Nat → Int32) (D C R : Nat → Int64) (th ye no fi : Nat → Int32), u = (nI P, kn, ap, an, D, C, R) ∧ v = (th, ye, no, fi) ∧ P < 128 ∧ cf_A p n ap an ∧ cf_Y p n P th ye no ∧ (kn ≠ 0 → cf_Fin p n P C R)
theorem cf_mk {k P : Nat} {p n : Nat → Nat} {kn : Int32} {ap an : Nat → Int32} {D C R : Nat → Int64} {th ye no fi : Nat → Int32} (hP : P < 128) (hA : cf_A p n ap an) (hY : cf_Y p n P th ye no) (hF : kn ≠ 0 → cf_Fin p n P C R) : i_Rel k (nI P, kn, ap, an, D, C, R) (th, ye, no, fi) :=
  ⟨P, p, n, kn, ap, an, D, C, R, th, ye, no, fi, rfl, rfl, hP, hA, hY, hF⟩
theorem i_up {k : Nat} {u : SX} {v : SY} (h : i_Rel k u v) : i_Rel (k + 3) u v := h
theorem i_vc0 : wpX_init (fun u => wpY_init (fun v => i_Rel 0 u v)) := by
  unfold wpX_init wpY_init
  refine cf_mk (P := 0) (p := fun _ => 0) (n := fun _ => 0) (by decide) (fun k _ => ⟨rfl, rfl, Nat.succ_pos 15, Nat.succ_pos 15⟩) (fun k _ => ⟨?_, rfl, rfl⟩) (fun z => absurd rfl z)
  rw [Nat.zero_testBit]
  rfl
theorem i_vc_add {k : Nat} {u : SX} {v : SY} (I : i_Rel k u v) (hk : k + 3 ≤ 1536) (v1 : Int32) (v2 : Int32) : wpX_add (fun r u' => wpY_add (fun r' v' => r' = r ∧ i_Rel (k + 3) u' v') v v1 v2) u v1 v2 := by
  obtain ⟨P, p, n, kn, ap, an, D, C, R, th, ye, no, fi, rfl, rfl, hP, hA, hY, hF⟩ := I
  have rel := cf_mk (k := k + 3) (D := D) (fi := fi) hP hA hY hF
  unfold wpX_add
  dsimp only
  rcases cf_set v1 with ⟨x0, y0⟩ | ⟨a, ha, rfl, x1, y1⟩
  · refine x0 _ (br_t rfl ?_)
    unfold wpY_add
    dsimp only
    exact y0 _ _ (br_t rfl ⟨rfl, rel⟩)
  · refine x1 _ (br_f (by decide) ?_)
    rcases cf_set v2 with ⟨x0, y0⟩ | ⟨c, hc, rfl, x2, y2⟩
    · refine x0 _ (br_t rfl ?_)
      unfold wpY_add
      dsimp only
      exact y1 _ _ (br_f (by decide) (y0 _ _ (br_t rfl ⟨rfl, rel⟩)))
    · refine x2 _ (br_f (by decide) ⟨8, cf_xadd ha hc (fun full => ?_) (fun j j7 jb jl => ?_) 7 0 rfl (fun _ h => absurd h (Nat.not_lt_zero _))⟩)
      · unfold wpY_add
        dsimp only
        refine y1 _ _ (br_f (by decide) (y2 _ _ (br_f (by decide) ⟨8, cf_yadd hY (fun _ => ⟨rfl, rel⟩) (fun i i7 ib il => ?_) 7 0 rfl (fun _ h => absurd h (Nat.not_lt_zero _))⟩)))
        exact absurd ((full i i7).symm.trans ib) (by decide)
      · unfold wpY_add
        dsimp only
        refine y1 _ _ (br_f (by decide) (y2 _ _ (br_f (by decide) ⟨8, cf_yadd hY (fun full => ?_) (fun i i7 ib il => ?_) 7 0 rfl (fun _ h => absurd h (Nat.not_lt_zero _))⟩)))
        · exact absurd ((full j j7).symm.trans jb) (by decide)
        · have e : i = j := by
            rcases Nat.lt_trichotomy i j with z | z | z
            · exact absurd ((jl i z).symm.trans ib) (by decide)
            · exact z
            · exact absurd ((il j z).symm.trans jb) (by decide)
          subst e
          exact ⟨rfl, cf_mk (cf_orL hP i7) (cf_Aput hA ha hc) (cf_Yput hY) (fun z => absurd rfl z)⟩
theorem i_vc_remove {k : Nat} {u : SX} {v : SY} (I : i_Rel k u v) (hk : k + 3 ≤ 1536) (v1 : Int32) : wpX_remove (fun r u' => wpY_remove (fun r' v' => r' = r ∧ i_Rel (k + 3) u' v') v v1) u v1 := by
  obtain ⟨P, p, n, kn, ap, an, D, C, R, th, ye, no, fi, rfl, rfl, hP, hA, hY, hF⟩ := I
  have rel := cf_mk (k := k + 3) (D := D) (fi := fi) hP hA hY hF
  unfold wpX_remove wpY_remove
  dsimp only
  rcases pk_ix v1 (n := 7) (by decide) with h | h | ⟨j, hj, rfl⟩
  · exact br_t h (br_t rfl (br_t h ⟨rfl, rel⟩))
  · have h0 : ¬ v1 < 0 := Int32.not_lt.mpr (Int32.le_trans (by decide : (0 : Int32) ≤ 7) h)
    have h1 : (6 : Int32) < v1 := Int32.lt_of_lt_of_le (by decide : (6 : Int32) < 7) h
    exact br_f h0 (br_t h (br_t rfl (br_f h0 (br_t h1 ⟨rfl, rel⟩))))
  · have h0 : ¬ nI j < 0 := nI_pos (by omega)
    have h1 : ¬ (6 : Int32) < nI j := nI_nlt (a := 6) (by omega) (by decide)
    have vi : vp_in (nI j) 7 := vp_in_nI hj (by decide)
    refine cf_has hj (fun hb => br_t rfl (br_f h0 (br_f h1 ⟨vi, cf_thB hY hj (fun _ => ⟨rfl, rel⟩) (fun z => ?_)⟩))) (fun hb => br_f (by decide) (nm_r (cf_del1 hP hj) (br_f h0 (br_f h1 ⟨vi, cf_thB hY hj (fun z => ?_) (fun _ => ⟨vi, nm_r (e' := upd th j 0) ?_ ⟨rfl, cf_mk (cf_difL hP _) hA (cf_Ydel hP hY) (fun z => absurd rfl z)⟩⟩)⟩))))
    · exact absurd (z.symm.trans hb) (by decide)
    · exact absurd (z.symm.trans hb) (by decide)
    · rw [nI_clamp (by omega)]; rfl
theorem i_vc_clauses {k : Nat} {u : SX} {v : SY} (I : i_Rel k u v) (hk : k + 3 ≤ 1536) : wpX_clauses (fun r => wpY_clauses (fun r' => r' = r ∧ i_Rel (k + 3) u v) v) u := by
  obtain ⟨P, p, n, kn, ap, an, D, C, R, th, ye, no, fi, rfl, rfl, hP, hA, hY, hF⟩ := I
  unfold wpX_clauses
  dsimp only
  exact cf_ycl hY hP ⟨rfl, cf_mk hP hA hY hF⟩
theorem i_vc_consistent {k : Nat} {u : SX} {v : SY} (I : i_Rel k u v) (hk : k + 3 ≤ 1536) (v1 : Int32) : wpX_consistent (fun r => wpY_consistent (fun r' => r' = r ∧ i_Rel (k + 3) u v) v v1) u v1 := by
  obtain ⟨P, p, n, kn, ap, an, D, C, R, th, ye, no, fi, rfl, rfl, hP, hA, hY, hF⟩ := I
  have hB : cf_B p n := fun k hk => (hA k hk).2.2
  obtain ⟨S, rfl⟩ := cf_ofI v1
  have hx : ∀ k, k < 7 → bt (nI S) k = S.testBit k := fun k hk => cf_btN S (by omega)
  unfold wpX_consistent
  dsimp only
  rw [nx_and]
  exact cf_ht hA (fun c => ⟨rfl, cf_ycons hY hB hx (fun _ => ⟨rfl, cf_mk hP hA hY hF⟩) (fun z => absurd c z)⟩) (fun c => ⟨rfl, cf_ycons hY hB hx (fun z => absurd z c) (fun _ => ⟨rfl, cf_mk hP hA hY hF⟩)⟩)
theorem i_vc_witness {k : Nat} {u : SX} {v : SY} (I : i_Rel k u v) (hk : k + 3 ≤ 1536) (v1 : Int32) : wpX_witness (fun r => wpY_witness (fun r' => r' = r ∧ i_Rel (k + 3) u v) v v1) u v1 := by
  obtain ⟨P, p, n, kn, ap, an, D, C, R, th, ye, no, fi, rfl, rfl, hP, hA, hY, hF⟩ := I
  have hB : cf_B p n := fun k hk => (hA k hk).2.2
  obtain ⟨S, rfl⟩ := cf_ofI v1
  have hx : ∀ k, k < 7 → bt (nI S) k = S.testBit k := fun k hk => cf_btN S (by omega)
  unfold wpX_witness
  dsimp only
  rw [nx_and]
  exact cf_solve (I := 0) (O := 0) hA (by decide) (by decide) (fun r hr => cf_ywit hY hB hx (fun r' hr' => ⟨cf_ansU hr hr', cf_mk hP hA hY hF⟩))
theorem i_vc_cores {k : Nat} {u : SX} {v : SY} (I : i_Rel k u v) (hk : k + 3 ≤ 1536) : wpX_cores (fun r u' => wpY_cores (fun r' v' => r' = r ∧ i_Rel (k + 3) u' v') v) u := by
  obtain ⟨P, p, n, kn, ap, an, D, C, R, th, ye, no, fi, rfl, rfl, hP, hA, hY, hF⟩ := I
  have hB : cf_B p n := fun k hk => (hA k hk).2.2
  unfold wpX_cores
  dsimp only
  refine cf_learn hA hP hF (fun kn D C R h => ⟨129, cf_x_cores 128 0 0 rfl ?_⟩)
  unfold wpY_cores
  dsimp only
  exact cf_ywork hY hB (fun fi hf => ⟨129, cf_y_cores (b := cf_mem C) hY hP hf h.1 128 0 0 rfl ⟨rfl, cf_mk hP hA hY (fun _ => h)⟩⟩)
theorem i_vc_core {k : Nat} {u : SX} {v : SY} (I : i_Rel k u v) (hk : k + 3 ≤ 1536) (v1 : Int32) : wpX_core (fun r u' => wpY_core (fun r' v' => r' = r ∧ i_Rel (k + 3) u' v') v v1) u v1 := by
  obtain ⟨P, p, n, kn, ap, an, D, C, R, th, ye, no, fi, rfl, rfl, hP, hA, hY, hF⟩ := I
  have hB : cf_B p n := fun k hk => (hA k hk).2.2
  unfold wpX_core
  dsimp only
  refine cf_learn hA hP hF (fun kn D C R h => ⟨129, cf_x_core 128 0 0 rfl ?_⟩)
  unfold wpY_core
  dsimp only
  exact cf_ywork hY hB (fun fi hf => ⟨129, cf_y_core (b := cf_mem C) hY hP hf h.1 128 0 0 rfl ⟨rfl, cf_mk hP hA hY (fun _ => h)⟩⟩)
theorem i_vc_repairs {k : Nat} {u : SX} {v : SY} (I : i_Rel k u v) (hk : k + 3 ≤ 1536) : wpX_repairs (fun r u' => wpY_repairs (fun r' v' => r' = r ∧ i_Rel (k + 3) u' v') v) u := by
  obtain ⟨P, p, n, kn, ap, an, D, C, R, th, ye, no, fi, rfl, rfl, hP, hA, hY, hF⟩ := I
  have hB : cf_B p n := fun k hk => (hA k hk).2.2
  unfold wpX_repairs
  dsimp only
  refine cf_learn hA hP hF (fun kn D C R h => ⟨129, cf_x_repairs 128 0 0 rfl ?_⟩)
  unfold wpY_repairs
  dsimp only
  exact cf_ywork hY hB (fun fi hf => ⟨129, cf_y_repairs (b := cf_mem R) hY hP hf h.2.1 128 0 0 rfl ⟨rfl, cf_mk hP hA hY (fun _ => h)⟩⟩)
theorem i_vc_repair {k : Nat} {u : SX} {v : SY} (I : i_Rel k u v) (hk : k + 3 ≤ 1536) (v1 : Int32) : wpX_repair (fun r u' => wpY_repair (fun r' v' => r' = r ∧ i_Rel (k + 3) u' v') v v1) u v1 := by
  obtain ⟨P, p, n, kn, ap, an, D, C, R, th, ye, no, fi, rfl, rfl, hP, hA, hY, hF⟩ := I
  have hB : cf_B p n := fun k hk => (hA k hk).2.2
  unfold wpX_repair
  dsimp only
  refine cf_learn hA hP hF (fun kn D C R h => ⟨129, cf_x_repair 128 0 0 rfl ?_⟩)
  unfold wpY_repair
  dsimp only
  exact cf_ywork hY hB (fun fi hf => ⟨129, cf_y_repair (b := cf_mem R) hY hP hf h.2.1 128 0 0 rfl ⟨rfl, cf_mk hP hA hY (fun _ => h)⟩⟩)
theorem i_vc_guilty {k : Nat} {u : SX} {v : SY} (I : i_Rel k u v) (hk : k + 3 ≤ 1536) : wpX_guilty (fun r u' => wpY_guilty (fun r' v' => r' = r ∧ i_Rel (k + 3) u' v') v) u := by
  obtain ⟨P, p, n, kn, ap, an, D, C, R, th, ye, no, fi, rfl, rfl, hP, hA, hY, hF⟩ := I
  have hB : cf_B p n := fun k hk => (hA k hk).2.2
  unfold wpX_guilty
  dsimp only
  refine cf_learn hA hP hF (fun kn D C R h => ⟨129, cf_x_guilty 128 0 0 rfl ?_⟩)
  unfold wpY_guilty
  dsimp only
  exact cf_ywork hY hB (fun fi hf => ⟨129, cf_y_guilty (b := cf_mem C) hY hP hf h.1 128 0 0 rfl ⟨rfl, cf_mk hP hA hY (fun _ => h)⟩⟩)
theorem i_vc_central {k : Nat} {u : SX} {v : SY} (I : i_Rel k u v) (hk : k + 3 ≤ 1536) : wpX_central (fun r u' => wpY_central (fun r' v' => r' = r ∧ i_Rel (k + 3) u' v') v) u := by
  obtain ⟨P, p, n, kn, ap, an, D, C, R, th, ye, no, fi, rfl, rfl, hP, hA, hY, hF⟩ := I
  have hB : cf_B p n := fun k hk => (hA k hk).2.2
  unfold wpX_central
  dsimp only
  refine cf_learn hA hP hF (fun kn D C R h => ⟨129, cf_x_central 128 0 P rfl hP ?_⟩)
  unfold wpY_central
  dsimp only
  exact cf_ywork hY hB (fun fi hf => cf_ycl hY hP ⟨129, cf_y_central (b := cf_mem C) hY hP hf h.1 128 0 (nI P) rfl ⟨rfl, cf_mk hP hA hY (fun _ => h)⟩⟩)
theorem i_vc_smallestCore {k : Nat} {u : SX} {v : SY} (I : i_Rel k u v) (hk : k + 3 ≤ 1536) : wpX_smallestCore (fun r u' => wpY_smallestCore (fun r' v' => r' = r ∧ i_Rel (k + 3) u' v') v) u := by
  obtain ⟨P, p, n, kn, ap, an, D, C, R, th, ye, no, fi, rfl, rfl, hP, hA, hY, hF⟩ := I
  have hB : cf_B p n := fun k hk => (hA k hk).2.2
  unfold wpX_smallestCore
  dsimp only
  refine cf_learn hA hP hF (fun kn D C R h => ⟨129, cf_x_small 128 0 (-1) rfl ?_⟩)
  unfold wpY_smallestCore
  dsimp only
  exact cf_ywork hY hB (fun fi hf => ⟨129, cf_y_small (b := cf_mem C) hY hP hf h.1 128 0 (-1) rfl ⟨rfl, cf_mk hP hA hY (fun _ => h)⟩⟩)
theorem i_vc_mostTogether {k : Nat} {u : SX} {v : SY} (I : i_Rel k u v) (hk : k + 3 ≤ 1536) : wpX_mostTogether (fun r u' => wpY_mostTogether (fun r' v' => r' = r ∧ i_Rel (k + 3) u' v') v) u := by
  obtain ⟨P, p, n, kn, ap, an, D, C, R, th, ye, no, fi, rfl, rfl, hP, hA, hY, hF⟩ := I
  have hB : cf_B p n := fun k hk => (hA k hk).2.2
  have m0 : ∀ (Q : Nat → Prop) (w : Nat → Nat), cf_max Q w 0 0 := fun Q w => ⟨fun t ht => absurd ht (Nat.not_lt_zero _), Or.inl rfl, by decide⟩
  unfold wpX_mostTogether
  dsimp only
  refine cf_learn hA hP hF (fun kn D C R h => ⟨129, cf_x_most hP (fun m hm => ?_) 128 0 0 rfl (m0 _ _)⟩)
  unfold wpY_mostTogether
  dsimp only
  exact cf_ywork hY hB (fun fi hf => ⟨129, cf_y_most hY hP hf (fun m' hm' => ⟨congrArg nI (cf_mostU hP h hm hm'), cf_mk hP hA hY (fun _ => h)⟩) 128 0 0 rfl (m0 _ _)⟩)
theorem i_vc_follows {k : Nat} {u : SX} {v : SY} (I : i_Rel k u v) (hk : k + 3 ≤ 1536) (v1 : Int32) (v2 : Int32) : wpX_follows (fun r => wpY_follows (fun r' => r' = r ∧ i_Rel (k + 3) u v) v v1 v2) u v1 v2 := by
  obtain ⟨P, p, n, kn, ap, an, D, C, R, th, ye, no, fi, rfl, rfl, hP, hA, hY, hF⟩ := I
  have hB : cf_B p n := fun k hk => (hA k hk).2.2
  have rel := cf_mk (k := k + 3) (D := D) (fi := fi) hP hA hY hF
  unfold wpX_follows
  dsimp only
  rcases cf_set v1 with ⟨x0, y0⟩ | ⟨a, ha, rfl, x1, y1⟩
  · refine x0 _ (br_t rfl ?_)
    unfold wpY_follows
    dsimp only
    exact y0 _ _ (br_t rfl ⟨17, cf_yfo0 ⟨rfl, rel⟩ 16 0 rfl⟩)
  · refine x1 _ (br_f (by decide) ?_)
    rcases cf_set v2 with ⟨x0, y0⟩ | ⟨c, hc, rfl, x2, y2⟩
    · refine x0 _ (br_t rfl ?_)
      unfold wpY_follows
      dsimp only
      exact y1 _ _ (br_f (by decide) (y0 _ _ (br_t rfl ⟨17, cf_yfo0 ⟨rfl, rel⟩ 16 0 rfl⟩)))
    · refine x2 _ (br_f (by decide) (cf_solve hA hc ha (fun r hr => ?_)))
      rcases hr with ⟨v, hv, e, g, _⟩ | ⟨e, l⟩
      · subst e
        refine br_t (nI_pos' (by omega)) ?_
        unfold wpY_follows
        dsimp only
        exact y1 _ _ (br_f (by decide) (y2 _ _ (br_f (by decide) ⟨17, cf_yfo1 hY hB hP ha hc (fun z => absurd g (z v hv)) (fun _ _ _ => ⟨rfl, rel⟩) 16 0 rfl (fun _ h => absurd h (Nat.not_lt_zero _))⟩)))
      · subst e
        refine br_f (by decide) ?_
        unfold wpY_follows
        dsimp only
        exact y1 _ _ (br_f (by decide) (y2 _ _ (br_f (by decide) ⟨17, cf_yfo1 hY hB hP ha hc (fun _ => ⟨rfl, rel⟩) (fun v hv g => absurd g (l v hv)) 16 0 rfl (fun _ h => absurd h (Nat.not_lt_zero _))⟩)))
end
