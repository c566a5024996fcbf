section
/-! ===== Int32 by its bits: bt x i ===== -/
def bt (x : Int32) (i : Nat) : Bool := x.toBitVec.getLsbD i
theorem b_ext {x y : Int32} (h : ∀ i, i < 32 → bt x i = bt y i) : x = y := Int32.toBitVec_inj.mp (BitVec.eq_of_getLsbD_eq (fun i hi => h i hi))
theorem b_or (x y : Int32) (i : Nat) : bt (x ||| y) i = (bt x i || bt y i) := by unfold bt; rw [Int32.toBitVec_or, BitVec.getLsbD_or]
theorem b_and (x y : Int32) (i : Nat) : bt (x &&& y) i = (bt x i && bt y i) := by unfold bt; rw [Int32.toBitVec_and, BitVec.getLsbD_and]
theorem b_xor (x y : Int32) (i : Nat) : bt (x ^^^ y) i = (bt x i ^^ bt y i) := by unfold bt; rw [Int32.toBitVec_xor, BitVec.getLsbD_xor]
theorem b_big {x : Int32} {i : Nat} (h : 32 ≤ i) : bt x i = false := BitVec.getLsbD_of_ge _ _ h
theorem b_255 (i : Nat) : bt 255 i = decide (i < 8) := by
  rcases Nat.lt_or_ge i 32 with h | h
  · exact (by decide +kernel : ∀ i, i < 32 → bt 255 i = decide (i < 8)) i h
  · rw [b_big h, decide_eq_false (by omega)]
theorem b_65535 (i : Nat) : bt 65535 i = decide (i < 16) := by
  rcases Nat.lt_or_ge i 32 with h | h
  · exact (by decide +kernel : ∀ i, i < 32 → bt 65535 i = decide (i < 16)) i h
  · rw [b_big h, decide_eq_false (by omega)]
theorem b_m1 : ∀ i, i < 32 → bt (-1) i = true := by decide +kernel
theorem b_0 (i : Nat) : bt 0 i = false := BitVec.getLsbD_zero
theorem s_l : ∀ n, n < 32 → ((nI n &&& 31).toBitVec.smod 32).toNat = n := by decide +kernel
theorem s_u : ∀ n, n < 32 → (((nI n).toUInt32 &&& Int32.toUInt32 31).toBitVec % 32).toNat = n := by decide +kernel
theorem b_shl (n : Nat) (hn : n < 32) (x : Int32) {i : Nat} (hi : i < 32) : bt (x <<< (nI n &&& 31)) i = (decide (n ≤ i) && bt x (i - n)) := by
  unfold bt
  rw [Int32.toBitVec_shiftLeft]
  show (x.toBitVec <<< ((nI n &&& 31).toBitVec.smod 32).toNat).getLsbD i = _
  rw [s_l n hn, BitVec.getLsbD_shiftLeft]
  rcases Nat.lt_or_ge i n with h | h
  · simp [h, Nat.not_le.mpr h]
  · simp [hi, h, Nat.not_lt.mpr h]
theorem b_ushr (n : Nat) (hn : n < 32) (x : Int32) (i : Nat) : bt ((x.toUInt32 >>> ((nI n).toUInt32 &&& Int32.toUInt32 31)).toInt32) i = bt x (n + i) := by
  show (x.toUInt32 >>> ((nI n).toUInt32 &&& Int32.toUInt32 31)).toBitVec.getLsbD i = x.toUInt32.toBitVec.getLsbD (n + i)
  rw [UInt32.toBitVec_shiftRight]
  show (x.toUInt32.toBitVec >>> (((nI n).toUInt32 &&& Int32.toUInt32 31).toBitVec % 32).toNat).getLsbD i = _
  rw [s_u n hn, BitVec.getLsbD_ushiftRight]
theorem b_sshr (n : Nat) (hn : n < 32) (x : Int32) {i : Nat} (hi : i < 32) : bt (x >>> (nI n &&& 31)) i = if n + i < 32 then bt x (n + i) else bt x 31 := by
  unfold bt
  rw [Int32.toBitVec_shiftRight]
  show (x.toBitVec.sshiftRight ((nI n &&& 31).toBitVec.smod 32).toNat).getLsbD i = _
  rw [s_l n hn, BitVec.getLsbD_sshiftRight, BitVec.msb_eq_getLsbD_last]
  simp [hi]
theorem ts_bit {w : Int64} {s : UInt64} {j : Nat} (hj : j < 64) (hs : s.toNat = j) : ((w.toUInt64 >>> s).toInt64 &&& 1) = 0 ↔ w.toBitVec.getLsbD j = false := by
  have e : (w.toUInt64 >>> s).toInt64.toBitVec = w.toBitVec >>> j := by
    apply BitVec.eq_of_toNat_eq
    show (w.toUInt64 >>> s).toNat = _
    rw [UInt64.toNat_shiftRight, hs, Nat.mod_eq_of_lt hj, BitVec.toNat_ushiftRight]
    rfl
  rw [← Int64.toBitVec_inj, Int64.toBitVec_and, e]
  show w.toBitVec >>> j &&& 1#64 = 0#64 ↔ _
  constructor
  · intro h
    have t := congrArg (fun x => x.getLsbD 0) h
    simpa using t
  · intro h
    apply BitVec.eq_of_getLsbD_eq
    intro i hi
    cases i with
    | zero => simp [h]
    | succ i => simp
theorem wb_c : ∀ k, k < 64 → ((nI k).toInt64 &&& 63) = lN k := by decide +kernel
theorem wb_cu : ∀ k, k < 64 → ((nI k).toInt64.toUInt64 &&& Int64.toUInt64 63) = UInt64.ofNat k := by decide +kernel
theorem wb_sm : ∀ k, k < 64 → (BitVec.ofNat 64 k).smod 64 = BitVec.ofNat 64 k := by decide +kernel
/-! ===== one place of a function changed ===== -/
def fu_ {α : Type} (f : Nat → α) (k : Nat) (x : α) : Nat → α := fun j => if j = k then x else f j
theorem fu_s {α : Type} {f : Nat → α} {k : Nat} {x : α} : fu_ f k x k = x := if_pos rfl
theorem fu_n {α : Type} {f : Nat → α} {k j : Nat} {x : α} (h : j ≠ k) : fu_ f k x j = f j := if_neg h
/-! ===== tests of one bit ===== -/
theorem qa_b1 (i : Nat) : bt 1 i = decide (i = 0) := by
  rcases Nat.lt_or_ge i 32 with h | h
  · exact (by decide +kernel : ∀ i, i < 32 → bt 1 i = decide (i = 0)) i h
  · rw [b_big h, decide_eq_false (by omega)]
theorem qa_one (y : Int32) : (y &&& 1) = 0 ↔ bt y 0 = false := by
  constructor
  · intro h
    have t := congrArg (fun z => bt z 0) h
    simp only [b_and, qa_b1, b_0] at t
    simpa using t
  · intro h
    apply b_ext
    intro i hi
    rw [b_and, qa_b1, b_0]
    by_cases e : i = 0
    · rw [e, h]; rfl
    · rw [decide_eq_false e, Bool.and_false]
theorem qa_one1 (y : Int32) : (y &&& 1) = 1 ↔ bt y 0 = true := by
  constructor
  · intro h
    have t := congrArg (fun z => bt z 0) h
    simp only [b_and, qa_b1] at t
    simpa using t
  · intro h
    apply b_ext
    intro i hi
    rw [b_and, qa_b1]
    by_cases e : i = 0
    · rw [e, h]; rfl
    · rw [decide_eq_false e, Bool.and_false]
theorem qa_t (x : Int32) (n : Nat) (hn : n < 32) : (((x.toUInt32 >>> ((nI n).toUInt32 &&& Int32.toUInt32 31)).toInt32) &&& 1) = 0 ↔ bt x n = false := by
  rw [qa_one, b_ushr n hn, Nat.add_zero]
theorem qa_a (x : Int32) (n : Nat) (hn : n < 32) : ((x >>> (nI n &&& 31)) &&& 1) = 0 ↔ bt x n = false := by
  rw [qa_one, b_sshr n hn x (by omega), if_pos (by omega), Nat.add_zero]
theorem qa_a1 (x : Int32) (n : Nat) (hn : n < 32) : ((x >>> (nI n &&& 31)) &&& 1) = 1 ↔ bt x n = true := by
  rw [qa_one1, b_sshr n hn x (by omega), if_pos (by omega), Nat.add_zero]
theorem qa_br {c A B : Prop} (b : Bool) (h : c ↔ b = false) (f : b = false → A) (g : b = true → B) : (c → A) ∧ (¬ c → B) := by
  refine ⟨fun z => f (h.mp z), fun z => g ?_⟩
  cases b with
  | false => exact absurd (h.mpr rfl) z
  | true => rfl
theorem qa_br1 {c A B : Prop} (b : Bool) (h : c ↔ b = true) (f : b = true → A) (g : b = false → B) : (c → A) ∧ (¬ c → B) := by
  refine ⟨fun z => f (h.mp z), fun z => g ?_⟩
  cases b with
  | true => exact absurd (h.mpr rfl) z
  | false => rfl
/-! ===== set, clear, as function updates ===== -/
theorem qa_sh1 (n : Nat) (hn : n < 32) (i : Nat) : bt ((1 : Int32) <<< (nI n &&& 31)) i = decide (i = n) := by
  rcases Nat.lt_or_ge i 32 with h | h
  · rw [b_shl n hn _ h, qa_b1]
    by_cases e : i = n
    · rw [e]; simp
    · by_cases g : n ≤ i
      · rw [decide_eq_true g, decide_eq_false (show ¬ i - n = 0 by omega), decide_eq_false e]; rfl
      · rw [decide_eq_false g, decide_eq_false e]; rfl
  · rw [b_big h, decide_eq_false (by omega)]
theorem qa_set (x : Int32) (n : Nat) (hn : n < 32) : bt (x ||| ((1 : Int32) <<< (nI n &&& 31))) = fu_ (bt x) n true := by
  funext i
  rw [b_or, qa_sh1 n hn]
  by_cases e : i = n
  · rw [e, fu_s]; simp
  · rw [fu_n e, decide_eq_false e, Bool.or_false]
theorem qa_not (y : Int32) (i : Nat) (hi : i < 32) : bt (y ^^^ (-1)) i = !(bt y i) := by
  rw [b_xor, b_m1 i hi]; cases bt y i <;> rfl
theorem qa_clr (x : Int32) (n : Nat) (hn : n < 32) : bt (x &&& (((1 : Int32) <<< (nI n &&& 31)) ^^^ (-1))) = fu_ (bt x) n false := by
  funext i
  rcases Nat.lt_or_ge i 32 with h | h
  · rw [b_and, qa_not _ i h, qa_sh1 n hn]
    by_cases e : i = n
    · rw [e, fu_s]; simp
    · rw [fu_n e, decide_eq_false e]; simp
  · rw [b_big h, fu_n (show i ≠ n by omega), b_big h]
theorem qa_cp (x y : Int32) (m n : Nat) (hm : m < 32) (hn : n < 32) : bt (x ||| ((((y.toUInt32 >>> ((nI m).toUInt32 &&& Int32.toUInt32 31)).toInt32) &&& 1) <<< (nI n &&& 31))) = fu_ (bt x) n (bt x n || bt y m) := by
  funext i
  rcases Nat.lt_or_ge i 32 with h | h
  · rw [b_or, b_shl n hn _ h, b_and, b_ushr m hm, qa_b1]
    by_cases e : i = n
    · rw [e, fu_s]; simp
    · rw [fu_n e]
      by_cases g : n ≤ i
      · rw [decide_eq_false (show ¬ i - n = 0 by omega)]; simp
      · rw [decide_eq_false g]; simp
  · rw [b_big h, fu_n (show i ≠ n by omega), b_big h]
theorem qa_lo : ∀ n, n < 9 → ∀ i, i < 32 → bt (((1 : Int32) <<< (nI n &&& 31)) - 1) i = decide (i < n) := by decide +kernel
theorem qa_run (n m : Nat) (hn : n < 9) (hm : m < 32) (i : Nat) (hi : i < 32) : bt ((((1 : Int32) <<< (nI n &&& 31)) - 1) <<< (nI m &&& 31)) i = decide (m ≤ i ∧ i < m + n) := by
  rw [b_shl m hm _ hi, qa_lo n hn _ (by omega)]
  by_cases g : m ≤ i
  · by_cases e : i < m + n
    · rw [decide_eq_true g, decide_eq_true (show i - m < n by omega), decide_eq_true ⟨g, e⟩]; rfl
    · rw [decide_eq_false (show ¬ i - m < n by omega), decide_eq_false (show ¬ (m ≤ i ∧ i < m + n) from fun z => e z.2)]; simp
  · rw [decide_eq_false g, decide_eq_false (show ¬ (m ≤ i ∧ i < m + n) from fun z => g z.1)]; rfl
theorem qa_and0 {x y : Int32} (h : x &&& y = 0) (i : Nat) (hx : bt x i = true) : bt y i = false := by
  have t : bt (x &&& y) i = false := by rw [h, b_0]
  rw [b_and, hx] at t
  simpa using t
theorem qa_255 (x : Int32) (m v : Nat) (hm : m < 32) (hv : v < 8) : bt ((x.toUInt32 >>> ((nI m).toUInt32 &&& Int32.toUInt32 31)).toInt32 &&& 255) v = bt x (m + v) := by
  rw [b_and, b_ushr m hm, b_255, decide_eq_true hv, Bool.and_true]
/-! ===== the longs ===== -/
def gb_ (a : Nat → Int64) : Nat → Nat → Bool := fun r g => (a r).toBitVec.getLsbD g
theorem qa_gt (a : Nat → Int64) (r g : Nat) (hg : g < 64) : ((((a r).toUInt64 >>> ((nI g).toInt64.toUInt64 &&& Int64.toUInt64 63)).toInt64) &&& 1) = 0 ↔ gb_ a r g = false := by
  rw [wb_cu g hg]
  exact ts_bit hg (by show (BitVec.ofNat 64 g).toNat = g; rw [BitVec.toNat_ofNat, Nat.mod_eq_of_lt (by omega)])
theorem qa_gs1 (g : Nat) (hg : g < 64) (i : Nat) : ((1 : Int64) <<< ((nI g).toInt64 &&& 63)).toBitVec.getLsbD i = decide (i = g) := by
  have e : ∀ g, g < 64 → ((1 : Int64) <<< ((nI g).toInt64 &&& 63)).toBitVec = BitVec.twoPow 64 g := by decide +kernel
  rw [e g hg, BitVec.getLsbD_twoPow]
  by_cases z : i = g
  · simp [z, hg]
  · simp [z, show ¬ g = i by omega]
theorem qa_gor (x : Int64) (g : Nat) (hg : g < 64) (i : Nat) : (x ||| ((1 : Int64) <<< ((nI g).toInt64 &&& 63))).toBitVec.getLsbD i = (x.toBitVec.getLsbD i || decide (i = g)) := by
  rw [Int64.toBitVec_or, BitVec.getLsbD_or, qa_gs1 g hg]
theorem qa_gand (x y : Int64) (i : Nat) : (x &&& y).toBitVec.getLsbD i = (x.toBitVec.getLsbD i && y.toBitVec.getLsbD i) := by
  rw [Int64.toBitVec_and, BitVec.getLsbD_and]
theorem qa_gu (a : Nat → Int64) (k : Nat) (x : Int64) : gb_ (vp_updL a k x) = fu_ (gb_ a) k (fun g => x.toBitVec.getLsbD g) := by
  funext r
  by_cases e : r = k
  · rw [e, fu_s]; funext g; show (vp_updL a k x k).toBitVec.getLsbD g = _; rw [pk_uLs]
  · rw [fu_n e]; funext g; show (vp_updL a k x r).toBitVec.getLsbD g = _; rw [pk_uLn e]; rfl
/-! ===== bytes, places ===== -/
def cn_ (a : Nat → Int32) : Nat → Nat := fun j => (a j).toNatClampNeg
theorem qa_cu (a : Nat → Int32) (k n : Nat) (hn : n < 2 ^ 31) : cn_ (upd a k (nI n)) = fu_ (cn_ a) k n := by
  funext r
  by_cases e : r = k
  · rw [e, fu_s]; show (upd a k (nI n) k).toNatClampNeg = _; rw [pk_us, nI_clamp hn]
  · rw [fu_n e]; show (upd a k (nI n) r).toNatClampNeg = _; rw [pk_un e]; rfl
theorem qa_cm (a : Nat → Int32) (k : Nat) : cn_ (upd a k (-1)) = fu_ (cn_ a) k 0 := by
  funext r
  by_cases e : r = k
  · rw [e, fu_s]; show (upd a k (-1) k).toNatClampNeg = _; rw [pk_us]; rfl
  · rw [fu_n e]; show (upd a k (-1) r).toNatClampNeg = _; rw [pk_un e]; rfl
theorem qa_by : ∀ n, n < 128 → (nI n).toInt8.toInt32 = nI n := by decide +kernel
theorem qa_vb (n : Nat) (hn : n < 128) : vp_nar .byte (nI n) = nI n := by
  rw [vp_nar_byte, qa_by n hn]
theorem qa_m1 {n : Nat} (hn : n < 2 ^ 31) : ¬ (-1 : Int32) = nI n := by
  intro h
  have t := congrArg Int32.toInt h
  rw [nI_toInt hn] at t
  have : (-1 : Int32).toInt = -1 := by decide
  omega
theorem qa_pl (p v : Nat) : (8 : Int32) * nI p + nI v = nI (8 * p + v) := by
  show nI 8 * nI p + nI v = _
  rw [pk_mul, nI_add]
theorem qa_p8 (p : Nat) : (8 : Int32) * nI p = nI (8 * p) := by
  show nI 8 * nI p = _
  rw [pk_mul]
theorem qa_nf {x : Bool} (h : ¬ x = false) : x = true := by cases x <;> first | rfl | exact absurd rfl h
theorem qa_nt {x : Bool} (h : ¬ x = true) : x = false := by cases x <;> first | rfl | exact absurd rfl h
theorem qa_tf {x : Bool} {A : Prop} (h : x = true) (h' : x = false) : A := by rw [h] at h'; exact absurd h' (by decide)
end
section
/-! ===== the pure picture: S processes, P present, M mapped, G pages, R resident, Z regions; b backing, gp a page's group, ix its index; o s l f og gr of a region ===== -/
def qk_R (Z : Nat → Bool) (o s l f og : Nat → Nat) (gr : Nat → Nat → Bool) : Prop :=
  ∀ r, r < 32 → Z r = true → o r < 4 ∧ 1 ≤ l r ∧ s r + l r ≤ 8 ∧ f r + l r ≤ 8 ∧ og r < 64 ∧ gr r (og r) = true
def qk_D (Z : Nat → Bool) (o s l : Nat → Nat) : Prop :=
  ∀ r t, r < 32 → t < 32 → Z r = true → Z t = true → r ≠ t → 8 * o r + s r + l r ≤ 8 * o t + s t ∨ 8 * o t + s t + l t ≤ 8 * o r + s r
def qk_H (H : Nat → Prop) (M Z : Nat → Bool) (o s l : Nat → Nat) : Prop :=
  ∀ r c, r < 32 → Z r = true → 8 * o r + s r ≤ c → c < 8 * o r + s r + l r → M c = true ∨ H c
def qk_M (S M Z : Nat → Bool) (b gp ix o s l f : Nat → Nat) (gr : Nat → Nat → Bool) : Prop :=
  ∀ c, c < 32 → M c = true → S (c / 8) = true ∧ ∃ r, r < 32 ∧ Z r = true ∧ 8 * o r + s r ≤ c ∧ c < 8 * o r + s r + l r ∧ gr r (gp (b c)) = true ∧ ix (b c) + (8 * o r + s r) = f r + c
def qk_G (M G : Nat → Bool) (b gp : Nat → Nat) : Prop :=
  (∀ c, c < 32 → M c = true → b c < 32 ∧ G (b c) = true) ∧ (∀ g, g < 32 → G g = true → gp g < 64 ∧ ∃ c, c < 32 ∧ M c = true ∧ b c = g)
def qk_P (P M G R : Nat → Bool) (b : Nat → Nat) : Prop :=
  (∀ g, g < 32 → R g = true → G g = true) ∧ (∀ c, c < 32 → P c = (M c && R (b c)))
/-- no region has place c inside it, other than as its first -/
def qk_N (Z : Nat → Bool) (o s l : Nat → Nat) (c : Nat) : Prop :=
  ∀ r, r < 32 → Z r = true → ¬ (8 * o r + s r < c ∧ c < 8 * o r + s r + l r)
/-! ===== pigeons ===== -/
theorem qk_ph0 : ∀ (n : Nat) (φ : Nat → Nat), (∀ i, i < n + 1 → φ i < n) → (∀ i j, i < n + 1 → j < n + 1 → φ i = φ j → i = j) → False := by
  intro n
  induction n with
  | zero => intro φ h _; exact absurd (h 0 (by omega)) (by omega)
  | succ n ih =>
    intro φ h hi
    refine ih (fun i => if φ i = n then φ (n + 1) else φ i) ?_ ?_
    · intro i hi'
      by_cases e : φ i = n
      · rw [if_pos e]
        have h1 := h (n + 1) (by omega)
        have h2 : φ (n + 1) ≠ n := fun z => absurd (hi i (n + 1) (by omega) (by omega) (by rw [e, z])) (by omega)
        omega
      · rw [if_neg e]
        have h1 := h i (by omega)
        omega
    · intro i j hi' hj' e
      by_cases e1 : φ i = n
      · by_cases e2 : φ j = n
        · exact hi i j (by omega) (by omega) (by rw [e1, e2])
        · rw [if_pos e1, if_neg e2] at e
          exact absurd (hi (n + 1) j (by omega) (by omega) e) (by omega)
      · by_cases e2 : φ j = n
        · rw [if_neg e1, if_pos e2] at e
          exact absurd (hi i (n + 1) (by omega) (by omega) e) (by omega)
        · rw [if_neg e1, if_neg e2] at e
          exact hi i j (by omega) (by omega) e
theorem qk_ph (φ : Nat → Nat) (c : Nat) (hc : c < 32) (h : ∀ i, i < 32 → φ i < 32) (hi : ∀ i j, i < 32 → j < 32 → φ i = φ j → i = j) (hn : ∀ i, i < 32 → φ i ≠ c) : False := by
  refine qk_ph0 31 (fun i => if φ i = 31 then c else φ i) ?_ ?_
  · intro i hi'
    have h1 := h i hi'
    have h2 := hn i hi'
    by_cases e : φ i = 31
    · rw [if_pos e]; omega
    · rw [if_neg e]; omega
  · intro i j hi' hj' e
    have h1 := hn i hi'
    have h2 := hn j hj'
    by_cases e1 : φ i = 31
    · by_cases e2 : φ j = 31
      · exact hi i j hi' hj' (by rw [e1, e2])
      · rw [if_pos e1, if_neg e2] at e
        exact absurd e.symm h2
    · by_cases e2 : φ j = 31
      · rw [if_neg e1, if_pos e2] at e
        exact absurd e h1
      · rw [if_neg e1, if_neg e2] at e
        exact hi i j hi' hj' e
section
variable {S P M G R Z : Nat → Bool} {b gp ix o s l f og : Nat → Nat} {gr : Nat → Nat → Bool} {H : Nat → Prop}
theorem qk_uni (hD : qk_D Z o s l) {r t c : Nat} (hr : r < 32) (ht : t < 32) (zr : Z r = true) (zt : Z t = true) (r1 : 8 * o r + s r ≤ c) (r2 : c < 8 * o r + s r + l r) (t1 : 8 * o t + s t ≤ c) (t2 : c < 8 * o t + s t + l t) : r = t := by
  refine Classical.byContradiction fun n => ?_
  have h := hD r t hr ht zr zt n
  omega
theorem qk_freeR (hR : qk_R Z o s l f og gr) (hD : qk_D Z o s l) (c : Nat) (hc : c < 32) (hn : ∀ r, r < 32 → Z r = true → 8 * o r + s r ≠ c) : ∃ r, r < 32 ∧ Z r = false := by
  refine Classical.byContradiction fun n => ?_
  have all : ∀ r, r < 32 → Z r = true := fun r hr => qa_nf (fun z => n ⟨r, hr, z⟩)
  refine qk_ph (fun r => 8 * o r + s r) c hc ?_ ?_ (fun r hr => hn r hr (all r hr))
  · intro r hr
    have h := hR r hr (all r hr)
    omega
  · intro r t hr ht e
    refine Classical.byContradiction fun ne => ?_
    have h := hD r t hr ht (all r hr) (all t ht) ne
    have h1 := hR r hr (all r hr)
    have h2 := hR t ht (all t ht)
    omega
theorem qk_freeG (hG : qk_G M G b gp) (c : Nat) (hc : c < 32) (hn : M c = true → ∃ d, d < 32 ∧ d ≠ c ∧ M d = true ∧ b d = b c) : ∃ g, g < 32 ∧ G g = false := by
  refine Classical.byContradiction fun n => ?_
  have all : ∀ g, g < 32 → G g = true := fun g hg => qa_nf (fun z => n ⟨g, hg, z⟩)
  have pl : ∀ g, ∃ d, g < 32 → d < 32 ∧ d ≠ c ∧ M d = true ∧ b d = g := by
    intro g
    by_cases hg : g < 32
    · obtain ⟨_, d, hd, md, bd⟩ := hG.2 g hg (all g hg)
      by_cases e : d = c
      · rw [e] at md bd
        obtain ⟨d', h1, h2, h3, h4⟩ := hn md
        exact ⟨d', fun _ => ⟨h1, h2, h3, by rw [h4, bd]⟩⟩
      · exact ⟨d, fun _ => ⟨hd, e, md, bd⟩⟩
    · exact ⟨0, fun z => absurd z hg⟩
  obtain ⟨φ, hφ⟩ := Classical.axiomOfChoice pl
  refine qk_ph φ c hc (fun g hg => (hφ g hg).1) ?_ (fun g hg => (hφ g hg).2.1)
  intro g g' hg hg' e
  have h1 := (hφ g hg).2.2.2
  have h2 := (hφ g' hg').2.2.2
  rw [← h1, ← h2, e]
/-! ===== a region more ===== -/
theorem qk_R_add {k p a n x g : Nat} {w : Nat → Bool} (h : qk_R Z o s l f og gr) (hp : p < 4) (h1 : 1 ≤ n) (h2 : a + n ≤ 8) (h3 : x + n ≤ 8) (h4 : g < 64) (h5 : w g = true) : qk_R (fu_ Z k true) (fu_ o k p) (fu_ s k a) (fu_ l k n) (fu_ f k x) (fu_ og k g) (fu_ gr k w) := by
  intro r hr hz
  by_cases e : r = k
  · subst e; simp only [fu_s]; exact ⟨hp, h1, h2, h3, h4, h5⟩
  · simp only [fu_n e] at hz ⊢; exact h r hr hz
theorem qk_D_add {k p a n : Nat} (h : qk_D Z o s l) (hd : ∀ r, r < 32 → r ≠ k → Z r = true → 8 * o r + s r + l r ≤ 8 * p + a ∨ 8 * p + a + n ≤ 8 * o r + s r) : qk_D (fu_ Z k true) (fu_ o k p) (fu_ s k a) (fu_ l k n) := by
  intro r t hr ht zr zt ne
  by_cases e : r = k
  · have e' : t ≠ k := fun z => ne (by rw [e, z])
    rw [e]
    simp only [fu_s, fu_n e'] at zt ⊢
    exact (hd t ht e' zt).symm
  · by_cases e' : t = k
    · rw [e']
      simp only [fu_s, fu_n e] at zr ⊢
      exact hd r hr e zr
    · simp only [fu_n e, fu_n e'] at zr zt ⊢
      exact h r t hr ht zr zt ne
theorem qk_H_add {H' : Nat → Prop} {k p a n : Nat} (h : qk_H H M Z o s l) (hs : ∀ c, H c → H' c) (hn : ∀ c, 8 * p + a ≤ c → c < 8 * p + a + n → M c = true ∨ H' c) : qk_H H' M (fu_ Z k true) (fu_ o k p) (fu_ s k a) (fu_ l k n) := by
  intro r c hr hz c1 c2
  by_cases e : r = k
  · rw [e] at c1 c2
    simp only [fu_s] at c1 c2
    exact hn c c1 c2
  · simp only [fu_n e] at hz c1 c2
    exact (h r c hr hz c1 c2).imp id (hs c)
theorem qk_M_add {k p a n x : Nat} {w : Nat → Bool} (hk : Z k = false) (h : qk_M S M Z b gp ix o s l f gr) : qk_M S M (fu_ Z k true) b gp ix (fu_ o k p) (fu_ s k a) (fu_ l k n) (fu_ f k x) (fu_ gr k w) := by
  intro c hc hm
  obtain ⟨h1, r, hr, hz, h2⟩ := h c hc hm
  have e : r ≠ k := fun z => by rw [z] at hz; exact qa_tf hz hk
  refine ⟨h1, r, hr, ?_⟩
  simp only [fu_n e]
  exact ⟨hz, h2⟩
/-! ===== a region cut in two ===== -/
theorem qk_R_cut {r k q : Nat} (hr : r < 32) (zr : Z r = true) (ne : k ≠ r) (h1 : 1 ≤ q) (h2 : q < l r) (h : qk_R Z o s l f og gr) : qk_R (fu_ Z k true) (fu_ o k (o r)) (fu_ s k (s r + q)) (fu_ (fu_ l k (l r - q)) r q) (fu_ f k (f r + q)) (fu_ og k (og r)) (fu_ gr k (gr r)) := by
  have hh := h r hr zr
  intro t ht hz
  by_cases e : t = k
  · subst e
    simp only [fu_s, fu_n ne]
    exact ⟨hh.1, by omega, by omega, by omega, hh.2.2.2.2⟩
  · by_cases e' : t = r
    · subst e'
      simp only [fu_s, fu_n e]
      exact ⟨hh.1, by omega, by omega, by omega, hh.2.2.2.2⟩
    · simp only [fu_n e, fu_n e'] at hz ⊢
      exact h t ht hz
theorem qk_D_cut {r k q : Nat} (hr : r < 32) (zr : Z r = true) (ne : k ≠ r) (h1 : 1 ≤ q) (h2 : q < l r) (h : qk_D Z o s l) : qk_D (fu_ Z k true) (fu_ o k (o r)) (fu_ s k (s r + q)) (fu_ (fu_ l k (l r - q)) r q) := by
  have ne' : r ≠ k := fun z => ne z.symm
  intro t u ht hu zt zu n
  by_cases e1 : t = k
  · have f1 : u ≠ k := fun z => n (by rw [e1, z])
    rw [e1]
    by_cases e2 : u = r
    · rw [e2]
      simp only [fu_s, fu_n ne, fu_n ne']
      omega
    · simp only [fu_s, fu_n ne, fu_n f1, fu_n e2] at zu ⊢
      have hh := h r u hr hu zr zu (fun z => e2 z.symm)
      omega
  · by_cases e2 : t = r
    · rw [e2]
      by_cases f1 : u = k
      · rw [f1]
        simp only [fu_s, fu_n ne, fu_n ne']
        omega
      · have f2 : u ≠ r := fun z => n (by rw [e2, z])
        simp only [fu_s, fu_n ne', fu_n f1, fu_n f2] at zu ⊢
        have hh := h r u hr hu zr zu (fun z => f2 z.symm)
        omega
    · by_cases f1 : u = k
      · rw [f1]
        simp only [fu_s, fu_n ne, fu_n e1, fu_n e2] at zt ⊢
        have hh := h t r ht hr zt zr e2
        omega
      · by_cases f2 : u = r
        · rw [f2]
          simp only [fu_s, fu_n ne', fu_n e1, fu_n e2] at zt ⊢
          have hh := h t r ht hr zt zr e2
          omega
        · simp only [fu_n e1, fu_n e2, fu_n f1, fu_n f2] at zt zu ⊢
          exact h t u ht hu zt zu n
theorem qk_H_cut {r k q : Nat} (hr : r < 32) (zr : Z r = true) (ne : k ≠ r) (h1 : 1 ≤ q) (h2 : q < l r) (h : qk_H H M Z o s l) : qk_H H M (fu_ Z k true) (fu_ o k (o r)) (fu_ s k (s r + q)) (fu_ (fu_ l k (l r - q)) r q) := by
  intro t c ht zt c1 c2
  by_cases e1 : t = k
  · rw [e1] at c1 c2
    simp only [fu_s, fu_n ne] at c1 c2
    exact h r c hr zr (by omega) (by omega)
  · by_cases e2 : t = r
    · rw [e2] at c1 c2 e1
      simp only [fu_s, fu_n e1] at c1 c2
      exact h r c hr zr (by omega) (by omega)
    · simp only [fu_n e1, fu_n e2] at zt c1 c2
      exact h t c ht zt c1 c2
theorem qk_M_cut {r k q : Nat} (hk32 : k < 32) (hk : Z k = false) (ne : k ≠ r) (h1 : 1 ≤ q) (h2 : q < l r) (h : qk_M S M Z b gp ix o s l f gr) : qk_M S M (fu_ Z k true) b gp ix (fu_ o k (o r)) (fu_ s k (s r + q)) (fu_ (fu_ l k (l r - q)) r q) (fu_ f k (f r + q)) (fu_ gr k (gr r)) := by
  have ne' : r ≠ k := fun z => ne z.symm
  intro c hc hm
  obtain ⟨g1, t, ht, hz, g2, g3, g4, g5⟩ := h c hc hm
  have e : t ≠ k := fun z => by rw [z] at hz; exact qa_tf hz hk
  by_cases e' : t = r
  · rw [e'] at hz g2 g3 g4 g5 ht
    by_cases x : c < 8 * o r + s r + q
    · refine ⟨g1, r, ht, ?_⟩
      simp only [fu_s, fu_n ne']
      exact ⟨hz, g2, x, g4, g5⟩
    · refine ⟨g1, k, hk32, ?_⟩
      simp only [fu_s, fu_n ne]
      exact ⟨by trivial, by omega, by omega, g4, by omega⟩
  · refine ⟨g1, t, ht, ?_⟩
    simp only [fu_n e, fu_n e']
    exact ⟨hz, g2, g3, g4, g5⟩
theorem qk_N_cut {r k q c : Nat} (hr : r < 32) (zr : Z r = true) (ne : k ≠ r) (h1 : 1 ≤ q) (h2 : q < l r) (h : qk_N Z o s l c) : qk_N (fu_ Z k true) (fu_ o k (o r)) (fu_ s k (s r + q)) (fu_ (fu_ l k (l r - q)) r q) c := by
  have hh := h r hr zr
  intro t ht zt
  by_cases e1 : t = k
  · rw [e1]
    simp only [fu_s, fu_n ne]
    omega
  · by_cases e2 : t = r
    · rw [e2] at e1 ⊢
      simp only [fu_s, fu_n e1]
      omega
    · simp only [fu_n e1, fu_n e2] at zt ⊢
      exact h t ht zt
theorem qk_N_new {r k q : Nat} (hr : r < 32) (zr : Z r = true) (ne : k ≠ r) (h1 : 1 ≤ q) (h2 : q < l r) (h : qk_D Z o s l) : qk_N (fu_ Z k true) (fu_ o k (o r)) (fu_ s k (s r + q)) (fu_ (fu_ l k (l r - q)) r q) (8 * o r + s r + q) := by
  intro t ht zt
  by_cases e1 : t = k
  · rw [e1]
    simp only [fu_s, fu_n ne]
    omega
  · by_cases e2 : t = r
    · rw [e2] at e1 ⊢
      simp only [fu_s, fu_n e1]
      omega
    · simp only [fu_n e1, fu_n e2] at zt ⊢
      have hh := h t r ht hr zt zr e2
      omega
/-! ===== a page made for a place ===== -/
theorem qk_H_pg {H' : Nat → Prop} {c : Nat} (h : qk_H H M Z o s l) (hh : ∀ x, H x → x = c ∨ H' x) : qk_H H' (fu_ M c true) Z o s l := by
  intro r x hr zr x1 x2
  by_cases e : x = c
  · left; rw [e, fu_s]
  · rw [fu_n e]
    rcases h r x hr zr x1 x2 with m | m
    · exact Or.inl m
    · exact Or.inr ((hh x m).resolve_left e)
theorem qk_ng (hG : qk_G M G b gp) {g x : Nat} (hg : G g = false) (hx : x < 32) (hm : M x = true) : b x ≠ g := by
  intro z
  have t := (hG.1 x hx hm).2
  rw [z] at t
  exact qa_tf t hg
theorem qk_M_pg {c g r q y : Nat} (h : qk_M S M Z b gp ix o s l f gr) (hG : qk_G M G b gp) (hg : G g = false) (hr : r < 32) (zr : Z r = true) (c1 : 8 * o r + s r ≤ c) (c2 : c < 8 * o r + s r + l r) (hS : S (c / 8) = true) (hq : gr r q = true) (hy : y + (8 * o r + s r) = f r + c) : qk_M S (fu_ M c true) Z (fu_ b c g) (fu_ gp g q) (fu_ ix g y) o s l f gr := by
  intro x hx hm
  by_cases e : x = c
  · subst e
    refine ⟨hS, r, hr, zr, c1, c2, ?_, ?_⟩
    · simp only [fu_s]; exact hq
    · simp only [fu_s]; exact hy
  · rw [fu_n e] at hm
    have n := qk_ng hG hg hx hm
    rw [fu_n e, fu_n n, fu_n n]
    exact h x hx hm
theorem qk_G_pg {c g q : Nat} (hG : qk_G M G b gp) (hc : c < 32) (hg32 : g < 32) (hg : G g = false) (hq : q < 64) (ho : M c = true → ∃ d, d < 32 ∧ d ≠ c ∧ M d = true ∧ b d = b c) : qk_G (fu_ M c true) (fu_ G g true) (fu_ b c g) (fu_ gp g q) := by
  refine ⟨fun x hx hm => ?_, fun j hj hm => ?_⟩
  · by_cases e : x = c
    · rw [e, fu_s, fu_s]; exact ⟨hg32, rfl⟩
    · rw [fu_n e] at hm ⊢
      rw [fu_n (qk_ng hG hg hx hm)]
      exact hG.1 x hx hm
  · by_cases e : j = g
    · rw [e, fu_s]
      exact ⟨hq, c, hc, fu_s, fu_s⟩
    · rw [fu_n e] at hm ⊢
      obtain ⟨h1, d, hd, md, bd⟩ := hG.2 j hj hm
      refine ⟨h1, ?_⟩
      by_cases e' : d = c
      · rw [e'] at md bd
        obtain ⟨d', k1, k2, k3, k4⟩ := ho md
        exact ⟨d', k1, by rw [fu_n k2]; exact k3, by rw [fu_n k2, k4, bd]⟩
      · exact ⟨d, hd, by rw [fu_n e']; exact md, by rw [fu_n e']; exact bd⟩
theorem qk_P_pg {c g : Nat} (h : qk_P P M G R b) (hG : qk_G M G b gp) (hg : G g = false) : qk_P (fu_ P c true) (fu_ M c true) (fu_ G g true) (fu_ R g true) (fu_ b c g) := by
  refine ⟨fun j hj hm => ?_, fun x hx => ?_⟩
  · by_cases e : j = g
    · rw [e, fu_s]
    · rw [fu_n e] at hm ⊢
      exact h.1 j hj hm
  · by_cases e : x = c
    · rw [e, fu_s, fu_s, fu_s, fu_s]; rfl
    · rw [fu_n e, fu_n e, fu_n e, h.2 x hx]
      cases hm : M x with
      | false => rfl
      | true => rw [fu_n (qk_ng hG hg hx hm)]
/-! ===== a place gives up its page ===== -/
theorem qk_H_ub {H' : Nat → Prop} {c : Nat} (h : qk_H H M Z o s l) (hh : ∀ x, H x → H' x) (hc : H' c) : qk_H H' (fu_ M c false) Z o s l := by
  intro r x hr zr x1 x2
  by_cases e : x = c
  · right; rw [e]; exact hc
  · rw [fu_n e]
    exact (h r x hr zr x1 x2).imp id (hh x)
theorem qk_M_ub {c y : Nat} (h : qk_M S M Z b gp ix o s l f gr) : qk_M S (fu_ M c false) Z (fu_ b c y) gp ix o s l f gr := by
  intro x hx hm
  by_cases e : x = c
  · rw [e, fu_s] at hm; exact absurd hm (by decide)
  · rw [fu_n e] at hm ⊢
    exact h x hx hm
theorem qk_G_ub1 {c y : Nat} (hG : qk_G M G b gp) (ho : ∃ d, d < 32 ∧ d ≠ c ∧ M d = true ∧ b d = b c) : qk_G (fu_ M c false) G (fu_ b c y) gp := by
  refine ⟨fun x hx hm => ?_, fun j hj hm => ?_⟩
  · by_cases e : x = c
    · rw [e, fu_s] at hm; exact absurd hm (by decide)
    · rw [fu_n e] at hm ⊢
      exact hG.1 x hx hm
  · obtain ⟨h1, d, hd, md, bd⟩ := hG.2 j hj hm
    refine ⟨h1, ?_⟩
    by_cases e' : d = c
    · rw [e'] at md bd
      obtain ⟨d', k1, k2, k3, k4⟩ := ho
      exact ⟨d', k1, by rw [fu_n k2]; exact k3, by rw [fu_n k2, k4, bd]⟩
    · exact ⟨d, hd, by rw [fu_n e']; exact md, by rw [fu_n e']; exact bd⟩
theorem qk_G_ub0 {c y : Nat} (hG : qk_G M G b gp) (ho : ∀ d, d < 32 → M d = true → b d = b c → d = c) : qk_G (fu_ M c false) (fu_ G (b c) false) (fu_ b c y) gp := by
  refine ⟨fun x hx hm => ?_, fun j hj hm => ?_⟩
  · by_cases e : x = c
    · rw [e, fu_s] at hm; exact absurd hm (by decide)
    · rw [fu_n e] at hm ⊢
      rw [fu_n (fun z => e (ho x hx hm z))]
      exact hG.1 x hx hm
  · by_cases e : j = b c
    · rw [e, fu_s] at hm; exact absurd hm (by decide)
    · rw [fu_n e] at hm
      obtain ⟨h1, d, hd, md, bd⟩ := hG.2 j hj hm
      have e' : d ≠ c := fun z => e (by rw [← bd, z])
      exact ⟨h1, d, hd, by rw [fu_n e']; exact md, by rw [fu_n e']; exact bd⟩
theorem qk_P_ub1 {c y : Nat} (h : qk_P P M G R b) : qk_P (fu_ P c false) (fu_ M c false) G R (fu_ b c y) := by
  refine ⟨h.1, fun x hx => ?_⟩
  by_cases e : x = c
  · rw [e, fu_s, fu_s]; rfl
  · rw [fu_n e, fu_n e, fu_n e]; exact h.2 x hx
theorem qk_P_ub0 {c y : Nat} (h : qk_P P M G R b) (ho : ∀ d, d < 32 → M d = true → b d = b c → d = c) : qk_P (fu_ P c false) (fu_ M c false) (fu_ G (b c) false) (fu_ R (b c) false) (fu_ b c y) := by
  refine ⟨fun j hj hm => ?_, fun x hx => ?_⟩
  · by_cases e : j = b c
    · rw [e, fu_s] at hm; exact absurd hm (by decide)
    · rw [fu_n e] at hm ⊢
      exact h.1 j hj hm
  · by_cases e : x = c
    · rw [e, fu_s, fu_s]; rfl
    · rw [fu_n e, fu_n e, fu_n e, h.2 x hx]
      cases hm : M x with
      | false => rfl
      | true => rw [fu_n (fun z => e (ho x hx hm z))]
/-! ===== a place takes another's page ===== -/
theorem qk_M_cp {c t k : Nat} (h : qk_M S M Z b gp ix o s l f gr) (hk : k < 32) (zk : Z k = true) (t1 : 8 * o k + s k ≤ t) (t2 : t < 8 * o k + s k + l k) (hS : S (t / 8) = true) (hq : gr k (gp (b c)) = true) (hy : ix (b c) + (8 * o k + s k) = f k + t) : qk_M S (fu_ M t true) Z (fu_ b t (b c)) gp ix o s l f gr := by
  intro x hx hm
  by_cases e : x = t
  · subst e
    refine ⟨hS, k, hk, zk, t1, t2, ?_, ?_⟩
    · rw [fu_s]; exact hq
    · rw [fu_s]; exact hy
  · rw [fu_n e] at hm ⊢
    exact h x hx hm
theorem qk_G_cp {c t : Nat} (hG : qk_G M G b gp) (hc : c < 32) (mc : M c = true) (mt : M t = false) : qk_G (fu_ M t true) G (fu_ b t (b c)) gp := by
  refine ⟨fun x hx hm => ?_, fun j hj hm => ?_⟩
  · by_cases e : x = t
    · rw [e, fu_s]; exact hG.1 c hc mc
    · rw [fu_n e] at hm ⊢
      exact hG.1 x hx hm
  · obtain ⟨h1, d, hd, md, bd⟩ := hG.2 j hj hm
    have e' : d ≠ t := fun z => by rw [z] at md; exact qa_tf md mt
    exact ⟨h1, d, hd, by rw [fu_n e']; exact md, by rw [fu_n e']; exact bd⟩
theorem qk_P_cp {c t : Nat} (h : qk_P P M G R b) (hc : c < 32) (mc : M c = true) : qk_P (fu_ P t (P c)) (fu_ M t true) G R (fu_ b t (b c)) := by
  refine ⟨h.1, fun x hx => ?_⟩
  by_cases e : x = t
  · rw [e, fu_s, fu_s, fu_s, h.2 c hc, mc]
  · rw [fu_n e, fu_n e, fu_n e]; exact h.2 x hx
/-! ===== a region less ===== -/
theorem qk_rmZ {k r : Nat} (h : fu_ Z k false r = true) : r ≠ k ∧ Z r = true := by
  have e : r ≠ k := fun z => by rw [z, fu_s] at h; exact absurd h (by decide)
  rw [fu_n e] at h
  exact ⟨e, h⟩
theorem qk_R_rm {k : Nat} (h : qk_R Z o s l f og gr) : qk_R (fu_ Z k false) o s l f og gr := fun r hr zr => h r hr (qk_rmZ zr).2
theorem qk_D_rm {k : Nat} (h : qk_D Z o s l) : qk_D (fu_ Z k false) o s l := fun r t hr ht zr zt n => h r t hr ht (qk_rmZ zr).2 (qk_rmZ zt).2 n
theorem qk_H_rm {k : Nat} (h : qk_H H M Z o s l) : qk_H H M (fu_ Z k false) o s l := fun r c hr zr => h r c hr (qk_rmZ zr).2
theorem qk_N_rm {k c : Nat} (h : qk_N Z o s l c) : qk_N (fu_ Z k false) o s l c := fun r hr zr => h r hr (qk_rmZ zr).2
theorem qk_M_rm {k : Nat} (h : qk_M S M Z b gp ix o s l f gr) (hn : ∀ c, 8 * o k + s k ≤ c → c < 8 * o k + s k + l k → M c = false) : qk_M S M (fu_ Z k false) b gp ix o s l f gr := by
  intro c hc hm
  obtain ⟨h1, r, hr, zr, c1, c2, h2⟩ := h c hc hm
  have e : r ≠ k := fun z => by rw [z] at c1 c2; exact qa_tf hm (hn c c1 c2)
  exact ⟨h1, r, hr, by rw [fu_n e]; exact zr, c1, c2, h2⟩
/-! ===== groups given up ===== -/
theorem qk_R_gc {gr' : Nat → Nat → Bool} {kp : Nat → Bool} (h : qk_R Z o s l f og gr) (hg : ∀ r, r < 32 → ∀ g, gr' r g = (gr r g && kp g)) (hk : ∀ r, r < 32 → Z r = true → kp (og r) = true) : qk_R Z o s l f og gr' := by
  intro r hr zr
  obtain ⟨h1, h2, h3, h4, h5, h6⟩ := h r hr zr
  exact ⟨h1, h2, h3, h4, h5, by rw [hg r hr, h6, hk r hr zr]; rfl⟩
theorem qk_M_gc {gr' : Nat → Nat → Bool} {kp : Nat → Bool} (h : qk_M S M Z b gp ix o s l f gr) (hG : qk_G M G b gp) (hg : ∀ r, r < 32 → ∀ g, gr' r g = (gr r g && kp g)) (hk : ∀ g, g < 32 → G g = true → kp (gp g) = true) : qk_M S M Z b gp ix o s l f gr' := by
  intro c hc hm
  obtain ⟨h1, r, hr, zr, c1, c2, h2, h3⟩ := h c hc hm
  obtain ⟨g1, g2⟩ := hG.1 c hc hm
  exact ⟨h1, r, hr, zr, c1, c2, by rw [hg r hr, h2, hk _ g1 g2]; rfl, h3⟩
/-! ===== processes ===== -/
theorem qk_M_S {S' : Nat → Bool} (h : qk_M S M Z b gp ix o s l f gr) (hs : ∀ c, c < 32 → M c = true → S (c / 8) = true → S' (c / 8) = true) : qk_M S' M Z b gp ix o s l f gr := by
  intro c hc hm
  obtain ⟨h1, h2⟩ := h c hc hm
  exact ⟨hs c hc hm h1, h2⟩
/-! ===== a page in, a page out ===== -/
theorem qk_P_in {P' : Nat → Bool} {g : Nat} (h : qk_P P M G R b) (hg : G g = true) (hp : ∀ c, c < 32 → P' c = (P c || (M c && decide (b c = g)))) : qk_P P' M G (fu_ R g true) b := by
  refine ⟨fun j hj hm => ?_, fun x hx => ?_⟩
  · by_cases e : j = g
    · rw [e]; exact hg
    · rw [fu_n e] at hm; exact h.1 j hj hm
  · rw [hp x hx, h.2 x hx]
    by_cases e : b x = g
    · rw [e, fu_s, decide_eq_true rfl]; cases M x <;> cases R g <;> rfl
    · rw [fu_n e, decide_eq_false e]; cases M x <;> cases R (b x) <;> rfl
theorem qk_P_out {P' : Nat → Bool} {g : Nat} (h : qk_P P M G R b) (hp : ∀ c, c < 32 → P' c = (P c && !(M c && decide (b c = g)))) : qk_P P' M G (fu_ R g false) b := by
  refine ⟨fun j hj hm => ?_, fun x hx => ?_⟩
  · by_cases e : j = g
    · rw [e, fu_s] at hm; exact absurd hm (by decide)
    · rw [fu_n e] at hm; exact h.1 j hj hm
  · rw [hp x hx, h.2 x hx]
    by_cases e : b x = g
    · rw [e, fu_s, decide_eq_true rfl]; cases M x <;> cases R g <;> rfl
    · rw [fu_n e, decide_eq_false e]; cases M x <;> cases R (b x) <;> rfl
end
end
section
/-! ===== a run of places moved: from 8 p + a to 8 p + t, n places ===== -/
def qm_s (Z : Nat → Bool) (o s s' : Nat → Nat) (p a t n : Nat) : Prop :=
  ∀ r, r < 32 → Z r = true → ((8 * p + a ≤ 8 * o r + s r ∧ 8 * o r + s r < 8 * p + a + n) → s' r + a = s r + t) ∧ (¬ (8 * p + a ≤ 8 * o r + s r ∧ 8 * o r + s r < 8 * p + a + n) → s' r = s r)
def qm_F {α : Type} (f f' : Nat → α) (A B n : Nat) : Prop :=
  (∀ j, j < n → f' (B + j) = f (A + j)) ∧ (∀ c, c < 32 → ¬ (A ≤ c ∧ c < A + n) → ¬ (B ≤ c ∧ c < B + n) → f' c = f c)
section
variable {S P M G R Z P' M' : Nat → Bool} {b gp ix o s l f og s' b' : Nat → Nat} {gr : Nat → Nat → Bool} {p a t n : Nat}
theorem qm_R (hR : qk_R Z o s l f og gr) (ht : t + n ≤ 8) (ha : a + n ≤ 8) (hN : qk_N Z o s l (8 * p + a + n)) (hs : qm_s Z o s s' p a t n) : qk_R Z o s' l f og gr := by
  intro r hr zr
  obtain ⟨h1, h2, h3, h4, h5, h6⟩ := hR r hr zr
  have k1 := hN r hr zr
  have k2 := hs r hr zr
  by_cases e : 8 * p + a ≤ 8 * o r + s r ∧ 8 * o r + s r < 8 * p + a + n
  · have e1 := k2.1 e
    exact ⟨h1, h2, by omega, h4, h5, h6⟩
  · have e1 := k2.2 e
    exact ⟨h1, h2, by omega, h4, h5, h6⟩
theorem qm_off (hH : qk_H (fun _ => False) M Z o s l) (hR : qk_R Z o s l f og gr) (hn : 1 ≤ n) (hB : ∀ c, 8 * p + t ≤ c → c < 8 * p + t + n → M c = false) {r : Nat} (hr : r < 32) (zr : Z r = true) : 8 * o r + s r + l r ≤ 8 * p + t ∨ 8 * p + t + n ≤ 8 * o r + s r := by
  refine Classical.byContradiction fun ne => ?_
  have h2 := (hR r hr zr).2.1
  by_cases e : 8 * o r + s r ≤ 8 * p + t
  · have m := (hH r (8 * p + t) hr zr e (by omega)).resolve_right id
    exact qa_tf m (hB _ (by omega) (by omega))
  · have m := (hH r (8 * o r + s r) hr zr (by omega) (by omega)).resolve_right id
    exact qa_tf m (hB _ (by omega) (by omega))
theorem qm_D (hR : qk_R Z o s l f og gr) (hD : qk_D Z o s l) (hH : qk_H (fun _ => False) M Z o s l) (hn : 1 ≤ n) (hN : qk_N Z o s l (8 * p + a + n)) (hB : ∀ c, 8 * p + t ≤ c → c < 8 * p + t + n → M c = false) (hs : qm_s Z o s s' p a t n) : qk_D Z o s' l := by
  intro r u hr hu zr zu ne
  have k1 := hN r hr zr
  have k2 := hN u hu zu
  have d := hD r u hr hu zr zu ne
  have w1 := qm_off hH hR hn hB hr zr
  have w2 := qm_off hH hR hn hB hu zu
  have q1 := hs r hr zr
  have q2 := hs u hu zu
  by_cases e : 8 * p + a ≤ 8 * o r + s r ∧ 8 * o r + s r < 8 * p + a + n
  · have e1 := q1.1 e
    by_cases e' : 8 * p + a ≤ 8 * o u + s u ∧ 8 * o u + s u < 8 * p + a + n
    · have e2 := q2.1 e'
      omega
    · have e2 := q2.2 e'
      omega
  · have e1 := q1.2 e
    by_cases e' : 8 * p + a ≤ 8 * o u + s u ∧ 8 * o u + s u < 8 * p + a + n
    · have e2 := q2.1 e'
      omega
    · have e2 := q2.2 e'
      omega
theorem qm_H (hH : qk_H (fun _ => False) M Z o s l) (hN1 : qk_N Z o s l (8 * p + a)) (hN : qk_N Z o s l (8 * p + a + n)) (hR : qk_R Z o s l f og gr) (hA : ∀ c, 8 * p + a ≤ c → c < 8 * p + a + n → M c = true) (hB : ∀ c, 8 * p + t ≤ c → c < 8 * p + t + n → M c = false) (hs : qm_s Z o s s' p a t n) (hM : qm_F M M' (8 * p + a) (8 * p + t) n) : qk_H (fun _ => False) M' Z o s' l := by
  intro r c hr zr c1 c2
  left
  have k0 := hN1 r hr zr
  have k1 := hN r hr zr
  have q1 := hs r hr zr
  have k3 := hR r hr zr
  by_cases e : 8 * p + a ≤ 8 * o r + s r ∧ 8 * o r + s r < 8 * p + a + n
  · have e1 := q1.1 e
    have x := hM.1 (c - (8 * p + t)) (by omega)
    rw [show 8 * p + t + (c - (8 * p + t)) = c by omega] at x
    rw [x]
    exact hA _ (by omega) (by omega)
  · have e1 := q1.2 e
    rw [e1] at c1 c2
    have m := (hH r c hr zr c1 c2).resolve_right id
    rw [hM.2 c (by omega) (by omega) (fun z => qa_tf m (hB c z.1 z.2))]
    exact m
theorem qm_M (h : qk_M S M Z b gp ix o s l f gr) (hN1 : qk_N Z o s l (8 * p + a)) (hN : qk_N Z o s l (8 * p + a + n)) (hp : p < 4) (ha : a + n ≤ 8) (ht : t + n ≤ 8) (hA : ∀ c, 8 * p + a ≤ c → c < 8 * p + a + n → M c = true) (hB : ∀ c, 8 * p + t ≤ c → c < 8 * p + t + n → M c = false) (hs : qm_s Z o s s' p a t n) (hM : qm_F M M' (8 * p + a) (8 * p + t) n) (hM' : ∀ j, j < n → M' (8 * p + a + j) = false) (hb : qm_F b b' (8 * p + a) (8 * p + t) n) : qk_M S M' Z b' gp ix o s' l f gr := by
  intro c hc hm
  by_cases e : 8 * p + t ≤ c ∧ c < 8 * p + t + n
  · obtain ⟨j, hj, rfl⟩ : ∃ j, j < n ∧ c = 8 * p + t + j := ⟨c - (8 * p + t), by omega, by omega⟩
    obtain ⟨h1, r, hr, zr, c1, c2, h2, h3⟩ := h (8 * p + a + j) (by omega) (hA _ (by omega) (by omega))
    have k0 := hN1 r hr zr
    have k1 := hN r hr zr
    have q1 := (hs r hr zr).1 ⟨by omega, by omega⟩
    rw [show (8 * p + a + j) / 8 = p by omega] at h1
    rw [hb.1 j hj, show (8 * p + t + j) / 8 = p by omega]
    exact ⟨h1, r, hr, zr, by omega, by omega, h2, by omega⟩
  · by_cases e' : 8 * p + a ≤ c ∧ c < 8 * p + a + n
    · have x := hM' (c - (8 * p + a)) (by omega)
      rw [show 8 * p + a + (c - (8 * p + a)) = c by omega] at x
      exact qa_tf hm x
    · rw [hM.2 c hc e' e] at hm
      obtain ⟨h1, r, hr, zr, c1, c2, h2, h3⟩ := h c hc hm
      have k1 := hN r hr zr
      have q1 := (hs r hr zr).2 (fun z => e' (by omega))
      rw [hb.2 c hc e' e]
      exact ⟨h1, r, hr, zr, by omega, by omega, h2, by omega⟩
theorem qm_G (hG : qk_G M G b gp) (hp : p < 4) (ha : a + n ≤ 8) (ht : t + n ≤ 8) (hA : ∀ c, 8 * p + a ≤ c → c < 8 * p + a + n → M c = true) (hB : ∀ c, 8 * p + t ≤ c → c < 8 * p + t + n → M c = false) (hM : qm_F M M' (8 * p + a) (8 * p + t) n) (hM' : ∀ j, j < n → M' (8 * p + a + j) = false) (hb : qm_F b b' (8 * p + a) (8 * p + t) n) : qk_G M' G b' gp := by
  refine ⟨fun c hc hm => ?_, fun g hg hm => ?_⟩
  · by_cases e : 8 * p + t ≤ c ∧ c < 8 * p + t + n
    · obtain ⟨j, hj, rfl⟩ : ∃ j, j < n ∧ c = 8 * p + t + j := ⟨c - (8 * p + t), by omega, by omega⟩
      rw [hb.1 j hj]
      exact hG.1 _ (by omega) (hA _ (by omega) (by omega))
    · by_cases e' : 8 * p + a ≤ c ∧ c < 8 * p + a + n
      · have x := hM' (c - (8 * p + a)) (by omega)
        rw [show 8 * p + a + (c - (8 * p + a)) = c by omega] at x
        exact qa_tf hm x
      · rw [hM.2 c hc e' e] at hm
        rw [hb.2 c hc e' e]
        exact hG.1 c hc hm
  · obtain ⟨h1, d, hd, md, bd⟩ := hG.2 g hg hm
    refine ⟨h1, ?_⟩
    by_cases e : 8 * p + t ≤ d ∧ d < 8 * p + t + n
    · exact qa_tf md (hB d e.1 e.2)
    · by_cases e' : 8 * p + a ≤ d ∧ d < 8 * p + a + n
      · obtain ⟨j, hj, rfl⟩ : ∃ j, j < n ∧ d = 8 * p + a + j := ⟨d - (8 * p + a), by omega, by omega⟩
        exact ⟨8 * p + t + j, by omega, by rw [hM.1 j hj]; exact md, by rw [hb.1 j hj]; exact bd⟩
      · exact ⟨d, hd, by rw [hM.2 d hd e' e]; exact md, by rw [hb.2 d hd e' e]; exact bd⟩
theorem qm_P (h : qk_P P M G R b) (hp : p < 4) (ha : a + n ≤ 8) (ht : t + n ≤ 8) (hM : qm_F M M' (8 * p + a) (8 * p + t) n) (hM' : ∀ j, j < n → M' (8 * p + a + j) = false) (hP : qm_F P P' (8 * p + a) (8 * p + t) n) (hP' : ∀ j, j < n → P' (8 * p + a + j) = false) (hb : qm_F b b' (8 * p + a) (8 * p + t) n) : qk_P P' M' G R b' := by
  refine ⟨h.1, fun c hc => ?_⟩
  by_cases e : 8 * p + t ≤ c ∧ c < 8 * p + t + n
  · obtain ⟨j, hj, rfl⟩ : ∃ j, j < n ∧ c = 8 * p + t + j := ⟨c - (8 * p + t), by omega, by omega⟩
    rw [hP.1 j hj, hM.1 j hj, hb.1 j hj]
    exact h.2 _ (by omega)
  · by_cases e' : 8 * p + a ≤ c ∧ c < 8 * p + a + n
    · have x := hM' (c - (8 * p + a)) (by omega)
      have y := hP' (c - (8 * p + a)) (by omega)
      rw [show 8 * p + a + (c - (8 * p + a)) = c by omega] at x y
      rw [x, y]; rfl
    · rw [hP.2 c hc e' e, hM.2 c hc e' e, hb.2 c hc e' e]
      exact h.2 c hc
end
end
section
/-! ===== the state and the picture ===== -/
def qi_a (mp : Int32) (a1 : Nat → Int32) : Prop := ∀ c, c < 32 → (bt mp c = true → a1 c = nI (cn_ a1 c)) ∧ (bt mp c = false → a1 c = -1)
def qi_p (pg : Int32) (a3 a4 : Nat → Int32) : Prop := ∀ g, g < 32 → bt pg g = true → a3 g = nI (cn_ a3 g) ∧ a4 g = nI (cn_ a4 g)
def qi_r (rg : Int32) (a5 a6 a7 a8 a9 : Nat → Int32) : Prop := ∀ r, r < 32 → bt rg r = true → a5 r = nI (cn_ a5 r) ∧ a6 r = nI (cn_ a6 r) ∧ a7 r = nI (cn_ a7 r) ∧ a8 r = nI (cn_ a8 r) ∧ a9 r = nI (cn_ a9 r)
def qi_I (H : Nat → Prop) (ps pr mp pg rs rg : Int32) (a1 a3 a4 a5 a6 a7 a8 a9 : Nat → Int32) (a10 : Nat → Int64) : Prop :=
  (qi_a mp a1 ∧ qi_p pg a3 a4 ∧ qi_r rg a5 a6 a7 a8 a9) ∧ qk_R (bt rg) (cn_ a5) (cn_ a6) (cn_ a7) (cn_ a8) (cn_ a9) (gb_ a10) ∧ qk_D (bt rg) (cn_ a5) (cn_ a6) (cn_ a7) ∧ qk_H H (bt mp) (bt rg) (cn_ a5) (cn_ a6) (cn_ a7) ∧ qk_M (bt ps) (bt mp) (bt rg) (cn_ a1) (cn_ a3) (cn_ a4) (cn_ a5) (cn_ a6) (cn_ a7) (cn_ a8) (gb_ a10) ∧ qk_G (bt mp) (bt pg) (cn_ a1) (cn_ a3) ∧ qk_P (bt pr) (bt mp) (bt pg) (bt rs) (cn_ a1)
section
variable {ps pr mp pg rs rg : Int32} {gs : Int64} {a1 a2 a3 a4 a5 a6 a7 a8 a9 : Nat → Int32} {a10 : Nat → Int64} {H : Nat → Prop}
theorem qi_eq (ha : qi_a mp a1) {c g : Nat} (hc : c < 32) (hg : g < 32) (h : a1 c = nI g) : bt mp c = true ∧ cn_ a1 c = g := by
  have e : cn_ a1 c = g := by show (a1 c).toNatClampNeg = g; rw [h, nI_clamp (by omega)]
  refine ⟨qa_nf (fun z => ?_), e⟩
  have t := (ha c hc).2 z
  rw [h] at t
  exact qa_m1 (n := g) (by omega) t.symm
/-! ===== small things ===== -/
theorem qw_has {post : Int32 → Prop} (p : Nat) (hp : p < 4) (h0 : bt ps p = false → post 0) (h1 : bt ps p = true → post 1) : wpX_has post (ps, pr, mp, pg, rs, rg, gs, a1, a2, a3, a4, a5, a6, a7, a8, a9, a10) (nI p) :=
  br_f (nI_pos (by omega)) (br_f (nI_ge (b := 4) hp (by decide)) (qa_br (bt ps p) (qa_a ps p (by omega)) h0 h1))
theorem qw_isM {post : Int32 → Prop} (hM : qk_M (bt ps) (bt mp) (bt rg) (cn_ a1) (cn_ a3) (cn_ a4) (cn_ a5) (cn_ a6) (cn_ a7) (cn_ a8) (gb_ a10)) (p v : Nat) (hp : p < 4) (hv : v < 8) (h0 : bt mp (8 * p + v) = false → post 0) (h1 : bt mp (8 * p + v) = true → post 1) : wpX_isMapped post (ps, pr, mp, pg, rs, rg, gs, a1, a2, a3, a4, a5, a6, a7, a8, a9, a10) (nI p) (nI v) := by
  unfold wpX_isMapped
  refine qw_has p hp (fun e => br_t rfl (h0 (qa_nt fun z => ?_))) (fun e => br_f (by decide) (br_f (nI_pos (by omega)) (br_f (nI_ge (b := 8) hv (by decide)) (qa_br (bt mp (8 * p + v)) ?_ h0 h1))))
  · have t := (hM (8 * p + v) (by omega) z).1
    rw [show (8 * p + v) / 8 = p by omega] at t
    exact qa_tf t e
  · rw [qa_pl]
    exact qa_t mp (8 * p + v) (by omega)
/-! ===== how many bits ===== -/
def qo_c (x : Int32) : Nat → Nat
  | 0 => 0
  | n + 1 => qo_c x n + (if bt x n = true then 1 else 0)
theorem qo_le (x : Int32) : ∀ n, qo_c x n ≤ n := by
  intro n
  induction n with
  | zero => exact Nat.le_refl 0
  | succ n ih =>
    show qo_c x n + (if bt x n = true then 1 else 0) ≤ n + 1
    split <;> omega
theorem qo_mono {x y : Int32} (h : ∀ i, i < 32 → bt x i = true → bt y i = true) : ∀ n, n ≤ 32 → qo_c x n ≤ qo_c y n := by
  intro n
  induction n with
  | zero => intro _; exact Nat.le_refl 0
  | succ n ih =>
    intro hn
    have i1 := ih (by omega)
    show qo_c x n + (if bt x n = true then 1 else 0) ≤ qo_c y n + (if bt y n = true then 1 else 0)
    by_cases e : bt x n = true
    · rw [if_pos e, if_pos (h n (by omega) e)]; omega
    · rw [if_neg e]; omega
theorem qo_bit (x : Int32) (i : Nat) (hi : i < 32) : (((x.toUInt32 >>> ((nI i).toUInt32 &&& Int32.toUInt32 31)).toInt32) &&& 1) = nI (if bt x i = true then 1 else 0) := by
  by_cases e : bt x i = true
  · rw [if_pos e]
    refine (qa_one1 _).mpr ?_
    rw [b_ushr i hi]
    exact e
  · rw [if_neg e]
    exact (qa_t x i hi).mpr (qa_nt e)
theorem qw_ones {post : Int32 → Prop} (x : Int32) (h : post (nI (qo_c x 32))) : wpX_ones post () x :=
  pk_loop (σ := Unit) (fun n i _ => wX_ones_4 post x n (nI (qo_c x i)) (nI i)) (fun _ _ => True) 32 0 () (by omega) trivial
    (fun n _ _ => pk_le 32 32 (fun _ => h) (fun z => absurd z (by omega)))
    (fun n i _ hi _ hw => pk_le 32 i (fun z => absurd z (by omega)) (fun _ => nm_r (by rw [qo_bit x i hi, nI_add]; rfl) (nm_r (nI_1 i) (hw () trivial))))
theorem qw_free {post : Int32 → Prop} (x : Int32) (hx : ∃ i, i < 32 ∧ bt x i = false) (h : ∀ i, i < 32 → bt x i = false → post (nI i)) : wpX_firstFree post () x :=
  pk_loop (σ := Unit) (fun n i _ => wX_firstFree_2 post x n (nI i)) (fun i _ => ∀ j, j < i → bt x j = true) 32 0 () (by omega) (fun j hj => absurd hj (by omega))
    (fun n _ hI => pk_le 32 32 (fun _ => by obtain ⟨i, hi, e⟩ := hx; exact qa_tf (hI i hi) e) (fun z => absurd z (by omega)))
    (fun n i _ hi hI hw => pk_le 32 i (fun z => absurd z (by omega)) (fun _ => qa_br (bt x i) (qa_t x i hi) (fun z => h i hi z) (fun z => nm_r (nI_1 i) (hw () (lt_s hI z)))))
/-! ===== from a page to its places ===== -/
theorem qw_wk0 {post : Int32 → Prop} {J : Int32 → Int32 → Prop} {g i : Nat} {x : Int32} (hg : g < 32) (hi : i < 32) (hw : J x (nI (i + 1))) : wX_walk_45 post J (nI g) x (nI i) ps pr mp pg rs rg gs a1 a2 a3 a4 a5 a6 a7 a8 a9 a10 :=
  ⟨pk_in g 32 hg, pk_in i 32 hi, fun _ _ => br_t rfl (nm_r (nI_1 i) hw)⟩
theorem qw_wk1 {post : Int32 → Prop} {J : Int32 → Int32 → Prop} {g i : Nat} {x : Int32} (ha : qi_a mp a1) (hr : qi_r rg a5 a6 a7 a8 a9) (hR : qk_R (bt rg) (cn_ a5) (cn_ a6) (cn_ a7) (cn_ a8) (cn_ a9) (gb_ a10)) (hg : g < 32) (hi : i < 32) (zi : bt rg i = true) (e4 : a4 g = nI (cn_ a4 g)) (h4 : cn_ a4 g < 8)
    (h0 : (∀ c, c < 32 → cn_ a4 g + (8 * cn_ a5 i + cn_ a6 i) = cn_ a8 i + c → 8 * cn_ a5 i + cn_ a6 i ≤ c → c < 8 * cn_ a5 i + cn_ a6 i + cn_ a7 i → ¬ (bt mp c = true ∧ cn_ a1 c = g)) → J x (nI (i + 1)))
    (h1 : ∀ c, c < 32 → cn_ a4 g + (8 * cn_ a5 i + cn_ a6 i) = cn_ a8 i + c → bt mp c = true → cn_ a1 c = g → J (x ||| ((1 : Int32) <<< (nI c &&& 31))) (nI (i + 1))) : wX_walk_46 post J (nI g) x (nI i) 1 ps pr mp pg rs rg gs a1 a2 a3 a4 a5 a6 a7 a8 a9 a10 := by
  obtain ⟨e5, e6, e7, e8, _⟩ := hr i hi zi
  obtain ⟨b1, b2, b3, b4, _, _⟩ := hR i hi zi
  unfold wX_walk_46
  rw [nI_clamp (show i < 2 ^ 31 by omega), nI_clamp (show g < 2 ^ 31 by omega), e4, e5, e6, e7, e8]
  refine ⟨pk_in g 32 hg, pk_in i 32 hi, fun x5 ex5 => br_f (by decide) ?_⟩
  by_cases hf : cn_ a4 g < cn_ a8 i
  · exact br_t (by rw [ex5]; exact pk_sneg (by omega) hf) (nm_r (nI_1 i) (h0 (fun c _ q1 q2 _ _ => by omega)))
  · rw [pk_sub (show cn_ a8 i ≤ cn_ a4 g by omega)] at ex5
    rw [ex5]
    refine br_f (nI_pos (by omega)) ⟨pk_in i 32 hi, pk_le (cn_ a7 i) (cn_ a4 g - cn_ a8 i) (fun z => nm_r (nI_1 i) (h0 (fun c _ q1 q2 q3 _ => by omega))) (fun z => ⟨pk_in i 32 hi, pk_in i 32 hi, nm_r (e' := nI (8 * cn_ a5 i + cn_ a6 i + (cn_ a4 g - cn_ a8 i))) (by rw [qa_pl, nI_add]) ⟨pk_in (8 * cn_ a5 i + cn_ a6 i + (cn_ a4 g - cn_ a8 i)) 32 (by omega), ?_⟩⟩)⟩
    rw [nI_clamp (show 8 * cn_ a5 i + cn_ a6 i + (cn_ a4 g - cn_ a8 i) < 2 ^ 31 by omega)]
    refine br_c (fun q => ?_) (fun q => nm_r (nI_1 i) (h0 (fun c hc q1 q2 q3 q4 => q ?_)))
    · obtain ⟨m1, m2⟩ := qi_eq ha (by omega) hg q
      exact nm_e (nm_r (nI_1 i) (h1 _ (by omega) (by omega) m1 m2))
    · have ec : 8 * cn_ a5 i + cn_ a6 i + (cn_ a4 g - cn_ a8 i) = c := by omega
      rw [ec, (ha c hc).1 q4.1, q4.2]
theorem qw_walk {post : Int32 → Prop} (ha : qi_a mp a1) (hp : qi_p pg a3 a4) (hr : qi_r rg a5 a6 a7 a8 a9) (hR : qk_R (bt rg) (cn_ a5) (cn_ a6) (cn_ a7) (cn_ a8) (cn_ a9) (gb_ a10)) (hM : qk_M (bt ps) (bt mp) (bt rg) (cn_ a1) (cn_ a3) (cn_ a4) (cn_ a5) (cn_ a6) (cn_ a7) (cn_ a8) (gb_ a10)) (hG : qk_G (bt mp) (bt pg) (cn_ a1) (cn_ a3)) (g : Nat) (hg : g < 32) (zg : bt pg g = true)
    (h : ∀ x, (∀ c, c < 32 → (bt x c = true ↔ bt mp c = true ∧ cn_ a1 c = g)) → post x) : wpX_walk post (ps, pr, mp, pg, rs, rg, gs, a1, a2, a3, a4, a5, a6, a7, a8, a9, a10) (nI g) := by
  obtain ⟨e3, e4⟩ := hp g hg zg
  obtain ⟨g64, d, hd, md, bd⟩ := hG.2 g hg zg
  have h4 : cn_ a4 g < 8 := by
    obtain ⟨_, r, hr', zr, c1, c2, _, c4⟩ := hM d hd md
    have := hR r hr' zr
    rw [bd] at c4
    omega
  refine pk_loop (fun n i x => wX_walk_4 post (nI g) ps pr mp pg rs rg gs a1 a2 a3 a4 a5 a6 a7 a8 a9 a10 n x (nI i)) (fun i x => (∀ c, c < 32 → bt x c = true → bt mp c = true ∧ cn_ a1 c = g) ∧ (∀ r, r < i → bt rg r = true → gb_ a10 r (cn_ a3 g) = true → ∀ c, c < 32 → cn_ a4 g + (8 * cn_ a5 r + cn_ a6 r) = cn_ a8 r + c → 8 * cn_ a5 r + cn_ a6 r ≤ c → c < 8 * cn_ a5 r + cn_ a6 r + cn_ a7 r → bt mp c = true → cn_ a1 c = g → bt x c = true)) 32 0 0 (by omega) ⟨fun c _ z => by rw [b_0] at z; exact absurd z (by decide), fun r hr' => absurd hr' (by omega)⟩ ?_ ?_
  · intro n x hx
    refine pk_le 32 32 (fun _ => h x (fun c hc => ⟨hx.1 c hc, fun q => ?_⟩)) (fun z => absurd z (by omega))
    obtain ⟨_, r, hr', zr, c1, c2, c3, c4⟩ := hM c hc q.1
    rw [q.2] at c3 c4
    exact hx.2 r hr' zr c3 c hc c4 c1 c2 q.1 q.2
  · intro n i x hi hx hw
    refine pk_le 32 i (fun z => absurd z (by omega)) (fun _ => qa_br (bt rg i) (qa_t rg i hi) (fun z => ?_) (fun z => ⟨pk_in i 32 hi, pk_in g 32 hg, qa_br (gb_ a10 i (cn_ a3 g)) ?_ (fun z' => ?_) (fun z' => ?_)⟩))
    · refine qw_wk0 hg hi (hw x ⟨hx.1, ?_⟩)
      exact lt_s hx.2 (fun q => qa_tf q z)
    · rw [nI_clamp (show i < 2 ^ 31 by omega), nI_clamp (show g < 2 ^ 31 by omega), e3]
      exact qa_gt a10 i _ g64
    · refine qw_wk0 hg hi (hw x ⟨hx.1, ?_⟩)
      exact lt_s hx.2 (fun _ q => qa_tf q z')
    · refine qw_wk1 ha hr hR hg hi z e4 h4 (fun q => hw x ⟨hx.1, ?_⟩) (fun c hc q1 q2 q3 => hw _ ⟨?_, ?_⟩)
      · exact lt_s hx.2 (fun _ _ c hc k1 k2 k3 k4 k5 => absurd ⟨k4, k5⟩ (q c hc k1 k2 k3))
      · intro c' hc' k
        rw [qa_set x c hc] at k
        by_cases e : c' = c
        · rw [e]; exact ⟨q2, q3⟩
        · rw [fu_n e] at k; exact hx.1 c' hc' k
      · rw [qa_set x c hc]
        refine lt_s (fun r hr' k0 k1 c' hc' k2 k3 k4 k5 k6 => ?_) (fun k0 k1 c' hc' k2 k3 k4 k5 k6 => ?_)
        · by_cases e : c' = c
          · rw [e, fu_s]
          · rw [fu_n e]; exact hx.2 r hr' k0 k1 c' hc' k2 k3 k4 k5 k6
        · rw [show c' = c by omega, fu_s]
end
end
section
section
variable {ps pr mp pg rs rg : Int32} {gs : Int64} {a1 a2 a3 a4 a5 a6 a7 a8 a9 : Nat → Int32} {a10 : Nat → Int64} {H : Nat → Prop}
/-! ===== a page in, a page out ===== -/
theorem qw_bring {post : St1 → Prop} (hI : qi_I H ps pr mp pg rs rg a1 a3 a4 a5 a6 a7 a8 a9 a10) (c : Nat) (hc : c < 32) (mc : bt mp c = true)
    (h : ∀ pr' rs', qi_I H ps pr' mp pg rs' rg a1 a3 a4 a5 a6 a7 a8 a9 a10 → bt rs' (cn_ a1 c) = true → post (ps, pr', mp, pg, rs', rg, gs, a1, a2, a3, a4, a5, a6, a7, a8, a9, a10)) : wpX_bringIn post (ps, pr, mp, pg, rs, rg, gs, a1, a2, a3, a4, a5, a6, a7, a8, a9, a10) (nI (cn_ a1 c)) := by
  obtain ⟨⟨ha, hp, hr⟩, hR, hD, hH, hM, hG, hP⟩ := hI
  obtain ⟨g32, gg⟩ := hG.1 c hc mc
  refine qa_br (bt rs (cn_ a1 c)) (qa_t rs _ g32) (fun z => nm_e (qw_walk ha hp hr hR hM hG (cn_ a1 c) g32 gg (fun x hx => nm_e (h _ _ ⟨⟨ha, hp, hr⟩, hR, hD, hH, hM, hG, ?_⟩ ?_)))) (fun z => h _ _ ⟨⟨ha, hp, hr⟩, hR, hD, hH, hM, hG, hP⟩ z)
  · rw [qa_set rs _ g32]
    refine qk_P_in hP gg (fun d hd => ?_)
    rw [b_or]
    congr 1
    have t := hx d hd
    cases e1 : bt x d with
    | true => rw [(t.mp e1).1, (t.mp e1).2]; simp
    | false =>
      by_cases e2 : cn_ a1 d = cn_ a1 c
      · cases e3 : bt mp d with
        | true => exact absurd (t.mpr ⟨e3, e2⟩) (by rw [e1]; decide)
        | false => rfl
      · rw [decide_eq_false e2, Bool.and_false]
  · rw [qa_set rs _ g32, fu_s]
theorem qw_out {post : Int32 → St1 → Prop} (hI : qi_I H ps pr mp pg rs rg a1 a3 a4 a5 a6 a7 a8 a9 a10) (p v : Nat) (hp4 : p < 4) (hv : v < 8)
    (h : ∀ k pr' rs', qi_I H ps pr' mp pg rs' rg a1 a3 a4 a5 a6 a7 a8 a9 a10 → post k (ps, pr', mp, pg, rs', rg, gs, a1, a2, a3, a4, a5, a6, a7, a8, a9, a10)) : wpX_swapOut post (ps, pr, mp, pg, rs, rg, gs, a1, a2, a3, a4, a5, a6, a7, a8, a9, a10) (nI p) (nI v) := by
  unfold wpX_swapOut
  have hI' := hI
  obtain ⟨⟨ha, hp, hr⟩, hR, hD, hH, hM, hG, hP⟩ := hI
  refine qw_isM hM p v hp4 hv (fun _ => br_t rfl (h _ _ _ hI')) (fun mc => br_f (by decide) ?_)
  obtain ⟨g32, gg⟩ := hG.1 (8 * p + v) (by omega) mc
  have e1 := (ha (8 * p + v) (by omega)).1 mc
  rw [qa_pl, nI_clamp (show 8 * p + v < 2 ^ 31 by omega), e1]
  refine ⟨pk_in (8 * p + v) 32 (by omega), nm_e (qa_br (bt rs (cn_ a1 (8 * p + v))) (qa_t rs _ g32) (fun z => h _ _ _ hI') (fun z => qw_walk ha hp hr hR hM hG _ g32 gg (fun x hx => nm_e (nm_e (qw_ones x (h _ _ _ ⟨⟨ha, hp, hr⟩, hR, hD, hH, hM, hG, ?_⟩))))))⟩
  rw [qa_clr rs _ g32]
  refine qk_P_out hP (fun d hd => ?_)
  rw [b_and, qa_not x d hd]
  congr 2
  have t := hx d hd
  cases e1 : bt x d with
  | true => rw [(t.mp e1).1, (t.mp e1).2]; simp
  | false =>
    by_cases e2 : cn_ a1 d = cn_ a1 (8 * p + v)
    · cases e3 : bt mp d with
      | true => exact absurd (t.mpr ⟨e3, e2⟩) (by rw [e1]; decide)
      | false => rfl
    · rw [decide_eq_false e2, Bool.and_false]
theorem qw_read {post : Int32 → St1 → Prop} (hI : qi_I H ps pr mp pg rs rg a1 a3 a4 a5 a6 a7 a8 a9 a10) (p v : Nat) (hp4 : p < 4) (hv : v < 8)
    (h0 : bt mp (8 * p + v) = false → post 0 (ps, pr, mp, pg, rs, rg, gs, a1, a2, a3, a4, a5, a6, a7, a8, a9, a10))
    (h : ∀ pr' rs', qi_I H ps pr' mp pg rs' rg a1 a3 a4 a5 a6 a7 a8 a9 a10 → bt mp (8 * p + v) = true → bt pr' (8 * p + v) = true → post (a2 (cn_ a1 (8 * p + v))) (ps, pr', mp, pg, rs', rg, gs, a1, a2, a3, a4, a5, a6, a7, a8, a9, a10)) : wpX_read post (ps, pr, mp, pg, rs, rg, gs, a1, a2, a3, a4, a5, a6, a7, a8, a9, a10) (nI p) (nI v) := by
  unfold wpX_read
  have hI' := hI
  obtain ⟨⟨ha, hp, hr⟩, hR, hD, hH, hM, hG, hP⟩ := hI
  refine qw_isM hM p v hp4 hv (fun z => br_t rfl (h0 z)) (fun mc => br_f (by decide) ?_)
  obtain ⟨g32, gg⟩ := hG.1 (8 * p + v) (by omega) mc
  have e1 := (ha (8 * p + v) (by omega)).1 mc
  rw [qa_pl, nI_clamp (show 8 * p + v < 2 ^ 31 by omega), e1]
  refine ⟨pk_in (8 * p + v) 32 (by omega), nm_e (qw_bring hI' (8 * p + v) (by omega) mc (fun pr' rs' hI2 hb => ⟨pk_in (cn_ a1 (8 * p + v)) 32 g32, ?_⟩))⟩
  rw [nI_clamp (show cn_ a1 (8 * p + v) < 2 ^ 31 by omega)]
  refine h pr' rs' hI2 mc ?_
  obtain ⟨_, _, _, _, _, _, hP2⟩ := hI2
  rw [hP2.2 _ (by omega), mc, hb]; rfl
/-! ===== regions found ===== -/
theorem qw_isR {post : Int32 → Prop} (hr : qi_r rg a5 a6 a7 a8 a9) (hR : qk_R (bt rg) (cn_ a5) (cn_ a6) (cn_ a7) (cn_ a8) (cn_ a9) (gb_ a10)) (r p : Nat) (hr32 : r < 32) (hp : p < 4) (h0 : ¬ (bt rg r = true ∧ cn_ a5 r = p) → post 0) (h1 : bt rg r = true → cn_ a5 r = p → post 1) : wpX_isRegionOf post (ps, pr, mp, pg, rs, rg, gs, a1, a2, a3, a4, a5, a6, a7, a8, a9, a10) (nI r) (nI p) := by
  refine qa_br (bt rg r) (qa_t rg r hr32) (fun z => h0 (fun q => qa_tf q.1 z)) (fun z => ⟨pk_in r 32 hr32, ?_⟩)
  have b1 := (hR r hr32 z).1
  rw [nI_clamp (show r < 2 ^ 31 by omega), (hr r hr32 z).1]
  exact pk_eq (cn_ a5 r) p (fun e => h1 z e) (fun e => h0 (fun q => e q.2))
theorem qw_rAt {post : Int32 → Prop} (hr : qi_r rg a5 a6 a7 a8 a9) (hR : qk_R (bt rg) (cn_ a5) (cn_ a6) (cn_ a7) (cn_ a8) (cn_ a9) (gb_ a10)) (p v : Nat) (hp : p < 4) (hv : v ≤ 8)
    (h1 : ∀ r, r < 32 → bt rg r = true → cn_ a5 r = p → cn_ a6 r ≤ v → v < cn_ a6 r + cn_ a7 r → post (nI r))
    (h0 : (∀ r, r < 32 → bt rg r = true → cn_ a5 r = p → cn_ a6 r ≤ v → cn_ a6 r + cn_ a7 r ≤ v) → post (-1)) : wpX_regionAt post (ps, pr, mp, pg, rs, rg, gs, a1, a2, a3, a4, a5, a6, a7, a8, a9, a10) (nI p) (nI v) := by
  refine pk_loop (σ := Unit) (fun n i _ => wX_regionAt_2 post (nI p) (nI v) ps pr mp pg rs rg gs a1 a2 a3 a4 a5 a6 a7 a8 a9 a10 n (nI i)) (fun i _ => ∀ r, r < i → bt rg r = true → cn_ a5 r = p → cn_ a6 r ≤ v → cn_ a6 r + cn_ a7 r ≤ v) 32 0 () (by omega) (fun j hj => absurd hj (by omega)) ?_ ?_
  · exact fun n _ hI => pk_le 32 32 (fun _ => h0 hI) (fun z => absurd z (by omega))
  · intro n i _ hi hI hw
    refine pk_le 32 i (fun z => absurd z (by omega)) (fun _ => qw_isR hr hR i p hi hp (fun z => br_t rfl (nm_r (nI_1 i) (hw () (lt_s hI (fun k1 k2 => absurd ⟨k1, k2⟩ z))))) (fun z1 z2 => br_f (by decide) ?_))
    obtain ⟨e5, e6, e7, e8, _⟩ := hr i hi z1
    obtain ⟨b1, b2, b3, b4, _, _⟩ := hR i hi z1
    rw [nI_clamp (show i < 2 ^ 31 by omega), e6, e7, nI_add]
    exact ⟨pk_in i 32 hi, pk_lt v (cn_ a6 i) (fun z => nm_r (nI_1 i) (hw () (lt_s hI (fun _ _ k => absurd k (by omega))))) (fun z => ⟨pk_in i 32 hi, pk_in i 32 hi, pk_le (cn_ a6 i + cn_ a7 i) v (fun y => nm_r (nI_1 i) (hw () (lt_s hI (fun _ _ _ => y)))) (fun y => h1 i hi z1 z2 z y)⟩)⟩
/-! ===== a page made ===== -/
theorem qw_nP {post : St1 → Prop} {H' : Nat → Prop} {w : Int32} (hI : qi_I H ps pr mp pg rs rg a1 a3 a4 a5 a6 a7 a8 a9 a10) (p v r : Nat) (hp4 : p < 4) (hr32 : r < 32) (zr : bt rg r = true) (ho : cn_ a5 r = p) (hs1 : cn_ a6 r ≤ v) (hs2 : v < cn_ a6 r + cn_ a7 r) (hS : bt ps p = true)
    (hoth : bt mp (8 * p + v) = true → ∃ d, d < 32 ∧ d ≠ 8 * p + v ∧ bt mp d = true ∧ cn_ a1 d = cn_ a1 (8 * p + v))
    (hH' : ∀ x, H x → x = 8 * p + v ∨ H' x)
    (h : ∀ pr' mp' pg' rs' a1' a2' a3' a4', qi_I H' ps pr' mp' pg' rs' rg a1' a3' a4' a5 a6 a7 a8 a9 a10 → bt mp' = fu_ (bt mp) (8 * p + v) true → (∀ d, d < 32 → bt mp' d = true → cn_ a1' d = cn_ a1' (8 * p + v) → d = 8 * p + v) → a2' (cn_ a1' (8 * p + v)) = w → post (ps, pr', mp', pg', rs', rg, gs, a1', a2', a3', a4', a5, a6, a7, a8, a9, a10)) :
    wpX_newPage post (ps, pr, mp, pg, rs, rg, gs, a1, a2, a3, a4, a5, a6, a7, a8, a9, a10) (nI p) (nI v) (nI r) w := by
  unfold wpX_newPage
  obtain ⟨⟨ha, hp, hr⟩, hR, hD, hH, hM, hG, hP⟩ := hI
  obtain ⟨e5, e6, e7, e8, e9⟩ := hr r hr32 zr
  obtain ⟨b1, b2, b3, b4, b5, b6⟩ := hR r hr32 zr
  refine qw_free pg (qk_freeG hG (8 * p + v) (by omega) hoth) (fun g g32 zg => nm_r (qa_pl p v) (nm_e (nm_e ⟨pk_in g 32 g32, nm_e ⟨pk_in r 32 hr32, pk_in g 32 g32, ?_⟩⟩)))
  rw [nI_clamp (show r < 2 ^ 31 by omega), nI_clamp (show g < 2 ^ 31 by omega), nI_clamp (show 8 * p + v < 2 ^ 31 by omega), e6, e8, e9, qa_vb _ (by omega), nI_add, pk_sub (show cn_ a6 r ≤ cn_ a8 r + v by omega), qa_by _ (show cn_ a8 r + v - cn_ a6 r < 128 by omega), qa_by g (by omega)]
  refine nm_e ⟨pk_in r 32 hr32, pk_in r 32 hr32, pk_in g 32 g32, nm_e ⟨pk_in (8 * p + v) 32 (by omega), nm_e (nm_e (nm_e (h _ _ _ _ _ _ _ _ ⟨⟨?_, ?_, hr⟩, hR, hD, ?_, ?_, ?_, ?_⟩ ?_ ?_ ?_)))⟩⟩
  · intro c hc
    rw [qa_set mp _ (by omega), qa_cu a1 _ g (by omega)]
    by_cases e : c = 8 * p + v
    · rw [e, fu_s, fu_s, pk_us]
      exact ⟨fun _ => rfl, fun z => absurd z (by decide)⟩
    · rw [fu_n e, fu_n e, pk_un e]
      exact ha c hc
  · intro j hj zj
    rw [qa_set pg g g32] at zj
    rw [qa_cu a3 g _ (by omega), qa_cu a4 g _ (by omega)]
    by_cases e : j = g
    · rw [e, fu_s, fu_s, pk_us, pk_us]
      exact ⟨rfl, rfl⟩
    · rw [fu_n e] at zj
      rw [fu_n e, fu_n e, pk_un e, pk_un e]
      exact hp j hj zj
  · rw [qa_set mp _ (by omega)]
    exact qk_H_pg hH hH'
  · rw [qa_set mp _ (by omega), qa_cu a1 _ g (by omega), qa_cu a3 g _ (by omega), qa_cu a4 g _ (by omega)]
    exact qk_M_pg hM hG zg hr32 zr (by omega) (by omega) (by rw [show (8 * p + v) / 8 = p by omega]; exact hS) b6 (by omega)
  · rw [qa_set mp _ (by omega), qa_set pg g g32, qa_cu a1 _ g (by omega), qa_cu a3 g _ (by omega)]
    exact qk_G_pg hG (by omega) g32 zg b5 hoth
  · rw [qa_set mp _ (by omega), qa_set pr _ (by omega), qa_set pg g g32, qa_set rs g g32, qa_cu a1 _ g (by omega)]
    exact qk_P_pg hP hG zg
  · exact qa_set mp _ (by omega)
  · intro d hd
    rw [qa_set mp _ (by omega), qa_cu a1 _ g (by omega), fu_s]
    intro md e
    refine Classical.byContradiction fun ne => ?_
    rw [fu_n ne] at md e
    exact qk_ng hG zg hd md e
  · rw [qa_cu a1 _ g (by omega), fu_s, pk_us]
theorem qw_write {post : Int32 → St1 → Prop} {w : Int32} (hI : qi_I H ps pr mp pg rs rg a1 a3 a4 a5 a6 a7 a8 a9 a10) (p v : Nat) (hp4 : p < 4) (hv : v < 8)
    (h0 : bt mp (8 * p + v) = false → post 0 (ps, pr, mp, pg, rs, rg, gs, a1, a2, a3, a4, a5, a6, a7, a8, a9, a10))
    (h : ∀ pr' mp' pg' rs' a1' a2' a3' a4', qi_I H ps pr' mp' pg' rs' rg a1' a3' a4' a5 a6 a7 a8 a9 a10 → bt mp' = bt mp → (∀ d, d < 32 → bt mp' d = true → cn_ a1' d = cn_ a1' (8 * p + v) → d = 8 * p + v) → a2' (cn_ a1' (8 * p + v)) = w → post 1 (ps, pr', mp', pg', rs', rg, gs, a1', a2', a3', a4', a5, a6, a7, a8, a9, a10)) :
    wpX_write post (ps, pr, mp, pg, rs, rg, gs, a1, a2, a3, a4, a5, a6, a7, a8, a9, a10) (nI p) (nI v) w := by
  unfold wpX_write
  have hI' := hI
  obtain ⟨⟨ha, hp, hr⟩, hR, hD, hH, hM, hG, hP⟩ := hI
  refine qw_isM hM p v hp4 hv (fun z => br_t rfl (h0 z)) (fun mc => br_f (by decide) ?_)
  obtain ⟨g32, gg⟩ := hG.1 (8 * p + v) (by omega) mc
  have e1 := (ha (8 * p + v) (by omega)).1 mc
  refine nm_r (qa_pl p v) ⟨pk_in (8 * p + v) 32 (by omega), nm_r (e' := nI (cn_ a1 (8 * p + v))) (by rw [nI_clamp (show 8 * p + v < 2 ^ 31 by omega)]; exact e1) (qw_bring hI' (8 * p + v) (by omega) mc (fun pr' rs' hI2 hb => qw_walk ha hp hr hR hM hG _ g32 gg (fun x hx => br_c (fun q => ?_) (fun q => ?_))))⟩
  · rw [nI_clamp (show cn_ a1 (8 * p + v) < 2 ^ 31 by omega)]
    refine ⟨pk_in (cn_ a1 (8 * p + v)) 32 g32, nm_e (h pr' mp pg rs' a1 _ a3 a4 hI2 rfl (fun d hd md e => ?_) pk_us)⟩
    have t := (hx d hd).mpr ⟨md, e⟩
    rw [q, qa_sh1 _ (by omega)] at t
    exact of_decide_eq_true t
  · obtain ⟨hSS, r0, hr0, zr0, c1, c2, _, _⟩ := hM (8 * p + v) (by omega) mc
    rw [show (8 * p + v) / 8 = p by omega] at hSS
    have bb := hR r0 hr0 zr0
    refine qw_rAt hr hR p v hp4 (by omega) (fun r hr32 zr ho hs1 hs2 => qw_nP hI2 p v r hp4 hr32 zr ho hs1 hs2 hSS (fun _ => ?_) (fun x hx => Or.inr hx) (fun pr2 mp2 pg2 rs2 a12 a22 a32 a42 hI3 em u1 u2 => h pr2 mp2 pg2 rs2 a12 a22 a32 a42 hI3 ?_ u1 u2)) (fun no => absurd (no r0 hr0 zr0 (by omega) (by omega)) (by omega))
    · refine Classical.byContradiction fun no => q (b_ext (fun d hd => ?_))
      rw [qa_sh1 _ (by omega)]
      have t := hx d hd
      by_cases e : d = 8 * p + v
      · rw [decide_eq_true e, e]
        exact (hx _ (by omega)).mpr ⟨mc, rfl⟩
      · rw [decide_eq_false e]
        exact qa_nt (fun z => no ⟨d, hd, e, (t.mp z).1, (t.mp z).2⟩)
    · rw [em]
      funext d
      by_cases e : d = 8 * p + v
      · rw [e, fu_s, mc]
      · rw [fu_n e]
end
end
section
section
variable {ps pr mp pg rs rg : Int32} {gs : Int64} {a1 a2 a3 a4 a5 a6 a7 a8 a9 : Nat → Int32} {a10 : Nat → Int64} {H : Nat → Prop}
/-! ===== a region made ===== -/
theorem qw_nR {post : Int32 → St1 → Prop} (hf : ∃ i, i < 32 ∧ bt rg i = false) (p a n x : Nat) (hp : p < 128) (ha : a < 128) (hn : n < 128) (hx : x < 128)
    (h : ∀ k, k < 32 → bt rg k = false → post (nI k) (ps, pr, mp, pg, rs, rg ||| ((1 : Int32) <<< (nI k &&& 31)), gs, a1, a2, a3, a4, upd a5 k (nI p), upd a6 k (nI a), upd a7 k (nI n), upd a8 k (nI x), a9, a10)) : wpX_newRegion post (ps, pr, mp, pg, rs, rg, gs, a1, a2, a3, a4, a5, a6, a7, a8, a9, a10) (nI p) (nI a) (nI n) (nI x) := by
  unfold wpX_newRegion
  refine qw_free rg hf (fun k k32 zk => nm_e ⟨pk_in k 32 k32, ?_⟩)
  rw [nI_clamp (show k < 2 ^ 31 by omega), qa_by p hp, qa_by a ha, qa_by n hn, qa_by x hx]
  exact nm_e ⟨pk_in k 32 k32, nm_e ⟨pk_in k 32 k32, nm_e ⟨pk_in k 32 k32, nm_e (h k k32 zk)⟩⟩⟩
/-! ===== the rows of a region, one place written ===== -/
theorem qi_r_add {k p a n x g : Nat} (hr : qi_r rg a5 a6 a7 a8 a9) (hk : k < 32) (hp : p < 2 ^ 31) (ha : a < 2 ^ 31) (hn : n < 2 ^ 31) (hx : x < 2 ^ 31) (hg : g < 2 ^ 31) : qi_r (rg ||| ((1 : Int32) <<< (nI k &&& 31))) (upd a5 k (nI p)) (upd a6 k (nI a)) (upd a7 k (nI n)) (upd a8 k (nI x)) (upd a9 k (nI g)) := by
  intro r hr32 zr
  rw [qa_set rg k hk] at zr
  rw [qa_cu a5 k p hp, qa_cu a6 k a ha, qa_cu a7 k n hn, qa_cu a8 k x hx, qa_cu a9 k g hg]
  by_cases e : r = k
  · rw [e]
    simp only [fu_s, pk_us]
    exact ⟨by trivial, by trivial, by trivial, by trivial, by trivial⟩
  · rw [fu_n e] at zr
    simp only [fu_n e, pk_un e]
    exact hr r hr32 zr
/-! ===== a region cut ===== -/
theorem qw_cut {post : St1 → Prop} (hI : qi_I H ps pr mp pg rs rg a1 a3 a4 a5 a6 a7 a8 a9 a10) (p v : Nat) (hp4 : p < 4) (hv : v ≤ 8)
    (h : ∀ rg' a5' a6' a7' a8' a9' a10', qi_I H ps pr mp pg rs rg' a1 a3 a4 a5' a6' a7' a8' a9' a10' → qk_N (bt rg') (cn_ a5') (cn_ a6') (cn_ a7') (8 * p + v) → (∀ c, qk_N (bt rg) (cn_ a5) (cn_ a6) (cn_ a7) c → qk_N (bt rg') (cn_ a5') (cn_ a6') (cn_ a7') c) → post (ps, pr, mp, pg, rs, rg', gs, a1, a2, a3, a4, a5', a6', a7', a8', a9', a10')) : wpX_cutBefore post (ps, pr, mp, pg, rs, rg, gs, a1, a2, a3, a4, a5, a6, a7, a8, a9, a10) (nI p) (nI v) := by
  unfold wpX_cutBefore
  have hI' := hI
  obtain ⟨⟨ha, hp, hr⟩, hR, hD, hH, hM, hG, hP⟩ := hI
  refine qw_rAt hr hR p v hp4 hv (fun r hr32 zr ho hs1 hs2 => br_f (nI_pos (by omega)) ⟨pk_in r 32 hr32, ?_⟩) (fun no => br_t (by decide) (h _ _ _ _ _ _ _ hI' (fun r hr32 zr z => ?_) (fun c z => z)))
  · obtain ⟨e5, e6, e7, e8, e9⟩ := hr r hr32 zr
    obtain ⟨b1, b2, b3, b4, b5, b6⟩ := hR r hr32 zr
    rw [nI_clamp (show r < 2 ^ 31 by omega), e6, e7, e8]
    refine pk_eq (cn_ a6 r) v (fun e => h _ _ _ _ _ _ _ hI' (fun t ht zt z => ?_) (fun c z => z)) (fun e => ⟨pk_in r 32 hr32, nm_r (pk_sub hs1) ⟨pk_in r 32 hr32, pk_in r 32 hr32, ?_⟩⟩)
    · have u := qk_uni hD hr32 ht zr zt (c := 8 * p + v) (by omega) (by omega) (by omega) (by omega)
      subst u
      omega
    · rw [pk_sub (show v - cn_ a6 r ≤ cn_ a7 r by omega), nI_add]
      refine qw_nR (qk_freeR hR hD (8 * p + v) (by omega) (fun t ht zt z => ?_)) p v _ _ (by omega) (by omega) (by omega) (by omega) (fun k k32 zk => ?_)
      · have b := hR t ht zt
        have u := qk_uni hD hr32 ht zr zt (c := 8 * p + v) (by omega) (by omega) (by omega) (by omega)
        subst u
        omega
      · have ne : k ≠ r := fun z => by rw [z] at zk; exact qa_tf zr zk
        have ne' : r ≠ k := fun z => ne z.symm
        refine ⟨pk_in r 32 hr32, pk_in k 32 k32, ?_⟩
        rw [nI_clamp (show k < 2 ^ 31 by omega), e9, qa_vb _ (show cn_ a9 r < 128 by omega), qa_by _ (show v - cn_ a6 r < 128 by omega)]
        refine nm_e ⟨pk_in r 32 hr32, pk_in k 32 k32, nm_e ⟨pk_in r 32 hr32, nm_e ?_⟩⟩
        have f1 : 1 ≤ v - cn_ a6 r := by omega
        have f2 : v - cn_ a6 r < cn_ a7 r := by omega
        have f3 : v = cn_ a6 r + (v - cn_ a6 r) := by omega
        have x5 : cn_ (upd a5 k (nI p)) = fu_ (cn_ a5) k (cn_ a5 r) := by rw [qa_cu _ _ _ (by omega), ho]
        have x6 : cn_ (upd a6 k (nI v)) = fu_ (cn_ a6) k (cn_ a6 r + (v - cn_ a6 r)) := by rw [qa_cu _ _ _ (by omega), ← f3]
        have x7 : cn_ (upd (upd a7 k (nI (cn_ a7 r - (v - cn_ a6 r)))) r (nI (v - cn_ a6 r))) = fu_ (fu_ (cn_ a7) k (cn_ a7 r - (v - cn_ a6 r))) r (v - cn_ a6 r) := by rw [qa_cu _ _ _ (by omega), qa_cu _ _ _ (by omega)]
        have x8 : cn_ (upd a8 k (nI (cn_ a8 r + (v - cn_ a6 r)))) = fu_ (cn_ a8) k (cn_ a8 r + (v - cn_ a6 r)) := qa_cu _ _ _ (by omega)
        have x9 : cn_ (upd a9 k (nI (cn_ a9 r))) = fu_ (cn_ a9) k (cn_ a9 r) := qa_cu _ _ _ (by omega)
        have x10 : gb_ (vp_updL a10 k (a10 r)) = fu_ (gb_ a10) k (gb_ a10 r) := qa_gu _ _ _
        have xz := qa_set rg k k32
        have pl : 8 * p + v = 8 * cn_ a5 r + cn_ a6 r + (v - cn_ a6 r) := by omega
        refine h _ _ _ _ _ _ _ ⟨⟨ha, hp, ?_⟩, ?_, ?_, ?_, ?_, hG, hP⟩ ?_ (fun c hc => ?_)
        · have old := qi_r_add (k := k) (p := p) (a := v) (n := cn_ a7 r - (v - cn_ a6 r)) (x := cn_ a8 r + (v - cn_ a6 r)) (g := cn_ a9 r) hr k32 (by omega) (by omega) (by omega) (by omega) (by omega)
          intro t ht zt
          obtain ⟨o5, o6, o7, o8, o9⟩ := old t ht zt
          refine ⟨o5, o6, ?_, o8, o9⟩
          by_cases e' : t = r
          · rw [e', x7, fu_s, pk_us]
          · rw [qa_cu _ _ _ (by omega), fu_n e', pk_un e']
            exact o7
        · rw [xz, x5, x6, x7, x8, x9, x10]
          exact qk_R_cut hr32 zr ne f1 f2 hR
        · rw [xz, x5, x6, x7]
          exact qk_D_cut hr32 zr ne f1 f2 hD
        · rw [xz, x5, x6, x7]
          exact qk_H_cut hr32 zr ne f1 f2 hH
        · rw [xz, x5, x6, x7, x8, x10]
          exact qk_M_cut k32 zk ne f1 f2 hM
        · rw [xz, x5, x6, x7, pl]
          exact qk_N_new hr32 zr ne f1 f2 hD
        · rw [xz, x5, x6, x7]
          exact qk_N_cut hr32 zr ne f1 f2 hc
  · have b := hR r hr32 zr
    have t := no r hr32 zr (by omega) (by omega)
    omega
/-! ===== runs ===== -/
theorem qw_rOk {post : Int32 → Prop} (a n : Nat) (ha : a < 8) (hn1 : 1 ≤ n) (hn : n ≤ 8) (h0 : 8 < a + n → post 0) (h1 : a + n ≤ 8 → post 1) : wpX_runOk post () (nI a) (nI n) := by
  refine br_f (nI_nlt (b := 1) hn1 (by omega)) (br_f (nI_nlt (a := 8) hn (by omega)) (br_f (nI_pos (by omega)) (br_f (nI_ge (b := 8) ha (by decide)) ?_)))
  rw [nI_add]
  exact pk_lt 8 (a + n) (fun z => h0 z) (fun z => h1 z)
end
end
section
section
variable {ps pr mp pg rs rg : Int32} {gs : Int64} {a1 a2 a3 a4 a5 a6 a7 a8 a9 : Nat → Int32} {a10 : Nat → Int64} {H : Nat → Prop}
/-! ===== one place carried over ===== -/
theorem qw_carry {post : St1 → Prop} (c d : Nat) (hc : c < 32) (hd : d < 32) (ev : vp_nar .byte (a1 c) = a1 c)
    (h : ∀ pr' mp' a1', bt pr' = fu_ (fu_ (bt pr) d (bt pr d || bt pr c)) c false → bt mp' = fu_ (fu_ (bt mp) c false) d true → a1' = upd (upd a1 d (a1 c)) c (-1) → post (ps, pr', mp', pg, rs, rg, gs, a1', a2, a3, a4, a5, a6, a7, a8, a9, a10)) : wpX_carryOver post (ps, pr, mp, pg, rs, rg, gs, a1, a2, a3, a4, a5, a6, a7, a8, a9, a10) (nI c) (nI d) := by
  refine ⟨pk_in c 32 hc, pk_in d 32 hd, ?_⟩
  rw [nI_clamp (show c < 2 ^ 31 by omega), nI_clamp (show d < 2 ^ 31 by omega), ev]
  refine nm_e ⟨pk_in c 32 hc, nm_e (nm_e (nm_e (nm_e (h _ _ _ ?_ ?_ rfl))))⟩
  · rw [qa_clr _ c hc, qa_cp pr pr c d hc hd]
  · rw [qa_set _ d hd, qa_clr mp c hc]
/-- j places have been carried over -/
def qm_J (pr0 mp0 : Int32) (a0 : Nat → Int32) (A B j : Nat) (pr mp : Int32) (a1 : Nat → Int32) : Prop :=
  (∀ i, i < j → bt mp (B + i) = true ∧ bt pr (B + i) = bt pr0 (A + i) ∧ a1 (B + i) = a0 (A + i)) ∧ (∀ i, i < j → bt mp (A + i) = false ∧ bt pr (A + i) = false ∧ a1 (A + i) = -1) ∧ (∀ c, ¬ (A ≤ c ∧ c < A + j) → ¬ (B ≤ c ∧ c < B + j) → bt mp c = bt mp0 c ∧ bt pr c = bt pr0 c ∧ a1 c = a0 c)
theorem qm_J_s {pr0 mp0 pr' mp' : Int32} {a0 a1' : Nat → Int32} {A B j n : Nat} (hj : j < n) (hd : A + n ≤ B ∨ B + n ≤ A) (hB : bt pr0 (B + j) = false) (hJ : qm_J pr0 mp0 a0 A B j pr mp a1)
    (e1 : bt pr' = fu_ (fu_ (bt pr) (B + j) (bt pr (B + j) || bt pr (A + j))) (A + j) false) (e2 : bt mp' = fu_ (fu_ (bt mp) (A + j) false) (B + j) true) (e3 : a1' = upd (upd a1 (B + j) (a1 (A + j))) (A + j) (-1)) : qm_J pr0 mp0 a0 A B (j + 1) pr' mp' a1' := by
  obtain ⟨h1, h2, h3⟩ := hJ
  have n1 : B + j ≠ A + j := by omega
  have n2 : A + j ≠ B + j := by omega
  obtain ⟨c1, c2, c3⟩ := h3 (A + j) (by omega) (by omega)
  obtain ⟨d1, d2, d3⟩ := h3 (B + j) (by omega) (by omega)
  unfold qm_J
  rw [e1, e2, e3]
  refine ⟨lt_s (fun i hi => ?_) ?_, lt_s (fun i hi => ?_) ?_, fun c k1 k2 => ?_⟩
  · rw [fu_n (show B + i ≠ B + j by omega), fu_n (show B + i ≠ A + j by omega), fu_n (show B + i ≠ A + j by omega), fu_n (show B + i ≠ B + j by omega), pk_un (show B + i ≠ A + j by omega), pk_un (show B + i ≠ B + j by omega)]
    exact h1 i hi
  · rw [fu_s, fu_n n1, fu_s, pk_un n1, pk_us, c2, c3, d2, hB]
    exact ⟨rfl, Bool.false_or _, rfl⟩
  · rw [fu_n (show A + i ≠ B + j by omega), fu_n (show A + i ≠ A + j by omega), fu_n (show A + i ≠ A + j by omega), fu_n (show A + i ≠ B + j by omega), pk_un (show A + i ≠ A + j by omega), pk_un (show A + i ≠ B + j by omega)]
    exact h2 i hi
  · rw [fu_n n2, fu_s, fu_s, pk_us]
    exact ⟨rfl, rfl, rfl⟩
  · rw [fu_n (show c ≠ B + j by omega), fu_n (show c ≠ A + j by omega), fu_n (show c ≠ A + j by omega), fu_n (show c ≠ B + j by omega), pk_un (show c ≠ A + j by omega), pk_un (show c ≠ B + j by omega)]
    exact h3 c (by omega) (by omega)
theorem qw_mv189 {post : Int32 → St1 → Prop} {pr0 mp0 : Int32} {a0 : Nat → Int32} {p a t n : Nat} (hp4 : p < 4) (ha8 : a + n ≤ 8) (ht8 : t + n ≤ 8) (hd : 8 * p + a + n ≤ 8 * p + t ∨ 8 * p + t + n ≤ 8 * p + a) (hB : ∀ j, j < n → bt pr0 (8 * p + t + j) = false) (hA : ∀ j, j < n → ∃ g, g < 128 ∧ a0 (8 * p + a + j) = nI g)
    (h : ∀ pr' mp' a1', qm_J pr0 mp0 a0 (8 * p + a) (8 * p + t) n pr' mp' a1' → post 1 (ps, pr', mp', pg, rs, rg, gs, a1', a2, a3, a4, a5, a6, a7, a8, a9, a10)) : ∀ (m j : Nat) (pr mp : Int32) (a1 : Nat → Int32), j + m = n → qm_J pr0 mp0 a0 (8 * p + a) (8 * p + t) j pr mp a1 → wX_move_189 post (nI p) (nI a) (nI n) (nI t) (m + 1) (nI j) ps pr mp pg rs rg gs a1 a2 a3 a4 a5 a6 a7 a8 a9 a10 := by
  intro m
  induction m with
  | zero =>
    intro j pr mp a1 e hJ
    have e' : j = n := by omega
    subst e'
    exact pk_le j j (fun _ => h _ _ _ hJ) (fun z => absurd z (by omega))
  | succ m ih =>
    intro j pr mp a1 e hJ
    refine pk_le n j (fun z => absurd z (by omega)) (fun _ => ?_)
    rw [qa_pl, nI_add, qa_pl, nI_add]
    obtain ⟨g, g1, g2⟩ := hA j (by omega)
    have e1 := (hJ.2.2 (8 * p + a + j) (by omega) (by omega)).2.2
    refine qw_carry _ _ (by omega) (by omega) (by rw [e1, g2]; exact qa_vb g g1) (fun pr' mp' a1' x1 x2 x3 => nm_r (nI_1 j) (ih (j + 1) pr' mp' a1' (by omega) (qm_J_s (n := n) (by omega) hd (hB j (by omega)) hJ x1 x2 x3)))
/-! ===== the starts changed ===== -/
theorem qw_mv143 {post : Int32 → St1 → Prop} {p a t n : Nat} {x : Int32} (hr : ∀ r, r < 32 → bt x r = true → a6 r = nI (cn_ a6 r) ∧ cn_ a6 r < 8 ∧ a ≤ cn_ a6 r) (ht : t < 8)
    (h : ∀ a6', (∀ r, r < 32 → bt x r = true → a6' r = nI (cn_ a6 r + t - a)) → (∀ r, r < 32 → bt x r = false → a6' r = a6 r) → ∃ fu, wX_move_189 post (nI p) (nI a) (nI n) (nI t) fu 0 ps pr mp pg rs rg gs a1 a2 a3 a4 a5 a6' a7 a8 a9 a10) : ∃ fu, wX_move_143 post (nI p) (nI a) (nI n) (nI t) x ps pr mp pg rs rg gs fu 0 a1 a2 a3 a4 a5 a6 a7 a8 a9 a10 := by
  refine pk_loop (fun n' i s => wX_move_143 post (nI p) (nI a) (nI n) (nI t) x ps pr mp pg rs rg gs n' (nI i) a1 a2 a3 a4 a5 s a7 a8 a9 a10) (fun i s => (∀ r, r < i → bt x r = true → s r = nI (cn_ a6 r + t - a)) ∧ (∀ r, r < i → bt x r = false → s r = a6 r) ∧ (∀ r, i ≤ r → s r = a6 r)) 32 0 a6 (by omega) ⟨fun j hj => absurd hj (by omega), fun j hj => absurd hj (by omega), fun _ _ => rfl⟩ ?_ ?_
  · intro n' s hs
    exact pk_le 32 32 (fun _ => h s hs.1 hs.2.1) (fun z => absurd z (by omega))
  · intro n' i s hi hs hw
    refine pk_le 32 i (fun z => absurd z (by omega)) (fun _ => qa_br (bt x i) (qa_t x i hi) (fun z => nm_r (nI_1 i) (hw s ⟨lt_s hs.1 (fun q => qa_tf q z), lt_s hs.2.1 (fun _ => hs.2.2 i (by omega)), fun r hr' => hs.2.2 r (by omega)⟩)) (fun z => ⟨pk_in i 32 hi, pk_in i 32 hi, ?_⟩))
    obtain ⟨e6, e7, e8⟩ := hr i hi z
    rw [nI_clamp (show i < 2 ^ 31 by omega), hs.2.2 i (by omega), e6, nI_add, pk_sub (show a ≤ cn_ a6 i + t by omega), qa_by _ (show cn_ a6 i + t - a < 128 by omega)]
    refine nm_e (nm_r (nI_1 i) (hw _ ⟨lt_s (fun r hr' q => ?_) (fun _ => pk_us), lt_s (fun r hr' q => ?_) (fun q => qa_tf z q), fun r hr' => ?_⟩))
    · rw [pk_un (by omega)]; exact hs.1 r hr' q
    · rw [pk_un (by omega)]; exact hs.2.1 r hr' q
    · rw [pk_un (by omega)]; exact hs.2.2 r (by omega)
theorem qw_mv84 {post : Int32 → St1 → Prop} {p a t n : Nat} (hr : qi_r rg a5 a6 a7 a8 a9) (hR : qk_R (bt rg) (cn_ a5) (cn_ a6) (cn_ a7) (cn_ a8) (cn_ a9) (gb_ a10)) (hp4 : p < 4) (ha8 : a + n ≤ 8)
    (h : ∀ x, (∀ r, r < 32 → (bt x r = true ↔ bt rg r = true ∧ cn_ a5 r = p ∧ a ≤ cn_ a6 r ∧ cn_ a6 r < a + n)) → ∃ fu, wX_move_143 post (nI p) (nI a) (nI n) (nI t) x ps pr mp pg rs rg gs fu 0 a1 a2 a3 a4 a5 a6 a7 a8 a9 a10) : ∃ fu, wX_move_84 post (nI p) (nI a) (nI n) (nI t) ps pr mp pg rs rg gs a1 a2 a3 a4 a5 a6 a7 a8 a9 a10 fu 0 0 := by
  refine pk_loop (fun n' i x => wX_move_84 post (nI p) (nI a) (nI n) (nI t) ps pr mp pg rs rg gs a1 a2 a3 a4 a5 a6 a7 a8 a9 a10 n' x (nI i)) (fun i x => ∀ r, r < 32 → (bt x r = true ↔ r < i ∧ bt rg r = true ∧ cn_ a5 r = p ∧ a ≤ cn_ a6 r ∧ cn_ a6 r < a + n)) 32 0 0 (by omega) (fun r _ => ⟨fun z => by rw [b_0] at z; exact absurd z (by decide), fun z => absurd z.1 (by omega)⟩) ?_ ?_
  · intro n' x hx
    exact pk_le 32 32 (fun _ => h x (fun r hr' => ⟨fun z => ((hx r hr').mp z).2, fun z => (hx r hr').mpr ⟨hr', z⟩⟩)) (fun z => absurd z (by omega))
  · intro n' i x hi hx hw
    have skip : ¬ (bt rg i = true ∧ cn_ a5 i = p ∧ a ≤ cn_ a6 i ∧ cn_ a6 i < a + n) → ∀ r, r < 32 → (bt x r = true ↔ r < i + 1 ∧ bt rg r = true ∧ cn_ a5 r = p ∧ a ≤ cn_ a6 r ∧ cn_ a6 r < a + n) := by
      intro no r hr'
      refine ⟨fun z => ⟨by have := ((hx r hr').mp z).1; omega, ((hx r hr').mp z).2⟩, fun z => (hx r hr').mpr ⟨?_, z.2⟩⟩
      have ne : r ≠ i := fun y => no (by rw [← y]; exact z.2)
      omega
    refine pk_le 32 i (fun z => absurd z (by omega)) (fun _ => qw_isR hr hR i p hi hp4 (fun z => br_t rfl (nm_r (nI_1 i) (hw x (skip (fun q => z ⟨q.1, q.2.1⟩))))) (fun z1 z2 => br_f (by decide) ⟨pk_in i 32 hi, ?_⟩))
    obtain ⟨_, e6, _⟩ := hr i hi z1
    obtain ⟨b1, b2, b3, _⟩ := hR i hi z1
    rw [nI_clamp (show i < 2 ^ 31 by omega), e6, nI_add]
    refine pk_lt (cn_ a6 i) a (fun z => nm_r (nI_1 i) (hw x (skip (fun q => by omega)))) (fun z => ⟨pk_in i 32 hi, pk_le (a + n) (cn_ a6 i) (fun y => nm_r (nI_1 i) (hw x (skip (fun q => by omega)))) (fun y => nm_e (nm_r (nI_1 i) (hw _ (fun r hr' => ?_))))⟩)
    rw [qa_set x i hi]
    by_cases e : r = i
    · rw [e, fu_s]
      exact ⟨fun _ => ⟨by omega, z1, z2, z, y⟩, fun _ => rfl⟩
    · rw [fu_n e, hx r hr']
      refine ⟨fun q => ⟨by omega, q.2⟩, fun q => ⟨by omega, q.2⟩⟩
theorem qm_fin {p a t n : Nat} {pr' mp' x : Int32} {a1' s6 : Nat → Int32} (hI : qi_I (fun _ => False) ps pr mp pg rs rg a1 a3 a4 a5 a6 a7 a8 a9 a10) (hp4 : p < 4) (ha8 : a + n ≤ 8) (ht8 : t + n ≤ 8) (hn1 : 1 ≤ n) (hA : ∀ c, 8 * p + a ≤ c → c < 8 * p + a + n → bt mp c = true) (hB : ∀ c, 8 * p + t ≤ c → c < 8 * p + t + n → bt mp c = false) (hN1 : qk_N (bt rg) (cn_ a5) (cn_ a6) (cn_ a7) (8 * p + a)) (hN2 : qk_N (bt rg) (cn_ a5) (cn_ a6) (cn_ a7) (8 * p + a + n))
    (hx : ∀ r, r < 32 → (bt x r = true ↔ bt rg r = true ∧ cn_ a5 r = p ∧ a ≤ cn_ a6 r ∧ cn_ a6 r < a + n)) (k1 : ∀ r, r < 32 → bt x r = true → s6 r = nI (cn_ a6 r + t - a)) (k2 : ∀ r, r < 32 → bt x r = false → s6 r = a6 r) (hJ : qm_J pr mp a1 (8 * p + a) (8 * p + t) n pr' mp' a1') : qi_I (fun _ => False) ps pr' mp' pg rs rg a1' a3 a4 a5 s6 a7 a8 a9 a10 := by
  obtain ⟨⟨ha, hp, hr⟩, hR, hD, hH, hM, hG, hP⟩ := hI
  have hs : qm_s (bt rg) (cn_ a5) (cn_ a6) (cn_ s6) p a t n := by
    intro r hr32 zr
    obtain ⟨b1, b2, b3, _⟩ := hR r hr32 zr
    refine ⟨fun e => ?_, fun e => ?_⟩
    · have z := k1 r hr32 ((hx r hr32).mpr ⟨zr, by omega, by omega, by omega⟩)
      have z' : cn_ s6 r = cn_ a6 r + t - a := by
        show (s6 r).toNatClampNeg = _
        rw [z, nI_clamp (by omega)]
      omega
    · have z := k2 r hr32 (qa_nt (fun y => e (by have q := (hx r hr32).mp y; omega)))
      show (s6 r).toNatClampNeg = (a6 r).toNatClampNeg
      rw [z]
  have fM : qm_F (bt mp) (bt mp') (8 * p + a) (8 * p + t) n := ⟨fun j hj => by rw [(hJ.1 j hj).1, hA _ (by omega) (by omega)], fun c _ c1 c2 => (hJ.2.2 c c1 c2).1⟩
  have fM' : ∀ j, j < n → bt mp' (8 * p + a + j) = false := fun j hj => (hJ.2.1 j hj).1
  have fP : qm_F (bt pr) (bt pr') (8 * p + a) (8 * p + t) n := ⟨fun j hj => (hJ.1 j hj).2.1, fun c _ c1 c2 => (hJ.2.2 c c1 c2).2.1⟩
  have fP' : ∀ j, j < n → bt pr' (8 * p + a + j) = false := fun j hj => (hJ.2.1 j hj).2.1
  have fb : qm_F (cn_ a1) (cn_ a1') (8 * p + a) (8 * p + t) n := ⟨fun j hj => by show (a1' _).toNatClampNeg = (a1 _).toNatClampNeg; rw [(hJ.1 j hj).2.2], fun c _ c1 c2 => by show (a1' _).toNatClampNeg = (a1 _).toNatClampNeg; rw [(hJ.2.2 c c1 c2).2.2]⟩
  refine ⟨⟨?_, hp, ?_⟩, qm_R hR ht8 ha8 hN2 hs, qm_D hR hD hH hn1 hN2 hB hs, qm_H hH hN1 hN2 hR hA hB hs fM, qm_M hM hN1 hN2 hp4 ha8 ht8 hA hB hs fM fM' fb, qm_G hG hp4 ha8 ht8 hA hB fM fM' fb, qm_P hP hp4 ha8 ht8 fM fM' fP fP' fb⟩
  · intro c hc
    by_cases e : 8 * p + t ≤ c ∧ c < 8 * p + t + n
    · obtain ⟨j, hj, rfl⟩ : ∃ j, j < n ∧ c = 8 * p + t + j := ⟨c - (8 * p + t), by omega, by omega⟩
      have J := hJ.1 j hj
      have e1 := (ha (8 * p + a + j) (by omega)).1 (hA _ (by omega) (by omega))
      refine ⟨fun _ => ?_, fun z => qa_tf J.1 z⟩
      show a1' (8 * p + t + j) = nI ((a1' (8 * p + t + j)).toNatClampNeg)
      rw [J.2.2]
      exact e1
    · by_cases e' : 8 * p + a ≤ c ∧ c < 8 * p + a + n
      · obtain ⟨j, hj, rfl⟩ : ∃ j, j < n ∧ c = 8 * p + a + j := ⟨c - (8 * p + a), by omega, by omega⟩
        have J := hJ.2.1 j hj
        exact ⟨fun z => qa_tf z J.1, fun _ => J.2.2⟩
      · have J := hJ.2.2 c e' e
        rw [J.1]
        show (bt mp c = true → a1' c = nI ((a1' c).toNatClampNeg)) ∧ (bt mp c = false → a1' c = -1)
        rw [J.2.2]
        exact ha c hc
  · intro r hr32 zr
    obtain ⟨o5, o6, o7, o8, o9⟩ := hr r hr32 zr
    obtain ⟨b1, b2, b3, _⟩ := hR r hr32 zr
    refine ⟨o5, ?_, o7, o8, o9⟩
    show s6 r = nI ((s6 r).toNatClampNeg)
    cases e : bt x r with
    | true => rw [k1 r hr32 e, nI_clamp (by omega)]
    | false => rw [k2 r hr32 e]; exact o6
theorem qw_move {post : Int32 → St1 → Prop} (hI : qi_I (fun _ => False) ps pr mp pg rs rg a1 a3 a4 a5 a6 a7 a8 a9 a10) (p a n t : Nat) (hp4 : p < 4) (ha : a < 8) (hn1 : 1 ≤ n) (hn8 : n ≤ 8) (ht : t < 8)
    (h : ∀ k ps pr mp pg rs rg gs a1 a2 a3 a4 a5 a6 a7 a8 a9 a10, qi_I (fun _ => False) ps pr mp pg rs rg a1 a3 a4 a5 a6 a7 a8 a9 a10 → post k (ps, pr, mp, pg, rs, rg, gs, a1, a2, a3, a4, a5, a6, a7, a8, a9, a10)) : wpX_move post (ps, pr, mp, pg, rs, rg, gs, a1, a2, a3, a4, a5, a6, a7, a8, a9, a10) (nI p) (nI a) (nI n) (nI t) := by
  unfold wpX_move
  refine qw_has p hp4 (fun _ => br_t rfl (h _ _ _ _ _ _ _ _ _ _ _ _ _ _ _ _ _ _ hI)) (fun zp => br_f (by decide) (qw_rOk a n ha hn1 hn8 (fun _ => br_t rfl (h _ _ _ _ _ _ _ _ _ _ _ _ _ _ _ _ _ _ hI)) (fun ha8 => br_f (by decide) (qw_rOk t n ht hn1 hn8 (fun _ => br_t rfl (h _ _ _ _ _ _ _ _ _ _ _ _ _ _ _ _ _ _ hI)) (fun ht8 => br_f (by decide) ?_)))))
  refine br_c (fun q1 => br_c (fun q2 => ?_) (fun _ => h _ _ _ _ _ _ _ _ _ _ _ _ _ _ _ _ _ _ hI)) (fun _ => h _ _ _ _ _ _ _ _ _ _ _ _ _ _ _ _ _ _ hI)
  rw [qa_pl] at q1 q2
  have hA : ∀ c, 8 * p + a ≤ c → c < 8 * p + a + n → bt mp c = true := by
    intro c c1 c2
    have y := qa_and0 q1 c (by rw [qa_run n (8 * p + a) (by omega) (by omega) c (by omega)]; exact decide_eq_true ⟨c1, c2⟩)
    rw [qa_not mp c (by omega)] at y
    cases e : bt mp c with
    | true => rfl
    | false => rw [e] at y; exact absurd y (by decide)
  have hB : ∀ c, 8 * p + t ≤ c → c < 8 * p + t + n → bt mp c = false := by
    intro c c1 c2
    exact qa_and0 q2 c (by rw [qa_run n (8 * p + t) (by omega) (by omega) c (by omega)]; exact decide_eq_true ⟨c1, c2⟩)
  have hd : 8 * p + a + n ≤ 8 * p + t ∨ 8 * p + t + n ≤ 8 * p + a := by
    refine Classical.byContradiction fun no => ?_
    by_cases e : a ≤ t
    · exact qa_tf (hA (8 * p + t) (by omega) (by omega)) (hB (8 * p + t) (by omega) (by omega))
    · exact qa_tf (hA (8 * p + a) (by omega) (by omega)) (hB (8 * p + a) (by omega) (by omega))
  refine qw_cut hI p a hp4 (by omega) (fun rg1 b5 b6 b7 b8 b9 b10 hI1 hN1 _ => ?_)
  show wpX_cutBefore _ _ _ _
  rw [nI_add]
  refine qw_cut hI1 p (a + n) hp4 ha8 (fun rg2 c5 c6 c7 c8 c9 c10 hI2 hN2 hNk => ?_)
  have hN1' := hNk _ hN1
  rw [← Nat.add_assoc] at hN2
  have hI3 := hI2
  obtain ⟨⟨ha', hp', hr'⟩, hR, hD, hH, hM, hG, hP⟩ := hI2
  refine qw_mv84 hr' hR hp4 ha8 (fun x hx => qw_mv143 (fun r hr32 zr => ?_) ht (fun s6 k1 k2 => ⟨n + 1, qw_mv189 (pr0 := pr) (mp0 := mp) (a0 := a1) hp4 ha8 ht8 hd (fun j hj => ?_) (fun j hj => ?_) (fun pr' mp' a1' hJ => h _ _ _ _ _ _ _ _ _ _ _ _ _ _ _ _ _ _ (qm_fin hI3 hp4 ha8 ht8 hn1 hA hB hN1' hN2 hx k1 k2 hJ)) n 0 pr mp a1 (by omega) ?_⟩))
  · obtain ⟨z1, z2, z3, z4⟩ := (hx r hr32).mp zr
    exact ⟨(hr' r hr32 z1).2.1, by omega, z3⟩
  · rw [hP.2 _ (by omega), hB _ (by omega) (by omega)]; rfl
  · have m := hA (8 * p + a + j) (by omega) (by omega)
    exact ⟨_, by have := (hG.1 _ (by omega) m).1; omega, (ha' _ (by omega)).1 m⟩
  · exact ⟨fun i hi => absurd hi (by omega), fun i hi => absurd hi (by omega), fun c _ _ => ⟨rfl, rfl, rfl⟩⟩
end
end
section
section
variable {ps pr mp pg rs rg : Int32} {gs : Int64} {a1 a2 a3 a4 a5 a6 a7 a8 a9 : Nat → Int32} {a10 : Nat → Int64} {H : Nat → Prop}
/-! ===== a place gives up its page ===== -/
theorem qw_ub {post : St1 → Prop} {H' : Nat → Prop} (hI : qi_I H ps pr mp pg rs rg a1 a3 a4 a5 a6 a7 a8 a9 a10) (c : Nat) (hc : c < 32) (mc : bt mp c = true) (hH1 : ∀ x, H x → H' x) (hH2 : H' c)
    (h : ∀ pr' mp' pg' rs' a1', qi_I H' ps pr' mp' pg' rs' rg a1' a3 a4 a5 a6 a7 a8 a9 a10 → bt mp' = fu_ (bt mp) c false → post (ps, pr', mp', pg', rs', rg, gs, a1', a2, a3, a4, a5, a6, a7, a8, a9, a10)) : wpX_unback post (ps, pr, mp, pg, rs, rg, gs, a1, a2, a3, a4, a5, a6, a7, a8, a9, a10) (nI c) := by
  obtain ⟨⟨ha, hp, hr⟩, hR, hD, hH, hM, hG, hP⟩ := hI
  obtain ⟨g32, gg⟩ := hG.1 c hc mc
  refine ⟨pk_in c 32 hc, nm_r (e' := nI (cn_ a1 c)) (by rw [nI_clamp (show c < 2 ^ 31 by omega)]; exact (ha c hc).1 mc) (qw_walk ha hp hr hR hM hG _ g32 gg (fun x hx => fun x3 ex3 => ⟨pk_in c 32 hc, ?_⟩))⟩
  rw [nI_clamp (show c < 2 ^ 31 by omega)]
  have em := qa_clr mp c hc
  have ep := qa_clr pr c hc
  have e1 := qa_cm a1 c
  have A1 : qi_a (mp &&& (((1 : Int32) <<< (nI c &&& 31)) ^^^ (-1))) (upd a1 c (-1)) := by
    intro d hd
    rw [em, e1]
    by_cases e : d = c
    · rw [e, fu_s, fu_s, pk_us]
      exact ⟨fun z => absurd z (by decide), fun _ => rfl⟩
    · rw [fu_n e, fu_n e, pk_un e]
      exact ha d hd
  refine nm_e (nm_e (nm_e (br_c (fun q => nm_e (nm_e ?_)) (fun q => ?_))))
  · have ho : ∀ d, d < 32 → bt mp d = true → cn_ a1 d = cn_ a1 c → d = c := by
      intro d hd md bd
      rw [ex3] at q
      have y := qa_and0 q d ((hx d hd).mpr ⟨md, bd⟩)
      rw [qa_not _ d hd, qa_sh1 c hc] at y
      by_cases e : d = c
      · exact e
      · rw [decide_eq_false e] at y; exact absurd y (by decide)
    have eg := qa_clr pg (cn_ a1 c) g32
    have er := qa_clr rs (cn_ a1 c) g32
    refine h _ _ _ _ _ ⟨⟨A1, ?_, hr⟩, hR, hD, ?_, ?_, ?_, ?_⟩ em
    · intro g hg zg
      rw [eg] at zg
      exact hp g hg (qk_rmZ zg).2
    · rw [em]; exact qk_H_ub hH hH1 hH2
    · rw [em, e1]; exact qk_M_ub hM
    · rw [em, e1, eg]; exact qk_G_ub0 hG ho
    · rw [em, e1, eg, er, ep]; exact qk_P_ub0 hP ho
  · have ho : ∃ d, d < 32 ∧ d ≠ c ∧ bt mp d = true ∧ cn_ a1 d = cn_ a1 c := by
      refine Classical.byContradiction fun no => q ?_
      rw [ex3]
      refine b_ext (fun d hd => ?_)
      rw [b_and, qa_not _ d hd, qa_sh1 c hc, b_0]
      by_cases e : d = c
      · rw [decide_eq_true e]; simp
      · rw [decide_eq_false e]
        cases e2 : bt x d with
        | false => rfl
        | true => exact absurd ⟨d, hd, e, (hx d hd).mp e2⟩ no
    refine h _ _ _ _ _ ⟨⟨A1, hp, hr⟩, hR, hD, ?_, ?_, ?_, ?_⟩ em
    · rw [em]; exact qk_H_ub hH hH1 hH2
    · rw [em, e1]; exact qk_M_ub hM
    · rw [em, e1]; exact qk_G_ub1 hG ho
    · rw [em, e1, ep]; exact qk_P_ub1 hP
/-! ===== the regions of the run taken away ===== -/
theorem qw_um79 {post : Int32 → St1 → Prop} {p a n : Nat} {x4 : Int32} (hp4 : p < 4) (ha8 : a + n ≤ 8) (hI : qi_I (fun x => 8 * p + a ≤ x ∧ x < 8 * p + a + n) ps pr mp pg rs rg a1 a3 a4 a5 a6 a7 a8 a9 a10) (hN1 : qk_N (bt rg) (cn_ a5) (cn_ a6) (cn_ a7) (8 * p + a)) (hN2 : qk_N (bt rg) (cn_ a5) (cn_ a6) (cn_ a7) (8 * p + a + n)) (hm : ∀ c, 8 * p + a ≤ c → c < 8 * p + a + n → bt mp c = false)
    (h : ∀ rg', qi_I (fun _ => False) ps pr mp pg rs rg' a1 a3 a4 a5 a6 a7 a8 a9 a10 → post x4 (ps, pr, mp, pg, rs, rg', gs, a1, a2, a3, a4, a5, a6, a7, a8, a9, a10)) : ∃ fu, wX_unmap_79 post (nI p) (nI a) (nI n) x4 ps pr mp pg rs gs a1 a2 a3 a4 a5 a6 a7 a8 a9 a10 fu 0 rg := by
  refine pk_loop (fun n' i rg => wX_unmap_79 post (nI p) (nI a) (nI n) x4 ps pr mp pg rs gs a1 a2 a3 a4 a5 a6 a7 a8 a9 a10 n' (nI i) rg) (fun i rg => qi_I (fun x => 8 * p + a ≤ x ∧ x < 8 * p + a + n) ps pr mp pg rs rg a1 a3 a4 a5 a6 a7 a8 a9 a10 ∧ qk_N (bt rg) (cn_ a5) (cn_ a6) (cn_ a7) (8 * p + a) ∧ qk_N (bt rg) (cn_ a5) (cn_ a6) (cn_ a7) (8 * p + a + n) ∧ (∀ r, r < i → bt rg r = true → ¬ (cn_ a5 r = p ∧ a ≤ cn_ a6 r ∧ cn_ a6 r < a + n))) 32 0 rg (by omega) ⟨hI, hN1, hN2, fun j hj => absurd hj (by omega)⟩ ?_ ?_
  · intro n' rg hJ
    obtain ⟨⟨⟨ha, hp, hr⟩, hR, hD, hH, hM, hG, hP⟩, k1, k2, k3⟩ := hJ
    refine pk_le 32 32 (fun _ => h rg ⟨⟨ha, hp, hr⟩, hR, hD, fun r c hr32 zr c1 c2 => Or.inl ?_, hM, hG, hP⟩) (fun z => absurd z (by omega))
    rcases hH r c hr32 zr c1 c2 with m | m
    · exact m
    · have q1 := k1 r hr32 zr
      have q3 := k3 r hr32 zr
      have b := hR r hr32 zr
      exact absurd (show cn_ a5 r = p ∧ a ≤ cn_ a6 r ∧ cn_ a6 r < a + n by omega) q3
  · intro n' i rg hi hJ hw
    have hJ' := hJ
    obtain ⟨⟨⟨ha, hp, hr⟩, hR, hD, hH, hM, hG, hP⟩, k1, k2, k3⟩ := hJ
    refine pk_le 32 i (fun z => absurd z (by omega)) (fun _ => qw_isR hr hR i p hi hp4 (fun z => br_t rfl (nm_r (nI_1 i) (hw rg ⟨hJ'.1, k1, k2, lt_s k3 (fun y q => z ⟨y, q.1⟩)⟩))) (fun z1 z2 => br_f (by decide) ⟨pk_in i 32 hi, ?_⟩))
    obtain ⟨_, e6, _⟩ := hr i hi z1
    obtain ⟨b1, b2, b3, _⟩ := hR i hi z1
    rw [nI_clamp (show i < 2 ^ 31 by omega), e6, nI_add]
    refine pk_lt (cn_ a6 i) a (fun z => nm_r (nI_1 i) (hw rg ⟨hJ'.1, k1, k2, lt_s k3 (fun y q => by omega)⟩)) (fun z => ⟨pk_in i 32 hi, pk_le (a + n) (cn_ a6 i) (fun y => nm_r (nI_1 i) (hw rg ⟨hJ'.1, k1, k2, lt_s k3 (fun _ q => by omega)⟩)) (fun y => nm_e (nm_r (nI_1 i) (hw _ ⟨⟨⟨ha, hp, ?_⟩, ?_, ?_, ?_, ?_, hG, hP⟩, ?_, ?_, ?_⟩)))⟩)
    · intro r hr32 zr
      rw [qa_clr rg i hi] at zr
      exact hr r hr32 (qk_rmZ zr).2
    · rw [qa_clr rg i hi]; exact qk_R_rm hR
    · rw [qa_clr rg i hi]; exact qk_D_rm hD
    · rw [qa_clr rg i hi]; exact qk_H_rm hH
    · rw [qa_clr rg i hi]
      have q2 := k2 i hi z1
      exact qk_M_rm hM (fun c c1 c2 => hm c (by omega) (by omega))
    · rw [qa_clr rg i hi]; exact qk_N_rm k1
    · rw [qa_clr rg i hi]; exact qk_N_rm k2
    · intro r hr' zr
      rw [qa_clr rg i hi] at zr
      have q := qk_rmZ zr
      exact k3 r (by omega) q.2
theorem qw_um38 {post : Int32 → St1 → Prop} {p a n : Nat} (hp4 : p < 4) (ha8 : a + n ≤ 8) (hN1 : qk_N (bt rg) (cn_ a5) (cn_ a6) (cn_ a7) (8 * p + a)) (hN2 : qk_N (bt rg) (cn_ a5) (cn_ a6) (cn_ a7) (8 * p + a + n))
    (h : ∀ k pr' mp' pg' rs' rg' a1', qi_I (fun _ => False) ps pr' mp' pg' rs' rg' a1' a3 a4 a5 a6 a7 a8 a9 a10 → (∀ c, 8 * p + a ≤ c → c < 8 * p + a + n → bt mp' c = false) → post k (ps, pr', mp', pg', rs', rg', gs, a1', a2, a3, a4, a5, a6, a7, a8, a9, a10)) :
    ∀ (m v : Nat) (x4 pr mp pg rs : Int32) (a1 : Nat → Int32), a ≤ v → v + m = a + n → qi_I (fun x => 8 * p + a ≤ x ∧ x < 8 * p + v) ps pr mp pg rs rg a1 a3 a4 a5 a6 a7 a8 a9 a10 → (∀ c, 8 * p + a ≤ c → c < 8 * p + v → bt mp c = false) → wX_unmap_38 post (nI p) (nI a) (nI n) (m + 1) x4 (nI v) ps pr mp pg rs rg gs a1 a2 a3 a4 a5 a6 a7 a8 a9 a10 := by
  intro m
  induction m with
  | zero =>
    intro v x4 pr mp pg rs a1 e0 e hI hm
    have e' : v = a + n := by omega
    rw [e', ← Nat.add_assoc] at hI hm
    rw [e', ← nI_add]
    exact br_t (by rw [nI_add]; exact nI_le (Nat.le_refl _) (by omega)) (qw_um79 hp4 ha8 hI hN1 hN2 hm (fun rg' hI' => h _ _ _ _ _ _ _ hI' hm))
  | succ m ih =>
    intro v x4 pr mp pg rs a1 e0 e hI hm
    have hI' := hI
    obtain ⟨_, _, _, _, hM, _, _⟩ := hI
    refine br_f (by rw [nI_add]; exact nI_ge (by omega) (by omega)) (qw_isM hM p v hp4 (by omega) (fun z => br_t rfl (nm_r (nI_1 v) (ih (v + 1) _ _ _ _ _ _ (by omega) (by omega) ?_ (fun c c1 c2 => ?_)))) (fun z => br_f (by decide) ?_))
    · obtain ⟨⟨ha, hp, hr⟩, hR, hD, hH, hM, hG, hP⟩ := hI'
      exact ⟨⟨ha, hp, hr⟩, hR, hD, fun r c hr32 zr c1 c2 => (hH r c hr32 zr c1 c2).imp id (fun q => ⟨q.1, by omega⟩), hM, hG, hP⟩
    · by_cases y : c = 8 * p + v
      · rw [y]; exact z
      · exact hm c c1 (by omega)
    · rw [qa_pl]
      refine qw_ub (H' := fun x => 8 * p + a ≤ x ∧ x < 8 * p + (v + 1)) hI' (8 * p + v) (by omega) z (fun x q => ⟨q.1, by omega⟩) ⟨by omega, by omega⟩ (fun pr' mp' pg' rs' a1' hI2 em => nm_e (nm_r (nI_1 v) (ih (v + 1) _ _ _ _ _ _ (by omega) (by omega) hI2 (fun c c1 c2 => ?_))))
      rw [em]
      by_cases y : c = 8 * p + v
      · rw [y, fu_s]
      · rw [fu_n y]; exact hm c c1 (by omega)
theorem qw_unmap {post : Int32 → St1 → Prop} (hI : qi_I (fun _ => False) ps pr mp pg rs rg a1 a3 a4 a5 a6 a7 a8 a9 a10) (p a n : Nat) (hp4 : p < 4) (ha : a < 8) (hn1 : 1 ≤ n) (hn8 : n ≤ 8) (h0 : bt ps p = false ∨ 8 < a + n → post (-1) (ps, pr, mp, pg, rs, rg, gs, a1, a2, a3, a4, a5, a6, a7, a8, a9, a10))
    (h : ∀ k pr' mp' pg' rs' rg' a1' a5' a6' a7' a8' a9' a10', qi_I (fun _ => False) ps pr' mp' pg' rs' rg' a1' a3 a4 a5' a6' a7' a8' a9' a10' → (∀ c, 8 * p + a ≤ c → c < 8 * p + a + n → bt mp' c = false) → post k (ps, pr', mp', pg', rs', rg', gs, a1', a2, a3, a4, a5', a6', a7', a8', a9', a10')) : wpX_unmap post (ps, pr, mp, pg, rs, rg, gs, a1, a2, a3, a4, a5, a6, a7, a8, a9, a10) (nI p) (nI a) (nI n) := by
  unfold wpX_unmap
  refine qw_has p hp4 (fun z => br_t rfl (h0 (Or.inl z))) (fun zp => br_f (by decide) (qw_rOk a n ha hn1 hn8 (fun z => br_t rfl (h0 (Or.inr z))) (fun ha8 => br_f (by decide) ?_)))
  refine qw_cut hI p a hp4 (by omega) (fun rg1 b5 b6 b7 b8 b9 b10 hI1 hN1 _ => ?_)
  show wpX_cutBefore _ _ _ _
  rw [nI_add]
  refine qw_cut hI1 p (a + n) hp4 ha8 (fun rg2 c5 c6 c7 c8 c9 c10 hI2 hN2 hNk => ?_)
  have hN1' := hNk _ hN1
  rw [← Nat.add_assoc] at hN2
  refine ⟨n + 1, qw_um38 hp4 ha8 hN1' hN2 (fun k pr' mp' pg' rs' rg' a1' => h k pr' mp' pg' rs' rg' a1' _ _ _ _ _ _) n a 0 pr mp pg rs a1 (by omega) rfl ?_ (fun c c1 c2 => absurd c1 (by omega))⟩
  obtain ⟨⟨ha, hp, hr⟩, hR, hD, hH, hM, hG, hP⟩ := hI2
  exact ⟨⟨ha, hp, hr⟩, hR, hD, fun r c hr32 zr c1 c2 => (hH r c hr32 zr c1 c2).imp id (fun q => False.elim q), hM, hG, hP⟩
theorem qw_exit {post : Int32 → St1 → Prop} (hI : qi_I (fun _ => False) ps pr mp pg rs rg a1 a3 a4 a5 a6 a7 a8 a9 a10) (p : Nat) (hp4 : p < 4)
    (h : ∀ k ps pr mp pg rs rg gs a1 a2 a3 a4 a5 a6 a7 a8 a9 a10, qi_I (fun _ => False) ps pr mp pg rs rg a1 a3 a4 a5 a6 a7 a8 a9 a10 → post k (ps, pr, mp, pg, rs, rg, gs, a1, a2, a3, a4, a5, a6, a7, a8, a9, a10)) : wpX_exit post (ps, pr, mp, pg, rs, rg, gs, a1, a2, a3, a4, a5, a6, a7, a8, a9, a10) (nI p) := by
  unfold wpX_exit
  refine qw_has p hp4 (fun z => br_t rfl (h _ _ _ _ _ _ _ _ _ _ _ _ _ _ _ _ _ _ hI)) (fun zp => br_f (by decide) (qw_unmap hI p 0 8 hp4 (by omega) (by omega) (by omega) (fun z => absurd z (by rw [zp]; intro q; rcases q with q | q; exact absurd q (by decide); omega)) (fun k pr' mp' pg' rs' rg' a1' a5' a6' a7' a8' a9' a10' hI2 hm => nm_e (h _ _ _ _ _ _ _ _ _ _ _ _ _ _ _ _ _ _ ?_))))
  obtain ⟨hA, hR, hD, hH, hM, hG, hP⟩ := hI2
  refine ⟨hA, hR, hD, hH, qk_M_S hM (fun c hc mc sc => ?_), hG, hP⟩
  rw [qa_clr ps p (by omega), fu_n]
  · exact sc
  · intro z
    exact qa_tf mc (hm c (by omega) (by omega))
theorem qw_fP {post : Int32 → Prop} (h1 : ∀ q, q < 4 → bt ps q = false → post (nI q)) (h0 : post (-2)) : wpX_freeProcess post (ps, pr, mp, pg, rs, rg, gs, a1, a2, a3, a4, a5, a6, a7, a8, a9, a10) :=
  pk_loop (σ := Unit) (fun n i _ => wX_freeProcess_2 post ps pr mp pg rs rg gs a1 a2 a3 a4 a5 a6 a7 a8 a9 a10 n (nI i)) (fun _ _ => True) 4 0 () (by omega) trivial
    (fun n _ _ => pk_le 4 4 (fun _ => h0) (fun z => absurd z (by omega)))
    (fun n i _ hi _ hw => pk_le 4 i (fun z => absurd z (by omega)) (fun _ => qw_has i hi (fun z => br_t rfl (h1 i hi z)) (fun z => br_f (by decide) (nm_r (nI_1 i) (hw () trivial)))))
theorem qw_spawn {post : Int32 → St1 → Prop} (hI : qi_I (fun _ => False) ps pr mp pg rs rg a1 a3 a4 a5 a6 a7 a8 a9 a10)
    (h : ∀ k ps pr mp pg rs rg gs a1 a2 a3 a4 a5 a6 a7 a8 a9 a10, qi_I (fun _ => False) ps pr mp pg rs rg a1 a3 a4 a5 a6 a7 a8 a9 a10 → post k (ps, pr, mp, pg, rs, rg, gs, a1, a2, a3, a4, a5, a6, a7, a8, a9, a10)) : wpX_spawn post (ps, pr, mp, pg, rs, rg, gs, a1, a2, a3, a4, a5, a6, a7, a8, a9, a10) := by
  unfold wpX_spawn
  refine qw_fP (fun q hq zq => br_f (nI_pos (by omega)) (nm_e (h _ _ _ _ _ _ _ _ _ _ _ _ _ _ _ _ _ _ ?_))) (br_t (by decide) (h _ _ _ _ _ _ _ _ _ _ _ _ _ _ _ _ _ _ hI))
  obtain ⟨hA, hR, hD, hH, hM, hG, hP⟩ := hI
  refine ⟨hA, hR, hD, hH, qk_M_S hM (fun c hc mc sc => ?_), hG, hP⟩
  rw [qa_set ps q (by omega)]
  by_cases e : c / 8 = q
  · rw [e, fu_s]
  · rw [fu_n e]; exact sc
end
end
section
section
variable {ps pr mp pg rs rg : Int32} {gs : Int64} {a1 a2 a3 a4 a5 a6 a7 a8 a9 : Nat → Int32} {a10 : Nat → Int64} {H : Nat → Prop}
/-! ===== groups given up ===== -/
theorem qw_co67 {post : St1 → Prop} {k : Int64} (h : ∀ a10', (∀ r, r < 32 → a10' r = a10 r &&& k) → post (ps, pr, mp, pg, rs, rg, gs, a1, a2, a3, a4, a5, a6, a7, a8, a9, a10')) : ∃ fu, wX_collect_67 post k ps pr mp pg rs rg gs fu 0 a1 a2 a3 a4 a5 a6 a7 a8 a9 a10 := by
  refine pk_loop (fun n i s => wX_collect_67 post k ps pr mp pg rs rg gs n (nI i) a1 a2 a3 a4 a5 a6 a7 a8 a9 s) (fun i s => (∀ r, r < i → s r = a10 r &&& k) ∧ (∀ r, i ≤ r → s r = a10 r)) 32 0 a10 (by omega) ⟨fun j hj => absurd hj (by omega), fun _ _ => rfl⟩ ?_ ?_
  · exact fun n s hs => pk_le 32 32 (fun _ => h s hs.1) (fun z => absurd z (by omega))
  · intro n i s hi hs hw
    refine pk_le 32 i (fun z => absurd z (by omega)) (fun _ => ⟨pk_in i 32 hi, pk_in i 32 hi, ?_⟩)
    rw [nI_clamp (show i < 2 ^ 31 by omega), hs.2 i (Nat.le_refl _)]
    refine nm_e (nm_r (nI_1 i) (hw _ ⟨lt_s (fun r hr' => ?_) pk_uLs, fun r hr' => ?_⟩))
    · rw [pk_uLn (by omega)]; exact hs.1 r hr'
    · rw [pk_uLn (by omega)]; exact hs.2 r (by omega)
theorem qw_coll {post : St1 → Prop} (hI : qi_I H ps pr mp pg rs rg a1 a3 a4 a5 a6 a7 a8 a9 a10) (h : ∀ gs' a10', qi_I H ps pr mp pg rs rg a1 a3 a4 a5 a6 a7 a8 a9 a10' → post (ps, pr, mp, pg, rs, rg, gs', a1, a2, a3, a4, a5, a6, a7, a8, a9, a10')) : wpX_collect post (ps, pr, mp, pg, rs, rg, gs, a1, a2, a3, a4, a5, a6, a7, a8, a9, a10) := by
  obtain ⟨⟨ha, hp, hr⟩, hR, hD, hH, hM, hG, hP⟩ := hI
  refine pk_loop (fun n i k => wX_collect_4 post ps pr mp pg rs rg gs a1 a2 a3 a4 a5 a6 a7 a8 a9 a10 n k (nI i)) (fun i k => ∀ r, r < i → (bt rg r = true → k.toBitVec.getLsbD (cn_ a9 r) = true) ∧ (bt pg r = true → k.toBitVec.getLsbD (cn_ a3 r) = true)) 32 0 0 (by omega) (fun j hj => absurd hj (by omega)) ?_ ?_
  · intro n k hk
    refine pk_le 32 32 (fun _ => qw_co67 (fun a10' e => h _ _ ⟨⟨ha, hp, hr⟩, ?_, hD, hH, ?_, hG, hP⟩)) (fun z => absurd z (by omega))
    · refine qk_R_gc (kp := fun g => k.toBitVec.getLsbD g) hR (fun r hr32 g => ?_) (fun r hr32 zr => (hk r hr32).1 zr)
      show (a10' r).toBitVec.getLsbD g = _
      rw [e r hr32, qa_gand]; rfl
    · refine qk_M_gc (kp := fun g => k.toBitVec.getLsbD g) hM hG (fun r hr32 g => ?_) (fun g hg zg => (hk g hg).2 zg)
      show (a10' r).toBitVec.getLsbD g = _
      rw [e r hr32, qa_gand]; rfl
  · intro n i k hi hk hw
    have step : ∀ k', (∀ r, r < i → (bt rg r = true → k'.toBitVec.getLsbD (cn_ a9 r) = true) ∧ (bt pg r = true → k'.toBitVec.getLsbD (cn_ a3 r) = true)) → (bt rg i = true → k'.toBitVec.getLsbD (cn_ a9 i) = true) → wX_collect_32 post (wX_collect_4 post ps pr mp pg rs rg gs a1 a2 a3 a4 a5 a6 a7 a8 a9 a10 n) k' (nI i) ps pr mp pg rs rg gs a1 a2 a3 a4 a5 a6 a7 a8 a9 a10 := by
      intro k' hk1 hk2
      refine qa_br (bt pg i) (qa_t pg i hi) (fun z => nm_r (nI_1 i) (hw k' (lt_s hk1 ⟨hk2, fun q => qa_tf q z⟩))) (fun z => ⟨pk_in i 32 hi, ?_⟩)
      have g64 := (hG.2 i hi z).1
      rw [nI_clamp (show i < 2 ^ 31 by omega), (hp i hi z).1]
      refine nm_e (nm_r (nI_1 i) (hw _ (lt_s (fun r hr' => ⟨fun q => ?_, fun q => ?_⟩) ⟨fun q => ?_, fun q => ?_⟩)))
      · rw [qa_gor _ _ g64, (hk1 r hr').1 q]; rfl
      · rw [qa_gor _ _ g64, (hk1 r hr').2 q]; rfl
      · rw [qa_gor _ _ g64, hk2 q]; rfl
      · rw [qa_gor _ _ g64, decide_eq_true rfl, Bool.or_true]
    refine pk_le 32 i (fun z => absurd z (by omega)) (fun _ => qa_br (bt rg i) (qa_t rg i hi) (fun z => step k hk (fun q => qa_tf q z)) (fun z => ⟨pk_in i 32 hi, ?_⟩))
    have g64 := (hR i hi z).2.2.2.2.1
    rw [nI_clamp (show i < 2 ^ 31 by omega), (hr i hi z).2.2.2.2]
    refine nm_e (step _ (fun r hr' => ⟨fun q => ?_, fun q => ?_⟩) (fun q => ?_))
    · rw [qa_gor _ _ g64, (hk r hr').1 q]; rfl
    · rw [qa_gor _ _ g64, (hk r hr').2 q]; rfl
    · rw [qa_gor _ _ g64, decide_eq_true rfl, Bool.or_true]
theorem qw_fg17 {post : Int32 → St1 → Prop} (h : ∀ g gs', g < 64 → post (nI g) (ps, pr, mp, pg, rs, rg, gs', a1, a2, a3, a4, a5, a6, a7, a8, a9, a10)) : ∃ fu, wX_freshGroup_17 post ps pr mp pg rs rg gs a1 a2 a3 a4 a5 a6 a7 a8 a9 a10 fu 0 :=
  pk_loop (σ := Unit) (fun n i _ => wX_freshGroup_17 post ps pr mp pg rs rg gs a1 a2 a3 a4 a5 a6 a7 a8 a9 a10 n (nI i)) (fun _ _ => True) 64 0 () (by omega) trivial
    (fun n _ _ => pk_le 64 64 (fun _ => h 0 gs (by omega)) (fun z => absurd z (by omega)))
    (fun n i _ hi _ hw => pk_le 64 i (fun z => absurd z (by omega)) (fun _ => br_c (fun _ => nm_e (h i _ hi)) (fun _ => nm_r (nI_1 i) (hw () trivial))))
theorem qw_fresh {post : Int32 → St1 → Prop} (hI : qi_I H ps pr mp pg rs rg a1 a3 a4 a5 a6 a7 a8 a9 a10) (h : ∀ g gs' a10', g < 64 → qi_I H ps pr mp pg rs rg a1 a3 a4 a5 a6 a7 a8 a9 a10' → post (nI g) (ps, pr, mp, pg, rs, rg, gs', a1, a2, a3, a4, a5, a6, a7, a8, a9, a10')) : wpX_freshGroup post (ps, pr, mp, pg, rs, rg, gs, a1, a2, a3, a4, a5, a6, a7, a8, a9, a10) :=
  br_c (fun _ => qw_coll hI (fun gs' a10' hI' => qw_fg17 (fun g gs2 hg => h g gs2 a10' hg hI'))) (fun _ => qw_fg17 (fun g gs2 hg => h g gs2 a10 hg hI))
/-! ===== a region more ===== -/
theorem qi_add {H' : Nat → Prop} {k p a n x g : Nat} {w : Int64} (hI : qi_I H ps pr mp pg rs rg a1 a3 a4 a5 a6 a7 a8 a9 a10) (hk : k < 32) (zk : bt rg k = false) (hp4 : p < 4) (hn1 : 1 ≤ n) (ha8 : a + n ≤ 8) (hx8 : x + n ≤ 8) (hg : g < 64) (hw : w.toBitVec.getLsbD g = true)
    (hd : ∀ r, r < 32 → bt rg r = true → 8 * cn_ a5 r + cn_ a6 r + cn_ a7 r ≤ 8 * p + a ∨ 8 * p + a + n ≤ 8 * cn_ a5 r + cn_ a6 r) (hH1 : ∀ c, H c → H' c) (hH2 : ∀ c, 8 * p + a ≤ c → c < 8 * p + a + n → H' c) :
    qi_I H' ps pr mp pg rs (rg ||| ((1 : Int32) <<< (nI k &&& 31))) a1 a3 a4 (upd a5 k (nI p)) (upd a6 k (nI a)) (upd a7 k (nI n)) (upd a8 k (nI x)) (upd a9 k (nI g)) (vp_updL a10 k w) := by
  obtain ⟨⟨ha, hp, hr⟩, hR, hD, hH, hM, hG, hP⟩ := hI
  have xz := qa_set rg k hk
  have x5 := qa_cu a5 k p (by omega)
  have x6 := qa_cu a6 k a (by omega)
  have x7 := qa_cu a7 k n (by omega)
  have x8 := qa_cu a8 k x (by omega)
  have x9 := qa_cu a9 k g (by omega)
  have x10 := qa_gu a10 k w
  refine ⟨⟨ha, hp, qi_r_add hr hk (by omega) (by omega) (by omega) (by omega) (by omega)⟩, ?_, ?_, ?_, ?_, hG, hP⟩
  · rw [xz, x5, x6, x7, x8, x9, x10]
    exact qk_R_add hR hp4 hn1 ha8 hx8 hg hw
  · rw [xz, x5, x6, x7]
    exact qk_D_add hD (fun r hr32 _ zr => hd r hr32 zr)
  · rw [xz, x5, x6, x7]
    exact qk_H_add hH hH1 (fun c c1 c2 => Or.inr (hH2 c c1 c2))
  · rw [xz, x5, x6, x7, x8, x10]
    exact qk_M_add zk hM
/-! ===== a run mapped ===== -/
theorem qw_mp72 {post : Int32 → St1 → Prop} {p a n k : Nat} (hp4 : p < 4) (ha8 : a + n ≤ 8) (hk : k < 32) (zk : bt rg k = true) (k5 : cn_ a5 k = p) (k6 : cn_ a6 k = a) (k7 : cn_ a7 k = n) (hS : bt ps p = true)
    (h : ∀ pr' mp' pg' rs' a1' a2' a3' a4', qi_I (fun _ => False) ps pr' mp' pg' rs' rg a1' a3' a4' a5 a6 a7 a8 a9 a10 → post 1 (ps, pr', mp', pg', rs', rg, gs, a1', a2', a3', a4', a5, a6, a7, a8, a9, a10)) :
    ∀ (m v : Nat) (pr mp pg rs : Int32) (a1 a2 a3 a4 : Nat → Int32), a ≤ v → v + m = a + n → qi_I (fun x => 8 * p + v ≤ x ∧ x < 8 * p + a + n) ps pr mp pg rs rg a1 a3 a4 a5 a6 a7 a8 a9 a10 → (∀ c, 8 * p + v ≤ c → c < 8 * p + a + n → bt mp c = false) → wX_map_72 post (nI p) (nI a) (nI n) (nI k) (m + 1) (nI v) ps pr mp pg rs rg gs a1 a2 a3 a4 a5 a6 a7 a8 a9 a10 := by
  intro m
  induction m with
  | zero =>
    intro v pr mp pg rs a1 a2 a3 a4 e0 e hI hm
    have e' : v = a + n := by omega
    refine br_t (by rw [nI_add, e']; exact nI_le (Nat.le_refl _) (by omega)) (h _ _ _ _ _ _ _ _ ?_)
    obtain ⟨hA, hR, hD, hH, hM, hG, hP⟩ := hI
    exact ⟨hA, hR, hD, fun r c hr32 zr c1 c2 => (hH r c hr32 zr c1 c2).imp id (fun q => by omega), hM, hG, hP⟩
  | succ m ih =>
    intro v pr mp pg rs a1 a2 a3 a4 e0 e hI hm
    refine br_f (by rw [nI_add]; exact nI_ge (by omega) (by omega)) (qw_nP (H' := fun x => 8 * p + (v + 1) ≤ x ∧ x < 8 * p + a + n) hI p v k hp4 hk zk k5 (by omega) (by omega) hS (fun z => qa_tf z (hm _ (by omega) (by omega))) (fun x q => ?_) (fun pr' mp' pg' rs' a1' a2' a3' a4' hI2 em _ _ => nm_r (nI_1 v) (ih (v + 1) _ _ _ _ _ _ _ _ (by omega) (by omega) hI2 (fun c c1 c2 => ?_))))
    · by_cases y : x = 8 * p + v
      · exact Or.inl y
      · exact Or.inr ⟨by omega, q.2⟩
    · rw [em, fu_n (by omega)]
      exact hm c (by omega) c2
theorem qw_map {post : Int32 → St1 → Prop} (hI : qi_I (fun _ => False) ps pr mp pg rs rg a1 a3 a4 a5 a6 a7 a8 a9 a10) (p a n : Nat) (hp4 : p < 4) (ha : a < 8) (hn1 : 1 ≤ n) (hn8 : n ≤ 8)
    (h : ∀ k ps pr mp pg rs rg gs a1 a2 a3 a4 a5 a6 a7 a8 a9 a10, qi_I (fun _ => False) ps pr mp pg rs rg a1 a3 a4 a5 a6 a7 a8 a9 a10 → post k (ps, pr, mp, pg, rs, rg, gs, a1, a2, a3, a4, a5, a6, a7, a8, a9, a10)) : wpX_map post (ps, pr, mp, pg, rs, rg, gs, a1, a2, a3, a4, a5, a6, a7, a8, a9, a10) (nI p) (nI a) (nI n) := by
  unfold wpX_map
  refine qw_has p hp4 (fun _ => br_t rfl (h _ _ _ _ _ _ _ _ _ _ _ _ _ _ _ _ _ _ hI)) (fun zp => br_f (by decide) (qw_rOk a n ha hn1 hn8 (fun _ => br_t rfl (h _ _ _ _ _ _ _ _ _ _ _ _ _ _ _ _ _ _ hI)) (fun ha8 => br_f (by decide) ?_)))
  refine br_c (fun q1 => ?_) (fun _ => h _ _ _ _ _ _ _ _ _ _ _ _ _ _ _ _ _ _ hI)
  rw [qa_pl] at q1
  have hB : ∀ c, 8 * p + a ≤ c → c < 8 * p + a + n → bt mp c = false := by
    intro c c1 c2
    exact qa_and0 q1 c (by rw [qa_run n (8 * p + a) (by omega) (by omega) c (by omega)]; exact decide_eq_true ⟨c1, c2⟩)
  refine qw_fresh hI (fun g gs' b10 hg hI1 => ?_)
  have hI2 := hI1
  obtain ⟨⟨ha', hp', hr'⟩, hR, hD, hH, hM, hG, hP⟩ := hI1
  have hd : ∀ r, r < 32 → bt rg r = true → 8 * cn_ a5 r + cn_ a6 r + cn_ a7 r ≤ 8 * p + a ∨ 8 * p + a + n ≤ 8 * cn_ a5 r + cn_ a6 r := fun r hr32 zr => qm_off hH hR hn1 hB hr32 zr
  refine qw_nR (qk_freeR hR hD (8 * p + a) (by omega) (fun r hr32 zr z => ?_)) p a n a (by omega) (by omega) (by omega) (by omega) (fun k k32 zk => ⟨pk_in k 32 k32, ?_⟩)
  · have y := hd r hr32 zr
    have b := hR r hr32 zr
    omega
  · rw [nI_clamp (show k < 2 ^ 31 by omega), qa_by g (by omega)]
    refine nm_e ⟨pk_in k 32 k32, nm_e ⟨n + 1, qw_mp72 hp4 ha8 k32 ?_ ?_ ?_ ?_ zp (fun _ _ _ _ _ _ _ _ hI3 => h _ _ _ _ _ _ _ _ _ _ _ _ _ _ _ _ _ _ hI3) n a _ _ _ _ _ _ _ _ (Nat.le_refl _) rfl (qi_add hI2 k32 zk hp4 hn1 ha8 ha8 hg ?_ hd (fun c q => False.elim q) (fun c c1 c2 => ⟨c1, c2⟩)) hB⟩⟩
    · rw [qa_set rg k k32, fu_s]
    · rw [qa_cu a5 k p (by omega), fu_s]
    · rw [qa_cu a6 k a (by omega), fu_s]
    · rw [qa_cu a7 k n (by omega), fu_s]
    · rw [qa_gs1 g hg]; exact decide_eq_true rfl
end
end
section
section
variable {ps pr mp pg rs rg : Int32} {gs : Int64} {a1 a2 a3 a4 a5 a6 a7 a8 a9 : Nat → Int32} {a10 : Nat → Int64} {H : Nat → Prop}
/-! ===== the child's places ===== -/
theorem qw_in59 {post : St1 → Prop} {r k q : Nat} {mp0 : Int32} (hq4 : q < 4) (hr32 : r < 32) (hk : k < 32) (zr : bt rg r = true) (zk : bt rg k = true) (hqr : q ≠ cn_ a5 r) (k5 : cn_ a5 k = q) (k6 : cn_ a6 k = cn_ a6 r) (k7 : cn_ a7 k = cn_ a7 r) (k8 : cn_ a8 k = cn_ a8 r) (kg : ∀ g, gb_ a10 r g = true → gb_ a10 k g = true) (hS : bt ps q = true)
    (h : ∀ pr' mp' a1', qi_I (fun _ => False) ps pr' mp' pg rs rg a1' a3 a4 a5 a6 a7 a8 a9 a10 → (∀ c, c < 32 → bt mp' c = true → bt mp0 c = true ∨ (8 * q + cn_ a6 r ≤ c ∧ c < 8 * q + cn_ a6 r + cn_ a7 r)) → post (ps, pr', mp', pg, rs, rg, gs, a1', a2, a3, a4, a5, a6, a7, a8, a9, a10)) :
    ∀ (m j : Nat) (pr mp : Int32) (a1 : Nat → Int32), j + m = cn_ a7 r → qi_I (fun x => 8 * q + cn_ a6 r + j ≤ x ∧ x < 8 * q + cn_ a6 r + cn_ a7 r) ps pr mp pg rs rg a1 a3 a4 a5 a6 a7 a8 a9 a10 → (∀ c, 8 * q + cn_ a6 r + j ≤ c → c < 8 * q + cn_ a6 r + cn_ a7 r → bt mp c = false) → (∀ c, c < 32 → bt mp c = true → bt mp0 c = true ∨ (8 * q + cn_ a6 r ≤ c ∧ c < 8 * q + cn_ a6 r + cn_ a7 r)) → wX_inherit_59 post (nI r) (nI q) ps pg rs rg gs (m + 1) (nI j) pr mp a1 a2 a3 a4 a5 a6 a7 a8 a9 a10 := by
  intro m
  induction m with
  | zero =>
    intro j pr mp a1 e hI hm h0
    obtain ⟨hA, hR, hD, hH, hM, hG, hP⟩ := hI
    refine ⟨pk_in r 32 hr32, ?_⟩
    have b := hR r hr32 zr
    rw [nI_clamp (show r < 2 ^ 31 by omega), (hA.2.2 r hr32 zr).2.2.1]
    exact br_t (nI_le (by omega) (by omega)) (h _ _ _ ⟨hA, hR, hD, fun r c hr32 zr c1 c2 => (hH r c hr32 zr c1 c2).imp id (fun q => by omega), hM, hG, hP⟩ h0)
  | succ m ih =>
    intro j pr mp a1 e hI hm h0
    obtain ⟨⟨ha, hp, hr⟩, hR, hD, hH, hM, hG, hP⟩ := hI
    obtain ⟨e5, e6, e7, e8, e9⟩ := hr r hr32 zr
    obtain ⟨b1, b2, b3, b4, b5, b6⟩ := hR r hr32 zr
    have mc : bt mp (8 * cn_ a5 r + cn_ a6 r + j) = true := by
      rcases hH r (8 * cn_ a5 r + cn_ a6 r + j) hr32 zr (by omega) (by omega) with y | y
      · exact y
      · omega
    have mt : bt mp (8 * q + cn_ a6 r + j) = false := hm _ (by omega) (by omega)
    have pt : bt pr (8 * q + cn_ a6 r + j) = false := by
      rw [hP.2 _ (by omega), mt]; rfl
    obtain ⟨g32, gg⟩ := hG.1 (8 * cn_ a5 r + cn_ a6 r + j) (by omega) mc
    have ec := (ha (8 * cn_ a5 r + cn_ a6 r + j) (by omega)).1 mc
    obtain ⟨_, r', hr', zr', c1, c2, c3, c4⟩ := hM (8 * cn_ a5 r + cn_ a6 r + j) (by omega) mc
    have er : r = r' := qk_uni hD hr32 hr' zr zr' (c := 8 * cn_ a5 r + cn_ a6 r + j) (by omega) (by omega) c1 c2
    subst er
    refine ⟨pk_in r 32 hr32, ?_⟩
    rw [nI_clamp (show r < 2 ^ 31 by omega), e5, e6, e7, qa_pl, nI_add, qa_pl, nI_add]
    refine br_f (nI_ge (by omega) (by omega)) ⟨pk_in r 32 hr32, pk_in r 32 hr32, nm_e ⟨pk_in r 32 hr32, nm_e ⟨pk_in (8 * cn_ a5 r + cn_ a6 r + j) 32 (by omega), pk_in (8 * q + cn_ a6 r + j) 32 (by omega), ?_⟩⟩⟩
    rw [nI_clamp (show 8 * q + cn_ a6 r + j < 2 ^ 31 by omega), nI_clamp (show 8 * cn_ a5 r + cn_ a6 r + j < 2 ^ 31 by omega), ec, qa_vb _ (by omega)]
    have em := qa_set mp (8 * q + cn_ a6 r + j) (by omega)
    have ep := qa_cp pr pr (8 * cn_ a5 r + cn_ a6 r + j) (8 * q + cn_ a6 r + j) (by omega) (by omega)
    rw [pt, Bool.false_or] at ep
    have e1 := qa_cu a1 (8 * q + cn_ a6 r + j) (cn_ a1 (8 * cn_ a5 r + cn_ a6 r + j)) (by omega)
    refine nm_e (nm_e (nm_e (nm_r (nI_1 j) (ih (j + 1) _ _ _ (by omega) ⟨⟨?_, hp, hr⟩, hR, hD, ?_, ?_, ?_, ?_⟩ (fun c c1 c2 => ?_) (fun c hc mc' => ?_)))))
    · intro c hc
      rw [em, e1]
      by_cases y : c = 8 * q + cn_ a6 r + j
      · rw [y, fu_s, fu_s, pk_us]
        exact ⟨fun _ => rfl, fun z => absurd z (by decide)⟩
      · rw [fu_n y, fu_n y, pk_un y]
        exact ha c hc
    · rw [em]
      refine qk_H_pg hH (fun x y => ?_)
      by_cases z : x = 8 * q + cn_ a6 r + j
      · exact Or.inl z
      · exact Or.inr ⟨by omega, y.2⟩
    · rw [em, e1]
      exact qk_M_cp hM hk zk (by omega) (by omega) (by rw [show (8 * q + cn_ a6 r + j) / 8 = q by omega]; exact hS) (kg _ c3) (by omega)
    · rw [em, e1]
      exact qk_G_cp hG (by omega) mc mt
    · rw [em, e1, ep]
      exact qk_P_cp hP (by omega) mc
    · rw [em, fu_n (by omega)]
      exact hm c (by omega) c2
    · rw [em] at mc'
      by_cases y : c = 8 * q + cn_ a6 r + j
      · exact Or.inr (by omega)
      · rw [fu_n y] at mc'
        exact h0 c hc mc'
theorem qw_inh {post : St1 → Prop} (hI : qi_I (fun _ => False) ps pr mp pg rs rg a1 a3 a4 a5 a6 a7 a8 a9 a10) (r q : Nat) (hq4 : q < 4) (hr32 : r < 32) (zr : bt rg r = true) (hqr : q ≠ cn_ a5 r) (hS : bt ps q = true) (hm : ∀ c, 8 * q + cn_ a6 r ≤ c → c < 8 * q + cn_ a6 r + cn_ a7 r → bt mp c = false)
    (h : ∀ pr' mp' rg' gs' a1' a5' a6' a7' a8' a9' a10', qi_I (fun _ => False) ps pr' mp' pg rs rg' a1' a3 a4 a5' a6' a7' a8' a9' a10' → (∀ t, t < 32 → bt rg t = true → bt rg' t = true ∧ cn_ a5' t = cn_ a5 t ∧ cn_ a6' t = cn_ a6 t ∧ cn_ a7' t = cn_ a7 t) → (∀ c, c < 32 → bt mp' c = true → bt mp c = true ∨ (8 * q + cn_ a6 r ≤ c ∧ c < 8 * q + cn_ a6 r + cn_ a7 r)) → post (ps, pr', mp', pg, rs, rg', gs', a1', a2, a3, a4, a5', a6', a7', a8', a9', a10')) : wpX_inherit post (ps, pr, mp, pg, rs, rg, gs, a1, a2, a3, a4, a5, a6, a7, a8, a9, a10) (nI r) (nI q) := by
  unfold wpX_inherit
  refine qw_fresh hI (fun g gs' b10 hg hI1 => ⟨pk_in r 32 hr32, pk_in r 32 hr32, pk_in r 32 hr32, ?_⟩)
  have hI2 := hI1
  obtain ⟨⟨ha, hp, hr⟩, hR, hD, hH, hM, hG, hP⟩ := hI1
  obtain ⟨e5, e6, e7, e8, e9⟩ := hr r hr32 zr
  obtain ⟨b1, b2, b3, b4, b5, b6⟩ := hR r hr32 zr
  have hd : ∀ t, t < 32 → bt rg t = true → 8 * cn_ a5 t + cn_ a6 t + cn_ a7 t ≤ 8 * q + cn_ a6 r ∨ 8 * q + cn_ a6 r + cn_ a7 r ≤ 8 * cn_ a5 t + cn_ a6 t := fun t ht zt => qm_off hH hR b2 hm ht zt
  rw [nI_clamp (show r < 2 ^ 31 by omega), e6, e7, e8]
  refine qw_nR (qk_freeR hR hD (8 * q + cn_ a6 r) (by omega) (fun t ht zt z => ?_)) q (cn_ a6 r) (cn_ a7 r) (cn_ a8 r) (by omega) (by omega) (by omega) (by omega) (fun k k32 zk => ⟨pk_in k 32 k32, ?_⟩)
  · have y := hd t ht zt
    have b := hR t ht zt
    omega
  · have ne : r ≠ k := fun z => by rw [← z] at zk; exact qa_tf zr zk
    rw [nI_clamp (show k < 2 ^ 31 by omega), qa_by g (by omega)]
    have u5 := qa_cu a5 k q (by omega)
    have u6 := qa_cu a6 k (cn_ a6 r) (by omega)
    have u7 := qa_cu a7 k (cn_ a7 r) (by omega)
    have u8 := qa_cu a8 k (cn_ a8 r) (by omega)
    have u10 := qa_gu b10 k (b10 r ||| ((1 : Int64) <<< ((nI g).toInt64 &&& 63)))
    have y5 : cn_ (upd a5 k (nI q)) r = cn_ a5 r := by rw [u5, fu_n ne]
    have y6 : cn_ (upd a6 k (nI (cn_ a6 r))) r = cn_ a6 r := by rw [u6, fu_n ne]
    have y7 : cn_ (upd a7 k (nI (cn_ a7 r))) r = cn_ a7 r := by rw [u7, fu_n ne]
    have y8 : cn_ (upd a8 k (nI (cn_ a8 r))) r = cn_ a8 r := by rw [u8, fu_n ne]
    refine nm_e ⟨pk_in r 32 hr32, pk_in k 32 k32, nm_e ⟨cn_ a7 r + 1, ?_⟩⟩
    refine qw_in59 (k := k) (mp0 := mp) hq4 hr32 k32 ?_ ?_ ?_ ?_ ?_ ?_ ?_ ?_ hS (fun pr' mp' a1' hI3 hc3 => h _ _ _ _ _ _ _ _ _ _ _ hI3 (fun t ht zt => ?_) ?_) (cn_ a7 r) 0 pr mp a1 ?_ ?_ ?_ ?_
    · rw [qa_set rg k k32, fu_n ne]; exact zr
    · rw [qa_set rg k k32, fu_s]
    · rw [y5]; exact hqr
    · rw [u5, fu_s]
    · rw [y6, u6, fu_s]
    · rw [y7, u7, fu_s]
    · rw [y8, u8, fu_s]
    · intro g' hg'
      rw [u10, fu_n ne] at hg'
      rw [u10, fu_s]
      show (b10 r ||| ((1 : Int64) <<< ((nI g).toInt64 &&& 63))).toBitVec.getLsbD g' = true
      rw [qa_gor _ _ hg]
      have y : (b10 r).toBitVec.getLsbD g' = true := hg'
      rw [y]; rfl
    · have nt : t ≠ k := fun z => by rw [z] at zt; exact qa_tf zt zk
      rw [qa_set rg k k32, u5, u6, u7, fu_n nt, fu_n nt, fu_n nt, fu_n nt]
      exact ⟨zt, rfl, rfl, rfl⟩
    · rw [y6, y7] at hc3
      exact hc3
    · rw [y7]; omega
    · rw [y6, y7]
      refine qi_add hI2 k32 zk hq4 b2 b3 b4 hg ?_ hd (fun c q => False.elim q) (fun c c1 c2 => ⟨c1, c2⟩)
      rw [qa_gor _ _ hg, decide_eq_true rfl, Bool.or_true]
    · rw [y6, y7]
      exact hm
    · intro c hc mc
      exact Or.inl mc
theorem qw_fk42 {post : Int32 → St1 → Prop} {p q : Nat} {old : Int32} (hp4 : p < 4) (hq4 : q < 4) (hpq : p ≠ q) (hS : bt ps q = true)
    (h : ∀ pr mp rg gs a1 a5 a6 a7 a8 a9 a10, qi_I (fun _ => False) ps pr mp pg rs rg a1 a3 a4 a5 a6 a7 a8 a9 a10 → post (nI q) (ps, pr, mp, pg, rs, rg, gs, a1, a2, a3, a4, a5, a6, a7, a8, a9, a10)) :
    ∀ (m i : Nat) (pr mp rg : Int32) (gs : Int64) (a1 a5 a6 a7 a8 a9 : Nat → Int32) (a10 : Nat → Int64), i + m = 32 → qi_I (fun _ => False) ps pr mp pg rs rg a1 a3 a4 a5 a6 a7 a8 a9 a10 → (∀ r, r < 32 → bt old r = true → bt rg r = true) → (∀ c, c < 32 → bt mp c = true → c / 8 = q → ∃ r, r < i ∧ bt old r = true ∧ cn_ a5 r = p ∧ 8 * q + cn_ a6 r ≤ c ∧ c < 8 * q + cn_ a6 r + cn_ a7 r) → wX_fork_42 post (nI p) (nI q) old (m + 1) (nI i) ps pr mp pg rs rg gs a1 a2 a3 a4 a5 a6 a7 a8 a9 a10 := by
  intro m
  induction m with
  | zero =>
    intro i pr mp rg gs a1 a5 a6 a7 a8 a9 a10 e hI ho hc
    have e' : i = 32 := by omega
    subst e'
    exact pk_le 32 32 (fun _ => h _ _ _ _ _ _ _ _ _ _ _ hI) (fun z => absurd z (by omega))
  | succ m ih =>
    intro i pr mp rg gs a1 a5 a6 a7 a8 a9 a10 e hI ho hc
    have skip : wX_fork_42 post (nI p) (nI q) old (m + 1) (nI (i + 1)) ps pr mp pg rs rg gs a1 a2 a3 a4 a5 a6 a7 a8 a9 a10 := ih (i + 1) _ _ _ _ _ _ _ _ _ _ _ (by omega) hI ho (fun c c32 mc cq => by
      obtain ⟨r, k1, k2⟩ := hc c c32 mc cq
      exact ⟨r, by omega, k2⟩)
    refine pk_le 32 i (fun z => absurd z (by omega)) (fun z => qa_br (bt old i) (qa_t old i (by omega)) (fun _ => nm_r (nI_1 i) skip) (fun zo => ⟨pk_in i 32 (by omega), ?_⟩))
    have zi := ho i (by omega) zo
    have hI' := hI
    obtain ⟨⟨ha, hp, hr⟩, hR, hD, hH, hM, hG, hP⟩ := hI'
    obtain ⟨e5, e6, e7, e8, e9⟩ := hr i (by omega) zi
    obtain ⟨b1, b2, b3, b4, b5, b6⟩ := hR i (by omega) zi
    rw [nI_clamp (show i < 2 ^ 31 by omega), e5]
    refine pk_eq (cn_ a5 i) p (fun ep => ?_) (fun _ => nm_r (nI_1 i) skip)
    refine qw_inh hI i q hq4 (by omega) zi (by omega) hS (fun c c1 c2 => qa_nt (fun mc => ?_)) (fun pr' mp' rg' gs' a1' a5' a6' a7' a8' a9' a10' hI2 hk hc2 => nm_r (nI_1 i) (ih (i + 1) _ _ _ _ _ _ _ _ _ _ _ (by omega) hI2 (fun r hr32 zr => (hk r hr32 (ho r hr32 zr)).1) (fun c c32 mc cq => ?_)))
    · obtain ⟨r, k1, k2, k3, k4, k5⟩ := hc c (by omega) mc (by omega)
      have zr := ho r (by omega) k2
      have u := qk_uni hD (r := r) (t := i) (c := 8 * p + (c - 8 * q)) (by omega) (by omega) zr zi (by omega) (by omega) (by omega) (by omega)
      omega
    · rcases hc2 c c32 mc with y | y
      · obtain ⟨r, k1, k2, k3, k4, k5⟩ := hc c c32 y cq
        obtain ⟨_, j5, j6, j7⟩ := hk r (by omega) (ho r (by omega) k2)
        exact ⟨r, by omega, k2, by rw [j5]; exact k3, by rw [j6]; exact k4, by rw [j6, j7]; exact k5⟩
      · obtain ⟨_, j5, j6, j7⟩ := hk i (by omega) zi
        exact ⟨i, by omega, zo, by rw [j5]; exact ep, by rw [j6]; exact y.1, by rw [j6, j7]; exact y.2⟩
theorem qw_fork {post : Int32 → St1 → Prop} (hI : qi_I (fun _ => False) ps pr mp pg rs rg a1 a3 a4 a5 a6 a7 a8 a9 a10) (p : Nat) (hp4 : p < 4)
    (h : ∀ k ps pr mp pg rs rg gs a1 a2 a3 a4 a5 a6 a7 a8 a9 a10, qi_I (fun _ => False) ps pr mp pg rs rg a1 a3 a4 a5 a6 a7 a8 a9 a10 → post k (ps, pr, mp, pg, rs, rg, gs, a1, a2, a3, a4, a5, a6, a7, a8, a9, a10)) : wpX_fork post (ps, pr, mp, pg, rs, rg, gs, a1, a2, a3, a4, a5, a6, a7, a8, a9, a10) (nI p) := by
  unfold wpX_fork
  refine qw_has p hp4 (fun _ => br_t rfl (h _ _ _ _ _ _ _ _ _ _ _ _ _ _ _ _ _ _ hI)) (fun zp => br_f (by decide) (qw_fP (fun q hq zq => br_t (nI_pos' (by omega)) (nm_e ⟨33, qw_fk42 hp4 hq ?_ ?_ (fun _ _ _ _ _ _ _ _ _ _ _ hI2 => h _ _ _ _ _ _ _ _ _ _ _ _ _ _ _ _ _ _ hI2) 32 0 _ _ _ _ _ _ _ _ _ _ _ (by omega) ?_ (fun r _ z => z) (fun c hc mc cq => ?_)⟩)) (br_f (by decide) (h _ _ _ _ _ _ _ _ _ _ _ _ _ _ _ _ _ _ hI))))
  · intro z
    rw [z] at zp
    exact qa_tf zp zq
  · rw [qa_set ps q (by omega), fu_s]
  · obtain ⟨hA, hR, hD, hH, hM, hG, hP⟩ := hI
    refine ⟨hA, hR, hD, hH, qk_M_S hM (fun c hc mc sc => ?_), hG, hP⟩
    rw [qa_set ps q (by omega)]
    by_cases e : c / 8 = q
    · rw [e, fu_s]
    · rw [fu_n e]; exact sc
  · obtain ⟨hA, hR, hD, hH, hM, hG, hP⟩ := hI
    have y := (hM c hc mc).1
    rw [cq] at y
    exact qa_tf y zq
end
end
section
section
variable {ps pr mp pg rs rg : Int32} {gs : Int64} {a1 a2 a3 a4 a5 a6 a7 a8 a9 : Nat → Int32} {a10 : Nat → Int64} {H : Nat → Prop}
/-! ===== answers ===== -/
theorem qw_mapped {post : Int32 → Prop} (hI : qi_I H ps pr mp pg rs rg a1 a3 a4 a5 a6 a7 a8 a9 a10) (p : Nat) (hp4 : p < 4) (h : ∀ x, (∀ v, v < 8 → bt x v = bt mp (8 * p + v)) → post x) : wpX_mapped post (ps, pr, mp, pg, rs, rg, gs, a1, a2, a3, a4, a5, a6, a7, a8, a9, a10) (nI p) := by
  unfold wpX_mapped
  obtain ⟨hA, hR, hD, hH, hM, hG, hP⟩ := hI
  refine qw_has p hp4 (fun z => br_t rfl (h _ (fun v hv => ?_))) (fun z => br_f (by decide) ?_)
  · rw [b_0]
    refine (qa_nt (fun y => ?_)).symm
    have t := (hM _ (by omega) y).1
    rw [show (8 * p + v) / 8 = p by omega] at t
    exact qa_tf t z
  · rw [qa_p8]
    exact h _ (fun v hv => qa_255 mp (8 * p) v (by omega) hv)
theorem qw_resid {post : Int32 → Prop} (hI : qi_I H ps pr mp pg rs rg a1 a3 a4 a5 a6 a7 a8 a9 a10) (p : Nat) (hp4 : p < 4) (h : ∀ x, (∀ v, v < 8 → bt x v = bt pr (8 * p + v)) → post x) : wpX_resident post (ps, pr, mp, pg, rs, rg, gs, a1, a2, a3, a4, a5, a6, a7, a8, a9, a10) (nI p) := by
  unfold wpX_resident
  obtain ⟨hA, hR, hD, hH, hM, hG, hP⟩ := hI
  refine qw_has p hp4 (fun z => br_t rfl (h _ (fun v hv => ?_))) (fun z => br_f (by decide) ?_)
  · rw [b_0, hP.2 _ (by omega)]
    have y : bt mp (8 * p + v) = false := by
      refine qa_nt (fun y => ?_)
      have t := (hM _ (by omega) y).1
      rw [show (8 * p + v) / 8 = p by omega] at t
      exact qa_tf t z
    rw [y]; rfl
  · rw [qa_p8]
    exact h _ (fun v hv => qa_255 pr (8 * p) v (by omega) hv)
theorem qw_mprs {post : Int32 → Prop} (hI : qi_I H ps pr mp pg rs rg a1 a3 a4 a5 a6 a7 a8 a9 a10) (p v : Nat) (hp4 : p < 4) (hv : v < 8) (h0 : bt mp (8 * p + v) = false → post 0) (h : bt mp (8 * p + v) = true → ∀ x, (∀ d, d < 32 → (bt x d = true ↔ bt mp d = true ∧ cn_ a1 d = cn_ a1 (8 * p + v))) → post x) : wpX_mappers post (ps, pr, mp, pg, rs, rg, gs, a1, a2, a3, a4, a5, a6, a7, a8, a9, a10) (nI p) (nI v) := by
  unfold wpX_mappers
  obtain ⟨⟨ha, hp, hr⟩, hR, hD, hH, hM, hG, hP⟩ := hI
  refine qw_isM hM p v hp4 hv (fun z => br_t rfl (h0 z)) (fun mc => br_f (by decide) ?_)
  obtain ⟨g32, gg⟩ := hG.1 (8 * p + v) (by omega) mc
  rw [qa_pl, nI_clamp (show 8 * p + v < 2 ^ 31 by omega), (ha (8 * p + v) (by omega)).1 mc]
  exact ⟨pk_in (8 * p + v) 32 (by omega), qw_walk ha hp hr hR hM hG _ g32 gg (fun x hx => h mc x hx)⟩
/-! ===== one place ===== -/
theorem qw_one45 {post : Int32 → Prop} (hI : qi_I H ps pr mp pg rs rg a1 a3 a4 a5 a6 a7 a8 a9 a10) (c : Nat) (hc : c < 32) (mc : bt mp c = true) (x z : Int32) (hx : ∀ d, d < 32 → (bt x d = true ↔ bt mp d = true ∧ cn_ a1 d = cn_ a1 c)) (hz : z = if bt pr c = true then 1 else 0) (h : post 1) : ∃ fu, wL_one_45 post x z ps pr mp pg rs rg gs a1 a2 a3 a4 a5 a6 a7 a8 a9 a10 fu 0 := by
  have hP := hI.2.2.2.2.2.2
  refine pk_loop (σ := Unit) (fun n i _ => wL_one_45 post x z ps pr mp pg rs rg gs a1 a2 a3 a4 a5 a6 a7 a8 a9 a10 n (nI i)) (fun _ _ => True) 32 0 () (by omega) trivial (fun n _ _ => pk_le 32 32 (fun _ => h) (fun y => absurd y (by omega))) ?_
  intro n i _ hi _ hw
  refine pk_le 32 i (fun y => absurd y (by omega)) (fun _ => qa_br1 (bt x i) (qa_a1 x i hi) (fun y => ?_) (fun y => nm_r (nI_1 i) (hw () trivial)))
  obtain ⟨mi, bi⟩ := (hx i hi).mp y
  have ei : 8 * (i / 8) + i % 8 = i := by omega
  have pp : bt pr i = bt pr c := by rw [hP.2 i hi, hP.2 c hc, mi, mc, bi]
  refine nm_r (pk_shrN (by omega) _ 3 (by decide)) (nm_r (pk_andN (by omega) 3 (by decide)) ?_)
  show wpX_mappers _ _ (nI (i / 8)) (nI (i % 8))
  refine qw_mprs hI (i / 8) (i % 8) (by omega) (by omega) (fun q => ?_) (fun _ x' hx' => br_t ?_ ?_)
  · rw [ei] at q
    exact qa_tf mi q
  · rw [ei] at hx'
    refine b_ext (fun d hd => ?_)
    have t1 := hx d hd
    have t2 := hx' d hd
    rw [bi] at t2
    cases e1 : bt x d with
    | true => exact t2.mpr (t1.mp e1)
    | false => exact qa_nt (fun q => by have t3 := t1.mpr (t2.mp q); rw [e1] at t3; exact absurd t3 (by decide))
  · refine qw_resid hI (i / 8) (by omega) (fun w hw' => ?_)
    have t := hw' (i % 8) (by omega)
    rw [ei, pp] at t
    refine qa_br1 (bt w (i % 8)) (qa_a1 w (i % 8) (by omega)) (fun q => br_t ?_ (nm_r (nI_1 i) (hw () trivial))) (fun q => br_t ?_ (nm_r (nI_1 i) (hw () trivial)))
    · rw [hz, ← t, q]; rfl
    · rw [hz, ← t, q]; rfl
theorem qw_one {post : Int32 → Prop} (hI : qi_I H ps pr mp pg rs rg a1 a3 a4 a5 a6 a7 a8 a9 a10) (p v : Nat) (hp4 : p < 4) (hv : v < 8) (mc : bt mp (8 * p + v) = true) (h : post 1) : wpL_one post (ps, pr, mp, pg, rs, rg, gs, a1, a2, a3, a4, a5, a6, a7, a8, a9, a10) (nI p) (nI v) := by
  unfold wpL_one
  refine qw_mprs hI p v hp4 hv (fun q => qa_tf mc q) (fun _ x hx => qw_resid hI p hp4 (fun w hw => ?_))
  have t := hw v hv
  have b := (hx (8 * p + v) (by omega)).mpr ⟨mc, rfl⟩
  refine qa_br1 (bt w v) (qa_a1 w v (by omega)) (fun q => br_f ?_ (qw_one45 hI (8 * p + v) (by omega) mc x 1 hx ?_ h)) (fun q => br_f ?_ (qw_one45 hI (8 * p + v) (by omega) mc x 0 hx ?_ h))
  · rw [qa_pl, qa_a x _ (by omega), b]; decide
  · rw [← t, q]; rfl
  · rw [qa_pl, qa_a x _ (by omega), b]; decide
  · rw [← t, q]; rfl
theorem qw_all15 {post : Int32 → Prop} {J : Int32 → Prop} (hI : qi_I H ps pr mp pg rs rg a1 a3 a4 a5 a6 a7 a8 a9 a10) (p : Nat) (hp4 : p < 4) (x : Int32) (hx : ∀ v, v < 8 → bt x v = bt mp (8 * p + v)) (h : J (nI (p + 1))) : ∃ fu, wL_all_15 post J (nI p) x ps pr mp pg rs rg gs a1 a2 a3 a4 a5 a6 a7 a8 a9 a10 fu 0 := by
  refine pk_loop (σ := Unit) (fun n i _ => wL_all_15 post J (nI p) x ps pr mp pg rs rg gs a1 a2 a3 a4 a5 a6 a7 a8 a9 a10 n (nI i)) (fun _ _ => True) 8 0 () (by omega) trivial (fun n _ _ => pk_le 8 8 (fun _ => nm_r (nI_1 p) h) (fun y => absurd y (by omega))) ?_
  intro n i _ hi _ hw
  exact pk_le 8 i (fun y => absurd y (by omega)) (fun _ => qa_br1 (bt x i) (qa_a1 x i (by omega)) (fun y => qw_one hI p i hp4 hi (by rw [← hx i hi]; exact y) (br_f (by decide) (nm_r (nI_1 i) (hw () trivial)))) (fun y => nm_r (nI_1 i) (hw () trivial)))
theorem qw_rp {post : Int32 → Prop} (h : post (nI (qo_c rs 32))) : wpX_residentPages post (ps, pr, mp, pg, rs, rg, gs, a1, a2, a3, a4, a5, a6, a7, a8, a9, a10) := by
  unfold wpX_residentPages
  exact qw_ones rs h
theorem qw_pp {post : Int32 → Prop} (h : post (nI (qo_c pg 32))) : wpX_pages post (ps, pr, mp, pg, rs, rg, gs, a1, a2, a3, a4, a5, a6, a7, a8, a9, a10) := by
  unfold wpX_pages
  exact qw_ones pg h
theorem qw_all {post : Int32 → Prop} (hI : qi_I H ps pr mp pg rs rg a1 a3 a4 a5 a6 a7 a8 a9 a10) (h : post 1) : wpL_all post (ps, pr, mp, pg, rs, rg, gs, a1, a2, a3, a4, a5, a6, a7, a8, a9, a10) := by
  refine pk_loop (σ := Unit) (fun n i _ => wL_all_2 post ps pr mp pg rs rg gs a1 a2 a3 a4 a5 a6 a7 a8 a9 a10 n (nI i)) (fun _ _ => True) 4 0 () (by omega) trivial (fun n _ _ => pk_le 4 4 (fun _ => ?_) (fun y => absurd y (by omega))) ?_
  · refine qw_rp (qw_pp (br_f (nI_nlt (qo_mono (fun i hi q => ?_) 32 (by omega)) (by have := qo_le pg 32; omega)) h))
    exact hI.2.2.2.2.2.2.1 i hi q
  · intro n i _ hi _ hw
    exact pk_le 4 i (fun y => absurd y (by omega)) (fun _ => qw_mapped hI i hi (fun x hx => qw_all15 hI i hi x hx (hw () trivial)))
/-! ===== one call ===== -/
theorem qw_call {post : St1 → Prop} (hI : qi_I (fun _ => False) ps pr mp pg rs rg a1 a3 a4 a5 a6 a7 a8 a9 a10) (w p v : Nat) (x : Int32) (hw : w < 32) (hp4 : p < 4) (hv : v < 8)
    (h : ∀ ps pr mp pg rs rg gs a1 a2 a3 a4 a5 a6 a7 a8 a9 a10, qi_I (fun _ => False) ps pr mp pg rs rg a1 a3 a4 a5 a6 a7 a8 a9 a10 → (18 ≤ w → w < 21 → bt mp (8 * p + v) = true → bt pr (8 * p + v) = true) → (21 ≤ w → w < 28 → bt mp (8 * p + v) = true → (∀ d, d < 32 → bt mp d = true → cn_ a1 d = cn_ a1 (8 * p + v) → d = 8 * p + v) ∧ a2 (cn_ a1 (8 * p + v)) = x) → post (ps, pr, mp, pg, rs, rg, gs, a1, a2, a3, a4, a5, a6, a7, a8, a9, a10)) : wpL_call post (ps, pr, mp, pg, rs, rg, gs, a1, a2, a3, a4, a5, a6, a7, a8, a9, a10) (nI w) (nI p) (nI v) x := by
  obtain ⟨j, hj, ej⟩ := pk_andE x (m := 3) 2 (by decide)
  obtain ⟨t, ht, et⟩ := pk_andE (x >>> ((2 : Int32) &&& 31)) (m := 7) 3 (by decide)
  have ht8 : t < 8 := ht
  have hj4 : j < 4 := hj
  refine nm_r (e' := nI (1 + j)) (by rw [ej]; exact nI_add 1 j) (pk_le 2 w (fun z2 => pk_le 6 w (fun z6 => pk_le 7 w (fun z7 => pk_le 13 w (fun z13 => pk_le 15 w (fun z15 => pk_le 18 w (fun z18 => pk_le 21 w (fun z21 => pk_le 28 w (fun z28 => ?_) (fun z28 => ?_)) (fun z21 => ?_)) (fun z18 => ?_)) (fun z15 => ?_)) (fun z13 => ?_)) (fun z7 => ?_)) (fun z6 => ?_)) (fun z2 => ?_))
  · exact qw_out hI p v hp4 hv (fun k pr' rs' hI' => h _ _ _ _ _ _ _ _ _ _ _ _ _ _ _ _ _ hI' (fun _ _ => by omega) (fun _ _ => by omega))
  · exact qw_write hI p v hp4 hv (fun z => h _ _ _ _ _ _ _ _ _ _ _ _ _ _ _ _ _ hI (fun _ _ => by omega) (fun _ _ y => qa_tf y z)) (fun pr' mp' pg' rs' a1' a2' a3' a4' hI' em u1 u2 => h _ _ _ _ _ _ _ _ _ _ _ _ _ _ _ _ _ hI' (fun _ _ => by omega) (fun _ _ _ => ⟨u1, u2⟩))
  · exact qw_read hI p v hp4 hv (fun z => h _ _ _ _ _ _ _ _ _ _ _ _ _ _ _ _ _ hI (fun _ _ y => qa_tf y z) (fun _ _ => by omega)) (fun pr' rs' hI' _ bp => h _ _ _ _ _ _ _ _ _ _ _ _ _ _ _ _ _ hI' (fun _ _ _ => bp) (fun _ _ => by omega))
  · rw [et]
    exact qw_move hI p v (1 + j) t hp4 hv (by omega) (by omega) ht8 (fun k _ _ _ _ _ _ _ _ _ _ _ _ _ _ _ _ _ hI' => h _ _ _ _ _ _ _ _ _ _ _ _ _ _ _ _ _ hI' (fun _ _ => by omega) (fun _ _ => by omega))
  · exact qw_unmap hI p v (1 + j) hp4 hv (by omega) (by omega) (fun _ => h _ _ _ _ _ _ _ _ _ _ _ _ _ _ _ _ _ hI (fun _ _ => by omega) (fun _ _ => by omega)) (fun k _ _ _ _ _ _ _ _ _ _ _ _ hI' _ => h _ _ _ _ _ _ _ _ _ _ _ _ _ _ _ _ _ hI' (fun _ _ => by omega) (fun _ _ => by omega))
  · exact qw_map hI p v (1 + j) hp4 hv (by omega) (by omega) (fun k _ _ _ _ _ _ _ _ _ _ _ _ _ _ _ _ _ hI' => h _ _ _ _ _ _ _ _ _ _ _ _ _ _ _ _ _ hI' (fun _ _ => by omega) (fun _ _ => by omega))
  · exact qw_exit hI p hp4 (fun k _ _ _ _ _ _ _ _ _ _ _ _ _ _ _ _ _ hI' => h _ _ _ _ _ _ _ _ _ _ _ _ _ _ _ _ _ hI' (fun _ _ => by omega) (fun _ _ => by omega))
  · exact qw_fork hI p hp4 (fun k _ _ _ _ _ _ _ _ _ _ _ _ _ _ _ _ _ hI' => h _ _ _ _ _ _ _ _ _ _ _ _ _ _ _ _ _ hI' (fun _ _ => by omega) (fun _ _ => by omega))
  · exact qw_spawn hI (fun k _ _ _ _ _ _ _ _ _ _ _ _ _ _ _ _ _ hI' => h _ _ _ _ _ _ _ _ _ _ _ _ _ _ _ _ _ hI' (fun _ _ => by omega) (fun _ _ => by omega))
end
end
section
section
variable {ps pr mp pg rs rg : Int32} {gs : Int64} {a1 a2 a3 a4 a5 a6 a7 a8 a9 : Nat → Int32} {a10 : Nat → Int64} {H : Nat → Prop}
theorem qw_l131 {post : Int32 → Prop} {L : Nat} {xs : Nat → Int32} {J : Int32 → Int32 → Int32 → Int32 → Int32 → Int32 → Int32 → Int64 → (Nat → Int32) → (Nat → Int32) → (Nat → Int32) → (Nat → Int32) → (Nat → Int32) → (Nat → Int32) → (Nat → Int32) → (Nat → Int32) → (Nat → Int32) → (Nat → Int64) → Prop} {kc ks k w p v : Nat} {x z : Int32} (hI : qi_I H ps pr mp pg rs rg a1 a3 a4 a5 a6 a7 a8 a9 a10) (hw : w < 32) (hp4 : p < 4) (hv : v < 8) (hz : z = 0 ∨ bt mp (8 * p + v) = true)
    (hwr : 21 ≤ w → w < 28 → bt mp (8 * p + v) = true → (∀ d, d < 32 → bt mp d = true → cn_ a1 d = cn_ a1 (8 * p + v) → d = 8 * p + v) ∧ a2 (cn_ a1 (8 * p + v)) = x)
    (h : ∀ pr' rs', qi_I H ps pr' mp pg rs' rg a1 a3 a4 a5 a6 a7 a8 a9 a10 → J (nI (k + 2)) ps pr' mp pg rs' rg gs a1 a2 a3 a4 a5 a6 a7 a8 a9 a10) : wL_law_131 post L xs J (nI k) (nI w) (nI p) (nI v) x z kc ks ps pr mp pg rs rg gs a1 a2 a3 a4 a5 a6 a7 a8 a9 a10 := by
  have e2 : nI k + 2 = nI (k + 2) := nI_add k 2
  refine br_c (fun _ => nm_r e2 (h _ _ hI)) (fun z0 => pk_lt w 21 (fun _ => nm_r e2 (h _ _ hI)) (fun w1 => pk_le 28 w (fun _ => nm_r e2 (h _ _ hI)) (fun w2 => ?_)))
  have mc := hz.resolve_left z0
  obtain ⟨u1, u2⟩ := hwr w1 w2 mc
  refine qw_mprs hI p v hp4 hv (fun q => qa_tf mc q) (fun _ y hy => br_t ?_ (qw_read hI p v hp4 hv (fun q => qa_tf mc q) (fun pr' rs' hI' _ _ => br_t u2 (nm_r e2 (h _ _ hI')))))
  rw [qa_pl]
  refine b_ext (fun d hd => ?_)
  rw [qa_sh1 _ (by omega)]
  by_cases e : d = 8 * p + v
  · rw [e, decide_eq_true rfl]
    exact (hy _ (by omega)).mpr ⟨mc, rfl⟩
  · rw [decide_eq_false e]
    exact qa_nt (fun q => e (u1 d hd ((hy d hd).mp q).1 ((hy d hd).mp q).2))
theorem qw_l96 {post : Int32 → Prop} {L : Nat} {xs : Nat → Int32} {J : Int32 → Int32 → Int32 → Int32 → Int32 → Int32 → Int32 → Int64 → (Nat → Int32) → (Nat → Int32) → (Nat → Int32) → (Nat → Int32) → (Nat → Int32) → (Nat → Int32) → (Nat → Int32) → (Nat → Int32) → (Nat → Int32) → (Nat → Int64) → Prop} {kc ks k w p v : Nat} {x z : Int32} (hI : qi_I H ps pr mp pg rs rg a1 a3 a4 a5 a6 a7 a8 a9 a10) (hw : w < 32) (hp4 : p < 4) (hv : v < 8) (hz : z = 0 ∨ bt mp (8 * p + v) = true)
    (hrd : 18 ≤ w → w < 21 → bt mp (8 * p + v) = true → bt pr (8 * p + v) = true)
    (hwr : 21 ≤ w → w < 28 → bt mp (8 * p + v) = true → (∀ d, d < 32 → bt mp d = true → cn_ a1 d = cn_ a1 (8 * p + v) → d = 8 * p + v) ∧ a2 (cn_ a1 (8 * p + v)) = x)
    (h : ∀ pr' rs', qi_I H ps pr' mp pg rs' rg a1 a3 a4 a5 a6 a7 a8 a9 a10 → J (nI (k + 2)) ps pr' mp pg rs' rg gs a1 a2 a3 a4 a5 a6 a7 a8 a9 a10) : wL_law_96 post L xs J (nI k) (nI w) (nI p) (nI v) x z kc ks ps pr mp pg rs rg gs a1 a2 a3 a4 a5 a6 a7 a8 a9 a10 := by
  have t : wL_law_131 post L xs J (nI k) (nI w) (nI p) (nI v) x z kc ks ps pr mp pg rs rg gs a1 a2 a3 a4 a5 a6 a7 a8 a9 a10 := qw_l131 hI hw hp4 hv hz hwr h
  refine br_c (fun _ => t) (fun z0 => pk_lt w 18 (fun _ => t) (fun w1 => pk_le 21 w (fun _ => t) (fun w2 => qw_resid hI p hp4 (fun y hy => br_f ?_ t))))
  rw [qa_a y v (by omega), hy v hv, hrd w1 w2 (hz.resolve_left z0)]
  decide
theorem qw_law {post : Int32 → Prop} {L : Nat} {xs : Nat → Int32} {kc ks : Nat} (hL : L ≤ 260) (h : post 1) : ∀ (m k : Nat) (ps pr mp pg rs rg : Int32) (gs : Int64) (a1 a2 a3 a4 a5 a6 a7 a8 a9 : Nat → Int32) (a10 : Nat → Int64), k ≤ L → L ≤ k + 1 + m → qi_I (fun _ => False) ps pr mp pg rs rg a1 a3 a4 a5 a6 a7 a8 a9 a10 → wL_law_10 post L xs kc ks (m + 1) (nI k) ps pr mp pg rs rg gs a1 a2 a3 a4 a5 a6 a7 a8 a9 a10 := by
  intro m
  induction m with
  | zero =>
    intro k ps pr mp pg rs rg gs a1 a2 a3 a4 a5 a6 a7 a8 a9 a10 k1 k2 hI
    exact br_t (by rw [nI_1]; exact nI_le k2 (by omega)) h
  | succ m ih =>
    intro k ps pr mp pg rs rg gs a1 a2 a3 a4 a5 a6 a7 a8 a9 a10 k1 k2 hI
    by_cases e : L ≤ k + 1
    · exact br_t (by rw [nI_1]; exact nI_le e (by omega)) h
    · refine br_f (by rw [nI_1]; exact nI_ge (by omega) (by omega)) ⟨pk_in k L (by omega), ?_⟩
      obtain ⟨w, hw, ew⟩ := pk_andE (xs (nI k).toNatClampNeg) (m := 31) 5 (by decide)
      obtain ⟨p, hp, ep⟩ := pk_andE ((xs (nI k).toNatClampNeg) >>> ((5 : Int32) &&& 31)) (m := 3) 2 (by decide)
      obtain ⟨v, hv, ev⟩ := pk_andE ((xs (nI k).toNatClampNeg) >>> ((7 : Int32) &&& 31)) (m := 7) 3 (by decide)
      refine nm_r ew ⟨pk_in k L (by omega), nm_r ep ⟨pk_in k L (by omega), nm_r ev ⟨?_, fun x ex => ?_⟩⟩⟩
      · rw [nI_1]; exact pk_in (k + 1) L (by omega)
      · refine qw_call hI w p v x hw hp hv (fun ps pr mp pg rs rg gs a1 a2 a3 a4 a5 a6 a7 a8 a9 a10 hI2 hrd hwr => qw_all hI2 (br_f (by decide) (qw_mapped hI2 p hp (fun y hy => ?_))))
        have nx : ∀ pr' rs', qi_I (fun _ => False) ps pr' mp pg rs' rg a1 a3 a4 a5 a6 a7 a8 a9 a10 → wL_law_10 post L xs kc ks (m + 1) (nI (k + 2)) ps pr' mp pg rs' rg gs a1 a2 a3 a4 a5 a6 a7 a8 a9 a10 := fun pr' rs' hI3 => ih (k + 2) _ _ _ _ _ _ _ _ _ _ _ _ _ _ _ _ _ (by omega) (by omega) hI3
        exact qa_br1 (bt y v) (qa_a1 y v (show v < 32 from Nat.lt_of_lt_of_le hv (by decide))) (fun q => qw_l96 hI2 hw hp hv (Or.inr (by rw [← hy v hv]; exact q)) hrd hwr nx) (fun q => qw_l96 hI2 hw hp hv (Or.inl rfl) hrd hwr nx)
theorem qw_in0 {s z3 z4 z5 z6 z7 z8 z9 : Nat → Int32} {z10 : Nat → Int64} (h : ∀ j, j < 32 → s j = -1) : qi_I (fun _ => False) 0 0 0 0 0 0 s z3 z4 z5 z6 z7 z8 z9 z10 := by
  have b0 : ∀ {A : Prop} {i : Nat}, bt 0 i = true → A := fun z => by rw [b_0] at z; exact absurd z (by decide)
  refine ⟨⟨fun c hc => ⟨fun z => b0 z, fun _ => h c hc⟩, fun g hg z => b0 z, fun r hr z => b0 z⟩, fun r hr z => b0 z, fun r t hr ht z => b0 z, fun r c hr z => b0 z, fun c hc z => b0 z, ⟨fun c hc z => b0 z, fun g hg z => b0 z⟩, ⟨fun g hg z => b0 z, fun c hc => ?_⟩⟩
  rw [b_0, b_0]; rfl
end
theorem i_vc (xs : Nat → Int32) (L : Nat) (hL : L ≤ 260) : wpL_law (fun r => r = 1) L xs := by
  refine ⟨10, 320, by omega, by omega, by omega, by omega, by omega, by omega, by omega, by omega, by omega, by omega, by omega, by omega, by omega, by omega, by omega, by omega, by omega, by omega, by omega, by omega, by omega, by omega, ?_⟩
  refine pk_loop (fun n i s => wX_init_86 _ 10 320 10 320 0 0 0 0 0 0 0 n (nI i) s (fun _ => 0) (fun _ => 0) (fun _ => 0) (fun _ => 0) (fun _ => 0) (fun _ => 0) (fun _ => 0) (fun _ => 0) (fun _ => 0)) (fun i s => ∀ j, j < i → s j = -1) 32 0 (fun _ => 0) (by omega) (fun j hj => absurd hj (by omega)) ?_ ?_
  · intro n s hs
    exact pk_le 32 32 (fun _ => ⟨L + 1, qw_law (post := fun r => r = 1) hL rfl L 0 _ _ _ _ _ _ _ _ _ _ _ _ _ _ _ _ _ (by omega) (by omega) (qw_in0 hs)⟩) (fun z => absurd z (by omega))
  · intro n i s hi hs hw
    refine pk_le 32 i (fun z => absurd z (by omega)) (fun _ => ⟨pk_in i 32 hi, nm_e (nm_r (nI_1 i) (hw _ ?_))⟩)
    rw [nI_clamp (show i < 2 ^ 31 by omega)]
    exact lt_s (fun j hj => by rw [pk_un (by omega)]; exact hs j hj) pk_us
end
