section
/-! part 01: starting texts (rows of kit/rows: bits, pure rows), then this claim's own rows on one bit -/
def bt (x : Int32) (i : Nat) : Bool := x.toBitVec.getLsbD i
theorem b_ext {x y : Int32} (h : ∀ i, i < 32 → bt x i = bt y i) : x = y := Int32.toBitVec_inj.mp (BitVec.eq_of_getLsbD_eq (fun i hi => h i hi))
theorem b_or (x y : Int32) (i : Nat) : bt (x ||| y) i = (bt x i || bt y i) := by unfold bt; rw [Int32.toBitVec_or, BitVec.getLsbD_or]
theorem b_and (x y : Int32) (i : Nat) : bt (x &&& y) i = (bt x i && bt y i) := by unfold bt; rw [Int32.toBitVec_and, BitVec.getLsbD_and]
theorem b_xor (x y : Int32) (i : Nat) : bt (x ^^^ y) i = (bt x i ^^ bt y i) := by unfold bt; rw [Int32.toBitVec_xor, BitVec.getLsbD_xor]
theorem b_big {x : Int32} {i : Nat} (h : 32 ≤ i) : bt x i = false := BitVec.getLsbD_of_ge _ _ h
theorem b_255 (i : Nat) : bt 255 i = decide (i < 8) := by
  rcases Nat.lt_or_ge i 32 with h | h
  · exact (by decide +kernel : ∀ i, i < 32 → bt 255 i = decide (i < 8)) i h
  · rw [b_big h, decide_eq_false (by omega)]
theorem b_65535 (i : Nat) : bt 65535 i = decide (i < 16) := by
  rcases Nat.lt_or_ge i 32 with h | h
  · exact (by decide +kernel : ∀ i, i < 32 → bt 65535 i = decide (i < 16)) i h
  · rw [b_big h, decide_eq_false (by omega)]
theorem b_m1 : ∀ i, i < 32 → bt (-1) i = true := by decide +kernel
theorem b_0 (i : Nat) : bt 0 i = false := BitVec.getLsbD_zero
theorem s_l : ∀ n, n < 32 → ((nI n &&& 31).toBitVec.smod 32).toNat = n := by decide +kernel
theorem s_u : ∀ n, n < 32 → (((nI n).toUInt32 &&& Int32.toUInt32 31).toBitVec % 32).toNat = n := by decide +kernel
theorem b_shl (n : Nat) (hn : n < 32) (x : Int32) {i : Nat} (hi : i < 32) : bt (x <<< (nI n &&& 31)) i = (decide (n ≤ i) && bt x (i - n)) := by
  unfold bt
  rw [Int32.toBitVec_shiftLeft]
  show (x.toBitVec <<< ((nI n &&& 31).toBitVec.smod 32).toNat).getLsbD i = _
  rw [s_l n hn, BitVec.getLsbD_shiftLeft]
  rcases Nat.lt_or_ge i n with h | h
  · simp [h, Nat.not_le.mpr h]
  · simp [hi, h, Nat.not_lt.mpr h]
theorem b_ushr (n : Nat) (hn : n < 32) (x : Int32) (i : Nat) : bt ((x.toUInt32 >>> ((nI n).toUInt32 &&& Int32.toUInt32 31)).toInt32) i = bt x (n + i) := by
  show (x.toUInt32 >>> ((nI n).toUInt32 &&& Int32.toUInt32 31)).toBitVec.getLsbD i = x.toUInt32.toBitVec.getLsbD (n + i)
  rw [UInt32.toBitVec_shiftRight]
  show (x.toUInt32.toBitVec >>> (((nI n).toUInt32 &&& Int32.toUInt32 31).toBitVec % 32).toNat).getLsbD i = _
  rw [s_u n hn, BitVec.getLsbD_ushiftRight]
theorem b_sshr (n : Nat) (hn : n < 32) (x : Int32) {i : Nat} (hi : i < 32) : bt (x >>> (nI n &&& 31)) i = if n + i < 32 then bt x (n + i) else bt x 31 := by
  unfold bt
  rw [Int32.toBitVec_shiftRight]
  show (x.toBitVec.sshiftRight ((nI n &&& 31).toBitVec.smod 32).toNat).getLsbD i = _
  rw [s_l n hn, BitVec.getLsbD_sshiftRight, BitVec.msb_eq_getLsbD_last]
  simp [hi]
theorem pk_us {f : Nat → Int32} {k : Nat} {x : Int32} : upd f k x k = x := if_pos rfl
theorem pk_un {f : Nat → Int32} {k j : Nat} {x : Int32} (h : j ≠ k) : upd f k x j = f j := if_neg h
theorem pk_sub {a b : Nat} (h : b ≤ a) : nI a - nI b = nI (a - b) := by
  obtain ⟨c, rfl⟩ : ∃ c, a = c + b := ⟨a - b, by omega⟩
  rw [← nI_add, Int32.add_sub_cancel, Nat.add_sub_cancel]
theorem pk_m1 (n : Nat) : nI (n + 1) + (-1) = nI n := by
  rw [← nI_1, Int32.add_assoc, show (1 : Int32) + (-1) = 0 from rfl, Int32.add_zero]
theorem pk_mul (a b : Nat) : nI a * nI b = nI (a * b) := (Int32.ofNat_mul a b).symm
/-! this claim's own rows -/
theorem cb_one : ∀ i, i < 32 → bt 1 i = decide (i = 0) := by decide +kernel
theorem cb_a0 (x : Int32) : (x &&& 1) = 0 ↔ bt x 0 = false := by
  constructor
  · intro h
    have e : bt (x &&& 1) 0 = bt 0 0 := by rw [h]
    rw [b_and, b_0, cb_one 0 (by omega)] at e
    simpa using e
  · intro h
    apply b_ext
    intro i hi
    rw [b_and, b_0, cb_one i hi]
    by_cases z : i = 0
    · subst z; rw [h]; rfl
    · rw [decide_eq_false z, Bool.and_false]
theorem cb_a1 (x : Int32) : (x &&& 1) = 1 ↔ bt x 0 = true := by
  constructor
  · intro h
    have e : bt (x &&& 1) 0 = bt 1 0 := by rw [h]
    rw [b_and, cb_one 0 (by omega)] at e
    simpa using e
  · intro h
    apply b_ext
    intro i hi
    rw [b_and, cb_one i hi]
    by_cases z : i = 0
    · subst z; rw [h]; rfl
    · rw [decide_eq_false z, Bool.and_false]
theorem cb_s0 (m : Int32) {b : Nat} (hb : b < 32) : bt (m >>> (nI b &&& 31)) 0 = bt m b := by
  rw [b_sshr b hb m (by omega), if_pos (by omega), Nat.add_zero]
theorem cb_b0 (m : Int32) {b : Nat} (hb : b < 16) : ((m >>> (nI b &&& 31)) &&& 1) = 0 ↔ bt m b = false := by
  rw [cb_a0, cb_s0 m (by omega)]
theorem cb_b1 (m : Int32) {b : Nat} (hb : b < 16) : ((m >>> (nI b &&& 31)) &&& 1) = 1 ↔ bt m b = true := by
  rw [cb_a1, cb_s0 m (by omega)]
theorem cb_nt {x : Bool} (h : ¬ x = true) : x = false := by cases x with | false => rfl | true => exact absurd rfl h
theorem cb_nf {x : Bool} (h : ¬ x = false) : x = true := by cases x with | true => rfl | false => exact absurd rfl h
/-- a branch on a bit that is asked by '= 0' -/
theorem cb_br0 {A B : Prop} (m : Int32) {b : Nat} (hb : b < 16) (f : bt m b = false → A) (g : bt m b = true → B) : (((m >>> (nI b &&& 31)) &&& 1) = 0 → A) ∧ (¬ ((m >>> (nI b &&& 31)) &&& 1) = 0 → B) :=
  ⟨fun h => f ((cb_b0 m hb).mp h), fun h => g (cb_nf fun e => h ((cb_b0 m hb).mpr e))⟩
/-- a branch on a bit that is asked by '= 1' -/
theorem cb_br1 {A B : Prop} (m : Int32) {b : Nat} (hb : b < 16) (f : bt m b = true → A) (g : bt m b = false → B) : (((m >>> (nI b &&& 31)) &&& 1) = 1 → A) ∧ (¬ ((m >>> (nI b &&& 31)) &&& 1) = 1 → B) :=
  ⟨fun h => f ((cb_b1 m hb).mp h), fun h => g (cb_nt fun e => h ((cb_b1 m hb).mpr e))⟩
theorem cb_sl (x : Int32) {p b : Nat} (hp : p < 16) (hb : b < 16) : bt (x ||| ((1 : Int32) <<< (nI p &&& 31))) b = (bt x b || decide (b = p)) := by
  have e : (decide (p ≤ b) && decide (b - p = 0)) = decide (b = p) := by
    rw [Bool.eq_iff_iff, Bool.and_eq_true, decide_eq_true_iff, decide_eq_true_iff, decide_eq_true_iff]
    omega
  rw [b_or, b_shl p (by omega) 1 (by omega : b < 32), cb_one (b - p) (by omega), e]
theorem cb_all {b : Nat} (hb : b < 16) : bt 65535 b = true := by rw [b_65535, decide_eq_true hb]
/-- the blocks of the one image that the next one lacks -/
theorem cb_mis (x y : Int32) {b : Nat} (hb : b < 16) : bt (x &&& (y ^^^ (-1))) b = (bt x b && !bt y b) := by
  rw [b_and, b_xor, b_m1 b (by omega), Bool.xor_true]
theorem cb_ix6 (c k : Nat) : nI c * 6 + nI k = nI (c * 6 + k) := by
  have e : nI c * 6 = nI (c * 6) := pk_mul c 6
  rw [e, nI_add]
theorem cb_ix16 (i b : Nat) : nI i * 16 + nI b = nI (i * 16 + b) := by
  have e : nI i * 16 = nI (i * 16) := pk_mul i 16
  rw [e, nI_add]
end
section
/-! part 02: pure copies, shifts, counts, blocks -/
/-- places base + b .. base + 15 of a, where P lets it, from s -/
def cb_cp (P : Nat → Bool) (a s : Nat → Int32) (base b : Nat) : Nat → Int32 := fun j => if base + b ≤ j ∧ j < base + 16 ∧ P (j - base) = true then s (j - base) else a j
theorem cb_cp_in {P : Nat → Bool} {a s : Nat → Int32} {base x : Nat} (hx : x < 16) (hP : P x = true) : cb_cp P a s base 0 (base + x) = s x := by
  have e : base + x - base = x := by omega
  unfold cb_cp
  rw [e, if_pos ⟨by omega, by omega, hP⟩]
theorem cb_cp_no {P : Nat → Bool} {a s : Nat → Int32} {base x : Nat} (hP : P x = false) : cb_cp P a s base 0 (base + x) = a (base + x) := by
  have e : base + x - base = x := by omega
  unfold cb_cp
  rw [e, if_neg (fun h => by rw [hP] at h; exact Bool.noConfusion h.2.2)]
theorem cb_cp_out {P : Nat → Bool} {a s : Nat → Int32} {base b j : Nat} (h : j < base ∨ base + 16 ≤ j) : cb_cp P a s base b j = a j := by
  unfold cb_cp
  exact if_neg (fun z => by have h1 := z.1; have h2 := z.2.1; omega)
theorem cb_cp_16 {P : Nat → Bool} {a s : Nat → Int32} {base : Nat} : cb_cp P a s base 16 = a := by
  funext j
  unfold cb_cp
  exact if_neg (fun z => by have h1 := z.1; have h2 := z.2.1; omega)
theorem cb_cp_st {P : Nat → Bool} {a a' s : Nat → Int32} {base b : Nat} (ha : ∀ j, j ≠ base + b → a' j = a j) (hb : a' (base + b) = if P b = true then s b else a (base + b)) (h16 : b < 16) : cb_cp P a' s base (b + 1) = cb_cp P a s base b := by
  funext j
  unfold cb_cp
  by_cases e : j = base + b
  · subst e
    have e2 : base + b - base = b := by omega
    rw [if_neg (fun z => by have h1 := z.1; omega), hb, e2]
    by_cases p : P b = true
    · rw [if_pos p, if_pos ⟨Nat.le_refl _, by omega, p⟩]
    · rw [if_neg p, if_neg (fun z => p z.2.2)]
  · rw [ha j e]
    by_cases z : base + b ≤ j ∧ j < base + 16 ∧ P (j - base) = true
    · rw [if_pos z, if_pos ⟨by have h1 := z.1; omega, z.2⟩]
    · rw [if_neg z, if_neg (fun y => z ⟨by have h1 := y.1; omega, y.2⟩)]
theorem cb_cp_t {P : Nat → Bool} {a s : Nat → Int32} {base b : Nat} (h16 : b < 16) (hP : P b = true) : cb_cp P (upd a (base + b) (s b)) s base (b + 1) = cb_cp P a s base b :=
  cb_cp_st (fun _ h => pk_un h) (by rw [pk_us, if_pos hP]) h16
theorem cb_cp_f {P : Nat → Bool} {a s : Nat → Int32} {base b : Nat} (h16 : b < 16) (hP : P b = false) : cb_cp P a s base (b + 1) = cb_cp P a s base b :=
  cb_cp_st (fun _ _ => rfl) (by rw [if_neg (fun z => by rw [hP] at z; exact Bool.noConfusion z)]) h16
/-- the same at base 0 -/
theorem cb_cp_t0 {P : Nat → Bool} {a s : Nat → Int32} {b : Nat} (h16 : b < 16) (hP : P b = true) : cb_cp P (upd a b (s b)) s 0 (b + 1) = cb_cp P a s 0 b := by
  have e := cb_cp_t (a := a) (s := s) (base := 0) h16 hP
  rw [Nat.zero_add] at e
  exact e
/-- a place that holds the value already -/
theorem cb_cp_e0 {P : Nat → Bool} {a s : Nat → Int32} {b : Nat} (h16 : b < 16) (h : a b = s b) : cb_cp P a s 0 (b + 1) = cb_cp P a s 0 b := by
  refine cb_cp_st (fun _ _ => rfl) ?_ h16
  rw [Nat.zero_add]
  by_cases p : P b = true
  · rw [if_pos p, h]
  · rw [if_neg p]
/-- places i .. e - 1 of a from w places on -/
def cb_sh (w : Nat) (a : Nat → Int32) (i e : Nat) : Nat → Int32 := fun j => if i ≤ j ∧ j < e then a (j + w) else a j
theorem cb_sh_in {w : Nat} {a : Nat → Int32} {i e j : Nat} (h1 : i ≤ j) (h2 : j < e) : cb_sh w a i e j = a (j + w) := if_pos ⟨h1, h2⟩
theorem cb_sh_out {w : Nat} {a : Nat → Int32} {i e j : Nat} (h : j < i ∨ e ≤ j) : cb_sh w a i e j = a j := if_neg (by omega)
theorem cb_sh_e {w : Nat} {a : Nat → Int32} {i e : Nat} (h : e ≤ i) : cb_sh w a i e = a := funext fun _ => if_neg (by omega)
theorem cb_sh_1 {w : Nat} {a : Nat → Int32} {i e : Nat} (hw : 0 < w) (h : i < e) : cb_sh w (upd a i (a (i + w))) (i + 1) e = cb_sh w a i e := by
  funext j
  unfold cb_sh
  by_cases z : j = i
  · subst z
    rw [if_neg (by omega), pk_us, if_pos (by omega)]
  · rw [pk_un z]
    by_cases y : i + 1 ≤ j ∧ j < e
    · rw [if_pos y, if_pos (by omega), pk_un (by omega)]
    · rw [if_neg y, if_neg (by omega)]
theorem cb_sh_16 {a : Nat → Int32} {i e : Nat} (h : i < e) : cb_sh 16 (cb_cp (fun _ => true) a (fun b => a ((i + 1) * 16 + b)) (i * 16) 0) ((i + 1) * 16) (e * 16) = cb_sh 16 a (i * 16) (e * 16) := by
  funext j
  by_cases y : (i + 1) * 16 ≤ j ∧ j < e * 16
  · rw [cb_sh_in y.1 y.2, cb_sh_in (by omega) y.2, cb_cp_out (by omega)]
  · rw [cb_sh_out (by omega)]
    by_cases x : i * 16 ≤ j ∧ j < i * 16 + 16
    · obtain ⟨b, rfl⟩ : ∃ b, j = i * 16 + b := ⟨j - i * 16, by omega⟩
      rw [cb_sh_in x.1 (by omega), cb_cp_in (by omega) rfl]
      show a ((i + 1) * 16 + b) = a (i * 16 + b + 16)
      have e2 : (i + 1) * 16 + b = i * 16 + b + 16 := by omega
      rw [e2]
    · rw [cb_cp_out (by omega), cb_sh_out (by omega)]
/-- how many of the j places from b on differ -/
def cb_cnt (f g : Nat → Int32) : Nat → Nat → Nat
  | _, 0 => 0
  | b, j + 1 => (if f b = g b then 0 else 1) + cb_cnt f g (b + 1) j
theorem cb_cnt_e {f g : Nat → Int32} {b j : Nat} (h : f b = g b) : cb_cnt f g b (j + 1) = cb_cnt f g (b + 1) j := by
  show (if f b = g b then 0 else 1) + cb_cnt f g (b + 1) j = _
  rw [if_pos h, Nat.zero_add]
theorem cb_cnt_n {f g : Nat → Int32} {b j : Nat} (h : ¬ f b = g b) (a : Nat) : a + cb_cnt f g b (j + 1) = a + 1 + cb_cnt f g (b + 1) j := by
  show a + ((if f b = g b then 0 else 1) + cb_cnt f g (b + 1) j) = _
  rw [if_neg h, Nat.add_assoc]
theorem cb_cnt_c {f f' g g' : Nat → Int32} : ∀ j b, (∀ i, b ≤ i → i < b + j → (f i = g i ↔ f' i = g' i)) → cb_cnt f g b j = cb_cnt f' g' b j := by
  intro j
  induction j with
  | zero => intro b _; rfl
  | succ j ih =>
    intro b h
    show (if f b = g b then 0 else 1) + cb_cnt f g (b + 1) j = (if f' b = g' b then 0 else 1) + cb_cnt f' g' (b + 1) j
    rw [ih (b + 1) (fun i h1 h2 => h i (by omega) (by omega))]
    by_cases e : f b = g b
    · rw [if_pos e, if_pos ((h b (by omega) (by omega)).mp e)]
    · rw [if_neg e, if_neg (fun z => e ((h b (by omega) (by omega)).mpr z))]
theorem cb_cnt_le {f g : Nat → Int32} : ∀ j b, cb_cnt f g b j ≤ j := by
  intro j
  induction j with
  | zero => intro b; exact Nat.le_refl 0
  | succ j ih =>
    intro b
    have h := ih (b + 1)
    show (if f b = g b then 0 else 1) + cb_cnt f g (b + 1) j ≤ j + 1
    by_cases e : f b = g b
    · rw [if_pos e]; omega
    · rw [if_neg e]; omega
/-- a block of a backup: the newest image up to k that has it; the oldest image has all -/
def cb_bk (ha co : Nat → Int32) (c : Nat) : Nat → Nat → Int32
  | 0, b => co ((c * 6 + 0) * 16 + b)
  | k + 1, b => if bt (ha (c * 6 + (k + 1))) b = true then co ((c * 6 + (k + 1)) * 16 + b) else cb_bk ha co c k b
theorem cb_bk_t {ha co : Nat → Int32} {c k b : Nat} (h : bt (ha (c * 6 + (k + 1))) b = true) : cb_bk ha co c (k + 1) b = co ((c * 6 + (k + 1)) * 16 + b) := by
  show (if bt (ha (c * 6 + (k + 1))) b = true then co ((c * 6 + (k + 1)) * 16 + b) else cb_bk ha co c k b) = _
  exact if_pos h
theorem cb_bk_f {ha co : Nat → Int32} {c k b : Nat} (h : bt (ha (c * 6 + (k + 1))) b = false) : cb_bk ha co c (k + 1) b = cb_bk ha co c k b := by
  show (if bt (ha (c * 6 + (k + 1))) b = true then co ((c * 6 + (k + 1)) * 16 + b) else cb_bk ha co c k b) = _
  exact if_neg (fun z => by rw [h] at z; exact Bool.noConfusion z)
theorem cb_bk_c {ha co ha' co' : Nat → Int32} {c b : Nat} : ∀ k, (∀ i, i ≤ k → ha' (c * 6 + i) = ha (c * 6 + i)) → (∀ i, i ≤ k → co' ((c * 6 + i) * 16 + b) = co ((c * 6 + i) * 16 + b)) → cb_bk ha' co' c k b = cb_bk ha co c k b := by
  intro k
  induction k with
  | zero => intro _ h; exact h 0 (Nat.le_refl 0)
  | succ k ih =>
    intro h1 h2
    have e1 := h1 (k + 1) (Nat.le_refl _)
    have e2 := h2 (k + 1) (Nat.le_refl _)
    have e3 := ih (fun i hi => h1 i (by omega)) (fun i hi => h2 i (by omega))
    by_cases z : bt (ha (c * 6 + (k + 1))) b = true
    · rw [cb_bk_t z, cb_bk_t (by rw [e1]; exact z), e2]
    · rw [cb_bk_f (cb_nt z), cb_bk_f (by rw [e1]; exact cb_nt z), e3]
/-- no image between the two has the block: they hold the same -/
theorem cb_bk_s {ha co : Nat → Int32} {c b l : Nat} : ∀ j, (∀ i, l < i → i ≤ l + j → bt (ha (c * 6 + i)) b = false) → cb_bk ha co c (l + j) b = cb_bk ha co c l b := by
  intro j
  induction j with
  | zero => intro _; rfl
  | succ j ih =>
    intro h
    have e : cb_bk ha co c (l + j + 1) b = cb_bk ha co c (l + j) b := cb_bk_f (h (l + j + 1) (by omega) (by omega))
    exact e.trans (ih (fun i h1 h2 => h i h1 (by omega)))
end
section
/-! part 03: the relation and its laws, no program in sight -/
/-- chain c with m backups -/
def cb_C (c : Nat) (cl : Int32) (d di tr sd ha co ke : Nat → Int32) (m : Nat) : Prop :=
  m ≤ 6 ∧ (0 < m → ∀ b, b < 16 → bt (ha (c * 6)) b = true) ∧ (∀ k, k < m → ∀ b, b < 16 → cb_bk ha co c k b = ke ((c * 6 + k) * 16 + b)) ∧ (0 < m → ¬ tr c = 0 → ∀ b, b < 16 → bt (di c) b = false → d b = ke ((c * 6 + (m - 1)) * 16 + b)) ∧ (¬ cl = 0 → ¬ tr c = 0 → sd c = di c)
def cb_R (cl : Int32) (d di tr sd im ha co ke : Nat → Int32) : Prop := ∀ c, c < 2 → ∃ m, im c = nI m ∧ cb_C c cl d di tr sd ha co ke m
theorem cb_R_0 : cb_R 0 (fun _ => 0) (fun _ => 0) (fun _ => 0) (fun _ => 0) (fun _ => 0) (fun _ => 0) (fun _ => 0) (fun _ => 0) :=
  fun _ _ => ⟨0, rfl, Nat.zero_le 6, fun h => absurd h (Nat.lt_irrefl 0), fun _ h => absurd h (Nat.not_lt_zero _), fun h => absurd h (Nat.lt_irrefl 0), fun h => absurd rfl h⟩
section
variable {cl : Int32} {d di tr sd im ha co ke : Nat → Int32}
theorem cb_R_store {di' : Nat → Int32} {p : Nat} {v : Int32} (R : cb_R cl d di tr sd im ha co ke) (S : ∀ c, c < 2 → ∀ b, b < 16 → bt (di' c) b = (bt (di c) b || decide (b = p))) : cb_R 0 (upd d p v) di' tr sd im ha co ke := by
  intro c hc
  obtain ⟨m, em, h6, h0, hb, hd, _⟩ := R c hc
  refine ⟨m, em, h6, h0, hb, fun hm ht b hb' z => ?_, fun z => absurd rfl z⟩
  rw [S c hc b hb', Bool.or_eq_false_iff, decide_eq_false_iff_not] at z
  rw [pk_un z.2]
  exact hd hm ht b hb' z.1
theorem cb_R_backup {c m : Nat} {z : Int32} (R : cb_R cl d di tr sd im ha co ke) (hc : c < 2) (em : im c = nI m) (hm : m < 6) (hz : z = 65535 ∨ (0 < m ∧ ¬ tr c = 0 ∧ z = di c)) : cb_R 0 d (upd di c 0) (upd tr c 1) sd (upd im c (nI (m + 1))) (upd ha (c * 6 + m) z) (cb_cp (bt z) co d ((c * 6 + m) * 16) 0) (cb_cp (fun _ => true) ke d ((c * 6 + m) * 16) 0) := by
  intro c' hc'
  by_cases e : c' = c
  · subst e
    obtain ⟨m', em', h6, h0, hb, hd, _⟩ := R c' hc'
    have e2 : m' = m := (nI_eq (by omega) (by omega)).mp (em'.symm.trans em)
    subst e2
    have hk : ∀ k, k < m' → ∀ b, b < 16 → cb_bk (upd ha (c' * 6 + m') z) (cb_cp (bt z) co d ((c' * 6 + m') * 16) 0) c' k b = ke ((c' * 6 + k) * 16 + b) := fun k hk b hb' =>
      (cb_bk_c k (fun i hi => pk_un (by omega)) (fun i hi => cb_cp_out (by omega))).trans (hb k hk b hb')
    refine ⟨m' + 1, pk_us, by omega, fun _ b hb' => ?_, fun k hk' b hb' => ?_, fun _ _ b hb' _ => ?_, fun y => absurd rfl y⟩
    · by_cases y : m' = 0
      · subst y
        rcases hz with hz | hz
        · rw [show c' * 6 = c' * 6 + 0 from rfl, pk_us, hz]
          exact cb_all hb'
        · exact absurd hz.1 (Nat.lt_irrefl 0)
      · rw [pk_un (by omega)]
        exact h0 (by omega) b hb'
    · by_cases y : k < m'
      · rw [hk k y b hb', cb_cp_out (by omega)]
      · have e3 : k = m' := by omega
        subst e3
        rw [cb_cp_in hb' rfl]
        by_cases w : bt z b = true
        · cases k with
          | zero => exact cb_cp_in hb' w
          | succ k =>
            rw [cb_bk_t (by rw [pk_us]; exact w)]
            exact cb_cp_in hb' w
        · rcases hz with hz | hz
          · rw [hz] at w
            exact absurd (cb_all hb') w
          · cases k with
            | zero => exact absurd hz.1 (Nat.lt_irrefl 0)
            | succ k =>
              rw [cb_bk_f (by rw [pk_us]; exact cb_nt w), hk k (by omega) b hb']
              exact (hd hz.1 hz.2.1 b hb' (by rw [← hz.2.2]; exact cb_nt w)).symm
    · exact (cb_cp_in hb' rfl).symm
  · obtain ⟨m', em', h6, h0, hb, hd, hs⟩ := R c' hc'
    refine ⟨m', by rw [pk_un e]; exact em', h6, fun hm' b hb' => ?_, fun k hk b hb' => ?_, fun hm' ht b hb' y => ?_, fun y => absurd rfl y⟩
    · rw [pk_un (by omega)]
      exact h0 hm' b hb'
    · rw [cb_bk_c k (fun i hi => pk_un (by omega)) (fun i hi => cb_cp_out (by omega)), hb k hk b hb', cb_cp_out (by omega)]
    · rw [pk_un e] at ht y
      rw [cb_cp_out (by omega)]
      exact hd hm' ht b hb' y
/-- the newest backup goes: its blocks count as written -/
theorem cb_R_last {c m : Nat} (R : cb_R cl d di tr sd im ha co ke) (hc : c < 2) (em : im c = nI (m + 1)) (hm : m + 1 ≤ 6) : cb_R 0 d (upd di c (di c ||| ha (c * 6 + m))) tr sd (upd im c (nI m)) ha co (cb_sh 16 ke ((c * 6 + m) * 16) ((c * 6 + 5) * 16)) := by
  intro c' hc'
  by_cases e : c' = c
  · subst e
    obtain ⟨m', em', h6, h0, hb, hd, _⟩ := R c' hc'
    have e2 : m' = m + 1 := (nI_eq (by omega) (by omega)).mp (em'.symm.trans em)
    subst e2
    refine ⟨m, pk_us, by omega, fun _ => h0 (by omega), fun k hk b hb' => ?_, fun hm' ht b hb' y => ?_, fun y => absurd rfl y⟩
    · rw [cb_sh_out (by omega)]
      exact hb k (by omega) b hb'
    · rw [pk_us, b_or, Bool.or_eq_false_iff] at y
      rw [cb_sh_out (by omega), ← hb (m - 1) (by omega) b hb', hd (by omega) ht b hb' y.1]
      obtain ⟨q, rfl⟩ : ∃ q, m = q + 1 := ⟨m - 1, by omega⟩
      have e4 := hb (q + 1) (by omega) b hb'
      rw [cb_bk_f y.2] at e4
      exact e4.symm
  · obtain ⟨m', em', h6, h0, hb, hd, hs⟩ := R c' hc'
    refine ⟨m', by rw [pk_un e]; exact em', h6, h0, fun k hk b hb' => ?_, fun hm' ht b hb' y => ?_, fun y => absurd rfl y⟩
    · rw [cb_sh_out (by omega)]
      exact hb k hk b hb'
    · rw [pk_un e] at y
      rw [cb_sh_out (by omega)]
      exact hd hm' ht b hb' y
end
end
section
/-! part 04: a backup with a newer one above it goes -/
theorem cb_mid_bk {ha co ha2 co2 : Nat → Int32} {c k m b : Nat} (l1 : ∀ i, i < k → ha2 (c * 6 + i) = ha (c * 6 + i)) (l2 : ∀ i, i < k → co2 ((c * 6 + i) * 16 + b) = co ((c * 6 + i) * 16 + b)) (n1 : bt (ha2 (c * 6 + k)) b = (bt (ha (c * 6 + (k + 1))) b || bt (ha (c * 6 + k)) b)) (n2 : bt (ha (c * 6 + (k + 1))) b = true → co2 ((c * 6 + k) * 16 + b) = co ((c * 6 + (k + 1)) * 16 + b)) (n3 : bt (ha (c * 6 + (k + 1))) b = false → bt (ha (c * 6 + k)) b = true → co2 ((c * 6 + k) * 16 + b) = co ((c * 6 + k) * 16 + b)) (r1 : ∀ i, k < i → i < m → ha2 (c * 6 + i) = ha (c * 6 + (i + 1))) (r2 : ∀ i, k < i → i < m → co2 ((c * 6 + i) * 16 + b) = co ((c * 6 + (i + 1)) * 16 + b)) (z : k = 0 → bt (ha (c * 6 + 0)) b = true) : ∀ j, k + j < m → cb_bk ha2 co2 c (k + j) b = cb_bk ha co c (k + j + 1) b := by
  intro j
  induction j with
  | zero =>
    intro _
    show cb_bk ha2 co2 c k b = cb_bk ha co c (k + 1) b
    by_cases y : bt (ha (c * 6 + (k + 1))) b = true
    · rw [cb_bk_t y, ← n2 y]
      rw [y, Bool.true_or] at n1
      cases k with
      | zero => rfl
      | succ q => exact cb_bk_t n1
    · have y' := cb_nt y
      rw [cb_bk_f y']
      rw [y', Bool.false_or] at n1
      by_cases x : bt (ha (c * 6 + k)) b = true
      · have e := n3 y' x
        rw [x] at n1
        cases k with
        | zero => exact e
        | succ q => rw [cb_bk_t n1, cb_bk_t x, e]
      · have x' := cb_nt x
        rw [x'] at n1
        cases k with
        | zero => exact absurd (z rfl) x
        | succ q =>
          rw [cb_bk_f n1, cb_bk_f x']
          exact cb_bk_c q (fun i hi => l1 i (by omega)) (fun i hi => l2 i (by omega))
  | succ j ih =>
    intro hj
    have e := ih (by omega)
    have e1 : ha2 (c * 6 + (k + j + 1)) = ha (c * 6 + (k + j + 1 + 1)) := r1 (k + j + 1) (by omega) (by omega)
    have e2 : co2 ((c * 6 + (k + j + 1)) * 16 + b) = co ((c * 6 + (k + j + 1 + 1)) * 16 + b) := r2 (k + j + 1) (by omega) (by omega)
    show cb_bk ha2 co2 c (k + j + 1) b = cb_bk ha co c (k + j + 1 + 1) b
    by_cases y : bt (ha (c * 6 + (k + j + 1 + 1))) b = true
    · rw [cb_bk_t y, cb_bk_t (by rw [e1]; exact y), e2]
    · rw [cb_bk_f (cb_nt y), cb_bk_f (by rw [e1]; exact cb_nt y), e]
section
variable {cl : Int32} {d di tr sd im ha co ke : Nat → Int32}
theorem cb_R_mid {c m k : Nat} {z : Int32} (R : cb_R cl d di tr sd im ha co ke) (hc : c < 2) (em : im c = nI (m + 1)) (hm : m + 1 ≤ 6) (hk : k < m) (hz : z = ha (c * 6 + k) &&& (ha (c * 6 + k + 1) ^^^ (-1))) : cb_R cl d di tr sd (upd im c (nI m)) (cb_sh 1 (upd ha (c * 6 + k + 1) (ha (c * 6 + k + 1) ||| z)) (c * 6 + k) (c * 6 + m)) (cb_sh 16 (cb_cp (bt z) co (fun b => co ((c * 6 + k) * 16 + b)) ((c * 6 + k + 1) * 16) 0) ((c * 6 + k) * 16) ((c * 6 + m) * 16)) (cb_sh 16 ke ((c * 6 + k) * 16) ((c * 6 + 5) * 16)) := by
  intro c' hc'
  by_cases e : c' = c
  · subst e
    obtain ⟨m', em', h6, h0, hb, hd, hs⟩ := R c' hc'
    have e2 : m' = m + 1 := (nI_eq (by omega) (by omega)).mp (em'.symm.trans em)
    subst e2
    have hzb : ∀ b, b < 16 → bt z b = (bt (ha (c' * 6 + k)) b && !bt (ha (c' * 6 + (k + 1))) b) := fun b hb' => by rw [hz]; exact cb_mis _ _ hb'
    have n1 : ∀ b, b < 16 → bt (cb_sh 1 (upd ha (c' * 6 + k + 1) (ha (c' * 6 + k + 1) ||| z)) (c' * 6 + k) (c' * 6 + m) (c' * 6 + k)) b = (bt (ha (c' * 6 + (k + 1))) b || bt (ha (c' * 6 + k)) b) := by
      intro b hb'
      rw [cb_sh_in (Nat.le_refl _) (by omega), pk_us, b_or, hzb b hb']
      show (bt (ha (c' * 6 + (k + 1))) b || (bt (ha (c' * 6 + k)) b && !bt (ha (c' * 6 + (k + 1))) b)) = _
      cases bt (ha (c' * 6 + (k + 1))) b <;> cases bt (ha (c' * 6 + k)) b <;> rfl
    have hlo : ∀ q, q < k → ∀ b, b < 16 → cb_bk (cb_sh 1 (upd ha (c' * 6 + k + 1) (ha (c' * 6 + k + 1) ||| z)) (c' * 6 + k) (c' * 6 + m)) (cb_sh 16 (cb_cp (bt z) co (fun b => co ((c' * 6 + k) * 16 + b)) ((c' * 6 + k + 1) * 16) 0) ((c' * 6 + k) * 16) ((c' * 6 + m) * 16)) c' q b = cb_bk ha co c' q b := by
      intro q hq b hb'
      refine cb_bk_c q (fun i hi => ?_) (fun i hi => ?_)
      · rw [cb_sh_out (by omega), pk_un (by omega)]
      · rw [cb_sh_out (by omega), cb_cp_out (by omega)]
    have hhi : ∀ j, k + j < m → ∀ b, b < 16 → cb_bk (cb_sh 1 (upd ha (c' * 6 + k + 1) (ha (c' * 6 + k + 1) ||| z)) (c' * 6 + k) (c' * 6 + m)) (cb_sh 16 (cb_cp (bt z) co (fun b => co ((c' * 6 + k) * 16 + b)) ((c' * 6 + k + 1) * 16) 0) ((c' * 6 + k) * 16) ((c' * 6 + m) * 16)) c' (k + j) b = cb_bk ha co c' (k + j + 1) b := by
      intro j hj b hb'
      have e5 : (c' * 6 + k) * 16 + b + 16 = (c' * 6 + k + 1) * 16 + b := by omega
      refine cb_mid_bk (m := m) (fun i hi => ?_) (fun i hi => ?_) (n1 b hb') (fun y => ?_) (fun y x => ?_) (fun i hi hi2 => ?_) (fun i hi hi2 => ?_) (fun _ => h0 (by omega) b hb') j hj
      · rw [cb_sh_out (by omega), pk_un (by omega)]
      · rw [cb_sh_out (by omega), cb_cp_out (by omega)]
      · rw [cb_sh_in (by omega) (by omega), e5]
        exact cb_cp_no (by rw [hzb b hb', y, Bool.not_true, Bool.and_false])
      · rw [cb_sh_in (by omega) (by omega), e5]
        exact cb_cp_in hb' (by rw [hzb b hb', y, x]; rfl)
      · rw [cb_sh_in (by omega) (by omega), pk_un (by omega)]
        rfl
      · have e6 : (c' * 6 + i) * 16 + b + 16 = (c' * 6 + (i + 1)) * 16 + b := by omega
        rw [cb_sh_in (by omega) (by omega), cb_cp_out (by omega), e6]
    refine ⟨m, pk_us, by omega, fun hm' b hb' => ?_, fun q hq b hb' => ?_, fun hm' ht b hb' y => ?_, hs⟩
    · by_cases y : k = 0
      · subst y
        have e7 := n1 b hb'
        rw [show bt (ha (c' * 6 + 0)) b = true from h0 (by omega) b hb', Bool.or_true] at e7
        exact e7
      · rw [cb_sh_out (by omega), pk_un (by omega)]
        exact h0 (by omega) b hb'
    · by_cases y : q < k
      · rw [hlo q y b hb', cb_sh_out (by omega)]
        exact hb q (by omega) b hb'
      · obtain ⟨j, rfl⟩ : ∃ j, q = k + j := ⟨q - k, by omega⟩
        have e8 : (c' * 6 + (k + j)) * 16 + b + 16 = (c' * 6 + (k + j + 1)) * 16 + b := by omega
        rw [hhi j hq b hb', cb_sh_in (by omega) (by omega), e8]
        exact hb (k + j + 1) (by omega) b hb'
    · have e9 : (c' * 6 + (m - 1)) * 16 + b + 16 = (c' * 6 + (m + 1 - 1)) * 16 + b := by omega
      rw [cb_sh_in (by omega) (by omega), e9]
      exact hd (by omega) ht b hb' y
  · obtain ⟨m', em', h6, h0, hb, hd, hs⟩ := R c' hc'
    refine ⟨m', by rw [pk_un e]; exact em', h6, fun hm' b hb' => ?_, fun q hq b hb' => ?_, fun hm' ht b hb' y => ?_, hs⟩
    · rw [cb_sh_out (by omega), pk_un (by omega)]
      exact h0 hm' b hb'
    · rw [cb_sh_out (by omega), ← hb q hq b hb']
      refine cb_bk_c q (fun i hi => ?_) (fun i hi => ?_)
      · rw [cb_sh_out (by omega), pk_un (by omega)]
      · rw [cb_sh_out (by omega), cb_cp_out (by omega)]
    · rw [cb_sh_out (by omega)]
      exact hd hm' ht b hb' y
/-- one chain at a start -/
theorem cb_R_good {c : Nat} (R : cb_R cl d di tr sd im ha co ke) (hc : c < 2) (h1 : ¬ cl = 0) (h2 : ¬ tr c = 0) : cb_R cl d (upd di c (sd c)) (upd tr c 1) sd im ha co ke := by
  intro c' hc'
  obtain ⟨m, em, h6, h0, hb, hd, hs⟩ := R c' hc'
  by_cases e : c' = c
  · subst e
    refine ⟨m, em, h6, h0, hb, fun hm _ b hb' y => ?_, fun _ _ => pk_us.symm⟩
    rw [pk_us, hs h1 h2] at y
    exact hd hm h2 b hb' y
  · refine ⟨m, em, h6, h0, hb, fun hm ht b hb' y => ?_, fun hl ht => ?_⟩
    · rw [pk_un e] at ht y
      exact hd hm ht b hb' y
    · rw [pk_un e] at ht
      rw [pk_un e]
      exact hs hl ht
theorem cb_R_poor {c : Nat} {x : Int32} (R : cb_R cl d di tr sd im ha co ke) : cb_R cl d (upd di c x) (upd tr c 0) sd im ha co ke := by
  intro c' hc'
  obtain ⟨m, em, h6, h0, hb, hd, hs⟩ := R c' hc'
  by_cases e : c' = c
  · subst e
    exact ⟨m, em, h6, h0, hb, fun _ ht => absurd pk_us ht, fun _ ht => absurd pk_us ht⟩
  · refine ⟨m, em, h6, h0, hb, fun hm ht b hb' y => ?_, fun hl ht => ?_⟩
    · rw [pk_un e] at ht y
      exact hd hm ht b hb' y
    · rw [pk_un e] at ht
      rw [pk_un e]
      exact hs hl ht
/-- a bitmap is saved -/
theorem cb_R_save {c : Nat} (R : cb_R cl d di tr sd im ha co ke) : cb_R cl d di tr (upd sd c (di c)) im ha co ke := by
  intro c' hc'
  obtain ⟨m, em, h6, h0, hb, hd, hs⟩ := R c' hc'
  refine ⟨m, em, h6, h0, hb, hd, fun hl ht => ?_⟩
  by_cases e : c' = c
  · subst e
    exact pk_us
  · rw [pk_un e]
    exact hs hl ht
theorem cb_R_cl {cl' : Int32} (R : cb_R cl d di tr sd im ha co ke) (h : ∀ c, c < 2 → sd c = di c) : cb_R cl' d di tr sd im ha co ke := by
  intro c' hc'
  obtain ⟨m, em, h6, h0, hb, hd, _⟩ := R c' hc'
  exact ⟨m, em, h6, h0, hb, hd, fun _ _ => h c' hc'⟩
end
end
section
/-! part 05: the component's methods and loops, each with a general post -/
theorem cb_nar0 : vp_nar .boolean 0 = 0 := rfl
theorem cb_nar1 : vp_nar .boolean 1 = 1 := rfl
theorem cb_cln {n : Nat} (h : n < 4096) : (nI n).toNatClampNeg = n := nI_clamp (by omega)
theorem cb_ch (p : Int32) : (p < 0 ∨ ¬ p ≤ 1) ∨ ∃ c, c < 2 ∧ p = nI c := by
  by_cases h : p < 0
  · exact Or.inl (Or.inl h)
  · obtain ⟨j, hj, rfl⟩ := nI_of h
    by_cases h2 : j < 2
    · exact Or.inr ⟨j, h2, rfl⟩
    · exact Or.inl (Or.inr (nI_ge (a := 1) (by omega) hj))
theorem cb_no (p : Int32) (m : Nat) : (p < 0 ∨ ∃ k, m ≤ k ∧ k < 2 ^ 31 ∧ p = nI k) ∨ ∃ k, k < m ∧ p = nI k := by
  by_cases h : p < 0
  · exact Or.inl (Or.inl h)
  · obtain ⟨j, hj, rfl⟩ := nI_of h
    by_cases h2 : j < m
    · exact Or.inr ⟨j, h2, rfl⟩
    · exact Or.inl (Or.inr ⟨j, by omega, hj, rfl⟩)
theorem cb_Xbc0 {post : Int32 → Prop} {c : Nat} (hc : c < 2) (H : post 0) : wpX_badChain post (nI c) :=
  br_f (nI_pos (by omega)) (br_t (nI_le (b := 1) (by omega) (by decide)) H)
theorem cb_Xbc1 {post : Int32 → Prop} {p : Int32} (hp : p < 0 ∨ ¬ p ≤ 1) (H : post 1) : wpX_badChain post p := by
  by_cases h : p < 0
  · exact br_t h H
  · exact br_f h (br_f (hp.resolve_left h) H)
section
variable {cl : Int32} {d h di tr sd sg ge im ha co ke : Nat → Int32}
theorem cb_Xno0 {post : Int32 → Prop} {c k m : Nat} (hc : c < 2) (em : im c = nI m) (hm : m ≤ 6) (hk : k < m) (H : post 0) : wpX_noBackup post (cl, d, h, di, tr, sd, sg, ge, im, ha, co) (nI c) (nI k) := by
  refine br_f (nI_pos (by omega)) ⟨vp_in_nI hc (by decide), ?_⟩
  rw [cb_cln (by omega), em]
  exact br_t (nI_lt hk (by omega)) H
theorem cb_Xno1 {post : Int32 → Prop} {c m : Nat} {p : Int32} (hc : c < 2) (em : im c = nI m) (hp : p < 0 ∨ ∃ k, m ≤ k ∧ k < 2 ^ 31 ∧ p = nI k) (H : post 1) : wpX_noBackup post (cl, d, h, di, tr, sd, sg, ge, im, ha, co) (nI c) p := by
  by_cases hn : p < 0
  · exact br_t hn H
  · obtain ⟨k, hk, hk2, rfl⟩ := hp.resolve_left hn
    refine br_f hn ⟨vp_in_nI hc (by decide), ?_⟩
    rw [cb_cln (by omega), em]
    exact br_f (nI_nlt hk hk2) H
/-- one chain of a store -/
theorem cb_st1 {post : SX → Prop} {p c n : Nat} (hp : p < 16) (hc : c < 2) (H : ∀ di' ge' : Nat → Int32, (∀ b, b < 16 → bt (di' c) b = (bt (di c) b || decide (b = p))) → (∀ j, j ≠ c → di' j = di j) → wX_store_14 post (nI p) cl n (nI (c + 1)) d h di' tr sd sg ge' im ha co) : wX_store_14 post (nI p) cl (n + 1) (nI c) d h di tr sd sg ge im ha co := by
  have ec : (nI c).toNatClampNeg = c := cb_cln (by omega)
  have hi : vp_in (nI c) 2 := vp_in_nI hc (by decide)
  refine br_f (nI_ge (b := 2) hc (by decide)) ⟨hi, ?_⟩
  rw [ec]
  refine cb_br0 (di c) hp (fun z => ⟨hi, hi, nm_e ⟨hi, hi, nm_e (nm_r (nI_1 c) (H _ _ ?_ ?_))⟩⟩) (fun z => nm_r (nI_1 c) (H _ _ ?_ ?_))
  · intro b hb
    rw [pk_us, cb_sl _ hp hb]
  · intro j hj
    exact pk_un hj
  · intro b hb
    by_cases e : b = p
    · subst e
      rw [z]; rfl
    · rw [decide_eq_false e, Bool.or_false]
  · intro j hj
    rfl
theorem cb_store {post : SX → Prop} {p : Nat} {v : Int32} (hp : p < 16) (H : ∀ di' ge' : Nat → Int32, (∀ c, c < 2 → ∀ b, b < 16 → bt (di' c) b = (bt (di c) b || decide (b = p))) → post (0, upd d p v, h, di', tr, sd, sg, ge', im, ha, co)) : wpX_store post (cl, d, h, di, tr, sd, sg, ge, im, ha, co) (nI p) v := by
  refine And.intro (vp_in_nI hp (by decide)) (nm_r (e' := upd d p v) (by rw [cb_cln (by omega)]) ⟨3, ?_⟩)
  refine cb_st1 (c := 0) hp (by omega) (fun di1 ge1 a1 b1 => ?_)
  refine cb_st1 (c := 1) hp (by omega) (fun di2 ge2 a2 b2 => ?_)
  refine br_t (nI_le (a := 2) (b := 2) (by omega) (by decide)) (H di2 ge2 ?_)
  intro c hc b hb
  by_cases e : c = 0
  · subst e
    rw [b2 0 (by omega)]
    exact a1 b hb
  · have e1 : c = 1 := by omega
    subst e1
    rw [a2 b hb, b1 1 (by omega)]
/-- blockOf -/
theorem cb_bk33 {post : Int32 → Prop} {c i b : Nat} (hc : c < 2) (hi : i < 6) (hb : b < 16) (H : post (co ((c * 6 + i) * 16 + b))) : wX_blockOf_33 post (nI c) (nI b) (nI i) cl d h di tr sd sg ge im ha co := by
  have e : ((nI c * 6) + nI i) * 16 + nI b = nI ((c * 6 + i) * 16 + b) := by rw [cb_ix6, cb_ix16]
  unfold wX_blockOf_33
  rw [e, cb_cln (by omega)]
  exact ⟨vp_in_nI (by omega) (by decide), H⟩
theorem cb_bk3 {post : Int32 → Prop} {c b : Nat} (hc : c < 2) (hb : b < 16) : ∀ k, k < 6 → post (cb_bk ha co c k b) → wX_blockOf_3 post (nI c) (nI b) cl d h di tr sd sg ge im ha co (k + 1) (nI k) := by
  intro k
  induction k with
  | zero =>
    intro _ H
    exact br_t (nI_le (a := 0) (b := 0) (by omega) (by decide)) (cb_bk33 hc (by omega) hb H)
  | succ k ih =>
    intro hk H
    have e : nI c * 6 + nI (k + 1) = nI (c * 6 + (k + 1)) := cb_ix6 _ _
    refine br_f (nI_nle (by omega) (by omega)) ?_
    rw [e, cb_cln (by omega)]
    refine ⟨vp_in_nI (by omega) (by decide), cb_br0 _ hb (fun z => nm_r (pk_m1 k) (ih (by omega) ?_)) (fun z => cb_bk33 hc hk hb ?_)⟩
    · rw [cb_bk_f z] at H
      exact H
    · rw [cb_bk_t z] at H
      exact H
theorem cb_blk {post : Int32 → Prop} {c k b : Nat} (hc : c < 2) (hk : k < 6) (hb : b < 16) (H : post (cb_bk ha co c k b)) : wpX_blockOf post (cl, d, h, di, tr, sd, sg, ge, im, ha, co) (nI c) (nI k) (nI b) :=
  ⟨k + 1, cb_bk3 hc hb k hk H⟩
end
end
section
/-! part 06: the component's copy, restore, backup, images moved -/
/-- what copy reads: j places from i on -/
def cb_get (d : Nat → Int32) (f : Nat) : Nat → Nat → (Nat → Int32) → (Nat → Int32)
  | _, 0, h => h
  | i, j + 1, h => cb_get d f (i + 1) j (upd h i (d (f + i)))
/-- what copy writes -/
def cb_put (h : Nat → Int32) (t : Nat) : Nat → Nat → (Nat → Int32) → (Nat → Int32)
  | _, 0, d => d
  | i, j + 1, d => cb_put h t (i + 1) j (upd d (t + i) (h i))
section
variable {sd sg im ha tr ke : Nat → Int32}
theorem cb_X58 {post : Int32 → SX → Prop} {cl : Int32} {d di ge co : Nat → Int32} {f k : Nat} {t : Int32} (hf : f + k ≤ 16) : ∀ j i h, i + j = k → (∃ n90, wX_copy_90 post t (nI k) n90 0 cl d (cb_get d f i j h) di tr sd sg ge im ha co) → wX_copy_58 post (nI f) t (nI k) cl (j + 1) (nI i) d h di tr sd sg ge im ha co := by
  intro j
  induction j with
  | zero =>
    intro i h hij H
    exact br_t (nI_le (by omega) (by omega)) H
  | succ j ih =>
    intro i h hij H
    refine br_f (nI_ge (by omega) (by omega)) ?_
    rw [nI_add, cb_cln (by omega), cb_cln (by omega)]
    exact ⟨vp_in_nI (by omega) (by decide), vp_in_nI (by omega) (by decide), nm_e (nm_r (nI_1 i) (ih (i + 1) _ (by omega) H))⟩
theorem cb_X90 {post : Int32 → SX → Prop} {h co : Nat → Int32} {t k : Nat} (ht : t + k ≤ 16) : ∀ j i cl d di ge, i + j = k → cb_R cl d di tr sd im ha co ke → (∀ cl' di' ge', cb_R cl' (cb_put h t i j d) di' tr sd im ha co ke → post (nI k) (cl', cb_put h t i j d, h, di', tr, sd, sg, ge', im, ha, co)) → wX_copy_90 post (nI t) (nI k) (j + 1) (nI i) cl d h di tr sd sg ge im ha co := by
  intro j
  induction j with
  | zero =>
    intro i cl d di ge hij R H
    exact br_t (nI_le (by omega) (by omega)) (H cl di ge R)
  | succ j ih =>
    intro i cl d di ge hij R H
    refine br_f (nI_ge (by omega) (by omega)) ?_
    rw [nI_add, cb_cln (by omega)]
    exact ⟨vp_in_nI (by omega) (by decide), cb_store (by omega) (fun di' ge' S => nm_r (nI_1 i) (ih (i + 1) 0 _ di' ge' (by omega) (cb_R_store R S) H))⟩
/-- restore from block b on; a: what it has counted; s: the backup -/
theorem cb_X26 {post : Int32 → SX → Prop} {h co s : Nat → Int32} {c k : Nat} (hc : c < 2) (hk : k < 6) (hs : ∀ b, b < 16 → cb_bk ha co c k b = s b) : ∀ j b a cl d di ge, b + j = 16 → cb_R cl d di tr sd im ha co ke → (∀ cl' di' ge', cb_R cl' (cb_cp (fun _ => true) d s 0 b) di' tr sd im ha co ke → post (nI (a + cb_cnt d s b j)) (cl', cb_cp (fun _ => true) d s 0 b, h, di', tr, sd, sg, ge', im, ha, co)) → wX_restore_26 post (nI c) (nI k) (j + 1) (nI a) (nI b) cl d h di tr sd sg ge im ha co := by
  intro j
  induction j with
  | zero =>
    intro b a cl d di ge hbj R H
    have e : b = 16 := by omega
    subst e
    rw [cb_cp_16] at H
    exact br_t (nI_le (a := 16) (b := 16) (by omega) (by decide)) (H cl di ge R)
  | succ j ih =>
    intro b a cl d di ge hbj R H
    have hb : b < 16 := by omega
    refine br_f (nI_ge (b := 16) hb (by decide)) (cb_blk hc hk hb ⟨vp_in_nI hb (by decide), ?_⟩)
    rw [cb_cln (by omega), hs b hb]
    refine br_c (fun z => nm_r (nI_1 b) (ih (b + 1) a cl d di ge (by omega) R ?_)) (fun z => cb_store hb (fun di' ge' S => nm_r (nI_1 a) (nm_r (nI_1 b) (ih (b + 1) (a + 1) 0 _ di' ge' (by omega) (cb_R_store R S) ?_))))
    · rw [cb_cp_e0 hb z, ← cb_cnt_e z]
      exact H
    · rw [cb_cp_t0 hb rfl]
      rw [cb_cnt_n z a] at H
      rw [cb_cnt_c (f := upd d b (s b)) (f' := d) (g := s) (g' := s) j (b + 1) (fun i h1 h2 => by rw [pk_un (by omega)])]
      exact H
end
section
variable {cl : Int32} {d h di tr sd sg ge im ha ke : Nat → Int32}
theorem cb_X69 {post : Int32 → SX → Prop} {c m i : Nat} {z : Int32} (hc : c < 2) (hi : i < 12) : ∀ j b co, b + j = 16 → (∀ ge', post (nI m) (0, d, h, upd di c 0, upd tr c 1, sd, sg, ge', upd im c (nI (m + 1)), ha, cb_cp (bt z) co d (i * 16) b)) → wX_backup_69 post (nI c) (nI m) z (nI i) cl (j + 1) (nI b) d h di tr sd sg ge im ha co := by
  intro j
  have hv : vp_in (nI c) 2 := vp_in_nI hc (by decide)
  induction j with
  | zero =>
    intro b co hbj H
    have e : b = 16 := by omega
    subst e
    rw [cb_cp_16] at H
    refine br_t (nI_le (a := 16) (b := 16) (by omega) (by decide)) ?_
    rw [cb_cln (n := c) (by omega), nI_1, cb_nar1]
    exact ⟨hv, nm_e ⟨hv, nm_e ⟨hv, nm_e ⟨hv, hv, nm_e (H _)⟩⟩⟩⟩
  | succ j ih =>
    intro b co hbj H
    have hb : b < 16 := by omega
    refine br_f (nI_ge (b := 16) hb (by decide)) ?_
    rw [cb_ix16, cb_cln (n := i * 16 + b) (by omega), cb_cln (n := b) (by omega)]
    refine cb_br1 z hb (fun y => ⟨vp_in_nI hb (by decide), vp_in_nI (by omega) (by decide), nm_e (nm_r (nI_1 b) (ih (b + 1) _ (by omega) ?_))⟩) (fun y => nm_r (nI_1 b) (ih (b + 1) co (by omega) ?_))
    · rw [cb_cp_t hb y]
      exact H
    · rw [cb_cp_f hb y]
      exact H
theorem cb_X49 {post : Int32 → SX → Prop} {co : Nat → Int32} {c m : Nat} {z : Int32} (hc : c < 2) (hm : m < 6) (H : ∀ ge', post (nI m) (0, d, h, upd di c 0, upd tr c 1, sd, sg, ge', upd im c (nI (m + 1)), upd ha (c * 6 + m) z, cb_cp (bt z) co d ((c * 6 + m) * 16) 0)) : wX_backup_49 post (nI c) (nI m) z cl d h di tr sd sg ge im ha co :=
  nm_r (cb_ix6 c m) ⟨vp_in_nI (by omega) (by decide), nm_r (e' := upd ha (c * 6 + m) z) (by rw [cb_cln (by omega)]) ⟨17, cb_X69 hc (by omega) 16 0 co rfl H⟩⟩
theorem cb_X14 {post : SX → Prop} {f t : Nat} {s : Nat → Int32} (hf : f < 12) (ht : t < 12) (hft : f ≠ t) : ∀ j b co, b + j = 16 → (∀ x, x < 16 → co (f * 16 + x) = s x) → post (cl, d, h, di, tr, sd, sg, ge, im, ha, cb_cp (fun _ => true) co s (t * 16) b) → wX_moveImage_14 post (nI f) (nI t) cl (j + 1) (nI b) d h di tr sd sg ge im ha co := by
  intro j
  induction j with
  | zero =>
    intro b co hbj hs H
    have e : b = 16 := by omega
    subst e
    rw [cb_cp_16] at H
    exact br_t (nI_le (a := 16) (b := 16) (by omega) (by decide)) H
  | succ j ih =>
    intro b co hbj hs H
    have hb : b < 16 := by omega
    refine br_f (nI_ge (b := 16) hb (by decide)) ?_
    rw [cb_ix16, cb_ix16, cb_cln (n := f * 16 + b) (by omega), cb_cln (n := t * 16 + b) (by omega), hs b hb]
    refine ⟨vp_in_nI (by omega) (by decide), vp_in_nI (by omega) (by decide), nm_e (nm_r (nI_1 b) (ih (b + 1) _ (by omega) ?_ ?_))⟩
    · intro x hx
      rw [pk_un (by omega)]
      exact hs x hx
    · rw [cb_cp_t hb rfl]
      exact H
theorem cb_move {post : SX → Prop} {co : Nat → Int32} {f t : Nat} (hf : f < 12) (ht : t < 12) (hft : f ≠ t) (H : post (cl, d, h, di, tr, sd, sg, ge, im, upd ha t (ha f), cb_cp (fun _ => true) co (fun x => co (f * 16 + x)) (t * 16) 0)) : wpX_moveImage post (cl, d, h, di, tr, sd, sg, ge, im, ha, co) (nI f) (nI t) :=
  And.intro (vp_in_nI hf (by decide)) ⟨vp_in_nI ht (by decide), nm_r (e' := upd ha t (ha f)) (by rw [cb_cln (by omega), cb_cln (by omega)]) ⟨17, cb_X14 hf ht hft 16 0 co rfl (fun _ _ => rfl) H⟩⟩
end
end
section
/-! part 07: the component's takeOut, start, restart, changed, differ -/
theorem cb_one0 : ¬ (1 : Int32) = 0 := by decide
theorem cb_ne {a b : Nat} (hn : a ≠ b) (ha : a < 2 ^ 31) (hb : b < 2 ^ 31) : ¬ nI a = nI b := fun z => hn ((nI_eq ha hb).mp z)
section
variable {d h tr sd sg : Nat → Int32}
theorem cb_X150 {post : Int32 → SX → Prop} {cl : Int32} {di ge im : Nat → Int32} {c m : Nat} (hc : c < 2) (hm : m < 6) : ∀ j i ha co, i + j = c * 6 + m → post (nI m) (cl, d, h, di, tr, sd, sg, ge, upd im c (nI m), cb_sh 1 ha i (c * 6 + m), cb_sh 16 co (i * 16) ((c * 6 + m) * 16)) → wX_takeOut_150 post (nI c) (nI m) (j + 1) (nI i) cl d h di tr sd sg ge im ha co := by
  intro j
  induction j with
  | zero =>
    intro i ha co hij H
    rw [cb_sh_e (by omega), cb_sh_e (by omega)] at H
    refine br_t (by rw [cb_ix6]; exact nI_le (by omega) (by omega)) ?_
    rw [cb_cln (n := c) (by omega)]
    exact ⟨vp_in_nI hc (by decide), nm_e H⟩
  | succ j ih =>
    intro i ha co hij H
    refine br_f (by rw [cb_ix6]; exact nI_ge (by omega) (by omega)) ?_
    have e1 := nI_1 i
    rw [e1]
    refine cb_move (by omega) (by omega) (by omega) (nm_e (ih (i + 1) _ _ (by omega) ?_))
    rw [cb_sh_1 (w := 1) (by omega) (by omega), cb_sh_16 (by omega)]
    exact H
theorem cb_X46 {post : Int32 → SX → Prop} {cl : Int32} {di ge im ha s : Nat → Int32} {c m i : Nat} {z : Int32} (hc : c < 2) (hm : m < 6) (hi : c * 6 ≤ i) (hi2 : i < c * 6 + m) : ∀ j b co, b + j = 16 → (∀ x, x < 16 → co (i * 16 + x) = s x) → post (nI m) (cl, d, h, di, tr, sd, sg, ge, upd im c (nI m), cb_sh 1 (upd ha (i + 1) (ha (i + 1) ||| z)) i (c * 6 + m), cb_sh 16 (cb_cp (bt z) co s ((i + 1) * 16) b) (i * 16) ((c * 6 + m) * 16)) → wX_takeOut_46 post (nI c) (nI m) (nI i) z cl (j + 1) (nI b) d h di tr sd sg ge im ha co := by
  intro j
  have e1 := nI_1 i
  have hv : vp_in (nI (i + 1)) 12 := vp_in_nI (by omega) (by decide)
  induction j with
  | zero =>
    intro b co hbj hs H
    have e : b = 16 := by omega
    subst e
    rw [cb_cp_16] at H
    refine br_t (nI_le (a := 16) (b := 16) (by omega) (by decide)) ?_
    rw [e1, cb_cln (n := i + 1) (by omega)]
    exact ⟨hv, hv, nm_e ⟨_, cb_X150 hc hm (c * 6 + m - i) i _ co (by omega) H⟩⟩
  | succ j ih =>
    intro b co hbj hs H
    have hb : b < 16 := by omega
    refine br_f (nI_ge (b := 16) hb (by decide)) ?_
    rw [e1, cb_ix16, cb_ix16, cb_cln (n := i * 16 + b) (by omega), cb_cln (n := (i + 1) * 16 + b) (by omega), hs b hb]
    refine cb_br1 z hb (fun y => ⟨vp_in_nI (by omega) (by decide), vp_in_nI (by omega) (by decide), nm_e (nm_r (nI_1 b) (ih (b + 1) _ (by omega) ?_ ?_))⟩) (fun y => nm_r (nI_1 b) (ih (b + 1) co (by omega) hs ?_))
    · intro x hx
      rw [pk_un (by omega)]
      exact hs x hx
    · rw [cb_cp_t hb y]
      exact H
    · rw [cb_cp_f hb y]
      exact H
theorem cb_Xto {post : Int32 → SX → Prop} {cl : Int32} {di ge im ha co ke : Nat → Int32} {c k m : Nat} (R : cb_R cl d di tr sd im ha co ke) (hc : c < 2) (em : im c = nI (m + 1)) (hm : m + 1 ≤ 6) (hk : k ≤ m) (H : ∀ cl' di' ge' ha' co', cb_R cl' d di' tr sd (upd im c (nI m)) ha' co' (cb_sh 16 ke ((c * 6 + k) * 16) ((c * 6 + 5) * 16)) → post (nI m) (cl', d, h, di', tr, sd, sg, ge', upd im c (nI m), ha', co')) : wpX_takeOut post (cl, d, h, di, tr, sd, sg, ge, im, ha, co) (nI c) (nI k) := by
  have hv : vp_in (nI c) 2 := vp_in_nI hc (by decide)
  have hw : vp_in (nI (c * 6 + k)) 12 := vp_in_nI (by omega) (by decide)
  refine And.intro hv ?_
  rw [cb_cln (n := c) (by omega), em, nI_pred]
  refine nm_e (nm_r (cb_ix6 c k) ?_)
  rw [cb_cln (n := c * 6 + k) (by omega)]
  by_cases y : m ≤ k
  · have e : k = m := by omega
    subst e
    refine br_t (nI_le y (by omega)) ⟨hv, hw, hv, nm_e ⟨hv, hv, nm_e ⟨1, cb_X150 hc (by omega) 0 (c * 6 + k) ha co rfl ?_⟩⟩⟩
    rw [cb_sh_e (Nat.le_refl _), cb_sh_e (Nat.le_refl _)]
    exact H 0 _ _ ha co (cb_R_last R hc em hm)
  · refine br_f (nI_ge (by omega) (by omega)) ?_
    rw [nI_1 (c * 6 + k), cb_cln (n := c * 6 + k + 1) (by omega)]
    exact ⟨hw, vp_in_nI (by omega) (by decide), nm_e ⟨17, cb_X46 hc (by omega) (by omega) (by omega) 16 0 co rfl (fun _ _ => rfl) (H cl di ge _ _ (cb_R_mid R hc em hm (by omega) rfl))⟩⟩
end
section
variable {cl : Int32} {d h ge im ha co ke : Nat → Int32}
theorem cb_s43p {post : SX → Prop} {J2 : Int32 → (Nat → Int32) → (Nat → Int32) → (Nat → Int32) → (Nat → Int32) → (Nat → Int32) → (Nat → Int32) → (Nat → Int32) → (Nat → Int32) → (Nat → Int32) → (Nat → Int32) → Prop} {di tr sd sg : Nat → Int32} {c : Nat} (hc : c < 2) (H : J2 (nI (c + 1)) d h (upd di c 65535) (upd tr c 0) sd sg ge im ha co) : wX_start_43 post J2 (nI c) 0 cl d h di tr sd sg ge im ha co := by
  have hv : vp_in (nI c) 2 := vp_in_nI hc (by decide)
  unfold wX_start_43
  rw [cb_cln (n := c) (by omega), cb_nar0]
  exact ⟨hv, nm_e (br_t rfl ⟨hv, nm_e (nm_r (nI_1 c) H)⟩)⟩
theorem cb_s43g {post : SX → Prop} {J2 : Int32 → (Nat → Int32) → (Nat → Int32) → (Nat → Int32) → (Nat → Int32) → (Nat → Int32) → (Nat → Int32) → (Nat → Int32) → (Nat → Int32) → (Nat → Int32) → (Nat → Int32) → Prop} {di tr sd sg : Nat → Int32} {c : Nat} (hc : c < 2) (H : J2 (nI (c + 1)) d h (upd di c (sd c)) (upd tr c 1) sd sg ge im ha co) : wX_start_43 post J2 (nI c) 1 cl d h di tr sd sg ge im ha co := by
  have hv : vp_in (nI c) 2 := vp_in_nI hc (by decide)
  unfold wX_start_43
  rw [cb_cln (n := c) (by omega), cb_nar1]
  exact ⟨hv, nm_e (br_f cb_one0 ⟨hv, hv, nm_e (nm_r (nI_1 c) H)⟩)⟩
theorem cb_start1 {post : SX → Prop} {di tr sd sg : Nat → Int32} {c n : Nat} (hc : c < 2) (R : cb_R cl d di tr sd im ha co ke) (H : ∀ di' tr', cb_R cl d di' tr' sd im ha co ke → wX_start_2 post cl n (nI (c + 1)) d h di' tr' sd sg ge im ha co) : wX_start_2 post cl (n + 1) (nI c) d h di tr sd sg ge im ha co := by
  have hv : vp_in (nI c) 2 := vp_in_nI hc (by decide)
  have P : wX_start_42 post (wX_start_2 post cl n) (nI c) cl d h di tr sd sg ge im ha co := by
    unfold wX_start_42
    exact cb_s43p hc (H _ _ (cb_R_poor R))
  refine br_f (nI_ge (b := 2) hc (by decide)) ?_
  rw [cb_cln (n := c) (by omega)]
  exact br_c (fun _ => P) (fun z => ⟨hv, br_c (fun _ => P) (fun y => ⟨hv, hv, br_c (fun _ => cb_s43g hc (H _ _ (cb_R_good R hc z y))) (fun _ => P)⟩)⟩)
theorem cb_Xstart {post : SX → Prop} {di tr sd sg : Nat → Int32} (R : cb_R cl d di tr sd im ha co ke) (H : ∀ di' tr', cb_R cl d di' tr' sd im ha co ke → post (cl, d, h, di', tr', sd, sg, ge, im, ha, co)) : wpX_start post (cl, d, h, di, tr, sd, sg, ge, im, ha, co) := by
  refine ⟨3, cb_start1 (c := 0) (by omega) R (fun di1 tr1 R1 => ?_)⟩
  refine cb_start1 (c := 1) (by omega) R1 (fun di2 tr2 R2 => ?_)
  exact br_t (nI_le (a := 2) (b := 2) (by omega) (by decide)) (H di2 tr2 R2)
theorem cb_rest1 {post : SX → Prop} {di tr sd sg : Nat → Int32} {c n : Nat} (hc : c < 2) (H : ∀ sg', wX_restart_2 post cl n (nI (c + 1)) d h di tr (upd sd c (di c)) sg' ge im ha co) : wX_restart_2 post cl (n + 1) (nI c) d h di tr sd sg ge im ha co := by
  have hv : vp_in (nI c) 2 := vp_in_nI hc (by decide)
  refine br_f (nI_ge (b := 2) hc (by decide)) ?_
  rw [cb_cln (n := c) (by omega)]
  exact ⟨hv, hv, nm_e ⟨hv, br_c (fun _ => ⟨hv, nm_e (nm_r (nI_1 c) (H _))⟩) (fun _ => ⟨hv, hv, nm_e (nm_r (nI_1 c) (H _))⟩)⟩⟩
theorem cb_Xrest {post : SX → Prop} {di tr sd sg : Nat → Int32} (R : cb_R cl d di tr sd im ha co ke) (H : ∀ di' tr' sd' sg', cb_R 1 d di' tr' sd' im ha co ke → post (1, d, h, di', tr', sd', sg', ge, im, ha, co)) : wpX_restart post (cl, d, h, di, tr, sd, sg, ge, im, ha, co) := by
  refine ⟨3, cb_rest1 (c := 0) (by omega) (fun sg1 => ?_)⟩
  refine cb_rest1 (c := 1) (by omega) (fun sg2 => ?_)
  refine br_t (nI_le (a := 2) (b := 2) (by omega) (by decide)) ?_
  refine cb_Xstart (ke := ke) (cb_R_cl (cb_R_save (cb_R_save R)) ?_) (fun di' tr' R' => H di' tr' _ sg2 R')
  intro c hc
  by_cases e : c = 0
  · subst e
    rw [pk_un (by omega), pk_us]
  · have e1 : c = 1 := by omega
    subst e1
    rw [pk_us]
end
section
variable {cl : Int32} {d h di tr sd sg ge im ha co : Nat → Int32}
theorem cb_X52 {post : Int32 → Prop} {s : Nat → Int32} {c k : Nat} {look : Int32} (hc : c < 2) (hk : k < 6) (hs : ∀ b, b < 16 → cb_bk ha co c k b = s b) (hl : ∀ b, b < 16 → bt look b = false → d b = s b) : ∀ j b a, b + j = 16 → post (nI (a + cb_cnt d s b j)) → wX_changed_52 post (nI c) (nI k) look cl d h di tr sd sg ge im ha co (j + 1) (nI a) (nI b) := by
  intro j
  induction j with
  | zero =>
    intro b a hbj H
    exact br_t (nI_le (a := 16) (by omega) (by omega)) H
  | succ j ih =>
    intro b a hbj H
    have hb : b < 16 := by omega
    have E : d b = s b → wX_changed_52 post (nI c) (nI k) look cl d h di tr sd sg ge im ha co (j + 1) (nI a) (nI (b + 1)) := fun z => ih (b + 1) a (by omega) (by rw [← cb_cnt_e z]; exact H)
    refine br_f (nI_ge (b := 16) hb (by decide)) (cb_br1 look hb (fun y => cb_blk hc hk hb ⟨vp_in_nI hb (by decide), ?_⟩) (fun y => nm_r (nI_1 b) (E (hl b hb y))))
    rw [cb_cln (n := b) (by omega), hs b hb]
    exact br_c (fun z => nm_r (nI_1 b) (E z.symm)) (fun z => nm_r (nI_1 a) (nm_r (nI_1 b) (ih (b + 1) (a + 1) (by omega) (by rw [← cb_cnt_n (fun w => z w.symm) a]; exact H))))
theorem cb_X99 {post : Int32 → Prop} {s t : Nat → Int32} {c l g : Nat} {look : Int32} (hc : c < 2) (hl : l < 6) (hg : g < 6) (hs : ∀ b, b < 16 → cb_bk ha co c l b = s b) (ht : ∀ b, b < 16 → cb_bk ha co c g b = t b) (hk : ∀ b, b < 16 → bt look b = false → s b = t b) : ∀ j b a, b + j = 16 → post (nI (a + cb_cnt s t b j)) → wX_differ_99 post (nI c) (nI l) (nI g) look cl d h di tr sd sg ge im ha co (j + 1) (nI a) (nI b) := by
  intro j
  induction j with
  | zero =>
    intro b a hbj H
    exact br_t (nI_le (a := 16) (by omega) (by omega)) H
  | succ j ih =>
    intro b a hbj H
    have hb : b < 16 := by omega
    have E : s b = t b → wX_differ_99 post (nI c) (nI l) (nI g) look cl d h di tr sd sg ge im ha co (j + 1) (nI a) (nI (b + 1)) := fun z => ih (b + 1) a (by omega) (by rw [← cb_cnt_e z]; exact H)
    refine br_f (nI_ge (b := 16) hb (by decide)) (cb_br1 look hb (fun y => cb_blk hc hl hb (cb_blk hc hg hb ?_)) (fun y => nm_r (nI_1 b) (E (hk b hb y))))
    rw [hs b hb, ht b hb]
    exact br_c (fun z => nm_r (nI_1 b) (E z)) (fun z => nm_r (nI_1 a) (nm_r (nI_1 b) (ih (b + 1) (a + 1) (by omega) (by rw [← cb_cnt_n z a]; exact H))))
theorem cb_X63 {post : Int32 → Prop} {c g : Nat} {l : Int32} (hc : c < 2) (hg : g < 6) : ∀ j i look, i + j = g + 1 → (∀ look', (∀ b, bt look' b = false → bt look b = false ∧ ∀ q, i ≤ q → q ≤ g → bt (ha (c * 6 + q)) b = false) → ∃ n99, wX_differ_99 post (nI c) l (nI g) look' cl d h di tr sd sg ge im ha co n99 0 0) → wX_differ_63 post (nI c) l (nI g) cl d h di tr sd sg ge im ha co (j + 1) look (nI i) := by
  intro j
  induction j with
  | zero =>
    intro i look hij H
    exact br_t (nI_lt (by omega) (by omega)) (H look (fun b y => ⟨y, fun q h1 h2 => by omega⟩))
  | succ j ih =>
    intro i look hij H
    refine br_f (nI_nlt (by omega) (by omega)) ?_
    rw [cb_ix6, cb_cln (n := c * 6 + i) (by omega)]
    refine ⟨vp_in_nI (by omega) (by decide), nm_e (nm_r (nI_1 i) (ih (i + 1) _ (by omega) (fun look' L => H look' (fun b y => ?_))))⟩
    have w := L b y
    rw [b_or, Bool.or_eq_false_iff] at w
    refine ⟨w.1.1, fun q h1 h2 => ?_⟩
    by_cases e : q = i
    · rw [e]
      exact w.1.2
    · exact w.2 q (by omega) h2
theorem cb_Xdif {post : Int32 → Prop} {s t : Nat → Int32} {c l g : Nat} (hc : c < 2) (hlg : l ≤ g) (hg : g < 6) (hs : ∀ b, b < 16 → cb_bk ha co c l b = s b) (ht : ∀ b, b < 16 → cb_bk ha co c g b = t b) (H : post (nI (cb_cnt s t 0 16))) : ∃ n63, wX_differ_63 post (nI c) (nI l) (nI g) cl d h di tr sd sg ge im ha co n63 0 (nI (l + 1)) := by
  refine ⟨g - l + 1, cb_X63 hc hg (g - l) (l + 1) 0 (by omega) (fun look' L => ⟨17, cb_X99 hc (by omega) hg hs ht (fun b hb y => ?_) 16 0 0 rfl (by rw [Nat.zero_add]; exact H)⟩)⟩
  rw [← hs b hb, ← ht b hb]
  have e := cb_bk_s (ha := ha) (co := co) (c := c) (b := b) (l := l) (g - l) (fun i h1 h2 => (L b y).2 i (by omega) (by omega))
  rw [show l + (g - l) = g by omega] at e
  exact e.symm
end
end
section
/-! part 08: the reference's methods and loops, each with a general post -/
section
variable {d h im ke : Nat → Int32}
theorem cb_Ybc0 {post : Int32 → Prop} {u : SY} {c : Nat} (hc : c < 2) (H : post 0) : wpY_badChain post u (nI c) := by
  obtain ⟨a1, a2, a3, a4⟩ := u
  exact br_f (nI_pos (by omega)) (br_t (nI_le (b := 1) (by omega) (by decide)) H)
theorem cb_Ybc1 {post : Int32 → Prop} {u : SY} {p : Int32} (hp : p < 0 ∨ ¬ p ≤ 1) (H : post 1) : wpY_badChain post u p := by
  obtain ⟨a1, a2, a3, a4⟩ := u
  by_cases hn : p < 0
  · exact br_t hn H
  · exact br_f hn (br_f (hp.resolve_left hn) H)
theorem cb_Yno0 {post : Int32 → Prop} {c k m : Nat} (hc : c < 2) (em : im c = nI m) (hm : m ≤ 6) (hk : k < m) (H : post 0) : wpY_none post (d, h, im, ke) (nI c) (nI k) := by
  refine br_f (nI_pos (by omega)) (br_f (nI_nlt (b := k) (a := 5) (by omega) (by decide)) ⟨vp_in_nI hc (by decide), ?_⟩)
  rw [cb_cln (by omega), em]
  exact br_t (nI_lt hk (by omega)) H
theorem cb_Yno1 {post : Int32 → Prop} {c m : Nat} {p : Int32} (hc : c < 2) (em : im c = nI m) (hp : p < 0 ∨ ∃ k, m ≤ k ∧ k < 2 ^ 31 ∧ p = nI k) (H : post 1) : wpY_none post (d, h, im, ke) (nI c) p := by
  by_cases hn : p < 0
  · exact br_t hn H
  · obtain ⟨k, hk, hk2, rfl⟩ := hp.resolve_left hn
    refine br_f hn ?_
    by_cases h5 : 5 < k
    · exact br_t (nI_lt (a := 5) h5 hk2) H
    · refine br_f (nI_nlt (b := k) (a := 5) (by omega) (by decide)) ⟨vp_in_nI hc (by decide), ?_⟩
      rw [cb_cln (by omega), em]
      exact br_f (nI_nlt hk hk2) H
end
section
variable {im ke : Nat → Int32}
theorem cb_Y55 {post : Int32 → SY → Prop} {d : Nat → Int32} {f k : Nat} {t : Int32} (hf : f + k ≤ 16) : ∀ j i h, i + j = k → (∃ n87, wY_copy_87 post t (nI k) n87 0 d (cb_get d f i j h) im ke) → wY_copy_55 post (nI f) t (nI k) (j + 1) (nI i) d h im ke := by
  intro j
  induction j with
  | zero =>
    intro i h hij H
    exact br_t (nI_le (by omega) (by omega)) H
  | succ j ih =>
    intro i h hij H
    refine br_f (nI_ge (by omega) (by omega)) ?_
    rw [nI_add, cb_cln (by omega), cb_cln (by omega)]
    exact ⟨vp_in_nI (by omega) (by decide), vp_in_nI (by omega) (by decide), nm_e (nm_r (nI_1 i) (ih (i + 1) _ (by omega) H))⟩
theorem cb_Y87 {post : Int32 → SY → Prop} {h : Nat → Int32} {t k : Nat} (ht : t + k ≤ 16) : ∀ j i d, i + j = k → post (nI k) (cb_put h t i j d, h, im, ke) → wY_copy_87 post (nI t) (nI k) (j + 1) (nI i) d h im ke := by
  intro j
  induction j with
  | zero =>
    intro i d hij H
    exact br_t (nI_le (by omega) (by omega)) H
  | succ j ih =>
    intro i d hij H
    refine br_f (nI_ge (by omega) (by omega)) ?_
    rw [nI_add, cb_cln (by omega), cb_cln (by omega)]
    exact ⟨vp_in_nI (by omega) (by decide), vp_in_nI (by omega) (by decide), nm_e (nm_r (nI_1 i) (ih (i + 1) _ (by omega) H))⟩
theorem cb_Y28 {post : Int32 → SY → Prop} {d h : Nat → Int32} {c m : Nat} (hc : c < 2) (hm : m < 6) : ∀ j b ke, b + j = 16 → post (nI m) (d, h, upd im c (nI (m + 1)), cb_cp (fun _ => true) ke d ((c * 6 + m) * 16) b) → wY_backup_28 post (nI c) (nI m) (j + 1) (nI b) d h im ke := by
  intro j
  induction j with
  | zero =>
    intro b ke hbj H
    have e : b = 16 := by omega
    subst e
    rw [cb_cp_16] at H
    refine br_t (nI_le (a := 16) (b := 16) (by omega) (by decide)) ?_
    rw [cb_cln (n := c) (by omega), nI_1]
    exact ⟨vp_in_nI hc (by decide), nm_e H⟩
  | succ j ih =>
    intro b ke hbj H
    have hb : b < 16 := by omega
    refine br_f (nI_ge (b := 16) hb (by decide)) ?_
    rw [cb_ix6, cb_ix16, cb_cln (n := (c * 6 + m) * 16 + b) (by omega), cb_cln (n := b) (by omega)]
    refine ⟨vp_in_nI hb (by decide), vp_in_nI (by omega) (by decide), nm_e (nm_r (nI_1 b) (ih (b + 1) _ (by omega) ?_))⟩
    rw [cb_cp_t hb rfl]
    exact H
theorem cb_Y5 {post : Int32 → Prop} {d h s : Nat → Int32} {c k : Nat} (hc : c < 2) (hk : k < 6) (hs : ∀ b, b < 16 → ke ((c * 6 + k) * 16 + b) = s b) : ∀ j b a, b + j = 16 → post (nI (a + cb_cnt d s b j)) → wY_against_5 post (nI c) (nI k) d h im ke (j + 1) (nI a) (nI b) := by
  intro j
  induction j with
  | zero =>
    intro b a hbj H
    exact br_t (nI_le (a := 16) (by omega) (by omega)) H
  | succ j ih =>
    intro b a hbj H
    have hb : b < 16 := by omega
    refine br_f (nI_ge (b := 16) hb (by decide)) ?_
    rw [cb_ix6, cb_ix16, cb_cln (n := (c * 6 + k) * 16 + b) (by omega), cb_cln (n := b) (by omega), hs b hb]
    refine ⟨vp_in_nI hb (by decide), vp_in_nI (by omega) (by decide), br_c (fun z => nm_r (nI_1 b) (ih (b + 1) a (by omega) ?_)) (fun z => nm_r (nI_1 a) (nm_r (nI_1 b) (ih (b + 1) (a + 1) (by omega) ?_)))⟩
    · rw [← cb_cnt_e z]
      exact H
    · rw [← cb_cnt_n z a]
      exact H
theorem cb_Y32r {post : Int32 → SY → Prop} {h s : Nat → Int32} {c k : Nat} {r : Int32} (hc : c < 2) (hk : k < 6) (hs : ∀ b, b < 16 → ke ((c * 6 + k) * 16 + b) = s b) : ∀ j b d, b + j = 16 → post r (cb_cp (fun _ => true) d s 0 b, h, im, ke) → wY_restore_32 post (nI c) (nI k) r (j + 1) (nI b) d h im ke := by
  intro j
  induction j with
  | zero =>
    intro b d hbj H
    have e : b = 16 := by omega
    subst e
    rw [cb_cp_16] at H
    exact br_t (nI_le (a := 16) (b := 16) (by omega) (by decide)) H
  | succ j ih =>
    intro b d hbj H
    have hb : b < 16 := by omega
    refine br_f (nI_ge (b := 16) hb (by decide)) ?_
    rw [cb_ix6, cb_ix16, cb_cln (n := (c * 6 + k) * 16 + b) (by omega), cb_cln (n := b) (by omega), hs b hb]
    refine ⟨vp_in_nI (by omega) (by decide), vp_in_nI hb (by decide), nm_e (nm_r (nI_1 b) (ih (b + 1) _ (by omega) ?_))⟩
    rw [cb_cp_t0 hb rfl]
    exact H
theorem cb_Y32d {post : Int32 → SY → Prop} {d h : Nat → Int32} {c m : Nat} (hc : c < 2) (em : im c = nI (m + 1)) : ∀ j i ke, i + j = (c * 6 + 5) * 16 → post (nI m) (d, h, upd im c (nI m), cb_sh 16 ke i ((c * 6 + 5) * 16)) → wY_drop_32 post (nI c) (j + 1) (nI i) d h im ke := by
  intro j
  have hv : vp_in (nI c) 2 := vp_in_nI hc (by decide)
  have e4 : nI c * 6 + 5 = nI (c * 6 + 5) := cb_ix6 c 5
  have e5 : (nI c * 6 + 5) * 16 = nI ((c * 6 + 5) * 16) := by rw [e4]; exact pk_mul _ 16
  induction j with
  | zero =>
    intro i ke hij H
    rw [cb_sh_e (by omega)] at H
    refine br_t (by rw [e5]; exact nI_le (by omega) (by omega)) ?_
    rw [cb_cln (n := c) (by omega), em, nI_pred]
    refine ⟨hv, hv, nm_e ⟨hv, ?_⟩⟩
    rw [pk_us]
    exact H
  | succ j ih =>
    intro i ke hij H
    have e6 : nI i + 16 = nI (i + 16) := nI_add i 16
    refine br_f (by rw [e5]; exact nI_ge (by omega) (by omega)) ?_
    rw [e6, cb_cln (n := i + 16) (by omega), cb_cln (n := i) (by omega)]
    refine ⟨vp_in_nI (by omega) (by decide), vp_in_nI (by omega) (by decide), nm_e (nm_r (nI_1 i) (ih (i + 1) _ (by omega) ?_))⟩
    rw [cb_sh_1 (by omega) (by omega)]
    exact H
theorem cb_Y37 {post : Int32 → Prop} {d h s t : Nat → Int32} {c k l : Nat} (hc : c < 2) (hk : k < 6) (hl : l < 6) (hs : ∀ b, b < 16 → ke ((c * 6 + k) * 16 + b) = s b) (ht : ∀ b, b < 16 → ke ((c * 6 + l) * 16 + b) = t b) : ∀ j b a, b + j = 16 → post (nI (a + cb_cnt s t b j)) → wY_differ_37 post (nI c) (nI k) (nI l) d h im ke (j + 1) (nI a) (nI b) := by
  intro j
  induction j with
  | zero =>
    intro b a hbj H
    exact br_t (nI_le (a := 16) (by omega) (by omega)) H
  | succ j ih =>
    intro b a hbj H
    have hb : b < 16 := by omega
    have e1 : (nI c * 6 + nI k) * 16 + nI b = nI ((c * 6 + k) * 16 + b) := by rw [cb_ix6, cb_ix16]
    have e2 : (nI c * 6 + nI l) * 16 + nI b = nI ((c * 6 + l) * 16 + b) := by rw [cb_ix6, cb_ix16]
    have f1 : (nI ((c * 6 + k) * 16 + b)).toNatClampNeg = (c * 6 + k) * 16 + b := cb_cln (by omega)
    have f2 : (nI ((c * 6 + l) * 16 + b)).toNatClampNeg = (c * 6 + l) * 16 + b := cb_cln (by omega)
    refine br_f (nI_ge (b := 16) hb (by decide)) ?_
    simp only [e1, e2, f1, f2, hs b hb, ht b hb]
    refine ⟨vp_in_nI (by omega) (by decide), vp_in_nI (by omega) (by decide), br_c (fun z => nm_r (nI_1 b) (ih (b + 1) a (by omega) ?_)) (fun z => nm_r (nI_1 a) (nm_r (nI_1 b) (ih (b + 1) (a + 1) (by omega) ?_)))⟩
    · rw [← cb_cnt_e z]
      exact H
    · rw [← cb_cnt_n z a]
      exact H
end
end
section
/-! part 09: the relation of the two states; the public methods of both sides -/
/-- disk, room for copies and numbers of backups are the same functions; the rest by cb_R -/
def i_Rel (_ : Nat) (u : SX) (v : SY) : Prop := ∃ (cl : Int32) (d h di tr sd sg ge im ha co ke : Nat → Int32), u = (cl, d, h, di, tr, sd, sg, ge, im, ha, co) ∧ v = (d, h, im, ke) ∧ cb_R cl d di tr sd im ha co ke
theorem cb_mk {K : Nat} {cl : Int32} {d h di tr sd sg ge im ha co ke : Nat → Int32} (R : cb_R cl d di tr sd im ha co ke) : i_Rel K (cl, d, h, di, tr, sd, sg, ge, im, ha, co) (d, h, im, ke) :=
  ⟨cl, d, h, di, tr, sd, sg, ge, im, ha, co, ke, rfl, rfl, R⟩
section
variable {cl : Int32} {d h di tr sd sg ge im ha co ke : Nat → Int32}
/-- backup -/
theorem cb_Xback {post : Int32 → SX → Prop} {c m : Nat} (hc : c < 2) (em : im c = nI m) (hm : m < 6) (H : ∀ z ge', (z = 65535 ∨ (0 < m ∧ ¬ tr c = 0 ∧ z = di c)) → post (nI m) (0, d, h, upd di c 0, upd tr c 1, sd, sg, ge', upd im c (nI (m + 1)), upd ha (c * 6 + m) z, cb_cp (bt z) co d ((c * 6 + m) * 16) 0)) : wpX_backup post (cl, d, h, di, tr, sd, sg, ge, im, ha, co) (nI c) := by
  have hv : vp_in (nI c) 2 := vp_in_nI hc (by decide)
  have P : wX_backup_38 post (nI c) (nI m) cl d h di tr sd sg ge im ha co := by
    unfold wX_backup_38
    exact cb_X49 hc hm (fun ge' => H 65535 ge' (Or.inl rfl))
  unfold wpX_backup
  dsimp only
  refine cb_Xbc0 hc (br_t rfl ⟨hv, ?_⟩)
  rw [cb_cln (n := c) (by omega), em]
  refine nm_e (br_t (nI_lt (b := 6) hm (by decide)) ?_)
  by_cases hm0 : m = 0
  · subst hm0
    exact br_t rfl P
  · exact br_f (nI_ne0 (by omega) (by omega)) ⟨hv, br_c (fun _ => P) (fun z => ⟨hv, cb_X49 hc hm (fun ge' => H (di c) ge' (Or.inr ⟨by omega, z, rfl⟩))⟩)⟩
theorem cb_XbackF {post : Int32 → SX → Prop} {c : Nat} (hc : c < 2) (em : im c = nI 6) (H : post (-3) (cl, d, h, di, tr, sd, sg, ge, im, ha, co)) : wpX_backup post (cl, d, h, di, tr, sd, sg, ge, im, ha, co) (nI c) := by
  unfold wpX_backup
  dsimp only
  refine cb_Xbc0 hc (br_t rfl ⟨vp_in_nI hc (by decide), ?_⟩)
  rw [cb_cln (n := c) (by omega), em]
  exact nm_e (br_f (nI_nlt (a := 6) (b := 6) (by omega) (by decide)) H)
theorem cb_Xback1 {post : Int32 → SX → Prop} {p : Int32} (hp : p < 0 ∨ ¬ p ≤ 1) (H : post (-1) (cl, d, h, di, tr, sd, sg, ge, im, ha, co)) : wpX_backup post (cl, d, h, di, tr, sd, sg, ge, im, ha, co) p := by
  unfold wpX_backup
  dsimp only
  exact cb_Xbc1 hp (br_f cb_one0 H)
theorem cb_Yback {post : Int32 → SY → Prop} {c m : Nat} (hc : c < 2) (em : im c = nI m) (hm : m < 6) (H : post (nI m) (d, h, upd im c (nI (m + 1)), cb_cp (fun _ => true) ke d ((c * 6 + m) * 16) 0)) : wpY_backup post (d, h, im, ke) (nI c) := by
  unfold wpY_backup
  dsimp only
  refine cb_Ybc0 hc (br_t rfl ⟨vp_in_nI hc (by decide), ?_⟩)
  rw [cb_cln (n := c) (by omega), em]
  exact nm_e (br_f (cb_ne (b := 6) (by omega) (by omega) (by decide)) ⟨17, cb_Y28 hc hm 16 0 ke rfl H⟩)
theorem cb_YbackF {post : Int32 → SY → Prop} {c : Nat} (hc : c < 2) (em : im c = nI 6) (H : post (-3) (d, h, im, ke)) : wpY_backup post (d, h, im, ke) (nI c) := by
  unfold wpY_backup
  dsimp only
  refine cb_Ybc0 hc (br_t rfl ⟨vp_in_nI hc (by decide), ?_⟩)
  rw [cb_cln (n := c) (by omega), em]
  exact nm_e (br_t rfl H)
theorem cb_Yback1 {post : Int32 → SY → Prop} {p : Int32} (hp : p < 0 ∨ ¬ p ≤ 1) (H : post (-1) (d, h, im, ke)) : wpY_backup post (d, h, im, ke) p := by
  unfold wpY_backup
  dsimp only
  exact cb_Ybc1 hp (br_f cb_one0 H)
/-- restore -/
theorem cb_Xres {post : Int32 → SX → Prop} {s : Nat → Int32} {c k m : Nat} (R : cb_R cl d di tr sd im ha co ke) (hc : c < 2) (em : im c = nI m) (hm : m ≤ 6) (hk : k < m) (hs : ∀ b, b < 16 → cb_bk ha co c k b = s b) (H : ∀ cl' di' ge', cb_R cl' (cb_cp (fun _ => true) d s 0 0) di' tr sd im ha co ke → post (nI (cb_cnt d s 0 16)) (cl', cb_cp (fun _ => true) d s 0 0, h, di', tr, sd, sg, ge', im, ha, co)) : wpX_restore post (cl, d, h, di, tr, sd, sg, ge, im, ha, co) (nI c) (nI k) := by
  unfold wpX_restore
  dsimp only
  refine cb_Xbc0 hc (br_t rfl (cb_Xno0 hc em hm hk (br_t rfl ⟨17, cb_X26 hc (by omega) hs 16 0 0 cl d di ge rfl R ?_⟩)))
  rw [Nat.zero_add]
  exact H
theorem cb_Xres4 {post : Int32 → SX → Prop} {c m : Nat} {p : Int32} (hc : c < 2) (em : im c = nI m) (hp : p < 0 ∨ ∃ k, m ≤ k ∧ k < 2 ^ 31 ∧ p = nI k) (H : post (-4) (cl, d, h, di, tr, sd, sg, ge, im, ha, co)) : wpX_restore post (cl, d, h, di, tr, sd, sg, ge, im, ha, co) (nI c) p := by
  unfold wpX_restore
  dsimp only
  exact cb_Xbc0 hc (br_t rfl (cb_Xno1 hc em hp (br_f cb_one0 H)))
theorem cb_Xres1 {post : Int32 → SX → Prop} {p q : Int32} (hp : p < 0 ∨ ¬ p ≤ 1) (H : post (-1) (cl, d, h, di, tr, sd, sg, ge, im, ha, co)) : wpX_restore post (cl, d, h, di, tr, sd, sg, ge, im, ha, co) p q := by
  unfold wpX_restore
  dsimp only
  exact cb_Xbc1 hp (br_f cb_one0 H)
theorem cb_Yag {post : Int32 → Prop} {s : Nat → Int32} {c k : Nat} (hc : c < 2) (hk : k < 6) (hs : ∀ b, b < 16 → ke ((c * 6 + k) * 16 + b) = s b) (H : post (nI (cb_cnt d s 0 16))) : wpY_against post (d, h, im, ke) (nI c) (nI k) :=
  ⟨17, cb_Y5 hc hk hs 16 0 0 rfl (by rw [Nat.zero_add]; exact H)⟩
theorem cb_Yres {post : Int32 → SY → Prop} {s : Nat → Int32} {c k m : Nat} (hc : c < 2) (em : im c = nI m) (hm : m ≤ 6) (hk : k < m) (hs : ∀ b, b < 16 → ke ((c * 6 + k) * 16 + b) = s b) (H : post (nI (cb_cnt d s 0 16)) (cb_cp (fun _ => true) d s 0 0, h, im, ke)) : wpY_restore post (d, h, im, ke) (nI c) (nI k) := by
  unfold wpY_restore
  dsimp only
  exact cb_Ybc0 hc (br_t rfl (cb_Yno0 hc em hm hk (br_t rfl (cb_Yag hc (by omega) hs ⟨17, cb_Y32r hc (by omega) hs 16 0 d rfl H⟩))))
theorem cb_Yres4 {post : Int32 → SY → Prop} {c m : Nat} {p : Int32} (hc : c < 2) (em : im c = nI m) (hp : p < 0 ∨ ∃ k, m ≤ k ∧ k < 2 ^ 31 ∧ p = nI k) (H : post (-4) (d, h, im, ke)) : wpY_restore post (d, h, im, ke) (nI c) p := by
  unfold wpY_restore
  dsimp only
  exact cb_Ybc0 hc (br_t rfl (cb_Yno1 hc em hp (br_f cb_one0 H)))
theorem cb_Yres1 {post : Int32 → SY → Prop} {p q : Int32} (hp : p < 0 ∨ ¬ p ≤ 1) (H : post (-1) (d, h, im, ke)) : wpY_restore post (d, h, im, ke) p q := by
  unfold wpY_restore
  dsimp only
  exact cb_Ybc1 hp (br_f cb_one0 H)
/-- drop -/
theorem cb_Yd {post : Int32 → SY → Prop} {c k m : Nat} (hc : c < 2) (em : im c = nI (m + 1)) (hm : m + 1 ≤ 6) (hk : k ≤ m) (H : post (nI m) (d, h, upd im c (nI m), cb_sh 16 ke ((c * 6 + k) * 16) ((c * 6 + 5) * 16))) : wpY_drop post (d, h, im, ke) (nI c) (nI k) := by
  have e : (nI c * 6 + nI k) * 16 = nI ((c * 6 + k) * 16) := by rw [cb_ix6]; exact pk_mul _ 16
  unfold wpY_drop
  dsimp only
  exact cb_Ybc0 hc (br_t rfl (cb_Yno0 hc em hm (by omega) (br_t rfl (nm_r e ⟨_, cb_Y32d hc em ((5 - k) * 16) _ ke (by omega) H⟩))))
theorem cb_Yd4 {post : Int32 → SY → Prop} {c m : Nat} {p : Int32} (hc : c < 2) (em : im c = nI m) (hp : p < 0 ∨ ∃ k, m ≤ k ∧ k < 2 ^ 31 ∧ p = nI k) (H : post (-4) (d, h, im, ke)) : wpY_drop post (d, h, im, ke) (nI c) p := by
  unfold wpY_drop
  dsimp only
  exact cb_Ybc0 hc (br_t rfl (cb_Yno1 hc em hp (br_f cb_one0 H)))
theorem cb_Yd1 {post : Int32 → SY → Prop} {p q : Int32} (hp : p < 0 ∨ ¬ p ≤ 1) (H : post (-1) (d, h, im, ke)) : wpY_drop post (d, h, im, ke) p q := by
  unfold wpY_drop
  dsimp only
  exact cb_Ybc1 hp (br_f cb_one0 H)
/-- copy behind its first test -/
theorem cb_copy {K k : Nat} {v1 v2 : Int32} {post : Int32 → SX → Prop} (R : cb_R cl d di tr sd im ha co ke) (hk : k < 2 ^ 31) (H : ∀ r u', wY_copy_9 (fun r' v' => r' = r ∧ i_Rel K u' v') v1 v2 (nI k) d h im ke → post r u') : wX_copy_9 post v1 v2 (nI k) cl d h di tr sd sg ge im ha co := by
  by_cases n1 : v1 < 0
  · exact br_t n1 (H _ _ (br_t n1 ⟨rfl, cb_mk R⟩))
  obtain ⟨f, hf, rfl⟩ := nI_of n1
  by_cases f1 : f < 16
  case neg => exact br_f n1 (br_t (nI_le (a := 16) (by omega) hf) (H _ _ (br_f n1 (br_t (nI_lt (a := 15) (by omega) hf) ⟨rfl, cb_mk R⟩))))
  have fx : ¬ (16 : Int32) ≤ nI f := nI_ge (b := 16) f1 (by decide)
  have fy : ¬ (15 : Int32) < nI f := nI_nlt (a := 15) (by omega) (by decide)
  by_cases n2 : v2 < 0
  · exact br_f n1 (br_f fx (br_t n2 (H _ _ (br_f n1 (br_f fy (br_t n2 ⟨rfl, cb_mk R⟩))))))
  obtain ⟨t, ht, rfl⟩ := nI_of n2
  by_cases t1 : t < 16
  case neg => exact br_f n1 (br_f fx (br_f n2 (br_f (nI_nlt (b := 16) (by omega) ht) (H _ _ (br_f n1 (br_f fy (br_f n2 (br_t (nI_lt (a := 15) (by omega) ht) ⟨rfl, cb_mk R⟩))))))))
  have tx : nI t < (16 : Int32) := nI_lt (b := 16) t1 (by decide)
  have ty : ¬ (15 : Int32) < nI t := nI_nlt (a := 15) (by omega) (by decide)
  have ef : (16 : Int32) - nI f = nI (16 - f) := pk_sub (a := 16) (by omega)
  have et : (16 : Int32) - nI t = nI (16 - t) := pk_sub (a := 16) (by omega)
  by_cases kf : 16 - f < k
  · have w : (16 : Int32) - nI f < nI k := by rw [ef]; exact nI_lt kf hk
    exact br_f n1 (br_f fx (br_f n2 (br_t tx (br_t w (H _ _ (br_f n1 (br_f fy (br_f n2 (br_f ty (br_t w ⟨rfl, cb_mk R⟩))))))))))
  have wf : ¬ (16 : Int32) - nI f < nI k := by rw [ef]; exact nI_nlt (by omega) (by omega)
  by_cases kt : k ≤ 16 - t
  case neg =>
    have w : ¬ nI k ≤ (16 : Int32) - nI t := by rw [et]; exact nI_ge (by omega) hk
    exact br_f n1 (br_f fx (br_f n2 (br_t tx (br_f wf (br_f w (H _ _ (br_f n1 (br_f fy (br_f n2 (br_f ty (br_f wf (br_f w ⟨rfl, cb_mk R⟩))))))))))))
  have wt : nI k ≤ (16 : Int32) - nI t := by rw [et]; exact nI_le kt (by omega)
  refine br_f n1 (br_f fx (br_f n2 (br_t tx (br_f wf (br_t wt ⟨k + 1, cb_X58 (by omega) k 0 h (by omega) ⟨k + 1, cb_X90 (ke := ke) (by omega) k 0 cl d di ge (by omega) R (fun cl' di' ge' R' => H _ _ ?_)⟩⟩)))))
  exact br_f n1 (br_f fy (br_f n2 (br_f ty (br_f wf (br_t wt ⟨k + 1, cb_Y55 (by omega) k 0 h (by omega) ⟨k + 1, cb_Y87 (by omega) k 0 d (by omega) ⟨rfl, cb_mk R'⟩⟩⟩)))))
end
end
section
/-! part 10: what is owed -/
theorem i_up {k : Nat} {u : SX} {v : SY} (h : i_Rel k u v) : i_Rel (k + 4) u v := h
theorem i_vc0 : wpX_init (fun u => wpY_init (fun v => i_Rel 0 u v)) := by
  unfold wpX_init wpY_init
  exact cb_mk cb_R_0
theorem i_vc_write {k : Nat} {u : SX} {v : SY} (I : i_Rel k u v) (hk : k + 4 ≤ 2048) (v1 : Int32) (v2 : Int32) : wpX_write (fun r u' => wpY_write (fun r' v' => r' = r ∧ i_Rel (k + 4) u' v') v v1 v2) u v1 v2 := by
  obtain ⟨cl, d, h, di, tr, sd, sg, ge, im, ha, co, ke, rfl, rfl, R⟩ := I
  by_cases n1 : v1 < 0
  · exact br_t n1 (br_t n1 ⟨rfl, cb_mk R⟩)
  obtain ⟨j, hj, rfl⟩ := nI_of n1
  by_cases h16 : j < 16
  · exact br_f n1 (br_t (nI_lt (b := 16) h16 (by decide)) (cb_store h16 (fun di' ge' S => br_f n1 (br_t (nI_le (b := 15) (by omega) (by decide)) ⟨vp_in_nI h16 (by decide), nm_r (e' := upd d j v2) (by rw [cb_cln (by omega)]) ⟨rfl, cb_mk (cb_R_store R S)⟩⟩))))
  · exact br_f n1 (br_f (nI_nlt (b := 16) (by omega) hj) (br_f n1 (br_f (nI_ge (a := 15) (by omega) hj) ⟨rfl, cb_mk R⟩)))
theorem i_vc_copy {k : Nat} {u : SX} {v : SY} (I : i_Rel k u v) (hk : k + 4 ≤ 2048) (v1 : Int32) (v2 : Int32) (v3 : Int32) : wpX_copy (fun r u' => wpY_copy (fun r' v' => r' = r ∧ i_Rel (k + 4) u' v') v v1 v2 v3) u v1 v2 v3 := by
  obtain ⟨cl, d, h, di, tr, sd, sg, ge, im, ha, co, ke, rfl, rfl, R⟩ := I
  by_cases n3 : 0 ≤ v3
  · obtain ⟨q, hq, rfl⟩ := nI_of (Int32.not_lt.mpr n3)
    exact br_t n3 (cb_copy (ke := ke) R hq (fun r u' Y => br_t n3 Y))
  · exact br_f n3 (cb_copy (ke := ke) (k := 0) R (by decide) (fun r u' Y => br_f n3 Y))
theorem i_vc_backup {k : Nat} {u : SX} {v : SY} (I : i_Rel k u v) (hk : k + 4 ≤ 2048) (v1 : Int32) : wpX_backup (fun r u' => wpY_backup (fun r' v' => r' = r ∧ i_Rel (k + 4) u' v') v v1) u v1 := by
  obtain ⟨cl, d, h, di, tr, sd, sg, ge, im, ha, co, ke, rfl, rfl, R⟩ := I
  rcases cb_ch v1 with hp | ⟨c, hc, rfl⟩
  · exact cb_Xback1 hp (cb_Yback1 hp ⟨rfl, cb_mk R⟩)
  obtain ⟨m, em, C⟩ := R c hc
  have h6 := C.1
  by_cases hm : m < 6
  · exact cb_Xback hc em hm (fun z ge' hz => cb_Yback hc em hm ⟨rfl, cb_mk (cb_R_backup R hc em hm hz)⟩)
  · have e : m = 6 := by omega
    subst e
    exact cb_XbackF hc em (cb_YbackF hc em ⟨rfl, cb_mk R⟩)
theorem i_vc_restore {k : Nat} {u : SX} {v : SY} (I : i_Rel k u v) (hk : k + 4 ≤ 2048) (v1 : Int32) (v2 : Int32) : wpX_restore (fun r u' => wpY_restore (fun r' v' => r' = r ∧ i_Rel (k + 4) u' v') v v1 v2) u v1 v2 := by
  obtain ⟨cl, d, h, di, tr, sd, sg, ge, im, ha, co, ke, rfl, rfl, R⟩ := I
  rcases cb_ch v1 with hp | ⟨c, hc, rfl⟩
  · exact cb_Xres1 hp (cb_Yres1 hp ⟨rfl, cb_mk R⟩)
  obtain ⟨m, em, C⟩ := R c hc
  rcases cb_no v2 m with hp | ⟨q, hq, rfl⟩
  · exact cb_Xres4 hc em hp (cb_Yres4 hc em hp ⟨rfl, cb_mk R⟩)
  · exact cb_Xres (s := fun b => ke ((c * 6 + q) * 16 + b)) R hc em C.1 hq (C.2.2.1 q hq) (fun cl' di' ge' R' => cb_Yres hc em C.1 hq (fun _ _ => rfl) ⟨rfl, cb_mk R'⟩)
theorem i_vc_dropOldest {k : Nat} {u : SX} {v : SY} (I : i_Rel k u v) (hk : k + 4 ≤ 2048) (v1 : Int32) : wpX_dropOldest (fun r u' => wpY_dropOldest (fun r' v' => r' = r ∧ i_Rel (k + 4) u' v') v v1) u v1 := by
  obtain ⟨cl, d, h, di, tr, sd, sg, ge, im, ha, co, ke, rfl, rfl, R⟩ := I
  unfold wpX_dropOldest wpY_dropOldest
  dsimp only
  rcases cb_ch v1 with hp | ⟨c, hc, rfl⟩
  · exact cb_Xbc1 hp (br_f cb_one0 (cb_Yd1 hp ⟨rfl, cb_mk R⟩))
  obtain ⟨m, em, C⟩ := R c hc
  have h6 := C.1
  refine cb_Xbc0 hc (br_t rfl ⟨vp_in_nI hc (by decide), ?_⟩)
  rw [cb_cln (n := c) (by omega), em]
  cases m with
  | zero => exact br_t rfl (cb_Yd4 hc em (Or.inr ⟨0, Nat.le_refl 0, by decide, rfl⟩) ⟨rfl, cb_mk R⟩)
  | succ m => exact br_f (nI_ne0 (by omega) (by omega)) (cb_Xto (k := 0) R hc em h6 (by omega) (fun cl' di' ge' ha' co' R' => cb_Yd (k := 0) hc em h6 (by omega) ⟨rfl, cb_mk R'⟩))
theorem i_vc_drop {k : Nat} {u : SX} {v : SY} (I : i_Rel k u v) (hk : k + 4 ≤ 2048) (v1 : Int32) (v2 : Int32) : wpX_drop (fun r u' => wpY_drop (fun r' v' => r' = r ∧ i_Rel (k + 4) u' v') v v1 v2) u v1 v2 := by
  obtain ⟨cl, d, h, di, tr, sd, sg, ge, im, ha, co, ke, rfl, rfl, R⟩ := I
  unfold wpX_drop
  dsimp only
  rcases cb_ch v1 with hp | ⟨c, hc, rfl⟩
  · exact cb_Xbc1 hp (br_f cb_one0 (cb_Yd1 hp ⟨rfl, cb_mk R⟩))
  obtain ⟨m, em, C⟩ := R c hc
  have h6 := C.1
  rcases cb_no v2 m with hp | ⟨q, hq, rfl⟩
  · exact cb_Xbc0 hc (br_t rfl (cb_Xno1 hc em hp (br_f cb_one0 (cb_Yd4 hc em hp ⟨rfl, cb_mk R⟩))))
  · obtain ⟨m, rfl⟩ : ∃ n, m = n + 1 := ⟨m - 1, by omega⟩
    exact cb_Xbc0 hc (br_t rfl (cb_Xno0 hc em h6 hq (br_t rfl (cb_Xto R hc em h6 (by omega) (fun cl' di' ge' ha' co' R' => cb_Yd hc em h6 (by omega) ⟨rfl, cb_mk R'⟩)))))
theorem i_vc_restart {k : Nat} {u : SX} {v : SY} (I : i_Rel k u v) (hk : k + 4 ≤ 2048) : wpX_restart (fun u' => wpY_restart (fun v' => i_Rel (k + 4) u' v') v) u := by
  obtain ⟨cl, d, h, di, tr, sd, sg, ge, im, ha, co, ke, rfl, rfl, R⟩ := I
  exact cb_Xrest R (fun di' tr' sd' sg' R' => cb_mk (K := k + 4) R')
theorem i_vc_crash {k : Nat} {u : SX} {v : SY} (I : i_Rel k u v) (hk : k + 4 ≤ 2048) : wpX_crash (fun u' => wpY_crash (fun v' => i_Rel (k + 4) u' v') v) u := by
  obtain ⟨cl, d, h, di, tr, sd, sg, ge, im, ha, co, ke, rfl, rfl, R⟩ := I
  unfold wpX_crash wpY_crash
  dsimp only
  exact cb_Xstart R (fun di' tr' R' => cb_mk R')
theorem i_vc_read {k : Nat} {u : SX} {v : SY} (I : i_Rel k u v) (hk : k + 4 ≤ 2048) (v1 : Int32) : wpX_read (fun r => wpY_read (fun r' => r' = r ∧ i_Rel (k + 4) u v) v v1) u v1 := by
  obtain ⟨cl, d, h, di, tr, sd, sg, ge, im, ha, co, ke, rfl, rfl, R⟩ := I
  by_cases n1 : v1 < 0
  · exact br_t n1 (br_t n1 ⟨rfl, cb_mk R⟩)
  obtain ⟨j, hj, rfl⟩ := nI_of n1
  by_cases h16 : j < 16
  · exact br_f n1 (br_t (nI_lt (b := 16) h16 (by decide)) ⟨vp_in_nI h16 (by decide), br_f n1 (br_t (nI_le (b := 15) (by omega) (by decide)) ⟨vp_in_nI h16 (by decide), rfl, cb_mk R⟩)⟩)
  · exact br_f n1 (br_f (nI_nlt (b := 16) (by omega) hj) (br_f n1 (br_f (nI_ge (a := 15) (by omega) hj) ⟨rfl, cb_mk R⟩)))
theorem i_vc_readBackup {k : Nat} {u : SX} {v : SY} (I : i_Rel k u v) (hk : k + 4 ≤ 2048) (v1 : Int32) (v2 : Int32) (v3 : Int32) : wpX_readBackup (fun r => wpY_readBackup (fun r' => r' = r ∧ i_Rel (k + 4) u v) v v1 v2 v3) u v1 v2 v3 := by
  obtain ⟨cl, d, h, di, tr, sd, sg, ge, im, ha, co, ke, rfl, rfl, R⟩ := I
  unfold wpX_readBackup wpY_readBackup
  dsimp only
  rcases cb_ch v1 with hp | ⟨c, hc, rfl⟩
  · exact cb_Xbc1 hp (br_f cb_one0 (cb_Ybc1 hp (br_f cb_one0 ⟨rfl, cb_mk R⟩)))
  obtain ⟨m, em, C⟩ := R c hc
  have h6 := C.1
  rcases cb_no v2 m with hp | ⟨q, hq, rfl⟩
  · exact cb_Xbc0 hc (br_t rfl (cb_Xno1 hc em hp (br_f cb_one0 (cb_Ybc0 hc (br_t rfl (cb_Yno1 hc em hp (br_f cb_one0 ⟨rfl, cb_mk R⟩)))))))
  refine cb_Xbc0 hc (br_t rfl (cb_Xno0 hc em h6 hq (br_t rfl ?_)))
  by_cases n1 : v3 < 0
  · exact br_t n1 (cb_Ybc0 hc (br_t rfl (cb_Yno0 hc em h6 hq (br_t rfl (br_t n1 ⟨rfl, cb_mk R⟩)))))
  obtain ⟨j, hj, rfl⟩ := nI_of n1
  by_cases h16 : j < 16
  · refine br_f n1 (br_t (nI_lt (b := 16) h16 (by decide)) (cb_blk hc (by omega) h16 (cb_Ybc0 hc (br_t rfl (cb_Yno0 hc em h6 hq (br_t rfl (br_f n1 (br_t (nI_le (b := 15) (by omega) (by decide)) ?_))))))))
    rw [cb_ix6, cb_ix16, cb_cln (n := (c * 6 + q) * 16 + j) (by omega)]
    exact ⟨vp_in_nI (by omega) (by decide), (C.2.2.1 q hq j h16).symm, cb_mk R⟩
  · exact br_f n1 (br_f (nI_nlt (b := 16) (by omega) hj) (cb_Ybc0 hc (br_t rfl (cb_Yno0 hc em h6 hq (br_t rfl (br_f n1 (br_f (nI_ge (a := 15) (by omega) hj) ⟨rfl, cb_mk R⟩)))))))
theorem i_vc_backups {k : Nat} {u : SX} {v : SY} (I : i_Rel k u v) (hk : k + 4 ≤ 2048) (v1 : Int32) : wpX_backups (fun r => wpY_backups (fun r' => r' = r ∧ i_Rel (k + 4) u v) v v1) u v1 := by
  obtain ⟨cl, d, h, di, tr, sd, sg, ge, im, ha, co, ke, rfl, rfl, R⟩ := I
  unfold wpX_backups wpY_backups
  dsimp only
  rcases cb_ch v1 with hp | ⟨c, hc, rfl⟩
  · exact cb_Xbc1 hp (br_f cb_one0 (cb_Ybc1 hp (br_f cb_one0 ⟨rfl, cb_mk R⟩)))
  · exact cb_Xbc0 hc (br_t rfl ⟨vp_in_nI hc (by decide), cb_Ybc0 hc (br_t rfl ⟨vp_in_nI hc (by decide), rfl, cb_mk R⟩)⟩)
theorem i_vc_changed {k : Nat} {u : SX} {v : SY} (I : i_Rel k u v) (hk : k + 4 ≤ 2048) (v1 : Int32) : wpX_changed (fun r => wpY_changed (fun r' => r' = r ∧ i_Rel (k + 4) u v) v v1) u v1 := by
  obtain ⟨cl, d, h, di, tr, sd, sg, ge, im, ha, co, ke, rfl, rfl, R⟩ := I
  unfold wpX_changed wpY_changed
  dsimp only
  rcases cb_ch v1 with hp | ⟨c, hc, rfl⟩
  · exact cb_Xbc1 hp (br_f cb_one0 (cb_Ybc1 hp (br_f cb_one0 ⟨rfl, cb_mk R⟩)))
  obtain ⟨m, em, C⟩ := R c hc
  have h6 := C.1
  have hv : vp_in (nI c) 2 := vp_in_nI hc (by decide)
  refine cb_Xbc0 hc (br_t rfl ⟨hv, ?_⟩)
  rw [cb_cln (n := c) (by omega), em]
  cases m with
  | zero =>
    have w : ¬ (0 : Int32) ≤ nI 0 - 1 := by decide
    exact nm_e (br_f w (cb_Ybc0 hc (br_t rfl ⟨hv, br_t rfl ⟨rfl, cb_mk R⟩⟩)))
  | succ m =>
    rw [nI_pred]
    have Y : wpY_badChain (fun r_1 => (r_1 = 0 → vp_in (nI c) 2 ∧ ((nI (m + 1) = 0 → (-4 : Int32) = nI (cb_cnt d (fun b => ke ((c * 6 + m) * 16 + b)) 0 16) ∧ i_Rel (k + 4) (cl, d, h, di, tr, sd, sg, ge, im, ha, co) (d, h, im, ke)) ∧ (¬ nI (m + 1) = 0 → vp_in (nI c) 2 ∧ wpY_against (fun r_10 => r_10 = nI (cb_cnt d (fun b => ke ((c * 6 + m) * 16 + b)) 0 16) ∧ i_Rel (k + 4) (cl, d, h, di, tr, sd, sg, ge, im, ha, co) (d, h, im, ke)) (d, h, im, ke) (nI c) (nI m)))) ∧ (¬ r_1 = 0 → (-1 : Int32) = nI (cb_cnt d (fun b => ke ((c * 6 + m) * 16 + b)) 0 16) ∧ i_Rel (k + 4) (cl, d, h, di, tr, sd, sg, ge, im, ha, co) (d, h, im, ke))) (d, h, im, ke) (nI c) :=
      cb_Ybc0 hc (br_t rfl ⟨hv, br_f (nI_ne0 (by omega) (by omega)) ⟨hv, cb_Yag hc (by omega) (fun _ _ => rfl) ⟨rfl, cb_mk R⟩⟩⟩)
    refine nm_e (br_t (nI_pos' (by omega)) ⟨hv, br_c (fun z => ⟨17, cb_X52 hc (by omega) (C.2.2.1 m (by omega)) (fun b hb y => absurd (cb_all hb) (by rw [y]; exact Bool.noConfusion)) 16 0 0 rfl ?_⟩) (fun z => ⟨hv, nm_e ⟨17, cb_X52 hc (by omega) (C.2.2.1 m (by omega)) (fun b hb y => C.2.2.2.1 (by omega) z b hb y) 16 0 0 rfl ?_⟩⟩)⟩)
    · rw [Nat.zero_add]
      exact Y
    · rw [Nat.zero_add]
      exact Y
theorem i_vc_differ {k : Nat} {u : SX} {v : SY} (I : i_Rel k u v) (hk : k + 4 ≤ 2048) (v1 : Int32) (v2 : Int32) (v3 : Int32) : wpX_differ (fun r => wpY_differ (fun r' => r' = r ∧ i_Rel (k + 4) u v) v v1 v2 v3) u v1 v2 v3 := by
  obtain ⟨cl, d, h, di, tr, sd, sg, ge, im, ha, co, ke, rfl, rfl, R⟩ := I
  unfold wpX_differ wpY_differ
  dsimp only
  rcases cb_ch v1 with hp | ⟨c, hc, rfl⟩
  · exact cb_Xbc1 hp (br_f cb_one0 (cb_Ybc1 hp (br_f cb_one0 ⟨rfl, cb_mk R⟩)))
  obtain ⟨m, em, C⟩ := R c hc
  have h6 := C.1
  rcases cb_no v2 m with hp | ⟨p, hp, rfl⟩
  · exact cb_Xbc0 hc (br_t rfl (cb_Xno1 hc em hp (br_f cb_one0 (cb_Ybc0 hc (br_t rfl (cb_Yno1 hc em hp (br_f cb_one0 ⟨rfl, cb_mk R⟩)))))))
  rcases cb_no v3 m with hq | ⟨q, hq, rfl⟩
  · exact cb_Xbc0 hc (br_t rfl (cb_Xno0 hc em h6 hp (br_t rfl (cb_Xno1 hc em hq (br_f cb_one0 (cb_Ybc0 hc (br_t rfl (cb_Yno0 hc em h6 hp (br_t rfl (cb_Yno1 hc em hq (br_f cb_one0 ⟨rfl, cb_mk R⟩)))))))))))
  refine cb_Xbc0 hc (br_t rfl (cb_Xno0 hc em h6 hp (br_t rfl (cb_Xno0 hc em h6 hq (br_t rfl ?_)))))
  by_cases o : q ≤ p
  · have oI : nI q ≤ nI p := nI_le o (by omega)
    have e : cb_cnt (fun b => ke ((c * 6 + p) * 16 + b)) (fun b => ke ((c * 6 + q) * 16 + b)) 0 16 = cb_cnt (fun b => ke ((c * 6 + q) * 16 + b)) (fun b => ke ((c * 6 + p) * 16 + b)) 0 16 := cb_cnt_c 16 0 (fun i _ _ => ⟨fun z => z.symm, fun z => z.symm⟩)
    refine br_t oI ?_
    unfold wX_differ_40
    refine br_t oI (nm_r (nI_1 q) (cb_Xdif hc o (by omega) (C.2.2.1 q hq) (C.2.2.1 p hp) (cb_Ybc0 hc (br_t rfl (cb_Yno0 hc em h6 hp (br_t rfl (cb_Yno0 hc em h6 hq (br_t rfl ⟨17, cb_Y37 hc (by omega) (by omega) (fun _ _ => rfl) (fun _ _ => rfl) 16 0 0 rfl ?_⟩))))))))
    refine ⟨?_, cb_mk R⟩
    rw [Nat.zero_add, e]
  · have oI : ¬ nI q ≤ nI p := nI_ge (by omega) (by omega)
    refine br_f oI ?_
    unfold wX_differ_40
    refine br_f oI (nm_r (nI_1 p) (cb_Xdif hc (by omega) (by omega) (C.2.2.1 p hp) (C.2.2.1 q hq) (cb_Ybc0 hc (br_t rfl (cb_Yno0 hc em h6 hp (br_t rfl (cb_Yno0 hc em h6 hq (br_t rfl ⟨17, cb_Y37 hc (by omega) (by omega) (fun _ _ => rfl) (fun _ _ => rfl) 16 0 0 rfl ?_⟩))))))))
    refine ⟨?_, cb_mk R⟩
    rw [Nat.zero_add]
end
