section
/-! ===== lN n to 2^64 (rows of the kit's laws/BITS, a starting text) ===== -/
theorem wb_tb (n : Nat) : (lN n).toBitVec = BitVec.ofNat 64 n := rfl
theorem wb_inj {a b : Int64} (h : a.toBitVec = b.toBitVec) : a = b := Int64.toBitVec_inj.mp h
theorem wb_tn {n : Nat} (h : n < 2 ^ 64) : (lN n).toBitVec.toNat = n := by rw [wb_tb, BitVec.toNat_ofNat, Nat.mod_eq_of_lt h]
theorem wb_of (x : Int64) : ∃ n, n < 2 ^ 64 ∧ x = lN n := ⟨x.toBitVec.toNat, x.toBitVec.isLt, wb_inj (by rw [wb_tb]; simp)⟩
theorem wb_of32 (x : Int32) : ∃ n, n < 2 ^ 32 ∧ x = nI n := ⟨x.toBitVec.toNat, x.toBitVec.isLt, Int32.toBitVec_inj.mp (by show _ = BitVec.ofNat 32 _; simp)⟩
theorem wb_cu : ∀ k, k < 64 → ((nI k).toInt64.toUInt64 &&& Int64.toUInt64 63) = UInt64.ofNat k := by decide +kernel
theorem wb_lt2 {a b : Nat} (h : a < b) : 2 ^ a < 2 ^ b := Nat.pow_lt_pow_right (by decide) h
theorem wb_shr {n k : Nat} (hn : n < 2 ^ 64) (hk : k < 64) : ((lN n).toUInt64 >>> ((nI k).toInt64.toUInt64 &&& Int64.toUInt64 63)).toInt64 = lN (n / 2 ^ k) := by
  rw [wb_cu k hk]
  apply wb_inj
  apply BitVec.eq_of_toNat_eq
  show ((lN n).toUInt64 >>> UInt64.ofNat k).toNat = (BitVec.ofNat 64 _).toNat
  have h1 : (UInt64.ofNat k).toNat = k := by
    show (BitVec.ofNat 64 k).toNat = k
    rw [BitVec.toNat_ofNat, Nat.mod_eq_of_lt (by omega)]
  have h2 : (lN n).toUInt64.toNat = n := wb_tn hn
  rw [UInt64.toNat_shiftRight, h1, h2, Nat.mod_eq_of_lt hk, Nat.shiftRight_eq_div_pow, BitVec.toNat_ofNat, Nat.mod_eq_of_lt (Nat.lt_of_le_of_lt (Nat.div_le_self _ _) hn)]
theorem wb_and {a b : Nat} (ha : a < 2 ^ 64) (hb : b < 2 ^ 64) : lN a &&& lN b = lN (a &&& b) := by
  apply wb_inj
  rw [Int64.toBitVec_and, wb_tb, wb_tb, wb_tb]
  apply BitVec.eq_of_toNat_eq
  rw [BitVec.toNat_and, BitVec.toNat_ofNat, BitVec.toNat_ofNat, BitVec.toNat_ofNat, Nat.mod_eq_of_lt ha, Nat.mod_eq_of_lt hb, Nat.mod_eq_of_lt (Nat.and_lt_two_pow _ hb)]
theorem wb_mask {n k : Nat} (hn : n < 2 ^ 64) (hk : k < 64) : lN n &&& lN (2 ^ k - 1) = lN (n % 2 ^ k) := by
  rw [wb_and hn (by have := wb_lt2 hk; omega), Nat.and_two_pow_sub_one_eq_mod]
theorem wb_a1 {n : Nat} (hn : n < 2 ^ 64) : lN n &&& 1 = lN (n % 2) := wb_mask (k := 1) hn (by decide)
theorem wb_bit {n k : Nat} (hn : n < 2 ^ 64) (hk : k < 64) : ((lN n).toUInt64 >>> ((nI k).toInt64.toUInt64 &&& Int64.toUInt64 63)).toInt64 &&& 1 = lN (n / 2 ^ k % 2) := by
  rw [wb_shr hn hk, wb_a1 (Nat.lt_of_le_of_lt (Nat.div_le_self _ _) hn)]
/-! ===== plain facts about bits ===== -/
/-- a long that isn't 0 has a bit that the code sees -/
theorem cz_some {x : Int64} (h : ¬ x = 0) : ∃ b, b < 64 ∧ ((x.toUInt64 >>> ((nI b).toInt64.toUInt64 &&& Int64.toUInt64 63)).toInt64) &&& 1 = 1 := by
  obtain ⟨n, hn, rfl⟩ := wb_of x
  have h0 : n ≠ 0 := fun e => h (by rw [e]; rfl)
  obtain ⟨i, hi⟩ := Nat.exists_testBit_of_ne_zero h0
  have hi' : i < 64 := by
    rcases Nat.lt_or_ge i 64 with z | z
    · exact z
    · have : n < 2 ^ i := Nat.lt_of_lt_of_le hn (Nat.pow_le_pow_right (by decide) z)
      rw [Nat.testBit_lt_two_pow this] at hi
      exact absurd hi (by decide)
  refine ⟨i, hi', ?_⟩
  rw [wb_bit hn hi']
  have e : n / 2 ^ i % 2 = 1 := by
    have t := hi
    rw [Nat.testBit_eq_decide_div_mod_eq] at t
    exact of_decide_eq_true t
  rw [e]
  rfl
theorem cz_one63 : ∀ k, k < 64 → ¬ (1 : Int64) <<< (lN k) = 0 := by decide +kernel
theorem cz_one (x : Int64) : ¬ (1 : Int64) <<< (x &&& 63) = 0 := by
  obtain ⟨n, hn, rfl⟩ := wb_of x
  have e : lN n &&& 63 = lN (n % 2 ^ 6) := wb_mask (k := 6) hn (by decide)
  rw [e]
  exact cz_one63 _ (Nat.mod_lt _ (by decide))
/-- the lowest bit: the empty set stands among the refusals -/
def cz_b0 (x : Int32) : Prop := x.toBitVec.getLsbD 0 = true
theorem cz_b0_l {x : Int32} (y : Int32) (h : cz_b0 x) : cz_b0 (x ||| y) := by
  unfold cz_b0 at *
  rw [Int32.toBitVec_or, BitVec.getLsbD_or, h, Bool.true_or]
theorem cz_b0_r (x : Int32) {y : Int32} (h : cz_b0 y) : cz_b0 (x ||| y) := by
  unfold cz_b0 at *
  rw [Int32.toBitVec_or, BitVec.getLsbD_or, h, Bool.or_true]
theorem cz_b0_a {x y : Int32} (h : cz_b0 x) (h2 : cz_b0 y) : cz_b0 (x &&& y) := by
  unfold cz_b0 at *
  rw [Int32.toBitVec_and, BitVec.getLsbD_and, h, h2, Bool.true_and]
theorem cz_b0_ne {x : Int32} (h : cz_b0 x) : ¬ x = 0 := by
  intro e
  rw [e] at h
  exact absurd h (by unfold cz_b0; decide)
theorem cz_b0_255 : cz_b0 255 := by unfold cz_b0; decide
theorem cz_b0_1 : cz_b0 1 := by unfold cz_b0; decide
theorem cz_b0_t {x : Int32} (h : cz_b0 x) : x &&& 1 = 1 := by
  rw [pk_and x (m := 1) 1 (by decide)]
  unfold cz_b0 at h
  have t : x.toBitVec.toNat % 2 = 1 := by
    rw [BitVec.getLsbD, Nat.testBit_zero] at h
    exact of_decide_eq_true h
  rw [show x.toBitVec.toNat % 2 ^ 1 = 1 from t]
  rfl
theorem cz_b0_s {x : Int32} (h : cz_b0 x) : (x >>> (nI 0 &&& 31)) &&& 1 = 1 := by
  rw [nI_0, sb_shr0]
  exact cz_b0_t h
/-- a word's code is never -4 -/
theorem cz_code (c : Int32) {a : Nat} (ha : a < 3) : ¬ c * 4 + nI a + 1 = -4 := by
  obtain ⟨n, hn, rfl⟩ := wb_of32 c
  intro e
  rw [show (4 : Int32) = nI 4 from rfl, pk_mul, nI_add, nI_1, show (-nI 4 : Int32) = nI (2 ^ 32 - 4) from by decide] at e
  have e2 := congrArg (fun z : Int32 => z.toBitVec.toNat) e
  have e3 : (n * 4 + a + 1) % 2 ^ 32 = (2 ^ 32 - 4) % 2 ^ 32 := e2
  omega
theorem cz_i3 (p a : Nat) : nI p * 3 + nI a = nI (p * 3 + a) := by
  rw [show (3 : Int32) = nI 3 from rfl, pk_mul, nI_add]
theorem cz_c3 {p a : Nat} (h : p * 3 + a < 2 ^ 31) : (nI p * 3 + nI a).toNatClampNeg = p * 3 + a := by
  rw [cz_i3, nI_clamp h]
theorem cz_i8 (p a : Nat) : nI p * 8 + nI a = nI (p * 8 + a) := by
  rw [show (8 : Int32) = nI 8 from rfl, pk_mul, nI_add]
theorem cz_z8 : ∀ i, i < 8 → ¬ ((0 : Int32) >>> (nI i &&& 31)) &&& 1 = 1 := by decide +kernel
theorem cz_z3 : ∀ i, i < 3 → (nI 0 >>> (nI i &&& 31)) &&& 1 = 0 := by decide +kernel
/-! ===== what the methods compute ===== -/
def cz_grid (x1 x2 : Int32) : Nat → Int64
  | 0 => 0
  | i + 1 => if ((x1 >>> (nI i &&& 31)) &&& 1) = 1 then cz_grid x1 x2 i ||| (x2.toInt64 <<< ((nI i * 8).toInt64 &&& 63)) else cz_grid x1 x2 i
def cz_th (nx : Nat → Int32) (x : Int32) (a : Nat) : Nat → Int32
  | 0 => 0
  | q + 1 => if ((x >>> (nI q &&& 31)) &&& 1) = 1 then cz_th nx x a q ||| nx (q * 3 + a) else cz_th nx x a q
def cz_row (nx : Nat → Int32) (sh : Int32) (p : Nat) (row : Int32) (a : Nat) : Int64 :=
  if ((sh >>> (nI a &&& 31)) &&& 1) = 1 then cz_grid (nx (p * 3 + a)) (cz_th nx row a 8) 8
  else cz_grid (nx (p * 3 + a)) row 8 ||| ((cz_th nx row a 8).toInt64 <<< ((nI p * 8).toInt64 &&& 63))
def cz_cut (x : Int64) (p : Nat) : Int32 := (((x.toUInt64 >>> ((nI p * 8).toInt64.toUInt64 &&& Int64.toUInt64 63)).toInt64).toInt32) &&& 255
def cz_step (nx : Nat → Int32) (sh : Int32) (x : Int64) (a : Nat) : Nat → Int64
  | 0 => 0
  | p + 1 => if cz_cut x p = 0 then cz_step nx sh x a p else cz_step nx sh x a p ||| cz_row nx sh p (cz_cut x p) a
/-- the visited states: pairs and names -/
def cz_ls (a9 : Nat → Int64) (a10 : Nat → Int32) (N : Nat) : List (Int64 × Int32) := (List.range N).map (fun i => (a9 i, a10 i))
def cz_enter (s : List (Int64 × Int32)) (x : Int64 × Int32) (fr : Nat) : List (Int64 × Int32) :=
  if x ∈ s.drop fr then s else if s.length < 128 then s ++ [x] else s
def cz_exp (nx : Nat → Int32) (sh : Int32) (s : List (Int64 × Int32)) (m fr : Nat) : Nat → List (Int64 × Int32)
  | 0 => s
  | a + 1 =>
    if cz_step nx sh ((cz_exp nx sh s m fr a).getD m (0, 0)).1 a 8 = 0 then cz_exp nx sh s m fr a
    else cz_enter (cz_exp nx sh s m fr a) (cz_step nx sh ((cz_exp nx sh s m fr a).getD m (0, 0)).1 a 8, cz_th nx ((cz_exp nx sh s m fr a).getD m (0, 0)).2 a 8) fr
def cz_in (nx : Nat → Int32) (sh : Int32) (fr : Nat) (s : List (Int64 × Int32)) (lo : Nat) : Nat → List (Int64 × Int32)
  | 0 => s
  | j + 1 => cz_exp nx sh (cz_in nx sh fr s lo j) (lo + j) fr 3
def cz_wk (nx : Nat → Int32) (sh : Int32) (x : Int64 × Int32) (ev : Int32) : Nat → List (Int64 × Int32) × Nat
  | 0 => ([x], 0)
  | k + 1 => (cz_in nx sh (if ev = 0 then 0 else (cz_wk nx sh x ev k).1.length) (cz_wk nx sh x ev k).1 (cz_wk nx sh x ev k).2 ((cz_wk nx sh x ev k).1.length - (cz_wk nx sh x ev k).2), (cz_wk nx sh x ev k).1.length)
def cz_ok (nx : Nat → Int32) (l r sh k : Int32) : Bool :=
  (cz_wk nx sh ((1 : Int64) <<< (((l * 8) + r).toInt64 &&& 63), (1 : Int32) <<< (k &&& 31)) 0 4).1.all (fun p => decide (¬ p.2 = 0))
def cz_cnt (nx : Nat → Int32) (l r sh : Int32) : Nat → Nat
  | 0 => 0
  | k + 1 => if cz_ok nx l r sh (nI k) = true then cz_cnt nx l r sh k + 1 else cz_cnt nx l r sh k
def cz_off (nx : Nat → Int32) (sh : Int32) (x : Int64) : Nat → Int32
  | 0 => 0
  | a + 1 => if cz_step nx sh x a 8 = 0 then cz_off nx sh x a else cz_off nx sh x a ||| ((1 : Int32) <<< (nI a &&& 31))
def cz_log (ev : Nat → Int32) : Nat → Int32
  | 0 => 0
  | i + 1 => cz_log ev i * 4 + ev i + 1
/-! ===== lists ===== -/
theorem cz_ls_len (a9 : Nat → Int64) (a10 : Nat → Int32) (N : Nat) : (cz_ls a9 a10 N).length = N := by
  unfold cz_ls
  rw [List.length_map, List.length_range]
theorem cz_ls_get {a9 : Nat → Int64} {a10 : Nat → Int32} {N m : Nat} (h : m < N) : (cz_ls a9 a10 N).getD m (0, 0) = (a9 m, a10 m) := by
  unfold cz_ls
  rw [List.getD_eq_getElem?_getD, List.getElem?_map, List.getElem?_range h]
  rfl
theorem cz_ls_congr {a9 b9 : Nat → Int64} {a10 b10 : Nat → Int32} {N : Nat} (h : ∀ i, i < N → b9 i = a9 i ∧ b10 i = a10 i) : cz_ls b9 b10 N = cz_ls a9 a10 N := by
  unfold cz_ls
  apply List.map_congr_left
  intro i hi
  have t := h i (List.mem_range.mp hi)
  rw [t.1, t.2]
theorem cz_ls_app (a9 : Nat → Int64) (a10 : Nat → Int32) (N : Nat) (x : Int64) (y : Int32) : cz_ls (vp_updL a9 N x) (upd a10 N y) (N + 1) = cz_ls a9 a10 N ++ [(x, y)] := by
  have e : cz_ls (vp_updL a9 N x) (upd a10 N y) (N + 1) = cz_ls (vp_updL a9 N x) (upd a10 N y) N ++ [(vp_updL a9 N x N, upd a10 N y N)] := by
    unfold cz_ls
    rw [List.range_succ, List.map_append]
    rfl
  rw [e, pk_uLs, pk_us, cz_ls_congr (a9 := a9) (a10 := a10)]
  intro i hi
  exact ⟨pk_uLn (by omega), pk_un (by omega)⟩
theorem cz_ls_mem {a9 : Nat → Int64} {a10 : Nat → Int32} {N : Nat} {p : Int64 × Int32} : p ∈ cz_ls a9 a10 N ↔ ∃ i, i < N ∧ (a9 i, a10 i) = p := by
  unfold cz_ls
  rw [List.mem_map]
  constructor
  · rintro ⟨i, hi, e⟩
    exact ⟨i, List.mem_range.mp hi, e⟩
  · rintro ⟨i, hi, e⟩
    exact ⟨i, List.mem_range.mpr hi, e⟩
theorem cz_ls_drop {a9 : Nat → Int64} {a10 : Nat → Int32} {N fr : Nat} {p : Int64 × Int32} : p ∈ (cz_ls a9 a10 N).drop fr ↔ ∃ i, fr ≤ i ∧ i < N ∧ (a9 i, a10 i) = p := by
  unfold cz_ls
  rw [← List.map_drop, List.mem_map]
  constructor
  · rintro ⟨i, hi, e⟩
    rw [List.range_eq_range', List.drop_range'] at hi
    have t := List.mem_range'_1.mp hi
    exact ⟨i, by omega, by omega, e⟩
  · rintro ⟨i, h1, h2, e⟩
    refine ⟨i, ?_, e⟩
    rw [List.range_eq_range', List.drop_range']
    exact List.mem_range'_1.mpr ⟨by omega, by omega⟩
theorem cz_enter_y {s : List (Int64 × Int32)} {x : Int64 × Int32} {fr : Nat} (h : x ∈ s.drop fr) : cz_enter s x fr = s := by
  unfold cz_enter
  rw [if_pos h]
theorem cz_enter_n {s : List (Int64 × Int32)} {x : Int64 × Int32} {fr : Nat} (h : ¬ x ∈ s.drop fr) (hl : s.length < 128) : cz_enter s x fr = s ++ [x] := by
  unfold cz_enter
  rw [if_neg h, if_pos hl]
theorem cz_enter_f {s : List (Int64 × Int32)} {x : Int64 × Int32} {fr : Nat} (h : ¬ x ∈ s.drop fr) (hl : ¬ s.length < 128) : cz_enter s x fr = s := by
  unfold cz_enter
  rw [if_neg h, if_neg hl]
theorem cz_ok_iff {nx : Nat → Int32} {l r sh k : Int32} : cz_ok nx l r sh k = true ↔ ∀ p, p ∈ (cz_wk nx sh ((1 : Int64) <<< (((l * 8) + r).toInt64 &&& 63), (1 : Int32) <<< (k &&& 31)) 0 4).1 → ¬ p.2 = 0 := by
  unfold cz_ok
  rw [List.all_eq_true]
  constructor
  · intro h p hp
    exact of_decide_eq_true (h p hp)
  · intro h p hp
    exact decide_eq_true (h p hp)
theorem cz_cnt_le (nx : Nat → Int32) (l r sh : Int32) : ∀ k, cz_cnt nx l r sh k ≤ k
  | 0 => Nat.le_refl 0
  | k + 1 => by
    have t := cz_cnt_le nx l r sh k
    unfold cz_cnt
    split <;> omega
/-! ===== the offers, the log ===== -/
def cz_o (b : Bool) (x y : Int32) : Int32 := if b then x else x ||| y
theorem cz_o3 : ∀ b0 b1 b2 : Bool, ¬ cz_o b2 (cz_o b1 (cz_o b0 0 ((1 : Int32) <<< (nI 0 &&& 31))) ((1 : Int32) <<< (nI 1 &&& 31))) ((1 : Int32) <<< (nI 2 &&& 31)) < 0 ∧ ¬ 8 ≤ cz_o b2 (cz_o b1 (cz_o b0 0 ((1 : Int32) <<< (nI 0 &&& 31))) ((1 : Int32) <<< (nI 1 &&& 31))) ((1 : Int32) <<< (nI 2 &&& 31)) := by decide +kernel
theorem cz_o3b : ∀ b0 b1 b2 : Bool, (((cz_o b2 (cz_o b1 (cz_o b0 0 ((1 : Int32) <<< (nI 0 &&& 31))) ((1 : Int32) <<< (nI 1 &&& 31))) ((1 : Int32) <<< (nI 2 &&& 31)) >>> (nI 0 &&& 31)) &&& 1 = 1) ↔ b0 = false) ∧ (((cz_o b2 (cz_o b1 (cz_o b0 0 ((1 : Int32) <<< (nI 0 &&& 31))) ((1 : Int32) <<< (nI 1 &&& 31))) ((1 : Int32) <<< (nI 2 &&& 31)) >>> (nI 1 &&& 31)) &&& 1 = 1) ↔ b1 = false) ∧ (((cz_o b2 (cz_o b1 (cz_o b0 0 ((1 : Int32) <<< (nI 0 &&& 31))) ((1 : Int32) <<< (nI 1 &&& 31))) ((1 : Int32) <<< (nI 2 &&& 31)) >>> (nI 2 &&& 31)) &&& 1 = 1) ↔ b2 = false) := by decide +kernel
theorem cz_off_s (nx : Nat → Int32) (sh : Int32) (x : Int64) (a : Nat) : cz_off nx sh x (a + 1) = cz_o (decide (cz_step nx sh x a 8 = 0)) (cz_off nx sh x a) ((1 : Int32) <<< (nI a &&& 31)) := by
  rw [cz_off]
  unfold cz_o
  by_cases h : cz_step nx sh x a 8 = 0
  · rw [if_pos h, if_pos (decide_eq_true h)]
  · rw [if_neg h, if_neg (by rw [decide_eq_true_eq]; exact h)]
theorem cz_off_3 (nx : Nat → Int32) (sh : Int32) (x : Int64) : cz_off nx sh x 3 = cz_o (decide (cz_step nx sh x 2 8 = 0)) (cz_o (decide (cz_step nx sh x 1 8 = 0)) (cz_o (decide (cz_step nx sh x 0 8 = 0)) 0 ((1 : Int32) <<< (nI 0 &&& 31))) ((1 : Int32) <<< (nI 1 &&& 31))) ((1 : Int32) <<< (nI 2 &&& 31)) := by
  rw [cz_off_s, cz_off_s, cz_off_s]
  rfl
theorem cz_off_in (nx : Nat → Int32) (sh : Int32) (x : Int64) : ¬ cz_off nx sh x 3 < 0 ∧ ¬ 8 ≤ cz_off nx sh x 3 := by
  rw [cz_off_3]
  exact cz_o3 _ _ _
theorem cz_off_bit (nx : Nat → Int32) (sh : Int32) (x : Int64) {a : Nat} (ha : a < 3) : ((cz_off nx sh x 3 >>> (nI a &&& 31)) &&& 1 = 1) ↔ ¬ cz_step nx sh x a 8 = 0 := by
  rw [cz_off_3]
  have t := cz_o3b (decide (cz_step nx sh x 0 8 = 0)) (decide (cz_step nx sh x 1 8 = 0)) (decide (cz_step nx sh x 2 8 = 0))
  rcases (show a = 0 ∨ a = 1 ∨ a = 2 by omega) with e | e | e
  · subst e
    exact t.1.trans decide_eq_false_iff_not
  · subst e
    exact t.2.1.trans decide_eq_false_iff_not
  · subst e
    exact t.2.2.trans decide_eq_false_iff_not
theorem cz_log_congr {ev fv : Nat → Int32} : ∀ (i : Nat), (∀ j, j < i → fv j = ev j) → cz_log fv i = cz_log ev i
  | 0, _ => rfl
  | i + 1, h => by
    rw [cz_log, cz_log, cz_log_congr i (fun j hj => h j (by omega)), h i (by omega)]
theorem cz_log_in {ev : Nat → Int32} : ∀ (i : Nat), (∀ j, j < i → ∃ e : Nat, e < 3 ∧ ev j = nI e) → ∃ m, cz_log ev i = nI m ∧ m < 4 ^ i ∧ 4 ^ i ≤ 3 * m + 1
  | 0, _ => ⟨0, rfl, by decide, by decide⟩
  | i + 1, h => by
    obtain ⟨m, h1, h2, h3⟩ := cz_log_in i (fun j hj => h j (by omega))
    obtain ⟨e, he, h4⟩ := h i (by omega)
    refine ⟨m * 4 + e + 1, ?_, ?_, ?_⟩
    · rw [cz_log, h1, h4, show (4 : Int32) = nI 4 from rfl, pk_mul, nI_add, nI_1]
    · rw [Nat.pow_succ]
      omega
    · rw [Nat.pow_succ]
      omega
theorem cz_log_lo {ev : Nat → Int32} {g : Nat} (hg : g < 4) (h : ∀ j, j < g → ∃ e : Nat, e < 3 ∧ ev j = nI e) : ¬ 64 ≤ cz_log ev g := by
  obtain ⟨m, h1, h2, h3⟩ := cz_log_in g h
  have t : 4 ^ g ≤ 4 ^ 3 := Nat.pow_le_pow_right (by decide) (by omega)
  rw [h1]
  exact nI_ge (b := 64) (by omega) (by decide)
theorem cz_log_hi {ev : Nat → Int32} (h : ∀ j, j < 4 → ∃ e : Nat, e < 3 ∧ ev j = nI e) : 64 ≤ cz_log ev 4 := by
  obtain ⟨m, h1, h2, h3⟩ := cz_log_in 4 h
  rw [h1]
  exact nI_le (a := 64) (by omega) (by omega)
end
section
/-! ===== step, stepNames ===== -/
theorem cz_gridW {post : Int64 → Prop} {f0 : Int32} {f1 : Int32} {f2 : Int32} {f3 : Int32} {f4 : Int32} {f5 : Int32} {f6 : Int32} {a1 : Nat → Int32} {a2 : Nat → Int32} {a3 : Nat → Int32} {a4 : Nat → Int32} {a5 : Nat → Int32} {a6 : Nat → Int32} {a7 : Nat → Int64} {a8 : Nat → Int32} {a9 : Nat → Int64} {a10 : Nat → Int32} {a11 : Nat → Int32} {a12 : Nat → Int32} {p0 p1 : Int32} (H : post (cz_grid p0 p1 8)) : wpX_grid post (f0, f1, f2, f3, f4, f5, f6, a1, a2, a3, a4, a5, a6, a7, a8, a9, a10, a11, a12) p0 p1 :=
  pk_loop (fun n i s => wX_grid_5 post p0 p1 f0 f1 f2 f3 f4 f5 f6 a1 a2 a3 a4 a5 a6 a7 a8 a9 a10 a11 a12 n s (nI i)) (fun i s => s = cz_grid p0 p1 i) 8 0 0 (by omega) rfl
    (fun n s h => pk_le 8 8 (fun _ => by subst h; exact H) (fun z => absurd z (by omega)))
    (fun n i s hi h hw => pk_le 8 i (fun z => absurd z (by omega)) (fun _ => br_c
      (fun c => nm_e (nm_r (nI_1 i) (hw _ (by rw [cz_grid, if_pos c, h]))))
      (fun c => nm_r (nI_1 i) (hw _ (by rw [cz_grid, if_neg c, h])))))
theorem cz_rowW {post : Int64 → Prop} {f0 : Int32} {f1 : Int32} {f2 : Int32} {f3 : Int32} {f4 : Int32} {f5 : Int32} {f6 : Int32} {a1 : Nat → Int32} {a2 : Nat → Int32} {a3 : Nat → Int32} {a4 : Nat → Int32} {a5 : Nat → Int32} {a6 : Nat → Int32} {a7 : Nat → Int64} {a8 : Nat → Int32} {a9 : Nat → Int64} {a10 : Nat → Int32} {a11 : Nat → Int32} {a12 : Nat → Int32} {p a : Nat} {row : Int32} (hp : p < 8) (ha : a < 3) (H : post (cz_row a4 f3 p row a)) : wpX_stepRow post (f0, f1, f2, f3, f4, f5, f6, a1, a2, a3, a4, a5, a6, a7, a8, a9, a10, a11, a12) (nI p) row (nI a) := by
  refine ⟨pk_in (p * 3 + a) 24 (by omega) (cz_i3 p a), nm_r (congrArg a4 (cz_c3 (by omega))) ?_⟩
  refine pk_loop (fun n i s => wX_stepRow_18 post (nI p) row (nI a) (a4 (p * 3 + a)) f0 f1 f2 f3 f4 f5 f6 a1 a2 a3 a4 a5 a6 a7 a8 a9 a10 a11 a12 n s (nI i)) (fun i s => s = cz_th a4 row a i) 8 0 0 (by omega) rfl ?_ ?_
  · intro n s h
    subst h
    refine pk_le 8 8 (fun _ => br_c (fun c => cz_gridW ?_) (fun c => cz_gridW ?_)) (fun z => absurd z (by omega))
    · rw [cz_row, if_pos c] at H
      exact H
    · rw [cz_row, if_neg c] at H
      exact H
  · intro n i s hi h hw
    refine pk_le 8 i (fun z => absurd z (by omega)) (fun _ => br_c (fun c => ⟨pk_in (i * 3 + a) 24 (by omega) (cz_i3 i a), nm_r (congrArg (fun k => s ||| a4 k) (cz_c3 (by omega))) (nm_r (nI_1 i) (hw _ ?_))⟩) (fun c => nm_r (nI_1 i) (hw _ ?_)))
    · rw [cz_th, if_pos c, h]
    · rw [cz_th, if_neg c, h]
theorem cz_stepW {post : Int64 → Prop} {f0 : Int32} {f1 : Int32} {f2 : Int32} {f3 : Int32} {f4 : Int32} {f5 : Int32} {f6 : Int32} {a1 : Nat → Int32} {a2 : Nat → Int32} {a3 : Nat → Int32} {a4 : Nat → Int32} {a5 : Nat → Int32} {a6 : Nat → Int32} {a7 : Nat → Int64} {a8 : Nat → Int32} {a9 : Nat → Int64} {a10 : Nat → Int32} {a11 : Nat → Int32} {a12 : Nat → Int32} {x : Int64} {a : Nat} (ha : a < 3) (H : post (cz_step a4 f3 x a 8)) : wpX_step post (f0, f1, f2, f3, f4, f5, f6, a1, a2, a3, a4, a5, a6, a7, a8, a9, a10, a11, a12) x (nI a) := by
  refine pk_loop (fun n i s => wX_step_6 post x (nI a) f0 f1 f2 f3 f4 f5 f6 a1 a2 a3 a4 a5 a6 a7 a8 a9 a10 a11 a12 n s (nI i)) (fun i s => s = cz_step a4 f3 x a i) 8 0 0 (by omega) rfl ?_ ?_
  · intro n s h
    subst h
    exact pk_le 8 8 (fun _ => H) (fun z => absurd z (by omega))
  · intro n i s hi h hw
    refine pk_le 8 i (fun z => absurd z (by omega)) (fun _ => nm_r (show _ = cz_cut x i from rfl) (br_c (fun c => nm_r (nI_1 i) (hw _ ?_)) (fun c => cz_rowW hi ha (nm_e (nm_r (nI_1 i) (hw _ ?_))))))
    · rw [cz_step, if_pos c, h]
    · rw [cz_step, if_neg c, h]
theorem cz_namesW {post : Int32 → Prop} {f0 : Int32} {f1 : Int32} {f2 : Int32} {f3 : Int32} {f4 : Int32} {f5 : Int32} {f6 : Int32} {a1 : Nat → Int32} {a2 : Nat → Int32} {a3 : Nat → Int32} {a4 : Nat → Int32} {a5 : Nat → Int32} {a6 : Nat → Int32} {a7 : Nat → Int64} {a8 : Nat → Int32} {a9 : Nat → Int64} {a10 : Nat → Int32} {a11 : Nat → Int32} {a12 : Nat → Int32} {x : Int32} {a : Nat} (ha : a < 3) (H : post (cz_th a4 x a 8)) : wpX_stepNames post (f0, f1, f2, f3, f4, f5, f6, a1, a2, a3, a4, a5, a6, a7, a8, a9, a10, a11, a12) x (nI a) := by
  refine pk_loop (fun n i s => wX_stepNames_5 post x (nI a) f0 f1 f2 f3 f4 f5 f6 a1 a2 a3 a4 a5 a6 a7 a8 a9 a10 a11 a12 n s (nI i)) (fun i s => s = cz_th a4 x a i) 8 0 0 (by omega) rfl ?_ ?_
  · intro n s h
    subst h
    exact pk_le 8 8 (fun _ => H) (fun z => absurd z (by omega))
  · intro n i s hi h hw
    refine pk_le 8 i (fun z => absurd z (by omega)) (fun _ => br_c (fun c => ⟨pk_in (i * 3 + a) 24 (by omega) (cz_i3 i a), nm_r (congrArg (fun k => s ||| a4 k) (cz_c3 (by omega))) (nm_r (nI_1 i) (hw _ ?_))⟩) (fun c => nm_r (nI_1 i) (hw _ ?_)))
    · rw [cz_th, if_pos c, h]
    · rw [cz_th, if_neg c, h]
end
section
/-! ===== the walk: enter, expand, walk ===== -/
/-- what the visited states keep: room, pairs that aren't empty, codes that aren't -4 -/
def cz_K (N : Nat) (a9 : Nat → Int64) (a11 : Nat → Int32) : Prop := N ≤ 128 ∧ (∀ i, i < N → ¬ a9 i = 0) ∧ (∀ i, i < N → ¬ a11 i = -4)
theorem cz_K_app {N : Nat} {a9 : Nat → Int64} {a11 : Nat → Int32} {x : Int64} {w : Int32} (h : cz_K N a9 a11) (hN : N < 128) (hx : ¬ x = 0) (hw : ¬ w = -4) : cz_K (N + 1) (vp_updL a9 N x) (upd a11 N w) := by
  refine ⟨by omega, fun i hi => ?_, fun i hi => ?_⟩
  · by_cases e : i = N
    · rw [e, pk_uLs]
      exact hx
    · rw [pk_uLn e]
      exact h.2.1 i (by omega)
  · by_cases e : i = N
    · rw [e, pk_us]
      exact hw
    · rw [pk_un e]
      exact h.2.2 i (by omega)
theorem cz_enterW {post : St1 → Prop} {f0 : Int32} {f1 : Int32} {f2 : Int32} {f3 : Int32} {f4 : Int32} {f5 : Int32} {a1 : Nat → Int32} {a2 : Nat → Int32} {a3 : Nat → Int32} {a4 : Nat → Int32} {a5 : Nat → Int32} {a6 : Nat → Int32} {a7 : Nat → Int64} {a8 : Nat → Int32} {a9 : Nat → Int64} {a10 : Nat → Int32} {a11 : Nat → Int32} {a12 : Nat → Int32} {N fr : Nat} {x : Int64} {y w c : Int32} (hK : cz_K N a9 a11) (hf : fr ≤ N) (hx : ¬ x = 0) (hw : ¬ w = -4)
    (H : ∀ (N' : Nat) (b9 : Nat → Int64) (b10 b11 b12 : Nat → Int32), cz_K N' b9 b11 → N ≤ N' → cz_ls b9 b10 N' = cz_enter (cz_ls a9 a10 N) (x, y) fr → (0 < fr → b12 0 = a12 0) → post (f0, f1, f2, f3, f4, f5, nI N', a1, a2, a3, a4, a5, a6, a7, a8, b9, b10, b11, b12)) :
    wpX_enter post (f0, f1, f2, f3, f4, f5, nI N, a1, a2, a3, a4, a5, a6, a7, a8, a9, a10, a11, a12) x y w c (nI fr) := by
  have hN := hK.1
  refine pk_loop (σ := Unit) (fun n i _ => wX_enter_4 post x y w c f0 f1 f2 f3 f4 f5 (nI N) a1 a2 a3 a4 a5 a6 a7 a8 a9 a10 a11 a12 n (nI i)) (fun i _ => fr ≤ i ∧ ∀ j, fr ≤ j → j < i → ¬ (a9 j = x ∧ a10 j = y)) N fr () hf ⟨Nat.le_refl fr, fun j h1 h2 => absurd h2 (by omega)⟩ ?_ ?_
  · intro n _ h
    have hn : ¬ (x, y) ∈ (cz_ls a9 a10 N).drop fr := by
      rw [cz_ls_drop]
      rintro ⟨i, h1, h2, e⟩
      exact h.2 i h1 h2 ⟨congrArg Prod.fst e, congrArg Prod.snd e⟩
    refine pk_le N N (fun _ => pk_le 128 N (fun z => ?_) (fun z => ?_)) (fun z => absurd z (by omega))
    · exact H N a9 a10 a11 a12 hK (Nat.le_refl N) (by rw [cz_enter_f hn (by rw [cz_ls_len]; omega)]) (fun _ => rfl)
    · refine ⟨pk_in N 128 z, nm_r (congrArg (fun k => vp_updL a9 k x) (nI_clamp (show N < 2 ^ 31 by omega))) ⟨pk_in N 128 z, nm_r (congrArg (fun k => upd a10 k y) (nI_clamp (show N < 2 ^ 31 by omega))) ⟨pk_in N 128 z, nm_r (congrArg (fun k => upd a11 k w) (nI_clamp (show N < 2 ^ 31 by omega))) ⟨pk_in N 128 z, nm_r (congrArg (fun k => upd a12 k c) (nI_clamp (show N < 2 ^ 31 by omega))) (nm_r (nI_1 N) ?_)⟩⟩⟩⟩
      exact H (N + 1) _ _ _ _ (cz_K_app hK z hx hw) (by omega) (by rw [cz_ls_app, cz_enter_n hn (by rw [cz_ls_len]; omega)]) (fun _ => pk_un (by omega))
  · intro n i _ hi h hwk
    have hfi := h.1
    refine pk_le N i (fun z => absurd z (by omega)) (fun _ => ⟨pk_in i 128 (by omega), ?_⟩)
    rw [nI_clamp (show i < 2 ^ 31 by omega)]
    refine br_c (fun e1 => ⟨pk_in i 128 (by omega), br_c (fun e2 => ⟨pk_in i 128 (by omega), pk_in i 128 (by omega), nm_e ?_⟩) (fun e2 => nm_r (nI_1 i) (hwk () ⟨by omega, ?_⟩))⟩) (fun e1 => nm_r (nI_1 i) (hwk () ⟨by omega, ?_⟩))
    · refine H N a9 a10 a11 _ hK (Nat.le_refl N) ?_ (fun hp => pk_un (by omega))
      rw [cz_enter_y (cz_ls_drop.mpr ⟨i, hfi, hi, by rw [e1, e2]⟩)]
    · intro j h1 h2 h3
      rcases Nat.lt_or_ge j i with z | z
      · exact h.2 j h1 z h3
      · have : j = i := by omega
        subst this
        exact e2 h3.2
    · intro j h1 h2 h3
      rcases Nat.lt_or_ge j i with z | z
      · exact h.2 j h1 z h3
      · have : j = i := by omega
        subst this
        exact e1 h3.1
theorem cz_expandW {post : St1 → Prop} {f0 : Int32} {f1 : Int32} {f2 : Int32} {f3 : Int32} {f4 : Int32} {f5 : Int32} {a1 : Nat → Int32} {a2 : Nat → Int32} {a3 : Nat → Int32} {a4 : Nat → Int32} {a5 : Nat → Int32} {a6 : Nat → Int32} {a7 : Nat → Int64} {a8 : Nat → Int32} {a9 : Nat → Int64} {a10 : Nat → Int32} {a11 : Nat → Int32} {a12 : Nat → Int32} {N m fr : Nat} (hK : cz_K N a9 a11) (hm : m < N) (hf : fr ≤ N)
    (H : ∀ (N' : Nat) (b9 : Nat → Int64) (b10 b11 b12 : Nat → Int32), cz_K N' b9 b11 → N ≤ N' → cz_ls b9 b10 N' = cz_exp a4 f3 (cz_ls a9 a10 N) m fr 3 → (0 < fr → b12 0 = a12 0) → post (f0, f1, f2, f3, f4, f5, nI N', a1, a2, a3, a4, a5, a6, a7, a8, b9, b10, b11, b12)) :
    wpX_expand post (f0, f1, f2, f3, f4, f5, nI N, a1, a2, a3, a4, a5, a6, a7, a8, a9, a10, a11, a12) (nI m) (nI fr) := by
  refine pk_loop (σ := Nat × (Nat → Int64) × (Nat → Int32) × (Nat → Int32) × (Nat → Int32)) (fun n i s => wX_expand_2 post (nI m) (nI fr) n (nI i) f0 f1 f2 f3 f4 f5 (nI s.1) a1 a2 a3 a4 a5 a6 a7 a8 s.2.1 s.2.2.1 s.2.2.2.1 s.2.2.2.2)
    (fun i s => cz_K s.1 s.2.1 s.2.2.2.1 ∧ N ≤ s.1 ∧ cz_ls s.2.1 s.2.2.1 s.1 = cz_exp a4 f3 (cz_ls a9 a10 N) m fr i ∧ (0 < fr → s.2.2.2.2 0 = a12 0)) 3 0 (N, a9, a10, a11, a12) (by omega) ⟨hK, Nat.le_refl N, rfl, fun _ => rfl⟩ ?_ ?_
  · rintro n ⟨N', b9, b10, b11, b12⟩ ⟨h1, h2, h3, h4⟩
    exact pk_le 3 3 (fun _ => H N' b9 b10 b11 b12 h1 h2 h3 h4) (fun z => absurd z (by omega))
  · rintro n i ⟨N', b9, b10, b11, b12⟩ hi ⟨h1, h2, h3, h4⟩ hw
    dsimp only at h1 h2 h3 h4
    have hN := h1.1
    show wX_expand_2 post (nI m) (nI fr) (n + 1) (nI i) f0 f1 f2 f3 f4 f5 (nI N') a1 a2 a3 a4 a5 a6 a7 a8 b9 b10 b11 b12
    have hg : (cz_exp a4 f3 (cz_ls a9 a10 N) m fr i).getD m (0, 0) = (b9 m, b10 m) := by
      rw [← h3]
      exact cz_ls_get (by omega)
    refine pk_le 3 i (fun z => absurd z (by omega)) (fun _ => ⟨pk_in m 128 (by omega), ?_⟩)
    rw [nI_clamp (show m < 2 ^ 31 by omega)]
    refine cz_stepW hi (br_c (fun c => nm_r (nI_1 i) (hw (N', b9, b10, b11, b12) ⟨h1, h2, ?_, h4⟩)) (fun c => ⟨pk_in m 128 (by omega), cz_namesW hi ⟨pk_in m 128 (by omega), pk_in m 128 (by omega), ?_⟩⟩))
    · dsimp only
      rw [cz_exp, hg, if_pos c, h3]
    · refine cz_enterW h1 (by omega) c (cz_code _ hi) (fun N2 c9 c10 c11 c12 k1 k2 k3 k4 => nm_r (nI_1 i) (hw (N2, c9, c10, c11, c12) ⟨k1, by dsimp only; omega, ?_, fun hp => ?_⟩))
      · dsimp only
        rw [cz_exp, hg, if_neg c, k3, h3]
      · dsimp only
        rw [k4 hp, h4 hp]
theorem cz_w84 {post : St1 → Prop} {J : Int32 → Int32 → Int32 → Int32 → Int32 → Int32 → Int32 → Int32 → (Nat → Int32) → (Nat → Int32) → (Nat → Int32) → (Nat → Int32) → (Nat → Int32) → (Nat → Int32) → (Nat → Int64) → (Nat → Int32) → (Nat → Int64) → (Nat → Int32) → (Nat → Int32) → (Nat → Int32) → Prop} {f0 : Int32} {f1 : Int32} {f2 : Int32} {f3 : Int32} {f4 : Int32} {f5 : Int32} {a1 : Nat → Int32} {a2 : Nat → Int32} {a3 : Nat → Int32} {a4 : Nat → Int32} {a5 : Nat → Int32} {a6 : Nat → Int32} {a7 : Nat → Int64} {a8 : Nat → Int32} {a9 : Nat → Int64} {a10 : Nat → Int32} {a11 : Nat → Int32} {a12 : Nat → Int32} {N lo k : Nat} {ev : Int32} (hK : cz_K N a9 a11) (hl : lo ≤ N)
    (H : ∀ (N' : Nat) (b9 : Nat → Int64) (b10 b11 b12 : Nat → Int32), cz_K N' b9 b11 → N ≤ N' → cz_ls b9 b10 N' = cz_in a4 f3 (if ev = 0 then 0 else N) (cz_ls a9 a10 N) lo (N - lo) → (0 < N → ¬ ev = 0 → b12 0 = a12 0) → J (nI (k + 1)) f0 f1 f2 f3 f4 f5 (nI N') a1 a2 a3 a4 a5 a6 a7 a8 b9 b10 b11 b12) :
    ∃ n, wX_walk_84 post J ev (nI k) (nI N) n (nI lo) f0 f1 f2 f3 f4 f5 (nI N) a1 a2 a3 a4 a5 a6 a7 a8 a9 a10 a11 a12 := by
  have hN := hK.1
  refine pk_loop (σ := Nat × (Nat → Int64) × (Nat → Int32) × (Nat → Int32) × (Nat → Int32)) (fun n i s => wX_walk_84 post J ev (nI k) (nI N) n (nI i) f0 f1 f2 f3 f4 f5 (nI s.1) a1 a2 a3 a4 a5 a6 a7 a8 s.2.1 s.2.2.1 s.2.2.2.1 s.2.2.2.2)
    (fun i s => lo ≤ i ∧ cz_K s.1 s.2.1 s.2.2.2.1 ∧ N ≤ s.1 ∧ cz_ls s.2.1 s.2.2.1 s.1 = cz_in a4 f3 (if ev = 0 then 0 else N) (cz_ls a9 a10 N) lo (i - lo) ∧ (0 < N → ¬ ev = 0 → s.2.2.2.2 0 = a12 0)) N lo (N, a9, a10, a11, a12) hl ⟨Nat.le_refl lo, hK, Nat.le_refl N, by rw [Nat.sub_self]; rfl, fun _ _ => rfl⟩ ?_ ?_
  · rintro n ⟨N', b9, b10, b11, b12⟩ ⟨_, h1, h2, h3, h4⟩
    exact pk_le N N (fun _ => nm_r (nI_1 k) (H N' b9 b10 b11 b12 h1 h2 h3 h4)) (fun z => absurd z (by omega))
  · rintro n i ⟨N', b9, b10, b11, b12⟩ hi ⟨h0, h1, h2, h3, h4⟩ hw
    dsimp only at h1 h2 h3 h4
    show wX_walk_84 post J ev (nI k) (nI N) (n + 1) (nI i) f0 f1 f2 f3 f4 f5 (nI N') a1 a2 a3 a4 a5 a6 a7 a8 b9 b10 b11 b12
    have hs : i + 1 - lo = (i - lo) + 1 := by omega
    have hi' : lo + (i - lo) = i := by omega
    refine pk_le N i (fun z => absurd z (by omega)) (fun _ => br_c (fun e => ?_) (fun e => ?_))
    · refine cz_expandW (fr := 0) h1 (by omega) (by omega) (fun N2 c9 c10 c11 c12 k1 k2 k3 k4 => nm_r (nI_1 i) (hw (N2, c9, c10, c11, c12) ⟨by omega, k1, by dsimp only; omega, ?_, fun _ hp => absurd e hp⟩))
      dsimp only
      rw [if_pos e] at h3
      rw [hs, cz_in, k3, h3, if_pos e, hi']
    · refine cz_expandW (fr := N) h1 (by omega) (by omega) (fun N2 c9 c10 c11 c12 k1 k2 k3 k4 => nm_r (nI_1 i) (hw (N2, c9, c10, c11, c12) ⟨by omega, k1, by dsimp only; omega, ?_, fun hp he => ?_⟩))
      · dsimp only
        rw [if_neg e] at h3
        rw [hs, cz_in, k3, h3, if_neg e, hi']
      · dsimp only
        rw [k4 hp, h4 hp he]
theorem cz_walkW {post : St1 → Prop} {f0 : Int32} {f1 : Int32} {f2 : Int32} {f3 : Int32} {f4 : Int32} {f5 : Int32} {f6 : Int32} {a1 : Nat → Int32} {a2 : Nat → Int32} {a3 : Nat → Int32} {a4 : Nat → Int32} {a5 : Nat → Int32} {a6 : Nat → Int32} {a7 : Nat → Int64} {a8 : Nat → Int32} {a9 : Nat → Int64} {a10 : Nat → Int32} {a11 : Nat → Int32} {a12 : Nat → Int32} {x ev : Int32}
    (H : ∀ (N : Nat) (b8 : Nat → Int32) (b9 : Nat → Int64) (b10 b11 b12 : Nat → Int32), cz_K N b9 b11 → cz_ls b9 b10 N = (cz_wk a4 f3 ((1 : Int64) <<< (((f1 * 8) + f2).toInt64 &&& 63), x) ev 4).1 → b8 0 = nI 0 → b8 1 = nI 1 → (¬ ev = 0 → b12 0 = 1) → post (f0, f1, f2, f3, f4, f5, nI N, a1, a2, a3, a4, a5, a6, a7, b8, b9, b10, b11, b12)) :
    wpX_walk post (f0, f1, f2, f3, f4, f5, f6, a1, a2, a3, a4, a5, a6, a7, a8, a9, a10, a11, a12) x ev := by
  refine nm_e (nm_e (nm_e (nm_e (nm_e ?_))))
  refine pk_loop (σ := Nat × (Nat → Int32) × (Nat → Int64) × (Nat → Int32) × (Nat → Int32) × (Nat → Int32)) (fun n i s => wX_walk_55 post ev n (nI i) f0 f1 f2 f3 f4 f5 (nI s.1) a1 a2 a3 a4 a5 a6 a7 s.2.1 s.2.2.1 s.2.2.2.1 s.2.2.2.2.1 s.2.2.2.2.2)
    (fun k s => cz_K s.1 s.2.2.1 s.2.2.2.2.1 ∧ cz_ls s.2.2.1 s.2.2.2.1 s.1 = (cz_wk a4 f3 ((1 : Int64) <<< (((f1 * 8) + f2).toInt64 &&& 63), x) ev k).1 ∧ (cz_wk a4 f3 ((1 : Int64) <<< (((f1 * 8) + f2).toInt64 &&& 63), x) ev k).2 ≤ s.1 ∧ s.2.1 k = nI (cz_wk a4 f3 ((1 : Int64) <<< (((f1 * 8) + f2).toInt64 &&& 63), x) ev k).2 ∧ 0 < s.1 ∧ (k = 0 → s.1 = 1) ∧ s.2.1 0 = nI 0 ∧ (0 < k → s.2.1 1 = nI 1) ∧ (¬ ev = 0 → s.2.2.2.2.2 0 = 1))
    4 0 (1, upd a8 0 0, vp_updL a9 0 ((1 : Int64) <<< (((f1 * 8) + f2).toInt64 &&& 63)), upd a10 0 x, upd a11 0 0, upd a12 0 1) (by omega) ⟨⟨show 1 ≤ 128 by decide, fun i hi => ?_, fun i hi => ?_⟩, ?_, Nat.zero_le _, show upd a8 0 0 0 = nI 0 from pk_us, show 0 < 1 by decide, fun _ => rfl, show upd a8 0 0 0 = nI 0 from pk_us, fun h => absurd h (by omega), fun _ => show upd a12 0 1 0 = 1 from pk_us⟩ ?_ ?_
  · dsimp only at hi
    have e : i = 0 := by omega
    subst e
    dsimp only
    rw [pk_uLs]
    exact cz_one _
  · dsimp only at hi
    have e : i = 0 := by omega
    subst e
    dsimp only
    rw [pk_us]
    decide
  · exact cz_ls_app a9 a10 0 _ x
  · rintro n ⟨N, b8, b9, b10, b11, b12⟩ ⟨h1, h2, h3, h4, h5, h6, h7, h8, h9⟩
    exact pk_le 4 4 (fun _ => nm_e (H N _ b9 b10 b11 b12 h1 h2 ((pk_un (by decide)).trans h7) ((pk_un (by decide)).trans (h8 (by decide))) h9)) (fun z => absurd z (by omega))
  · rintro n k ⟨N, b8, b9, b10, b11, b12⟩ hk ⟨h1, h2, h3, h4, h5, h6, h7, h8, h9⟩ hw
    dsimp only at h1 h2 h3 h4 h5 h6 h7 h8 h9
    have hN := h1.1
    show wX_walk_55 post ev (n + 1) (nI k) f0 f1 f2 f3 f4 f5 (nI N) a1 a2 a3 a4 a5 a6 a7 b8 b9 b10 b11 b12
    refine pk_le 4 k (fun z => absurd z (by omega)) (fun _ => ⟨pk_in (k + 1) 7 (by omega) (nI_1 k), nm_r (show upd b8 (nI k + 1).toNatClampNeg (nI N) = upd b8 (k + 1) (nI N) by rw [nI_1, nI_clamp (by omega)]) ⟨pk_in k 7 (by omega), nm_r (show upd b8 (k + 1) (nI N) (nI k).toNatClampNeg = nI (cz_wk a4 f3 ((1 : Int64) <<< (((f1 * 8) + f2).toInt64 &&& 63), x) ev k).2 by rw [nI_clamp (by omega), pk_un (by omega), h4]) ?_⟩⟩)
    refine cz_w84 h1 h3 (fun N2 c9 c10 c11 c12 k1 k2 k3 k4 => hw (N2, upd b8 (k + 1) (nI N), c9, c10, c11, c12) ⟨k1, ?_, ?_, ?_, ?_, fun z => absurd z (by omega), ?_, fun _ => ?_, fun he => ?_⟩)
    · dsimp only
      rw [k3, h2, cz_wk, ← h2, cz_ls_len]
    · dsimp only
      rw [cz_wk, ← h2, cz_ls_len]
      exact k2
    · dsimp only
      rw [cz_wk, ← h2, cz_ls_len, pk_us]
    · dsimp only
      omega
    · dsimp only
      rw [pk_un (by omega)]
      exact h7
    · dsimp only
      by_cases e : k = 0
      · subst e
        rw [h6 rfl]
        exact pk_us
      · rw [pk_un (by omega)]
        exact h8 (by omega)
    · dsimp only
      rw [k4 h5 he, h9 he]
end
section
/-! ===== refusals ===== -/
theorem cz_j26 {post : Int32 → Prop} {J : Int32 → Int32 → Prop} {f0 : Int32} {f1 : Int32} {f2 : Int32} {f3 : Int32} {f4 : Int32} {f5 : Int32} {f6 : Int32} {a1 : Nat → Int32} {a2 : Nat → Int32} {a3 : Nat → Int32} {a4 : Nat → Int32} {a5 : Nat → Int32} {a6 : Nat → Int32} {a7 : Nat → Int64} {a8 : Nat → Int32} {a9 : Nat → Int64} {a10 : Nat → Int32} {a11 : Nat → Int32} {a12 : Nat → Int32} {x1 x2 x3 x4 : Int32} {y : Nat} (h1 : cz_b0 x1) (h2 : cz_b0 x2) (h4 : 0 < y → cz_b0 x4) (H : ∀ r, cz_b0 r → J r (nI (y + 1))) : ∃ n, wX_joint_26 post J x1 x2 x3 (nI y) f0 f1 f2 f3 f4 f5 f6 a1 a2 a3 a4 a5 a6 a7 a8 a9 a10 a11 a12 n x4 0 := by
  refine pk_loop (fun n z s => wX_joint_26 post J x1 x2 x3 (nI y) f0 f1 f2 f3 f4 f5 f6 a1 a2 a3 a4 a5 a6 a7 a8 a9 a10 a11 a12 n s (nI z)) (fun z s => (0 < y ∨ 0 < z) → cz_b0 s) 8 0 x4 (by omega) (fun h => h4 (by omega)) ?_ ?_
  · intro n s h
    exact pk_le 8 8 (fun _ => nm_r (nI_1 y) (H s (h (Or.inr (by omega))))) (fun z => absurd z (by omega))
  · intro n z s hz h hw
    by_cases e : 0 < y ∨ 0 < z
    · have hs := h e
      have o : wX_joint_58 post J (wX_joint_26 post J x1 x2 x3 (nI y) f0 f1 f2 f3 f4 f5 f6 a1 a2 a3 a4 a5 a6 a7 a8 a9 a10 a11 a12 n) x1 x2 x3 s (nI y) (nI z) 0 f0 f1 f2 f3 f4 f5 f6 a1 a2 a3 a4 a5 a6 a7 a8 a9 a10 a11 a12 := br_t rfl (nm_r (nI_1 z) (hw s (fun _ => hs)))
      have t : wX_joint_58 post J (wX_joint_26 post J x1 x2 x3 (nI y) f0 f1 f2 f3 f4 f5 f6 a1 a2 a3 a4 a5 a6 a7 a8 a9 a10 a11 a12 n) x1 x2 x3 s (nI y) (nI z) 1 f0 f1 f2 f3 f4 f5 f6 a1 a2 a3 a4 a5 a6 a7 a8 a9 a10 a11 a12 := br_f (by decide) (br_c (fun _ => nm_e (nm_r (nI_1 z) (hw _ (fun _ => cz_b0_l _ hs)))) (fun _ => nm_r (nI_1 z) (hw s (fun _ => hs))))
      exact pk_le 8 z (fun z => absurd z (by omega)) (fun _ => br_c (fun _ => br_c (fun _ => t) (fun _ => o)) (fun _ => o))
    · have ey : y = 0 := by omega
      have ez : z = 0 := by omega
      subst ey ez
      have t : wX_joint_58 post J (wX_joint_26 post J x1 x2 x3 (nI 0) f0 f1 f2 f3 f4 f5 f6 a1 a2 a3 a4 a5 a6 a7 a8 a9 a10 a11 a12 n) x1 x2 x3 s (nI 0) (nI 0) 1 f0 f1 f2 f3 f4 f5 f6 a1 a2 a3 a4 a5 a6 a7 a8 a9 a10 a11 a12 := br_f (by decide) (br_t rfl (nm_e (nm_r (nI_1 0) (hw _ (fun _ => cz_b0_r s (by unfold cz_b0; decide))))))
      exact pk_le 8 0 (fun z => absurd z (by omega)) (fun _ => br_t (cz_b0_s h1) (br_t (cz_b0_s h2) t))
theorem cz_jointW {post : Int32 → Prop} {f0 : Int32} {f1 : Int32} {f2 : Int32} {f3 : Int32} {f4 : Int32} {f5 : Int32} {f6 : Int32} {a1 : Nat → Int32} {a2 : Nat → Int32} {a3 : Nat → Int32} {a4 : Nat → Int32} {a5 : Nat → Int32} {a6 : Nat → Int32} {a7 : Nat → Int64} {a8 : Nat → Int32} {a9 : Nat → Int64} {a10 : Nat → Int32} {a11 : Nat → Int32} {a12 : Nat → Int32} {x1 x2 : Int32} (h1 : cz_b0 x1) (h2 : cz_b0 x2) (H : ∀ r, cz_b0 r → post r) : wpX_joint post (f0, f1, f2, f3, f4, f5, f6, a1, a2, a3, a4, a5, a6, a7, a8, a9, a10, a11, a12) x1 x2 := by
  refine nm_e ?_
  refine pk_loop (fun n y s => wX_joint_16 post x1 x2 (7 &&& (f3 ^^^ (-1))) f0 f1 f2 f3 f4 f5 f6 a1 a2 a3 a4 a5 a6 a7 a8 a9 a10 a11 a12 n s (nI y)) (fun y s => 0 < y → cz_b0 s) 8 0 0 (by omega) (fun h => absurd h (by omega)) ?_ ?_
  · intro n s h
    exact pk_le 8 8 (fun _ => H s (h (by omega))) (fun z => absurd z (by omega))
  · intro n y s hy h hw
    exact pk_le 8 y (fun z => absurd z (by omega)) (fun _ => cz_j26 h1 h2 h (fun r hr => hw r (fun _ => hr)))
/-- the pairs' refusals, once they are made -/
def cz_Q (f4 : Int32) (a5 : Nat → Int32) : Prop := ¬ f4 = 0 → ∀ i, i < 64 → cz_b0 (a5 i)
def cz_R (a3 : Nat → Int32) : Prop := ∀ i, i < 8 → cz_b0 (a3 i)
theorem cz_p18 {post : St1 → Prop} {J : Int32 → (Nat → Int32) → (Nat → Int32) → (Nat → Int32) → (Nat → Int32) → (Nat → Int32) → (Nat → Int32) → (Nat → Int64) → (Nat → Int32) → (Nat → Int64) → (Nat → Int32) → (Nat → Int32) → (Nat → Int32) → Prop} {f0 : Int32} {f1 : Int32} {f2 : Int32} {f3 : Int32} {f4 : Int32} {f5 : Int32} {f6 : Int32} {a1 : Nat → Int32} {a2 : Nat → Int32} {a3 : Nat → Int32} {a4 : Nat → Int32} {a5 : Nat → Int32} {a6 : Nat → Int32} {a7 : Nat → Int64} {a8 : Nat → Int32} {a9 : Nat → Int64} {a10 : Nat → Int32} {a11 : Nat → Int32} {a12 : Nat → Int32} {p : Nat} (hp : p < 8) (hR : cz_R a3) (h5 : ∀ i, i < p * 8 → cz_b0 (a5 i))
    (H : ∀ b5 : Nat → Int32, (∀ i, i < (p + 1) * 8 → cz_b0 (b5 i)) → J (nI (p + 1)) a1 a2 a3 a4 b5 a6 a7 a8 a9 a10 a11 a12) : ∃ n, wX_pairUp_18 post J (nI p) f0 f1 f2 f3 f4 f5 f6 n 0 a1 a2 a3 a4 a5 a6 a7 a8 a9 a10 a11 a12 := by
  refine pk_loop (fun n q s => wX_pairUp_18 post J (nI p) f0 f1 f2 f3 f4 f5 f6 n (nI q) a1 a2 a3 a4 s a6 a7 a8 a9 a10 a11 a12) (fun q s => ∀ i, i < p * 8 + q → cz_b0 (s i)) 8 0 a5 (by omega) h5 ?_ ?_
  · intro n s h
    exact pk_le 8 8 (fun _ => nm_r (nI_1 p) (H s (fun i hi => h i (by omega)))) (fun z => absurd z (by omega))
  · intro n q s hq h hw
    refine pk_le 8 q (fun z => absurd z (by omega)) (fun _ => ⟨pk_in p 8 hp, pk_in q 8 hq, ?_⟩)
    rw [nI_clamp (show p < 2 ^ 31 by omega), nI_clamp (show q < 2 ^ 31 by omega)]
    refine cz_jointW (hR p hp) (hR q hq) (fun r hr => ⟨pk_in (p * 8 + q) 64 (by omega) (cz_i8 p q), nm_r (show upd s (nI p * 8 + nI q).toNatClampNeg r = upd s (p * 8 + q) r by rw [cz_i8, nI_clamp (by omega)]) (nm_r (nI_1 q) (hw _ (fun i hi => ?_)))⟩)
    by_cases e : i = p * 8 + q
    · rw [e, pk_us]
      exact hr
    · rw [pk_un e]
      exact h i (by omega)
theorem cz_pairUpW {post : St1 → Prop} {f0 : Int32} {f1 : Int32} {f2 : Int32} {f3 : Int32} {f4 : Int32} {f5 : Int32} {f6 : Int32} {a1 : Nat → Int32} {a2 : Nat → Int32} {a3 : Nat → Int32} {a4 : Nat → Int32} {a5 : Nat → Int32} {a6 : Nat → Int32} {a7 : Nat → Int64} {a8 : Nat → Int32} {a9 : Nat → Int64} {a10 : Nat → Int32} {a11 : Nat → Int32} {a12 : Nat → Int32} (hR : cz_R a3) (hQ : cz_Q f4 a5) (H : ∀ (g4 : Int32) (b5 : Nat → Int32), (∀ i, i < 64 → cz_b0 (b5 i)) → post (f0, f1, f2, f3, g4, f5, f6, a1, a2, a3, a4, b5, a6, a7, a8, a9, a10, a11, a12)) : wpX_pairUp post (f0, f1, f2, f3, f4, f5, f6, a1, a2, a3, a4, a5, a6, a7, a8, a9, a10, a11, a12) := by
  refine br_c (fun _ => ?_) (fun e => H f4 a5 (hQ e))
  refine pk_loop (fun n p s => wX_pairUp_10 post f0 f1 f2 f3 f4 f5 f6 n (nI p) a1 a2 a3 a4 s a6 a7 a8 a9 a10 a11 a12) (fun p s => ∀ i, i < p * 8 → cz_b0 (s i)) 8 0 a5 (by omega) (fun i hi => absurd hi (by omega)) ?_ ?_
  · intro n s h
    exact pk_le 8 8 (fun _ => H 1 s h) (fun z => absurd z (by omega))
  · intro n p s hp h hw
    exact pk_le 8 p (fun z => absurd z (by omega)) (fun _ => cz_p18 hp hR h (fun b5 hb => hw b5 hb))
theorem cz_refusalsW {post : Int32 → St1 → Prop} {f0 : Int32} {f1 : Int32} {f2 : Int32} {f3 : Int32} {f4 : Int32} {f5 : Int32} {f6 : Int32} {a1 : Nat → Int32} {a2 : Nat → Int32} {a3 : Nat → Int32} {a4 : Nat → Int32} {a5 : Nat → Int32} {a6 : Nat → Int32} {a7 : Nat → Int64} {a8 : Nat → Int32} {a9 : Nat → Int64} {a10 : Nat → Int32} {a11 : Nat → Int32} {a12 : Nat → Int32} {x : Int64} (hR : cz_R a3) (hQ : cz_Q f4 a5) (H : ∀ (r g4 : Int32) (b5 : Nat → Int32), cz_Q g4 b5 → (¬ x = 0 → cz_b0 r) → post r (f0, f1, f2, f3, g4, f5, f6, a1, a2, a3, a4, b5, a6, a7, a8, a9, a10, a11, a12)) : wpX_refusals post (f0, f1, f2, f3, f4, f5, f6, a1, a2, a3, a4, a5, a6, a7, a8, a9, a10, a11, a12) x := by
  refine cz_pairUpW hR hQ (fun g4 b5 hb => ?_)
  refine pk_loop (fun n i s => wX_refusals_9 post x f0 f1 f2 f3 g4 f5 f6 a1 a2 a3 a4 b5 a6 a7 a8 a9 a10 a11 a12 n s (nI i)) (fun i s => (∃ b, b < i ∧ ((x.toUInt64 >>> ((nI b).toInt64.toUInt64 &&& Int64.toUInt64 63)).toInt64) &&& 1 = 1) → cz_b0 s) 64 0 0 (by omega) (fun ⟨b, hb, _⟩ => absurd hb (by omega)) ?_ ?_
  · intro n s h
    exact pk_le 64 64 (fun _ => H s g4 b5 (fun _ => hb) (fun hx => h (cz_some hx))) (fun z => absurd z (by omega))
  · intro n i s hi h hw
    refine pk_le 64 i (fun z => absurd z (by omega)) (fun _ => br_c (fun c => ⟨pk_in i 64 hi, nm_e (nm_r (nI_1 i) (hw _ (fun _ => ?_)))⟩) (fun c => nm_r (nI_1 i) (hw s ?_)))
    · rw [nI_clamp (by omega)]
      exact cz_b0_r s (hb i hi)
    · rintro ⟨b, h1, h2⟩
      by_cases e : b = i
      · rw [e] at h2
        exact absurd h2 c
      · exact h ⟨b, by omega, h2⟩
theorem cz_nameW {post : Int32 → Prop} {f0 : Int32} {f1 : Int32} {f2 : Int32} {f3 : Int32} {f4 : Int32} {f5 : Int32} {f6 : Int32} {a1 : Nat → Int32} {a2 : Nat → Int32} {a3 : Nat → Int32} {a4 : Nat → Int32} {a5 : Nat → Int32} {a6 : Nat → Int32} {a7 : Nat → Int64} {a8 : Nat → Int32} {a9 : Nat → Int64} {a10 : Nat → Int32} {a11 : Nat → Int32} {a12 : Nat → Int32} {x : Int32} (H : ∀ r, (x = 0 → r = 0) → post r) : wpX_nameRefusals post (f0, f1, f2, f3, f4, f5, f6, a1, a2, a3, a4, a5, a6, a7, a8, a9, a10, a11, a12) x := by
  refine pk_loop (fun n i s => wX_nameRefusals_4 post x f0 f1 f2 f3 f4 f5 f6 a1 a2 a3 a4 a5 a6 a7 a8 a9 a10 a11 a12 n s (nI i)) (fun i s => x = 0 → s = 0) 8 0 0 (by omega) (fun _ => rfl) ?_ ?_
  · intro n s h
    exact pk_le 8 8 (fun _ => H s h) (fun z => absurd z (by omega))
  · intro n i s hi h hw
    refine pk_le 8 i (fun z => absurd z (by omega)) (fun _ => br_c (fun c => ⟨pk_in i 8 hi, nm_e (nm_r (nI_1 i) (hw _ (fun e => ?_)))⟩) (fun c => nm_r (nI_1 i) (hw s h)))
    rw [e] at c
    exact absurd c (cz_z8 i hi)
theorem cz_excessW {post : Int32 → St1 → Prop} {f0 : Int32} {f1 : Int32} {f2 : Int32} {f3 : Int32} {f4 : Int32} {f5 : Int32} {f6 : Int32} {a1 : Nat → Int32} {a2 : Nat → Int32} {a3 : Nat → Int32} {a4 : Nat → Int32} {a5 : Nat → Int32} {a6 : Nat → Int32} {a7 : Nat → Int64} {a8 : Nat → Int32} {a9 : Nat → Int64} {a10 : Nat → Int32} {a11 : Nat → Int32} {a12 : Nat → Int32} {i : Nat} (hi : i < 128) (hR : cz_R a3) (hQ : cz_Q f4 a5) (h9 : ¬ a9 i = 0) (H : ∀ (r g4 : Int32) (b5 : Nat → Int32), cz_Q g4 b5 → (r = 0 → ¬ a10 i = 0) → post r (f0, f1, f2, f3, g4, f5, f6, a1, a2, a3, a4, b5, a6, a7, a8, a9, a10, a11, a12)) : wpX_excess post (f0, f1, f2, f3, f4, f5, f6, a1, a2, a3, a4, a5, a6, a7, a8, a9, a10, a11, a12) (nI i) := by
  refine ⟨pk_in i 128 hi, ?_⟩
  rw [nI_clamp (show i < 2 ^ 31 by omega)]
  refine cz_refusalsW hR hQ (fun r g4 b5 hQ' hr => ⟨pk_in i 128 hi, cz_nameW (fun r2 h2 => H _ g4 b5 hQ' (fun e0 e1 => ?_))⟩)
  rw [h2 e1] at e0
  have hb : cz_b0 (r &&& ((0 : Int32) ^^^ (-1))) := cz_b0_a (hr h9) (by unfold cz_b0; decide)
  exact cz_b0_ne hb e0
/-! ===== gapNode, gap, refined, traces ===== -/
theorem cz_g10 {post : Int32 → St1 → Prop} {f0 : Int32} {f1 : Int32} {f2 : Int32} {f3 : Int32} {f4 : Int32} {f5 : Int32} {a1 : Nat → Int32} {a2 : Nat → Int32} {a3 : Nat → Int32} {a4 : Nat → Int32} {a5 : Nat → Int32} {a6 : Nat → Int32} {a7 : Nat → Int64} {a8 : Nat → Int32} {a9 : Nat → Int64} {a10 : Nat → Int32} {a11 : Nat → Int32} {a12 : Nat → Int32} {N : Nat} {kd : Int32} (hK : cz_K N a9 a11) (hR : cz_R a3) (hQ : cz_Q f4 a5)
    (Hn : ∀ (g4 : Int32) (b5 : Nat → Int32), cz_Q g4 b5 → (∀ i, i < N → ¬ a10 i = 0) → post (-1) (f0, f1, f2, f3, g4, f5, nI N, a1, a2, a3, a4, b5, a6, a7, a8, a9, a10, a11, a12))
    (Hs : ∀ (i : Nat) (g4 : Int32) (b5 : Nat → Int32), cz_Q g4 b5 → i < N → (kd = 0 → a10 i = 0) → post (nI i) (f0, f1, f2, f3, g4, f5, nI N, a1, a2, a3, a4, b5, a6, a7, a8, a9, a10, a11, a12)) :
    ∃ n, wX_gapNode_10 post kd n 0 f0 f1 f2 f3 f4 f5 (nI N) a1 a2 a3 a4 a5 a6 a7 a8 a9 a10 a11 a12 := by
  have hN := hK.1
  refine pk_loop (σ := Int32 × (Nat → Int32)) (fun n i s => wX_gapNode_10 post kd n (nI i) f0 f1 f2 f3 s.1 f5 (nI N) a1 a2 a3 a4 s.2 a6 a7 a8 a9 a10 a11 a12) (fun i s => cz_Q s.1 s.2 ∧ ∀ j, j < i → ¬ a10 j = 0) N 0 (f4, a5) (by omega) ⟨hQ, fun j hj => absurd hj (by omega)⟩ ?_ ?_
  · rintro n ⟨g4, b5⟩ ⟨h1, h2⟩
    exact pk_le N N (fun _ => Hn g4 b5 h1 h2) (fun z => absurd z (by omega))
  · rintro n i ⟨g4, b5⟩ hi ⟨h1, h2⟩ hw
    dsimp only at h1
    refine pk_le N i (fun z => absurd z (by omega)) (fun _ => br_c (fun e => ⟨pk_in i 128 (by omega), br_c (fun c => Hs i g4 b5 h1 hi (fun _ => ?_)) (fun c => nm_r (nI_1 i) (hw (g4, b5) ⟨h1, ?_⟩))⟩) (fun e => cz_excessW (by omega) hR h1 (hK.2.1 i hi) (fun r c4 c5 hq hr => br_c (fun c => nm_r (nI_1 i) (hw (c4, c5) ⟨hq, ?_⟩)) (fun c => Hs i c4 c5 hq hi (fun z => absurd z e)))))
    · rw [nI_clamp (by omega)] at c
      exact c
    · rw [nI_clamp (by omega)] at c
      exact lt_s h2 c
    · exact lt_s h2 (hr c)
theorem cz_gapNodeW {post : Int32 → St1 → Prop} {f0 : Int32} {f1 : Int32} {f2 : Int32} {f3 : Int32} {f4 : Int32} {f5 : Int32} {f6 : Int32} {a1 : Nat → Int32} {a2 : Nat → Int32} {a3 : Nat → Int32} {a4 : Nat → Int32} {a5 : Nat → Int32} {a6 : Nat → Int32} {a7 : Nat → Int64} {a8 : Nat → Int32} {a9 : Nat → Int64} {a10 : Nat → Int32} {a11 : Nat → Int32} {a12 : Nat → Int32} {k kd : Int32} (hR : cz_R a3) (hQ : cz_Q f4 a5)
    (Hn : ∀ (g4 g6 : Int32) (b5 b8 : Nat → Int32) (b9 : Nat → Int64) (b10 b11 b12 : Nat → Int32), cz_Q g4 b5 → cz_ok a4 f1 f2 f3 k = true → post (-1) (f0, f1, f2, f3, g4, f5, g6, a1, a2, a3, a4, b5, a6, a7, b8, b9, b10, b11, b12))
    (Hs : ∀ (i : Nat) (g4 g6 : Int32) (b5 b8 : Nat → Int32) (b9 : Nat → Int64) (b10 b11 b12 : Nat → Int32), cz_Q g4 b5 → i < 128 → ¬ b11 i = -4 → (kd = 0 → ¬ cz_ok a4 f1 f2 f3 k = true) → post (nI i) (f0, f1, f2, f3, g4, f5, g6, a1, a2, a3, a4, b5, a6, a7, b8, b9, b10, b11, b12)) :
    wpX_gapNode post (f0, f1, f2, f3, f4, f5, f6, a1, a2, a3, a4, a5, a6, a7, a8, a9, a10, a11, a12) k kd := by
  refine cz_walkW (f6 := f6) (fun N b8 b9 b10 b11 b12 hK hl _ _ _ => cz_g10 hK hR hQ (fun g4 b5 hq h => Hn g4 _ b5 b8 b9 b10 b11 b12 hq ?_) (fun i g4 b5 hq hi h => Hs i g4 _ b5 b8 b9 b10 b11 b12 hq (by have := hK.1; omega) (hK.2.2 i hi) (fun e ho => ?_)))
  · rw [cz_ok_iff, ← hl]
    intro p hp
    obtain ⟨i, hi, e⟩ := cz_ls_mem.mp hp
    rw [← e]
    exact h i hi
  · rw [cz_ok_iff, ← hl] at ho
    exact ho (b9 i, b10 i) (cz_ls_mem.mpr ⟨i, hi, rfl⟩) (h e)
theorem cz_gapW {post : Int32 → St1 → Prop} {f0 : Int32} {f1 : Int32} {f2 : Int32} {f3 : Int32} {f4 : Int32} {f5 : Int32} {f6 : Int32} {a1 : Nat → Int32} {a2 : Nat → Int32} {a3 : Nat → Int32} {a4 : Nat → Int32} {a5 : Nat → Int32} {a6 : Nat → Int32} {a7 : Nat → Int64} {a8 : Nat → Int32} {a9 : Nat → Int64} {a10 : Nat → Int32} {a11 : Nat → Int32} {a12 : Nat → Int32} {k kd : Nat} (hk : k < 8) (hd : kd ≤ 1) (hR : cz_R a3) (hQ : cz_Q f4 a5)
    (H : ∀ (r g4 g6 : Int32) (b5 b8 : Nat → Int32) (b9 : Nat → Int64) (b10 b11 b12 : Nat → Int32), cz_Q g4 b5 → (r = -4 → cz_ok a4 f1 f2 f3 (nI k) = true) → (kd = 0 → cz_ok a4 f1 f2 f3 (nI k) = true → r = -4) → post r (f0, f1, f2, f3, g4, f5, g6, a1, a2, a3, a4, b5, a6, a7, b8, b9, b10, b11, b12)) :
    wpX_gap post (f0, f1, f2, f3, f4, f5, f6, a1, a2, a3, a4, a5, a6, a7, a8, a9, a10, a11, a12) (nI k) (nI kd) := by
  refine pk_lt k 0 (fun z => absurd z (by omega)) (fun _ => pk_lt 7 k (fun z => absurd z (by omega)) (fun _ => pk_lt kd 0 (fun z => absurd z (by omega)) (fun _ => pk_le kd 1 (fun _ => ?_) (fun z => absurd z (by omega)))))
  refine cz_gapNodeW hR hQ (fun g4 g6 b5 b8 b9 b10 b11 b12 hq ho => br_f (by decide) (H _ g4 g6 b5 b8 b9 b10 b11 b12 hq (fun _ => ho) (fun _ _ => rfl))) (fun i g4 g6 b5 b8 b9 b10 b11 b12 hq hi h4 ho => br_t (nI_pos' (by omega)) ⟨pk_in i 128 hi, H _ g4 g6 b5 b8 b9 b10 b11 b12 hq (fun e => ?_) (fun e h => ?_)⟩)
  · rw [nI_clamp (by omega)] at e
    exact absurd e h4
  · exact absurd h (ho (by rw [e]; rfl))
theorem cz_refinedW {post : Int32 → St1 → Prop} {f0 : Int32} {f1 : Int32} {f2 : Int32} {f3 : Int32} {f4 : Int32} {f5 : Int32} {f6 : Int32} {a1 : Nat → Int32} {a2 : Nat → Int32} {a3 : Nat → Int32} {a4 : Nat → Int32} {a5 : Nat → Int32} {a6 : Nat → Int32} {a7 : Nat → Int64} {a8 : Nat → Int32} {a9 : Nat → Int64} {a10 : Nat → Int32} {a11 : Nat → Int32} {a12 : Nat → Int32} {kd : Nat} (hd : kd ≤ 1) (hR : cz_R a3) (hQ : cz_Q f4 a5)
    (H : ∀ (c : Nat) (g4 g6 : Int32) (b5 b8 : Nat → Int32) (b9 : Nat → Int64) (b10 b11 b12 : Nat → Int32), cz_Q g4 b5 → c ≤ cz_cnt a4 f1 f2 f3 8 → (kd = 0 → c = cz_cnt a4 f1 f2 f3 8) → post (nI c) (f0, f1, f2, f3, g4, f5, g6, a1, a2, a3, a4, b5, a6, a7, b8, b9, b10, b11, b12)) :
    wpX_refined post (f0, f1, f2, f3, f4, f5, f6, a1, a2, a3, a4, a5, a6, a7, a8, a9, a10, a11, a12) (nI kd) := by
  refine pk_lt kd 0 (fun z => absurd z (by omega)) (fun _ => pk_le kd 1 (fun _ => ?_) (fun z => absurd z (by omega)))
  refine pk_loop (σ := Nat × Int32 × Int32 × (Nat → Int32) × (Nat → Int32) × (Nat → Int64) × (Nat → Int32) × (Nat → Int32) × (Nat → Int32)) (fun n i s => wX_refined_15 post (nI kd) n (nI s.1) (nI i) f0 f1 f2 f3 s.2.1 f5 s.2.2.1 a1 a2 a3 a4 s.2.2.2.1 a6 a7 s.2.2.2.2.1 s.2.2.2.2.2.1 s.2.2.2.2.2.2.1 s.2.2.2.2.2.2.2.1 s.2.2.2.2.2.2.2.2)
    (fun i s => cz_Q s.2.1 s.2.2.2.1 ∧ s.1 ≤ cz_cnt a4 f1 f2 f3 i ∧ (kd = 0 → s.1 = cz_cnt a4 f1 f2 f3 i)) 8 0 (0, f4, f6, a5, a8, a9, a10, a11, a12) (by omega) ⟨hQ, Nat.le_refl 0, fun _ => rfl⟩ ?_ ?_
  · rintro n ⟨c, g4, g6, b5, b8, b9, b10, b11, b12⟩ ⟨h1, h2, h3⟩
    exact pk_le 8 8 (fun _ => H c g4 g6 b5 b8 b9 b10 b11 b12 h1 h2 h3) (fun z => absurd z (by omega))
  · rintro n i ⟨c, g4, g6, b5, b8, b9, b10, b11, b12⟩ hi ⟨h1, h2, h3⟩ hw
    dsimp only at h1 h2 h3
    refine pk_le 8 i (fun z => absurd z (by omega)) (fun _ => cz_gapNodeW hR h1 (fun g4 g6 b5 b8 b9 b10 b11 b12 hq ho => br_f (by decide) (nm_r (nI_1 c) (nm_r (nI_1 i) (hw (c + 1, g4, g6, b5, b8, b9, b10, b11, b12) ⟨hq, ?_, ?_⟩)))) (fun j g4 g6 b5 b8 b9 b10 b11 b12 hq hj _ ho => br_t (nI_pos' (by omega)) (nm_r (nI_1 i) (hw (c, g4, g6, b5, b8, b9, b10, b11, b12) ⟨hq, ?_, ?_⟩))))
    · dsimp only
      rw [cz_cnt, if_pos ho]
      omega
    · dsimp only
      intro e
      rw [cz_cnt, if_pos ho, h3 e]
    · dsimp only
      rw [cz_cnt]
      split <;> omega
    · dsimp only
      intro e
      rw [cz_cnt, if_neg (ho (by rw [e]; rfl)), h3 e]
theorem cz_tracesW {post : Int32 → St1 → Prop} {f0 : Int32} {f1 : Int32} {f2 : Int32} {f3 : Int32} {f4 : Int32} {f5 : Int32} {f6 : Int32} {a1 : Nat → Int32} {a2 : Nat → Int32} {a3 : Nat → Int32} {a4 : Nat → Int32} {a5 : Nat → Int32} {a6 : Nat → Int32} {a7 : Nat → Int64} {a8 : Nat → Int32} {a9 : Nat → Int64} {a10 : Nat → Int32} {a11 : Nat → Int32} {a12 : Nat → Int32}
    (H : ∀ (g6 : Int32) (b8 : Nat → Int32) (b9 : Nat → Int64) (b10 b11 b12 : Nat → Int32), post 1 (f0, f1, f2, f3, f4, f5, g6, a1, a2, a3, a4, a5, a6, a7, b8, b9, b10, b11, b12)) :
    wpX_traces post (f0, f1, f2, f3, f4, f5, f6, a1, a2, a3, a4, a5, a6, a7, a8, a9, a10, a11, a12) 0 := by
  refine br_f (by decide) (br_t (by decide) (cz_walkW (fun N b8 b9 b10 b11 b12 _ _ h0 h1 h2 => ⟨pk_in 0 7 (by decide), nm_r (show b8 (0 : Int32).toNatClampNeg = nI 0 from h0) ⟨2, ?_⟩⟩)))
  refine ⟨pk_in 1 7 (by decide), br_f ?_ ⟨pk_in 0 128 (by decide), nm_r (show (0 : Int32) + b12 (nI 0).toNatClampNeg = 1 from ?_) (nm_r (nI_1 0) ⟨pk_in 1 7 (by decide), br_t ?_ (H _ b8 b9 b10 b11 b12)⟩)⟩⟩
  · show ¬ b8 1 ≤ nI 0
    rw [h1]
    decide
  · show (0 : Int32) + b12 0 = 1
    rw [h2 (by decide)]
    decide
  · show b8 1 ≤ nI 1
    rw [h1]
    decide
end
section
/-! ===== the log and the offers ===== -/
def cz_E (a6 : Nat → Int32) (g : Nat) : Prop := ∀ j, j < g → ∃ e : Nat, e < 3 ∧ a6 j = nI e
theorem cz_offersW {post : Int32 → Prop} {f0 : Int32} {f1 : Int32} {f2 : Int32} {f3 : Int32} {f4 : Int32} {f6 : Int32} {a1 : Nat → Int32} {a2 : Nat → Int32} {a3 : Nat → Int32} {a4 : Nat → Int32} {a5 : Nat → Int32} {a6 : Nat → Int32} {a7 : Nat → Int64} {a8 : Nat → Int32} {a9 : Nat → Int64} {a10 : Nat → Int32} {a11 : Nat → Int32} {a12 : Nat → Int32} {g : Nat} (hg : g ≤ 4) (H4 : g = 4 → post 0) (H : g < 4 → post (cz_off a4 f3 (a7 g) 3)) : wpX_offers post (f0, f1, f2, f3, f4, nI g, f6, a1, a2, a3, a4, a5, a6, a7, a8, a9, a10, a11, a12) := by
  refine pk_eq g 4 (fun e => H4 e) (fun e => ?_)
  refine pk_loop (fun n i s => wX_offers_14 post f0 f1 f2 f3 f4 (nI g) f6 a1 a2 a3 a4 a5 a6 a7 a8 a9 a10 a11 a12 n s (nI i)) (fun i s => s = cz_off a4 f3 (a7 g) i) 3 0 0 (by omega) rfl ?_ ?_
  · intro n s h
    subst h
    exact pk_le 3 3 (fun _ => H (by omega)) (fun z => absurd z (by omega))
  · intro n i s hi h hw
    refine pk_le 3 i (fun z => absurd z (by omega)) (fun _ => ⟨pk_in g 5 (by omega), ?_⟩)
    rw [nI_clamp (show g < 2 ^ 31 by omega)]
    refine cz_stepW hi (br_c (fun c => nm_r (nI_1 i) (hw s ?_)) (fun c => nm_e (nm_r (nI_1 i) (hw _ ?_))))
    · rw [cz_off, if_pos c, h]
    · rw [cz_off, if_neg c, h]
theorem cz_logW {post : Int32 → Prop} {f0 : Int32} {f1 : Int32} {f2 : Int32} {f3 : Int32} {f4 : Int32} {f6 : Int32} {a1 : Nat → Int32} {a2 : Nat → Int32} {a3 : Nat → Int32} {a4 : Nat → Int32} {a5 : Nat → Int32} {a6 : Nat → Int32} {a7 : Nat → Int64} {a8 : Nat → Int32} {a9 : Nat → Int64} {a10 : Nat → Int32} {a11 : Nat → Int32} {a12 : Nat → Int32} {g : Nat} (hg : g ≤ 4) (H : post (cz_log a6 g)) : wpX_log post (f0, f1, f2, f3, f4, nI g, f6, a1, a2, a3, a4, a5, a6, a7, a8, a9, a10, a11, a12) := by
  refine pk_loop (fun n i s => wX_log_4 post f0 f1 f2 f3 f4 (nI g) f6 a1 a2 a3 a4 a5 a6 a7 a8 a9 a10 a11 a12 n s (nI i)) (fun i s => s = cz_log a6 i) g 0 0 (by omega) rfl ?_ ?_
  · intro n s h
    subst h
    exact pk_le g g (fun _ => H) (fun z => absurd z (by omega))
  · intro n i s hi h hw
    refine pk_le g i (fun z => absurd z (by omega)) (fun _ => ⟨pk_in i 4 (by omega), nm_r (show s * 4 + a6 (nI i).toNatClampNeg + 1 = cz_log a6 (i + 1) by rw [nI_clamp (by omega), cz_log, h]) (nm_r (nI_1 i) (hw _ rfl))⟩)
theorem cz_feedW {post : Int32 → St1 → Prop} {f0 : Int32} {f1 : Int32} {f2 : Int32} {f3 : Int32} {f4 : Int32} {f6 : Int32} {a1 : Nat → Int32} {a2 : Nat → Int32} {a3 : Nat → Int32} {a4 : Nat → Int32} {a5 : Nat → Int32} {a6 : Nat → Int32} {a7 : Nat → Int64} {a8 : Nat → Int32} {a9 : Nat → Int64} {a10 : Nat → Int32} {a11 : Nat → Int32} {a12 : Nat → Int32} {g a : Nat} (hg : g ≤ 4) (ha : a < 3) (H4 : g = 4 → post (-2) (f0, f1, f2, f3, f4, nI g, f6, a1, a2, a3, a4, a5, a6, a7, a8, a9, a10, a11, a12)) (H0 : g < 4 → cz_step a4 f3 (a7 g) a 8 = 0 → post (-4) (f0, f1, f2, f3, f4, nI g, f6, a1, a2, a3, a4, a5, a6, a7, a8, a9, a10, a11, a12))
    (H1 : g < 4 → ¬ cz_step a4 f3 (a7 g) a 8 = 0 → post (nI (g + 1)) (f0, f1, f2, f3, f4, nI (g + 1), f6, a1, a2, a3, a4, a5, upd a6 g (nI a), vp_updL a7 (g + 1) (cz_step a4 f3 (a7 g) a 8), a8, a9, a10, a11, a12)) :
    wpX_feed post (f0, f1, f2, f3, f4, nI g, f6, a1, a2, a3, a4, a5, a6, a7, a8, a9, a10, a11, a12) (nI a) := by
  refine pk_lt a 0 (fun z => absurd z (by omega)) (fun _ => pk_le a 2 (fun _ => pk_eq g 4 (fun e => H4 e) (fun e => ⟨pk_in g 5 (by omega), ?_⟩)) (fun z => absurd z (by omega)))
  rw [nI_clamp (show g < 2 ^ 31 by omega)]
  refine cz_stepW ha (br_c (fun c => H0 (by omega) c) (fun c => ⟨pk_in g 4 (by omega), nm_e (nm_r (nI_1 g) ⟨pk_in (g + 1) 5 (by omega), nm_r (congrArg (fun k => vp_updL a7 k (cz_step a4 f3 (a7 g) a 8)) (nI_clamp (show g + 1 < 2 ^ 31 by omega))) (H1 (by omega) c)⟩)⟩))
theorem cz_undoW {post : Int32 → St1 → Prop} {f0 : Int32} {f1 : Int32} {f2 : Int32} {f3 : Int32} {f4 : Int32} {f6 : Int32} {a1 : Nat → Int32} {a2 : Nat → Int32} {a3 : Nat → Int32} {a4 : Nat → Int32} {a5 : Nat → Int32} {a6 : Nat → Int32} {a7 : Nat → Int64} {a8 : Nat → Int32} {a9 : Nat → Int64} {a10 : Nat → Int32} {a11 : Nat → Int32} {a12 : Nat → Int32} {g : Nat} (hg : g < 4) (H : post (a6 g) (f0, f1, f2, f3, f4, nI g, f6, a1, a2, a3, a4, a5, a6, a7, a8, a9, a10, a11, a12)) : wpX_undo post (f0, f1, f2, f3, f4, nI (g + 1), f6, a1, a2, a3, a4, a5, a6, a7, a8, a9, a10, a11, a12) := by
  refine br_f (nI_ne0 (by omega) (by omega)) (nm_r (nI_pred g) ⟨pk_in g 4 hg, ?_⟩)
  rw [nI_clamp (by omega)]
  exact H
theorem cz_agreeW {post : Int32 → St1 → Prop} {f0 : Int32} {f1 : Int32} {f2 : Int32} {f3 : Int32} {f4 : Int32} {f6 : Int32} {a1 : Nat → Int32} {a2 : Nat → Int32} {a3 : Nat → Int32} {a4 : Nat → Int32} {a5 : Nat → Int32} {a6 : Nat → Int32} {a7 : Nat → Int64} {a8 : Nat → Int32} {a9 : Nat → Int64} {a10 : Nat → Int32} {a11 : Nat → Int32} {a12 : Nat → Int32} {g : Nat} (hg : g ≤ 4) (hE : cz_E a6 g) (H : ∀ u, post 1 u) : wpL_offersAgree post (f0, f1, f2, f3, f4, nI g, f6, a1, a2, a3, a4, a5, a6, a7, a8, a9, a10, a11, a12) := by
  unfold wpL_offersAgree
  dsimp only
  by_cases hg4 : g = 4
  · subst hg4
    refine cz_offersW hg (fun _ => cz_logW hg ?_) (fun z => absurd z (by omega))
    refine pk_loop (σ := Unit) (fun n i _ => wL_offersAgree_12 post 0 (cz_log a6 4) n (nI i) f0 f1 f2 f3 f4 (nI 4) f6 a1 a2 a3 a4 a5 a6 a7 a8 a9 a10 a11 a12) (fun _ _ => True) 3 0 () (by omega) trivial ?_ ?_
    · intro n _ _
      exact pk_le 3 3 (fun _ => br_f (by decide) (br_f (by decide) (H _))) (fun z => absurd z (by omega))
    · intro n i _ hi _ hw
      exact pk_le 3 i (fun z => absurd z (by omega)) (fun _ => cz_feedW hg hi (fun _ => br_t (by decide) (br_t (cz_log_hi hE) (nm_r (nI_1 i) (hw () trivial)))) (fun z => absurd z (by omega)) (fun z => absurd z (by omega)))
  · have hg' : g < 4 := by omega
    refine cz_offersW hg (fun z => absurd z hg4) (fun _ => cz_logW hg ?_)
    refine pk_loop (σ := (Nat → Int32) × (Nat → Int64)) (fun n i s => wL_offersAgree_12 post (cz_off a4 f3 (a7 g) 3) (cz_log a6 g) n (nI i) f0 f1 f2 f3 f4 (nI g) f6 a1 a2 a3 a4 a5 s.1 s.2 a8 a9 a10 a11 a12) (fun _ s => s.2 g = a7 g ∧ ∀ j, j < g → s.1 j = a6 j) 3 0 (a6, a7) (by omega) ⟨rfl, fun _ _ => rfl⟩ ?_ ?_
    · rintro n ⟨b6, b7⟩ _
      exact pk_le 3 3 (fun _ => br_f (cz_off_in a4 f3 (a7 g)).1 (br_f (cz_off_in a4 f3 (a7 g)).2 (H _))) (fun z => absurd z (by omega))
    · rintro n i ⟨b6, b7⟩ hi ⟨h1, h2⟩ hw
      dsimp only at h1 h2
      show wL_offersAgree_12 post (cz_off a4 f3 (a7 g) 3) (cz_log a6 g) (n + 1) (nI i) f0 f1 f2 f3 f4 (nI g) f6 a1 a2 a3 a4 a5 b6 b7 a8 a9 a10 a11 a12
      have hb := cz_off_bit a4 f3 (a7 g) hi
      refine pk_le 3 i (fun z => absurd z (by omega)) (fun _ => cz_feedW hg hi (fun z => absurd z hg4) (fun _ e => ?_) (fun _ e => ?_))
      · rw [h1] at e
        exact br_t (by decide) (br_f (cz_log_lo hg' hE) (br_t (by decide) (br_f (fun z => hb.mp z e) (br_t rfl (nm_r (nI_1 i) (hw (b6, b7) ⟨h1, h2⟩))))))
      · have e' := e
        rw [h1] at e'
        have k1 : vp_updL b7 (g + 1) (cz_step a4 f3 (b7 g) i 8) g = a7 g := (pk_uLn (by omega)).trans h1
        have k2 : ∀ j, j < g → upd b6 g (nI i) j = a6 j := fun j hj => (pk_un (by omega)).trans (h2 j hj)
        refine br_f (nI_pos (by omega)) (cz_undoW hg' (br_t pk_us (cz_logW hg (br_t (cz_log_congr g k2) ?_))))
        exact br_f (cz_log_lo hg' hE) (br_f (nI_pos (by omega)) (br_t (hb.mpr e') (br_t rfl (nm_r (nI_1 i) (hw (_, _) ⟨k1, k2⟩)))))
end
section
/-! ===== the turns ===== -/
/-- what every turn keeps -/
def cz_I (u : St1) : Prop := match u with
  | (f0, f1, f2, f3, f4, f5, f6, a1, a2, a3, a4, a5, a6, a7, a8, a9, a10, a11, a12) => ∃ h g : Nat, h ≤ 6 ∧ g ≤ 4 ∧ f0 = nI h ∧ f5 = nI g ∧ f4 = 0 ∧ (∀ i, i < h → cz_b0 (a1 i)) ∧ cz_R a3 ∧ cz_E a6 g
theorem cz_Imk {f1 : Int32} {f2 : Int32} {f3 : Int32} {f6 : Int32} {a1 : Nat → Int32} {a2 : Nat → Int32} {a3 : Nat → Int32} {a4 : Nat → Int32} {a5 : Nat → Int32} {a6 : Nat → Int32} {a7 : Nat → Int64} {a8 : Nat → Int32} {a9 : Nat → Int64} {a10 : Nat → Int32} {a11 : Nat → Int32} {a12 : Nat → Int32} {h g : Nat} (hh : h ≤ 6) (hg : g ≤ 4) (h1 : ∀ i, i < h → cz_b0 (a1 i)) (hR : cz_R a3) (hE : cz_E a6 g) : cz_I (nI h, f1, f2, f3, 0, nI g, f6, a1, a2, a3, a4, a5, a6, a7, a8, a9, a10, a11, a12) := ⟨h, g, hh, hg, rfl, rfl, rfl, h1, hR, hE⟩
theorem cz_pushW {post : St1 → Prop} {f1 : Int32} {f2 : Int32} {f3 : Int32} {f4 : Int32} {f5 : Int32} {f6 : Int32} {a1 : Nat → Int32} {a2 : Nat → Int32} {a3 : Nat → Int32} {a4 : Nat → Int32} {a5 : Nat → Int32} {a6 : Nat → Int32} {a7 : Nat → Int64} {a8 : Nat → Int32} {a9 : Nat → Int64} {a10 : Nat → Int32} {a11 : Nat → Int32} {a12 : Nat → Int32} {h : Nat} {x : Int32} (hh : h < 6) (H : ∀ b2 : Nat → Int32, post (nI (h + 1), f1, f2, f3, f4, f5, f6, upd a1 h x, b2, a3, a4, a5, a6, a7, a8, a9, a10, a11, a12)) : wpX_push post (nI h, f1, f2, f3, f4, f5, f6, a1, a2, a3, a4, a5, a6, a7, a8, a9, a10, a11, a12) x := by
  refine ⟨pk_in h 6 hh, nm_r (congrArg (fun k => upd a1 k x) (nI_clamp (show h < 2 ^ 31 by omega))) ?_⟩
  refine pk_loop (fun n i s => wX_push_12 post (nI h) f1 f2 f3 f4 f5 f6 n (nI i) (upd a1 h x) s a3 a4 a5 a6 a7 a8 a9 a10 a11 a12) (fun _ _ => True) 3 0 a2 (by omega) trivial ?_ ?_
  · intro n s _
    exact pk_le 3 3 (fun _ => nm_r (nI_1 h) (H s)) (fun z => absurd z (by omega))
  · intro n i s hi _ hw
    exact pk_le 3 i (fun z => absurd z (by omega)) (fun _ => ⟨pk_in (h * 3 + i) 18 (by omega) (cz_i3 h i), nm_e (nm_r (nI_1 i) (hw _ trivial))⟩)
theorem cz_b0_push {a1 : Nat → Int32} {h : Nat} {x : Int32} (h1 : ∀ i, i < h → cz_b0 (a1 i)) (hx : cz_b0 x) : ∀ i, i < h + 1 → cz_b0 (upd a1 h x i) := by
  intro i hi
  by_cases e : i = h
  · rw [e, pk_us]
    exact hx
  · rw [pk_un e]
    exact h1 i (by omega)
theorem cz_stopW {post : Int32 → St1 → Prop} {u : St1} (hu : cz_I u) (H : ∀ r v, cz_I v → post r v) : wpX_stop post u := by
  obtain ⟨f0, f1, f2, f3, f4, f5, f6, a1, a2, a3, a4, a5, a6, a7, a8, a9, a10, a11, a12⟩ := u
  obtain ⟨h, g, hh, hg, rfl, rfl, rfl, h1, hR, hE⟩ := hu
  exact pk_eq h 6 (fun _ => H _ _ (cz_Imk hh hg h1 hR hE)) (fun e => cz_pushW (by omega) (fun b2 => H _ _ (cz_Imk (by omega) hg (cz_b0_push h1 cz_b0_255) hR hE)))
theorem cz_preW {post : Int32 → St1 → Prop} {u : St1} {a k : Nat} (ha : a < 4) (hk : k < 8) (hu : cz_I u) (H : ∀ r v, cz_I v → post r v) : wpX_pre post u (nI a) (nI k) := by
  obtain ⟨f0, f1, f2, f3, f4, f5, f6, a1, a2, a3, a4, a5, a6, a7, a8, a9, a10, a11, a12⟩ := u
  obtain ⟨h, g, hh, hg, rfl, rfl, rfl, h1, hR, hE⟩ := hu
  have I0 : cz_I (nI h, f1, f2, f3, 0, nI g, f6, a1, a2, a3, a4, a5, a6, a7, a8, a9, a10, a11, a12) := cz_Imk hh hg h1 hR hE
  refine pk_lt a 0 (fun z => absurd z (by omega)) (fun _ => pk_lt 2 a (fun _ => H _ _ I0) (fun ha2 => pk_lt k 0 (fun z => absurd z (by omega)) (fun _ => pk_le k 7 (fun _ => pk_eq h 6 (fun _ => H _ _ I0) (fun e => ?_)) (fun z => absurd z (by omega)))))
  refine pk_loop (fun n i s => wX_pre_38 post (nI a) (nI k) (nI h) f1 f2 f3 0 (nI g) f6 a1 a2 a3 a4 a5 a6 a7 a8 a9 a10 a11 a12 n s (nI i)) (fun i s => 0 < i → cz_b0 s) 8 0 0 (by omega) (fun z => absurd z (by omega)) ?_ ?_
  · intro n s hs
    refine pk_le 8 8 (fun _ => cz_pushW (by omega) (fun b2 => ⟨pk_in (h * 3 + a) 18 (by omega) (by rw [nI_pred, cz_i3]), nm_e (H _ _ (cz_Imk (by omega) hg (cz_b0_push h1 (hs (by omega))) hR hE))⟩)) (fun z => absurd z (by omega))
  · intro n i s hi hs hw
    by_cases e0 : i = 0
    · subst e0
      exact pk_le 8 0 (fun z => absurd z (by omega)) (fun _ => br_t (cz_z3 a (by omega)) (nm_e (nm_r (nI_1 0) (hw _ (fun _ => cz_b0_r s (by unfold cz_b0; decide))))))
    · exact pk_le 8 i (fun z => absurd z (by omega)) (fun _ => br_c (fun _ => nm_e (nm_r (nI_1 i) (hw _ (fun _ => cz_b0_l _ (hs (by omega)))))) (fun _ => nm_r (nI_1 i) (hw s (fun _ => hs (by omega)))))
theorem cz_gatherW {post : St1 → Prop} {f0 : Int32} {f1 : Int32} {f2 : Int32} {f3 : Int32} {f4 : Int32} {f5 : Int32} {f6 : Int32} {a1 : Nat → Int32} {a2 : Nat → Int32} {a3 : Nat → Int32} {a4 : Nat → Int32} {a5 : Nat → Int32} {a6 : Nat → Int32} {a7 : Nat → Int64} {a8 : Nat → Int32} {a9 : Nat → Int64} {a10 : Nat → Int32} {a11 : Nat → Int32} {a12 : Nat → Int32} {x : Nat} (hx : x ≤ 4) (H : ∀ b2 : Nat → Int32, post (f0, f1, f2, f3, f4, f5, f6, a1, b2, a3, a4, a5, a6, a7, a8, a9, a10, a11, a12)) : wpX_gather post (f0, f1, f2, f3, f4, f5, f6, a1, a2, a3, a4, a5, a6, a7, a8, a9, a10, a11, a12) (nI x) := by
  refine pk_loop (fun n i s => wX_gather_2 post (nI x) f0 f1 f2 f3 f4 f5 f6 n (nI i) a1 s a3 a4 a5 a6 a7 a8 a9 a10 a11 a12) (fun _ _ => True) 3 0 a2 (by omega) trivial ?_ ?_
  · intro n s _
    exact pk_le 3 3 (fun _ => H s) (fun z => absurd z (by omega))
  · intro n i s hi _ hw
    exact pk_le 3 i (fun z => absurd z (by omega)) (fun _ => ⟨pk_in (x * 3 + i) 18 (by omega) (cz_i3 x i), pk_in (x * 3 + 3 + i) 18 (by omega) (by rw [show (3 : Int32) = nI 3 from rfl, pk_mul, nI_add, nI_add]), pk_in (x * 3 + i) 18 (by omega) (cz_i3 x i), nm_e (nm_r (nI_1 i) (hw _ trivial))⟩)
theorem cz_hidW {post : Int32 → St1 → Prop} {u : St1} (hu : cz_I u) (H : ∀ r v, cz_I v → post r v) : wpX_hid post u := by
  obtain ⟨f0, f1, f2, f3, f4, f5, f6, a1, a2, a3, a4, a5, a6, a7, a8, a9, a10, a11, a12⟩ := u
  obtain ⟨h, g, hh, hg, rfl, rfl, rfl, h1, hR, hE⟩ := hu
  refine pk_le 2 h (fun hl => ?_) (fun _ => H _ _ (cz_Imk hh hg h1 hR hE))
  obtain ⟨x, rfl⟩ : ∃ x, h = x + 2 := ⟨h - 2, by omega⟩
  refine nm_r (show nI (x + 2) - 2 = nI x from pk_sub (b := 2) (by omega)) ⟨pk_in x 6 (by omega), pk_in (x + 1) 6 (by omega) (nI_1 x), pk_in x 6 (by omega), ?_⟩
  rw [nI_1, nI_clamp (show x < 2 ^ 31 by omega), nI_clamp (show x + 1 < 2 ^ 31 by omega)]
  refine nm_e (cz_gatherW (by omega) (fun b2 => nm_r (nI_pred (x + 1)) (H _ _ (cz_Imk (by omega) hg ?_ hR hE))))
  exact cz_b0_push (fun i hi => h1 i (by omega)) (cz_b0_l _ (h1 x (by omega)))
theorem cz_extW {post : Int32 → St1 → Prop} {u : St1} (hu : cz_I u) (H : ∀ r v, cz_I v → post r v) : wpX_ext post u := by
  obtain ⟨f0, f1, f2, f3, f4, f5, f6, a1, a2, a3, a4, a5, a6, a7, a8, a9, a10, a11, a12⟩ := u
  obtain ⟨h, g, hh, hg, rfl, rfl, rfl, h1, hR, hE⟩ := hu
  refine pk_le 2 h (fun hl => ?_) (fun _ => H _ _ (cz_Imk hh hg h1 hR hE))
  obtain ⟨x, rfl⟩ : ∃ x, h = x + 2 := ⟨h - 2, by omega⟩
  refine nm_r (show nI (x + 2) - 2 = nI x from pk_sub (b := 2) (by omega)) ⟨pk_in x 6 (by omega), pk_in (x + 1) 6 (by omega) (nI_1 x), pk_in x 6 (by omega), ?_⟩
  rw [nI_1, nI_clamp (show x < 2 ^ 31 by omega), nI_clamp (show x + 1 < 2 ^ 31 by omega)]
  refine nm_e (cz_gatherW (by omega) (fun b2 => nm_r (nI_pred (x + 1)) (H _ _ (cz_Imk (by omega) hg ?_ hR hE))))
  exact cz_b0_push (fun i hi => h1 i (by omega)) (cz_b0_a (h1 x (by omega)) (h1 (x + 1) (by omega)))
theorem cz_freshW {post : St1 → Prop} {f0 : Int32} {f1 : Int32} {f2 : Int32} {f3 : Int32} {f4 : Int32} {f5 : Int32} {f6 : Int32} {a1 : Nat → Int32} {a2 : Nat → Int32} {a3 : Nat → Int32} {a4 : Nat → Int32} {a5 : Nat → Int32} {a6 : Nat → Int32} {a7 : Nat → Int64} {a8 : Nat → Int32} {a9 : Nat → Int64} {a10 : Nat → Int32} {a11 : Nat → Int32} {a12 : Nat → Int32} (H : ∀ b7 : Nat → Int64, post (f0, f1, f2, f3, 0, nI 0, f6, a1, a2, a3, a4, a5, a6, b7, a8, a9, a10, a11, a12)) : wpX_fresh post (f0, f1, f2, f3, f4, f5, f6, a1, a2, a3, a4, a5, a6, a7, a8, a9, a10, a11, a12) := nm_e (H _)
theorem cz_E0 {a6 : Nat → Int32} : cz_E a6 0 := fun j hj => absurd hj (by omega)
theorem cz_defineW {post : Int32 → St1 → Prop} {u : St1} {k : Nat} (hk : k < 8) (hu : cz_I u) (H : ∀ r v, cz_I v → post r v) : wpX_define post u (nI k) := by
  obtain ⟨f0, f1, f2, f3, f4, f5, f6, a1, a2, a3, a4, a5, a6, a7, a8, a9, a10, a11, a12⟩ := u
  obtain ⟨h, g, hh, hg, rfl, rfl, rfl, h1, hR, hE⟩ := hu
  refine pk_lt k 0 (fun z => absurd z (by omega)) (fun _ => pk_le k 7 (fun _ => pk_eq h 0 (fun _ => H _ _ (cz_Imk hh hg h1 hR hE)) (fun e => ?_)) (fun z => absurd z (by omega)))
  obtain ⟨x, rfl⟩ : ∃ x, h = x + 1 := ⟨h - 1, by omega⟩
  refine nm_r (nI_pred x) ⟨pk_in x 6 (by omega), pk_in k 8 hk, ?_⟩
  rw [nI_clamp (show x < 2 ^ 31 by omega), nI_clamp (show k < 2 ^ 31 by omega)]
  refine nm_e ?_
  have hR' : cz_R (upd a3 k (a1 x)) := by
    intro i hi
    by_cases e : i = k
    · rw [e, pk_us]
      exact h1 x (by omega)
    · rw [pk_un e]
      exact hR i hi
  refine pk_loop (fun n i s => wX_define_49 post (nI k) (nI x) f1 f2 f3 0 (nI g) f6 n (nI i) a1 a2 (upd a3 k (a1 x)) s a5 a6 a7 a8 a9 a10 a11 a12) (fun _ _ => True) 3 0 a4 (by omega) trivial ?_ ?_
  · intro n s _
    exact pk_le 3 3 (fun _ => cz_freshW (fun b7 => H _ _ (cz_Imk (by omega) (by omega) (fun i hi => h1 i (by omega)) hR' cz_E0))) (fun z => absurd z (by omega))
  · intro n i s hi _ hw
    exact pk_le 3 i (fun z => absurd z (by omega)) (fun _ => ⟨pk_in (x * 3 + i) 18 (by omega) (cz_i3 x i), pk_in (k * 3 + i) 24 (by omega) (cz_i3 k i), nm_e (nm_r (nI_1 i) (hw _ trivial))⟩)
theorem cz_systemW {post : Int32 → St1 → Prop} {u : St1} {i j s : Int32} (hu : cz_I u) (H : ∀ r v, cz_I v → post r v) : wpX_system post u i j s := by
  obtain ⟨f0, f1, f2, f3, f4, f5, f6, a1, a2, a3, a4, a5, a6, a7, a8, a9, a10, a11, a12⟩ := u
  obtain ⟨h, g, hh, hg, rfl, rfl, rfl, h1, hR, hE⟩ := hu
  have I0 : cz_I (nI h, f1, f2, f3, 0, nI g, f6, a1, a2, a3, a4, a5, a6, a7, a8, a9, a10, a11, a12) := cz_Imk hh hg h1 hR hE
  exact br_c (fun _ => H _ _ I0) (fun _ => br_c (fun _ => H _ _ I0) (fun _ => br_c (fun _ => H _ _ I0) (fun _ => br_c (fun _ => H _ _ I0) (fun _ => br_c (fun _ => H _ _ I0) (fun _ => br_c (fun _ => cz_freshW (fun b7 => H _ _ (cz_Imk hh (by omega) h1 hR cz_E0))) (fun _ => H _ _ I0))))))
theorem cz_E_feed {a6 : Nat → Int32} {g a : Nat} (hE : cz_E a6 g) (ha : a < 3) : cz_E (upd a6 g (nI a)) (g + 1) := by
  intro j hj
  by_cases e : j = g
  · rw [e, pk_us]
    exact ⟨a, ha, rfl⟩
  · rw [pk_un e]
    exact hE j (by omega)
theorem cz_feedT {post : Int32 → St1 → Prop} {u : St1} {a : Nat} (ha : a < 4) (hu : cz_I u) (H : ∀ r v, cz_I v → post r v) : wpX_feed post u (nI a) := by
  obtain ⟨f0, f1, f2, f3, f4, f5, f6, a1, a2, a3, a4, a5, a6, a7, a8, a9, a10, a11, a12⟩ := u
  obtain ⟨h, g, hh, hg, rfl, rfl, rfl, h1, hR, hE⟩ := hu
  have I0 : cz_I (nI h, f1, f2, f3, 0, nI g, f6, a1, a2, a3, a4, a5, a6, a7, a8, a9, a10, a11, a12) := cz_Imk hh hg h1 hR hE
  by_cases h3 : a = 3
  · subst h3
    exact pk_lt 3 0 (fun z => absurd z (by omega)) (fun _ => pk_le 3 2 (fun z => absurd z (by omega)) (fun _ => H _ _ I0))
  · exact cz_feedW hg (by omega) (fun _ => H _ _ I0) (fun _ _ => H _ _ I0) (fun hg4 _ => H _ _ (cz_Imk hh hg4 h1 hR (cz_E_feed hE (by omega))))
theorem cz_undoT {post : Int32 → St1 → Prop} {u : St1} (hu : cz_I u) (H : ∀ r v, cz_I v → post r v) : wpX_undo post u := by
  obtain ⟨f0, f1, f2, f3, f4, f5, f6, a1, a2, a3, a4, a5, a6, a7, a8, a9, a10, a11, a12⟩ := u
  obtain ⟨h, g, hh, hg, rfl, rfl, rfl, h1, hR, hE⟩ := hu
  cases g with
  | zero => exact br_t rfl (H _ _ (cz_Imk hh hg h1 hR hE))
  | succ g => exact cz_undoW (by omega) (H _ _ (cz_Imk hh (by omega) h1 hR (fun j hj => hE j (by omega))))
theorem cz_turnW {post : St1 → Prop} {u : St1} {x y : Int32} (hu : cz_I u) (H : ∀ v, cz_I v → post v) : wpL_turn post u x y := by
  obtain ⟨f0, f1, f2, f3, f4, f5, f6, a1, a2, a3, a4, a5, a6, a7, a8, a9, a10, a11, a12⟩ := u
  obtain ⟨e3, he3, q3⟩ := pk_andE y (m := 3) 2 (by decide)
  obtain ⟨e4, he4, q4⟩ := pk_andE (y >>> ((2 : Int32) &&& 31)) (m := 3) 2 (by decide)
  refine nm_e (br_c (fun _ => cz_stopW hu (fun _ v hv => H v hv)) (fun _ => br_c (fun _ => br_c (fun _ => br_c (fun _ => cz_hidW hu (fun _ v hv => H v hv)) (fun _ => br_c (fun _ => br_c (fun _ => br_c (fun _ => cz_undoT hu (fun _ v hv => H v hv)) (fun _ => ?_)) (fun _ => cz_systemW hu (fun _ v hv => H v hv))) (fun _ => ?_))) (fun _ => cz_extW hu (fun _ v hv => H v hv))) (fun _ => ?_)))
  · rw [q3]
    exact cz_feedT (by omega) hu (fun _ v hv => H v hv)
  · rw [q3]
    exact cz_defineW (by omega) hu (fun _ v hv => H v hv)
  · rw [q3, q4]
    exact cz_preW (by omega) (by omega) hu (fun _ v hv => H v hv)
end
section
/-! ===== the law ===== -/
theorem cz_l38 {post : Int32 → Prop} {L : Nat} {xs : Nat → Int32} {kc ks : Nat} {f0 : Int32} {f1 : Int32} {f2 : Int32} {f3 : Int32} {f4 : Int32} {f6 : Int32} {a1 : Nat → Int32} {a2 : Nat → Int32} {a3 : Nat → Int32} {a4 : Nat → Int32} {a5 : Nat → Int32} {a6 : Nat → Int32} {a7 : Nat → Int64} {a8 : Nat → Int32} {a9 : Nat → Int64} {a10 : Nat → Int32} {a11 : Nat → Int32} {a12 : Nat → Int32} {g : Nat} (hP : post 1) (hg : g ≤ 4) (hR : cz_R a3) (hE : cz_E a6 g) (hQ : cz_Q f4 a5) : ∃ n, wL_law_38 post L xs kc ks n 0 f0 f1 f2 f3 f4 (nI g) f6 a1 a2 a3 a4 a5 a6 a7 a8 a9 a10 a11 a12 := by
  refine pk_loop (σ := Int32 × Int32 × (Nat → Int32) × (Nat → Int32) × (Nat → Int64) × (Nat → Int32) × (Nat → Int32) × (Nat → Int32)) (fun n i s => wL_law_38 post L xs kc ks n (nI i) f0 f1 f2 f3 s.1 (nI g) s.2.1 a1 a2 a3 a4 s.2.2.1 a6 a7 s.2.2.2.1 s.2.2.2.2.1 s.2.2.2.2.2.1 s.2.2.2.2.2.2.1 s.2.2.2.2.2.2.2)
    (fun _ s => cz_Q s.1 s.2.2.1) 8 0 (f4, f6, a5, a8, a9, a10, a11, a12) (by omega) hQ ?_ ?_
  · rintro n ⟨g4, g6, b5, b8, b9, b10, b11, b12⟩ h1
    dsimp only at h1
    refine pk_le 8 8 (fun _ => cz_refinedW (kd := 1) (by decide) hR h1 (fun c1 g4 g6 b5 b8 b9 b10 b11 b12 hq1 hc1 _ => cz_refinedW (kd := 0) (by decide) hR hq1 (fun c0 g4 g6 b5 b8 b9 b10 b11 b12 hq0 _ hc0 => br_f ?_ (cz_tracesW (fun g6 b8 b9 b10 b11 b12 => br_t rfl (cz_agreeW hg hE (fun u => ?_))))))) (fun z => absurd z (by omega))
    · have t := hc0 rfl
      have l := cz_cnt_le a4 f1 f2 f3 8
      exact nI_nlt (by omega) (by omega)
    · obtain ⟨g0, g1, g2, g3, g4, g5, g6, b1, b2, b3, b4, b5, b6, b7, b8, b9, b10, b11, b12⟩ := u
      exact br_f (by decide) hP
  · rintro n i ⟨g4, g6, b5, b8, b9, b10, b11, b12⟩ hi h1 hw
    dsimp only at h1
    exact pk_le 8 i (fun z => absurd z (by omega)) (fun _ => cz_gapW (kd := 1) hi (by decide) hR h1 (fun r g4 g6 b5 b8 b9 b10 b11 b12 hq hr _ => br_c (fun e => cz_gapW (kd := 0) hi (by decide) hR hq (fun r2 g4 g6 b5 b8 b9 b10 b11 b12 hq2 _ hr2 => br_t (hr2 rfl (hr e)) (nm_r (nI_1 i) (hw (g4, g6, b5, b8, b9, b10, b11, b12) hq2)))) (fun e => nm_r (nI_1 i) (hw (g4, g6, b5, b8, b9, b10, b11, b12) hq))))
theorem cz_l10 {post : Int32 → Prop} {L : Nat} {xs : Nat → Int32} {kc ks : Nat} (hL : L ≤ 260) (hP : post 1) (u : St1) (hu : cz_I u) : ∃ n, wL_law_10 post L xs kc ks n 0 u.1 u.2.1 u.2.2.1 u.2.2.2.1 u.2.2.2.2.1 u.2.2.2.2.2.1 u.2.2.2.2.2.2.1 u.2.2.2.2.2.2.2.1 u.2.2.2.2.2.2.2.2.1 u.2.2.2.2.2.2.2.2.2.1 u.2.2.2.2.2.2.2.2.2.2.1 u.2.2.2.2.2.2.2.2.2.2.2.1 u.2.2.2.2.2.2.2.2.2.2.2.2.1 u.2.2.2.2.2.2.2.2.2.2.2.2.2.1 u.2.2.2.2.2.2.2.2.2.2.2.2.2.2.1 u.2.2.2.2.2.2.2.2.2.2.2.2.2.2.2.1 u.2.2.2.2.2.2.2.2.2.2.2.2.2.2.2.2.1 u.2.2.2.2.2.2.2.2.2.2.2.2.2.2.2.2.2.1 u.2.2.2.2.2.2.2.2.2.2.2.2.2.2.2.2.2.2 := by
  refine loop_m (σ := Nat × St1) (fun n s => wL_law_10 post L xs kc ks n (nI s.1) s.2.1 s.2.2.1 s.2.2.2.1 s.2.2.2.2.1 s.2.2.2.2.2.1 s.2.2.2.2.2.2.1 s.2.2.2.2.2.2.2.1 s.2.2.2.2.2.2.2.2.1 s.2.2.2.2.2.2.2.2.2.1 s.2.2.2.2.2.2.2.2.2.2.1 s.2.2.2.2.2.2.2.2.2.2.2.1 s.2.2.2.2.2.2.2.2.2.2.2.2.1 s.2.2.2.2.2.2.2.2.2.2.2.2.2.1 s.2.2.2.2.2.2.2.2.2.2.2.2.2.2.1 s.2.2.2.2.2.2.2.2.2.2.2.2.2.2.2.1 s.2.2.2.2.2.2.2.2.2.2.2.2.2.2.2.2.1 s.2.2.2.2.2.2.2.2.2.2.2.2.2.2.2.2.2.1 s.2.2.2.2.2.2.2.2.2.2.2.2.2.2.2.2.2.2.1 s.2.2.2.2.2.2.2.2.2.2.2.2.2.2.2.2.2.2.2) (fun s => s.1 ≤ L + 2 ∧ cz_I s.2) (fun s => L + 2 - s.1) ?_ (0, u) ⟨by omega, hu⟩
  rintro n ⟨k, f0, f1, f2, f3, f4, f5, f6, a1, a2, a3, a4, a5, a6, a7, a8, a9, a10, a11, a12⟩ ⟨hk, hi⟩ hw
  dsimp only at hk hi
  refine pk_le L (k + 1) (fun _ => ?_) (fun z => ⟨pk_in k L (by omega), pk_in (k + 1) L (by omega) (nI_1 k), cz_turnW hi (fun v hv => ?_)⟩) rfl (nI_1 k)
  · obtain ⟨h, g, hh, hg, rfl, rfl, rfl, h1, hR, hE⟩ := hi
    exact cz_l38 hP hg hR hE (fun e => absurd rfl e)
  · obtain ⟨f0, f1, f2, f3, f4, f5, f6, a1, a2, a3, a4, a5, a6, a7, a8, a9, a10, a11, a12⟩ := v
    exact nm_r (show nI k + 2 = nI (k + 2) from nI_add k 2) (hw (k + 2, (f0, f1, f2, f3, f4, f5, f6, a1, a2, a3, a4, a5, a6, a7, a8, a9, a10, a11, a12)) ⟨by dsimp only; omega, hv⟩ (by dsimp only; omega))
theorem cz_initW {post : St1 → Prop} (H : ∀ v, cz_I v → post v) : wpX_init post 12 648 (0, 0, 0, 0, 0, 0, 0) := by
  refine ⟨by decide, by decide, by decide, by decide, by decide, by decide, by decide, by decide, by decide, by decide, by decide, by decide, by decide, by decide, by decide, by decide, by decide, by decide, by decide, by decide, by decide, by decide, by decide, by decide, ?_⟩
  refine pk_loop (fun n i s => wX_init_104 post 12 648 12 648 0 0 0 0 0 0 0 n (nI i) (fun _ => 0) (fun _ => 0) s (fun _ => 0) (fun _ => 0) (fun _ => 0) (fun _ => 0) (fun _ => 0) (fun _ => 0) (fun _ => 0) (fun _ => 0) (fun _ => 0)) (fun i s => ∀ j, j < i → cz_b0 (s j)) 8 0 (fun _ => 0) (by omega) (fun j hj => absurd hj (by omega)) ?_ ?_
  · intro n s h
    exact pk_le 8 8 (fun _ => nm_e (H _ (cz_Imk (h := 0) (g := 0) (by omega) (by omega) (fun i hi => absurd hi (by omega)) h cz_E0))) (fun z => absurd z (by omega))
  · intro n i s hi h hw
    refine pk_le 8 i (fun z => absurd z (by omega)) (fun _ => ⟨pk_in i 8 hi, nm_r (congrArg (fun k => upd s k 255) (nI_clamp (show i < 2 ^ 31 by omega))) (nm_r (nI_1 i) (hw _ (cz_b0_push h cz_b0_255)))⟩)
theorem i_vc (xs : Nat → Int32) (L : Nat) (hL : L ≤ 260) : wpL_law (fun r => r = 1) L xs := by
  refine ⟨12, 648, by decide, by decide, cz_initW (fun v hv => ?_)⟩
  have t := cz_l10 (post := fun r => r = 1) (xs := xs) (kc := 1 + 12) (ks := 19 + 648) hL rfl v hv
  obtain ⟨f0, f1, f2, f3, f4, f5, f6, a1, a2, a3, a4, a5, a6, a7, a8, a9, a10, a11, a12⟩ := v
  exact t
end
