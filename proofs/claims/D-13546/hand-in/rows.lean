section
/-! bits: rows of BITS.to-paste turned to this claim's names -/
def wk_bt (x : Int32) (i : Nat) : Bool := x.toBitVec.getLsbD i
theorem wk_b_ext {x y : Int32} (h : ∀ i, i < 32 → wk_bt x i = wk_bt y i) : x = y := Int32.toBitVec_inj.mp (BitVec.eq_of_getLsbD_eq (fun i hi => h i hi))
theorem wk_b_or (x y : Int32) (i : Nat) : wk_bt (x ||| y) i = (wk_bt x i || wk_bt y i) := by unfold wk_bt; rw [Int32.toBitVec_or, BitVec.getLsbD_or]
theorem wk_b_and (x y : Int32) (i : Nat) : wk_bt (x &&& y) i = (wk_bt x i && wk_bt y i) := by unfold wk_bt; rw [Int32.toBitVec_and, BitVec.getLsbD_and]
theorem wk_b_xor (x y : Int32) (i : Nat) : wk_bt (x ^^^ y) i = (wk_bt x i ^^ wk_bt y i) := by unfold wk_bt; rw [Int32.toBitVec_xor, BitVec.getLsbD_xor]
theorem wk_b_m1 : ∀ i, i < 32 → wk_bt (-1) i = true := by decide +kernel
theorem wk_b_0 (i : Nat) : wk_bt 0 i = false := BitVec.getLsbD_zero
theorem wk_s_l : ∀ n, n < 32 → ((nI n &&& 31).toBitVec.smod 32).toNat = n := by decide +kernel
theorem wk_b_sshr (n : Nat) (hn : n < 32) (x : Int32) {i : Nat} (hi : i < 32) : wk_bt (x >>> (nI n &&& 31)) i = if n + i < 32 then wk_bt x (n + i) else wk_bt x 31 := by
  unfold wk_bt
  rw [Int32.toBitVec_shiftRight]
  show (x.toBitVec.sshiftRight ((nI n &&& 31).toBitVec.smod 32).toNat).getLsbD i = _
  rw [wk_s_l n hn, BitVec.getLsbD_sshiftRight, BitVec.msb_eq_getLsbD_last]
  simp [hi]
/-- the code's test of a bit -/
theorem wk_tst (x : Int32) {i : Nat} (hi : i < 32) : ((x >>> (nI i &&& 31)) &&& 1) = 0 ↔ wk_bt x i = false := by
  have e : wk_bt (x >>> (nI i &&& 31)) 0 = wk_bt x i := by
    rw [wk_b_sshr i hi x (by omega), if_pos (by omega)]
    rfl
  rw [← e, ← Int32.toBitVec_inj, Int32.toBitVec_and]
  show ((x >>> (nI i &&& 31)).toBitVec &&& 1#32) = 0#32 ↔ (x >>> (nI i &&& 31)).toBitVec.getLsbD 0 = false
  rw [BitVec.and_one_eq_setWidth_ofBool_getLsbD]
  cases hb : (x >>> (nI i &&& 31)).toBitVec.getLsbD 0
  · exact ⟨fun _ => rfl, fun _ => by decide⟩
  · exact ⟨fun z => absurd z (by decide), fun z => absurd z (by decide)⟩
/-- one bit alone -/
theorem wk_b_1 : ∀ n, n < 32 → ∀ i, i < 32 → wk_bt ((1 : Int32) <<< (nI n &&& 31)) i = decide (i = n) := by decide +kernel
/-- the mask below n -/
theorem wk_b_mk : ∀ n, n < 8 → ∀ i, i < n → wk_bt (((1 : Int32) <<< (nI n &&& 31)) - 1) i = true := by decide +kernel
/-- a short keeps its low bits -/
theorem wk_b_sh (x : Int32) {i : Nat} (hi : i < 16) : wk_bt x.toInt16.toInt32 i = wk_bt x i := by
  unfold wk_bt
  rw [Int16.toBitVec_toInt32, Int32.toBitVec_toInt16, BitVec.getLsbD_signExtend, if_pos hi, BitVec.getLsbD_signExtend, if_pos (by omega)]
  have h1 : i < 32 := by omega
  simp only [hi, h1, decide_true, Bool.true_and]
theorem wk_of (x : Int32) : x = nI x.toBitVec.toNat := Int32.toBitVec_inj.mp (by show _ = BitVec.ofNat 32 _; simp)
/-- what is masked by a number below 256 is one -/
theorem wk_and_lt {s : Nat} (hs : s < 256) (y : Int32) : ∃ j : Nat, j < 256 ∧ nI s &&& y = nI j := by
  refine ⟨(nI s &&& y).toBitVec.toNat, ?_, wk_of _⟩
  rw [Int32.toBitVec_and, BitVec.toNat_and, pk_tn (by omega)]
  exact Nat.lt_of_le_of_lt Nat.and_le_left hs
/-! the picture -/
/-- the walkers at their starts -/
def wk_h0 (st : Int32) (i : Nat) : Int32 := if i / 8 = i % 8 ∧ wk_bt st (i % 8) = true then 1 else 0
/-- how often the walkers of v go to w along label l -/
def wk_cf (x y : Int32) (w : Nat) : Int32 := (if wk_bt x w = true then 1 else 0) + (if wk_bt y w = true then 1 else 0)
def wk_fo (kd : Int32) (f : Nat → Int32) (j : Nat) : Int32 := if kd = 1 then 0 else f j
def wk_ba (kd : Int32) (b : Nat → Int32) (j : Nat) : Int32 := if kd = 1 ∨ kd = 2 then b j else 0
def wk_mv (kd lb : Int32) (f b h : Nat → Int32) : Nat → Nat → Int32
  | 0 => fun _ => 0
  | m + 1 => fun i => wk_mv kd lb f b h m i + (if lb = 2 ∨ lb = nI (m % 2) then wk_cf (wk_fo kd f (m % 2 * 8 + m / 2)) (wk_ba kd b (m % 2 * 8 + m / 2)) (i / 8) * h (m / 2 * 8 + i % 8) else 0)
def wk_fl (nm : Nat → Int32) (kd lb : Int32) (h : Nat → Int32) (i : Nat) : Int32 :=
  if (kd = 4 ∧ ¬ nm (i / 8) < lb) ∨ (¬ kd = 4 ∧ (i / 8 = i % 8 ↔ kd = 6)) then h i else 0
def wk_k1 (h : Nat → Int32) (i : Nat) : Int32 := if ¬ h i ≤ 0 ∧ ∀ j, j < i % 8 → h (i / 8 * 8 + j) ≤ 0 then 1 else 0
def wk_st (nm f b : Nat → Int32) (kd lb : Int32) (h : Nat → Int32) : Nat → Int32 :=
  if 3 < kd then (if kd = 7 then wk_k1 h else wk_fl nm kd lb h) else wk_mv kd lb f b h 16
def wk_hk (nm f b kn lb : Nat → Int32) (st : Int32) : Nat → Nat → Int32
  | 0 => wk_h0 st
  | k + 1 => wk_st nm f b (kn k) (lb k) (wk_hk nm f b kn lb st k)
def wk_sum (h : Nat → Int32) : Nat → Int32
  | 0 => 0
  | n + 1 => wk_sum h n + h n
/-- the walkers at v -/
def wk_s8 (h : Nat → Int32) (v : Nat) : Int32 := wk_sum (fun s => h (v * 8 + s)) 8
/-- the bits where g is above 0 -/
def wk_rc (g : Nat → Int32) : Nat → Int32
  | 0 => 0
  | n + 1 => wk_rc g n ||| (if g n ≤ 0 then 0 else (1 : Int32) <<< (nI n &&& 31))
/-- the first of k, k + 1, .. (m of them) where t is 0 -/
def wk_da (t : Nat → Int32) : Nat → Nat → Int32
  | _, 0 => -1
  | k, m + 1 => if t k = 0 then nI k else wk_da t (k + 1) m
/-! the same below 64 -/
theorem wk_sum_c {h h' : Nat → Int32} {n : Nat} (e : ∀ i, i < n → h i = h' i) : wk_sum h n = wk_sum h' n := by
  induction n with
  | zero => rfl
  | succ n ih =>
    show wk_sum h n + h n = wk_sum h' n + h' n
    rw [ih (fun i hi => e i (by omega)), e n (by omega)]
theorem wk_s8_c {h h' : Nat → Int32} {v : Nat} (hv : v < 8) (e : ∀ i, i < 64 → h i = h' i) : wk_s8 h v = wk_s8 h' v :=
  wk_sum_c (fun s hs => e (v * 8 + s) (by omega))
theorem wk_rc_c {g g' : Nat → Int32} {n : Nat} (e : ∀ i, i < n → g i = g' i) : wk_rc g n = wk_rc g' n := by
  induction n with
  | zero => rfl
  | succ n ih =>
    show wk_rc g n ||| (if g n ≤ 0 then 0 else (1 : Int32) <<< (nI n &&& 31)) = wk_rc g' n ||| (if g' n ≤ 0 then 0 else (1 : Int32) <<< (nI n &&& 31))
    rw [ih (fun i hi => e i (by omega)), e n (by omega)]
theorem wk_da_c {t t' : Nat → Int32} {n : Nat} (e : ∀ i, i ≤ n → t i = t' i) : ∀ m k, k + m ≤ n + 1 → wk_da t k m = wk_da t' k m := by
  intro m
  induction m with
  | zero => intro k _; rfl
  | succ m ih =>
    intro k hk
    show (if t k = 0 then nI k else wk_da t (k + 1) m) = (if t' k = 0 then nI k else wk_da t' (k + 1) m)
    rw [e k (by omega), ih (k + 1) (by omega)]
theorem wk_mv_c {kd lb : Int32} {f b h h' : Nat → Int32} (e : ∀ i, i < 64 → h i = h' i) : ∀ m, m ≤ 16 → ∀ i, wk_mv kd lb f b h m i = wk_mv kd lb f b h' m i := by
  intro m
  induction m with
  | zero => intro _ i; rfl
  | succ m ih =>
    intro hm i
    show wk_mv kd lb f b h m i + (if lb = 2 ∨ lb = nI (m % 2) then wk_cf (wk_fo kd f (m % 2 * 8 + m / 2)) (wk_ba kd b (m % 2 * 8 + m / 2)) (i / 8) * h (m / 2 * 8 + i % 8) else 0) = wk_mv kd lb f b h' m i + (if lb = 2 ∨ lb = nI (m % 2) then wk_cf (wk_fo kd f (m % 2 * 8 + m / 2)) (wk_ba kd b (m % 2 * 8 + m / 2)) (i / 8) * h' (m / 2 * 8 + i % 8) else 0)
    rw [ih (by omega) i, e (m / 2 * 8 + i % 8) (by omega)]
theorem wk_k1_c {h h' : Nat → Int32} (e : ∀ i, i < 64 → h i = h' i) {i : Nat} (hi : i < 64) : wk_k1 h i = wk_k1 h' i := by
  unfold wk_k1
  have a : (¬ h i ≤ 0 ∧ ∀ j, j < i % 8 → h (i / 8 * 8 + j) ≤ 0) ↔ (¬ h' i ≤ 0 ∧ ∀ j, j < i % 8 → h' (i / 8 * 8 + j) ≤ 0) := by
    rw [e i hi]
    constructor
    · exact fun z => ⟨z.1, fun j hj => by rw [← e (i / 8 * 8 + j) (by omega)]; exact z.2 j hj⟩
    · exact fun z => ⟨z.1, fun j hj => by rw [e (i / 8 * 8 + j) (by omega)]; exact z.2 j hj⟩
  by_cases z : ¬ h i ≤ 0 ∧ ∀ j, j < i % 8 → h (i / 8 * 8 + j) ≤ 0
  · rw [if_pos z, if_pos (a.mp z)]
  · rw [if_neg z, if_neg (fun y => z (a.mpr y))]
theorem wk_fl_c {nm : Nat → Int32} {kd lb : Int32} {h h' : Nat → Int32} {i : Nat} (e : h i = h' i) : wk_fl nm kd lb h i = wk_fl nm kd lb h' i := by
  unfold wk_fl
  rw [e]
theorem wk_st_c {nm f b : Nat → Int32} {kd lb : Int32} {h h' : Nat → Int32} (e : ∀ i, i < 64 → h i = h' i) {i : Nat} (hi : i < 64) : wk_st nm f b kd lb h i = wk_st nm f b kd lb h' i := by
  unfold wk_st
  by_cases c : 3 < kd
  · rw [if_pos c, if_pos c]
    by_cases d : kd = 7
    · rw [if_pos d, if_pos d]
      exact wk_k1_c e hi
    · rw [if_neg d, if_neg d]
      exact wk_fl_c (e i hi)
  · rw [if_neg c, if_neg c]
    exact wk_mv_c e 16 (by omega) i
/-! linear -/
theorem wk_mv_l {kd lb : Int32} {f b h h1 h2 : Nat → Int32} (e : ∀ i, h i = h1 i + h2 i) : ∀ m i, wk_mv kd lb f b h m i = wk_mv kd lb f b h1 m i + wk_mv kd lb f b h2 m i := by
  intro m
  induction m with
  | zero => intro i; rfl
  | succ m ih =>
    intro i
    show wk_mv kd lb f b h m i + (if lb = 2 ∨ lb = nI (m % 2) then wk_cf (wk_fo kd f (m % 2 * 8 + m / 2)) (wk_ba kd b (m % 2 * 8 + m / 2)) (i / 8) * h (m / 2 * 8 + i % 8) else 0) = (wk_mv kd lb f b h1 m i + (if lb = 2 ∨ lb = nI (m % 2) then wk_cf (wk_fo kd f (m % 2 * 8 + m / 2)) (wk_ba kd b (m % 2 * 8 + m / 2)) (i / 8) * h1 (m / 2 * 8 + i % 8) else 0)) + (wk_mv kd lb f b h2 m i + (if lb = 2 ∨ lb = nI (m % 2) then wk_cf (wk_fo kd f (m % 2 * 8 + m / 2)) (wk_ba kd b (m % 2 * 8 + m / 2)) (i / 8) * h2 (m / 2 * 8 + i % 8) else 0))
    rw [ih i, e (m / 2 * 8 + i % 8)]
    generalize wk_mv kd lb f b h1 m i = x
    generalize wk_mv kd lb f b h2 m i = y
    generalize wk_cf (wk_fo kd f (m % 2 * 8 + m / 2)) (wk_ba kd b (m % 2 * 8 + m / 2)) (i / 8) = c
    generalize h1 (m / 2 * 8 + i % 8) = p
    generalize h2 (m / 2 * 8 + i % 8) = q
    by_cases d : lb = 2 ∨ lb = nI (m % 2)
    · rw [if_pos d, if_pos d, if_pos d]
      clear ih e d
      grind
    · rw [if_neg d, if_neg d, if_neg d]
      clear ih e d
      grind
theorem wk_fl_l {nm : Nat → Int32} {kd lb : Int32} {h h1 h2 : Nat → Int32} {i : Nat} (e : h i = h1 i + h2 i) : wk_fl nm kd lb h i = wk_fl nm kd lb h1 i + wk_fl nm kd lb h2 i := by
  unfold wk_fl
  by_cases c : (kd = 4 ∧ ¬ nm (i / 8) < lb) ∨ (¬ kd = 4 ∧ (i / 8 = i % 8 ↔ kd = 6))
  · rw [if_pos c, if_pos c, if_pos c, e]
  · rw [if_neg c, if_neg c, if_neg c]
    rfl
theorem wk_st_l {nm f b : Nat → Int32} {kd lb : Int32} {h h1 h2 : Nat → Int32} (h7 : ¬ kd = 7) (e : ∀ i, h i = h1 i + h2 i) (i : Nat) : wk_st nm f b kd lb h i = wk_st nm f b kd lb h1 i + wk_st nm f b kd lb h2 i := by
  unfold wk_st
  by_cases c : 3 < kd
  · rw [if_pos c, if_pos c, if_pos c, if_neg h7, if_neg h7, if_neg h7]
    exact wk_fl_l (e i)
  · rw [if_neg c, if_neg c, if_neg c]
    exact wk_mv_l e 16 i
theorem wk_h0_l (s p : Int32) (i : Nat) : wk_h0 s i = wk_h0 (s &&& p) i + wk_h0 (s &&& (p ^^^ (-1))) i := by
  unfold wk_h0
  rw [wk_b_and, wk_b_and, wk_b_xor, wk_b_m1 (i % 8) (by omega)]
  by_cases c : i / 8 = i % 8
  · cases wk_bt s (i % 8) <;> cases wk_bt p (i % 8) <;> simp [c]
  · simp [c]
theorem wk_hk_l {nm f b kn lb : Nat → Int32} (s p : Int32) {n : Nat} (h7 : ∀ i, i < n → ¬ kn i = 7) : ∀ k, k ≤ n → ∀ i, wk_hk nm f b kn lb s k i = wk_hk nm f b kn lb (s &&& p) k i + wk_hk nm f b kn lb (s &&& (p ^^^ (-1))) k i := by
  intro k
  induction k with
  | zero => exact fun _ i => wk_h0_l s p i
  | succ k ih => exact fun hk i => wk_st_l (h7 k (by omega)) (ih (by omega)) i
theorem wk_sum_l {h h1 h2 : Nat → Int32} (e : ∀ i, h i = h1 i + h2 i) (n : Nat) : wk_sum h n = wk_sum h1 n + wk_sum h2 n := by
  induction n with
  | zero => rfl
  | succ n ih =>
    show wk_sum h n + h n = (wk_sum h1 n + h1 n) + (wk_sum h2 n + h2 n)
    rw [ih, e n]
    generalize wk_sum h1 n = x
    generalize wk_sum h2 n = y
    generalize h1 n = p
    generalize h2 n = q
    clear ih e
    grind
theorem wk_s8_l {h h1 h2 : Nat → Int32} (e : ∀ i, h i = h1 i + h2 i) (v : Nat) : wk_s8 h v = wk_s8 h1 v + wk_s8 h2 v :=
  wk_sum_l (fun s => e (v * 8 + s)) 8
/-! the two objects: edges turned round, kinds 0 and 1 changed -/
def wk_kr (x y : Int32) : Prop := (x = 0 ∧ y = 1) ∨ (x = 1 ∧ y = 0) ∨ (x = 2 ∧ y = 2) ∨ (3 < x ∧ y = x)
theorem wk_kr3 {x y : Int32} (h : wk_kr x y) : ¬ x = 3 ∧ ¬ y = 3 := by
  rcases h with ⟨a, b⟩ | ⟨a, b⟩ | ⟨a, b⟩ | ⟨a, b⟩
  · subst a; subst b; exact ⟨by decide, by decide⟩
  · subst a; subst b; exact ⟨by decide, by decide⟩
  · subst a; subst b; exact ⟨by decide, by decide⟩
  · subst b
    exact ⟨fun z => by subst z; exact absurd a (by decide), fun z => by subst z; exact absurd a (by decide)⟩
theorem wk_kr7 {x y : Int32} (h : wk_kr x y) (h7 : ¬ x = 7) : ¬ y = 7 := by
  rcases h with ⟨a, b⟩ | ⟨a, b⟩ | ⟨a, b⟩ | ⟨a, b⟩
  · subst b; decide
  · subst b; decide
  · subst b; decide
  · subst b; exact h7
theorem wk_cf_s (x y : Int32) (w : Nat) : wk_cf x y w = wk_cf y x w := by
  unfold wk_cf
  cases wk_bt x w <;> cases wk_bt y w <;> rfl
theorem wk_mv_s {kd kd' lb : Int32} {f b h : Nat → Int32} (hk : wk_kr kd kd') (h3 : ¬ 3 < kd) : ∀ m i, wk_mv kd lb f b h m i = wk_mv kd' lb b f h m i := by
  have e : ∀ j w, wk_cf (wk_fo kd f j) (wk_ba kd b j) w = wk_cf (wk_fo kd' b j) (wk_ba kd' f j) w := by
    intro j w
    rw [wk_cf_s (wk_fo kd' b j)]
    unfold wk_fo wk_ba
    rcases hk with ⟨p, q⟩ | ⟨p, q⟩ | ⟨p, q⟩ | ⟨p, q⟩
    · subst p; subst q; rfl
    · subst p; subst q; rfl
    · subst p; subst q; rfl
    · exact absurd p h3
  intro m
  induction m with
  | zero => intro i; rfl
  | succ m ih =>
    intro i
    show wk_mv kd lb f b h m i + (if lb = 2 ∨ lb = nI (m % 2) then wk_cf (wk_fo kd f (m % 2 * 8 + m / 2)) (wk_ba kd b (m % 2 * 8 + m / 2)) (i / 8) * h (m / 2 * 8 + i % 8) else 0) = wk_mv kd' lb b f h m i + (if lb = 2 ∨ lb = nI (m % 2) then wk_cf (wk_fo kd' b (m % 2 * 8 + m / 2)) (wk_ba kd' f (m % 2 * 8 + m / 2)) (i / 8) * h (m / 2 * 8 + i % 8) else 0)
    rw [ih i, e]
theorem wk_st_s {nm f b : Nat → Int32} {kd kd' lb : Int32} {h : Nat → Int32} (hk : wk_kr kd kd') : wk_st nm f b kd lb h = wk_st nm b f kd' lb h := by
  by_cases c : 3 < kd
  · have e : kd' = kd := by
      rcases hk with ⟨p, q⟩ | ⟨p, q⟩ | ⟨p, q⟩ | ⟨p, q⟩
      · subst p; exact absurd c (by decide)
      · subst p; exact absurd c (by decide)
      · subst p; exact absurd c (by decide)
      · exact q
    subst e
    unfold wk_st
    rw [if_pos c, if_pos c]
  · have c' : ¬ 3 < kd' := by
      rcases hk with ⟨p, q⟩ | ⟨p, q⟩ | ⟨p, q⟩ | ⟨p, q⟩
      · subst q; decide
      · subst q; decide
      · subst q; decide
      · exact absurd p c
    unfold wk_st
    rw [if_neg c, if_neg c']
    exact funext (fun i => wk_mv_s hk c 16 i)
theorem wk_hk_s {nm f b kn kn' lb : Nat → Int32} {st : Int32} {n : Nat} (hk : ∀ i, i < n → wk_kr (kn i) (kn' i)) : ∀ k, k ≤ n → wk_hk nm f b kn lb st k = wk_hk nm b f kn' lb st k := by
  intro k
  induction k with
  | zero => exact fun _ => rfl
  | succ k ih =>
    intro h
    show wk_st nm f b (kn k) (lb k) (wk_hk nm f b kn lb st k) = wk_st nm b f (kn' k) (lb k) (wk_hk nm b f kn' lb st k)
    rw [ih (by omega), wk_st_s (hk k (by omega))]
/-! an array filled from below -/
def wk_mix (F a : Nat → Int32) (i : Nat) : Nat → Int32 := fun j => if j < i then F j else a j
theorem wk_mix0 (F a : Nat → Int32) : wk_mix F a 0 = a := funext (fun j => if_neg (by omega))
theorem wk_mixV {F a : Nat → Int32} {i j : Nat} (h : j < i) : wk_mix F a i j = F j := if_pos h
theorem wk_mixO {F a : Nat → Int32} {i j : Nat} (h : i ≤ j) : wk_mix F a i j = a j := if_neg (by omega)
theorem wk_mixS {F a : Nat → Int32} {i : Nat} {x : Int32} (h : x = F i) : upd (wk_mix F a i) i x = wk_mix F a (i + 1) := by
  funext j
  by_cases e : j = i
  · rw [e, pk_us, wk_mixV (by omega), h]
  · rw [pk_un e]
    by_cases c : j < i
    · rw [wk_mixV c, wk_mixV (by omega)]
    · rw [wk_mixO (by omega), wk_mixO (by omega)]
theorem wk_mixK {F a : Nat → Int32} {i : Nat} (h : a i = F i) : wk_mix F a i = wk_mix F a (i + 1) := by
  funext j
  by_cases e : j = i
  · rw [e, wk_mixO (by omega), wk_mixV (by omega), h]
  · by_cases c : j < i
    · rw [wk_mixV c, wk_mixV (by omega)]
    · rw [wk_mixO (by omega), wk_mixO (by omega)]
/-! places -/
theorem wk_ix (v s : Nat) : nI v * 8 + nI s = nI (v * 8 + s) := by
  rw [show (8 : Int32) = nI 8 from rfl, pk_mul, nI_add]
theorem wk_ixc {v s : Nat} (hv : v < 8) (hs : s < 8) : (nI v * 8 + nI s).toNatClampNeg = v * 8 + s := by
  rw [wk_ix, nI_clamp (by omega)]
theorem wk_div {i : Nat} (h : i < 64) : nI i / 8 = nI (i / 8) := pk_div (d := 8) (by omega) (by omega) (by omega)
theorem wk_rem {i : Nat} (h : i < 64) : nI i - nI i / 8 * 8 = nI (i % 8) := pk_rem (d := 8) (by omega) (by omega) (by omega)
end
section
section
variable {ec sz st kn : Int32} {a1 a2 a3 a4 a5 a6 a7 a8 : Nat → Int32}
/-! total -/
theorem wk_total {post : Int32 → Prop} (H : post (wk_sum a6 64)) : wpX_total post (ec, sz, st, kn, a1, a2, a3, a4, a5, a6, a7, a8) :=
  pk_loop (σ := Unit) (fun n i _ => wX_total_4 post ec sz st kn a1 a2 a3 a4 a5 a6 a7 a8 n (wk_sum a6 i) (nI i)) (fun _ _ => True) 64 0 () (by omega) trivial
    (fun n _ _ => pk_le 64 64 (fun _ => H) (fun z => absurd z (by omega)))
    (fun n i _ hi _ hw => pk_le 64 i (fun z => absurd z (by omega)) (fun _ => ⟨pk_in i 64 hi, nm_r (by rw [nI_clamp (by omega)]; rfl) (nm_r (nI_1 i) (hw () trivial))⟩))
/-! filter -/
theorem wk_f75 {post : St1 → Prop} {J2 : Int32 → (Nat → Int32) → (Nat → Int32) → (Nat → Int32) → (Nat → Int32) → (Nat → Int32) → (Nat → Int32) → (Nat → Int32) → (Nat → Int32) → Prop} {kd lb z : Int32} {F a : Nat → Int32} {i : Nat} (hi : i < 64) (h0 : z = 0 → F i = 0) (h1 : ¬ z = 0 → F i = a i) (hw : J2 (nI (i + 1)) a1 a2 a3 a4 a5 (wk_mix F a (i + 1)) a7 a8) :
    wX_filter_75 post J2 kd lb (nI i) z ec sz st kn a1 a2 a3 a4 a5 (wk_mix F a i) a7 a8 :=
  br_c (fun e => ⟨pk_in i 64 hi, nm_r (by rw [nI_clamp (by omega)]; exact wk_mixS (h0 e).symm) (nm_r (nI_1 i) hw)⟩) (fun e => nm_r (nI_1 i) (by rw [wk_mixK (h1 e).symm]; exact hw))
theorem wk_filter {post : St1 → Prop} {kd lb : Int32} (H : post (ec, sz, st, kn, a1, a2, a3, a4, a5, wk_mix (wk_fl a1 kd lb a6) a6 64, a7, a8)) : wpX_filter post (ec, sz, st, kn, a1, a2, a3, a4, a5, a6, a7, a8) kd lb := by
  have t : ∃ n, wX_filter_2 post kd lb ec sz st kn n (nI 0) a1 a2 a3 a4 a5 (wk_mix (wk_fl a1 kd lb a6) a6 0) a7 a8 := by
    refine pk_loop (σ := Unit) (fun n i _ => wX_filter_2 post kd lb ec sz st kn n (nI i) a1 a2 a3 a4 a5 (wk_mix (wk_fl a1 kd lb a6) a6 i) a7 a8) (fun _ _ => True) 64 0 () (by omega) trivial
      (fun n _ _ => pk_le 64 64 (fun _ => H) (fun z => absurd z (by omega)))
      (fun n i _ hi _ hw => pk_le 64 i (fun z => absurd z (by omega)) (fun _ => ⟨by decide, nm_r (wk_div hi) ⟨by decide, nm_r (wk_rem hi) ?_⟩⟩))
    have hw' := hw () trivial
    have e0 : (nI (i / 8)).toNatClampNeg = i / 8 := nI_clamp (by omega)
    refine br_c (fun h4 => ⟨pk_in (i / 8) 8 (by omega), br_c (fun g => ?_) (fun g => ?_)⟩) (fun n4 => pk_eq (i / 8) (i % 8) (fun e => br_c (fun h6 => br_t rfl ?_) (fun n6 => br_f (by decide) ?_)) (fun e => br_c (fun h6 => br_f (by decide) ?_) (fun n6 => br_t rfl ?_)))
    · rw [e0] at g
      exact wk_f75 hi (fun _ => if_neg (fun z => z.elim (fun y => y.2 g) (fun y => y.1 h4))) (fun z => absurd rfl z) hw'
    · rw [e0] at g
      exact wk_f75 hi (fun z => absurd z (by decide)) (fun _ => if_pos (Or.inl ⟨h4, g⟩)) hw'
    · exact wk_f75 hi (fun z => absurd z (by decide)) (fun _ => if_pos (Or.inr ⟨n4, ⟨fun _ => h6, fun _ => e⟩⟩)) hw'
    · exact wk_f75 hi (fun _ => if_neg (fun z => z.elim (fun y => n4 y.1) (fun y => n6 (y.2.mp e)))) (fun z => absurd rfl z) hw'
    · exact wk_f75 hi (fun _ => if_neg (fun z => z.elim (fun y => n4 y.1) (fun y => e (y.2.mpr h6)))) (fun z => absurd rfl z) hw'
    · exact wk_f75 hi (fun z => absurd z (by decide)) (fun _ => if_pos (Or.inr ⟨n4, ⟨fun y => absurd y e, fun y => absurd y n6⟩⟩)) hw'
  rw [wk_mix0] at t
  exact t
/-! keepOne -/
def wk_fd (h : Nat → Int32) (v : Nat) : Nat → Int32
  | 0 => 0
  | s + 1 => if wk_fd h v s = 0 then (if h (v * 8 + s) ≤ 0 then 0 else 1) else 1
theorem wk_fd_iff {h : Nat → Int32} {v : Nat} : ∀ s, wk_fd h v s = 0 ↔ ∀ j, j < s → h (v * 8 + j) ≤ 0 := by
  intro s
  induction s with
  | zero => exact ⟨fun _ j hj => absurd hj (by omega), fun _ => rfl⟩
  | succ s ih =>
    show (if wk_fd h v s = 0 then (if h (v * 8 + s) ≤ 0 then (0 : Int32) else 1) else 1) = 0 ↔ _
    by_cases c : wk_fd h v s = 0
    · rw [if_pos c]
      by_cases d : h (v * 8 + s) ≤ 0
      · rw [if_pos d]
        exact ⟨fun _ => lt_s (ih.mp c) d, fun _ => rfl⟩
      · rw [if_neg d]
        exact ⟨fun z => absurd z (by decide), fun z => absurd (z s (by omega)) d⟩
    · rw [if_neg c]
      exact ⟨fun z => absurd z (by decide), fun z => absurd (ih.mpr (fun j hj => z j (by omega))) c⟩
theorem wk_fd_1 {h : Nat → Int32} {v : Nat} : ∀ s, ¬ wk_fd h v s = 0 → wk_fd h v s = 1 := by
  intro s
  cases s with
  | zero => exact fun z => absurd rfl z
  | succ s =>
    show ¬ (if wk_fd h v s = 0 then (if h (v * 8 + s) ≤ 0 then (0 : Int32) else 1) else 1) = 0 → (if wk_fd h v s = 0 then (if h (v * 8 + s) ≤ 0 then (0 : Int32) else 1) else 1) = 1
    by_cases c : wk_fd h v s = 0
    · rw [if_pos c]
      by_cases d : h (v * 8 + s) ≤ 0
      · rw [if_pos d]
        exact fun z => absurd rfl z
      · rw [if_neg d]
        exact fun _ => rfl
    · rw [if_neg c]
      exact fun _ => rfl
theorem wk_k1_at {h : Nat → Int32} {v s : Nat} (hs : s < 8) : wk_k1 h (v * 8 + s) = if ¬ h (v * 8 + s) ≤ 0 ∧ wk_fd h v s = 0 then 1 else 0 := by
  have e1 : (v * 8 + s) / 8 = v := by omega
  have e2 : (v * 8 + s) % 8 = s := by omega
  unfold wk_k1
  rw [e1, e2]
  by_cases c : ¬ h (v * 8 + s) ≤ 0 ∧ ∀ j, j < s → h (v * 8 + j) ≤ 0
  · rw [if_pos c, if_pos ⟨c.1, (wk_fd_iff s).mpr c.2⟩]
  · rw [if_neg c, if_neg (fun z => c ⟨z.1, (wk_fd_iff s).mp z.2⟩)]
theorem wk_k41 {post : St1 → Prop} {J2 : Int32 → (Nat → Int32) → (Nat → Int32) → (Nat → Int32) → (Nat → Int32) → (Nat → Int32) → (Nat → Int32) → (Nat → Int32) → (Nat → Int32) → Prop} {J12 : Int32 → Int32 → (Nat → Int32) → (Nat → Int32) → (Nat → Int32) → (Nat → Int32) → (Nat → Int32) → (Nat → Int32) → (Nat → Int32) → (Nat → Int32) → Prop} {y y' z : Int32} {F a : Nat → Int32} {v s : Nat} (hv : v < 8) (hs : s < 8) (hF : F (v * 8 + s) = if z = 0 then 0 else 1) (hy : y ||| z = y') (hw : J12 y' (nI (s + 1)) a1 a2 a3 a4 a5 (wk_mix F a (v * 8 + s + 1)) a7 a8) :
    wX_keepOne_41 post J2 J12 (nI v) y (nI s) z ec sz st kn a1 a2 a3 a4 a5 (wk_mix F a (v * 8 + s)) a7 a8 :=
  br_c (fun e => ⟨pk_in (v * 8 + s) 64 (by omega) (wk_ix v s), nm_r (by rw [wk_ixc hv hs]; exact wk_mixS (by rw [hF, if_pos e])) (nm_r hy (nm_r (nI_1 s) hw))⟩)
    (fun e => ⟨pk_in (v * 8 + s) 64 (by omega) (wk_ix v s), nm_r (by rw [wk_ixc hv hs]; exact wk_mixS (by rw [hF, if_neg e])) (nm_r hy (nm_r (nI_1 s) hw))⟩)
theorem wk_k12 {post : St1 → Prop} {J2 : Int32 → (Nat → Int32) → (Nat → Int32) → (Nat → Int32) → (Nat → Int32) → (Nat → Int32) → (Nat → Int32) → (Nat → Int32) → (Nat → Int32) → Prop} {h : Nat → Int32} {v : Nat} (hv : v < 8) (H : J2 (nI (v + 1)) a1 a2 a3 a4 a5 (wk_mix (wk_k1 h) h (v * 8 + 8)) a7 a8) :
    ∃ n, wX_keepOne_12 post J2 (nI v) ec sz st kn n 0 0 a1 a2 a3 a4 a5 (wk_mix (wk_k1 h) h (v * 8)) a7 a8 := by
  refine pk_loop (σ := Unit) (fun n s _ => wX_keepOne_12 post J2 (nI v) ec sz st kn n (wk_fd h v s) (nI s) a1 a2 a3 a4 a5 (wk_mix (wk_k1 h) h (v * 8 + s)) a7 a8) (fun _ _ => True) 8 0 () (by omega) trivial
    (fun n _ _ => pk_le 8 8 (fun _ => nm_r (nI_1 v) H) (fun z => absurd z (by omega)))
    (fun n s _ hs _ hw => pk_le 8 s (fun z => absurd z (by omega)) (fun _ => br_c (fun e => ⟨pk_in (v * 8 + s) 64 (by omega) (wk_ix v s), br_c (fun g => ?_) (fun g => ?_)⟩) (fun e => ?_)))
  · rw [wk_ixc hv hs, wk_mixO (Nat.le_refl _)] at g
    refine wk_k41 (z := 0) hv hs ?_ ?_ (hw () trivial)
    · rw [wk_k1_at hs, if_neg (fun z => z.1 g), if_pos rfl]
    · show wk_fd h v s ||| 0 = (if wk_fd h v s = 0 then (if h (v * 8 + s) ≤ 0 then (0 : Int32) else 1) else 1)
      rw [if_pos e, if_pos g, e]
      rfl
  · rw [wk_ixc hv hs, wk_mixO (Nat.le_refl _)] at g
    refine wk_k41 (z := 1) hv hs ?_ ?_ (hw () trivial)
    · rw [wk_k1_at hs, if_pos ⟨g, e⟩, if_neg (by decide)]
    · show wk_fd h v s ||| 1 = (if wk_fd h v s = 0 then (if h (v * 8 + s) ≤ 0 then (0 : Int32) else 1) else 1)
      rw [if_pos e, if_neg g, e]
      rfl
  · refine wk_k41 (z := 0) hv hs ?_ ?_ (hw () trivial)
    · rw [wk_k1_at hs, if_neg (fun z => e z.2), if_pos rfl]
    · show wk_fd h v s ||| 0 = (if wk_fd h v s = 0 then (if h (v * 8 + s) ≤ 0 then (0 : Int32) else 1) else 1)
      rw [if_neg e, wk_fd_1 s e]
      rfl
theorem wk_keepOne {post : St1 → Prop} (H : post (ec, sz, st, kn, a1, a2, a3, a4, a5, wk_mix (wk_k1 a6) a6 64, a7, a8)) : wpX_keepOne post (ec, sz, st, kn, a1, a2, a3, a4, a5, a6, a7, a8) := by
  have t : ∃ n, wX_keepOne_2 post ec sz st kn n (nI 0) a1 a2 a3 a4 a5 (wk_mix (wk_k1 a6) a6 (0 * 8)) a7 a8 :=
    pk_loop (σ := Unit) (fun n v _ => wX_keepOne_2 post ec sz st kn n (nI v) a1 a2 a3 a4 a5 (wk_mix (wk_k1 a6) a6 (v * 8)) a7 a8) (fun _ _ => True) 8 0 () (by omega) trivial
      (fun n _ _ => pk_le 8 8 (fun _ => H) (fun z => absurd z (by omega)))
      (fun n v _ hv _ hw => pk_le 8 v (fun z => absurd z (by omega)) (fun _ => wk_k12 hv (by
        have t := hw () trivial
        rw [show (v + 1) * 8 = v * 8 + 8 by omega] at t
        exact t)))
  rw [show 0 * 8 = 0 from rfl, wk_mix0] at t
  exact t
/-! carry -/
def wk_cr (a h : Nat → Int32) (v w s : Nat) : Nat → Int32 := fun j => if j / 8 = w ∧ j % 8 < s then a j + h (v * 8 + j % 8) else a j
theorem wk_cr0 (a h : Nat → Int32) (v w : Nat) : wk_cr a h v w 0 = a := funext (fun j => if_neg (by omega))
theorem wk_crO {a h : Nat → Int32} {v w s : Nat} (hs : s < 8) : wk_cr a h v w s (w * 8 + s) = a (w * 8 + s) := if_neg (by omega)
theorem wk_crS {a h : Nat → Int32} {v w s : Nat} (hs : s < 8) : upd (wk_cr a h v w s) (w * 8 + s) (a (w * 8 + s) + h (v * 8 + s)) = wk_cr a h v w (s + 1) := by
  funext j
  by_cases e : j = w * 8 + s
  · have e2 : (w * 8 + s) % 8 = s := by omega
    rw [e, pk_us]
    show _ = if (w * 8 + s) / 8 = w ∧ (w * 8 + s) % 8 < s + 1 then a (w * 8 + s) + h (v * 8 + (w * 8 + s) % 8) else a (w * 8 + s)
    rw [if_pos (by omega), e2]
  · rw [pk_un e]
    show (if j / 8 = w ∧ j % 8 < s then a j + h (v * 8 + j % 8) else a j) = (if j / 8 = w ∧ j % 8 < s + 1 then a j + h (v * 8 + j % 8) else a j)
    by_cases c : j / 8 = w ∧ j % 8 < s
    · rw [if_pos c, if_pos (by omega)]
    · rw [if_neg c, if_neg (by omega)]
theorem wk_carry {post : St1 → Prop} {v w : Nat} (hv : v < 8) (hw : w < 8) (H : post (ec, sz, st, kn, a1, a2, a3, a4, a5, wk_cr a6 a7 v w 8, a7, a8)) : wpX_carry post (ec, sz, st, kn, a1, a2, a3, a4, a5, a6, a7, a8) (nI v) (nI w) := by
  have t : ∃ n, wX_carry_2 post (nI v) (nI w) ec sz st kn n (nI 0) a1 a2 a3 a4 a5 (wk_cr a6 a7 v w 0) a7 a8 :=
    pk_loop (σ := Unit) (fun n s _ => wX_carry_2 post (nI v) (nI w) ec sz st kn n (nI s) a1 a2 a3 a4 a5 (wk_cr a6 a7 v w s) a7 a8) (fun _ _ => True) 8 0 () (by omega) trivial
      (fun n _ _ => pk_le 8 8 (fun _ => H) (fun z => absurd z (by omega)))
      (fun n s _ hs _ hl => pk_le 8 s (fun z => absurd z (by omega)) (fun _ => ⟨pk_in (w * 8 + s) 64 (by omega) (wk_ix w s), pk_in (v * 8 + s) 64 (by omega) (wk_ix v s), pk_in (w * 8 + s) 64 (by omega) (wk_ix w s),
        nm_r (by rw [wk_ixc hw hs, wk_ixc hv hs, wk_crO hs]; exact wk_crS hs) (nm_r (nI_1 s) (hl () trivial))⟩))
  rw [wk_cr0] at t
  exact t
/-! spread -/
def wk_sp (a h : Nat → Int32) (x y : Int32) (v w : Nat) : Nat → Int32 := fun j => if j / 8 < w then a j + wk_cf x y (j / 8) * h (v * 8 + j % 8) else a j
theorem wk_spE {a h : Nat → Int32} {x y : Int32} {v w j : Nat} (e : ¬ j / 8 = w) : wk_sp a h x y v (w + 1) j = wk_sp a h x y v w j := by
  show (if j / 8 < w + 1 then a j + wk_cf x y (j / 8) * h (v * 8 + j % 8) else a j) = (if j / 8 < w then a j + wk_cf x y (j / 8) * h (v * 8 + j % 8) else a j)
  by_cases c : j / 8 < w
  · rw [if_pos c, if_pos (by omega)]
  · rw [if_neg c, if_neg (by omega)]
theorem wk_spI {a h : Nat → Int32} {x y : Int32} {v w j : Nat} (e : j / 8 = w) : wk_sp a h x y v (w + 1) j = a j + wk_cf x y w * h (v * 8 + j % 8) := by
  show (if j / 8 < w + 1 then a j + wk_cf x y (j / 8) * h (v * 8 + j % 8) else a j) = _
  rw [if_pos (by omega), e]
theorem wk_spJ {a h : Nat → Int32} {x y : Int32} {v w j : Nat} (e : j / 8 = w) : wk_sp a h x y v w j = a j := if_neg (by omega)
theorem wk_crI {a h : Nat → Int32} {v w j : Nat} (e : j / 8 = w) : wk_cr a h v w 8 j = a j + h (v * 8 + j % 8) := if_pos (by omega)
theorem wk_crE {a h : Nat → Int32} {v w j : Nat} (e : ¬ j / 8 = w) : wk_cr a h v w 8 j = a j := if_neg (by omega)
theorem wk_r0 (p q : Int32) : p + (0 + 0) * q = p := by grind
theorem wk_r1 (p q : Int32) : p + (1 + 0) * q = p + q := by grind
theorem wk_r1' (p q : Int32) : p + (0 + 1) * q = p + q := by grind
theorem wk_r2 (p q : Int32) : p + (1 + 1) * q = p + q + q := by grind
theorem wk_sp00 {a h : Nat → Int32} {x y : Int32} {v w : Nat} (hx : wk_bt x w = false) (hy : wk_bt y w = false) : wk_sp a h x y v w = wk_sp a h x y v (w + 1) := by
  funext j
  by_cases e : j / 8 = w
  · rw [wk_spI e, wk_spJ e]
    unfold wk_cf
    rw [hx, hy]
    exact (wk_r0 _ _).symm
  · rw [wk_spE e]
theorem wk_sp10 {a h : Nat → Int32} {x y : Int32} {v w : Nat} (hx : wk_bt x w = true) (hy : wk_bt y w = false) : wk_cr (wk_sp a h x y v w) h v w 8 = wk_sp a h x y v (w + 1) := by
  funext j
  by_cases e : j / 8 = w
  · rw [wk_spI e, wk_crI e, wk_spJ e]
    unfold wk_cf
    rw [hx, hy]
    exact (wk_r1 _ _).symm
  · rw [wk_spE e, wk_crE e]
theorem wk_sp01 {a h : Nat → Int32} {x y : Int32} {v w : Nat} (hx : wk_bt x w = false) (hy : wk_bt y w = true) : wk_cr (wk_sp a h x y v w) h v w 8 = wk_sp a h x y v (w + 1) := by
  funext j
  by_cases e : j / 8 = w
  · rw [wk_spI e, wk_crI e, wk_spJ e]
    unfold wk_cf
    rw [hx, hy]
    exact (wk_r1' _ _).symm
  · rw [wk_spE e, wk_crE e]
theorem wk_sp11 {a h : Nat → Int32} {x y : Int32} {v w : Nat} (hx : wk_bt x w = true) (hy : wk_bt y w = true) : wk_cr (wk_cr (wk_sp a h x y v w) h v w 8) h v w 8 = wk_sp a h x y v (w + 1) := by
  funext j
  by_cases e : j / 8 = w
  · rw [wk_spI e, wk_crI e, wk_crI e, wk_spJ e]
    unfold wk_cf
    rw [hx, hy]
    exact (wk_r2 _ _).symm
  · rw [wk_spE e, wk_crE e, wk_crE e]
theorem wk_nf {x : Bool} (h : ¬ x = false) : x = true := by cases x <;> first | rfl | exact absurd rfl h
theorem wk_sp52 {post : St1 → Prop} {x y : Int32} {v : Nat} (hv : v < 8) (H : ∀ s : Nat → Int32, (∀ j, j < 64 → s j = a6 j + wk_cf x y (j / 8) * a7 (v * 8 + j % 8)) → post (ec, sz, st, kn, a1, a2, a3, a4, a5, s, a7, a8)) :
    ∃ n, wX_spread_52 post (nI v) x y n 0 ec sz st kn a1 a2 a3 a4 a5 a6 a7 a8 := by
  have t : ∃ n, wX_spread_52 post (nI v) x y n (nI 0) ec sz st kn a1 a2 a3 a4 a5 (wk_sp a6 a7 x y v 0) a7 a8 := by
    refine pk_loop (σ := Unit) (fun n w _ => wX_spread_52 post (nI v) x y n (nI w) ec sz st kn a1 a2 a3 a4 a5 (wk_sp a6 a7 x y v w) a7 a8) (fun _ _ => True) 8 0 () (by omega) trivial
      (fun n _ _ => pk_le 8 8 (fun _ => H _ (fun j hj => if_pos (by omega))) (fun z => absurd z (by omega)))
      (fun n w _ hw _ hl => pk_le 8 w (fun z => absurd z (by omega)) (fun _ => br_c (fun hx => br_c (fun hy => nm_r (nI_1 w) ?_) (fun hy => wk_carry hv hw (nm_r (nI_1 w) ?_))) (fun hx => wk_carry hv hw (br_c (fun hy => nm_r (nI_1 w) ?_) (fun hy => wk_carry hv hw (nm_r (nI_1 w) ?_))))))
    · rw [wk_tst x (by omega)] at hx
      rw [wk_tst y (by omega)] at hy
      rw [wk_sp00 hx hy]
      exact hl () trivial
    · rw [wk_tst x (by omega)] at hx
      rw [wk_tst y (by omega)] at hy
      rw [wk_sp01 hx (wk_nf hy)]
      exact hl () trivial
    · rw [wk_tst x (by omega)] at hx
      rw [wk_tst y (by omega)] at hy
      rw [wk_sp10 (wk_nf hx) hy]
      exact hl () trivial
    · rw [wk_tst x (by omega)] at hx
      rw [wk_tst y (by omega)] at hy
      rw [wk_sp11 (wk_nf hx) (wk_nf hy)]
      exact hl () trivial
  rw [show wk_sp a6 a7 x y v 0 = a6 from funext (fun j => if_neg (by omega))] at t
  exact t
theorem wk_spread {post : St1 → Prop} {kd : Int32} {v l : Nat} (hv : v < 8) (hl : l < 2) (H : ∀ s : Nat → Int32, (∀ j, j < 64 → s j = a6 j + wk_cf (wk_fo kd a2 (l * 8 + v)) (wk_ba kd a3 (l * 8 + v)) (j / 8) * a7 (v * 8 + j % 8)) → post (ec, sz, st, kn, a1, a2, a3, a4, a5, s, a7, a8)) :
    wpX_spread post (ec, sz, st, kn, a1, a2, a3, a4, a5, a6, a7, a8) kd (nI v) (nI l) := by
  have c : (nI l * 8 + nI v).toNatClampNeg = l * 8 + v := wk_ixc (by omega) hv
  have i : vp_in (nI l * 8 + nI v) 16 := pk_in (l * 8 + v) 16 (by omega) (wk_ix l v)
  refine br_c (fun e => br_t e ⟨i, nm_r (congrArg a3 c) (wk_sp52 hv (fun s hs => H s ?_))⟩) (fun e => ⟨i, br_f e (br_c (fun e2 => ⟨i, nm_r (congrArg a3 c) (wk_sp52 hv (fun s hs => H s ?_))⟩) (fun e2 => wk_sp52 hv (fun s hs => H s ?_)))⟩)
  · intro j hj
    rw [hs j hj]
    unfold wk_fo wk_ba
    rw [if_pos e, if_pos (Or.inl e)]
  · intro j hj
    rw [hs j hj, c]
    unfold wk_fo wk_ba
    rw [if_neg e, if_pos (Or.inr e2)]
  · intro j hj
    rw [hs j hj, c]
    unfold wk_fo wk_ba
    rw [if_neg e, if_neg (fun z => z.elim e e2)]
/-! move -/
theorem wk_mvS {kd lb : Int32} {f b h : Nat → Int32} {v l : Nat} (hl : l < 2) (i : Nat) : wk_mv kd lb f b h (v * 2 + (l + 1)) i = wk_mv kd lb f b h (v * 2 + l) i + (if lb = 2 ∨ lb = nI l then wk_cf (wk_fo kd f (l * 8 + v)) (wk_ba kd b (l * 8 + v)) (i / 8) * h (v * 8 + i % 8) else 0) := by
  have e1 : (v * 2 + l) % 2 = l := by omega
  have e2 : (v * 2 + l) / 2 = v := by omega
  show wk_mv kd lb f b h (v * 2 + l) i + (if lb = 2 ∨ lb = nI ((v * 2 + l) % 2) then wk_cf (wk_fo kd f ((v * 2 + l) % 2 * 8 + (v * 2 + l) / 2)) (wk_ba kd b ((v * 2 + l) % 2 * 8 + (v * 2 + l) / 2)) (i / 8) * h ((v * 2 + l) / 2 * 8 + i % 8) else 0) = _
  rw [e1, e2]
theorem wk_mv44 {post : St1 → Prop} {J35 : Int32 → Int32 → Int32 → Int32 → Int32 → (Nat → Int32) → (Nat → Int32) → (Nat → Int32) → (Nat → Int32) → (Nat → Int32) → (Nat → Int32) → (Nat → Int32) → (Nat → Int32) → Prop} {kd lb : Int32} {v : Nat} (hv : v < 8) (h3 : ¬ kd = 3) (h6 : ∀ j, j < 64 → a6 j = wk_mv kd lb a2 a3 a7 (v * 2) j)
    (H : ∀ s : Nat → Int32, (∀ j, j < 64 → s j = wk_mv kd lb a2 a3 a7 (v * 2 + 2) j) → J35 (nI (v + 1)) ec sz st kn a1 a2 a3 a4 a5 s a7 a8) :
    ∃ n, wX_move_44 post J35 kd lb (nI v) n 0 ec sz st kn a1 a2 a3 a4 a5 a6 a7 a8 := by
  refine pk_loop (fun n l s => wX_move_44 post J35 kd lb (nI v) n (nI l) ec sz st kn a1 a2 a3 a4 a5 s a7 a8) (fun l s => ∀ j, j < 64 → s j = wk_mv kd lb a2 a3 a7 (v * 2 + l) j) 2 0 a6 (by omega) h6
    (fun n s hs => pk_le 2 2 (fun _ => br_f h3 (nm_r (nI_1 v) (H s hs))) (fun z => absurd z (by omega)))
    (fun n l s hl hs hw => pk_le 2 l (fun z => absurd z (by omega)) (fun _ => br_c (fun e2 => wk_spread hv hl (fun s' hs' => nm_r (nI_1 l) (hw s' ?_))) (fun n2 => br_c (fun el => wk_spread hv hl (fun s' hs' => nm_r (nI_1 l) (hw s' ?_))) (fun nl => nm_r (nI_1 l) (hw s ?_)))))
  · intro j hj
    rw [hs' j hj, hs j hj, wk_mvS hl, if_pos (Or.inl e2)]
  · intro j hj
    rw [hs' j hj, hs j hj, wk_mvS hl, if_pos (Or.inr el)]
  · intro j hj
    rw [hs j hj, wk_mvS hl, if_neg (fun z => z.elim n2 nl)]
    exact (Int32.add_zero _).symm
theorem wk_mv35 {post : St1 → Prop} {kd lb : Int32} (h3 : ¬ kd = 3) (h6 : ∀ j, j < 64 → a6 j = 0)
    (H : ∀ s : Nat → Int32, (∀ j, j < 64 → s j = wk_mv kd lb a2 a3 a7 16 j) → post (ec, sz, st, kn, a1, a2, a3, a4, a5, s, a7, a8)) :
    ∃ n, wX_move_35 post kd lb n 0 ec sz st kn a1 a2 a3 a4 a5 a6 a7 a8 :=
  pk_loop (fun n v s => wX_move_35 post kd lb n (nI v) ec sz st kn a1 a2 a3 a4 a5 s a7 a8) (fun v s => ∀ j, j < 64 → s j = wk_mv kd lb a2 a3 a7 (v * 2) j) 8 0 a6 (by omega) h6
    (fun n s hs => pk_le 8 8 (fun _ => H s hs) (fun z => absurd z (by omega)))
    (fun n v s hv hs hw => pk_le 8 v (fun z => absurd z (by omega)) (fun _ => wk_mv44 hv h3 hs (fun s' hs' => hw s' (fun j hj => by rw [show (v + 1) * 2 = v * 2 + 2 by omega]; exact hs' j hj))))
theorem wk_move {post : St1 → Prop} {kd lb : Int32} (h3 : ¬ kd = 3) (H : ∀ s c : Nat → Int32, (∀ j, j < 64 → s j = wk_mv kd lb a2 a3 a6 16 j) → post (ec, sz, st, kn, a1, a2, a3, a4, a5, s, c, a8)) :
    wpX_move post (ec, sz, st, kn, a1, a2, a3, a4, a5, a6, a7, a8) kd lb := by
  have t : ∃ n, wX_move_2 post kd lb ec sz st kn n (nI 0) a1 a2 a3 a4 a5 (wk_mix (fun _ => 0) a6 0) (wk_mix a6 a7 0) a8 :=
    pk_loop (σ := Unit) (fun n i _ => wX_move_2 post kd lb ec sz st kn n (nI i) a1 a2 a3 a4 a5 (wk_mix (fun _ => 0) a6 i) (wk_mix a6 a7 i) a8) (fun _ _ => True) 64 0 () (by omega) trivial
      (fun n _ _ => pk_le 64 64 (fun _ => wk_mv35 h3 (fun j hj => wk_mixV hj) (fun s hs => H s _ (fun j hj => by rw [hs j hj]; exact wk_mv_c (fun i hi => wk_mixV hi) 16 (by omega) j))) (fun z => absurd z (by omega)))
      (fun n i _ hi _ hw => pk_le 64 i (fun z => absurd z (by omega)) (fun _ => ⟨pk_in i 64 hi, pk_in i 64 hi, nm_r (by rw [nI_clamp (by omega)]; exact wk_mixS (wk_mixO (Nat.le_refl _))) ⟨pk_in i 64 hi, nm_r (by rw [nI_clamp (by omega)]; exact wk_mixS rfl) (nm_r (nI_1 i) (hw () trivial))⟩⟩))
  rw [wk_mix0, wk_mix0] at t
  exact t
end
end
section
section
variable {ec sz st kn : Int32} {a1 a2 a3 a4 a5 a6 a7 a8 : Nat → Int32}
/-- here and totals are those of the picture -/
def wk_G (n : Nat) (st : Int32) (a1 a2 a3 a4 a5 h t : Nat → Int32) : Prop :=
  (∀ i, i < 64 → h i = wk_hk a1 a2 a3 a4 a5 st n i) ∧ (∀ j, j ≤ n → t j = wk_sum (wk_hk a1 a2 a3 a4 a5 st j) 64)
theorem wk_w51 {post : St1 → Prop} {J15 : Int32 → (Nat → Int32) → (Nat → Int32) → (Nat → Int32) → (Nat → Int32) → (Nat → Int32) → (Nat → Int32) → (Nat → Int32) → (Nat → Int32) → Prop} {z : Int32} {F a : Nat → Int32} {i : Nat} (hi : i < 64) (hF : F i = if z = 0 then 0 else 1) (hw : J15 (nI (i + 1)) a1 a2 a3 a4 a5 (wk_mix F a (i + 1)) a7 a8) :
    wX_walk_51 post J15 (nI i) z ec sz st kn a1 a2 a3 a4 a5 (wk_mix F a i) a7 a8 :=
  br_c (fun e => ⟨pk_in i 64 hi, nm_r (by rw [nI_clamp (by omega)]; exact wk_mixS (by rw [hF, if_pos e])) (nm_r (nI_1 i) hw)⟩)
    (fun e => ⟨pk_in i 64 hi, nm_r (by rw [nI_clamp (by omega)]; exact wk_mixS (by rw [hF, if_neg e])) (nm_r (nI_1 i) hw)⟩)
theorem wk_w156 {post : St1 → Prop} {J85 : Int32 → Int32 → Int32 → Int32 → Int32 → (Nat → Int32) → (Nat → Int32) → (Nat → Int32) → (Nat → Int32) → (Nat → Int32) → (Nat → Int32) → (Nat → Int32) → (Nat → Int32) → Prop} {k : Nat} (hk : k < 6) (H : J85 (nI (k + 1)) ec sz st kn a1 a2 a3 a4 a5 a6 a7 (upd a8 (k + 1) (wk_sum a6 64))) :
    wX_walk_156 post J85 (nI k) ec sz st kn a1 a2 a3 a4 a5 a6 a7 a8 :=
  wk_total ⟨pk_in (k + 1) 7 (by omega) (nI_1 k), nm_r (by rw [nI_1, nI_clamp (by omega)]) (nm_r (nI_1 k) H)⟩
/-- one step more -/
theorem wk_nx {h h' t : Nat → Int32} {k : Nat} (g : wk_G k st a1 a2 a3 a4 a5 h t) (e : ∀ i, i < 64 → h' i = wk_st a1 a2 a3 (a4 k) (a5 k) h i) : wk_G (k + 1) st a1 a2 a3 a4 a5 h' (upd t (k + 1) (wk_sum h' 64)) := by
  have e' : ∀ i, i < 64 → h' i = wk_hk a1 a2 a3 a4 a5 st (k + 1) i := by
    intro i hi
    rw [e i hi]
    exact wk_st_c g.1 hi
  refine ⟨e', fun j hj => ?_⟩
  by_cases c : j = k + 1
  · rw [c, pk_us]
    exact wk_sum_c e'
  · rw [pk_un c]
    exact g.2 j (by omega)
theorem wk_w85 {post : St1 → Prop} {n : Nat} (hn : n ≤ 6) (h3 : ∀ i, i < n → ¬ a4 i = 3) (h6 : ∀ i, i < 64 → a6 i = wk_h0 st i) (h8 : a8 0 = wk_sum (wk_h0 st) 64)
    (H : ∀ h c t : Nat → Int32, wk_G n st a1 a2 a3 a4 a5 h t → post (ec, nI n, st, kn, a1, a2, a3, a4, a5, h, c, t)) :
    ∃ f, wX_walk_85 post f 0 ec (nI n) st kn a1 a2 a3 a4 a5 a6 a7 a8 := by
  refine pk_loop (σ := (Nat → Int32) × (Nat → Int32) × (Nat → Int32)) (fun f k s => wX_walk_85 post f (nI k) ec (nI n) st kn a1 a2 a3 a4 a5 s.1 s.2.1 s.2.2) (fun k s => wk_G k st a1 a2 a3 a4 a5 s.1 s.2.2) n 0 (a6, a7, a8) (by omega) ⟨h6, fun j hj => by rw [show j = 0 by omega]; exact h8⟩
    (fun f s g => pk_le n n (fun _ => H s.1 s.2.1 s.2.2 g) (fun z => absurd z (by omega))) ?_
  intro f k s hk g hw
  have cl : (nI k).toNatClampNeg = k := nI_clamp (by omega)
  have i6 : vp_in (nI k) 6 := pk_in k 6 (by omega)
  have k6 : k < 6 := by omega
  obtain ⟨h, c, t⟩ := s
  have hw' : ∀ h' c' t' : Nat → Int32, wk_G (k + 1) st a1 a2 a3 a4 a5 h' t' → wX_walk_85 post f (nI (k + 1)) ec (nI n) st kn a1 a2 a3 a4 a5 h' c' t' := fun h' c' t' z => hw (h', c', t') z
  have g' : wk_G k st a1 a2 a3 a4 a5 h t := g
  show wX_walk_85 post (f + 1) (nI k) ec (nI n) st kn a1 a2 a3 a4 a5 h c t
  refine pk_le n k (fun z => absurd z (by omega)) (fun _ => ⟨i6, br_c (fun c3 => ⟨i6, br_c (fun c7 => wk_keepOne (wk_w156 k6 (hw' _ _ _ (wk_nx g' ?_)))) (fun c7 => ⟨i6, i6, wk_filter (wk_w156 k6 (hw' _ _ _ (wk_nx g' ?_)))⟩)⟩) (fun c3 => ⟨i6, i6, wk_move ?_ (fun s c' hs => wk_w156 k6 (hw' _ _ _ (wk_nx g' ?_)))⟩)⟩)
  · intro i hi
    rw [cl] at c3 c7
    rw [wk_mixV hi]
    unfold wk_st
    rw [if_pos c3, if_pos c7]
  · intro i hi
    rw [wk_mixV hi]
    rw [cl] at c3 c7 ⊢
    unfold wk_st
    rw [if_pos c3, if_neg c7]
  · rw [cl]
    exact h3 k hk
  · intro i hi
    rw [hs i hi]
    rw [cl] at c3 ⊢
    unfold wk_st
    rw [if_neg c3]
theorem wk_w15 {post : St1 → Prop} {n : Nat} (hn : n ≤ 6) (h3 : ∀ i, i < n → ¬ a4 i = 3)
    (H : ∀ h c t : Nat → Int32, wk_G n st a1 a2 a3 a4 a5 h t → post (ec, nI n, st, kn, a1, a2, a3, a4, a5, h, c, t)) :
    ∃ f, wX_walk_15 post ec (nI n) st kn f 0 a1 a2 a3 a4 a5 a6 a7 a8 := by
  have t : ∃ f, wX_walk_15 post ec (nI n) st kn f (nI 0) a1 a2 a3 a4 a5 (wk_mix (wk_h0 st) a6 0) a7 a8 := by
    refine pk_loop (σ := Unit) (fun f i _ => wX_walk_15 post ec (nI n) st kn f (nI i) a1 a2 a3 a4 a5 (wk_mix (wk_h0 st) a6 i) a7 a8) (fun _ _ => True) 64 0 () (by omega) trivial
      (fun f _ _ => pk_le 64 64 (fun _ => wk_total (nm_e (wk_w85 hn h3 (fun i hi => wk_mixV hi) (by rw [pk_us]; exact wk_sum_c (fun i hi => wk_mixV hi)) H))) (fun z => absurd z (by omega)))
      (fun f i _ hi _ hw => pk_le 64 i (fun z => absurd z (by omega)) (fun _ => ⟨by decide, by decide, pk_eq (i / 8) (i % 8) (fun e => ⟨by decide, br_c (fun z => ?_) (fun z => ?_)⟩) (fun e => ?_) (wk_div hi) (wk_rem hi)⟩))
    · rw [wk_rem hi, wk_tst st (by omega)] at z
      exact wk_w51 (z := 0) hi (by unfold wk_h0; rw [z, if_neg (fun y => absurd y.2 (by decide)), if_pos rfl]) (hw () trivial)
    · rw [wk_rem hi, wk_tst st (by omega)] at z
      exact wk_w51 (z := 1) hi (by unfold wk_h0; rw [if_pos ⟨e, wk_nf z⟩, if_neg (by decide)]) (hw () trivial)
    · exact wk_w51 (z := 0) hi (by unfold wk_h0; rw [if_neg (fun y => e y.1), if_pos rfl]) (hw () trivial)
  rw [wk_mix0] at t
  exact t
theorem wk_walk {post : St1 → Prop} {n : Nat} (hn : n ≤ 6) (h3 : ∀ i, i < n → ¬ a4 i = 3) (hg : kn = 0 ∨ wk_G n st a1 a2 a3 a4 a5 a6 a8)
    (H : ∀ (kn' : Int32) (h c t : Nat → Int32), ¬ kn' = 0 → wk_G n st a1 a2 a3 a4 a5 h t → post (ec, nI n, st, kn', a1, a2, a3, a4, a5, h, c, t)) :
    wpX_walk post (ec, nI n, st, kn, a1, a2, a3, a4, a5, a6, a7, a8) :=
  br_c (fun _ => wk_w15 hn h3 (fun h c t g => H 1 h c t (by decide) g)) (fun e => H kn a6 a7 a8 e (hg.resolve_left e))
/-! answers of a state that is known -/
theorem wk_walkK {post : St1 → Prop} (hk : ¬ kn = 0) (H : post (ec, sz, st, kn, a1, a2, a3, a4, a5, a6, a7, a8)) : wpX_walk post (ec, sz, st, kn, a1, a2, a3, a4, a5, a6, a7, a8) :=
  br_f hk H
theorem wk_isV {post : Int32 → Prop} {v : Nat} (hv : v < 8) (H : post 1) : wpX_isVertex post () (nI v) :=
  br_f (nI_pos (by omega)) (pk_le 8 v (fun z => absurd z (by omega)) (fun _ => H))
theorem wk_at17 {post : Int32 → St1 → Prop} {v : Nat} (hv : v < 8) (H : post (wk_s8 a6 v) (ec, sz, st, kn, a1, a2, a3, a4, a5, a6, a7, a8)) : ∃ f, wX_at_17 post (nI v) ec sz st kn a1 a2 a3 a4 a5 a6 a7 a8 f 0 0 :=
  pk_loop (σ := Unit) (fun f s _ => wX_at_17 post (nI v) ec sz st kn a1 a2 a3 a4 a5 a6 a7 a8 f (wk_sum (fun s => a6 (v * 8 + s)) s) (nI s)) (fun _ _ => True) 8 0 () (by omega) trivial
    (fun f _ _ => pk_le 8 8 (fun _ => H) (fun z => absurd z (by omega)))
    (fun f s _ hs _ hw => pk_le 8 s (fun z => absurd z (by omega)) (fun _ => ⟨pk_in (v * 8 + s) 64 (by omega) (wk_ix v s), nm_r (by rw [wk_ixc hv hs]; rfl) (nm_r (nI_1 s) (hw () trivial))⟩))
theorem wk_atK {post : Int32 → St1 → Prop} {v : Nat} (hv : v < 8) (hk : ¬ kn = 0) (H : post (wk_s8 a6 v) (ec, sz, st, kn, a1, a2, a3, a4, a5, a6, a7, a8)) : wpX_at post (ec, sz, st, kn, a1, a2, a3, a4, a5, a6, a7, a8) (nI v) := by
  unfold wpX_at
  exact wk_isV hv (br_f (by decide) (wk_walkK hk (wk_at17 hv H)))
theorem wk_atU {post : Int32 → St1 → Prop} {n v : Nat} (hv : v < 8) (hn : n ≤ 6) (h3 : ∀ i, i < n → ¬ a4 i = 3) (hg : kn = 0 ∨ wk_G n st a1 a2 a3 a4 a5 a6 a8)
    (H : ∀ (kn' : Int32) (h c t : Nat → Int32), ¬ kn' = 0 → wk_G n st a1 a2 a3 a4 a5 h t → post (wk_s8 h v) (ec, nI n, st, kn', a1, a2, a3, a4, a5, h, c, t)) :
    wpX_at post (ec, nI n, st, kn, a1, a2, a3, a4, a5, a6, a7, a8) (nI v) := by
  unfold wpX_at
  exact wk_isV hv (br_f (by decide) (wk_walk hn h3 hg (fun kn' h c t e g => wk_at17 hv (H kn' h c t e g))))
theorem wk_walkers {post : Int32 → St1 → Prop} {n : Nat} (hn : n ≤ 6) (h3 : ∀ i, i < n → ¬ a4 i = 3) (hg : kn = 0 ∨ wk_G n st a1 a2 a3 a4 a5 a6 a8)
    (H : ∀ (kn' : Int32) (h c t : Nat → Int32), ¬ kn' = 0 → wk_G n st a1 a2 a3 a4 a5 h t → post (t n) (ec, nI n, st, kn', a1, a2, a3, a4, a5, h, c, t)) :
    wpX_walkers post (ec, nI n, st, kn, a1, a2, a3, a4, a5, a6, a7, a8) := by
  unfold wpX_walkers
  refine wk_walk hn h3 hg (fun kn' h c t e g => ⟨pk_in n 7 (by omega), ?_⟩)
  rw [nI_clamp (by omega)]
  exact H kn' h c t e g
theorem wk_betweenK {post : Int32 → St1 → Prop} {s v : Nat} (hs : s < 8) (hv : v < 8) (hk : ¬ kn = 0) (H : post (a6 (v * 8 + s)) (ec, sz, st, kn, a1, a2, a3, a4, a5, a6, a7, a8)) : wpX_between post (ec, sz, st, kn, a1, a2, a3, a4, a5, a6, a7, a8) (nI s) (nI v) := by
  unfold wpX_between
  refine wk_isV hs (br_f (by decide) (wk_isV hv (br_f (by decide) (wk_walkK hk ⟨pk_in (v * 8 + s) 64 (by omega) (wk_ix v s), ?_⟩))))
  rw [wk_ixc hv hs]
  exact H
theorem wk_startsK {post : Int32 → St1 → Prop} {v : Nat} (hv : v < 8) (hk : ¬ kn = 0) (H : post (wk_rc (fun s => a6 (v * 8 + s)) 8) (ec, sz, st, kn, a1, a2, a3, a4, a5, a6, a7, a8)) : wpX_startsAt post (ec, sz, st, kn, a1, a2, a3, a4, a5, a6, a7, a8) (nI v) := by
  refine pk_loop (σ := Unit) (fun f s _ => wX_startsAt_4 post (nI v) f (wk_rc (fun s => a6 (v * 8 + s)) s) (nI s) ec sz st kn a1 a2 a3 a4 a5 a6 a7 a8) (fun _ _ => True) 8 0 () (by omega) trivial
    (fun f _ _ => pk_le 8 8 (fun _ => H) (fun z => absurd z (by omega)))
    (fun f s _ hs _ hw => pk_le 8 s (fun z => absurd z (by omega)) (fun _ => wk_betweenK hs hv hk (br_c (fun g => nm_r ?_ (nm_r (nI_1 s) (hw () trivial))) (fun g => nm_r ?_ (nm_r (nI_1 s) (hw () trivial))))))
  · show _ = wk_rc (fun s => a6 (v * 8 + s)) s ||| (if a6 (v * 8 + s) ≤ 0 then 0 else (1 : Int32) <<< (nI s &&& 31))
    rw [if_pos g]
  · show _ = wk_rc (fun s => a6 (v * 8 + s)) s ||| (if a6 (v * 8 + s) ≤ 0 then 0 else (1 : Int32) <<< (nI s &&& 31))
    rw [if_neg g]
theorem wk_reachedK {post : Int32 → St1 → Prop} (hk : ¬ kn = 0) (H : post (wk_rc (wk_s8 a6) 8) (ec, sz, st, kn, a1, a2, a3, a4, a5, a6, a7, a8)) : wpX_reached post (ec, sz, st, kn, a1, a2, a3, a4, a5, a6, a7, a8) := by
  refine pk_loop (σ := Unit) (fun f v _ => wX_reached_4 post f (wk_rc (wk_s8 a6) v) (nI v) ec sz st kn a1 a2 a3 a4 a5 a6 a7 a8) (fun _ _ => True) 8 0 () (by omega) trivial
    (fun f _ _ => pk_le 8 8 (fun _ => H) (fun z => absurd z (by omega)))
    (fun f v _ hv _ hw => pk_le 8 v (fun z => absurd z (by omega)) (fun _ => wk_atK hv hk (br_c (fun g => nm_r ?_ (nm_r (nI_1 v) (hw () trivial))) (fun g => nm_r ?_ (nm_r (nI_1 v) (hw () trivial))))))
  · show _ = wk_rc (wk_s8 a6) v ||| (if wk_s8 a6 v ≤ 0 then 0 else (1 : Int32) <<< (nI v &&& 31))
    rw [if_pos g]
  · show _ = wk_rc (wk_s8 a6) v ||| (if wk_s8 a6 v ≤ 0 then 0 else (1 : Int32) <<< (nI v &&& 31))
    rw [if_neg g]
theorem wk_afterK {post : Int32 → St1 → Prop} {n v : Nat} (hn : n ≤ 6) (hv : v < 8) (hk : ¬ kn = 0) (H : post (if v ≤ n then a8 v else -1) (ec, nI n, st, kn, a1, a2, a3, a4, a5, a6, a7, a8)) : wpX_after post (ec, nI n, st, kn, a1, a2, a3, a4, a5, a6, a7, a8) (nI v) := by
  refine br_f (nI_pos (by omega)) (pk_le v n (fun z => wk_walkK hk ⟨pk_in v 7 (by omega), ?_⟩) (fun z => ?_))
  · rw [if_pos z] at H
    rw [nI_clamp (by omega)]
    exact H
  · rw [if_neg (by omega)] at H
    exact H
theorem wk_d6 {post : Int32 → St1 → Prop} {n : Nat} (hn : n ≤ 6) : ∀ m k, k + m = n + 1 → post (wk_da a8 k m) (ec, nI n, st, kn, a1, a2, a3, a4, a5, a6, a7, a8) → wX_diesAfter_6 post ec (nI n) st kn a1 a2 a3 a4 a5 a6 a7 a8 (m + 1) (nI k) := by
  intro m
  induction m with
  | zero =>
    intro k hk H
    exact pk_lt n k (fun _ => H) (fun z => absurd z (by omega))
  | succ m ih =>
    intro k hk H
    have H' : post (if a8 k = 0 then nI k else wk_da a8 (k + 1) m) (ec, nI n, st, kn, a1, a2, a3, a4, a5, a6, a7, a8) := H
    have cl : (nI k).toNatClampNeg = k := nI_clamp (by omega)
    refine pk_lt n k (fun z => absurd z (by omega)) (fun _ => ⟨pk_in k 7 (by omega), br_c (fun e => ?_) (fun e => nm_r (nI_1 k) (ih (k + 1) (by omega) ?_))⟩)
    · rw [cl] at e
      rw [if_pos e] at H'
      exact H'
    · rw [cl] at e
      rw [if_neg e] at H'
      exact H'
theorem wk_diesK {post : Int32 → St1 → Prop} {n : Nat} (hn : n ≤ 6) (hk : ¬ kn = 0) (H : post (wk_da a8 0 (n + 1)) (ec, nI n, st, kn, a1, a2, a3, a4, a5, a6, a7, a8)) : wpX_diesAfter post (ec, nI n, st, kn, a1, a2, a3, a4, a5, a6, a7, a8) := by
  unfold wpX_diesAfter
  exact wk_walkK hk ⟨n + 1 + 1, wk_d6 hn (n + 1) 0 (by omega) H⟩
end
end
section
section
variable {ec sz st kn kn' : Int32} {a1 a2 a3 a4 a5 a6 a7 a8 b4 b6 b7 b8 : Nat → Int32}
theorem wk_edges {post : Int32 → Prop} (H : post ec) : wpX_edges post (ec, sz, st, kn, a1, a2, a3, a4, a5, a6, a7, a8) := H
theorem wk_al52 {post : Int32 → St2 → Prop} {n : Nat} (hn : n ≤ 6) (hk : ¬ kn = 0) (hk' : ¬ kn' = 0) (e6 : ∀ i, i < 64 → a6 i = b6 i) (e8 : ∀ j, j ≤ n → a8 j = b8 j)
    (H : post 1 (ec, nI n, st, kn, a1, a2, a3, a4, a5, a6, a7, a8, ec, nI n, st, kn', a1, a3, a2, b4, a5, b6, b7, b8)) :
    ∃ f, wL_alike_52 post f 1 0 ec (nI n) st kn a1 a2 a3 a4 a5 a6 a7 a8 ec (nI n) st kn' a1 a3 a2 b4 a5 b6 b7 b8 := by
  refine pk_loop (σ := Unit) (fun f v _ => wL_alike_52 post f 1 (nI v) ec (nI n) st kn a1 a2 a3 a4 a5 a6 a7 a8 ec (nI n) st kn' a1 a3 a2 b4 a5 b6 b7 b8) (fun _ _ => True) 8 0 () (by omega) trivial
    (fun f _ _ => pk_le 8 8 (fun _ => ⟨rfl, H⟩) (fun z => absurd z (by omega)))
    (fun f v _ hv _ hw => pk_le 8 v (fun z => absurd z (by omega)) (fun _ => br_f (by decide) (wk_atK hv hk (wk_atK hv hk' (br_t ?_ (wk_startsK hv hk (wk_startsK hv hk' (br_t ?_ (wk_afterK hn hv hk (wk_afterK hn hv hk' (br_t ?_ (nm_r (nI_1 v) (hw () trivial)))))))))))))
  · exact wk_s8_c hv e6
  · exact wk_rc_c (fun i hi => e6 (v * 8 + i) (by omega))
  · by_cases c : v ≤ n
    · rw [if_pos c, if_pos c, e8 v c]
    · rw [if_neg c, if_neg c]
theorem wk_alike {post : Int32 → St2 → Prop} {n : Nat} (hn : n ≤ 6) (hr : ∀ i, i < n → wk_kr (a4 i) (b4 i)) (g : kn = 0 ∨ wk_G n st a1 a2 a3 a4 a5 a6 a8) (g' : kn' = 0 ∨ wk_G n st a1 a3 a2 b4 a5 b6 b8)
    (H : ∀ (k1 : Int32) (h c t : Nat → Int32) (k2 : Int32) (h' c' t' : Nat → Int32), wk_G n st a1 a2 a3 a4 a5 h t → wk_G n st a1 a3 a2 b4 a5 h' t' → post 1 (ec, nI n, st, k1, a1, a2, a3, a4, a5, h, c, t, ec, nI n, st, k2, a1, a3, a2, b4, a5, h', c', t')) :
    wpL_alike post (ec, nI n, st, kn, a1, a2, a3, a4, a5, a6, a7, a8, ec, nI n, st, kn', a1, a3, a2, b4, a5, b6, b7, b8) := by
  unfold wpL_alike
  refine wk_edges (wk_edges (br_t rfl (wk_walkers hn (fun i hi => (wk_kr3 (hr i hi)).1) g (fun k1 h c t e1 G1 => wk_walkers hn (fun i hi => (wk_kr3 (hr i hi)).2) g' (fun k2 h' c' t' e2 G2 => ?_)))))
  have e6 : ∀ i, i < 64 → h i = h' i := by
    intro i hi
    rw [G1.1 i hi, G2.1 i hi, wk_hk_s hr n (Nat.le_refl n)]
  have e8 : ∀ j, j ≤ n → t j = t' j := by
    intro j hj
    rw [G1.2 j hj, G2.2 j hj, wk_hk_s hr j hj]
  exact br_t (e8 n (Nat.le_refl n)) (wk_reachedK e1 (wk_reachedK e2 (br_t (wk_rc_c (fun v hv => wk_s8_c hv e6)) (wk_diesK hn e1 (wk_diesK hn e2 (br_t (wk_da_c e8 (n + 1) 0 (by omega)) (wk_al52 hn e1 e2 e6 e8 (H k1 h c t k2 h' c' t' G1 G2))))))))
theorem wk_from {post : Int32 → St1 → Prop} {x : Int32} (hx : ∃ j : Nat, j < 256 ∧ x = nI j) (H : post 1 (ec, sz, x, 0, a1, a2, a3, a4, a5, a6, a7, a8)) : wpX_from post (ec, sz, st, kn, a1, a2, a3, a4, a5, a6, a7, a8) x := by
  obtain ⟨j, hj, rfl⟩ := hx
  exact br_f (nI_pos (by omega)) (pk_le j 255 (fun _ => H) (fun z => absurd z (by omega)))
theorem wk_parted {post : Int32 → St1 → Prop} {n v : Nat} {x p : Int32} (hn : n ≤ 6) (hv : v < 8) (hx : ∃ j : Nat, j < 256 ∧ x = nI j) (h3 : ∀ i, i < n → ¬ a4 i = 3) (h7 : ∀ i, i < n → ¬ a4 i = 7)
    (H : ∀ (k1 : Int32) (h c t : Nat → Int32), wk_G n x a1 a2 a3 a4 a5 h t → post 1 (ec, nI n, x, k1, a1, a2, a3, a4, a5, h, c, t)) :
    wpL_parted post (ec, nI n, st, kn, a1, a2, a3, a4, a5, a6, a7, a8) x p (nI v) := by
  have m1 : ∃ j : Nat, j < 256 ∧ x &&& p = nI j := by
    obtain ⟨j, hj, rfl⟩ := hx
    exact wk_and_lt hj p
  have m2 : ∃ j : Nat, j < 256 ∧ x &&& (p ^^^ (-1)) = nI j := by
    obtain ⟨j, hj, rfl⟩ := hx
    exact wk_and_lt hj _
  unfold wpL_parted
  refine wk_from m1 (wk_atU hv hn h3 (Or.inl rfl) (fun k1 h1 c1 t1 e1 G1 => wk_from m2 (wk_atU hv hn h3 (Or.inl rfl) (fun k2 h2 c2 t2 e2 G2 => wk_from hx (br_f (by decide) (wk_atU hv hn h3 (Or.inl rfl) (fun k h c t e G => br_t ?_ (H k h c t G))))))))
  rw [wk_s8_c hv G.1, wk_s8_c hv G1.1, wk_s8_c hv G2.1]
  exact wk_s8_l (wk_hk_l x p h7 n (Nat.le_refl n)) v
end
end
section
section
variable {ec sz st kn : Int32} {a1 a2 a3 a4 a5 a6 a7 a8 : Nat → Int32}
theorem wk_isE {post : Int32 → Prop} {a b l : Nat} (ha : a < 8) (hb : b < 8) (hl : l < 2) (H0 : a = b → post 0) (H1 : a ≠ b → post 1) : wpX_isEdge post () (nI a) (nI b) (nI l) := by
  unfold wpX_isEdge
  exact wk_isV ha (br_f (by decide) (wk_isV hb (br_f (by decide) (pk_eq a b H0 (fun e => pk_eq l 0 (fun _ => H1 e) (fun e0 => pk_eq l 1 (fun _ => H1 e) (fun e1 => absurd hl (by omega))))))))
theorem wk_hasE {post : Int32 → Prop} {a b l : Nat} (ha : a < 8) (hb : b < 8) (hl : l < 2) (H0 : wk_bt (a2 (l * 8 + a)) b = false → post 0) (H1 : wk_bt (a2 (l * 8 + a)) b = true → post 1) : wpX_hasEdge post (ec, sz, st, kn, a1, a2, a3, a4, a5, a6, a7, a8) (nI a) (nI b) (nI l) := by
  refine ⟨pk_in (l * 8 + a) 16 (by omega) (wk_ix l a), br_c (fun z => ?_) (fun z => ?_)⟩
  · rw [wk_ixc (by omega) ha, wk_tst _ (by omega)] at z
    exact H0 z
  · rw [wk_ixc (by omega) ha, wk_tst _ (by omega)] at z
    exact H1 (wk_nf z)
def wk_tu (f : Nat → Int32) (l a b : Nat) : Nat → Int32 := upd f (l * 8 + a) ((f (l * 8 + a) ^^^ ((1 : Int32) <<< (nI b &&& 31))).toInt16.toInt32)
theorem wk_turn {post : St1 → Prop} {a b l : Nat} (ha : a < 8) (hb : b < 8) (hl : l < 2) (H : post (ec, sz, st, 0, a1, wk_tu a2 l a b, wk_tu a3 l b a, a4, a5, a6, a7, a8)) : wpX_turn post (ec, sz, st, kn, a1, a2, a3, a4, a5, a6, a7, a8) (nI a) (nI b) (nI l) :=
  nm_r (wk_ix l a) (nm_r (wk_ix l b) ⟨pk_in (l * 8 + a) 16 (by omega), pk_in (l * 8 + a) 16 (by omega), nm_r (by rw [nI_clamp (by omega)]; rfl) ⟨pk_in (l * 8 + b) 16 (by omega), pk_in (l * 8 + b) 16 (by omega), nm_r (by rw [nI_clamp (by omega)]; rfl) H⟩⟩)
/-- outward and inward are each other turned round -/
def wk_T (f g : Nat → Int32) : Prop := ∀ l a b, l < 2 → a < 8 → b < 8 → wk_bt (f (l * 8 + a)) b = wk_bt (g (l * 8 + b)) a
theorem wk_tu_bt {f : Nat → Int32} {l a b l' a' b' : Nat} (ha : a < 8) (hb : b < 8) (ha' : a' < 8) (hb' : b' < 8) : wk_bt (wk_tu f l a b (l' * 8 + a')) b' = (wk_bt (f (l' * 8 + a')) b' ^^ decide (l' = l ∧ a' = a ∧ b' = b)) := by
  unfold wk_tu
  by_cases c : l' = l ∧ a' = a
  · obtain ⟨rfl, rfl⟩ := c
    rw [pk_us, wk_b_sh _ (by omega), wk_b_xor, wk_b_1 b (by omega) b' (by omega)]
    simp
  · rw [pk_un (by omega), decide_eq_false (fun z => c ⟨z.1, z.2.1⟩), Bool.xor_false]
theorem wk_T_tu {f g : Nat → Int32} {l a b : Nat} (ha : a < 8) (hb : b < 8) (h : wk_T f g) : wk_T (wk_tu f l a b) (wk_tu g l b a) := by
  intro l' a' b' hl' ha' hb'
  rw [wk_tu_bt ha hb ha' hb', wk_tu_bt hb ha hb' ha', h l' a' b' hl' ha' hb']
  have e : (l' = l ∧ a' = a ∧ b' = b) ↔ (l' = l ∧ b' = b ∧ a' = a) := by omega
  rw [decide_eq_decide.mpr e]
theorem wk_join {post : Int32 → St1 → Prop} {a b l : Nat} (ha : a < 8) (hb : b < 8) (hl : l < 2) (H0 : ¬ (a ≠ b ∧ wk_bt (a2 (l * 8 + a)) b = false ∧ ec < 10) → post 0 (ec, sz, st, kn, a1, a2, a3, a4, a5, a6, a7, a8))
    (H1 : (a ≠ b ∧ wk_bt (a2 (l * 8 + a)) b = false ∧ ec < 10) → post 1 (ec + 1, sz, st, 0, a1, wk_tu a2 l a b, wk_tu a3 l b a, a4, a5, a6, a7, a8)) : wpX_join post (ec, sz, st, kn, a1, a2, a3, a4, a5, a6, a7, a8) (nI a) (nI b) (nI l) := by
  unfold wpX_join
  exact wk_isE ha hb hl (fun e => br_t rfl (H0 (fun z => z.1 e))) (fun e => br_f (by decide) (wk_hasE ha hb hl (fun g => br_t rfl (br_c (fun c => wk_turn ha hb hl (nm_e (H1 ⟨e, g, c⟩))) (fun c => H0 (fun z => c z.2.2)))) (fun g => br_f (by decide) (H0 (fun z => absurd (g.symm.trans z.2.1) (by decide))))))
theorem wk_cut {post : Int32 → St1 → Prop} {a b l : Nat} (ha : a < 8) (hb : b < 8) (hl : l < 2) (H0 : ¬ (a ≠ b ∧ wk_bt (a2 (l * 8 + a)) b = true) → post 0 (ec, sz, st, kn, a1, a2, a3, a4, a5, a6, a7, a8))
    (H1 : (a ≠ b ∧ wk_bt (a2 (l * 8 + a)) b = true) → post 1 (ec - 1, sz, st, 0, a1, wk_tu a2 l a b, wk_tu a3 l b a, a4, a5, a6, a7, a8)) : wpX_cut post (ec, sz, st, kn, a1, a2, a3, a4, a5, a6, a7, a8) (nI a) (nI b) (nI l) := by
  unfold wpX_cut
  exact wk_isE ha hb hl (fun e => br_t rfl (H0 (fun z => z.1 e))) (fun e => br_f (by decide) (wk_hasE ha hb hl (fun g => br_t rfl (H0 (fun z => absurd (g.symm.trans z.2) (by decide)))) (fun g => br_f (by decide) (wk_turn ha hb hl (nm_e (H1 ⟨e, g⟩))))))
theorem wk_mark {post : Int32 → St1 → Prop} {v m : Nat} (hv : v < 8) (hm : m < 8) (H : post 1 (ec, sz, st, 0, upd a1 v (nI m).toInt8.toInt32, a2, a3, a4, a5, a6, a7, a8)) : wpX_mark post (ec, sz, st, kn, a1, a2, a3, a4, a5, a6, a7, a8) (nI v) (nI m) := by
  unfold wpX_mark
  exact wk_isV hv (br_f (by decide) (br_f (nI_pos (by omega)) (pk_le m 9 (fun _ => ⟨pk_in v 8 hv, nm_r (by rw [nI_clamp (by omega)]) H⟩) (fun z => absurd z (by omega)))))
/-! add, drop -/
theorem wk_i8 : ∀ k, k < 8 → (nI k).toInt8.toInt32 = nI k := by decide +kernel
def wk_lb (k : Nat) (x : Int32) : Int32 := if k ≤ 4 then x else 0
theorem wk_a100 {post : Int32 → St1 → Prop} {n : Nat} {z : Int32} (hn : n < 6) (H : post (nI (n + 1)) (ec, nI (n + 1), st, 0, a1, a2, a3, a4, upd a5 n z.toInt8.toInt32, a6, a7, a8)) : wX_add_100 post z (nI n) ec (nI n) st kn a1 a2 a3 a4 a5 a6 a7 a8 :=
  ⟨pk_in n 6 hn, nm_r (by rw [nI_clamp (by omega)]) (nm_r (nI_1 n) H)⟩
theorem wk_a55 {post : Int32 → St1 → Prop} {n k m : Nat} {z : Int32} (hn : n ≤ 6) (hk : k < 8) (hz : z = 0 ↔ 3 < k) (H0 : n = 6 → post (-2) (ec, nI n, st, kn, a1, a2, a3, a4, a5, a6, a7, a8))
    (H1 : n < 6 → post (nI (n + 1)) (ec, nI (n + 1), st, 0, a1, a2, a3, upd a4 n (nI k), upd a5 n (wk_lb k (nI m)).toInt8.toInt32, a6, a7, a8)) : wX_add_55 post (nI k) (nI m) z ec (nI n) st kn a1 a2 a3 a4 a5 a6 a7 a8 := by
  refine pk_lt n 6 (fun h => ⟨pk_in n 6 h, nm_r (by rw [nI_clamp (by omega), wk_i8 k hk]) ?_⟩) (fun h => H0 (by omega))
  have t := H1 h
  refine br_c (fun z0 => pk_eq k 4 (fun e => wk_a100 h ?_) (fun e => wk_a100 h ?_)) (fun z0 => wk_a100 h ?_)
  · rw [show wk_lb k (nI m) = nI m from if_pos (by omega)] at t
    exact t
  · have := hz.mp z0
    rw [show wk_lb k (nI m) = 0 from if_neg (by omega)] at t
    exact t
  · have y : ¬ 3 < k := fun y => z0 (hz.mpr y)
    rw [show wk_lb k (nI m) = nI m from if_pos (by omega)] at t
    exact t
theorem wk_a38 {post : Int32 → St1 → Prop} {n k m : Nat} {z : Int32} (hm : m < 3) (hk : k < 8) (H : wX_add_55 post (nI k) (nI m) z ec (nI n) st kn a1 a2 a3 a4 a5 a6 a7 a8) : wX_add_38 post (nI k) (nI m) z ec (nI n) st kn a1 a2 a3 a4 a5 a6 a7 a8 :=
  br_c (fun _ => br_f (nI_pos (by omega)) (pk_le m 9 (fun _ => H) (fun y => absurd y (by omega)))) (fun _ => H)
theorem wk_add {post : Int32 → St1 → Prop} {n k m : Nat} (hn : n ≤ 6) (hk : k < 8) (hm : m < 3) (H0 : n = 6 → post (-2) (ec, nI n, st, kn, a1, a2, a3, a4, a5, a6, a7, a8))
    (H1 : n < 6 → post (nI (n + 1)) (ec, nI (n + 1), st, 0, a1, a2, a3, upd a4 n (nI k), upd a5 n (wk_lb k (nI m)).toInt8.toInt32, a6, a7, a8)) : wpX_add post (ec, nI n, st, kn, a1, a2, a3, a4, a5, a6, a7, a8) (nI k) (nI m) :=
  br_f (nI_pos (by omega)) (pk_lt 3 k
    (fun h => br_f (nI_pos (by omega)) (pk_lt 7 k (fun y => absurd y (by omega)) (fun _ => br_t rfl (wk_a38 hm hk (wk_a55 hn hk ⟨fun _ => h, fun _ => rfl⟩ H0 H1)))))
    (fun h => br_f (nI_pos (by omega)) (pk_lt 7 k (fun y => absurd y (by omega)) (fun _ => br_f (by decide) (br_f (nI_pos (by omega)) (pk_lt 2 m (fun y => absurd y (by omega)) (fun _ => wk_a38 hm hk (wk_a55 hn hk ⟨fun y => absurd y (by decide), fun y => absurd y (by omega)⟩ H0 H1))))))))
theorem wk_drop0 {post : Int32 → St1 → Prop} (H : post (-1) (ec, nI 0, st, kn, a1, a2, a3, a4, a5, a6, a7, a8)) : wpX_drop post (ec, nI 0, st, kn, a1, a2, a3, a4, a5, a6, a7, a8) := br_t rfl H
theorem wk_dropS {post : Int32 → St1 → Prop} {m : Nat} (hm : m < 6) (H : post (nI m) (ec, nI m, st, 0, a1, a2, a3, a4, a5, a6, a7, a8)) : wpX_drop post (ec, nI (m + 1), st, kn, a1, a2, a3, a4, a5, a6, a7, a8) :=
  br_f (nI_ne0 (by omega) (by omega)) (nm_r (nI_pred m) H)
end
end
section
/-- what the two objects and the law's own numbers keep -/
def wk_C (n : Nat) (on : Int32) (a2 a3 a4 b4 : Nat → Int32) : Prop :=
  n ≤ 6 ∧ (∀ i, i < n → wk_kr (a4 i) (b4 i)) ∧ (∀ i, i < n → a4 i = 7 → wk_bt on i = true) ∧ wk_T a2 a3
/-- what goes on at place i does so from any such state -/
def wk_J (J : Int32 → Int32 → Int32 → Int32 → Int32 → Int32 → Int32 → Int32 → (Nat → Int32) → (Nat → Int32) → (Nat → Int32) → (Nat → Int32) → (Nat → Int32) → (Nat → Int32) → (Nat → Int32) → (Nat → Int32) → Int32 → Int32 → Int32 → Int32 → (Nat → Int32) → (Nat → Int32) → (Nat → Int32) → (Nat → Int32) → (Nat → Int32) → (Nat → Int32) → (Nat → Int32) → (Nat → Int32) → Prop) (i : Nat) : Prop :=
  ∀ (n s : Nat) (on ec kn kn' : Int32) (a1 a2 a3 a4 a5 a6 a7 a8 b4 b6 b7 b8 : Nat → Int32), s < 256 → wk_C n on a2 a3 a4 b4 → (kn = 0 ∨ wk_G n (nI s) a1 a2 a3 a4 a5 a6 a8) → (kn' = 0 ∨ wk_G n (nI s) a1 a3 a2 b4 a5 b6 b8) →
    J (nI s) on (nI n) (nI i) ec (nI n) (nI s) kn a1 a2 a3 a4 a5 a6 a7 a8 ec (nI n) (nI s) kn' a1 a3 a2 b4 a5 b6 b7 b8
section
variable {L kc ks : Nat} {xs : Nat → Int32} {J27 : Int32 → Int32 → Int32 → Int32 → Int32 → Int32 → Int32 → Int32 → (Nat → Int32) → (Nat → Int32) → (Nat → Int32) → (Nat → Int32) → (Nat → Int32) → (Nat → Int32) → (Nat → Int32) → (Nat → Int32) → Int32 → Int32 → Int32 → Int32 → (Nat → Int32) → (Nat → Int32) → (Nat → Int32) → (Nat → Int32) → (Nat → Int32) → (Nat → Int32) → (Nat → Int32) → (Nat → Int32) → Prop}
variable {n s i v : Nat} {x8 on ec kn kn' : Int32} {a1 a2 a3 a4 a5 a6 a7 a8 b4 b6 b7 b8 : Nat → Int32}
theorem wk_408 (hJ : wk_J J27 (i + 1)) (hv : v < 8) (hs : s < 256) (C : wk_C n on a2 a3 a4 b4) (g : kn = 0 ∨ wk_G n (nI s) a1 a2 a3 a4 a5 a6 a8) (g' : kn' = 0 ∨ wk_G n (nI s) a1 a3 a2 b4 a5 b6 b8) :
    wL_law_408 (fun r => r = 1) L xs J27 (nI s) on (nI n) (nI i) x8 (nI v) kc ks ec (nI n) (nI s) kn a1 a2 a3 a4 a5 a6 a7 a8 ec (nI n) (nI s) kn' a1 a3 a2 b4 a5 b6 b7 b8 := by
  unfold wL_law_408
  refine wk_alike C.1 C.2.1 g g' (fun k1 h c t k2 h' c' t' G1 G2 => br_f (by decide) (br_c
    (fun o0 => wk_parted C.1 hv ⟨s, hs, rfl⟩ (fun j hj => (wk_kr3 (C.2.1 j hj)).2) (fun j hj => wk_kr7 (C.2.1 j hj) ?_) (fun k3 h3 c3 t3 G3 => br_f (by decide) (nm_r (nI_1 i) (hJ _ _ _ _ _ _ _ _ _ _ _ _ _ _ _ _ _ _ hs C (Or.inr G1) (Or.inr G3)))))
    (fun _ => nm_r (nI_1 i) (hJ _ _ _ _ _ _ _ _ _ _ _ _ _ _ _ _ _ _ hs C (Or.inr G1) (Or.inr G2)))))
  intro e7
  have t := C.2.2.1 j hj e7
  rw [o0, wk_b_0] at t
  exact absurd t (by decide)
theorem wk_C_add7 {k k' : Nat} (C : wk_C n on a2 a3 a4 b4) (hn : n < 6) (hr : wk_kr (nI k) (nI k')) : wk_C (n + 1) (on ||| ((1 : Int32) <<< (nI n &&& 31))) a2 a3 (upd a4 n (nI k)) (upd b4 n (nI k')) := by
  refine ⟨by omega, fun j hj => ?_, fun j hj e => ?_, C.2.2.2⟩
  · by_cases c : j = n
    · rw [c, pk_us, pk_us]
      exact hr
    · rw [pk_un c, pk_un c]
      exact C.2.1 j (by omega)
  · rw [wk_b_or, wk_b_1 n (by omega) j (by omega)]
    by_cases c : j = n
    · rw [decide_eq_true c, Bool.or_true]
    · rw [pk_un c] at e
      rw [C.2.2.1 j (by omega) e, Bool.true_or]
theorem wk_C_addN {k k' : Nat} (C : wk_C n on a2 a3 a4 b4) (hn : n < 6) (hr : wk_kr (nI k) (nI k')) (h7 : ¬ nI k = 7) : wk_C (n + 1) (on &&& (((1 : Int32) <<< (nI n &&& 31)) ^^^ (-1))) a2 a3 (upd a4 n (nI k)) (upd b4 n (nI k')) := by
  refine ⟨by omega, fun j hj => ?_, fun j hj e => ?_, C.2.2.2⟩
  · by_cases c : j = n
    · rw [c, pk_us, pk_us]
      exact hr
    · rw [pk_un c, pk_un c]
      exact C.2.1 j (by omega)
  · by_cases c : j = n
    · rw [c, pk_us] at e
      exact absurd e h7
    · rw [pk_un c] at e
      rw [wk_b_and, wk_b_xor, wk_b_1 n (by omega) j (by omega), wk_b_m1 j (by omega), C.2.2.1 j (by omega) e, decide_eq_false c]
      rfl
theorem wk_C_drop {m : Nat} (C : wk_C n on a2 a3 a4 b4) (hm : m ≤ n) : wk_C m (on &&& (((1 : Int32) <<< (nI m &&& 31)) - 1)) a2 a3 a4 b4 := by
  have := C.1
  refine ⟨by omega, fun j hj => C.2.1 j (by omega), fun j hj e => ?_, C.2.2.2⟩
  rw [wk_b_and, C.2.2.1 j (by omega) e, wk_b_mk m (by omega) j hj]
  rfl
/-- add at q, behind add at o: there is room -/
theorem wk_262 {k k' m : Nat} (hJ : wk_J J27 (i + 1)) (hv : v < 8) (hs : s < 256) (C : wk_C n on a2 a3 a4 b4) (hn : n < 6) (hk' : k' < 8) (hk : k < 8) (hm : m < 3) (hr : wk_kr (nI k) (nI k')) (hl : k ≤ 4 ↔ k' ≤ 4) :
    wL_law_262 (fun r => r = 1) L xs J27 (nI s) on (nI n) (nI i) x8 (nI v) (nI k) (nI m) (nI (n + 1)) (nI k') kc ks ec (nI (n + 1)) (nI s) 0 a1 a2 a3 (upd a4 n (nI k)) (upd a5 n (wk_lb k (nI m)).toInt8.toInt32) a6 a7 a8 ec (nI n) (nI s) kn' a1 a3 a2 b4 a5 b6 b7 b8 := by
  have el : wk_lb k' (nI m) = wk_lb k (nI m) := by
    unfold wk_lb
    by_cases c : k ≤ 4
    · rw [if_pos c, if_pos (hl.mp c)]
    · rw [if_neg c, if_neg (fun z => c (hl.mpr z))]
  have p : ¬ nI (n + 1) ≤ 0 := nI_nle (by omega) (by omega)
  unfold wL_law_262
  refine wk_add (by omega) hk' hm (fun e => absurd e (by omega)) (fun _ => ?_)
  rw [el]
  exact br_t rfl (br_f p (br_c (fun _ => br_f p (wk_408 hJ hv hs (wk_C_add7 C hn hr) (Or.inl rfl) (Or.inl rfl))) (fun e7 => br_f p (wk_408 hJ hv hs (wk_C_addN C hn hr e7) (Or.inl rfl) (Or.inl rfl)))))
/-- the same, no room -/
theorem wk_262f {k' m : Nat} {x12 : Int32} (hJ : wk_J J27 (i + 1)) (hv : v < 8) (hs : s < 256) (C : wk_C n on a2 a3 a4 b4) (hn : n = 6) (hk' : k' < 8) (hm : m < 3) (g : kn = 0 ∨ wk_G n (nI s) a1 a2 a3 a4 a5 a6 a8) (g' : kn' = 0 ∨ wk_G n (nI s) a1 a3 a2 b4 a5 b6 b8) :
    wL_law_262 (fun r => r = 1) L xs J27 (nI s) on (nI n) (nI i) x8 (nI v) x12 (nI m) (-2) (nI k') kc ks ec (nI n) (nI s) kn a1 a2 a3 a4 a5 a6 a7 a8 ec (nI n) (nI s) kn' a1 a3 a2 b4 a5 b6 b7 b8 := by
  unfold wL_law_262
  exact wk_add (by omega) hk' hm (fun _ => br_t rfl (br_t (by decide) (br_t (by decide) (wk_408 hJ hv hs C g g')))) (fun h => absurd h (by omega))
theorem wk_221 {k : Nat} (hJ : wk_J J27 (i + 1)) (hv : v < 8) (hs : s < 256) (hk : k < 8) (k3 : k ≠ 3) (C : wk_C n on a2 a3 a4 b4) (g : kn = 0 ∨ wk_G n (nI s) a1 a2 a3 a4 a5 a6 a8) (g' : kn' = 0 ∨ wk_G n (nI s) a1 a3 a2 b4 a5 b6 b8) :
    wL_law_221 (fun r => r = 1) L xs J27 (nI s) on (nI n) (nI i) x8 (nI v) (nI k) kc ks ec (nI n) (nI s) kn a1 a2 a3 a4 a5 a6 a7 a8 ec (nI n) (nI s) kn' a1 a3 a2 b4 a5 b6 b7 b8 := by
  obtain ⟨j, hj, ej⟩ := pk_andE (x8 >>> ((7 : Int32) &&& 31)) (m := 255) 8 (by decide)
  have em : ((x8 >>> ((7 : Int32) &&& 31)) &&& 255) - ((x8 >>> ((7 : Int32) &&& 31)) &&& 255) / 3 * 3 = nI (j % 3) := by
    rw [ej]
    exact pk_rem (d := 3) (by omega) (by omega) (by omega)
  have hm : j % 3 < 3 := by omega
  have r2 : 2 ≤ k → wk_kr (nI k) (nI k) := by
    intro h
    by_cases c : k = 2
    · subst c
      exact Or.inr (Or.inr (Or.inl ⟨rfl, rfl⟩))
    · exact Or.inr (Or.inr (Or.inr ⟨nI_lt (a := 3) (by omega) (by omega), rfl⟩))
  have r1 : k < 2 → (1 : Int32) - nI k = nI (1 - k) := fun h => pk_sub (a := 1) (by omega)
  have r0 : k < 2 → wk_kr (nI k) (nI (1 - k)) := by
    intro h
    by_cases c : k = 0
    · subst c
      exact Or.inl ⟨rfl, rfl⟩
    · have c' : k = 1 := by omega
      subst c'
      exact Or.inr (Or.inl ⟨rfl, rfl⟩)
  unfold wL_law_221
  refine ⟨by decide, nm_r em (wk_add C.1 hk hm (fun e6 => pk_le 2 k (fun k2 => wk_262f hJ hv hs C e6 hk hm g g') (fun k2 => ?_)) (fun h6 => pk_le 2 k (fun k2 => wk_262 hJ hv hs C h6 hk hk hm (r2 k2) Iff.rfl) (fun k2 => ?_)))⟩
  · rw [r1 k2]
    exact wk_262f hJ hv hs C e6 (by omega) hm g g'
  · rw [r1 k2]
    exact wk_262 hJ hv hs C h6 (by omega) hk hm (r0 k2) (by omega)
end
theorem wk_step {L kc ks m i : Nat} {xs : Nat → Int32} (hi : i < L) (hL : L ≤ 260) (hJ : wk_J (wL_law_27 (fun r => r = 1) L xs kc ks m) (i + 1)) : wk_J (wL_law_27 (fun r => r = 1) L xs kc ks (m + 1)) i := by
  intro n s on ec kn kn' a1 a2 a3 a4 a5 a6 a7 a8 b4 b6 b7 b8 hs C g g'
  refine pk_le L i (fun z => absurd z (by omega)) (fun _ => ⟨pk_in i L hi, fun x7 _ => ⟨pk_in i L hi, fun x8 _ x9 e9 x10 e10 x11 e11 => ?_⟩⟩)
  obtain ⟨a, ha, ea⟩ := pk_andE x8 (m := 7) 3 (by decide)
  obtain ⟨b, hb, eb⟩ := pk_andE (x8 >>> ((3 : Int32) &&& 31)) (m := 7) 3 (by decide)
  obtain ⟨l, hl, el⟩ := pk_andE (x8 >>> ((6 : Int32) &&& 31)) (m := 1) 1 (by decide)
  rw [ea] at e9
  rw [eb] at e10
  rw [el] at e11
  subst e9 e10 e11
  have ha8 : a < 8 := ha
  have hb8 : b < 8 := hb
  have hl2 : l < 2 := hl
  refine br_c (fun _ => br_c (fun _ => br_c (fun _ => br_c (fun _ => br_c (fun _ => ?_) (fun _ => ?_)) (fun _ => ?_)) (fun _ => ?_)) (fun _ => ?_)) (fun _ => ?_)
  · intro x3 e3
    obtain ⟨s', hs', es⟩ := pk_andE x8 (m := 255) 8 (by decide)
    rw [es] at e3
    subst e3
    exact wk_from ⟨s', hs', rfl⟩ (wk_from ⟨s', hs', rfl⟩ (wk_408 hJ ha8 hs' C (Or.inl rfl) (Or.inl rfl)))
  · cases n with
    | zero => exact wk_drop0 (wk_drop0 (br_t rfl (br_t (by decide) (nm_e (wk_408 hJ ha8 hs (wk_C_drop C (Nat.le_refl 0)) g g')))))
    | succ m =>
      have h6 := C.1
      exact wk_dropS (by omega) (wk_dropS (by omega) (br_t rfl (br_f (nI_pos (by omega)) (nm_e (wk_408 hJ ha8 hs (wk_C_drop C (Nat.le_succ m)) (Or.inl rfl) (Or.inl rfl))))))
  · exact pk_eq b 3 (fun _ => wk_221 (k := 2) hJ ha8 hs (by omega) (by omega) C g g') (fun e => wk_221 hJ ha8 hs hb8 e C g g')
  · obtain ⟨q, hq, eq⟩ := pk_andE (x8 >>> ((7 : Int32) &&& 31)) (m := 7) 3 (by decide)
    rw [eq]
    exact wk_mark ha8 hq (wk_mark ha8 hq (wk_408 hJ ha8 hs C (Or.inl rfl) (Or.inl rfl)))
  · have T := C.2.2.2 l a b hl2 ha8 hb8
    exact wk_cut ha8 hb8 hl2 (fun h => wk_cut hb8 ha8 hl2 (fun _ => br_t rfl (wk_408 hJ ha8 hs C g g')) (fun h' => absurd ⟨fun e => h'.1 e.symm, T.trans h'.2⟩ h))
      (fun h => wk_cut hb8 ha8 hl2 (fun h' => absurd ⟨fun e => h.1 e.symm, T.symm.trans h.2⟩ h') (fun _ => br_t rfl (wk_408 hJ ha8 hs ⟨C.1, C.2.1, C.2.2.1, wk_T_tu ha8 hb8 C.2.2.2⟩ (Or.inl rfl) (Or.inl rfl))))
  · have T := C.2.2.2 l a b hl2 ha8 hb8
    exact wk_join ha8 hb8 hl2 (fun h => wk_join hb8 ha8 hl2 (fun _ => br_t rfl (wk_408 hJ ha8 hs C g g')) (fun h' => absurd ⟨fun e => h'.1 e.symm, T.trans h'.2.1, h'.2.2⟩ h))
      (fun h => wk_join hb8 ha8 hl2 (fun h' => absurd ⟨fun e => h.1 e.symm, T.symm.trans h.2.1, h.2.2⟩ h') (fun _ => br_t rfl (wk_408 hJ ha8 hs ⟨C.1, C.2.1, C.2.2.1, wk_T_tu ha8 hb8 C.2.2.2⟩ (Or.inl rfl) (Or.inl rfl))))
theorem wk_loop {L kc ks : Nat} {xs : Nat → Int32} (hL : L ≤ 260) : ∀ m i, i + m = L → wk_J (wL_law_27 (fun r => r = 1) L xs kc ks (m + 1)) i := by
  intro m
  induction m with
  | zero =>
    intro i hi n s on ec kn kn' a1 a2 a3 a4 a5 a6 a7 a8 b4 b6 b7 b8 hs C g g'
    exact pk_le L i (fun _ => rfl) (fun z => absurd z (by omega))
  | succ m ih => exact fun i hi => wk_step (by omega) hL (ih (i + 1) (by omega))
end
section
theorem i_vc (xs : Nat → Int32) (L : Nat) (hL : L ≤ 260) : wpL_law (fun r => r = 1) L xs := by
  have e : ∃ fu : Nat, wL_law_27 (fun r => r = 1) L xs (1 + 8 + 1 + 8) (12 + 187 + 12 + 187) fu 0 0 0 0 0 0 0 0 (fun _ => 0) (fun _ => 0) (fun _ => 0) (fun _ => 0) (fun _ => 0) (fun _ => 0) (fun _ => 0) (fun _ => 0) 0 0 0 0 (fun _ => 0) (fun _ => 0) (fun _ => 0) (fun _ => 0) (fun _ => 0) (fun _ => 0) (fun _ => 0) (fun _ => 0) :=
    ⟨L + 1, wk_loop hL L 0 (by omega) 0 0 0 0 0 0 _ _ _ _ _ _ _ _ _ _ _ _ (by omega) ⟨by omega, fun j hj => absurd hj (by omega), fun j hj => absurd hj (by omega), fun _ _ _ _ _ _ => by rw [wk_b_0, wk_b_0]⟩ (Or.inl rfl) (Or.inl rfl)⟩
  refine ⟨8, 187, by omega, by omega, ?_⟩
  refine ⟨by omega, by omega, by omega, by omega, by omega, by omega, by omega, by omega, by omega, by omega, by omega, by omega, by omega, by omega, by omega, by omega, ?_⟩
  refine ⟨by omega, by omega, 8, 187, by omega, by omega, ?_⟩
  exact ⟨by omega, by omega, by omega, by omega, by omega, by omega, by omega, by omega, by omega, by omega, by omega, by omega, by omega, by omega, by omega, by omega, e⟩
end
