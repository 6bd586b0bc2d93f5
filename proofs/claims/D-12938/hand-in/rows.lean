section
/-! numbers, arrays as images of Nat functions, bits, packing -/
def zb_nF (f : Nat → Nat) : Nat → Int32 := fun j => nI (f j)
def zb_lF (f : Nat → Nat) : Nat → Int64 := fun j => lN (f j)
def zb_ud (f : Nat → Nat) (k x : Nat) : Nat → Nat := fun j => if j = k then x else f j
theorem zb_us (f : Nat → Nat) (k x : Nat) : zb_ud f k x k = x := if_pos rfl
theorem zb_un (f : Nat → Nat) {k j : Nat} (x : Nat) (h : j ≠ k) : zb_ud f k x j = f j := if_neg h
theorem zb_ui (f : Nat → Nat) (k x : Nat) : upd (zb_nF f) k (nI x) = zb_nF (zb_ud f k x) := by
  funext j
  by_cases h : j = k
  · rw [h, pk_us]
    show _ = nI (zb_ud f k x k)
    rw [zb_us]
  · rw [pk_un h]
    show _ = nI (zb_ud f k x j)
    rw [zb_un f x h]
    rfl
theorem zb_ul (f : Nat → Nat) (k x : Nat) : vp_updL (zb_lF f) k (lN x) = zb_lF (zb_ud f k x) := by
  funext j
  by_cases h : j = k
  · rw [h, pk_uLs]
    show _ = lN (zb_ud f k x k)
    rw [zb_us]
  · rw [pk_uLn h]
    show _ = lN (zb_ud f k x j)
    rw [zb_un f x h]
    rfl
theorem zb_i32 (x : Int32) : x = nI x.toBitVec.toNat := Int32.toBitVec_inj.mp (by show _ = BitVec.ofNat 32 _; simp)
theorem zb_i64 (x : Int64) : x = lN x.toBitVec.toNat := Int64.toBitVec_inj.mp (by show _ = BitVec.ofNat 64 _; simp)
theorem zb_nFx (a : Nat → Int32) : ∃ f, a = zb_nF f := ⟨fun j => (a j).toBitVec.toNat, funext fun j => zb_i32 (a j)⟩
theorem zb_lFx (a : Nat → Int64) : ∃ f, a = zb_lF f := ⟨fun j => (a j).toBitVec.toNat, funext fun j => zb_i64 (a j)⟩
/-! bits -/
def zb_bt (x k : Nat) : Nat := x / 2 ^ k % 2
theorem zb_bt_le (x k : Nat) : zb_bt x k ≤ 1 := by unfold zb_bt; omega
theorem zb_tb (x k : Nat) : zb_bt x k = (x.testBit k).toNat := (Nat.toNat_testBit x k).symm
theorem zb_tb1 {x k : Nat} : zb_bt x k = 1 ↔ x.testBit k = true := by rw [zb_tb]; cases x.testBit k <;> decide
theorem zb_tb0 {x k : Nat} : zb_bt x k = 0 ↔ x.testBit k = false := by rw [zb_tb]; cases x.testBit k <;> decide
theorem zb_btE {x y k : Nat} (h : x.testBit k = y.testBit k) : zb_bt x k = zb_bt y k := by rw [zb_tb, zb_tb, h]
theorem zb_hi {x k : Nat} (h : x < 128) (hk : 7 ≤ k) : x.testBit k = false :=
  Nat.testBit_lt_two_pow (Nat.lt_of_lt_of_le h (Nat.pow_le_pow_right (by decide) hk : 2 ^ 7 ≤ 2 ^ k))
theorem zb_lo {x k : Nat} (h : x < 128) (hk : x.testBit k = true) : k < 7 := by
  rcases Nat.lt_or_ge k 7 with z | z
  · exact z
  · rw [zb_hi h z] at hk
    exact absurd hk (by decide)
theorem zb_sl : ∀ n, n < 32 → ((nI n &&& 31).toBitVec.smod 32).toNat = n := by decide +kernel
theorem zb_bit {a k : Nat} (ha : a < 2 ^ 31) (hk : k < 32) : (nI a >>> (nI k &&& 31)) &&& 1 = nI (zb_bt a k) := by
  rw [pk_shrN ha (nI k &&& 31) k (zb_sl k hk)]
  exact pk_andN (Nat.lt_of_le_of_lt (Nat.div_le_self _ _) (by omega)) 1 (by decide)
theorem zb_shl {a k : Nat} (hk : k < 32) (h : a * 2 ^ k < 2 ^ 32) : nI a <<< (nI k &&& 31) = nI (a * 2 ^ k) := pk_shlN _ k (zb_sl k hk) h
theorem zb_shl1 {k : Nat} (hk : k < 31) : (1 : Int32) <<< (nI k &&& 31) = nI (2 ^ k) := by
  have h : 2 ^ k < 2 ^ 31 := Nat.pow_lt_pow_right (by decide) hk
  have e := zb_shl (a := 1) (k := k) (by omega) (by omega)
  rw [Nat.one_mul] at e
  exact e
theorem zb_and (a b : Nat) : nI a &&& nI b = nI (a &&& b) := by
  apply Int32.toBitVec_inj.1
  show BitVec.ofNat 32 a &&& BitVec.ofNat 32 b = BitVec.ofNat 32 (a &&& b)
  apply BitVec.eq_of_getLsbD_eq
  intro i hi
  simp [hi]
theorem zb_or (a b : Nat) : nI a ||| nI b = nI (a ||| b) := by
  apply Int32.toBitVec_inj.1
  show BitVec.ofNat 32 a ||| BitVec.ofNat 32 b = BitVec.ofNat 32 (a ||| b)
  apply BitVec.eq_of_getLsbD_eq
  intro i hi
  simp [hi]
theorem zb_wrap (x : Nat) : nI x = nI (x + 4294967296) := by
  apply Int32.toBitVec_inj.1
  show BitVec.ofNat 32 x = BitVec.ofNat 32 (x + 4294967296)
  apply BitVec.eq_of_toNat_eq
  rw [BitVec.toNat_ofNat, BitVec.toNat_ofNat]
  omega
theorem zb_nx {x s : Nat} (hs : s < 128) : (nI x - nI s) &&& nI s = nI ((x + 4294967296 - s) &&& s) := by
  rw [zb_wrap x, pk_sub (by omega), zb_and]
theorem zb_msk : ∀ v, v < 7 → ((1 : Int32) <<< (nI v &&& 31)) ^^^ (-1) = nI (4294967295 - 2 ^ v) := by decide +kernel
def zb_clr (o v : Nat) : Nat := o &&& (127 - 2 ^ v)
theorem zb_clrE : ∀ v, v < 7 → ∀ o, o < 128 → o &&& (4294967295 - 2 ^ v) = zb_clr o v := by decide +kernel
theorem zb_clrI {o v : Nat} (ho : o < 128) (hv : v < 7) : nI o &&& (((1 : Int32) <<< (nI v &&& 31)) ^^^ (-1)) = nI (zb_clr o v) := by
  rw [zb_msk v hv, zb_and, zb_clrE v hv o ho]
theorem zb_clrI' {o v : Nat} (ho : o < 128) (hv : v < 7) : nI o &&& (nI (2 ^ v) ^^^ (-1)) = nI (zb_clr o v) := by
  rw [← zb_shl1 (show v < 31 by omega), zb_clrI ho hv]
theorem zb_clr_m : ∀ v, v < 7 → ∀ j, j < 7 → (127 - 2 ^ v).testBit j = decide (j ≠ v) := by decide +kernel
theorem zb_clr_t {o v : Nat} (ho : o < 128) (hv : v < 7) (j : Nat) : (zb_clr o v).testBit j = (o.testBit j && decide (j ≠ v)) := by
  unfold zb_clr
  rw [Nat.testBit_and]
  rcases Nat.lt_or_ge j 7 with h | h
  · rw [zb_clr_m v hv j h]
  · rw [zb_hi ho h, Bool.false_and, Bool.false_and]
theorem zb_clr_lt {o : Nat} (ho : o < 128) (v : Nat) : zb_clr o v < 128 := Nat.lt_of_le_of_lt Nat.and_le_left ho
theorem zb_or_lt {a b : Nat} (ha : a < 128) (hb : b < 128) : a ||| b < 128 := Nat.or_lt_two_pow (n := 7) ha hb
theorem zb_p2_lt {v : Nat} (hv : v < 7) : 2 ^ v < 128 := (Nat.pow_lt_pow_right (by decide) hv : 2 ^ v < 2 ^ 7)
/-! ones, packed, and the inverse of packed -/
def zb_on (s : Nat) : Nat → Nat
  | 0 => 0
  | k + 1 => zb_on s k + zb_bt s k
def zb_pkR (x s : Nat) : Nat → Nat
  | 0 => 0
  | k + 1 => if zb_bt s k = 1 then zb_pkR x s k ||| (zb_bt x k * 2 ^ zb_on s k) else zb_pkR x s k
def zb_pk (x s : Nat) : Nat := zb_pkR x s 7
def zb_upR (i s : Nat) : Nat → Nat
  | 0 => 0
  | k + 1 => if zb_bt s k = 1 then zb_upR i s k ||| (zb_bt i (zb_on s k) * 2 ^ k) else zb_upR i s k
def zb_up (i s : Nat) : Nat := zb_upR i s 7
theorem zb_on_le (s k : Nat) : zb_on s k ≤ k := by
  induction k with
  | zero => exact Nat.le_refl 0
  | succ k ih =>
    have h := zb_bt_le s k
    show zb_on s k + zb_bt s k ≤ k + 1
    omega
theorem zb_pw (s : Nat) : 1 ≤ 2 ^ zb_on s 7 ∧ 2 ^ zb_on s 7 ≤ 128 :=
  ⟨Nat.one_le_two_pow, (Nat.pow_le_pow_right (by decide) (zb_on_le s 7) : 2 ^ zb_on s 7 ≤ 2 ^ 7)⟩
theorem zb_pkR_congr {x y s : Nat} : ∀ k, (∀ j, j < k → s.testBit j = true → x.testBit j = y.testBit j) → zb_pkR x s k = zb_pkR y s k := by
  intro k
  induction k with
  | zero => intro _; rfl
  | succ k ih =>
    intro h
    have h0 := ih (fun j hj => h j (by omega))
    show (if zb_bt s k = 1 then zb_pkR x s k ||| (zb_bt x k * 2 ^ zb_on s k) else zb_pkR x s k) = (if zb_bt s k = 1 then zb_pkR y s k ||| (zb_bt y k * 2 ^ zb_on s k) else zb_pkR y s k)
    by_cases hb : zb_bt s k = 1
    · rw [if_pos hb, if_pos hb, h0, zb_btE (h k (by omega) (zb_tb1.mp hb))]
    · rw [if_neg hb, if_neg hb, h0]
theorem zb_pk_congr {x y s : Nat} (h : ∀ j, j < 7 → s.testBit j = true → x.testBit j = y.testBit j) : zb_pk x s = zb_pk y s := zb_pkR_congr 7 h
theorem zb_pk_up : ∀ s, s < 128 → ∀ i, i < 2 ^ zb_on s 7 → zb_pk (zb_up i s) s = i ∧ zb_up i s < 128 := by decide +kernel
theorem zb_up_nx : ∀ s, s < 128 → ∀ i, i < 2 ^ zb_on s 7 → i + 1 < 2 ^ zb_on s 7 → zb_up i s ≠ s ∧ (zb_up i s + 4294967296 - s) &&& s = zb_up (i + 1) s := by decide +kernel
theorem zb_up_e : ∀ s, s < 128 → zb_up (2 ^ zb_on s 7 - 1) s = s := by decide +kernel
theorem zb_up_0 : ∀ s, s < 128 → zb_up 0 s = 0 := by decide +kernel
theorem zb_pk_0 : ∀ s, s < 128 → zb_pk 0 s = 0 := by decide +kernel
theorem zb_up_pk : ∀ s, s < 128 → ∀ y, y < 128 → zb_pk y s < 2 ^ zb_on s 7 ∧ zb_up (zb_pk y s) s = y &&& s := by decide +kernel
theorem zb_on_clr : ∀ v, v < 7 → ∀ o, o < 128 → zb_bt o v = 1 → zb_on (zb_clr o v) 7 + 1 = zb_on o 7 := by decide +kernel
theorem zb_on_0 : ∀ o, o < 128 → zb_on o 7 = 0 → o = 0 := by decide +kernel
end
section
/-! sum or greatest over one variable, over a set of variables -/
def zb_sb (y o : Nat) : Prop := ∀ k, y.testBit k = true → o.testBit k = true
theorem zb_sb_0 (o : Nat) : zb_sb 0 o := fun k h => absurd h (by rw [Nat.zero_testBit]; decide)
theorem zb_sb_or {y o k : Nat} (h : zb_sb y o) (hk : zb_bt o k = 1) : zb_sb (y ||| 2 ^ k) o := by
  intro j hj
  rw [Nat.testBit_or, Nat.testBit_two_pow] at hj
  by_cases e : k = j
  · rw [← e]
    exact zb_tb1.mp hk
  · rw [decide_eq_false e, Bool.or_false] at hj
    exact h j hj
theorem zb_sb_lt {y o : Nat} (h : zb_sb y o) (ho : o < 128) : y < 128 := Nat.lt_of_le_of_lt (Nat.le_of_testBit h) ho
def zb_op (g a b : Nat) : Nat := if g = 0 then a + b else if a ≤ b then b else a
theorem zb_op_s (a b : Nat) : zb_op 0 a b = a + b := if_pos rfl
theorem zb_op4 (g a b c d : Nat) : zb_op g (zb_op g a b) (zb_op g c d) = zb_op g (zb_op g a c) (zb_op g b d) := by
  unfold zb_op
  by_cases h : g = 0
  · simp only [if_pos h]
    omega
  · simp only [if_neg h]
    repeat' split
    all_goals omega
theorem zb_op_mul (g r a b : Nat) : r * zb_op g a b = zb_op g (r * a) (r * b) := by
  unfold zb_op
  by_cases h : g = 0
  · rw [if_pos h, if_pos h, Nat.mul_add]
  · rw [if_neg h, if_neg h]
    by_cases h2 : a ≤ b
    · rw [if_pos h2, if_pos (Nat.mul_le_mul_left r h2)]
    · rw [if_neg h2]
      by_cases h3 : r * a ≤ r * b
      · rw [if_pos h3]
        exact Nat.le_antisymm h3 (Nat.mul_le_mul_left r (by omega))
      · rw [if_neg h3]
theorem zb_op_mono {g a b a' b' : Nat} (ha : a ≤ a') (hb : b ≤ b') : zb_op g a b ≤ zb_op g a' b' := by
  unfold zb_op
  repeat' split
  all_goals omega
theorem zb_op_le {g a b B : Nat} (ha : a ≤ B) (hb : b ≤ B) : zb_op g a b ≤ 2 * B := by
  unfold zb_op
  repeat' split
  all_goals omega
theorem zb_op_l {a b : Nat} : a ≤ zb_op 1 a b := by
  unfold zb_op
  repeat' split
  all_goals omega
theorem zb_op_r {a b : Nat} : b ≤ zb_op 1 a b := by
  unfold zb_op
  repeat' split
  all_goals omega
def zb_el (g : Nat) (f : Nat → Nat) (v : Nat) : Nat → Nat := fun y => zb_op g (f y) (f (y ||| 2 ^ v))
theorem zb_el_comm (g : Nat) (f : Nat → Nat) (v w : Nat) : zb_el g (zb_el g f v) w = zb_el g (zb_el g f w) v := by
  funext y
  show zb_op g (zb_op g (f y) (f (y ||| 2 ^ v))) (zb_op g (f (y ||| 2 ^ w)) (f (y ||| 2 ^ w ||| 2 ^ v))) = zb_op g (zb_op g (f y) (f (y ||| 2 ^ w))) (zb_op g (f (y ||| 2 ^ v)) (f (y ||| 2 ^ v ||| 2 ^ w)))
  rw [zb_op4, Nat.or_assoc y (2 ^ w), Nat.or_comm (2 ^ w), ← Nat.or_assoc]
def zb_T (g o : Nat) : Nat → (Nat → Nat) → Nat → Nat
  | 0, f => f
  | k + 1, f => zb_T g o k (if zb_bt o k = 1 then zb_el g f k else f)
theorem zb_T_s (g o k : Nat) (f : Nat → Nat) : zb_T g o (k + 1) f = zb_T g o k (if zb_bt o k = 1 then zb_el g f k else f) := rfl
theorem zb_T_bits {g o o' : Nat} : ∀ (k : Nat) (f : Nat → Nat), (∀ j, j < k → zb_bt o j = zb_bt o' j) → zb_T g o k f = zb_T g o' k f := by
  intro k
  induction k with
  | zero => intro f _; rfl
  | succ k ih =>
    intro f h
    rw [zb_T_s, zb_T_s, h k (by omega)]
    exact ih _ (fun j hj => h j (by omega))
theorem zb_T_out {g o o' v : Nat} (h1 : zb_bt o v = 1) (h2 : zb_bt o' v = 0) : ∀ (k : Nat) (f : Nat → Nat), v < k → (∀ j, j < k → j ≠ v → zb_bt o' j = zb_bt o j) → zb_T g o k f = zb_T g o' k (zb_el g f v) := by
  intro k
  induction k with
  | zero => intro f hv; omega
  | succ k ih =>
    intro f hv h
    rw [zb_T_s, zb_T_s]
    by_cases e : v = k
    · rw [← e, if_pos h1, if_neg (by omega)]
      exact zb_T_bits v _ (fun j hj => (h j (by omega) (by omega)).symm)
    · rw [h k (by omega) (fun z => e z.symm)]
      rw [ih _ (by omega) (fun j hj => h j (by omega))]
      by_cases hb : zb_bt o k = 1
      · rw [if_pos hb, if_pos hb, zb_el_comm]
      · rw [if_neg hb, if_neg hb]
theorem zb_T_mono {g o : Nat} : ∀ (k : Nat) (f f' : Nat → Nat), (∀ y, zb_sb y o → f y ≤ f' y) → ∀ y, zb_sb y o → zb_T g o k f y ≤ zb_T g o k f' y := by
  intro k
  induction k with
  | zero => intro f f' h; exact h
  | succ k ih =>
    intro f f' h
    rw [zb_T_s, zb_T_s]
    by_cases hb : zb_bt o k = 1
    · rw [if_pos hb, if_pos hb]
      exact ih _ _ (fun y hy => zb_op_mono (h y hy) (h _ (zb_sb_or hy hb)))
    · rw [if_neg hb, if_neg hb]
      exact ih _ _ h
theorem zb_T_congr {g o : Nat} (k : Nat) (f f' : Nat → Nat) (h : ∀ y, zb_sb y o → f y = f' y) (y : Nat) (hy : zb_sb y o) : zb_T g o k f y = zb_T g o k f' y :=
  Nat.le_antisymm (zb_T_mono k f f' (fun z hz => Nat.le_of_eq (h z hz)) y hy) (zb_T_mono k f' f (fun z hz => Nat.le_of_eq (h z hz).symm) y hy)
theorem zb_T_le {g o : Nat} : ∀ (k : Nat) (f : Nat → Nat) (B : Nat), (∀ y, zb_sb y o → f y ≤ B) → ∀ y, zb_sb y o → zb_T g o k f y ≤ 2 ^ k * B := by
  intro k
  induction k with
  | zero => intro f B h y hy; rw [Nat.pow_zero, Nat.one_mul]; exact h y hy
  | succ k ih =>
    intro f B h y hy
    rw [zb_T_s, Nat.pow_succ, Nat.mul_assoc]
    refine ih _ (2 * B) (fun z hz => ?_) y hy
    by_cases hb : zb_bt o k = 1
    · rw [if_pos hb]
      exact zb_op_le (h z hz) (h _ (zb_sb_or hz hb))
    · rw [if_neg hb]
      have := h z hz
      omega
theorem zb_T_zero {g o k : Nat} {f : Nat → Nat} (h : ∀ y, zb_sb y o → f y = 0) : zb_T g o k f 0 = 0 := by
  have t := zb_T_le (g := g) k f 0 (fun y hy => Nat.le_of_eq (h y hy)) 0 (zb_sb_0 o)
  omega
/-! products -/
def zb_pr (f : Nat → Nat) : Nat → Nat
  | 0 => 1
  | k + 1 => zb_pr f k * f k
theorem zb_pr_s (f : Nat → Nat) (k : Nat) : zb_pr f (k + 1) = zb_pr f k * f k := rfl
theorem zb_pr_congr {f f' : Nat → Nat} : ∀ k, (∀ i, i < k → f i = f' i) → zb_pr f k = zb_pr f' k := by
  intro k
  induction k with
  | zero => intro _; rfl
  | succ k ih => intro h; rw [zb_pr_s, zb_pr_s, ih (fun i hi => h i (by omega)), h k (by omega)]
theorem zb_pr_mul {h f f' : Nat → Nat} : ∀ k, (∀ i, i < k → h i = f i * f' i) → zb_pr h k = zb_pr f k * zb_pr f' k := by
  intro k
  induction k with
  | zero => intro _; rfl
  | succ k ih => intro e; rw [zb_pr_s, zb_pr_s, zb_pr_s, ih (fun i hi => e i (by omega)), e k (by omega)]; exact Nat.mul_mul_mul_comm _ _ _ _
theorem zb_pr_mono {f f' : Nat → Nat} : ∀ k, (∀ i, i < k → f i ≤ f' i) → zb_pr f k ≤ zb_pr f' k := by
  intro k
  induction k with
  | zero => intro _; exact Nat.le_refl 1
  | succ k ih => intro h; rw [zb_pr_s, zb_pr_s]; exact Nat.mul_le_mul (ih (fun i hi => h i (by omega))) (h k (by omega))
theorem zb_pr_zero {f : Nat → Nat} {i : Nat} (h : f i = 0) : ∀ k, i < k → zb_pr f k = 0 := by
  intro k
  induction k with
  | zero => intro z; omega
  | succ k ih =>
    intro z
    rw [zb_pr_s]
    by_cases e : i = k
    · rw [← e, h, Nat.mul_zero]
    · rw [ih (by omega), Nat.zero_mul]
theorem zb_pr_le {f : Nat → Nat} {c : Nat} : ∀ k, (∀ i, i < k → f i ≤ c) → zb_pr f k ≤ c ^ k := by
  intro k
  induction k with
  | zero => intro _; exact Nat.le_refl 1
  | succ k ih => intro h; rw [zb_pr_s, Nat.pow_succ]; exact Nat.mul_le_mul (ih (fun i hi => h i (by omega))) (h k (by omega))
theorem zb_pr_1 {f : Nat → Nat} : ∀ k, (∀ i, i < k → 1 ≤ f i) → 1 ≤ zb_pr f k := by
  intro k
  induction k with
  | zero => intro _; exact Nat.le_refl 1
  | succ k ih =>
    intro h
    rw [zb_pr_s]
    exact Nat.mul_le_mul (ih (fun i hi => h i (by omega))) (h k (by omega))
end
section
/-! factors: scopes SC, values V, used U; taking a variable out -/
def zb_fv (SC V : Nat → Nat) (f y : Nat) : Nat := V (128 * f + zb_pk y (SC f))
def zb_G (SC V U : Nat → Nat) (fac y : Nat) : Nat := zb_pr (fun f => if U f = 0 then 1 else zb_fv SC V f y) fac
def zb_J (SC V U : Nat → Nat) (v fac y : Nat) : Nat := zb_pr (fun f => if U f = 0 then 1 else if zb_bt (SC f) v = 1 then zb_fv SC V f y else 1) fac
def zb_R (SC V U : Nat → Nat) (v fac y : Nat) : Nat := zb_pr (fun f => if U f = 0 then 1 else if zb_bt (SC f) v = 1 then 1 else zb_fv SC V f y) fac
theorem zb_fv_congr {SC V : Nat → Nat} {f x y : Nat} (h : ∀ j, j < 7 → (SC f).testBit j = true → x.testBit j = y.testBit j) : zb_fv SC V f x = zb_fv SC V f y := by
  unfold zb_fv
  rw [zb_pk_congr h]
theorem zb_J_V {SC V V' U : Nat → Nat} {v fac y : Nat} (hy : y < 128) (hS : ∀ f, f < fac → SC f < 128) (hV : ∀ i, i < 128 * fac → V' i = V i) : zb_J SC V' U v fac y = zb_J SC V U v fac y := by
  unfold zb_J
  refine zb_pr_congr fac (fun f hf => ?_)
  have e : zb_fv SC V' f y = zb_fv SC V f y := by
    have h1 := (zb_up_pk (SC f) (hS f hf) y hy).1
    have h2 := (zb_pw (SC f)).2
    unfold zb_fv
    exact hV _ (by omega)
  try dsimp only
  rw [e]
theorem zb_G_RJ (SC V U : Nat → Nat) (v fac y : Nat) : zb_G SC V U fac y = zb_R SC V U v fac y * zb_J SC V U v fac y := by
  unfold zb_G zb_R zb_J
  refine zb_pr_mul fac (fun f _ => ?_)
  by_cases h : U f = 0
  · simp only [if_pos h]
  · by_cases h2 : zb_bt (SC f) v = 1
    · simp only [if_neg h, if_pos h2, Nat.one_mul]
    · simp only [if_neg h, if_neg h2, Nat.mul_one]
theorem zb_R_or (SC V U : Nat → Nat) (v fac y : Nat) : zb_R SC V U v fac (y ||| 2 ^ v) = zb_R SC V U v fac y := by
  unfold zb_R
  refine zb_pr_congr fac (fun f _ => ?_)
  try dsimp only
  by_cases h : U f = 0
  · rw [if_pos h, if_pos h]
  · rw [if_neg h, if_neg h]
    by_cases h2 : zb_bt (SC f) v = 1
    · rw [if_pos h2, if_pos h2]
    · rw [if_neg h2, if_neg h2]
      refine zb_fv_congr (fun j _ hj => ?_)
      rw [Nat.testBit_or, Nat.testBit_two_pow]
      have e : ¬ v = j := fun z => h2 (zb_tb1.mpr (by rw [z]; exact hj))
      rw [decide_eq_false e, Bool.or_false]
/-- the new factor's scope covers the scopes of the factors that go -/
def zb_cov (SC U : Nat → Nat) (v fac sc : Nat) : Prop := ∀ f, f < fac → ¬ U f = 0 → zb_bt (SC f) v = 1 → ∀ k, k ≠ v → (SC f).testBit k = true → sc.testBit k = true
theorem zb_J_sc {SC V U : Nat → Nat} {v fac sc x y : Nat} (hc : zb_cov SC U v fac sc) (hv : x.testBit v = y.testBit v) (hx : ∀ k, k ≠ v → sc.testBit k = true → x.testBit k = y.testBit k) : zb_J SC V U v fac x = zb_J SC V U v fac y := by
  unfold zb_J
  refine zb_pr_congr fac (fun f hf => ?_)
  try dsimp only
  by_cases h : U f = 0
  · rw [if_pos h, if_pos h]
  · rw [if_neg h, if_neg h]
    by_cases h2 : zb_bt (SC f) v = 1
    · rw [if_pos h2, if_pos h2]
      refine zb_fv_congr (fun j _ hj => ?_)
      by_cases e : j = v
      · rw [e, hv]
      · exact hx j e (hc f hf h h2 j e hj)
    · rw [if_neg h2, if_neg h2]
/-- the factors after a variable was taken out -/
def zb_nxt (g : Nat) (SC V U SC' V' U' : Nat → Nat) (v fac sc : Nat) : Prop :=
  (∀ f, f < fac → SC' f = SC f) ∧ SC' fac = sc ∧ (∀ i, i < 128 * fac → V' i = V i) ∧ (∀ i, i < 2 ^ zb_on sc 7 → V' (128 * fac + i) = zb_op g (zb_J SC V U v fac (zb_up i sc)) (zb_J SC V U v fac (zb_up i sc ||| 2 ^ v))) ∧ (∀ f, f < fac → U' f = if zb_bt (SC f) v = 1 then 0 else U f) ∧ U' fac = 1
theorem zb_nxt_v {g : Nat} {SC V U SC' V' U' : Nat → Nat} {v fac sc : Nat} (hS : ∀ f, f < fac → SC f < 128) (h : zb_nxt g SC V U SC' V' U' v fac sc) {f y : Nat} (hf : f < fac) (hy : y < 128) : zb_fv SC' V' f y = zb_fv SC V f y := by
  obtain ⟨h1, _, h3, _⟩ := h
  have q1 := (zb_up_pk (SC f) (hS f hf) y hy).1
  have q2 := (zb_pw (SC f)).2
  unfold zb_fv
  rw [h1 f hf]
  exact h3 _ (by omega)
theorem zb_nxt_R {g : Nat} {SC V U SC' V' U' : Nat → Nat} {v fac sc : Nat} (hS : ∀ f, f < fac → SC f < 128) (h : zb_nxt g SC V U SC' V' U' v fac sc) {y : Nat} (hy : y < 128) : zb_pr (fun f => if U' f = 0 then 1 else zb_fv SC' V' f y) fac = zb_R SC V U v fac y := by
  have h5 := h.2.2.2.2.1
  unfold zb_R
  refine zb_pr_congr fac (fun f hf => ?_)
  try dsimp only
  rw [h5 f hf, zb_nxt_v hS h hf hy]
  by_cases h2 : zb_bt (SC f) v = 1
  · rw [if_pos h2, if_pos rfl, if_pos h2]
    by_cases z : U f = 0
    · rw [if_pos z]
    · rw [if_neg z]
  · rw [if_neg h2, if_neg h2]
theorem zb_nxt_n {g : Nat} {SC V U SC' V' U' : Nat → Nat} {v fac sc : Nat} (hs : sc < 128) (h : zb_nxt g SC V U SC' V' U' v fac sc) {y : Nat} (hy : y < 128) : zb_fv SC' V' fac y = zb_op g (zb_J SC V U v fac (y &&& sc)) (zb_J SC V U v fac (y &&& sc ||| 2 ^ v)) := by
  obtain ⟨_, h2, _, h4, _⟩ := h
  obtain ⟨q1, q2⟩ := zb_up_pk sc hs y hy
  unfold zb_fv
  rw [h2, h4 _ q1, q2]
theorem zb_step {g : Nat} {SC V U SC' V' U' : Nat → Nat} {v fac sc : Nat} (hS : ∀ f, f < fac → SC f < 128) (hs : sc < 128) (hsv : sc.testBit v = false) (hc : zb_cov SC U v fac sc) (h : zb_nxt g SC V U SC' V' U' v fac sc) {y : Nat} (hy : y < 128) (hyv : y.testBit v = false) :
    zb_G SC' V' U' (fac + 1) y = zb_el g (zb_G SC V U fac) v y := by
  have e1 : zb_G SC' V' U' (fac + 1) y = zb_R SC V U v fac y * zb_op g (zb_J SC V U v fac (y &&& sc)) (zb_J SC V U v fac (y &&& sc ||| 2 ^ v)) := by
    unfold zb_G
    rw [zb_pr_s, zb_nxt_R hS h hy, if_neg (by rw [h.2.2.2.2.2]; decide), zb_nxt_n hs h hy]
  have e2 : zb_J SC V U v fac (y &&& sc) = zb_J SC V U v fac y := by
    refine zb_J_sc hc ?_ (fun k _ hk => ?_)
    · rw [Nat.testBit_and, hyv, Bool.false_and]
    · rw [Nat.testBit_and, hk, Bool.and_true]
  have e3 : zb_J SC V U v fac (y &&& sc ||| 2 ^ v) = zb_J SC V U v fac (y ||| 2 ^ v) := by
    refine zb_J_sc hc ?_ (fun k _ hk => ?_)
    · rw [Nat.testBit_or, Nat.testBit_or, Nat.testBit_two_pow_self, Bool.or_true, Bool.or_true]
    · rw [Nat.testBit_or, Nat.testBit_or, Nat.testBit_and, hk, Bool.and_true]
  rw [e1, e2, e3, zb_op_mul]
  show _ = zb_op g (zb_G SC V U fac y) (zb_G SC V U fac (y ||| 2 ^ v))
  rw [zb_G_RJ SC V U v fac y, zb_G_RJ SC V U v fac (y ||| 2 ^ v), zb_R_or]
/-! bounds -/
def zb_BD (SC V U : Nat → Nat) (fac M : Nat) : Prop := ∃ B : Nat → Nat, (∀ f, f < fac → 1 ≤ B f ∧ (¬ U f = 0 → ∀ y, y < 128 → zb_fv SC V f y ≤ B f)) ∧ zb_pr (fun f => if U f = 0 then 1 else B f) fac ≤ M
theorem zb_J_B {SC V U B : Nat → Nat} {v fac : Nat} (hB : ∀ f, f < fac → 1 ≤ B f ∧ (¬ U f = 0 → ∀ y, y < 128 → zb_fv SC V f y ≤ B f)) {y : Nat} (hy : y < 128) : zb_J SC V U v fac y ≤ zb_pr (fun f => if U f = 0 then 1 else if zb_bt (SC f) v = 1 then B f else 1) fac := by
  unfold zb_J
  refine zb_pr_mono fac (fun f hf => ?_)
  try dsimp only
  by_cases h : U f = 0
  · rw [if_pos h, if_pos h]
    exact Nat.le_refl 1
  · rw [if_neg h, if_neg h]
    by_cases h2 : zb_bt (SC f) v = 1
    · rw [if_pos h2, if_pos h2]
      exact (hB f hf).2 h y hy
    · rw [if_neg h2, if_neg h2]
      exact Nat.le_refl 1
theorem zb_J_M {SC V U : Nat → Nat} {v fac M : Nat} (h : zb_BD SC V U fac M) {y : Nat} (hy : y < 128) : zb_J SC V U v fac y ≤ M := by
  obtain ⟨B, hB, hM⟩ := h
  refine Nat.le_trans (zb_J_B hB hy) (Nat.le_trans (zb_pr_mono fac (fun f hf => ?_)) hM)
  have h1 := (hB f hf).1
  try dsimp only
  by_cases h : U f = 0
  · rw [if_pos h, if_pos h]
    exact Nat.le_refl 1
  · rw [if_neg h, if_neg h]
    by_cases h2 : zb_bt (SC f) v = 1
    · rw [if_pos h2]
      exact Nat.le_refl _
    · rw [if_neg h2]
      exact h1
theorem zb_BD_step {g : Nat} {SC V U SC' V' U' : Nat → Nat} {v fac sc M : Nat} (hS : ∀ f, f < fac → SC f < 128) (hs : sc < 128) (hv : v < 7) (h : zb_nxt g SC V U SC' V' U' v fac sc) (hb : zb_BD SC V U fac M) : zb_BD SC' V' U' (fac + 1) (2 * M) := by
  obtain ⟨B, hB, hM⟩ := hb
  have hp1 : 1 ≤ zb_pr (fun f => if U f = 0 then 1 else if zb_bt (SC f) v = 1 then B f else 1) fac := by
    refine zb_pr_1 fac (fun f hf => ?_)
    have h1 := (hB f hf).1
    try dsimp only
    repeat' split
    all_goals first | exact h1 | exact Nat.le_refl 1
  have hn : ∀ y, y < 128 → zb_fv SC' V' fac y ≤ 2 * zb_pr (fun f => if U f = 0 then 1 else if zb_bt (SC f) v = 1 then B f else 1) fac := by
    intro y hy
    rw [zb_nxt_n hs h hy]
    have hl : y &&& sc < 128 := Nat.lt_of_le_of_lt Nat.and_le_left hy
    exact zb_op_le (zb_J_B hB hl) (zb_J_B hB (zb_or_lt hl (zb_p2_lt hv)))
  have hpr : zb_pr (fun f => if U f = 0 then 1 else B f) fac = zb_pr (fun f => if U' f = 0 then 1 else B f) fac * zb_pr (fun f => if U f = 0 then 1 else if zb_bt (SC f) v = 1 then B f else 1) fac := by
    refine zb_pr_mul fac (fun f hf => ?_)
    have h5 := h.2.2.2.2.1 f hf
    try dsimp only
    rw [h5]
    by_cases h2 : zb_bt (SC f) v = 1
    · rw [if_pos h2, if_pos h2, if_pos rfl, Nat.one_mul]
    · rw [if_neg h2, if_neg h2]
      by_cases z : U f = 0
      · rw [if_pos z, if_pos z]
      · rw [if_neg z, if_neg z, Nat.mul_one]
  refine ⟨zb_ud B fac (2 * zb_pr (fun f => if U f = 0 then 1 else if zb_bt (SC f) v = 1 then B f else 1) fac), fun f hf => ?_, ?_⟩
  · by_cases e : f = fac
    · rw [e, zb_us]
      exact ⟨by omega, fun _ => hn⟩
    · rw [zb_un B _ e]
      refine ⟨(hB f (by omega)).1, fun hu y hy => ?_⟩
      rw [zb_nxt_v hS h (by omega) hy]
      refine (hB f (by omega)).2 (fun z => hu ?_) y hy
      rw [h.2.2.2.2.1 f (by omega), z]
      split <;> rfl
  · rw [zb_pr_s, if_neg (by rw [h.2.2.2.2.2]; decide), zb_us]
    have e : zb_pr (fun f => if U' f = 0 then 1 else zb_ud B fac (2 * zb_pr (fun f => if U f = 0 then 1 else if zb_bt (SC f) v = 1 then B f else 1) fac) f) fac = zb_pr (fun f => if U' f = 0 then 1 else B f) fac := by
      refine zb_pr_congr fac (fun f hf => ?_)
      try dsimp only
      rw [zb_un B _ (show f ≠ fac by omega)]
    rw [e, Nat.mul_left_comm, ← hpr]
    exact Nat.mul_le_mul_left 2 hM
end
section
/-! the value that solve computes, and its laws -/
def zb_en (P E : Nat → Nat) (v y : Nat) : Nat := E (16 * v + 2 * zb_pk y (P v) + zb_bt y v)
def zb_wt (n : Nat) (P E : Nat → Nat) (y : Nat) : Nat := zb_pr (fun v => zb_en P E v y) n
def zb_OP (X : Nat → Nat) : Nat → Nat
  | 0 => 0
  | k + 1 => if X k = 2 then zb_OP X k ||| 2 ^ k else zb_OP X k
def zb_SE (X : Nat → Nat) : Nat → Nat
  | 0 => 0
  | k + 1 => if X k = 2 then zb_SE X k else zb_SE X k ||| (X k * 2 ^ k)
def zb_VAL (g n : Nat) (P E X : Nat → Nat) : Nat := zb_T g (zb_OP X n) 7 (fun y => zb_wt n P E (y ||| zb_SE X n)) 0
theorem zb_en_congr {P E : Nat → Nat} {v x y : Nat} (h : ∀ j, j < 7 → (P v).testBit j = true → x.testBit j = y.testBit j) (hv : x.testBit v = y.testBit v) : zb_en P E v x = zb_en P E v y := by
  unfold zb_en
  rw [zb_pk_congr h, zb_btE hv]
theorem zb_OP_t (X : Nat → Nat) (n k : Nat) : (zb_OP X n).testBit k = decide (k < n ∧ X k = 2) := by
  induction n with
  | zero =>
    show (0 : Nat).testBit k = _
    rw [Nat.zero_testBit, decide_eq_false (by omega)]
  | succ n ih =>
    show (if X n = 2 then zb_OP X n ||| 2 ^ n else zb_OP X n).testBit k = _
    by_cases e : X n = 2
    · rw [if_pos e, Nat.testBit_or, Nat.testBit_two_pow, ih, ← Bool.decide_or]
      apply decide_eq_decide.mpr
      constructor
      · rintro (⟨h1, h2⟩ | h1)
        · exact ⟨by omega, h2⟩
        · rw [← h1]; exact ⟨by omega, e⟩
      · rintro ⟨h1, h2⟩
        by_cases z : n = k
        · exact Or.inr z
        · exact Or.inl ⟨by omega, h2⟩
    · rw [if_neg e, ih]
      apply decide_eq_decide.mpr
      constructor
      · rintro ⟨h1, h2⟩; exact ⟨by omega, h2⟩
      · rintro ⟨h1, h2⟩
        refine ⟨?_, h2⟩
        by_cases z : k = n
        · rw [z] at h2; exact absurd h2 e
        · omega
theorem zb_SE_t {X : Nat → Nat} {n : Nat} (hX : ∀ v, v < n → X v ≤ 2) (k : Nat) : (zb_SE X n).testBit k = decide (k < n ∧ X k = 1) := by
  induction n with
  | zero =>
    show (0 : Nat).testBit k = _
    rw [Nat.zero_testBit, decide_eq_false (by omega)]
  | succ n ih =>
    have ih' := ih (fun v hv => hX v (by omega))
    have hn := hX n (by omega)
    show (if X n = 2 then zb_SE X n else zb_SE X n ||| (X n * 2 ^ n)).testBit k = _
    by_cases e : X n = 1
    · rw [if_neg (by omega), e, Nat.one_mul, Nat.testBit_or, Nat.testBit_two_pow, ih', ← Bool.decide_or]
      apply decide_eq_decide.mpr
      constructor
      · rintro (⟨h1, h2⟩ | h1)
        · exact ⟨by omega, h2⟩
        · rw [← h1]; exact ⟨by omega, e⟩
      · rintro ⟨h1, h2⟩
        by_cases z : n = k
        · exact Or.inr z
        · exact Or.inl ⟨by omega, h2⟩
    · have e2 : (if X n = 2 then zb_SE X n else zb_SE X n ||| (X n * 2 ^ n)) = zb_SE X n := by
        by_cases z : X n = 2
        · rw [if_pos z]
        · rw [if_neg z, show X n = 0 by omega, Nat.zero_mul, Nat.or_zero]
      rw [e2, ih']
      apply decide_eq_decide.mpr
      constructor
      · rintro ⟨h1, h2⟩; exact ⟨by omega, h2⟩
      · rintro ⟨h1, h2⟩
        refine ⟨?_, h2⟩
        by_cases z : k = n
        · rw [z] at h2; exact absurd h2 e
        · omega
theorem zb_OP_lt (X : Nat → Nat) {n : Nat} (hn : n ≤ 7) : zb_OP X n < 128 := by
  refine Nat.lt_pow_two_of_testBit (n := 7) _ (fun i hi => ?_)
  rw [zb_OP_t, decide_eq_false (by omega)]
theorem zb_SE_lt {X : Nat → Nat} {n : Nat} (hX : ∀ v, v < n → X v ≤ 2) (hn : n ≤ 7) : zb_SE X n < 128 := by
  refine Nat.lt_pow_two_of_testBit (n := 7) _ (fun i hi => ?_)
  rw [zb_SE_t hX, decide_eq_false (by omega)]
theorem zb_OP_congr {X X' : Nat → Nat} {n : Nat} (h : ∀ v, v < n → X v = X' v) : zb_OP X n = zb_OP X' n := by
  induction n with
  | zero => rfl
  | succ n ih =>
    show (if X n = 2 then zb_OP X n ||| 2 ^ n else zb_OP X n) = (if X' n = 2 then zb_OP X' n ||| 2 ^ n else zb_OP X' n)
    rw [ih (fun v hv => h v (by omega)), h n (by omega)]
theorem zb_SE_congr {X X' : Nat → Nat} {n : Nat} (h : ∀ v, v < n → X v = X' v) : zb_SE X n = zb_SE X' n := by
  induction n with
  | zero => rfl
  | succ n ih =>
    show (if X n = 2 then zb_SE X n else zb_SE X n ||| (X n * 2 ^ n)) = (if X' n = 2 then zb_SE X' n else zb_SE X' n ||| (X' n * 2 ^ n))
    rw [ih (fun v hv => h v (by omega)), h n (by omega)]
theorem zb_VAL_congr {g n : Nat} {P E X X' : Nat → Nat} (h : ∀ v, v < n → X v = X' v) : zb_VAL g n P E X = zb_VAL g n P E X' := by
  unfold zb_VAL
  rw [zb_OP_congr h, zb_SE_congr h]
theorem zb_VAL_bd {g n : Nat} {P E X : Nat → Nat} (hn : n ≤ 7) (hE : ∀ j, E j ≤ 9) : zb_VAL g n P E X ≤ 612220032 := by
  unfold zb_VAL
  have hw : ∀ y, zb_wt n P E y ≤ 4782969 := fun y =>
    Nat.le_trans (zb_pr_le n (fun v _ => hE _)) (Nat.pow_le_pow_right (by decide) hn : 9 ^ n ≤ 9 ^ 7)
  exact zb_T_le 7 _ 4782969 (fun y _ => hw _) 0 (zb_sb_0 _)
theorem zb_VAL_mono {g n : Nat} {P E E' X : Nat → Nat} (h : ∀ j, E j ≤ E' j) : zb_VAL g n P E X ≤ zb_VAL g n P E' X := by
  unfold zb_VAL
  exact zb_T_mono 7 _ _ (fun y _ => zb_pr_mono n (fun v _ => h _)) 0 (zb_sb_0 _)
theorem zb_VAL_zero {g n : Nat} {P E X : Nat → Nat} (h : ∀ y, y < 128 → zb_wt n P E y = 0) (hX : ∀ v, v < n → X v ≤ 2) (hn : n ≤ 7) : zb_VAL g n P E X = 0 := by
  unfold zb_VAL
  exact zb_T_zero (fun y hy => h _ (zb_or_lt (zb_sb_lt hy (zb_OP_lt X hn)) (zb_SE_lt hX hn)))
/-- fixing a free variable does not raise the greatest -/
theorem zb_VAL_fix {n v x : Nat} {P E X : Nat → Nat} (hn : n ≤ 7) (hX : ∀ w, w < n → X w ≤ 2) (hv : v < n) (h2 : X v = 2) (hx : x ≤ 1) : zb_VAL 1 n P E (zb_ud X v x) ≤ zb_VAL 1 n P E X := by
  have hX' : ∀ w, w < n → zb_ud X v x w ≤ 2 := by
    intro w hw
    by_cases e : w = v
    · rw [e, zb_us]; omega
    · rw [zb_un X x e]; exact hX w hw
  have b1 : zb_bt (zb_OP X n) v = 1 := zb_tb1.mpr (by rw [zb_OP_t]; exact decide_eq_true ⟨hv, h2⟩)
  have b0 : zb_bt (zb_OP (zb_ud X v x) n) v = 0 := zb_tb0.mpr (by rw [zb_OP_t, zb_us]; exact decide_eq_false (by omega))
  have bj : ∀ j, j < 7 → j ≠ v → zb_bt (zb_OP (zb_ud X v x) n) j = zb_bt (zb_OP X n) j := by
    intro j _ hj
    apply zb_btE
    rw [zb_OP_t, zb_OP_t, zb_un X x hj]
  unfold zb_VAL
  rw [zb_T_out b1 b0 7 (fun y => zb_wt n P E (y ||| zb_SE X n)) (by omega) bj]
  refine zb_T_mono 7 _ _ (fun y _ => ?_) 0 (zb_sb_0 _)
  show zb_wt n P E (y ||| zb_SE (zb_ud X v x) n) ≤ zb_op 1 (zb_wt n P E (y ||| zb_SE X n)) (zb_wt n P E (y ||| 2 ^ v ||| zb_SE X n))
  rcases Nat.lt_or_ge x 1 with hx0 | hx1
  · have e : zb_SE (zb_ud X v x) n = zb_SE X n := by
      apply Nat.eq_of_testBit_eq
      intro k
      rw [zb_SE_t hX', zb_SE_t hX]
      by_cases z : k = v
      · rw [z, zb_us, h2, decide_eq_false (by omega), decide_eq_false (by omega)]
      · rw [zb_un X x z]
    rw [e]
    exact zb_op_l
  · have e : y ||| zb_SE (zb_ud X v x) n = y ||| 2 ^ v ||| zb_SE X n := by
      apply Nat.eq_of_testBit_eq
      intro k
      rw [Nat.testBit_or, Nat.testBit_or, Nat.testBit_or, Nat.testBit_two_pow, zb_SE_t hX', zb_SE_t hX]
      by_cases z : k = v
      · rw [z, zb_us, h2, decide_eq_true (show v < n ∧ x = 1 by omega), decide_eq_true (show v = v from rfl), Bool.or_true, Bool.true_or]
      · rw [zb_un X x z, decide_eq_false (show ¬ v = k from fun q => z q.symm), Bool.or_false]
    rw [e]
    exact zb_op_r
/-- an entry of the own value x does not matter where the variable is fixed to the other one -/
theorem zb_VAL_other {g n v row x e : Nat} {P E X : Nat → Nat} (hn : n ≤ 7) (hX : ∀ w, w < n → X w ≤ 2) (hv : v < n) (hx : x ≤ 1) (hXv : X v = 1 - x) (hr : row < 8) (hP : ∀ w, w < n → P w < 128 ∧ zb_on (P w) 7 ≤ 3) :
    zb_VAL g n P (zb_ud E (16 * v + 2 * row + x) e) X = zb_VAL g n P E X := by
  unfold zb_VAL
  refine zb_T_congr 7 _ _ (fun y hy => ?_) 0 (zb_sb_0 _)
  have hyl : y ||| zb_SE X n < 128 := zb_or_lt (zb_sb_lt hy (zb_OP_lt X hn)) (zb_SE_lt hX hn)
  show zb_pr _ n = zb_pr _ n
  refine zb_pr_congr n (fun w hw => ?_)
  show zb_ud E (16 * v + 2 * row + x) e (16 * w + 2 * zb_pk (y ||| zb_SE X n) (P w) + zb_bt (y ||| zb_SE X n) w) = E (16 * w + 2 * zb_pk (y ||| zb_SE X n) (P w) + zb_bt (y ||| zb_SE X n) w)
  apply zb_un
  intro hh
  have h1 := (zb_up_pk (P w) (hP w hw).1 _ hyl).1
  have h2 : 2 ^ zb_on (P w) 7 ≤ 8 := (Nat.pow_le_pow_right (by decide) (hP w hw).2 : 2 ^ zb_on (P w) 7 ≤ 2 ^ 3)
  have h3 := zb_bt_le (y ||| zb_SE X n) w
  have ew : w = v := by omega
  rw [ew] at hh h3
  have hb : zb_bt (y ||| zb_SE X n) v = x := by omega
  have hyv : y.testBit v = false := by
    cases hz : y.testBit v with
    | false => rfl
    | true =>
      have t := hy v hz
      rw [zb_OP_t] at t
      have := of_decide_eq_true t
      omega
  have hb2 : (y ||| zb_SE X n).testBit v = decide (1 - x = 1) := by
    rw [Nat.testBit_or, hyv, Bool.false_or, zb_SE_t hX, hXv]
    exact decide_eq_decide.mpr ⟨fun z => z.2, fun z => ⟨hv, z⟩⟩
  rcases Nat.lt_or_ge x 1 with hx0 | hx1
  · have : zb_bt (y ||| zb_SE X n) v = 1 := zb_tb1.mpr (by rw [hb2]; exact decide_eq_true (by omega))
    omega
  · have : zb_bt (y ||| zb_SE X n) v = 0 := zb_tb0.mpr (by rw [hb2]; exact decide_eq_false (by omega))
    omega
/-- all entries in use of one variable are zero -/
theorem zb_wt_zero {n v y : Nat} {P E : Nat → Nat} (hv : v < n) (hy : y < 128) (hP : P v < 128) (h0 : ∀ r b, r < 2 ^ zb_on (P v) 7 → b ≤ 1 → E (16 * v + 2 * r + b) = 0) : zb_wt n P E y = 0 :=
  zb_pr_zero (f := fun v => zb_en P E v y) (i := v) (h0 _ _ (zb_up_pk (P v) hP y hy).1 (zb_bt_le y v)) n hv
/-- the tables as the first factors -/
theorem zb_first {n : Nat} {P E X SC V U : Nat → Nat} (hn : n ≤ 7) (hP : ∀ v, v < n → P v < 128) (hSC : ∀ v, v < n → SC v = (P v ||| 2 ^ v) &&& zb_OP X n) (hU : ∀ v, v < n → U v = 1) (hV : ∀ v i, v < n → i < 2 ^ zb_on (SC v) 7 → V (128 * v + i) = zb_en P E v (zb_up i (SC v) ||| zb_SE X n)) {y : Nat} (hy : zb_sb y (zb_OP X n)) :
    zb_G SC V U n y = zb_wt n P E (y ||| zb_SE X n) := by
  have ho := zb_OP_lt X hn
  have hyl := zb_sb_lt hy ho
  unfold zb_G zb_wt
  refine zb_pr_congr n (fun v hv => ?_)
  have hs : SC v < 128 := by rw [hSC v hv]; exact Nat.lt_of_le_of_lt Nat.and_le_right ho
  obtain ⟨q1, q2⟩ := zb_up_pk (SC v) hs y hyl
  try dsimp only
  rw [if_neg (by rw [hU v hv]; decide)]
  unfold zb_fv
  rw [hV v _ hv q1, q2]
  have key : ∀ k, ((P v ||| 2 ^ v).testBit k = true) → (y &&& SC v ||| zb_SE X n).testBit k = (y ||| zb_SE X n).testBit k := by
    intro k hk
    rw [Nat.testBit_or, Nat.testBit_or, Nat.testBit_and, hSC v hv, Nat.testBit_and, hk, Bool.true_and]
    cases hz : y.testBit k with
    | false => rw [Bool.false_and]
    | true => rw [hy k hz, Bool.true_and]
  refine zb_en_congr (fun j _ hj => key j ?_) (key v ?_)
  · rw [Nat.testBit_or, hj, Bool.true_or]
  · rw [Nat.testBit_or, Nat.testBit_two_pow_self, Bool.or_true]
theorem zb_first_B {n : Nat} {P E X SC V U : Nat → Nat} (hn : n ≤ 7) (hE : ∀ j, E j ≤ 9) (hS : ∀ v, v < n → SC v < 128) (hV : ∀ v i, v < n → i < 2 ^ zb_on (SC v) 7 → V (128 * v + i) = zb_en P E v (zb_up i (SC v) ||| zb_SE X n)) : zb_BD SC V U n 4782969 := by
  refine ⟨fun _ => 9, fun f hf => ⟨(by decide : 1 ≤ 9), fun _ y hy => ?_⟩, ?_⟩
  · obtain ⟨q1, q2⟩ := zb_up_pk (SC f) (hS f hf) y hy
    unfold zb_fv
    rw [hV f _ hf q1]
    exact hE _
  · refine Nat.le_trans (zb_pr_le (c := 9) n (fun i _ => ?_)) (Nat.pow_le_pow_right (by decide) hn : 9 ^ n ≤ 9 ^ 7)
    try dsimp only
    split <;> omega
end
section
/-! walks of the small methods: ones, packed, entryFor, jointScope, cheapest, joined -/
theorem zb_rd (U : Nat → Nat) {i : Nat} (h : i < 2 ^ 31) : zb_nF U (nI i).toNatClampNeg = nI (U i) := by rw [nI_clamp h]; rfl
theorem zb_rdL (V : Nat → Nat) {i : Nat} (h : i < 2 ^ 31) : zb_lF V (nI i).toNatClampNeg = lN (V i) := by rw [nI_clamp h]; rfl
theorem zb_t0 {U : Nat → Nat} {i : Nat} (h : i < 2 ^ 31) (e : U i = 0) : zb_nF U (nI i).toNatClampNeg = 0 := by rw [zb_rd U h, e]; rfl
theorem zb_f0 {U : Nat → Nat} {i : Nat} (h : i < 2 ^ 31) (hu : U i < 2 ^ 31) (e : ¬ U i = 0) : ¬ zb_nF U (nI i).toNatClampNeg = 0 := by
  rw [zb_rd U h]
  exact fun q => e ((nI_eq hu (by omega)).mp (q : nI (U i) = nI 0))
theorem zb_b1 {a v : Nat} (ha : a < 2 ^ 31) (hv : v < 32) (h : zb_bt a v = 1) : ((nI a >>> (nI v &&& 31)) &&& 1) = 1 := by rw [zb_bit ha hv, h]; rfl
theorem zb_b0 {a v : Nat} (ha : a < 2 ^ 31) (hv : v < 32) (h : ¬ zb_bt a v = 1) : ¬ ((nI a >>> (nI v &&& 31)) &&& 1) = 1 := by
  rw [zb_bit ha hv]
  have hl := zb_bt_le a v
  exact fun q => h ((nI_eq (by omega) (by omega)).mp (q : nI (zb_bt a v) = nI 1))
theorem zb_packed {post : Int32 → Prop} {x s : Nat} (hx : x < 2 ^ 31) (hs : s < 2 ^ 31) (hp : post (nI (zb_pk x s))) : wpX_packed post () (nI x) (nI s) :=
  pk_loop (σ := Unit) (fun n i _ => wX_packed_7 post (nI x) (nI s) n (nI (zb_pkR x s i)) (nI (zb_on s i)) (nI i)) (fun _ _ => True) 7 0 () (by omega) trivial
    (fun n _ _ => pk_le 7 7 (fun _ => hp) (fun z => absurd z (by omega)))
    (fun n i _ hi _ hw => by
      have t : wX_packed_7 post (nI x) (nI s) n (nI (zb_pkR x s (i + 1))) (nI (zb_on s (i + 1))) (nI (i + 1)) := hw () trivial
      have e1 : zb_pkR x s (i + 1) = if zb_bt s i = 1 then zb_pkR x s i ||| (zb_bt x i * 2 ^ zb_on s i) else zb_pkR x s i := rfl
      have e2 : zb_on s (i + 1) = zb_on s i + zb_bt s i := rfl
      have hl := zb_bt_le s i
      have hlx := zb_bt_le x i
      have hon := zb_on_le s i
      have hpw : 2 ^ zb_on s i ≤ 64 := (Nat.pow_le_pow_right (by decide) (by omega) : 2 ^ zb_on s i ≤ 2 ^ 6)
      refine pk_le 7 i (fun z => absurd z (by omega)) (fun _ => ?_)
      by_cases hb : zb_bt s i = 1
      · rw [e1, e2, if_pos hb, hb] at t
        refine br_t (zb_b1 hs (by omega) hb) (nm_r ?_ (nm_r (nI_1 _) (nm_r (nI_1 i) t)))
        have hm : zb_bt x i * 2 ^ zb_on s i ≤ 1 * 64 := Nat.mul_le_mul hlx hpw
        rw [zb_bit hx (by omega), zb_shl (by omega) (by omega), zb_or]
      · rw [e1, e2, if_neg hb, show zb_bt s i = 0 by omega] at t
        exact br_f (zb_b0 hs (by omega) hb) (nm_r (nI_1 i) t))
theorem zb_ones {post : Int32 → Prop} {s : Nat} (hs : s < 2 ^ 31) (hp : post (nI (zb_on s 7))) : wpX_ones post () (nI s) :=
  pk_loop (σ := Unit) (fun n i _ => wX_ones_4 post (nI s) n (nI (zb_on s i)) (nI i)) (fun _ _ => True) 7 0 () (by omega) trivial
    (fun n _ _ => pk_le 7 7 (fun _ => hp) (fun z => absurd z (by omega)))
    (fun n i _ hi _ hw => by
      have t : wX_ones_4 post (nI s) n (nI (zb_on s i + zb_bt s i)) (nI (i + 1)) := hw () trivial
      refine pk_le 7 i (fun z => absurd z (by omega)) (fun _ => nm_r ?_ (nm_r (nI_1 i) t))
      rw [zb_bit hs (by omega), nI_add])
theorem zb_entry {post : Int32 → Prop} {v y : Nat} {P E : Nat → Nat} {f0 f1 f2 : Int32} {a3 a4 a5 a7 : Nat → Int32} {a6 : Nat → Int64} (hv : v < 7) (hy : y < 128) (hP : P v < 128 ∧ zb_on (P v) 7 ≤ 3) (hp : post (nI (zb_en P E v y))) : wpX_entryFor post (f0, f1, f2, zb_nF P, zb_nF E, a3, a4, a5, a6, a7) (nI v) (nI y) := by
  have h1 := (zb_up_pk (P v) hP.1 y hy).1
  have h2 : 2 ^ zb_on (P v) 7 ≤ 8 := (Nat.pow_le_pow_right (by decide) hP.2 : 2 ^ zb_on (P v) 7 ≤ 2 ^ 3)
  have h3 := zb_bt_le y v
  have e : 16 * nI v + 2 * nI (zb_pk y (P v)) + ((nI y >>> (nI v &&& 31)) &&& 1) = nI (16 * v + 2 * zb_pk y (P v) + zb_bt y v) := by
    rw [zb_bit (by omega) (by omega)]
    show nI 16 * nI v + nI 2 * nI (zb_pk y (P v)) + nI (zb_bt y v) = _
    rw [pk_mul, pk_mul, nI_add, nI_add]
  unfold wpX_entryFor
  try dsimp only
  refine ⟨pk_in v 7 hv, ?_⟩
  rw [zb_rd P (by omega)]
  refine zb_packed (by omega) (by omega) ?_
  try dsimp only
  rw [e, zb_rd E (by omega)]
  exact ⟨vp_in_nI (by omega) (by omega), hp⟩
def zb_js (SC U : Nat → Nat) (v : Nat) : Nat → Nat
  | 0 => 0
  | k + 1 => if U k = 0 then zb_js SC U v k else if zb_bt (SC k) v = 1 then zb_js SC U v k ||| SC k else zb_js SC U v k
theorem zb_js_lt {SC U : Nat → Nat} {v : Nat} : ∀ fac, (∀ f, f < fac → SC f < 128) → zb_js SC U v fac < 128 := by
  intro fac
  induction fac with
  | zero => intro _; exact (by decide : 0 < 128)
  | succ k ih =>
    intro h
    have h0 := ih (fun f hf => h f (by omega))
    show (if U k = 0 then zb_js SC U v k else if zb_bt (SC k) v = 1 then zb_js SC U v k ||| SC k else zb_js SC U v k) < 128
    repeat' split
    · exact h0
    · exact zb_or_lt h0 (h k (by omega))
    · exact h0
theorem zb_js_cov {SC U : Nat → Nat} {v f k : Nat} (hu : ¬ U f = 0) (hb : zb_bt (SC f) v = 1) (hk : (SC f).testBit k = true) : ∀ fac, f < fac → (zb_js SC U v fac).testBit k = true := by
  intro fac
  induction fac with
  | zero => intro z; omega
  | succ m ih =>
    intro hf
    show (if U m = 0 then zb_js SC U v m else if zb_bt (SC m) v = 1 then zb_js SC U v m ||| SC m else zb_js SC U v m).testBit k = true
    by_cases e : f = m
    · rw [← e, if_neg hu, if_pos hb, Nat.testBit_or, hk, Bool.or_true]
    · have h0 := ih (by omega)
      repeat' split
      · exact h0
      · rw [Nat.testBit_or, h0, Bool.true_or]
      · exact h0
theorem zb_jscope {post : Int32 → Prop} {fac v : Nat} {SC U : Nat → Nat} {f0 f2 : Int32} {a1 a2 a3 a4 : Nat → Int32} {a6 : Nat → Int64} (hf : fac ≤ 15) (hv : v < 7) (hS : ∀ f, f < fac → SC f < 128) (hU : ∀ f, f < fac → U f ≤ 1) (hp : post (nI (zb_js SC U v fac))) : wpX_jointScope post (f0, nI fac, f2, a1, a2, a3, a4, zb_nF SC, a6, zb_nF U) (nI v) :=
  pk_loop (σ := Unit) (fun n i _ => wX_jointScope_4 post (nI v) f0 (nI fac) f2 a1 a2 a3 a4 (zb_nF SC) a6 (zb_nF U) n (nI (zb_js SC U v i)) (nI i)) (fun _ _ => True) fac 0 () (by omega) trivial
    (fun n _ _ => pk_le fac fac (fun _ => hp) (fun z => absurd z (by omega)))
    (fun n i _ hi _ hw => by
      have t : wX_jointScope_4 post (nI v) f0 (nI fac) f2 a1 a2 a3 a4 (zb_nF SC) a6 (zb_nF U) n (nI (zb_js SC U v (i + 1))) (nI (i + 1)) := hw () trivial
      have e1 : zb_js SC U v (i + 1) = if U i = 0 then zb_js SC U v i else if zb_bt (SC i) v = 1 then zb_js SC U v i ||| SC i else zb_js SC U v i := rfl
      have hSi := hS i hi
      have hUi := hU i hi
      refine pk_le fac i (fun z => absurd z (by omega)) (fun _ => ⟨pk_in i 15 (by omega), ?_⟩)
      by_cases h : U i = 0
      · rw [e1, if_pos h] at t
        exact br_t (zb_t0 (by omega) h) (nm_r (nI_1 i) t)
      · rw [e1, if_neg h] at t
        refine br_f (zb_f0 (by omega) (by omega) h) ⟨pk_in i 15 (by omega), ?_⟩
        rw [zb_rd SC (by omega)]
        by_cases h2 : zb_bt (SC i) v = 1
        · rw [if_pos h2] at t
          exact br_t (zb_b1 (by omega) (by omega) h2) ⟨pk_in i 15 (by omega), nm_r (zb_or _ _) (nm_r (nI_1 i) t)⟩
        · rw [if_neg h2] at t
          exact br_f (zb_b0 (by omega) (by omega) h2) (nm_r (nI_1 i) t))
theorem zb_cheap {post : Int32 → Prop} {n o fac : Nat} {SC U : Nat → Nat} {f2 : Int32} {a1 a2 a3 a4 : Nat → Int32} {a6 : Nat → Int64} (hn : n ≤ 7) (ho : o < 128) (hf : fac ≤ 15) (hS : ∀ f, f < fac → SC f < 128) (hU : ∀ f, f < fac → U f ≤ 1) (hex : ∃ j, j < n ∧ zb_bt o j = 1) (hp : ∀ b, b < n → zb_bt o b = 1 → post (nI b)) : wpX_cheapest post (nI n, nI fac, f2, a1, a2, a3, a4, zb_nF SC, a6, zb_nF U) (nI o) :=
  pk_loop (σ := Int32 × Int32) (fun k i s => wX_cheapest_7 post (nI o) (nI n) (nI fac) f2 a1 a2 a3 a4 (zb_nF SC) a6 (zb_nF U) k s.1 s.2 (nI i))
    (fun i s => (s.1 = -1 ∧ ∀ j, j < i → ¬ zb_bt o j = 1) ∨ (∃ b, b < n ∧ zb_bt o b = 1 ∧ s.1 = nI b)) n 0 (-1, 0) (by omega) (Or.inl ⟨rfl, fun j hj => absurd hj (by omega)⟩)
    (fun k s h => pk_le n n (fun _ => by
      rcases h with ⟨_, h⟩ | ⟨b, hb, hb2, e⟩
      · obtain ⟨j, hj, hj2⟩ := hex
        exact absurd hj2 (h j hj)
      · rw [e]
        exact hp b hb hb2) (fun z => absurd z (by omega)))
    (fun k i s hi h hw => by
      refine pk_le n i (fun z => absurd z (by omega)) (fun _ => ?_)
      by_cases hb : zb_bt o i = 1
      · have hj := zb_js_lt (U := U) (v := i) fac hS
        refine br_t (zb_b1 (by omega) (by omega) hb) (zb_jscope hf (by omega) hS hU (zb_ones (by omega) ?_))
        refine br_c (fun _ => nm_r (nI_1 i) (hw (nI i, _) (Or.inr ⟨i, hi, hb, rfl⟩))) (fun hs => br_c (fun _ => nm_r (nI_1 i) (hw (s.1, s.2) ?_)) (fun _ => nm_r (nI_1 i) (hw (nI i, _) (Or.inr ⟨i, hi, hb, rfl⟩))))
        rcases h with ⟨e, _⟩ | h
        · exact absurd (show s.1 < 0 by rw [e]; decide) hs
        · exact Or.inr h
      · refine br_f (zb_b0 (by omega) (by omega) hb) (nm_r (nI_1 i) (hw s ?_))
        rcases h with ⟨e, h⟩ | h
        · refine Or.inl ⟨e, fun j hj => ?_⟩
          by_cases z : j = i
          · rw [z]; exact hb
          · exact h j (by omega)
        · exact Or.inr h)
theorem zb_ix {i k : Nat} : 128 * nI i + nI k = nI (128 * i + k) := by
  show nI 128 * nI i + nI k = _
  rw [pk_mul, nI_add]
theorem zb_join {post : Int64 → Prop} {fac v y : Nat} {SC V U : Nat → Nat} {f0 f2 : Int32} {a1 a2 a3 a4 : Nat → Int32} (hf : fac ≤ 15) (hv : v < 7) (hy : y < 128) (hS : ∀ f, f < fac → SC f < 128) (hU : ∀ f, f < fac → U f ≤ 1) (hp : post (lN (zb_J SC V U v fac y))) : wpX_joined post (f0, nI fac, f2, a1, a2, a3, a4, zb_nF SC, zb_lF V, zb_nF U) (nI v) (nI y) :=
  pk_loop (σ := Unit) (fun n i _ => wX_joined_5 post (nI v) (nI y) f0 (nI fac) f2 a1 a2 a3 a4 (zb_nF SC) (zb_lF V) (zb_nF U) n (lN (zb_J SC V U v i y)) (nI i)) (fun _ _ => True) fac 0 () (by omega) trivial
    (fun n _ _ => pk_le fac fac (fun _ => hp) (fun z => absurd z (by omega)))
    (fun n i _ hi _ hw => by
      have t : wX_joined_5 post (nI v) (nI y) f0 (nI fac) f2 a1 a2 a3 a4 (zb_nF SC) (zb_lF V) (zb_nF U) n (lN (zb_J SC V U v (i + 1) y)) (nI (i + 1)) := hw () trivial
      have e1 : zb_J SC V U v (i + 1) y = zb_J SC V U v i y * (if U i = 0 then 1 else if zb_bt (SC i) v = 1 then zb_fv SC V i y else 1) := rfl
      have hSi := hS i hi
      have hUi := hU i hi
      refine pk_le fac i (fun z => absurd z (by omega)) (fun _ => ⟨pk_in i 15 (by omega), ?_⟩)
      by_cases h : U i = 0
      · rw [e1, if_pos h, Nat.mul_one] at t
        exact br_t (zb_t0 (by omega) h) (nm_r (nI_1 i) t)
      · rw [e1, if_neg h] at t
        refine br_f (zb_f0 (by omega) (by omega) h) ⟨pk_in i 15 (by omega), ?_⟩
        rw [zb_rd SC (by omega)]
        by_cases h2 : zb_bt (SC i) v = 1
        · rw [if_pos h2] at t
          have q1 := (zb_up_pk (SC i) hSi y hy).1
          have q2 := (zb_pw (SC i)).2
          refine br_t (zb_b1 (by omega) (by omega) h2) ⟨pk_in i 15 (by omega), zb_packed (by omega) (by omega) ?_⟩
          try dsimp only
          rw [zb_ix, zb_rdL V (by omega)]
          exact ⟨vp_in_nI (by omega) (by omega), nm_r (lN_mul _ _) (nm_r (nI_1 i) t)⟩
        · rw [if_neg h2, Nat.mul_one] at t
          exact br_f (zb_b0 (by omega) (by omega) h2) (nm_r (nI_1 i) t))
end
section
/-! walks: makeTable, takeOut -/
theorem zb_wL {s : Nat → Nat} {i x : Nat} (h : i < 2 ^ 31) : vp_updL (zb_lF s) (nI i).toNatClampNeg (lN x) = zb_lF (zb_ud s i x) := by rw [nI_clamp h, zb_ul]
theorem zb_wI {s : Nat → Nat} {i x : Nat} (h : i < 2 ^ 31) : upd (zb_nF s) (nI i).toNatClampNeg (nI x) = zb_nF (zb_ud s i x) := by rw [nI_clamp h, zb_ui]
theorem zb_mkB {post : St1 → Prop} {v se sc fac k i : Nat} {P E s : Nat → Nat} {f0 f2 : Int32} {a3 a4 a5 a7 : Nat → Int32} (hv : v < 7) (hse : se < 128) (hsc : sc < 128) (hf : fac ≤ 14) (hP : P v < 128 ∧ zb_on (P v) 7 ≤ 3) (hE : ∀ j, E j ≤ 9) (hi : i < 2 ^ zb_on sc 7)
    (Hl : zb_up i sc = sc → post (f0, nI (fac + 1), f2, zb_nF P, zb_nF E, a3, a4, a5, zb_lF (zb_ud s (128 * fac + i) (zb_en P E v (zb_up i sc ||| se))), a7))
    (Hn : zb_up i sc ≠ sc → wX_makeTable_41 post (nI v) (nI se) (nI sc) f0 (nI fac) f2 k (nI ((zb_up i sc + 4294967296 - sc) &&& sc)) (nI (i + 1)) (zb_nF P) (zb_nF E) a3 a4 a5 (zb_lF (zb_ud s (128 * fac + i) (zb_en P E v (zb_up i sc ||| se)))) a7) :
    wX_makeTable_41 post (nI v) (nI se) (nI sc) f0 (nI fac) f2 (k + 1) (nI (zb_up i sc)) (nI i) (zb_nF P) (zb_nF E) a3 a4 a5 (zb_lF s) a7 := by
  have hpw := (zb_pw sc).2
  obtain ⟨e1, e2⟩ := zb_pk_up sc hsc i hi
  have hen : zb_en P E v (zb_up i sc ||| se) ≤ 9 := hE _
  refine pk_le 128 i (fun z => absurd z (by omega)) (fun _ => zb_packed (by omega) (by omega) ?_)
  rw [e1, zb_or]
  refine zb_entry hv (zb_or_lt e2 hse) hP ?_
  rw [zb_ix]
  refine ⟨vp_in_nI (by omega) (by omega), ?_⟩
  rw [nI_l (by omega)]
  refine nm_r (zb_wL (by omega)) (pk_eq (zb_up i sc) sc (fun z => nm_r (nI_1 fac) (Hl z)) (fun z => nm_r (zb_nx hsc) (nm_r (nI_1 i) (Hn z))))
theorem zb_mk41 {post : St1 → Prop} {v se sc fac : Nat} {P E V : Nat → Nat} {f0 f2 : Int32} {a3 a4 a5 a7 : Nat → Int32} (hv : v < 7) (hse : se < 128) (hsc : sc < 128) (hf : fac ≤ 14) (hP : P v < 128 ∧ zb_on (P v) 7 ≤ 3) (hE : ∀ j, E j ≤ 9)
    (H : ∀ V', (∀ i, i < 128 * fac → V' i = V i) → (∀ i, i < 2 ^ zb_on sc 7 → V' (128 * fac + i) = zb_en P E v (zb_up i sc ||| se)) → post (f0, nI (fac + 1), f2, zb_nF P, zb_nF E, a3, a4, a5, zb_lF V', a7)) :
    ∃ k, wX_makeTable_41 post (nI v) (nI se) (nI sc) f0 (nI fac) f2 k 0 0 (zb_nF P) (zb_nF E) a3 a4 a5 (zb_lF V) a7 := by
  have hpw := zb_pw sc
  have upd1 : ∀ (i : Nat) (s : Nat → Nat) (x : Nat), ((∀ j, j < 128 * fac → s j = V j) ∧ ∀ j, j < i → s (128 * fac + j) = zb_en P E v (zb_up j sc ||| se)) → x = zb_en P E v (zb_up i sc ||| se) → ((∀ j, j < 128 * fac → zb_ud s (128 * fac + i) x j = V j) ∧ ∀ j, j < i + 1 → zb_ud s (128 * fac + i) x (128 * fac + j) = zb_en P E v (zb_up j sc ||| se)) := by
    intro i s x h hx
    refine ⟨fun j hj => ?_, fun j hj => ?_⟩
    · rw [zb_un s x (show j ≠ 128 * fac + i by omega)]
      exact h.1 j hj
    · by_cases e : j = i
      · rw [e, zb_us, hx]
      · rw [zb_un s x (show 128 * fac + j ≠ 128 * fac + i by omega)]
        exact h.2 j (by omega)
  have L := pk_loop (σ := Nat → Nat) (fun k i s => wX_makeTable_41 post (nI v) (nI se) (nI sc) f0 (nI fac) f2 k (nI (zb_up i sc)) (nI i) (zb_nF P) (zb_nF E) a3 a4 a5 (zb_lF s) a7)
    (fun i s => (∀ j, j < 128 * fac → s j = V j) ∧ ∀ j, j < i → s (128 * fac + j) = zb_en P E v (zb_up j sc ||| se)) (2 ^ zb_on sc 7 - 1) 0 V (by omega) ⟨fun _ _ => rfl, fun j hj => absurd hj (by omega)⟩
    (fun k s h => zb_mkB hv hse hsc hf hP hE (by omega) (fun _ => by
      obtain ⟨h1, h2⟩ := upd1 _ s _ h rfl
      exact H _ h1 (fun i hi => h2 i (by omega))) (fun z => absurd (zb_up_e sc hsc) z))
    (fun k i s hi h hw => by
      obtain ⟨n1, n2⟩ := zb_up_nx sc hsc i (by omega) (by omega)
      refine zb_mkB hv hse hsc hf hP hE (by omega) (fun z => absurd z n1) (fun _ => ?_)
      rw [n2]
      exact hw _ (upd1 i s _ h rfl))
  obtain ⟨k, hk⟩ := L
  refine ⟨k, ?_⟩
  have hk' : wX_makeTable_41 post (nI v) (nI se) (nI sc) f0 (nI fac) f2 k (nI (zb_up 0 sc)) (nI 0) (zb_nF P) (zb_nF E) a3 a4 a5 (zb_lF V) a7 := hk
  rw [zb_up_0 sc hsc] at hk'
  exact hk'
theorem zb_mkT {post : St1 → Prop} {v o se fac : Nat} {P E SC V U : Nat → Nat} {f0 f2 : Int32} {a3 a4 : Nat → Int32} (hv : v < 7) (ho : o < 128) (hse : se < 128) (hf : fac ≤ 14) (hP : P v < 128 ∧ zb_on (P v) 7 ≤ 3) (hE : ∀ j, E j ≤ 9)
    (H : ∀ V', (∀ i, i < 128 * fac → V' i = V i) → (∀ i, i < 2 ^ zb_on ((P v ||| 2 ^ v) &&& o) 7 → V' (128 * fac + i) = zb_en P E v (zb_up i ((P v ||| 2 ^ v) &&& o) ||| se)) → post (f0, nI (fac + 1), f2, zb_nF P, zb_nF E, a3, a4, zb_nF (zb_ud SC fac ((P v ||| 2 ^ v) &&& o)), zb_lF V', zb_nF (zb_ud U fac 1))) :
    wpX_makeTable post (f0, nI fac, f2, zb_nF P, zb_nF E, a3, a4, zb_nF SC, zb_lF V, zb_nF U) (nI v) (nI o) (nI se) := by
  have hsc : (P v ||| 2 ^ v) &&& o < 128 := Nat.lt_of_le_of_lt Nat.and_le_right ho
  unfold wpX_makeTable
  try dsimp only
  refine ⟨pk_in v 7 hv, nm_r (e' := nI ((P v ||| 2 ^ v) &&& o)) ?_ ⟨pk_in fac 15 (by omega), nm_r (zb_wI (by omega)) ⟨pk_in fac 15 (by omega), nm_r (zb_wI (x := 1) (by omega)) (zb_mk41 hv hse hsc hf hP hE H)⟩⟩⟩
  rw [zb_rd P (by omega), zb_shl1 (by omega), zb_or, zb_and]
/-! takeOut -/
theorem zb_to131 {post : St1 → Prop} {v sc fac : Nat} {SC U : Nat → Nat} {f0 f2 : Int32} {a1 a2 a3 a4 : Nat → Int32} {a6 : Nat → Int64} (hv : v < 7) (hf : fac ≤ 14) (hS : ∀ f, f < fac → SC f < 128)
    (H : ∀ U', (∀ f, f < fac → U' f = if zb_bt (SC f) v = 1 then 0 else U f) → post (f0, nI (fac + 1), f2, a1, a2, a3, a4, zb_nF (zb_ud SC fac sc), a6, zb_nF (zb_ud U' fac 1))) :
    ∃ k, wX_takeOut_131 post (nI v) (nI sc) f0 (nI fac) f2 k 0 a1 a2 a3 a4 (zb_nF SC) a6 (zb_nF U) :=
  pk_loop (σ := Nat → Nat) (fun k i s => wX_takeOut_131 post (nI v) (nI sc) f0 (nI fac) f2 k (nI i) a1 a2 a3 a4 (zb_nF SC) a6 (zb_nF s))
    (fun i s => (∀ f, f < i → s f = if zb_bt (SC f) v = 1 then 0 else U f) ∧ (∀ f, i ≤ f → s f = U f)) fac 0 U (by omega) ⟨fun f hf => absurd hf (by omega), fun _ _ => rfl⟩
    (fun k s h => pk_le fac fac (fun _ => ⟨pk_in fac 15 (by omega), nm_r (zb_wI (by omega)) ⟨pk_in fac 15 (by omega), nm_r (zb_wI (x := 1) (by omega)) (nm_r (nI_1 fac) (H s h.1))⟩⟩) (fun z => absurd z (by omega)))
    (fun k i s hi h hw => by
      have hSi := hS i hi
      refine pk_le fac i (fun z => absurd z (by omega)) (fun _ => ⟨pk_in i 15 (by omega), ?_⟩)
      rw [zb_rd SC (by omega)]
      by_cases h2 : zb_bt (SC i) v = 1
      · refine br_t (zb_b1 (by omega) (by omega) h2) ⟨pk_in i 15 (by omega), nm_r (zb_wI (x := 0) (by omega)) (nm_r (nI_1 i) (hw _ ⟨fun f hf => ?_, fun f hf => ?_⟩))⟩
        · by_cases e : f = i
          · rw [e, zb_us, if_pos h2]
          · rw [zb_un s 0 e]
            exact h.1 f (by omega)
        · rw [zb_un s 0 (show f ≠ i by omega)]
          exact h.2 f (by omega)
      · refine br_f (zb_b0 (by omega) (by omega) h2) (nm_r (nI_1 i) (hw s ⟨fun f hf => ?_, fun f hf => h.2 f (by omega)⟩))
        by_cases e : f = i
        · rw [e, if_neg h2]
          exact h.2 i (by omega)
        · exact h.1 f (by omega))
theorem zb_to79 {post : St1 → Prop} {J : Int32 → Int32 → (Nat → Int32) → (Nat → Int32) → (Nat → Int32) → (Nat → Int32) → (Nat → Int32) → (Nat → Int64) → (Nat → Int32) → Prop} {v sc fac i x : Nat} {SC U s : Nat → Nat} {f0 f2 x2 : Int32} {a1 a2 a3 a4 : Nat → Int32} (hsc : sc < 128) (hf : fac ≤ 14) (hi : i < 2 ^ zb_on sc 7)
    (Hl : zb_up i sc = sc → ∃ k, wX_takeOut_131 post (nI v) (nI sc) f0 (nI fac) f2 k 0 a1 a2 a3 a4 (zb_nF SC) (zb_lF (zb_ud s (128 * fac + i) x)) (zb_nF U))
    (Hn : zb_up i sc ≠ sc → J (nI ((zb_up i sc + 4294967296 - sc) &&& sc)) (nI (i + 1)) a1 a2 a3 a4 (zb_nF SC) (zb_lF (zb_ud s (128 * fac + i) x)) (zb_nF U)) :
    wX_takeOut_79 post J (nI v) x2 (nI sc) (nI (zb_up i sc)) (nI i) (lN x) f0 (nI fac) f2 a1 a2 a3 a4 (zb_nF SC) (zb_lF s) (zb_nF U) := by
  have hpw := (zb_pw sc).2
  obtain ⟨e1, e2⟩ := zb_pk_up sc hsc i hi
  unfold wX_takeOut_79
  refine zb_packed (by omega) (by omega) ?_
  rw [e1, zb_ix]
  exact ⟨vp_in_nI (by omega) (by omega), nm_r (zb_wL (by omega)) (pk_eq (zb_up i sc) sc (fun z => Hl z) (fun z => nm_r (zb_nx hsc) (nm_r (nI_1 i) (Hn z))))⟩
theorem zb_to20B {post : St1 → Prop} {v sc fac i k g : Nat} {SC U s : Nat → Nat} {f0 : Int32} {a1 a2 a3 a4 : Nat → Int32} (hv : v < 7) (hg : g ≤ 1) (hsc : sc < 128) (hf : fac ≤ 14) (hS : ∀ f, f < fac → SC f < 128) (hU : ∀ f, f < fac → U f ≤ 1) (hJ : ∀ y, y < 128 → zb_J SC s U v fac y < 2 ^ 63) (hi : i < 2 ^ zb_on sc 7)
    (Hl : zb_up i sc = sc → ∃ k, wX_takeOut_131 post (nI v) (nI sc) f0 (nI fac) (nI g) k 0 a1 a2 a3 a4 (zb_nF SC) (zb_lF (zb_ud s (128 * fac + i) (zb_op g (zb_J SC s U v fac (zb_up i sc)) (zb_J SC s U v fac (zb_up i sc ||| 2 ^ v))))) (zb_nF U))
    (Hn : zb_up i sc ≠ sc → wX_takeOut_20 post (nI v) (nI (2 ^ v)) (nI sc) f0 (nI fac) (nI g) k (nI ((zb_up i sc + 4294967296 - sc) &&& sc)) (nI (i + 1)) a1 a2 a3 a4 (zb_nF SC) (zb_lF (zb_ud s (128 * fac + i) (zb_op g (zb_J SC s U v fac (zb_up i sc)) (zb_J SC s U v fac (zb_up i sc ||| 2 ^ v))))) (zb_nF U)) :
    wX_takeOut_20 post (nI v) (nI (2 ^ v)) (nI sc) f0 (nI fac) (nI g) (k + 1) (nI (zb_up i sc)) (nI i) a1 a2 a3 a4 (zb_nF SC) (zb_lF s) (zb_nF U) := by
  have hpw := (zb_pw sc).2
  obtain ⟨e1, e2⟩ := zb_pk_up sc hsc i hi
  have hl2 : zb_up i sc ||| 2 ^ v < 128 := zb_or_lt e2 (zb_p2_lt hv)
  have j1 := hJ _ e2
  have j2 := hJ _ hl2
  refine pk_le 128 i (fun z => absurd z (by omega)) (fun _ => zb_join (by omega) hv e2 hS hU ?_)
  rw [zb_or]
  refine zb_join (by omega) hv hl2 hS hU (nm_r (lN_add _ _) ?_)
  revert Hl Hn j1 j2
  generalize zb_J SC s U v fac (zb_up i sc) = A
  generalize zb_J SC s U v fac (zb_up i sc ||| 2 ^ v) = B
  intro Hl Hn j1 j2
  by_cases h : g = 0
  · rw [h] at Hl Hn ⊢
    rw [zb_op_s] at Hl Hn
    exact br_t rfl (zb_to79 hsc hf hi Hl Hn)
  · have hg1 : g = 1 := by omega
    rw [hg1] at Hl Hn ⊢
    refine br_f (by decide) (br_c (fun z => ?_) (fun z => ?_))
    · have hab : A ≤ B := (pk_lLE j1 j2).mp z
      have e : zb_op 1 A B = B := by unfold zb_op; rw [if_neg (by decide), if_pos hab]
      rw [e] at Hl Hn
      unfold wX_takeOut_77
      exact zb_to79 hsc hf hi Hl Hn
    · have hab : ¬ A ≤ B := fun q => z ((pk_lLE j1 j2).mpr q)
      have e : zb_op 1 A B = A := by unfold zb_op; rw [if_neg (by decide), if_neg hab]
      rw [e] at Hl Hn
      unfold wX_takeOut_77
      exact zb_to79 hsc hf hi Hl Hn
theorem zb_to20 {post : St1 → Prop} {v sc fac g : Nat} {SC U V : Nat → Nat} {f0 : Int32} {a1 a2 a3 a4 : Nat → Int32} (hv : v < 7) (hg : g ≤ 1) (hsc : sc < 128) (hf : fac ≤ 14) (hS : ∀ f, f < fac → SC f < 128) (hU : ∀ f, f < fac → U f ≤ 1) (hJ : ∀ y, y < 128 → zb_J SC V U v fac y < 2 ^ 63)
    (H : ∀ V', (∀ i, i < 128 * fac → V' i = V i) → (∀ i, i < 2 ^ zb_on sc 7 → V' (128 * fac + i) = zb_op g (zb_J SC V U v fac (zb_up i sc)) (zb_J SC V U v fac (zb_up i sc ||| 2 ^ v))) → ∃ k, wX_takeOut_131 post (nI v) (nI sc) f0 (nI fac) (nI g) k 0 a1 a2 a3 a4 (zb_nF SC) (zb_lF V') (zb_nF U)) :
    ∃ k, wX_takeOut_20 post (nI v) (nI (2 ^ v)) (nI sc) f0 (nI fac) (nI g) k 0 0 a1 a2 a3 a4 (zb_nF SC) (zb_lF V) (zb_nF U) := by
  have hpw := zb_pw sc
  have upd1 : ∀ (i : Nat) (s : Nat → Nat), i < 2 ^ zb_on sc 7 → ((∀ j, j < 128 * fac → s j = V j) ∧ ∀ j, j < i → s (128 * fac + j) = zb_op g (zb_J SC V U v fac (zb_up j sc)) (zb_J SC V U v fac (zb_up j sc ||| 2 ^ v))) → ((∀ j, j < 128 * fac → zb_ud s (128 * fac + i) (zb_op g (zb_J SC s U v fac (zb_up i sc)) (zb_J SC s U v fac (zb_up i sc ||| 2 ^ v))) j = V j) ∧ ∀ j, j < i + 1 → zb_ud s (128 * fac + i) (zb_op g (zb_J SC s U v fac (zb_up i sc)) (zb_J SC s U v fac (zb_up i sc ||| 2 ^ v))) (128 * fac + j) = zb_op g (zb_J SC V U v fac (zb_up j sc)) (zb_J SC V U v fac (zb_up j sc ||| 2 ^ v))) := by
    intro i s hi h
    have e2 := (zb_pk_up sc hsc i hi).2
    rw [zb_J_V e2 hS h.1, zb_J_V (zb_or_lt e2 (zb_p2_lt hv)) hS h.1]
    refine ⟨fun j hj => ?_, fun j hj => ?_⟩
    · rw [zb_un s _ (show j ≠ 128 * fac + i by omega)]
      exact h.1 j hj
    · by_cases e : j = i
      · rw [e, zb_us]
      · rw [zb_un s _ (show 128 * fac + j ≠ 128 * fac + i by omega)]
        exact h.2 j (by omega)
  have hJs : ∀ (s : Nat → Nat), (∀ j, j < 128 * fac → s j = V j) → ∀ y, y < 128 → zb_J SC s U v fac y < 2 ^ 63 := by
    intro s h y hy
    rw [zb_J_V hy hS h]
    exact hJ y hy
  have L := pk_loop (σ := Nat → Nat) (fun k i s => wX_takeOut_20 post (nI v) (nI (2 ^ v)) (nI sc) f0 (nI fac) (nI g) k (nI (zb_up i sc)) (nI i) a1 a2 a3 a4 (zb_nF SC) (zb_lF s) (zb_nF U))
    (fun i s => (∀ j, j < 128 * fac → s j = V j) ∧ ∀ j, j < i → s (128 * fac + j) = zb_op g (zb_J SC V U v fac (zb_up j sc)) (zb_J SC V U v fac (zb_up j sc ||| 2 ^ v))) (2 ^ zb_on sc 7 - 1) 0 V (by omega) ⟨fun _ _ => rfl, fun j hj => absurd hj (by omega)⟩
    (fun k s h => zb_to20B hv hg hsc hf hS hU (hJs s h.1) (by omega) (fun _ => by
      obtain ⟨h1, h2⟩ := upd1 _ s (by omega) h
      exact H _ h1 (fun i hi => h2 i (by omega))) (fun z => absurd (zb_up_e sc hsc) z))
    (fun k i s hi h hw => by
      obtain ⟨n1, n2⟩ := zb_up_nx sc hsc i (by omega) (by omega)
      refine zb_to20B hv hg hsc hf hS hU (hJs s h.1) (by omega) (fun z => absurd z n1) (fun _ => ?_)
      rw [n2]
      exact hw _ (upd1 i s (by omega) h))
  obtain ⟨k, hk⟩ := L
  refine ⟨k, ?_⟩
  have hk' : wX_takeOut_20 post (nI v) (nI (2 ^ v)) (nI sc) f0 (nI fac) (nI g) k (nI (zb_up 0 sc)) (nI 0) a1 a2 a3 a4 (zb_nF SC) (zb_lF V) (zb_nF U) := hk
  rw [zb_up_0 sc hsc] at hk'
  exact hk'
def zb_sc (SC U : Nat → Nat) (v fac : Nat) : Nat := zb_clr (zb_js SC U v fac) v
theorem zb_tOut {post : St1 → Prop} {v fac g : Nat} {SC U V : Nat → Nat} {f0 : Int32} {a1 a2 a3 a4 : Nat → Int32} (hv : v < 7) (hg : g ≤ 1) (hf : fac ≤ 14) (hS : ∀ f, f < fac → SC f < 128) (hU : ∀ f, f < fac → U f ≤ 1) (hJ : ∀ y, y < 128 → zb_J SC V U v fac y < 2 ^ 63)
    (H : ∀ V' U', zb_nxt g SC V U (zb_ud SC fac (zb_sc SC U v fac)) V' U' v fac (zb_sc SC U v fac) → post (f0, nI (fac + 1), nI g, a1, a2, a3, a4, zb_nF (zb_ud SC fac (zb_sc SC U v fac)), zb_lF V', zb_nF U')) :
    wpX_takeOut post (f0, nI fac, nI g, a1, a2, a3, a4, zb_nF SC, zb_lF V, zb_nF U) (nI v) := by
  have hj := zb_js_lt (U := U) (v := v) fac hS
  have hsc : zb_sc SC U v fac < 128 := zb_clr_lt hj v
  unfold wpX_takeOut
  try dsimp only
  refine nm_r (zb_shl1 (by omega)) (zb_jscope (by omega) hv hS hU (nm_r (zb_clrI' hj hv) ?_))
  refine zb_to20 hv hg hsc hf hS hU hJ (fun V' h1 h2 => zb_to131 hv hf hS (fun U' h3 => H V' _ ?_))
  refine ⟨fun f hf => zb_un SC _ (by omega), zb_us SC fac _, h1, h2, fun f hf => ?_, zb_us U' fac 1⟩
  rw [zb_un U' 1 (show f ≠ fac by omega)]
  exact h3 f hf
end
section
/-! the walk of solve -/
theorem zb_T_00 {g : Nat} : ∀ (k : Nat) (f : Nat → Nat), zb_T g 0 k f = f := by
  intro k
  induction k with
  | zero => intro f; rfl
  | succ k ih =>
    intro f
    rw [zb_T_s, if_neg (by unfold zb_bt; rw [Nat.zero_div]; decide)]
    exact ih f
def zb_IV (g r n o t fac : Nat) (SC V U : Nat → Nat) : Prop :=
  o < 128 ∧ (∀ j, n ≤ j → o.testBit j = false) ∧ zb_on o 7 + t ≤ 7 ∧ fac = n + t ∧ (∀ f, f < fac → SC f < 128) ∧ (∀ f, f < fac → U f ≤ 1) ∧ zb_BD SC V U fac (4782969 * 2 ^ t) ∧ zb_T g o 7 (zb_G SC V U fac) 0 = r
theorem zb_IV_step {g r n o t fac v : Nat} {SC V U V' U' : Nat → Nat} (h : zb_IV g r n o t fac SC V U) (hv : v < 7) (hb : zb_bt o v = 1) (hn : zb_nxt g SC V U (zb_ud SC fac (zb_sc SC U v fac)) V' U' v fac (zb_sc SC U v fac)) :
    zb_IV g r n (zb_clr o v) (t + 1) (fac + 1) (zb_ud SC fac (zb_sc SC U v fac)) V' U' := by
  obtain ⟨ho, hoj, hon, hfac, hS, hU, hBD, hT⟩ := h
  have hj := zb_js_lt (U := U) (v := v) fac hS
  have hsc : zb_sc SC U v fac < 128 := zb_clr_lt hj v
  have hcl := zb_clr_lt ho v
  have hscv : (zb_sc SC U v fac).testBit v = false := by
    unfold zb_sc
    rw [zb_clr_t hj hv, decide_eq_false (fun z => z rfl), Bool.and_false]
  have hcov : zb_cov SC U v fac (zb_sc SC U v fac) := by
    intro f hf hu hbv k hk hs
    unfold zb_sc
    rw [zb_clr_t hj hv, zb_js_cov hu hbv hs fac hf, decide_eq_true hk]
    rfl
  refine ⟨hcl, fun j hj2 => ?_, ?_, by omega, fun f hf => ?_, fun f hf => ?_, ?_, ?_⟩
  · rw [zb_clr_t ho hv, hoj j hj2, Bool.false_and]
  · have := zb_on_clr v hv o ho hb
    omega
  · by_cases e : f = fac
    · rw [e, zb_us]; exact hsc
    · rw [zb_un SC _ e]; exact hS f (by omega)
  · by_cases e : f = fac
    · rw [e, hn.2.2.2.2.2]; exact Nat.le_refl 1
    · rw [hn.2.2.2.2.1 f (by omega)]
      have := hU f (by omega)
      split <;> omega
  · have hb2 := zb_BD_step hS hsc hv hn hBD
    rw [show 4782969 * 2 ^ (t + 1) = 2 * (4782969 * 2 ^ t) by rw [Nat.pow_succ]; omega]
    exact hb2
  · have hc0 : zb_bt (zb_clr o v) v = 0 := zb_tb0.mpr (by rw [zb_clr_t ho hv, decide_eq_false (fun z => z rfl), Bool.and_false])
    have hcj : ∀ j, j < 7 → j ≠ v → zb_bt (zb_clr o v) j = zb_bt o j := fun j _ hj2 => zb_btE (by rw [zb_clr_t ho hv, decide_eq_true hj2, Bool.and_true])
    rw [← hT, zb_T_out hb hc0 7 (zb_G SC V U fac) hv hcj]
    refine zb_T_congr 7 _ _ (fun y hy => ?_) 0 (zb_sb_0 _)
    refine zb_step hS hsc hscv hcov hn (zb_sb_lt hy hcl) ?_
    cases hz : y.testBit v with
    | false => rfl
    | true => exact absurd (zb_tb1.mpr (hy v hz)) (by omega)
theorem zb_so140 {post : Int64 → St1 → Prop} {fac : Nat} {SC V U : Nat → Nat} {f0 f2 : Int32} {a1 a2 a3 a4 : Nat → Int32} (hf : fac ≤ 15) (hS : ∀ f, f < fac → SC f < 128) (hU : ∀ f, f < fac → U f ≤ 1) (hp : post (lN (zb_G SC V U fac 0)) (f0, nI fac, f2, a1, a2, a3, a4, zb_nF SC, zb_lF V, zb_nF U)) :
    ∃ k, wX_solve_140 post f0 (nI fac) f2 a1 a2 a3 a4 (zb_nF SC) (zb_lF V) (zb_nF U) k 1 0 :=
  pk_loop (σ := Unit) (fun n i _ => wX_solve_140 post f0 (nI fac) f2 a1 a2 a3 a4 (zb_nF SC) (zb_lF V) (zb_nF U) n (lN (zb_G SC V U i 0)) (nI i)) (fun _ _ => True) fac 0 () (by omega) trivial
    (fun n _ _ => pk_le fac fac (fun _ => hp) (fun z => absurd z (by omega)))
    (fun n i _ hi _ hw => by
      have t : wX_solve_140 post f0 (nI fac) f2 a1 a2 a3 a4 (zb_nF SC) (zb_lF V) (zb_nF U) n (lN (zb_G SC V U (i + 1) 0)) (nI (i + 1)) := hw () trivial
      have e1 : zb_G SC V U (i + 1) 0 = zb_G SC V U i 0 * (if U i = 0 then 1 else zb_fv SC V i 0) := rfl
      have hSi := hS i hi
      have hUi := hU i hi
      refine pk_le fac i (fun z => absurd z (by omega)) (fun _ => ⟨pk_in i 15 (by omega), ?_⟩)
      by_cases h : U i = 0
      · rw [e1, if_pos h, Nat.mul_one] at t
        exact br_t (zb_t0 (by omega) h) (nm_r (nI_1 i) t)
      · have ef : zb_fv SC V i 0 = V (128 * i) := by
          unfold zb_fv
          rw [zb_pk_0 _ hSi]
          rfl
        rw [e1, if_neg h, ef] at t
        have e : (128 : Int32) * nI i = nI (128 * i) := pk_mul 128 i
        refine br_f (zb_f0 (by omega) (by omega) h) ?_
        rw [e, zb_rdL V (by omega)]
        exact ⟨vp_in_nI (by omega) (by omega), nm_r (lN_mul _ _) (nm_r (nI_1 i) t)⟩)
theorem zb_so95 {post : Int64 → St1 → Prop} {g r n : Nat} {a1 a2 a3 a4 : Nat → Int32} (hn : n ≤ 7) (hg : g ≤ 1)
    (H : ∀ fac SC V U, post (lN r) (nI n, nI fac, nI g, a1, a2, a3, a4, zb_nF SC, zb_lF V, zb_nF U)) :
    ∀ (m t o fac : Nat) (SC V U : Nat → Nat), t + m = 7 → zb_IV g r n o t fac SC V U → wX_solve_95 post (m + 1) (nI o) (nI t) (nI n) (nI fac) (nI g) a1 a2 a3 a4 (zb_nF SC) (zb_lF V) (zb_nF U) := by
  have fin : ∀ (t o fac : Nat) (SC V U : Nat → Nat), t ≤ 7 → o = 0 → zb_IV g r n o t fac SC V U → ∃ k, wX_solve_140 post (nI n) (nI fac) (nI g) a1 a2 a3 a4 (zb_nF SC) (zb_lF V) (zb_nF U) k 1 0 := by
    intro t o fac SC V U ht ho h
    obtain ⟨_, _, _, hfac, hS, hU, _, hT⟩ := h
    refine zb_so140 (by omega) hS hU ?_
    rw [ho, zb_T_00] at hT
    rw [hT]
    exact H fac SC V U
  intro m
  induction m with
  | zero =>
    intro t o fac SC V U ht h
    have h3 := h.2.2.1
    have ho : o = 0 := zb_on_0 o h.1 (by omega)
    exact pk_le 7 t (fun _ => fin t o fac SC V U (by omega) ho h) (fun z => absurd z (by omega))
  | succ m ih =>
    intro t o fac SC V U ht h
    have h' := h
    obtain ⟨ho, hoj, hon, hfac, hS, hU, hBD, hT⟩ := h'
    refine pk_le 7 t (fun z => absurd z (by omega)) (fun _ => pk_eq o 0 (fun e => fin t o fac SC V U (by omega) e h) (fun ne => ?_))
    have hex : ∃ j, j < n ∧ zb_bt o j = 1 := by
      obtain ⟨j, hj⟩ := Nat.exists_testBit_of_ne_zero ne
      refine ⟨j, ?_, zb_tb1.mpr hj⟩
      rcases Nat.lt_or_ge j n with q | q
      · exact q
      · rw [hoj j q] at hj
        exact absurd hj (by decide)
    refine zb_cheap hn ho (by omega) hS hU hex (fun b hb hb2 => ?_)
    have hM : 4782969 * 2 ^ t ≤ 4782969 * 2 ^ 7 := Nat.mul_le_mul_left _ (Nat.pow_le_pow_right (by decide) (by omega))
    refine zb_tOut (by omega) hg (by omega) hS hU (fun y hy => ?_) (fun V' U' hx => ?_)
    · have := zb_J_M (v := b) hBD hy
      omega
    · exact nm_r (zb_clrI ho (by omega)) (nm_r (nI_1 t) (ih (t + 1) _ _ _ V' U' (by omega) (zb_IV_step h (by omega) hb2 hx)))
theorem zb_so69 {post : Int64 → St1 → Prop} {g n : Nat} {P E X SC V U : Nat → Nat} {a3 a4 : Nat → Int32} (hn : n ≤ 7) (hg : g ≤ 1) (hP : ∀ v, v < n → P v < 128 ∧ zb_on (P v) 7 ≤ 3) (hE : ∀ j, E j ≤ 9) (hX : ∀ v, v < n → X v ≤ 2)
    (H : ∀ fac SC V U, post (lN (zb_VAL g n P E X)) (nI n, nI fac, nI g, zb_nF P, zb_nF E, a3, a4, zb_nF SC, zb_lF V, zb_nF U)) :
    ∃ k, wX_solve_69 post (nI (zb_OP X n)) (nI (zb_SE X n)) k 0 (nI n) 0 (nI g) (zb_nF P) (zb_nF E) a3 a4 (zb_nF SC) (zb_lF V) (zb_nF U) := by
  have ho := zb_OP_lt X hn
  have hse := zb_SE_lt hX hn
  refine pk_loop (σ := (Nat → Nat) × (Nat → Nat) × (Nat → Nat)) (fun k i s => wX_solve_69 post (nI (zb_OP X n)) (nI (zb_SE X n)) k (nI i) (nI n) (nI i) (nI g) (zb_nF P) (zb_nF E) a3 a4 (zb_nF s.1) (zb_lF s.2.1) (zb_nF s.2.2))
    (fun i s => (∀ w, w < i → s.1 w = (P w ||| 2 ^ w) &&& zb_OP X n) ∧ (∀ w, w < i → s.2.2 w = 1) ∧ (∀ w j, w < i → j < 2 ^ zb_on (s.1 w) 7 → s.2.1 (128 * w + j) = zb_en P E w (zb_up j (s.1 w) ||| zb_SE X n))) n 0 (SC, V, U) (by omega) ⟨fun w hw => absurd hw (by omega), fun w hw => absurd hw (by omega), fun w _ hw => absurd hw (by omega)⟩ ?_ ?_
  · rintro k ⟨SC, V, U⟩ ⟨h1, h2, h3⟩
    dsimp only at h1 h2 h3
    have hS : ∀ f, f < n → SC f < 128 := fun f hf => by
      rw [h1 f hf]
      exact Nat.lt_of_le_of_lt Nat.and_le_right ho
    refine pk_le n n (fun _ => ⟨8, zb_so95 hn hg H 7 0 _ n SC V U (by omega) ⟨ho, fun j hj => ?_, ?_, by omega, hS, fun f hf => ?_, ?_, ?_⟩⟩) (fun z => absurd z (by omega))
    · rw [zb_OP_t, decide_eq_false (by omega)]
    · have := zb_on_le (zb_OP X n) 7
      omega
    · exact Nat.le_of_eq (h2 f hf)
    · exact zb_first_B hn hE hS h3
    · unfold zb_VAL
      exact zb_T_congr 7 _ _ (fun y hy => zb_first hn (fun v hv => (hP v hv).1) h1 h2 h3 hy) 0 (zb_sb_0 _)
  · rintro k i ⟨SC, V, U⟩ hi ⟨h1, h2, h3⟩ hw
    dsimp only at h1 h2 h3
    refine pk_le n i (fun z => absurd z (by omega)) (fun _ => zb_mkT (by omega) ho hse (by omega) (hP i hi) hE (fun V' q1 q2 => nm_r (nI_1 i) (hw (_, V', _) ⟨fun w hw => ?_, fun w hw => ?_, fun w j hw => ?_⟩)))
    · show zb_ud SC i _ w = _
      by_cases e : w = i
      · rw [e, zb_us]
      · rw [zb_un SC _ e]
        exact h1 w (by omega)
    · show zb_ud U i 1 w = 1
      by_cases e : w = i
      · rw [e, zb_us]
      · rw [zb_un U _ e]
        exact h2 w (by omega)
    · show j < 2 ^ zb_on (zb_ud SC i _ w) 7 → V' (128 * w + j) = zb_en P E w (zb_up j (zb_ud SC i _ w) ||| zb_SE X n)
      by_cases e : w = i
      · rw [e, zb_us]
        exact q2 j
      · rw [zb_un SC _ e]
        intro hj
        have := (zb_pw (SC w)).2
        rw [q1 _ (by omega)]
        exact h3 w j (by omega) hj
theorem zb_so12 {post : Int64 → St1 → Prop} {g n : Nat} {P E X SC V U : Nat → Nat} {f1 : Int32} {a3 : Nat → Int32} (hn : n ≤ 7) (hg : g ≤ 1) (hP : ∀ v, v < n → P v < 128 ∧ zb_on (P v) 7 ≤ 3) (hE : ∀ j, E j ≤ 9) (hX : ∀ v, v < n → X v ≤ 2)
    (H : ∀ fac SC V U, post (lN (zb_VAL g n P E X)) (nI n, nI fac, nI g, zb_nF P, zb_nF E, a3, zb_nF X, zb_nF SC, zb_lF V, zb_nF U)) :
    ∃ k, wX_solve_12 post (nI n) f1 (nI g) (zb_nF P) (zb_nF E) a3 (zb_nF X) (zb_nF SC) (zb_lF V) (zb_nF U) k 0 0 0 :=
  pk_loop (σ := Unit) (fun k i _ => wX_solve_12 post (nI n) f1 (nI g) (zb_nF P) (zb_nF E) a3 (zb_nF X) (zb_nF SC) (zb_lF V) (zb_nF U) k (nI (zb_OP X i)) (nI (zb_SE X i)) (nI i)) (fun _ _ => True) n 0 () (by omega) trivial
    (fun k _ _ => pk_le n n (fun _ => zb_so69 hn hg hP hE hX H) (fun z => absurd z (by omega)))
    (fun k i _ hi _ hw => by
      have t : wX_solve_12 post (nI n) f1 (nI g) (zb_nF P) (zb_nF E) a3 (zb_nF X) (zb_nF SC) (zb_lF V) (zb_nF U) k (nI (zb_OP X (i + 1))) (nI (zb_SE X (i + 1))) (nI (i + 1)) := hw () trivial
      have e1 : zb_OP X (i + 1) = if X i = 2 then zb_OP X i ||| 2 ^ i else zb_OP X i := rfl
      have e2 : zb_SE X (i + 1) = if X i = 2 then zb_SE X i else zb_SE X i ||| (X i * 2 ^ i) := rfl
      have hXi := hX i hi
      have hp : 2 ^ i < 128 := zb_p2_lt (by omega)
      refine pk_le n i (fun z => absurd z (by omega)) (fun _ => ⟨pk_in i 7 (by omega), ?_⟩)
      rw [zb_rd X (by omega)]
      refine pk_eq (X i) 2 (fun e => ?_) (fun e => ⟨pk_in i 7 (by omega), ?_⟩)
      · rw [e1, e2, if_pos e, if_pos e] at t
        exact nm_r (by rw [zb_shl1 (by omega), zb_or]) (nm_r (nI_1 i) t)
      · rw [e1, e2, if_neg e, if_neg e] at t
        have hm : X i * 2 ^ i ≤ 2 * 128 := Nat.mul_le_mul hXi (by omega)
        exact nm_r (by rw [zb_shl (by omega) (by omega), zb_or]) (nm_r (nI_1 i) t))
theorem zb_solve {post : Int64 → St1 → Prop} {g n : Nat} {P E X : Nat → Nat} {f1 f2 : Int32} {a3 a5 a7 : Nat → Int32} {a6 : Nat → Int64} (hn : n ≤ 7) (hg : g ≤ 1) (hP : ∀ v, v < n → P v < 128 ∧ zb_on (P v) 7 ≤ 3) (hE : ∀ j, E j ≤ 9) (hX : ∀ v, v < n → X v ≤ 2)
    (H : ∀ f1 f2 a5 a6 a7, post (lN (zb_VAL g n P E X)) (nI n, f1, f2, zb_nF P, zb_nF E, a3, zb_nF X, a5, a6, a7)) :
    wpX_solve post (nI n, f1, f2, zb_nF P, zb_nF E, a3, zb_nF X, a5, a6, a7) (nI g) := by
  obtain ⟨SC, rfl⟩ := zb_nFx a5
  obtain ⟨V, rfl⟩ := zb_lFx a6
  obtain ⟨U, rfl⟩ := zb_nFx a7
  have hb : narrow .boolean (.int (nI g)) = .int (nI g) ∧ fits .boolean (.int (nI g)) = true := by
    rcases Nat.lt_or_ge g 1 with z | z
    · rw [show g = 0 by omega]
      exact ⟨rfl, rfl⟩
    · rw [show g = 1 by omega]
      exact ⟨rfl, rfl⟩
  exact ⟨hb.1, hb.2, zb_so12 hn hg hP hE hX (fun fac SC V U => H _ _ _ _ _)⟩
end
section
/-! the queries: what they answer over a picture n, P, E, S -/
def zb_MT (n : Nat) (P E S : Nat → Nat) (u : St1) : Prop := ∃ f1 f2 a4 a5 a6 a7, u = (nI n, f1, f2, zb_nF P, zb_nF E, zb_nF S, a4, a5, a6, a7)
def zb_WF (n : Nat) (P E S : Nat → Nat) : Prop := 2 ≤ n ∧ n ≤ 7 ∧ (∀ v, P v < 2 ^ v ∧ zb_on (P v) 7 ≤ 3) ∧ (∀ j, E j ≤ 9) ∧ (∀ v, S v ≤ 2)
theorem zb_WP {n : Nat} {P E S : Nat → Nat} (w : zb_WF n P E S) : ∀ v, v < n → P v < 128 ∧ zb_on (P v) 7 ≤ 3 := by
  intro v hv
  obtain ⟨_, h2, h3, _⟩ := w
  have h4 := zb_p2_lt (v := v) (by omega)
  have h5 := h3 v
  exact ⟨by omega, h5.2⟩
theorem zb_good1 {post : Int32 → Prop} {n v : Nat} {f1 f2 : Int32} {a1 a2 a3 a4 a5 a7 : Nat → Int32} {a6 : Nat → Int64} (hn : n ≤ 7) (hv : v < n) (hp : post 1) : wpX_isGood post (nI n, f1, f2, a1, a2, a3, a4, a5, a6, a7) (nI v) :=
  br_f (nI_pos (by omega)) (pk_le n v (fun z => absurd z (by omega)) (fun _ => hp))
theorem zb_good0 {post : Int32 → Prop} {n : Nat} {p f1 f2 : Int32} {a1 a2 a3 a4 a5 a7 : Nat → Int32} {a6 : Nat → Int64} (h : p < 0 ∨ nI n ≤ p) (hp : post 0) : wpX_isGood post (nI n, f1, f2, a1, a2, a3, a4, a5, a6, a7) p := by
  by_cases h0 : p < 0
  · exact br_t h0 hp
  · rcases h with h | h
    · exact absurd h h0
    · exact br_f h0 (br_t h hp)
theorem zb_tS {post : St1 → Prop} {n : Nat} {S : Nat → Nat} {f1 f2 : Int32} {a1 a2 a4 a5 a7 : Nat → Int32} {a6 : Nat → Int64} (hn : n ≤ 7) (H : ∀ X : Nat → Nat, (∀ v, v < n → X v = S v) → post (nI n, f1, f2, a1, a2, zb_nF S, zb_nF X, a5, a6, a7)) : wpX_takeSeen post (nI n, f1, f2, a1, a2, zb_nF S, a4, a5, a6, a7) := by
  obtain ⟨X, rfl⟩ := zb_nFx a4
  exact pk_loop (σ := Nat → Nat) (fun k i s => wX_takeSeen_2 post (nI n) f1 f2 k (nI i) a1 a2 (zb_nF S) (zb_nF s) a5 a6 a7) (fun i s => ∀ v, v < i → s v = S v) n 0 X (by omega) (fun v hv => absurd hv (by omega))
    (fun k s h => pk_le n n (fun _ => H s h) (fun z => absurd z (by omega)))
    (fun k i s hi h hw => pk_le n i (fun z => absurd z (by omega)) (fun _ => ⟨pk_in i 7 (by omega), pk_in i 7 (by omega), nm_r (by rw [zb_rd S (by omega), zb_wI (by omega)]) (nm_r (nI_1 i) (hw _ (fun v hv => by
      by_cases e : v = i
      · rw [e, zb_us]
      · rw [zb_un s _ e]
        exact h v (by omega))))⟩))
theorem zb_fix {post : Int32 → St1 → Prop} {v x : Nat} {X : Nat → Nat} {f0 f1 f2 : Int32} {a1 a2 a3 a5 a7 : Nat → Int32} {a6 : Nat → Int64} (hv : v < 7) (hx : x ≤ 1) (hX : X v ≤ 2)
    (H0 : X v = 1 - x → post 0 (f0, f1, f2, a1, a2, a3, zb_nF X, a5, a6, a7)) (H1 : X v ≠ 1 - x → post 1 (f0, f1, f2, a1, a2, a3, zb_nF (zb_ud X v x), a5, a6, a7)) : wpX_fix post (f0, f1, f2, a1, a2, a3, zb_nF X, a5, a6, a7) (nI v) (nI x) := by
  unfold wpX_fix
  dsimp only
  refine ⟨pk_in v 7 hv, ?_⟩
  have e : (1 : Int32) - nI x = nI (1 - x) := pk_sub (a := 1) hx
  rw [zb_rd X (by omega), e]
  exact pk_eq (X v) (1 - x) H0 (fun z => ⟨pk_in v 7 hv, nm_r (zb_wI (by omega)) (H1 z)⟩)
theorem zb_ud_eq {X S : Nat → Nat} {n v x : Nat} (h : ∀ w, w < n → X w = S w) : ∀ w, w < n → zb_ud X v x w = zb_ud S v x w := by
  intro w hw
  by_cases e : w = v
  · rw [e, zb_us, zb_us]
  · rw [zb_un X x e, zb_un S x e, h w hw]
theorem zb_ud_le {X : Nat → Nat} {n v x : Nat} (h : ∀ w, w < n → X w ≤ 2) (hx : x ≤ 2) : ∀ w, w < n → zb_ud X v x w ≤ 2 := by
  intro w hw
  by_cases e : w = v
  · rw [e, zb_us]; exact hx
  · rw [zb_un X x e]; exact h w hw
theorem zb_total {post : Int64 → St1 → Prop} {n : Nat} {P E S : Nat → Nat} {u : St1} (w : zb_WF n P E S) (hm : zb_MT n P E S u) (H : ∀ u', zb_MT n P E S u' → post (lN (zb_VAL 0 n P E S)) u') : wpX_total post u := by
  obtain ⟨f1, f2, a4, a5, a6, a7, rfl⟩ := hm
  unfold wpX_total
  dsimp only
  refine zb_tS w.2.1 (fun X hX => ?_)
  refine zb_solve (g := 0) w.2.1 (by omega) (zb_WP w) w.2.2.2.1 (fun v hv => by rw [hX v hv]; exact w.2.2.2.2 v) (fun f1 f2 a5 a6 a7 => ?_)
  rw [zb_VAL_congr hX]
  exact H _ ⟨_, _, _, _, _, _, rfl⟩
theorem zb_best {post : Int32 → St1 → Prop} {n : Nat} {P E S : Nat → Nat} {u : St1} (w : zb_WF n P E S) (hm : zb_MT n P E S u) (H : ∀ u', zb_MT n P E S u' → post (nI (zb_VAL 1 n P E S)) u') : wpX_best post u := by
  obtain ⟨f1, f2, a4, a5, a6, a7, rfl⟩ := hm
  unfold wpX_best
  dsimp only
  refine zb_tS w.2.1 (fun X hX => ?_)
  refine zb_solve (g := 1) w.2.1 (by omega) (zb_WP w) w.2.2.2.1 (fun v hv => by rw [hX v hv]; exact w.2.2.2.2 v) (fun f1 f2 a5 a6 a7 => ?_)
  rw [zb_VAL_congr hX]
  dsimp only
  rw [lN_i]
  exact H _ ⟨_, _, _, _, _, _, rfl⟩
def zb_tw (n : Nat) (P E S : Nat → Nat) (v x : Nat) : Nat := if S v = 1 - x then 0 else zb_VAL 0 n P E (zb_ud S v x)
theorem zb_tw25 {post : Int64 → St1 → Prop} {n v x : Nat} {P E S : Nat → Nat} {f1 f2 : Int32} {a4 a5 a7 : Nat → Int32} {a6 : Nat → Int64} (w : zb_WF n P E S) (hv : v < n) (hx : x ≤ 1) (H : ∀ u', zb_MT n P E S u' → post (lN (zb_tw n P E S v x)) u') : wX_totalWith_25 post (nI v) (nI x) (nI n) f1 f2 (zb_nF P) (zb_nF E) (zb_nF S) a4 a5 a6 a7 := by
  have hn := w.2.1
  unfold wX_totalWith_25
  refine zb_tS hn (fun X hX => ?_)
  have hX2 : ∀ v, v < n → X v ≤ 2 := fun v hv => by rw [hX v hv]; exact w.2.2.2.2 v
  refine zb_fix (by omega) hx (hX2 v hv) (fun e => ?_) (fun e => ?_)
  · rw [hX v hv] at e
    unfold zb_tw at H
    rw [if_pos e] at H
    exact br_t rfl (H _ ⟨_, _, _, _, _, _, rfl⟩)
  · rw [hX v hv] at e
    unfold zb_tw at H
    rw [if_neg e] at H
    refine br_f (by decide) (zb_solve (g := 0) hn (by omega) (zb_WP w) w.2.2.2.1 (zb_ud_le hX2 (by omega)) (fun f1 f2 a5 a6 a7 => ?_))
    rw [zb_VAL_congr (zb_ud_eq hX)]
    exact H _ ⟨_, _, _, _, _, _, rfl⟩
theorem zb_totW {post : Int64 → St1 → Prop} {n v x : Nat} {P E S : Nat → Nat} {u : St1} (w : zb_WF n P E S) (hm : zb_MT n P E S u) (hv : v < n) (hx : x ≤ 1) (H : ∀ u', zb_MT n P E S u' → post (lN (zb_tw n P E S v x)) u') : wpX_totalWith post u (nI v) (nI x) := by
  obtain ⟨f1, f2, a4, a5, a6, a7, rfl⟩ := hm
  unfold wpX_totalWith
  dsimp only
  refine zb_good1 w.2.1 hv (br_f (by decide) (pk_eq x 0 (fun _ => zb_tw25 w hv hx H) (fun z => pk_eq x 1 (fun _ => zb_tw25 w hv hx H) (fun z2 => absurd hx (by omega)))))
theorem zb_totB {post : Int64 → St1 → Prop} {n : Nat} {p q : Int32} {P E S : Nat → Nat} {u : St1} (hm : zb_MT n P E S u) (hp : p < 0 ∨ nI n ≤ p) (H : post (-1) u) : wpX_totalWith post u p q := by
  obtain ⟨f1, f2, a4, a5, a6, a7, rfl⟩ := hm
  unfold wpX_totalWith
  dsimp only
  exact zb_good0 hp (br_t rfl H)
def zb_bw (n : Nat) (P E S : Nat → Nat) (v x : Nat) : Int32 := if S v = 1 - x then -3 else nI (zb_VAL 1 n P E (zb_ud S v x))
theorem zb_bw22 {post : Int32 → St1 → Prop} {n v x : Nat} {P E S : Nat → Nat} {f1 f2 : Int32} {a4 a5 a7 : Nat → Int32} {a6 : Nat → Int64} (w : zb_WF n P E S) (hv : v < n) (hx : x ≤ 1) (H : ∀ u', zb_MT n P E S u' → post (zb_bw n P E S v x) u') : wX_bestWith_22 post (nI v) (nI x) (nI n) f1 f2 (zb_nF P) (zb_nF E) (zb_nF S) a4 a5 a6 a7 := by
  have hn := w.2.1
  unfold wX_bestWith_22
  refine zb_tS hn (fun X hX => ?_)
  have hX2 : ∀ v, v < n → X v ≤ 2 := fun v hv => by rw [hX v hv]; exact w.2.2.2.2 v
  refine zb_fix (by omega) hx (hX2 v hv) (fun e => ?_) (fun e => ?_)
  · rw [hX v hv] at e
    unfold zb_bw at H
    rw [if_pos e] at H
    exact br_t rfl (H _ ⟨_, _, _, _, _, _, rfl⟩)
  · rw [hX v hv] at e
    unfold zb_bw at H
    rw [if_neg e] at H
    refine br_f (by decide) (zb_solve (g := 1) hn (by omega) (zb_WP w) w.2.2.2.1 (zb_ud_le hX2 (by omega)) (fun f1 f2 a5 a6 a7 => ?_))
    rw [zb_VAL_congr (zb_ud_eq hX)]
    dsimp only
    rw [lN_i]
    exact H _ ⟨_, _, _, _, _, _, rfl⟩
theorem zb_bestW {post : Int32 → St1 → Prop} {n v x : Nat} {P E S : Nat → Nat} {u : St1} (w : zb_WF n P E S) (hm : zb_MT n P E S u) (hv : v < n) (hx : x ≤ 1) (H : ∀ u', zb_MT n P E S u' → post (zb_bw n P E S v x) u') : wpX_bestWith post u (nI v) (nI x) := by
  obtain ⟨f1, f2, a4, a5, a6, a7, rfl⟩ := hm
  unfold wpX_bestWith
  dsimp only
  refine zb_good1 w.2.1 hv (br_f (by decide) (pk_eq x 0 (fun _ => zb_bw22 w hv hx H) (fun z => pk_eq x 1 (fun _ => zb_bw22 w hv hx H) (fun z2 => absurd hx (by omega)))))
def zb_ps (n : Nat) (P E S : Nat → Nat) (v x t z : Nat) : Nat := if S v = 1 - x then 0 else if zb_ud S v x t = 1 - z then 0 else zb_VAL 0 n P E (zb_ud (zb_ud S v x) t z)
theorem zb_pairS {post : Int64 → St1 → Prop} {n v x t z : Nat} {P E S : Nat → Nat} {u : St1} (w : zb_WF n P E S) (hm : zb_MT n P E S u) (hv : v < n) (hx : x ≤ 1) (ht : t < n) (hz : z ≤ 1) (H : ∀ u', zb_MT n P E S u' → post (lN (zb_ps n P E S v x t z)) u') : wpX_pairSum post u (nI v) (nI x) (nI t) (nI z) := by
  obtain ⟨f1, f2, a4, a5, a6, a7, rfl⟩ := hm
  have hn := w.2.1
  unfold wpX_pairSum
  dsimp only
  refine zb_tS hn (fun X hX => ?_)
  have hX2 : ∀ v, v < n → X v ≤ 2 := fun v hv => by rw [hX v hv]; exact w.2.2.2.2 v
  unfold zb_ps at H
  refine zb_fix (by omega) hx (hX2 v hv) (fun e => ?_) (fun e => ?_)
  · rw [hX v hv] at e
    rw [if_pos e] at H
    exact br_t rfl (br_t rfl (H _ ⟨_, _, _, _, _, _, rfl⟩))
  · rw [hX v hv] at e
    rw [if_neg e] at H
    have hX3 := zb_ud_eq (v := v) (x := x) hX
    have hX4 := zb_ud_le (v := v) (x := x) hX2 (by omega)
    refine br_f (by decide) (zb_fix (by omega) hz (hX4 t ht) (fun e2 => ?_) (fun e2 => ?_))
    · rw [hX3 t ht] at e2
      rw [if_pos e2] at H
      exact br_t rfl (br_t rfl (H _ ⟨_, _, _, _, _, _, rfl⟩))
    · rw [hX3 t ht] at e2
      rw [if_neg e2] at H
      refine br_f (by decide) (br_f (by decide) (zb_solve (g := 0) hn (by omega) (zb_WP w) w.2.2.2.1 (zb_ud_le hX4 (by omega)) (fun f1 f2 a5 a6 a7 => ?_)))
      rw [zb_VAL_congr (zb_ud_eq hX3)]
      exact H _ ⟨_, _, _, _, _, _, rfl⟩
theorem zb_totP {post : Int64 → St1 → Prop} {n v x t z : Nat} {P E S : Nat → Nat} {u : St1} (w : zb_WF n P E S) (hm : zb_MT n P E S u) (hv : v < n) (hx : x ≤ 1) (ht : t < n) (hz : z ≤ 1) (H : ∀ u', zb_MT n P E S u' → post (lN (zb_ps n P E S v x t z)) u') : wpX_totalPair post u (nI v) (nI x) (nI t) (nI z) := by
  have hm' := hm
  obtain ⟨f1, f2, a4, a5, a6, a7, rfl⟩ := hm
  have hn := w.2.1
  unfold wpX_totalPair
  dsimp only
  refine zb_good1 hn hv (br_f (by decide) (zb_good1 hn ht (br_f (by decide) (br_f (nI_pos (by omega)) (br_f (nI_nlt (a := 1) (b := x) (by omega) (by omega) : ¬ nI 1 < nI x) ?_)))))
  refine br_f (nI_pos (by omega)) (br_t (nI_le (b := 1) hz (by omega) : nI z ≤ nI 1) (zb_pairS w hm' hv hx ht hz (fun u' hu' => ?_)))
  have hu2 := hu'
  obtain ⟨f1, f2, a4, a5, a6, a7, rfl⟩ := hu'
  exact H _ hu2
/-! independent -/
theorem zb_indep {post : Int32 → St1 → Prop} {n v t : Nat} {P E S : Nat → Nat} {u : St1} (w : zb_WF n P E S) (hm : zb_MT n P E S u) (hv : v < n) (ht : t < n)
    (hall : ∀ a b, a ≤ 1 → b ≤ 1 → lN (zb_VAL 0 n P E S) * lN (zb_ps n P E S v a t b) = lN (zb_tw n P E S v a) * lN (zb_tw n P E S t b)) (H : ∀ u', zb_MT n P E S u' → post 1 u') : wpX_independent post u (nI v) (nI t) := by
  have hm' := hm
  obtain ⟨f1, f2, a4, a5, a6, a7, rfl⟩ := hm
  have hn := w.2.1
  unfold wpX_independent
  dsimp only
  refine zb_good1 hn hv (br_f (by decide) (zb_good1 hn ht (br_f (by decide) (zb_total w hm' (fun u' hu' => ?_)))))
  have hu2 := hu'
  obtain ⟨g1, g2, b4, b5, b6, b7, rfl⟩ := hu'
  refine pk_loop (σ := St1) (fun k i s => wX_independent_26 post (nI v) (nI t) (lN (zb_VAL 0 n P E S)) k (nI i) s.1 s.2.1 s.2.2.1 s.2.2.2.1 s.2.2.2.2.1 s.2.2.2.2.2.1 s.2.2.2.2.2.2.1 s.2.2.2.2.2.2.2.1 s.2.2.2.2.2.2.2.2.1 s.2.2.2.2.2.2.2.2.2) (fun _ s => zb_MT n P E S s) 4 0 _ (by omega) hu2 ?_ ?_
  · intro k s h
    exact pk_le 4 4 (fun _ => H s h) (fun z => absurd z (by omega))
  · intro k i s hi h hw
    have e1 : nI i >>> ((1 : Int32) &&& 31) = nI (i / 2) := pk_shrN (by omega) _ 1 (by decide)
    have e2 : nI i &&& 1 = nI (i % 2) := pk_andN (by omega) 1 (by decide)
    refine pk_le 4 i (fun z => absurd z (by omega)) (fun _ => nm_r e1 (nm_r e2 ?_))
    refine zb_pairS w h hv (by omega) ht (by omega) (fun u1 hu1 => ?_)
    have hu1' := hu1
    obtain ⟨c1, c2, d4, d5, d6, d7, rfl⟩ := hu1
    refine zb_totW w hu1' hv (by omega) (fun u2 hu2 => ?_)
    have hu2' := hu2
    obtain ⟨c1, c2, d4, d5, d6, d7, rfl⟩ := hu2
    refine zb_totW w hu2' ht (by omega) (fun u3 hu3 => ?_)
    have hu3' := hu3
    obtain ⟨c1, c2, d4, d5, d6, d7, rfl⟩ := hu3
    exact br_t (hall _ _ (by omega) (by omega)) (nm_r (nI_1 i) (hw _ hu3'))
/-! bestNumber -/
def zb_bnX (n : Nat) (P E : Nat → Nat) (goal k : Nat) (X : Nat → Nat) : Nat → Nat := if X k = 2 then zb_ud X k (if lN (zb_VAL 1 n P E (zb_ud X k 0)) = lN goal then 0 else 1) else X
def zb_bnR (n : Nat) (P E : Nat → Nat) (goal : Nat) : Nat → (Nat → Nat) → Nat → Nat
  | 0, _, num => num
  | k + 1, X, num => zb_bnR n P E goal k (zb_bnX n P E goal k X) (num + zb_bnX n P E goal k X k * 2 ^ k)
def zb_bn (n : Nat) (P E S : Nat → Nat) : Nat := zb_bnR n P E (zb_VAL 1 n P E S) n S 0
theorem zb_bn20 {post : Int32 → St1 → Prop} {n goal : Nat} {P E S : Nat → Nat} (w : zb_WF n P E S) : ∀ (k num : Nat) (X Y : Nat → Nat) (f1 f2 : Int32) (a5 a7 : Nat → Int32) (a6 : Nat → Int64), k ≤ n → (∀ v, v < n → X v = Y v) → (∀ v, v < n → X v ≤ 2) → (∀ u', zb_MT n P E S u' → post (nI (zb_bnR n P E goal k Y num)) u') → wX_bestNumber_20 post (lN goal) (k + 1) (nI num) (nI k - 1) (nI n) f1 f2 (zb_nF P) (zb_nF E) (zb_nF S) (zb_nF X) a5 a6 a7 := by
  intro k
  have hn := w.2.1
  induction k with
  | zero =>
    intro num X Y f1 f2 a5 a7 a6 _ _ _ H
    exact br_t (by decide) (H _ ⟨_, _, _, _, _, _, rfl⟩)
  | succ k ih =>
    intro num X Y f1 f2 a5 a7 a6 hk hXY hX2 H
    have ek : nI (k + 1) - 1 = nI k := nI_pred k
    have em : nI k + (-1) = nI k - 1 := (Int32.sub_eq_add_neg _ _).symm
    have hp : 2 ^ k < 128 := zb_p2_lt (by omega)
    rw [ek]
    refine br_f (nI_pos (by omega)) ⟨pk_in k 7 (by omega), ?_⟩
    have step : ∀ (X' : Nat → Nat) (f1 f2 : Int32) (a5 a7 : Nat → Int32) (a6 : Nat → Int64), (∀ v, v < n → X' v = zb_bnX n P E goal k Y v) → (∀ v, v < n → X' v ≤ 2) → wX_bestNumber_70 post (wX_bestNumber_20 post (lN goal) (k + 1)) (lN goal) (nI num) (nI k) (nI n) f1 f2 (zb_nF P) (zb_nF E) (zb_nF S) (zb_nF X') a5 a6 a7 := by
      intro X' f1 f2 a5 a7 a6 h1 h2
      have hx := h2 k (by omega)
      have hm : X' k * 2 ^ k ≤ 2 * 128 := Nat.mul_le_mul hx (by omega)
      unfold wX_bestNumber_70
      refine ⟨pk_in k 7 (by omega), nm_r (e' := nI (num + zb_bnX n P E goal k Y k * 2 ^ k)) ?_ (nm_r em (ih _ X' (zb_bnX n P E goal k Y) f1 f2 a5 a7 a6 (by omega) h1 h2 H))⟩
      rw [zb_rd X' (by omega), zb_shl (by omega) (by omega), nI_add, h1 k (by omega)]
    rw [zb_rd X (by omega)]
    have hXk := hX2 k (by omega)
    refine pk_eq (X k) 2 (fun e => ⟨pk_in k 7 (by omega), nm_r (zb_wI (x := 0) (by omega)) ?_⟩) (fun e => ?_)
    · have eY : Y k = 2 := by rw [← hXY k (by omega)]; exact e
      refine zb_solve (g := 1) hn (by omega) (zb_WP w) w.2.2.2.1 (zb_ud_le hX2 (by omega)) (fun f1 f2 a5 a6 a7 => ?_)
      rw [zb_VAL_congr (zb_ud_eq hXY)]
      have hud : ∀ x v, v < n → zb_ud (zb_ud X k 0) k x v = zb_ud Y k x v := by
        intro x v hv
        by_cases ev : v = k
        · rw [ev, zb_us, zb_us]
        · rw [zb_un _ x ev, zb_un _ 0 ev, zb_un _ x ev, hXY v hv]
      refine br_c (fun q => ?_) (fun q => ?_)
      · unfold wX_bestNumber_69
        refine ⟨pk_in k 7 (by omega), nm_r (zb_wI (x := 0) (by omega)) (step _ _ _ _ _ _ (fun v hv => ?_) (zb_ud_le (zb_ud_le hX2 (by omega)) (by omega)))⟩
        unfold zb_bnX
        rw [if_pos eY, if_pos q]
        exact hud 0 v hv
      · unfold wX_bestNumber_69
        refine ⟨pk_in k 7 (by omega), nm_r (zb_wI (x := 1) (by omega)) (step _ _ _ _ _ _ (fun v hv => ?_) (zb_ud_le (zb_ud_le hX2 (by omega)) (by omega)))⟩
        unfold zb_bnX
        rw [if_pos eY, if_neg q]
        exact hud 1 v hv
    · have eY : ¬ Y k = 2 := by rw [← hXY k (by omega)]; exact e
      refine step X _ _ _ _ _ (fun v hv => ?_) hX2
      unfold zb_bnX
      rw [if_neg eY]
      exact hXY v hv
theorem zb_bestN {post : Int32 → St1 → Prop} {n : Nat} {P E S : Nat → Nat} {u : St1} (w : zb_WF n P E S) (hm : zb_MT n P E S u) (H : ∀ u', zb_MT n P E S u' → post (nI (zb_bn n P E S)) u') : wpX_bestNumber post u := by
  obtain ⟨f1, f2, a4, a5, a6, a7, rfl⟩ := hm
  unfold wpX_bestNumber
  dsimp only
  refine zb_tS w.2.1 (fun X hX => ?_)
  have hX2 : ∀ v, v < n → X v ≤ 2 := fun v hv => by rw [hX v hv]; exact w.2.2.2.2 v
  refine zb_solve (g := 1) w.2.1 (by omega) (zb_WP w) w.2.2.2.1 hX2 (fun f1 f2 a5 a6 a7 => ?_)
  rw [zb_VAL_congr hX]
  exact nm_e ⟨n + 1, zb_bn20 w n 0 X S f1 f2 a5 a7 a6 (Nat.le_refl n) hX hX2 H⟩
/-! blanket -/
def zb_blR (P : Nat → Nat) (v : Nat) : Nat → Int32
  | 0 => nI (P v)
  | k + 1 => if zb_bt (P k) v = 1 then (zb_blR P v k ||| ((1 : Int32) <<< (nI k &&& 31))) ||| nI (P k) else zb_blR P v k
def zb_bl (n : Nat) (P : Nat → Nat) (v : Nat) : Int32 := zb_blR P v n &&& (((1 : Int32) <<< (nI v &&& 31)) ^^^ (-1))
theorem zb_blank {post : Int32 → Prop} {n v : Nat} {P E S : Nat → Nat} {u : St1} (w : zb_WF n P E S) (hm : zb_MT n P E S u) (hv : v < n) (H : post (zb_bl n P v)) : wpX_blanket post u (nI v) := by
  obtain ⟨f1, f2, a4, a5, a6, a7, rfl⟩ := hm
  have hn := w.2.1
  have hP := zb_WP w
  unfold wpX_blanket
  dsimp only
  refine zb_good1 hn hv (br_f (by decide) ⟨pk_in v 7 (by omega), nm_r (zb_rd P (by omega)) ?_⟩)
  refine pk_loop (σ := Unit) (fun k i _ => wX_blanket_19 post (nI v) (nI n) f1 f2 (zb_nF P) (zb_nF E) (zb_nF S) a4 a5 a6 a7 k (zb_blR P v i) (nI i)) (fun _ _ => True) n 0 () (by omega) trivial ?_ ?_
  · intro k _ _
    exact pk_le n n (fun _ => H) (fun z => absurd z (by omega))
  · intro k i _ hi _ hw
    have t : wX_blanket_19 post (nI v) (nI n) f1 f2 (zb_nF P) (zb_nF E) (zb_nF S) a4 a5 a6 a7 k (zb_blR P v (i + 1)) (nI (i + 1)) := hw () trivial
    have e1 : zb_blR P v (i + 1) = if zb_bt (P i) v = 1 then (zb_blR P v i ||| ((1 : Int32) <<< (nI i &&& 31))) ||| nI (P i) else zb_blR P v i := rfl
    have hPi := (hP i hi).1
    refine pk_le n i (fun z => absurd z (by omega)) (fun _ => ⟨pk_in i 7 (by omega), ?_⟩)
    rw [zb_rd P (by omega)]
    by_cases h2 : zb_bt (P i) v = 1
    · rw [e1, if_pos h2] at t
      exact br_t (zb_b1 (by omega) (by omega) h2) ⟨pk_in i 7 (by omega), nm_e (nm_r (nI_1 i) t)⟩
    · rw [e1, if_neg h2] at t
      exact br_f (zb_b0 (by omega) (by omega) h2) (nm_r (nI_1 i) t)
theorem zb_blanB {post : Int32 → Prop} {n : Nat} {p : Int32} {P E S : Nat → Nat} {u : St1} (hm : zb_MT n P E S u) (hp : p < 0 ∨ nI n ≤ p) (H : post (-1)) : wpX_blanket post u p := by
  obtain ⟨f1, f2, a4, a5, a6, a7, rfl⟩ := hm
  unfold wpX_blanket
  dsimp only
  exact zb_good0 hp (br_t rfl H)
end
section
/-! the methods that change the picture -/
theorem zb_WF_S {n v x : Nat} {P E S : Nat → Nat} (w : zb_WF n P E S) (hx : x ≤ 2) : zb_WF n P E (zb_ud S v x) := by
  obtain ⟨h1, h2, h3, h4, h5⟩ := w
  refine ⟨h1, h2, h3, h4, fun k => ?_⟩
  by_cases e : k = v
  · rw [e, zb_us]; exact hx
  · rw [zb_un S x e]; exact h5 k
theorem zb_WF_E {n i x : Nat} {P E S : Nat → Nat} (w : zb_WF n P E S) (hx : x ≤ 9) : zb_WF n P (zb_ud E i x) S := by
  obtain ⟨h1, h2, h3, h4, h5⟩ := w
  refine ⟨h1, h2, h3, fun k => ?_, h5⟩
  by_cases e : k = i
  · rw [e, zb_us]; exact hx
  · rw [zb_un E x e]; exact h4 k
theorem zb_obs {post : Int32 → St1 → Prop} {n v x : Nat} {P E S : Nat → Nat} {u : St1} (w : zb_WF n P E S) (hm : zb_MT n P E S u) (hv : v < n) (hx : x ≤ 2) (H : ∀ u', zb_MT n P E (zb_ud S v x) u' → post (nI (S v)) u') : wpX_observe post u (nI v) (nI x) := by
  obtain ⟨f1, f2, a4, a5, a6, a7, rfl⟩ := hm
  have hn := w.2.1
  unfold wpX_observe
  dsimp only
  exact zb_good1 hn hv (br_f (by decide) (br_f (nI_pos (by omega)) (br_t (nI_le (b := 2) hx (by omega) : nI x ≤ nI 2) ⟨pk_in v 7 (by omega), nm_r (zb_rd S (by omega)) ⟨pk_in v 7 (by omega), nm_r (zb_wI (by omega)) (H _ ⟨_, _, _, _, _, _, rfl⟩)⟩⟩)))
theorem zb_obsG {n : Nat} {P E S : Nat → Nat} (w : zb_WF n P E S) (p q : Int32) : ∃ r S', zb_WF n P E S' ∧ ∀ (post : Int32 → St1 → Prop) (u : St1), zb_MT n P E S u → (∀ u', zb_MT n P E S' u' → post r u') → wpX_observe post u p q := by
  have hn := w.2.1
  have bad : (p < 0 ∨ nI n ≤ p) → ∃ r S', zb_WF n P E S' ∧ ∀ (post : Int32 → St1 → Prop) (u : St1), zb_MT n P E S u → (∀ u', zb_MT n P E S' u' → post r u') → wpX_observe post u p q := by
    intro hb
    refine ⟨-1, S, w, fun post u hm H => ?_⟩
    have hm' := hm
    obtain ⟨f1, f2, a4, a5, a6, a7, rfl⟩ := hm
    unfold wpX_observe
    dsimp only
    exact zb_good0 hb (br_t rfl (H _ hm'))
  rcases pk_ix p (n := n) (by omega) with h | h | ⟨v, hv, rfl⟩
  · exact bad (Or.inl h)
  · exact bad (Or.inr h)
  · by_cases h0 : q < 0
    · refine ⟨-2, S, w, fun post u hm H => ?_⟩
      have hm' := hm
      obtain ⟨f1, f2, a4, a5, a6, a7, rfl⟩ := hm
      unfold wpX_observe
      dsimp only
      exact zb_good1 hn hv (br_f (by decide) (br_t h0 (H _ hm')))
    · by_cases h2 : q ≤ 2
      · obtain ⟨x, hx, rfl⟩ := nI_of2 (M := 2) (n := 2) (by decide) h0 h2
        exact ⟨nI (S v), zb_ud S v x, zb_WF_S w hx, fun post u hm H => zb_obs w hm hv hx H⟩
      · refine ⟨-2, S, w, fun post u hm H => ?_⟩
        have hm' := hm
        obtain ⟨f1, f2, a4, a5, a6, a7, rfl⟩ := hm
        unfold wpX_observe
        dsimp only
        exact zb_good1 hn hv (br_f (by decide) (br_f h0 (br_f h2 (H _ hm'))))
/-! enter -/
theorem zb_ent48 {post : Int32 → St1 → Prop} {n v row own e : Nat} {P E S : Nat → Nat} {f1 f2 : Int32} {a4 a5 a7 : Nat → Int32} {a6 : Nat → Int64} (hv : v < 7) (hr : row < 8) (ho : own ≤ 1) (he : e ≤ 9) (H : ∀ u', zb_MT n P (zb_ud E (16 * v + 2 * row + own) e) S u' → post (nI (E (16 * v + 2 * row + own))) u') :
    wX_enter_48 post (nI v) (nI row) (nI own) (nI e) (nI n) f1 f2 (zb_nF P) (zb_nF E) (zb_nF S) a4 a5 a6 a7 := by
  have ei : 16 * nI v + 2 * nI row + nI own = nI (16 * v + 2 * row + own) := by
    show nI 16 * nI v + nI 2 * nI row + nI own = _
    rw [pk_mul, pk_mul, nI_add, nI_add]
  unfold wX_enter_48
  rw [ei]
  exact br_f (nI_pos (by omega)) (br_t (nI_le (b := 9) he (by omega) : nI e ≤ nI 9) ⟨vp_in_nI (by omega) (by omega), nm_r (zb_rd E (by omega)) ⟨vp_in_nI (by omega) (by omega), nm_r (zb_wI (by omega)) (H _ ⟨_, _, _, _, _, _, rfl⟩)⟩⟩)
theorem zb_rows {n v : Nat} {P E S : Nat → Nat} (w : zb_WF n P E S) : 1 ≤ 2 ^ zb_on (P v) 7 ∧ 2 ^ zb_on (P v) 7 ≤ 8 :=
  ⟨Nat.one_le_two_pow, (Nat.pow_le_pow_right (by decide) (w.2.2.1 v).2 : 2 ^ zb_on (P v) 7 ≤ 2 ^ 3)⟩
theorem zb_entO {post : Int32 → St1 → Prop} {n v : Nat} {q r t : Int32} {P E S : Nat → Nat} {f1 f2 : Int32} {a4 a5 a7 : Nat → Int32} {a6 : Nat → Int64} (w : zb_WF n P E S) (hv : v < n)
    (H : ((q < 0 → post (-2) (nI n, f1, f2, zb_nF P, zb_nF E, zb_nF S, a4, a5, a6, a7)) ∧ (¬ q < 0 → ((q < nI (2 ^ zb_on (P v) 7) → ((r = 0 → wX_enter_48 post (nI v) q r t (nI n) f1 f2 (zb_nF P) (zb_nF E) (zb_nF S) a4 a5 a6 a7) ∧ (¬ r = 0 → ((r = 1 → wX_enter_48 post (nI v) q r t (nI n) f1 f2 (zb_nF P) (zb_nF E) (zb_nF S) a4 a5 a6 a7) ∧ (¬ r = 1 → post (-3) (nI n, f1, f2, zb_nF P, zb_nF E, zb_nF S, a4, a5, a6, a7)))))) ∧ (¬ q < nI (2 ^ zb_on (P v) 7) → post (-2) (nI n, f1, f2, zb_nF P, zb_nF E, zb_nF S, a4, a5, a6, a7)))))) :
    wpX_enter post (nI n, f1, f2, zb_nF P, zb_nF E, zb_nF S, a4, a5, a6, a7) (nI v) q r t := by
  have hn := w.2.1
  have hP := (zb_WP w v hv).1
  have ho := zb_on_le (P v) 7
  unfold wpX_enter
  dsimp only
  refine zb_good1 hn hv (br_f (by decide) ⟨pk_in v 7 (by omega), ?_⟩)
  rw [zb_rd P (by omega)]
  exact zb_ones (by omega) (nm_r (zb_shl1 (by omega)) H)
theorem zb_ent {post : Int32 → St1 → Prop} {n v row own e : Nat} {P E S : Nat → Nat} {u : St1} (w : zb_WF n P E S) (hm : zb_MT n P E S u) (hv : v < n) (hr : row < 2 ^ zb_on (P v) 7) (ho : own ≤ 1) (he : e ≤ 9) (H : ∀ u', zb_MT n P (zb_ud E (16 * v + 2 * row + own) e) S u' → post (nI (E (16 * v + 2 * row + own))) u') : wpX_enter post u (nI v) (nI row) (nI own) (nI e) := by
  obtain ⟨f1, f2, a4, a5, a6, a7, rfl⟩ := hm
  have hn := w.2.1
  have hw := (zb_rows (v := v) w).2
  have h48 := zb_ent48 (post := post) (n := n) (P := P) (S := S) (f1 := f1) (f2 := f2) (a4 := a4) (a5 := a5) (a6 := a6) (a7 := a7) (show v < 7 by omega) (show row < 8 by omega) ho he H
  exact zb_entO w hv (br_f (nI_pos (by omega)) (br_t (nI_lt hr (by omega)) (pk_eq own 0 (fun _ => h48) (fun z => pk_eq own 1 (fun _ => h48) (fun z2 => absurd ho (by omega))))))
theorem zb_entR {post : Int32 → St1 → Prop} {n v row : Nat} {r t : Int32} {P E S : Nat → Nat} {u : St1} (w : zb_WF n P E S) (hm : zb_MT n P E S u) (hv : v < n) (hr : 2 ^ zb_on (P v) 7 ≤ row) (hl : row < 2 ^ 31) (H : post (-2) u) : wpX_enter post u (nI v) (nI row) r t := by
  obtain ⟨f1, f2, a4, a5, a6, a7, rfl⟩ := hm
  exact zb_entO w hv (br_f (nI_pos hl) (br_f (nI_nlt hr hl) H))
theorem zb_entG {n : Nat} {P E S : Nat → Nat} (w : zb_WF n P E S) (p q r t : Int32) : ∃ ret E', zb_WF n P E' S ∧ ∀ (post : Int32 → St1 → Prop) (u : St1), zb_MT n P E S u → (∀ u', zb_MT n P E' S u' → post ret u') → wpX_enter post u p q r t := by
  have hn := w.2.1
  have bad : (p < 0 ∨ nI n ≤ p) → ∃ ret E', zb_WF n P E' S ∧ ∀ (post : Int32 → St1 → Prop) (u : St1), zb_MT n P E S u → (∀ u', zb_MT n P E' S u' → post ret u') → wpX_enter post u p q r t := by
    intro hb
    refine ⟨-1, E, w, fun post u hm H => ?_⟩
    have hm' := hm
    obtain ⟨f1, f2, a4, a5, a6, a7, rfl⟩ := hm
    unfold wpX_enter
    dsimp only
    exact zb_good0 hb (br_t rfl (H _ hm'))
  rcases pk_ix p (n := n) (by omega) with h | h | ⟨v, hv, rfl⟩
  · exact bad (Or.inl h)
  · exact bad (Or.inr h)
  · have hw := (zb_rows (v := v) w).2
    by_cases h0 : q < 0
    · refine ⟨-2, E, w, fun post u hm H => ?_⟩
      have hm' := hm
      obtain ⟨f1, f2, a4, a5, a6, a7, rfl⟩ := hm
      exact zb_entO w hv (br_t h0 (H _ hm'))
    · by_cases h1 : q < nI (2 ^ zb_on (P v) 7)
      · obtain ⟨row, hrow, rfl⟩ := nI_of h0
        have hr : row < 2 ^ zb_on (P v) 7 := (nI_ltI hrow (by omega)).mp h1
        have low : ∀ own : Nat, own ≤ 1 → r = nI own → ∃ ret E', zb_WF n P E' S ∧ ∀ (post : Int32 → St1 → Prop) (u : St1), zb_MT n P E S u → (∀ u', zb_MT n P E' S u' → post ret u') → wpX_enter post u (nI v) (nI row) r t := by
          intro own hown er
          have all : ∀ (post : Int32 → St1 → Prop) (f1 f2 : Int32) (a4 a5 a7 : Nat → Int32) (a6 : Nat → Int64), wX_enter_48 post (nI v) (nI row) r t (nI n) f1 f2 (zb_nF P) (zb_nF E) (zb_nF S) a4 a5 a6 a7 → wpX_enter post (nI n, f1, f2, zb_nF P, zb_nF E, zb_nF S, a4, a5, a6, a7) (nI v) (nI row) r t := by
            intro post f1 f2 a4 a5 a7 a6 h48
            refine zb_entO w hv (br_f h0 (br_t h1 (br_c (fun _ => h48) (fun z => br_c (fun _ => h48) (fun z2 => ?_)))))
            rcases Nat.lt_or_ge own 1 with g | g
            · exact absurd (show r = 0 by rw [er, show own = 0 by omega]; rfl) z
            · exact absurd (show r = 1 by rw [er, show own = 1 by omega]; rfl) z2
          by_cases t0 : t < 0
          · refine ⟨-4, E, w, fun post u hm H => ?_⟩
            have hm' := hm
            obtain ⟨f1, f2, a4, a5, a6, a7, rfl⟩ := hm
            exact all post f1 f2 a4 a5 a7 a6 (br_t t0 (H _ hm'))
          · by_cases t9 : t ≤ 9
            · obtain ⟨e, he, rfl⟩ := nI_of2 (M := 9) (n := 9) (by decide) t0 t9
              refine ⟨nI (E (16 * v + 2 * row + own)), zb_ud E (16 * v + 2 * row + own) e, zb_WF_E w he, fun post u hm H => ?_⟩
              rw [er]
              exact zb_ent w hm hv hr hown he H
            · refine ⟨-4, E, w, fun post u hm H => ?_⟩
              have hm' := hm
              obtain ⟨f1, f2, a4, a5, a6, a7, rfl⟩ := hm
              exact all post f1 f2 a4 a5 a7 a6 (br_f t0 (br_f t9 (H _ hm')))
        by_cases r0 : r = 0
        · exact low 0 (by omega) r0
        · by_cases r1 : r = 1
          · exact low 1 (by omega) r1
          · refine ⟨-3, E, w, fun post u hm H => ?_⟩
            have hm' := hm
            obtain ⟨f1, f2, a4, a5, a6, a7, rfl⟩ := hm
            exact zb_entO w hv (br_f h0 (br_t h1 (br_f r0 (br_f r1 (H _ hm')))))
      · refine ⟨-2, E, w, fun post u hm H => ?_⟩
        have hm' := hm
        obtain ⟨f1, f2, a4, a5, a6, a7, rfl⟩ := hm
        exact zb_entO w hv (br_f h0 (br_f h1 (H _ hm')))
/-! parents -/
def zb_rst (E : Nat → Nat) (v m : Nat) : Nat → Nat := fun j => if 16 * v ≤ j ∧ j < 16 * v + m then 1 else E j
theorem zb_WF_P {n v s m : Nat} {P E S : Nat → Nat} (w : zb_WF n P E S) (hs : s < 2 ^ v) (ho : zb_on s 7 ≤ 3) : zb_WF n (zb_ud P v s) (zb_rst E v m) S := by
  obtain ⟨h1, h2, h3, h4, h5⟩ := w
  refine ⟨h1, h2, fun k => ?_, fun j => ?_, h5⟩
  · by_cases e : k = v
    · rw [e, zb_us]; exact ⟨hs, ho⟩
    · rw [zb_un P s e]; exact h3 k
  · unfold zb_rst
    have := h4 j
    split <;> omega
theorem zb_rst_s (E : Nat → Nat) (v m : Nat) : zb_ud (zb_rst E v m) (16 * v + m) 1 = zb_rst E v (m + 1) := by
  funext j
  unfold zb_ud zb_rst
  by_cases e : j = 16 * v + m
  · rw [if_pos e, if_pos (by omega)]
  · rw [if_neg e]
    by_cases g : 16 * v ≤ j ∧ j < 16 * v + m
    · rw [if_pos g, if_pos (by omega)]
    · rw [if_neg g, if_neg (by omega)]
theorem zb_rst_0 (E : Nat → Nat) (v : Nat) : zb_rst E v 0 = E := by
  funext j
  unfold zb_rst
  rw [if_neg (by omega)]
theorem zb_par49 {post : Int32 → St1 → Prop} {n v : Nat} {r f1 f2 : Int32} {P E S : Nat → Nat} {a4 a5 a7 : Nat → Int32} {a6 : Nat → Int64} (hv : v < 7) (H : ∀ u', zb_MT n P (zb_rst E v 16) S u' → post r u') :
    ∃ k, wX_parents_49 post (nI v) r (nI n) f1 f2 k 0 (zb_nF P) (zb_nF E) (zb_nF S) a4 a5 a6 a7 := by
  have L := pk_loop (σ := Unit) (fun k i _ => wX_parents_49 post (nI v) r (nI n) f1 f2 k (nI i) (zb_nF P) (zb_nF (zb_rst E v i)) (zb_nF S) a4 a5 a6 a7) (fun _ _ => True) 16 0 () (by omega) trivial
    (fun k _ _ => pk_le 16 16 (fun _ => H _ ⟨_, _, _, _, _, _, rfl⟩) (fun z => absurd z (by omega)))
    (fun k i _ hi _ hw => by
      have t : wX_parents_49 post (nI v) r (nI n) f1 f2 k (nI (i + 1)) (zb_nF P) (zb_nF (zb_rst E v (i + 1))) (zb_nF S) a4 a5 a6 a7 := hw () trivial
      have ei : (16 : Int32) * nI v + nI i = nI (16 * v + i) := by
        show nI 16 * nI v + nI i = _
        rw [pk_mul, nI_add]
      refine pk_le 16 i (fun z => absurd z (by omega)) (fun _ => ?_)
      rw [ei]
      refine ⟨vp_in_nI (by omega) (by omega), nm_r ?_ (nm_r (nI_1 i) t)⟩
      rw [← zb_rst_s]
      exact zb_wI (x := 1) (by omega))
  obtain ⟨k, hk⟩ := L
  refine ⟨k, ?_⟩
  have hk' : wX_parents_49 post (nI v) r (nI n) f1 f2 k (nI 0) (zb_nF P) (zb_nF (zb_rst E v 0)) (zb_nF S) a4 a5 a6 a7 := hk
  rw [zb_rst_0] at hk'
  exact hk'
theorem zb_par {post : Int32 → St1 → Prop} {n v s : Nat} {P E S : Nat → Nat} {u : St1} (w : zb_WF n P E S) (hm : zb_MT n P E S u) (hv : v < n) (hs : s < 2 ^ v) (ho : zb_on s 7 ≤ 3) (H : ∀ u', zb_MT n (zb_ud P v s) (zb_rst E v 16) S u' → post (nI (P v)) u') : wpX_parents post u (nI v) (nI s) := by
  obtain ⟨f1, f2, a4, a5, a6, a7, rfl⟩ := hm
  have hn := w.2.1
  have hp := zb_p2_lt (v := v) (by omega)
  unfold wpX_parents
  dsimp only
  refine zb_good1 hn hv (br_f (by decide) (br_f (nI_pos (by omega)) (br_f ?_ (zb_ones (by omega) (br_t (nI_le (b := 3) ho (by omega) : nI (zb_on s 7) ≤ nI 3) ⟨pk_in v 7 (by omega), nm_r (zb_rd P (by omega)) ⟨pk_in v 7 (by omega), nm_r (zb_wI (by omega)) (zb_par49 (by omega) H)⟩⟩)))))
  rw [zb_shl1 (by omega)]
  exact nI_ge hs (by omega)
theorem zb_parB {post : Int32 → St1 → Prop} {n v s : Nat} {P E S : Nat → Nat} {u : St1} (w : zb_WF n P E S) (hm : zb_MT n P E S u) (hv : v < n) (hs : 2 ^ v ≤ s) (hl : s < 2 ^ 31) (H : post (-2) u) : wpX_parents post u (nI v) (nI s) := by
  obtain ⟨f1, f2, a4, a5, a6, a7, rfl⟩ := hm
  have hn := w.2.1
  unfold wpX_parents
  dsimp only
  refine zb_good1 hn hv (br_f (by decide) (br_f (nI_pos hl) (br_t ?_ H)))
  rw [zb_shl1 (by omega)]
  exact nI_le hs hl
theorem zb_parG {n : Nat} {P E S : Nat → Nat} (w : zb_WF n P E S) (p q : Int32) : ∃ ret P' E', zb_WF n P' E' S ∧ ∀ (post : Int32 → St1 → Prop) (u : St1), zb_MT n P E S u → (∀ u', zb_MT n P' E' S u' → post ret u') → wpX_parents post u p q := by
  have hn := w.2.1
  have bad : (p < 0 ∨ nI n ≤ p) → ∃ ret P' E', zb_WF n P' E' S ∧ ∀ (post : Int32 → St1 → Prop) (u : St1), zb_MT n P E S u → (∀ u', zb_MT n P' E' S u' → post ret u') → wpX_parents post u p q := by
    intro hb
    refine ⟨-1, P, E, w, fun post u hm H => ?_⟩
    have hm' := hm
    obtain ⟨f1, f2, a4, a5, a6, a7, rfl⟩ := hm
    unfold wpX_parents
    dsimp only
    exact zb_good0 hb (br_t rfl (H _ hm'))
  rcases pk_ix p (n := n) (by omega) with h | h | ⟨v, hv, rfl⟩
  · exact bad (Or.inl h)
  · exact bad (Or.inr h)
  · by_cases h0 : q < 0
    · refine ⟨-2, P, E, w, fun post u hm H => ?_⟩
      have hm' := hm
      obtain ⟨f1, f2, a4, a5, a6, a7, rfl⟩ := hm
      unfold wpX_parents
      dsimp only
      exact zb_good1 hn hv (br_f (by decide) (br_t h0 (H _ hm')))
    · obtain ⟨s, hs, rfl⟩ := nI_of h0
      rcases Nat.lt_or_ge s (2 ^ v) with h1 | h1
      · have hp := zb_p2_lt (v := v) (by omega)
        have hon := zb_on_le s 7
        rcases Nat.lt_or_ge 3 (zb_on s 7) with h3 | h3
        · refine ⟨-2, P, E, w, fun post u hm H => ?_⟩
          have hm' := hm
          obtain ⟨f1, f2, a4, a5, a6, a7, rfl⟩ := hm
          unfold wpX_parents
          dsimp only
          refine zb_good1 hn hv (br_f (by decide) (br_f h0 (br_f ?_ (zb_ones hs (br_f (nI_ge (a := 3) h3 (by omega) : ¬ nI (zb_on s 7) ≤ nI 3) (H _ hm'))))))
          rw [zb_shl1 (by omega)]
          exact nI_ge h1 (by omega)
        · exact ⟨nI (P v), zb_ud P v s, zb_rst E v 16, zb_WF_P w h1 h3, fun post u hm H => zb_par w hm hv h1 h3 H⟩
      · exact ⟨-2, P, E, w, fun post u hm H => zb_parB w hm hv h1 hs (H u hm)⟩
/-! sow -/
def zb_sw (d k : Nat) : Nat := (d + 3 * (k / 2) + 5 * (k % 2) + (k / 2) * (k % 2)) % 10
def zb_swE (E : Nat → Nat) (v d m : Nat) : Nat → Nat := fun j => if 16 * v ≤ j ∧ j < 16 * v + m then zb_sw d (j - 16 * v) else E j
theorem zb_WF_W {n v d m : Nat} {P E S : Nat → Nat} (w : zb_WF n P E S) : zb_WF n P (zb_swE E v d m) S := by
  obtain ⟨h1, h2, h3, h4, h5⟩ := w
  refine ⟨h1, h2, h3, fun j => ?_, h5⟩
  unfold zb_swE zb_sw
  have := h4 j
  split <;> omega
theorem zb_swE_s (E : Nat → Nat) (v d m : Nat) : zb_ud (zb_swE E v d m) (16 * v + m) (zb_sw d m) = zb_swE E v d (m + 1) := by
  funext j
  unfold zb_ud zb_swE
  by_cases e : j = 16 * v + m
  · rw [if_pos e, if_pos (by omega), show j - 16 * v = m by omega]
  · rw [if_neg e]
    by_cases g : 16 * v ≤ j ∧ j < 16 * v + m
    · rw [if_pos g, if_pos (by omega)]
    · rw [if_neg g, if_neg (by omega)]
theorem zb_swE_0 (E : Nat → Nat) (v d : Nat) : zb_swE E v d 0 = E := by
  funext j
  unfold zb_swE
  rw [if_neg (by omega)]
theorem zb_sow38 {post : Int32 → St1 → Prop} {n v d rows : Nat} {f1 f2 : Int32} {P E S : Nat → Nat} {a4 a5 a7 : Nat → Int32} {a6 : Nat → Int64} (hv : v < 7) (hd : d ≤ 9) (hr : rows ≤ 8) (H : ∀ u', zb_MT n P (zb_swE E v d (2 * rows)) S u' → post (nI (2 * rows)) u') :
    ∃ k, wX_sow_38 post (nI v) (nI d) (nI rows) (nI n) f1 f2 k 0 (zb_nF P) (zb_nF E) (zb_nF S) a4 a5 a6 a7 := by
  have e2 : (2 : Int32) * nI rows = nI (2 * rows) := pk_mul 2 rows
  have L := pk_loop (σ := Unit) (fun k i _ => wX_sow_38 post (nI v) (nI d) (nI rows) (nI n) f1 f2 k (nI i) (zb_nF P) (zb_nF (zb_swE E v d i)) (zb_nF S) a4 a5 a6 a7) (fun _ _ => True) (2 * rows) 0 () (by omega) trivial
    (fun k _ _ => pk_le (2 * rows) (2 * rows) (fun _ => by rw [e2]; exact H _ ⟨_, _, _, _, _, _, rfl⟩) (fun z => absurd z (by omega)) e2)
    (fun k i _ hi _ hw => by
      have t : wX_sow_38 post (nI v) (nI d) (nI rows) (nI n) f1 f2 k (nI (i + 1)) (zb_nF P) (zb_nF (zb_swE E v d (i + 1))) (zb_nF S) a4 a5 a6 a7 := hw () trivial
      have ei : (16 : Int32) * nI v + nI i = nI (16 * v + i) := by
        show nI 16 * nI v + nI i = _
        rw [pk_mul, nI_add]
      have h1 : nI i >>> ((1 : Int32) &&& 31) = nI (i / 2) := pk_shrN (by omega) _ 1 (by decide)
      have h2 : nI i &&& 1 = nI (i % 2) := pk_andN (by omega) 1 (by decide)
      have hm : (i / 2) * (i % 2) ≤ 8 * 1 := Nat.mul_le_mul (by omega) (by omega)
      have hs : nI d + 3 * nI (i / 2) + 5 * nI (i % 2) + nI (i / 2) * nI (i % 2) = nI (d + 3 * (i / 2) + 5 * (i % 2) + (i / 2) * (i % 2)) := by
        show nI d + nI 3 * nI (i / 2) + nI 5 * nI (i % 2) + nI (i / 2) * nI (i % 2) = _
        rw [pk_mul, pk_mul, pk_mul, nI_add, nI_add, nI_add]
      refine pk_le (2 * rows) i (fun z => absurd z (by omega)) (fun _ => nm_r h1 (nm_r h2 ⟨by decide, ?_⟩)) e2
      rw [ei, hs]
      refine ⟨vp_in_nI (by omega) (by omega), nm_r ?_ (nm_r (nI_1 i) t)⟩
      have hrem : nI (d + 3 * (i / 2) + 5 * (i % 2) + (i / 2) * (i % 2)) - nI (d + 3 * (i / 2) + 5 * (i % 2) + (i / 2) * (i % 2)) / 10 * 10 = nI (zb_sw d i) := pk_rem (d := 10) (by omega) (by omega) (by omega)
      rw [hrem, ← zb_swE_s]
      exact zb_wI (by omega))
  obtain ⟨k, hk⟩ := L
  refine ⟨k, ?_⟩
  have hk' : wX_sow_38 post (nI v) (nI d) (nI rows) (nI n) f1 f2 k (nI 0) (zb_nF P) (zb_nF (zb_swE E v d 0)) (zb_nF S) a4 a5 a6 a7 := hk
  rw [zb_swE_0] at hk'
  exact hk'
theorem zb_sow {post : Int32 → St1 → Prop} {n v d : Nat} {P E S : Nat → Nat} {u : St1} (w : zb_WF n P E S) (hm : zb_MT n P E S u) (hv : v < n) (hd : d ≤ 9) (H : ∀ u', zb_MT n P (zb_swE E v d (2 * 2 ^ zb_on (P v) 7)) S u' → post (nI (2 * 2 ^ zb_on (P v) 7)) u') : wpX_sow post u (nI v) (nI d) := by
  obtain ⟨f1, f2, a4, a5, a6, a7, rfl⟩ := hm
  have hn := w.2.1
  have hP := (zb_WP w v hv).1
  have ho := zb_on_le (P v) 7
  unfold wpX_sow
  dsimp only
  refine zb_good1 hn hv (br_f (by decide) (br_f (nI_pos (by omega)) (br_t (nI_le (b := 9) hd (by omega) : nI d ≤ nI 9) ⟨pk_in v 7 (by omega), ?_⟩)))
  rw [zb_rd P (by omega)]
  exact zb_ones (by omega) (nm_r (zb_shl1 (by omega)) (zb_sow38 (by omega) hd (zb_rows w).2 H))
theorem zb_sowG {n : Nat} {P E S : Nat → Nat} (w : zb_WF n P E S) (p q : Int32) : ∃ ret E', zb_WF n P E' S ∧ ∀ (post : Int32 → St1 → Prop) (u : St1), zb_MT n P E S u → (∀ u', zb_MT n P E' S u' → post ret u') → wpX_sow post u p q := by
  have hn := w.2.1
  have bad : (p < 0 ∨ nI n ≤ p) → ∃ ret E', zb_WF n P E' S ∧ ∀ (post : Int32 → St1 → Prop) (u : St1), zb_MT n P E S u → (∀ u', zb_MT n P E' S u' → post ret u') → wpX_sow post u p q := by
    intro hb
    refine ⟨-1, E, w, fun post u hm H => ?_⟩
    have hm' := hm
    obtain ⟨f1, f2, a4, a5, a6, a7, rfl⟩ := hm
    unfold wpX_sow
    dsimp only
    exact zb_good0 hb (br_t rfl (H _ hm'))
  rcases pk_ix p (n := n) (by omega) with h | h | ⟨v, hv, rfl⟩
  · exact bad (Or.inl h)
  · exact bad (Or.inr h)
  · by_cases h0 : q < 0
    · refine ⟨-2, E, w, fun post u hm H => ?_⟩
      have hm' := hm
      obtain ⟨f1, f2, a4, a5, a6, a7, rfl⟩ := hm
      unfold wpX_sow
      dsimp only
      exact zb_good1 hn hv (br_f (by decide) (br_t h0 (H _ hm')))
    · by_cases h9 : q ≤ 9
      · obtain ⟨d, hd, rfl⟩ := nI_of2 (M := 9) (n := 9) (by decide) h0 h9
        exact ⟨_, _, zb_WF_W w, fun post u hm H => zb_sow w hm hv hd H⟩
      · refine ⟨-2, E, w, fun post u hm H => ?_⟩
        have hm' := hm
        obtain ⟨f1, f2, a4, a5, a6, a7, rfl⟩ := hm
        unfold wpX_sow
        dsimp only
        exact zb_good1 hn hv (br_f (by decide) (br_f h0 (br_f h9 (H _ hm'))))
/-! parentsOf, separated, variables -/
theorem zb_parO {post : Int32 → Prop} {n v : Nat} {P E S : Nat → Nat} {u : St1} (w : zb_WF n P E S) (hm : zb_MT n P E S u) (hv : v < n) (H : post (nI (P v))) : wpX_parentsOf post u (nI v) := by
  obtain ⟨f1, f2, a4, a5, a6, a7, rfl⟩ := hm
  have hn := w.2.1
  unfold wpX_parentsOf
  dsimp only
  refine zb_good1 hn hv (br_f (by decide) ⟨pk_in v 7 (by omega), ?_⟩)
  rw [zb_rd P (by omega)]
  exact H
theorem zb_sep {post : Int32 → Prop} {n v t : Nat} {P E S : Nat → Nat} {u : St1} (w : zb_WF n P E S) (hm : zb_MT n P E S u) (hv : v < n) (ht : t < n) (hne : v ≠ t) (hS : S v ≠ 2) (H : post (-3)) : wpX_separated post u (nI v) (nI t) := by
  obtain ⟨f1, f2, a4, a5, a6, a7, rfl⟩ := hm
  have hn := w.2.1
  have h2 := w.2.2.2.2 v
  unfold wpX_separated
  dsimp only
  refine zb_good1 hn hv (br_f (by decide) (zb_good1 hn ht (br_f (by decide) (pk_eq v t (fun z => absurd z hne) (fun _ => ⟨pk_in v 7 (by omega), ?_⟩)))))
  rw [zb_rd S (by omega)]
  exact pk_eq (S v) 2 (fun z => absurd z hS) (fun _ => H)
end
section
/-! the law's own methods: call, same; the constructor -/
theorem zb_call {n : Nat} {P E S : Nat → Nat} (w : zb_WF n P E S) (m p q r t : Int32) : ∃ P' E' S', zb_WF n P' E' S' ∧ ∀ (post : St1 → Prop) (u : St1), zb_MT n P E S u → (∀ u', zb_MT n P' E' S' u' → post u') → wpL_call post u m p q r t := by
  by_cases h5 : 5 ≤ m
  · by_cases h10 : 10 ≤ m
    · by_cases he : m = 10
      · obtain ⟨ret, E', w', h⟩ := zb_sowG w p q
        refine ⟨P, E', S, w', fun post u hm H => ?_⟩
        have hm' := hm
        obtain ⟨f1, f2, a4, a5, a6, a7, rfl⟩ := hm
        unfold wpL_call
        dsimp only
        refine br_t h5 (br_t h10 (br_t he (h _ _ hm' (fun u' hu' => ?_))))
        have hu2 := hu'
        obtain ⟨f1, f2, a4, a5, a6, a7, rfl⟩ := hu'
        exact H _ hu2
      · obtain ⟨ret, S', w', h⟩ := zb_obsG w p q
        refine ⟨P, E, S', w', fun post u hm H => ?_⟩
        have hm' := hm
        obtain ⟨f1, f2, a4, a5, a6, a7, rfl⟩ := hm
        unfold wpL_call
        dsimp only
        refine br_t h5 (br_t h10 (br_f he (h _ _ hm' (fun u' hu' => ?_))))
        have hu2 := hu'
        obtain ⟨f1, f2, a4, a5, a6, a7, rfl⟩ := hu'
        exact H _ hu2
    · obtain ⟨ret, E', w', h⟩ := zb_entG w p q r t
      refine ⟨P, E', S, w', fun post u hm H => ?_⟩
      have hm' := hm
      obtain ⟨f1, f2, a4, a5, a6, a7, rfl⟩ := hm
      unfold wpL_call
      dsimp only
      refine br_t h5 (br_f h10 (h _ _ hm' (fun u' hu' => ?_)))
      have hu2 := hu'
      obtain ⟨f1, f2, a4, a5, a6, a7, rfl⟩ := hu'
      exact H _ hu2
  · obtain ⟨ret, P', E', w', h⟩ := zb_parG w p q
    refine ⟨P', E', S, w', fun post u hm H => ?_⟩
    have hm' := hm
    obtain ⟨f1, f2, a4, a5, a6, a7, rfl⟩ := hm
    unfold wpL_call
    dsimp only
    refine br_f h5 (h _ _ hm' (fun u' hu' => ?_))
    have hu2 := hu'
    obtain ⟨f1, f2, a4, a5, a6, a7, rfl⟩ := hu'
    exact H _ hu2
/-! the constructor -/
def zb_E0 : Nat → Nat := fun j => if j < 112 then 1 else 0
def zb_S0 : Nat → Nat := fun j => if j < 7 then 2 else 0
theorem zb_WF0 {n : Nat} (h2 : 2 ≤ n) (h7 : n ≤ 7) : zb_WF n (fun _ => 0) zb_E0 zb_S0 := by
  refine ⟨h2, h7, fun v => ⟨Nat.two_pow_pos v, by show zb_on 0 7 ≤ 3; decide⟩, fun j => ?_, fun j => ?_⟩
  · unfold zb_E0
    split <;> omega
  · unfold zb_S0
    split <;> omega
theorem zb_in113 {post : St1 → Prop} {mc ms kc ks : Nat} {f0 f1 f2 : Int32} {a1 a3 a4 a5 a7 : Nat → Int32} {a6 : Nat → Int64} (H : post (f0, f1, f2, a1, zb_nF zb_E0, a3, a4, a5, a6, a7)) :
    ∃ k, wX_init_113 post mc ms kc ks f0 f1 f2 k 0 a1 (fun _ => 0) a3 a4 a5 a6 a7 :=
  pk_loop (σ := Nat → Nat) (fun k i s => wX_init_113 post mc ms kc ks f0 f1 f2 k (nI i) a1 (zb_nF s) a3 a4 a5 a6 a7) (fun i s => ∀ j, s j = if j < i then 1 else 0) 112 0 (fun _ => 0) (by omega) (fun j => by rw [if_neg (by omega)])
    (fun k s h => pk_le 112 112 (fun _ => by rw [show s = zb_E0 from funext h]; exact H) (fun z => absurd z (by omega)))
    (fun k i s hi h hw => pk_le 112 i (fun z => absurd z (by omega)) (fun _ => ⟨pk_in i 112 hi, nm_r (zb_wI (x := 1) (by omega)) (nm_r (nI_1 i) (hw _ (fun j => by
      by_cases e : j = i
      · rw [e, zb_us, if_pos (by omega)]
      · rw [zb_un s 1 e, h j]
        by_cases g : j < i
        · rw [if_pos g, if_pos (by omega)]
        · rw [if_neg g, if_neg (by omega)])))⟩))
theorem zb_in92 {post : St1 → Prop} {mc ms kc ks : Nat} {f0 f1 f2 : Int32} {a1 a4 a5 a7 : Nat → Int32} {a6 : Nat → Int64} (H : post (f0, f1, f2, a1, zb_nF zb_E0, zb_nF zb_S0, a4, a5, a6, a7)) :
    ∃ k, wX_init_92 post mc ms kc ks f0 f1 f2 k 0 a1 (fun _ => 0) (fun _ => 0) a4 a5 a6 a7 :=
  pk_loop (σ := Nat → Nat) (fun k i s => wX_init_92 post mc ms kc ks f0 f1 f2 k (nI i) a1 (fun _ => 0) (zb_nF s) a4 a5 a6 a7) (fun i s => ∀ j, s j = if j < i then 2 else 0) 7 0 (fun _ => 0) (by omega) (fun j => by rw [if_neg (by omega)])
    (fun k s h => pk_le 7 7 (fun _ => by rw [show s = zb_S0 from funext h]; exact zb_in113 H) (fun z => absurd z (by omega)))
    (fun k i s hi h hw => pk_le 7 i (fun z => absurd z (by omega)) (fun _ => ⟨pk_in i 7 hi, nm_r (zb_wI (x := 2) (by omega)) (nm_r (nI_1 i) (hw _ (fun j => by
      by_cases e : j = i
      · rw [e, zb_us, if_pos (by omega)]
      · rw [zb_un s 2 e, h j]
        by_cases g : j < i
        · rw [if_pos g, if_pos (by omega)]
        · rw [if_neg g, if_neg (by omega)])))⟩))
theorem zb_init (p : Int32) : ∃ n, 2 ≤ n ∧ n ≤ 7 ∧ ∀ post : St1 → Prop, (∀ u, zb_MT n (fun _ => 0) zb_E0 zb_S0 u → post u) → wpX_init post 7 2083 (0, 0, 0) p := by
  have main : ∀ z0 : Int32, (z0 ≤ 7 → ∃ n, 2 ≤ n ∧ n ≤ 7 ∧ z0 = nI n) → ∃ n, 2 ≤ n ∧ n ≤ 7 ∧ ∀ post : St1 → Prop, (∀ u, zb_MT n (fun _ => 0) zb_E0 zb_S0 u → post u) → wX_init_72 post 7 2083 z0 7 2083 0 0 0 (fun _ => 0) (fun _ => 0) (fun _ => 0) (fun _ => 0) (fun _ => 0) (fun _ => 0) (fun _ => 0) := by
    intro z0 hz
    by_cases h7 : z0 ≤ 7
    · obtain ⟨n, h2, hn, e⟩ := hz h7
      refine ⟨n, h2, hn, fun post H => ?_⟩
      rw [e] at h7 ⊢
      exact br_t h7 (zb_in92 (H _ ⟨_, _, _, _, _, _, rfl⟩))
    · refine ⟨7, by omega, by omega, fun post H => ?_⟩
      exact br_f h7 (zb_in92 (H _ ⟨_, _, _, _, _, _, rfl⟩))
  by_cases h2 : 2 ≤ p
  · have h0 : ¬ p < 0 := by
      intro h
      rw [Int32.lt_iff_toInt_lt] at h
      rw [Int32.le_iff_toInt_le] at h2
      have e2 : (2 : Int32).toInt = 2 := by decide
      have e0 : (0 : Int32).toInt = 0 := by decide
      omega
    obtain ⟨n, hn2, hn7, h⟩ := main p (fun h7 => by
      obtain ⟨j, hj, e⟩ := nI_of2 (M := 7) (n := 7) (by decide) h0 h7
      refine ⟨j, ?_, hj, e⟩
      rw [e] at h2
      exact (nI_leI (a := 2) (by omega) (by omega)).mp h2)
    refine ⟨n, hn2, hn7, fun post H => ?_⟩
    exact ⟨by omega, by omega, by omega, by omega, by omega, by omega, by omega, by omega, by omega, by omega, by omega, by omega, by omega, by omega, br_t h2 (h post H)⟩
  · obtain ⟨n, hn2, hn7, h⟩ := main 2 (fun _ => ⟨2, by omega, by omega, rfl⟩)
    refine ⟨n, hn2, hn7, fun post H => ?_⟩
    exact ⟨by omega, by omega, by omega, by omega, by omega, by omega, by omega, by omega, by omega, by omega, by omega, by omega, by omega, by omega, br_f h2 (h post H)⟩
/-! same -/
theorem zb_same {post : Int32 → St3 → Prop} {n : Nat} {P E S : Nat → Nat} {f1 f2 g1 g2 : Int32} {a4 a5 a7 b4 b5 b7 : Nat → Int32} {a6 b6 : Nat → Int64} (w : zb_WF n P E S)
    (H : ∀ f1 f2 a4 a5 a6 a7 g1 g2 b4 b5 b6 b7, post 1 (nI n, f1, f2, zb_nF P, zb_nF E, zb_nF S, a4, a5, a6, a7, nI n, g1, g2, zb_nF P, zb_nF E, zb_nF S, b4, b5, b6, b7)) :
    wpL_same post (nI n, f1, f2, zb_nF P, zb_nF E, zb_nF S, a4, a5, a6, a7, nI n, g1, g2, zb_nF P, zb_nF E, zb_nF S, b4, b5, b6, b7) := by
  have hn := w.2.1
  unfold wpL_same
  dsimp only
  refine pk_loop (σ := St1 × St1) (fun k i s => wL_same_2 post k (nI i) s.1.1 s.1.2.1 s.1.2.2.1 s.1.2.2.2.1 s.1.2.2.2.2.1 s.1.2.2.2.2.2.1 s.1.2.2.2.2.2.2.1 s.1.2.2.2.2.2.2.2.1 s.1.2.2.2.2.2.2.2.2.1 s.1.2.2.2.2.2.2.2.2.2 s.2.1 s.2.2.1 s.2.2.2.1 s.2.2.2.2.1 s.2.2.2.2.2.1 s.2.2.2.2.2.2.1 s.2.2.2.2.2.2.2.1 s.2.2.2.2.2.2.2.2.1 s.2.2.2.2.2.2.2.2.2.1 s.2.2.2.2.2.2.2.2.2.2)
    (fun _ s => zb_MT n P E S s.1 ∧ zb_MT n P E S s.2) 7 0 ((nI n, f1, f2, zb_nF P, zb_nF E, zb_nF S, a4, a5, a6, a7), (nI n, g1, g2, zb_nF P, zb_nF E, zb_nF S, b4, b5, b6, b7)) (by omega) ⟨⟨_, _, _, _, _, _, rfl⟩, ⟨_, _, _, _, _, _, rfl⟩⟩ ?_ ?_
  · rintro k ⟨sa, sb⟩ ⟨ha, hb⟩
    refine pk_le 7 7 (fun _ => ?_) (fun z => absurd z (by omega))
    refine zb_total w ha (fun u1 h1 => ?_)
    have h1' := h1
    obtain ⟨f1, f2, a4, a5, a6, a7, rfl⟩ := h1
    refine zb_total w hb (fun u2 h2 => ?_)
    have h2' := h2
    obtain ⟨g1, g2, b4, b5, b6, b7, rfl⟩ := h2
    refine br_t rfl (zb_bestN w h1' (fun u1 h1 => ?_))
    have h1' := h1
    obtain ⟨f1, f2, a4, a5, a6, a7, rfl⟩ := h1
    refine zb_bestN w h2' (fun u2 h2 => ?_)
    have h2' := h2
    obtain ⟨g1, g2, b4, b5, b6, b7, rfl⟩ := h2
    refine br_t rfl (zb_best w h1' (fun u1 h1 => ?_))
    obtain ⟨f1, f2, a4, a5, a6, a7, rfl⟩ := h1
    refine zb_best w h2' (fun u2 h2 => ?_)
    obtain ⟨g1, g2, b4, b5, b6, b7, rfl⟩ := h2
    exact br_t rfl (H _ _ _ _ _ _ _ _ _ _ _ _)
  · rintro k i ⟨sa, sb⟩ hi ⟨ha, hb⟩ hw
    refine pk_le 7 i (fun z => absurd z (by omega)) (fun _ => ?_)
    rcases Nat.lt_or_ge i n with hv | hv
    · refine zb_totW (x := 1) w ha hv (by omega) (fun u1 h1 => ?_)
      have h1' := h1
      obtain ⟨f1, f2, a4, a5, a6, a7, rfl⟩ := h1
      refine zb_totW (x := 1) w hb hv (by omega) (fun u2 h2 => ?_)
      have h2' := h2
      obtain ⟨g1, g2, b4, b5, b6, b7, rfl⟩ := h2
      exact br_t rfl (zb_blank w h1' hv (zb_blank w h2' hv (br_t rfl (nm_r (nI_1 i) (hw (_, _) ⟨h1', h2'⟩)))))
    · have hb0 : nI i < 0 ∨ nI n ≤ nI i := Or.inr (nI_le hv (by omega))
      have ha' := ha
      have hb' := hb
      obtain ⟨f1, f2, a4, a5, a6, a7, rfl⟩ := ha
      obtain ⟨g1, g2, b4, b5, b6, b7, rfl⟩ := hb
      exact zb_totB ha' hb0 (zb_totB hb' hb0 (br_t rfl (zb_blanB ha' hb0 (zb_blanB hb' hb0 (br_t rfl (nm_r (nI_1 i) (hw (_, _) ⟨ha', hb'⟩)))))))
end
section
/-! the law's tail: zero entries, sow, parents -/
theorem zb_ud_back (f : Nat → Nat) (k x : Nat) : zb_ud (zb_ud f k x) k (f k) = f := by
  funext j
  by_cases e : j = k
  · rw [e, zb_us]
  · rw [zb_un _ _ e, zb_un _ _ e]
theorem zb_ud_id (f : Nat → Nat) (k : Nat) : zb_ud f k (f k) = f := by
  funext j
  by_cases e : j = k
  · rw [e, zb_us]
  · rw [zb_un _ _ e]
theorem zb_l592 {L kc ks n v t r : Nat} {xs : Nat → Int32} {J : Int32 → Int32 → Int32 → Int32 → (Nat → Int32) → (Nat → Int32) → (Nat → Int32) → (Nat → Int32) → (Nat → Int32) → (Nat → Int64) → (Nat → Int32) → Prop} {P E S : Nat → Nat} {s : St1} (w : zb_WF n P E S) (hm : zb_MT n P E S s) (hv : v < n) (hr : r < 8)
    (hz : ∀ q b, q < r → q < 2 ^ zb_on (P v) 7 → b ≤ 1 → E (16 * v + 2 * q + b) = 0)
    (H : ∀ (E' : Nat → Nat) (u : St1), zb_WF n P E' S → zb_MT n P E' S u → (∀ q b, q < r + 1 → q < 2 ^ zb_on (P v) 7 → b ≤ 1 → E' (16 * v + 2 * q + b) = 0) → J (nI (r + 1)) u.1 u.2.1 u.2.2.1 u.2.2.2.1 u.2.2.2.2.1 u.2.2.2.2.2.1 u.2.2.2.2.2.2.1 u.2.2.2.2.2.2.2.1 u.2.2.2.2.2.2.2.2.1 u.2.2.2.2.2.2.2.2.2) :
    ∃ k, wL_law_592 (fun r => r = 1) L xs J (nI v) (nI t) (nI r) kc ks k 0 s.1 s.2.1 s.2.2.1 s.2.2.2.1 s.2.2.2.2.1 s.2.2.2.2.2.1 s.2.2.2.2.2.2.1 s.2.2.2.2.2.2.2.1 s.2.2.2.2.2.2.2.2.1 s.2.2.2.2.2.2.2.2.2 := by
  have hn := w.2.1
  refine pk_loop (σ := St1) (fun k i s => wL_law_592 (fun r => r = 1) L xs J (nI v) (nI t) (nI r) kc ks k (nI i) s.1 s.2.1 s.2.2.1 s.2.2.2.1 s.2.2.2.2.1 s.2.2.2.2.2.1 s.2.2.2.2.2.2.1 s.2.2.2.2.2.2.2.1 s.2.2.2.2.2.2.2.2.1 s.2.2.2.2.2.2.2.2.2)
    (fun i s => ∃ E', zb_WF n P E' S ∧ zb_MT n P E' S s ∧ (∀ q b, q < r → q < 2 ^ zb_on (P v) 7 → b ≤ 1 → E' (16 * v + 2 * q + b) = 0) ∧ (∀ b, b < i → r < 2 ^ zb_on (P v) 7 → E' (16 * v + 2 * r + b) = 0)) 2 0 s (by omega) ⟨E, w, hm, hz, fun b hb => absurd hb (by omega)⟩ ?_ ?_
  · rintro k s ⟨E', w', hm', h3, h4⟩
    refine pk_le 2 2 (fun _ => nm_r (nI_1 r) (H E' s w' hm' (fun q b hq hq2 hb => ?_))) (fun z => absurd z (by omega))
    by_cases e : q = r
    · rw [e] at hq2 ⊢
      exact h4 b (by omega) hq2
    · exact h3 q b (by omega) hq2 hb
  · rintro k i s hi ⟨E', w', hm', h3, h4⟩ hw
    refine pk_le 2 i (fun z => absurd z (by omega)) (fun _ => ?_)
    rcases Nat.lt_or_ge r (2 ^ zb_on (P v) 7) with hrr | hrr
    · refine zb_ent (e := 0) w' hm' hv hrr (by omega) (by omega) (fun u1 h1 => ?_)
      have h1' := h1
      obtain ⟨f1, f2, a4, a5, a6, a7, rfl⟩ := h1
      refine nm_r (nI_1 i) (hw _ ⟨_, zb_WF_E w' (by omega), h1', fun q b hq hq2 hb => ?_, fun b hb hb2 => ?_⟩)
      · rw [zb_un _ _ (show 16 * v + 2 * q + b ≠ 16 * v + 2 * r + i by omega)]
        exact h3 q b hq hq2 hb
      · by_cases e : b = i
        · rw [e, zb_us]
        · rw [zb_un _ _ (show 16 * v + 2 * r + b ≠ 16 * v + 2 * r + i by omega)]
          exact h4 b (by omega) hb2
    · refine zb_entR w' hm' hv hrr (by omega) ?_
      have h1' := hm'
      obtain ⟨f1, f2, a4, a5, a6, a7, rfl⟩ := hm'
      exact nm_r (nI_1 i) (hw _ ⟨E', w', h1', h3, fun b _ hb2 => absurd hb2 (by omega)⟩)
theorem zb_l582 {L kc ks n v t : Nat} {xs : Nat → Int32} {P E S : Nat → Nat} {s : St1} (w : zb_WF n P E S) (hm : zb_MT n P E S s) (hv : v < n) (ht : t < n) :
    ∃ k, wL_law_582 (fun r => r = 1) L xs (nI v) (nI t) kc ks k 0 s.1 s.2.1 s.2.2.1 s.2.2.2.1 s.2.2.2.2.1 s.2.2.2.2.2.1 s.2.2.2.2.2.2.1 s.2.2.2.2.2.2.2.1 s.2.2.2.2.2.2.2.2.1 s.2.2.2.2.2.2.2.2.2 := by
  have hn := w.2.1
  refine pk_loop (σ := St1) (fun k i s => wL_law_582 (fun r => r = 1) L xs (nI v) (nI t) kc ks k (nI i) s.1 s.2.1 s.2.2.1 s.2.2.2.1 s.2.2.2.2.1 s.2.2.2.2.2.1 s.2.2.2.2.2.2.1 s.2.2.2.2.2.2.2.1 s.2.2.2.2.2.2.2.2.1 s.2.2.2.2.2.2.2.2.2)
    (fun i s => ∃ E', zb_WF n P E' S ∧ zb_MT n P E' S s ∧ (∀ q b, q < i → q < 2 ^ zb_on (P v) 7 → b ≤ 1 → E' (16 * v + 2 * q + b) = 0)) 8 0 s (by omega) ⟨E, w, hm, fun q b hq => absurd hq (by omega)⟩ ?_ ?_
  · rintro k s ⟨E', w', hm', h3⟩
    have hrw := (zb_rows (v := v) w').2
    have hw0 : ∀ y, y < 128 → zb_wt n P E' y = 0 := fun y hy => zb_wt_zero hv hy (zb_WP w' v hv).1 (fun r b hr hb => h3 r b (by omega) hr hb)
    have V0 : ∀ g X, (∀ v, v < n → X v ≤ 2) → zb_VAL g n P E' X = 0 := fun g X hX => zb_VAL_zero hw0 hX hn
    have hS2 : ∀ v, v < n → S v ≤ 2 := fun v _ => w'.2.2.2.2 v
    have tw0 : ∀ q x, x ≤ 1 → zb_tw n P E' S q x = 0 := by
      intro q x hx
      unfold zb_tw
      split
      · rfl
      · exact V0 0 _ (zb_ud_le hS2 (by omega))
    have ps0 : ∀ q x q2 x2, x ≤ 1 → x2 ≤ 1 → zb_ps n P E' S q x q2 x2 = 0 := by
      intro q x q2 x2 hx hx2
      unfold zb_ps
      split
      · rfl
      · split
        · rfl
        · exact V0 0 _ (zb_ud_le (zb_ud_le hS2 (by omega)) (by omega))
    refine pk_le 8 8 (fun _ => ?_) (fun z => absurd z (by omega))
    refine zb_total w' hm' (fun u1 h1 => ?_)
    rw [V0 0 S hS2]
    have h1' := h1
    obtain ⟨f1, f2, a4, a5, a6, a7, rfl⟩ := h1
    refine br_t rfl (zb_best w' h1' (fun u2 h2 => ?_))
    rw [V0 1 S hS2]
    have h2' := h2
    obtain ⟨f1, f2, a4, a5, a6, a7, rfl⟩ := h2
    refine br_t rfl (zb_indep w' h2' ht hv (fun a b ha hb => ?_) (fun u3 h3 => ?_))
    · rw [V0 0 S hS2, ps0 t a v b ha hb, tw0 t a ha, tw0 v b hb]
    · obtain ⟨f1, f2, a4, a5, a6, a7, rfl⟩ := h3
      exact br_t rfl rfl
  · rintro k i s hi ⟨E', w', hm', h3⟩ hw
    exact pk_le 8 i (fun z => absurd z (by omega)) (fun _ => zb_l592 w' hm' hv hi h3 (fun E2 u w2 hm2 h4 => hw u ⟨E2, w2, hm2, h4⟩))
theorem zb_l516 {L kc ks n v t : Nat} {xs : Nat → Int32} {P E S : Nat → Nat} {f1 f2 : Int32} {a4 a5 a7 : Nat → Int32} {a6 : Nat → Int64} (w : zb_WF n P E S) (hv : v < n) (ht : t < n) (e0 : E (16 * v + 2 * 0 + 0) = 0) (e1 : E (16 * v + 2 * 0 + 1) = 5) :
    ∃ k, wL_law_516 (fun r => r = 1) L xs (nI v) (nI t) (nI (P v)) (nI (2 * 2 ^ zb_on (P v) 7)) kc ks (nI n) f1 f2 (zb_nF P) (zb_nF E) (zb_nF S) a4 a5 a6 a7 k 0 0 := by
  have hn := w.2.1
  have hrw := zb_rows (v := v) w
  have hon := zb_on_le (P v) 7
  have hP := (zb_WP w v hv).1
  refine pk_loop (σ := Unit) (fun k i _ => wL_law_516 (fun r => r = 1) L xs (nI v) (nI t) (nI (P v)) (nI (2 * 2 ^ zb_on (P v) 7)) kc ks (nI n) f1 f2 (zb_nF P) (zb_nF E) (zb_nF S) a4 a5 a6 a7 k (nI (zb_on (P v) i)) (nI i)) (fun _ _ => True) 7 0 () (by omega) trivial ?_ ?_
  · intro k _ _
    refine pk_le 7 7 (fun _ => br_t ?_ ?_) (fun z => absurd z (by omega))
    · exact (zb_shl (a := 2) (by omega) (by omega)).symm
    · refine zb_ent (row := 0) (own := 0) (e := 7) w ⟨_, _, _, _, _, _, rfl⟩ hv (by omega) (by omega) (by omega) (fun u1 h1 => ?_)
      rw [e0]
      have h1' := h1
      obtain ⟨f1, f2, a4, a5, a6, a7, rfl⟩ := h1
      have w1 : zb_WF n P (zb_ud E (16 * v + 2 * 0 + 0) 7) S := zb_WF_E w (by omega)
      refine br_t rfl (zb_ent (row := 0) (own := 1) (e := 7) w1 h1' hv (by omega) (by omega) (by omega) (fun u2 h2 => ?_))
      rw [zb_un _ _ (show 16 * v + 2 * 0 + 1 ≠ 16 * v + 2 * 0 + 0 by omega), e1]
      have h2' := h2
      obtain ⟨f1, f2, a4, a5, a6, a7, rfl⟩ := h2
      exact br_t rfl (zb_l582 (zb_WF_E w1 (by omega)) h2' hv ht)
  · intro k i _ hi _ hw
    have tt : wL_law_516 (fun r => r = 1) L xs (nI v) (nI t) (nI (P v)) (nI (2 * 2 ^ zb_on (P v) 7)) kc ks (nI n) f1 f2 (zb_nF P) (zb_nF E) (zb_nF S) a4 a5 a6 a7 k (nI (zb_on (P v) i + zb_bt (P v) i)) (nI (i + 1)) := hw () trivial
    refine pk_le 7 i (fun z => absurd z (by omega)) (fun _ => nm_r ?_ (nm_r (nI_1 i) tt))
    rw [zb_bit (by omega) (by omega), nI_add]
theorem zb_l453 {L kc ks n v t : Nat} {xs : Nat → Int32} {P E S : Nat → Nat} {f1 f2 g1 g2 : Int32} {a4 a5 a7 b4 b5 b7 : Nat → Int32} {a6 b6 : Nat → Int64} (w : zb_WF n P E S) (hv : v < n) (ht : t < n) :
    wL_law_453 (fun r => r = 1) L xs (nI v) (nI t) kc ks (nI n) f1 f2 (zb_nF P) (zb_nF E) (zb_nF S) a4 a5 a6 a7 (nI n) g1 g2 (zb_nF P) (zb_nF E) (zb_nF S) b4 b5 b6 b7 := by
  have hn := w.2.1
  have hPv := w.2.2.1 v
  have hp := zb_p2_lt (v := v) (by omega)
  unfold wL_law_453
  refine zb_same w (fun f1 f2 a4 a5 a6 a7 g1 g2 b4 b5 b6 b7 => ?_)
  refine br_f (by decide) (zb_parO w ⟨_, _, _, _, _, _, rfl⟩ hv ?_)
  refine zb_par w ⟨_, _, _, _, _, _, rfl⟩ hv hPv.1 hPv.2 (fun u1 h1 => ?_)
  have w1 := zb_WF_P (m := 16) w hPv.1 hPv.2
  rw [zb_ud_id] at h1 w1
  have h1' := h1
  obtain ⟨f1, f2, a4, a5, a6, a7, rfl⟩ := h1
  refine br_t rfl ?_
  rw [zb_shl1 (show v < 31 by omega)]
  refine zb_parB w1 h1' hv (Nat.le_refl _) (by omega) (br_t rfl ?_)
  refine zb_sow (d := 0) w1 h1' hv (by omega) (fun u2 h2 => ?_)
  have hr1 := (zb_rows (v := v) w1).1
  have h2' := h2
  obtain ⟨f1, f2, a4, a5, a6, a7, rfl⟩ := h2
  refine zb_l516 (zb_WF_W w1) hv ht ?_ ?_
  · unfold zb_swE
    rw [if_pos (by omega), show 16 * v + 2 * 0 + 0 - 16 * v = 0 by omega]
    rfl
  · unfold zb_swE
    rw [if_pos (by omega), show 16 * v + 2 * 0 + 1 - 16 * v = 1 by omega]
    rfl
theorem zb_l441 {L kc ks n v t : Nat} {x10 : Int32} {xs : Nat → Int32} {P E S : Nat → Nat} {f1 f2 g1 g2 : Int32} {a4 a5 a7 b4 b5 b7 : Nat → Int32} {a6 b6 : Nat → Int64} (w : zb_WF n P E S) (hv : v < n) (ht : t < n) (hx : 0 ≤ x10 ∨ x10 = -2) :
    wL_law_441 (fun r => r = 1) L xs (nI v) (nI t) x10 kc ks (nI n) f1 f2 (zb_nF P) (zb_nF E) (zb_nF S) a4 a5 a6 a7 (nI n) g1 g2 (zb_nF P) (zb_nF E) (zb_nF S) b4 b5 b6 b7 := by
  by_cases h0 : 0 ≤ x10
  · exact br_t h0 (zb_l453 w hv ht)
  · rcases hx with h | h
    · exact absurd h h0
    · exact br_f h0 (br_t h (zb_l453 w hv ht))
end
section
/-! the law's middle: an entry changed and put back, an observation and its checks -/
theorem zb_one {x : Nat} (hx : x ≤ 1) : (1 : Int32) - nI x = nI (1 - x) := pk_sub (a := 1) hx
theorem zb_l398 {L kc ks n v t x row e : Nat} {xs : Nat → Int32} {P E S : Nat → Nat} {f1 f2 g1 g2 : Int32} {a4 a5 a7 b4 b5 b7 : Nat → Int32} {a6 b6 : Nat → Int64} (w : zb_WF n P E S) (hv : v < n) (ht : t < n) (hx : x ≤ 1) (hr : row < 2 ^ zb_on (P v) 7) (he : e ≤ 9) :
    wL_law_398 (fun r => r = 1) L xs (nI v) (nI t) (nI x) (nI e) (nI row) (nI (E (16 * v + 2 * row + x))) kc ks (nI n) f1 f2 (zb_nF P) (zb_nF E) (zb_nF S) a4 a5 a6 a7 (nI n) g1 g2 (zb_nF P) (zb_nF (zb_ud E (16 * v + 2 * row + x) e)) (zb_nF S) b4 b5 b6 b7 := by
  have hn := w.2.1
  have hrw := zb_rows (v := v) w
  have wb : zb_WF n P (zb_ud E (16 * v + 2 * row + x) e) S := zb_WF_E w he
  have hS2 : ∀ v, v < n → S v ≤ 2 := fun v _ => w.2.2.2.2 v
  have ht0 : zb_tw n P (zb_ud E (16 * v + 2 * row + x) e) S v (1 - x) = zb_tw n P E S v (1 - x) := by
    unfold zb_tw
    by_cases z : S v = 1 - (1 - x)
    · rw [if_pos z, if_pos z]
    · rw [if_neg z, if_neg z]
      exact zb_VAL_other hn (zb_ud_le hS2 (by omega)) hv hx (zb_us S v (1 - x)) (by omega) (zb_WP w)
  have hEb := w.2.2.2.1 (16 * v + 2 * row + x)
  unfold wL_law_398
  rw [zb_one hx]
  refine zb_totW wb ⟨_, _, _, _, _, _, rfl⟩ hv (by omega) (fun u1 h1 => ?_)
  rw [ht0]
  have h1' := h1
  obtain ⟨g1, g2, b4, b5, b6, b7, rfl⟩ := h1
  refine zb_totW w ⟨_, _, _, _, _, _, rfl⟩ hv (by omega) (fun u2 h2 => ?_)
  obtain ⟨f1, f2, a4, a5, a6, a7, rfl⟩ := h2
  refine br_t rfl (zb_ent wb h1' hv hr hx hEb (fun u3 h3 => ?_))
  rw [zb_ud_back] at h3
  rw [zb_us]
  obtain ⟨g1, g2, b4, b5, b6, b7, rfl⟩ := h3
  exact br_t rfl (zb_l441 w hv ht (Or.inl (nI_pos' (by omega))))
theorem zb_l301 {L kc ks n v t x : Nat} {xs : Nat → Int32} {P E S : Nat → Nat} {f1 f2 g1 g2 : Int32} {a4 a5 a7 b4 b5 b7 : Nat → Int32} {a6 b6 : Nat → Int64} (w : zb_WF n P E S) (hL4 : 4 ≤ L) (hL : L ≤ 260) (hv : v < n) (ht : t < n) (hx : x ≤ 1) :
    wL_law_301 (fun r => r = 1) L xs (nI v) (nI t) (nI x) (nI (S v)) kc ks (nI n) f1 f2 (zb_nF P) (zb_nF E) (zb_nF S) a4 a5 a6 a7 (nI n) g1 g2 (zb_nF P) (zb_nF E) (zb_nF (zb_ud S v x)) b4 b5 b6 b7 := by
  have hn := w.2.1
  have wb : zb_WF n P E (zb_ud S v x) := zb_WF_S w (by omega)
  unfold wL_law_301
  refine zb_obs wb ⟨_, _, _, _, _, _, rfl⟩ hv (w.2.2.2.2 v) (fun u1 h1 => ?_)
  rw [zb_ud_back] at h1
  rw [zb_us]
  obtain ⟨g1, g2, b4, b5, b6, b7, rfl⟩ := h1
  refine br_t rfl (zb_same w (fun f1 f2 a4 a5 a6 a7 g1 g2 b4 b5 b6 b7 => br_f (by decide) ⟨pk_in 3 L (by omega), by decide, ?_⟩))
  obtain ⟨j, hj, ej⟩ := pk_andE ((xs (3 : Int32).toNatClampNeg) >>> ((1 : Int32) &&& 31)) (m := 15) 4 (by decide)
  obtain ⟨row, hrow, erow⟩ := pk_andE ((xs (3 : Int32).toNatClampNeg) >>> ((5 : Int32) &&& 31)) (m := 7) 3 (by decide)
  rw [ej, erow]
  refine nm_r (pk_rem (d := 10) (by omega) (by omega) (by omega)) ⟨pk_in 3 L (by omega), nm_e ?_⟩
  have he : j % 10 ≤ 9 := by omega
  have hrw := zb_rows (v := v) w
  rcases Nat.lt_or_ge row (2 ^ zb_on (P v) 7) with hr | hr
  · have hEb := w.2.2.2.1 (16 * v + 2 * row + x)
    refine zb_ent w ⟨_, _, _, _, _, _, rfl⟩ hv hr hx he (fun u2 h2 => ?_)
    have w2 : zb_WF n P (zb_ud E (16 * v + 2 * row + x) (j % 10)) S := zb_WF_E w he
    have h2' := h2
    obtain ⟨g1, g2, b4, b5, b6, b7, rfl⟩ := h2
    refine br_f (nI_pos (by omega)) (pk_lt (j % 10) (E (16 * v + 2 * row + x)) (fun _ => zb_l398 w hv ht hx hr he) (fun hge => ?_))
    have hle : ∀ i, E i ≤ zb_ud E (16 * v + 2 * row + x) (j % 10) i := by
      intro i
      by_cases ei : i = 16 * v + 2 * row + x
      · rw [ei, zb_us]; exact hge
      · rw [zb_un _ _ ei]; exact Nat.le_refl _
    have m0 := zb_VAL_mono (g := 0) (n := n) (P := P) (X := S) hle
    have m1 := zb_VAL_mono (g := 1) (n := n) (P := P) (X := S) hle
    have q0 := zb_VAL_bd (g := 0) (n := n) (P := P) (X := S) hn w2.2.2.2.1
    have q1 := zb_VAL_bd (g := 1) (n := n) (P := P) (X := S) hn w2.2.2.2.1
    refine zb_total w2 h2' (fun u3 h3 => ?_)
    have h3' := h3
    obtain ⟨g1, g2, b4, b5, b6, b7, rfl⟩ := h3
    refine zb_total w ⟨_, _, _, _, _, _, rfl⟩ (fun u4 h4 => ?_)
    have h4' := h4
    obtain ⟨f1, f2, a4, a5, a6, a7, rfl⟩ := h4
    refine br_f (fun z => ?_) (zb_best w2 h3' (fun u5 h5 => ?_))
    · have := (pk_lLT (by omega) (by omega)).mp z
      omega
    · obtain ⟨g1, g2, b4, b5, b6, b7, rfl⟩ := h5
      refine zb_best w h4' (fun u6 h6 => ?_)
      obtain ⟨f1, f2, a4, a5, a6, a7, rfl⟩ := h6
      exact br_t (nI_le m1 (by omega)) (zb_l398 w hv ht hx hr he)
  · refine zb_entR w ⟨_, _, _, _, _, _, rfl⟩ hv hr (by omega) ?_
    exact br_t (by decide) (zb_l441 w hv ht (Or.inr rfl))
theorem zb_l235 {L kc ks n v t x : Nat} {xs : Nat → Int32} {P E S : Nat → Nat} {f1 f2 g1 g2 : Int32} {a4 a5 a7 b4 b5 b7 : Nat → Int32} {a6 b6 : Nat → Int64} (w : zb_WF n P E S) (hL4 : 4 ≤ L) (hL : L ≤ 260) (hv : v < n) (ht : t < n) (hx : x ≤ 1) :
    wL_law_235 (fun r => r = 1) L xs (nI v) (nI t) (nI x) (nI (S v)) kc ks (nI n) f1 f2 (zb_nF P) (zb_nF E) (zb_nF S) a4 a5 a6 a7 (nI n) g1 g2 (zb_nF P) (zb_nF E) (zb_nF (zb_ud S v x)) b4 b5 b6 b7 := by
  have hn := w.2.1
  have wb : zb_WF n P E (zb_ud S v x) := zb_WF_S w (by omega)
  have ev : zb_ud S v x v = x := zb_us S v x
  have t0 : zb_tw n P E (zb_ud S v x) v (1 - x) = 0 := by
    unfold zb_tw
    rw [if_pos (by rw [ev]; omega)]
  have b0 : zb_bw n P E (zb_ud S v x) v (1 - x) = -3 := by
    unfold zb_bw
    rw [if_pos (by rw [ev]; omega)]
  unfold wL_law_235
  rw [zb_one hx]
  refine zb_totW wb ⟨_, _, _, _, _, _, rfl⟩ hv (by omega) (fun u1 h1 => ?_)
  rw [t0]
  have h1' := h1
  obtain ⟨g1, g2, b4, b5, b6, b7, rfl⟩ := h1
  refine br_t rfl (zb_bestW wb h1' hv (by omega) (fun u2 h2 => ?_))
  rw [b0]
  have h2' := h2
  obtain ⟨g1, g2, b4, b5, b6, b7, rfl⟩ := h2
  refine br_t rfl (zb_indep wb h2' hv ht (fun a b ha hb => ?_) (fun u3 h3 => ?_))
  · by_cases e : a = x
    · have eid : zb_ud (zb_ud S v x) v x = zb_ud S v x := by
        have := zb_ud_id (zb_ud S v x) v
        rw [ev] at this
        exact this
      have e1 : zb_tw n P E (zb_ud S v x) v a = zb_VAL 0 n P E (zb_ud S v x) := by
        unfold zb_tw
        rw [e, if_neg (by rw [ev]; omega), eid]
      have e2 : zb_ps n P E (zb_ud S v x) v a t b = zb_tw n P E (zb_ud S v x) t b := by
        unfold zb_ps zb_tw
        rw [e, if_neg (by rw [ev]; omega), eid]
      rw [e1, e2]
    · have e1 : zb_tw n P E (zb_ud S v x) v a = 0 := by
        unfold zb_tw
        rw [if_pos (by rw [ev]; omega)]
      have e2 : zb_ps n P E (zb_ud S v x) v a t b = 0 := by
        unfold zb_ps
        rw [if_pos (by rw [ev]; omega)]
      rw [e1, e2, lN_mul, lN_mul, Nat.mul_zero, Nat.zero_mul]
  · have h3' := h3
    obtain ⟨g1, g2, b4, b5, b6, b7, rfl⟩ := h3
    refine br_t rfl (pk_eq t v (fun _ => zb_l301 w hL4 hL hv ht hx) (fun z => ?_))
    exact zb_sep wb h3' hv ht (fun q => z q.symm) (by rw [ev]; omega) (br_t rfl (zb_l301 w hL4 hL hv ht hx))
end
section
/-! the law's loop and the owed statement -/
theorem zb_l32x {L kc ks n k : Nat} {x3 : Int32} {xs : Nat → Int32} {P E S : Nat → Nat} {f1 f2 g1 g2 : Int32} {a4 a5 a7 b4 b5 b7 : Nat → Int32} {a6 b6 : Nat → Int64} (w : zb_WF n P E S) (hL4 : 4 ≤ L) (hL : L ≤ 260) (hx3 : (Int32.ofNat L) ≤ (x3 + 4)) :
    wL_law_32 (fun r => r = 1) L xs kc ks (k + 1) x3 (nI n) f1 f2 (zb_nF P) (zb_nF E) (zb_nF S) a4 a5 a6 a7 (nI n) g1 g2 (zb_nF P) (zb_nF E) (zb_nF S) b4 b5 b6 b7 := by
  have hn := w.2.1
  have hn2 := w.1
  obtain ⟨j1, hj1, ej1⟩ := pk_andE (xs (1 : Int32).toNatClampNeg) (m := 7) 3 (by decide)
  obtain ⟨j2, hj2, ej2⟩ := pk_andE (xs (2 : Int32).toNatClampNeg) (m := 7) 3 (by decide)
  obtain ⟨x, hx0, ex⟩ := pk_andE (xs (3 : Int32).toNatClampNeg) (m := 1) 1 (by decide)
  have hx : x ≤ 1 := by omega
  have hv : j1 % n < n := Nat.mod_lt _ (by omega)
  have ht : j2 % n < n := Nat.mod_lt _ (by omega)
  refine br_t hx3 ?_
  unfold wpX_variables
  dsimp only
  rw [ej1, ej2, ex]
  have hne : ¬ nI n = 0 := nI_ne0 (by omega) (by omega)
  refine ⟨pk_in 1 L (by omega), hne, nm_r (pk_rem (by omega) (by omega) (by omega)) ⟨pk_in 2 L (by omega), hne, nm_r (pk_rem (by omega) (by omega) (by omega)) ⟨pk_in 3 L (by omega), nm_e ?_⟩⟩⟩
  revert hv ht
  generalize j1 % n = v
  generalize j2 % n = t
  intro hv ht
  have hSv := w.2.2.2.2 v
  have wb : zb_WF n P E (zb_ud S v x) := zb_WF_S w (by omega)
  refine zb_obs w ⟨_, _, _, _, _, _, rfl⟩ hv (by omega) (fun u1 h1 => ?_)
  have h1' := h1
  obtain ⟨g1, g2, b4, b5, b6, b7, rfl⟩ := h1
  refine br_f (nI_pos (by omega)) (br_t (nI_le (b := 2) hSv (by omega) : nI (S v) ≤ nI 2) (pk_eq (S v) 2 (fun e2 => ?_) (fun _ => zb_l235 w hL4 hL hv ht hx)))
  have t1 : zb_tw n P E S v x = zb_VAL 0 n P E (zb_ud S v x) := by
    unfold zb_tw
    rw [if_neg (by omega)]
  have t2 : zb_bw n P E S v x = nI (zb_VAL 1 n P E (zb_ud S v x)) := by
    unfold zb_bw
    rw [if_neg (by omega)]
  have t3 : zb_ps n P E S v x t 1 = zb_tw n P E (zb_ud S v x) t 1 := by
    unfold zb_ps zb_tw
    rw [if_neg (by omega)]
  refine zb_total wb h1' (fun u2 h2 => ?_)
  have h2' := h2
  obtain ⟨g1, g2, b4, b5, b6, b7, rfl⟩ := h2
  refine zb_totW w ⟨_, _, _, _, _, _, rfl⟩ hv hx (fun u3 h3 => ?_)
  rw [t1]
  have h3' := h3
  obtain ⟨f1, f2, a4, a5, a6, a7, rfl⟩ := h3
  refine br_t rfl (zb_best wb h2' (fun u4 h4 => ?_))
  have h4' := h4
  obtain ⟨g1, g2, b4, b5, b6, b7, rfl⟩ := h4
  refine zb_bestW w h3' hv hx (fun u5 h5 => ?_)
  rw [t2]
  have h5' := h5
  obtain ⟨f1, f2, a4, a5, a6, a7, rfl⟩ := h5
  refine br_t rfl (zb_totW (x := 1) wb h4' ht (by omega) (fun u6 h6 => ?_))
  have h6' := h6
  obtain ⟨g1, g2, b4, b5, b6, b7, rfl⟩ := h6
  refine zb_totP (z := 1) w h5' hv hx ht (by omega) (fun u7 h7 => ?_)
  rw [t3]
  have h7' := h7
  obtain ⟨f1, f2, a4, a5, a6, a7, rfl⟩ := h7
  refine br_t rfl (zb_best wb h6' (fun u8 h8 => ?_))
  obtain ⟨g1, g2, b4, b5, b6, b7, rfl⟩ := h8
  refine zb_best w h7' (fun u9 h9 => ?_)
  obtain ⟨f1, f2, a4, a5, a6, a7, rfl⟩ := h9
  have q1 := zb_VAL_bd (g := 1) (n := n) (P := P) (X := S) hn w.2.2.2.1
  exact br_t (nI_le (zb_VAL_fix hn (fun q _ => w.2.2.2.2 q) hv e2 hx) (by omega)) (zb_l235 w hL4 hL hv ht hx)
theorem zb_l32 {L kc ks n : Nat} {xs : Nat → Int32} {P E S : Nat → Nat} {ua ub : St1} (w : zb_WF n P E S) (hL4 : 4 ≤ L) (hL : L ≤ 260) (ha : zb_MT n P E S ua) (hb : zb_MT n P E S ub) :
    ∃ k, wL_law_32 (fun r => r = 1) L xs kc ks k 4 ua.1 ua.2.1 ua.2.2.1 ua.2.2.2.1 ua.2.2.2.2.1 ua.2.2.2.2.2.1 ua.2.2.2.2.2.2.1 ua.2.2.2.2.2.2.2.1 ua.2.2.2.2.2.2.2.2.1 ua.2.2.2.2.2.2.2.2.2 ub.1 ub.2.1 ub.2.2.1 ub.2.2.2.1 ub.2.2.2.2.1 ub.2.2.2.2.2.1 ub.2.2.2.2.2.2.1 ub.2.2.2.2.2.2.2.1 ub.2.2.2.2.2.2.2.2.1 ub.2.2.2.2.2.2.2.2.2 := by
  refine pk_loop (σ := St1 × St1) (fun k i s => wL_law_32 (fun r => r = 1) L xs kc ks k (nI (4 + 5 * i)) s.1.1 s.1.2.1 s.1.2.2.1 s.1.2.2.2.1 s.1.2.2.2.2.1 s.1.2.2.2.2.2.1 s.1.2.2.2.2.2.2.1 s.1.2.2.2.2.2.2.2.1 s.1.2.2.2.2.2.2.2.2.1 s.1.2.2.2.2.2.2.2.2.2 s.2.1 s.2.2.1 s.2.2.2.1 s.2.2.2.2.1 s.2.2.2.2.2.1 s.2.2.2.2.2.2.1 s.2.2.2.2.2.2.2.1 s.2.2.2.2.2.2.2.2.1 s.2.2.2.2.2.2.2.2.2.1 s.2.2.2.2.2.2.2.2.2.2)
    (fun _ s => ∃ P E S, zb_WF n P E S ∧ zb_MT n P E S s.1 ∧ zb_MT n P E S s.2) ((L - 4) / 5) 0 (ua, ub) (by omega) ⟨P, E, S, w, ha, hb⟩ ?_ ?_
  · rintro k ⟨sa, sb⟩ ⟨P, E, S, w, ha, hb⟩
    dsimp only at ha hb
    obtain ⟨f1, f2, a4, a5, a6, a7, rfl⟩ := ha
    obtain ⟨g1, g2, b4, b5, b6, b7, rfl⟩ := hb
    refine zb_l32x w hL4 hL ?_
    show nI L ≤ nI (4 + 5 * ((L - 4) / 5)) + nI 4
    rw [nI_add]
    exact nI_le (by omega) (by omega)
  · rintro k i ⟨sa, sb⟩ hi ⟨P, E, S, w, ha, hb⟩ hw
    dsimp only at ha hb
    have hi2 : 4 + 5 * i + 4 < L := by omega
    have c1 : nI (4 + 5 * i) + 1 = nI (4 + 5 * i + 1) := nI_add _ 1
    have c2 : nI (4 + 5 * i) + 2 = nI (4 + 5 * i + 2) := nI_add _ 2
    have c3 : nI (4 + 5 * i) + 3 = nI (4 + 5 * i + 3) := nI_add _ 3
    have c4 : nI (4 + 5 * i) + 4 = nI (4 + 5 * i + 4) := nI_add _ 4
    have v0 : vp_in (nI (4 + 5 * i)) L := vp_in_nI (by omega) (by omega)
    have v1 : vp_in (nI (4 + 5 * i) + 1) L := by rw [c1]; exact vp_in_nI (by omega) (by omega)
    have v2 : vp_in (nI (4 + 5 * i) + 2) L := by rw [c2]; exact vp_in_nI (by omega) (by omega)
    have v3 : vp_in (nI (4 + 5 * i) + 3) L := by rw [c3]; exact vp_in_nI (by omega) (by omega)
    have v4 : vp_in (nI (4 + 5 * i) + 4) L := by rw [c4]; exact vp_in_nI (by omega) (by omega)
    obtain ⟨P', E', S', w', hc⟩ := zb_call w ((xs (nI (4 + 5 * i)).toNatClampNeg) &&& 15) (xs (nI (4 + 5 * i) + 1).toNatClampNeg) (xs (nI (4 + 5 * i) + 2).toNatClampNeg) (xs (nI (4 + 5 * i) + 3).toNatClampNeg) (xs (nI (4 + 5 * i) + 4).toNatClampNeg)
    have hgt : ¬ (Int32.ofNat L) ≤ (nI (4 + 5 * i) + 4) := by
      rw [c4]
      exact nI_ge hi2 (by omega)
    refine br_f hgt ⟨v0, v1, v2, v3, v4, hc _ _ ha (fun u1 h1 => ?_)⟩
    have h1' := h1
    obtain ⟨f1, f2, a4, a5, a6, a7, rfl⟩ := h1
    refine ⟨v0, v1, v2, v3, v4, hc _ _ hb (fun u2 h2 => ?_)⟩
    have h2' := h2
    obtain ⟨g1, g2, b4, b5, b6, b7, rfl⟩ := h2
    exact nm_r (nI_add (4 + 5 * i) 5) (hw (_, _) ⟨P', E', S', w', h1', h2'⟩)
theorem i_vc (xs : Nat → Int32) (L : Nat) (hL : L ≤ 260) : wpL_law (fun r => r = 1) L xs := by
  obtain ⟨n, hn2, hn7, hi⟩ := zb_init (xs (0 : Int32).toNatClampNeg)
  have w := zb_WF0 hn2 hn7
  refine pk_le 4 L (fun h4 => ⟨pk_in 0 L (by omega), 7, 2083, by omega, by omega, hi _ (fun u1 h1 => ?_)⟩) (fun _ => rfl)
  have h1' := h1
  obtain ⟨f1, f2, a4, a5, a6, a7, rfl⟩ := h1
  refine ⟨by omega, by omega, pk_in 0 L (by omega), 7, 2083, by omega, by omega, hi _ (fun u2 h2 => ?_)⟩
  have h2' := h2
  obtain ⟨g1, g2, b4, b5, b6, b7, rfl⟩ := h2
  exact zb_l32 w h4 hL h1' h2'
end
