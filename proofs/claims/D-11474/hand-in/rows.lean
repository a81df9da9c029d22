section
/-! ===== bits of a plane: lj_b w k ===== -/
def lj_b (w : Int64) (k : Nat) : Bool := w.toBitVec.getLsbD k
theorem lj_and (x y : Int64) (k : Nat) : lj_b (x &&& y) k = (lj_b x k && lj_b y k) := by unfold lj_b; rw [Int64.toBitVec_and, BitVec.getLsbD_and]
theorem lj_or (x y : Int64) (k : Nat) : lj_b (x ||| y) k = (lj_b x k || lj_b y k) := by unfold lj_b; rw [Int64.toBitVec_or, BitVec.getLsbD_or]
theorem lj_xor (x y : Int64) (k : Nat) : lj_b (x ^^^ y) k = (lj_b x k ^^ lj_b y k) := by unfold lj_b; rw [Int64.toBitVec_xor, BitVec.getLsbD_xor]
theorem lj_m1 : ∀ k, k < 64 → lj_b (-1) k = true := by decide +kernel
theorem lj_not (x : Int64) {k : Nat} (hk : k < 64) : lj_b (x ^^^ (-1)) k = !lj_b x k := by rw [lj_xor, lj_m1 k hk, Bool.xor_true]
theorem lj_0 (k : Nat) : lj_b 0 k = false := BitVec.getLsbD_zero
theorem lj_ne {x : Int64} {k : Nat} (h : lj_b x k = true) : ¬ x = 0 := by
  intro e
  rw [e, lj_0] at h
  exact Bool.noConfusion h
/-- planes f 0 .. f (n - 1) hold the number v in lane k -/
def lj_is (n : Nat) (f : Nat → Int64) (k v : Nat) : Prop := v < 2 ^ n ∧ ∀ j, j < n → lj_b (f j) k = v.testBit j
theorem lj_is_c {n : Nat} {f g : Nat → Int64} {k v : Nat} (h : lj_is n f k v) (e : ∀ j, j < n → lj_b (g j) k = lj_b (f j) k) : lj_is n g k v :=
  ⟨h.1, fun j hj => (e j hj).trans (h.2 j hj)⟩
theorem lj_is_e {n : Nat} {f g : Nat → Int64} {k v : Nat} (h : lj_is n f k v) (e : ∀ j, j < n → g j = f j) : lj_is n g k v :=
  lj_is_c h (fun j hj => by rw [e j hj])
theorem lj_is_0 {n : Nat} {f : Nat → Int64} {k : Nat} (h : ∀ j, j < n → lj_b (f j) k = false) : lj_is n f k 0 :=
  ⟨Nat.two_pow_pos n, fun j hj => by rw [h j hj, Nat.zero_testBit]⟩
theorem lj_fill {f s : Nat → Int64} {i k : Nat} {x : Int64} (hk : k = i) (h : ∀ j, j < i → s j = f j) (hx : x = f i) : ∀ j, j < i + 1 → vp_updL s k x j = f j := by
  intro j hj
  rw [hk]
  by_cases e : j = i
  · rw [e, pk_uLs, hx]
  · rw [pk_uLn e]
    exact h j (by omega)
/-- a place written, in lane k -/
theorem lj_up {s : Nat → Int64} {i m : Nat} {x : Int64} (hm : m = i) : vp_updL s m x i = x := by rw [hm, pk_uLs]
theorem lj_un {s : Nat → Int64} {i j m : Nat} {x : Int64} (hm : m = i) (h : j ≠ i) : vp_updL s m x j = s j := by rw [hm, pk_uLn h]
theorem lj_cu : ∀ k, k < 64 → ((nI k).toInt64.toUInt64 &&& Int64.toUInt64 63).toNat = k := by decide +kernel
theorem lj_sh (w : Int64) {k : Nat} (hk : k < 64) : (((w.toUInt64 >>> ((nI k).toInt64.toUInt64 &&& Int64.toUInt64 63)).toInt64) &&& 1) = if lj_b w k then 1 else 0 := by
  have e : (w.toUInt64 >>> ((nI k).toInt64.toUInt64 &&& Int64.toUInt64 63)).toInt64.toBitVec = w.toBitVec >>> k := by
    apply BitVec.eq_of_toNat_eq
    show (w.toUInt64 >>> ((nI k).toInt64.toUInt64 &&& Int64.toUInt64 63)).toNat = _
    rw [UInt64.toNat_shiftRight, lj_cu k hk, Nat.mod_eq_of_lt hk, BitVec.toNat_ushiftRight]
    rfl
  apply Int64.toBitVec_inj.mp
  rw [Int64.toBitVec_and, e]
  show w.toBitVec >>> k &&& 1#64 = _
  rw [BitVec.and_one_eq_setWidth_ofBool_getLsbD, BitVec.getLsbD_ushiftRight, Nat.add_zero]
  unfold lj_b
  cases w.toBitVec.getLsbD k
  · decide
  · decide
/-! ===== tables ===== -/
theorem lj_tb : ∀ p, p < 64 → ∀ i, i < 6 → (((nI p >>> (nI i &&& 31)) &&& 1) = 0 ↔ p.testBit i = false) := by decide +kernel
theorem lj_ors : ∀ n, n < 64 → ∀ j, j < 6 → nI (n % 2 ^ j) ||| ((if n.testBit j then (1 : Int64) else 0).toInt32 <<< (nI j &&& 31)) = nI (n % 2 ^ (j + 1)) := by decide +kernel
def lj_al (n m : Nat) : Nat → Bool
  | 0 => true
  | i + 1 => lj_al n m i && (if m.testBit i then n.testBit i else !n.testBit i)
theorem lj_al6 : ∀ n, n < 64 → ∀ m, m < 64 → lj_al n m 6 = decide (n = m) := by decide +kernel
/-- all bits below j are set: the carry -/
def lj_cy (n j : Nat) : Bool := decide (n % 2 ^ j = 2 ^ j - 1)
theorem lj_cyS : ∀ t : Bool, ∀ n, n < 64 → ∀ j, j < 6 → (n.testBit j && (t && lj_cy n j)) = (t && lj_cy n (j + 1)) ∧ (n.testBit j ^^ (t && lj_cy n j)) = (n + t.toNat).testBit j := by decide +kernel
/-! ===== the sum ===== -/
def lj_ac (x y : Nat → Int64) : Nat → Int64
  | 0 => 0
  | j + 1 => (x j &&& y j) ||| ((x j ^^^ y j) &&& lj_ac x y j)
def lj_az (x y : Nat → Int64) (j : Nat) : Int64 := (x j ^^^ y j) ^^^ lj_ac x y j
def lj_acB (X Y : Nat) : Nat → Bool
  | 0 => false
  | j + 1 => (X.testBit j && Y.testBit j) || ((X.testBit j ^^ Y.testBit j) && lj_acB X Y j)
theorem lj_acH {x y : Nat → Int64} {k n X Y : Nat} (hx : lj_is n x k X) (hy : lj_is n y k Y) : ∀ j, j ≤ n → lj_b (lj_ac x y j) k = lj_acB X Y j := by
  intro j
  induction j with
  | zero => intro _; exact lj_0 k
  | succ j ih =>
    intro hj
    unfold lj_ac lj_acB
    rw [lj_or, lj_and, lj_and, lj_xor, hx.2 j (by omega), hy.2 j (by omega), ih (by omega)]
theorem lj_acT : ∀ X, X < 16 → ∀ Y, Y < 16 → ∀ j, j < 4 → ((X.testBit j ^^ Y.testBit j) ^^ lj_acB X Y j) = ((X + Y) % 16).testBit j := by decide +kernel
theorem lj_azV {x y : Nat → Int64} {k X Y : Nat} (hx : lj_is 4 x k X) (hy : lj_is 4 y k Y) : lj_is 4 (lj_az x y) k ((X + Y) % 16) := by
  refine ⟨Nat.mod_lt _ (by omega), fun j hj => ?_⟩
  unfold lj_az
  rw [lj_xor, lj_xor, hx.2 j hj, hy.2 j hj, lj_acH hx hy j (by omega)]
  exact lj_acT X hx.1 Y hy.1 j hj
/-! ===== the difference ===== -/
def lj_sc (x y : Nat → Int64) : Nat → Int64
  | 0 => 0
  | j + 1 => ((x j ^^^ (-1)) &&& y j) ||| (((x j ^^^ y j) ^^^ (-1)) &&& lj_sc x y j)
def lj_sz (x y : Nat → Int64) (j : Nat) : Int64 := (x j ^^^ y j) ^^^ lj_sc x y j
def lj_scB (X Y : Nat) : Nat → Bool
  | 0 => false
  | j + 1 => (!X.testBit j && Y.testBit j) || ((!(X.testBit j ^^ Y.testBit j)) && lj_scB X Y j)
theorem lj_scH {x y : Nat → Int64} {k n X Y : Nat} (hk : k < 64) (hx : lj_is n x k X) (hy : lj_is n y k Y) : ∀ j, j ≤ n → lj_b (lj_sc x y j) k = lj_scB X Y j := by
  intro j
  induction j with
  | zero => intro _; exact lj_0 k
  | succ j ih =>
    intro hj
    unfold lj_sc lj_scB
    rw [lj_or, lj_and, lj_and, lj_not _ hk, lj_not _ hk, lj_xor, hx.2 j (by omega), hy.2 j (by omega), ih (by omega)]
theorem lj_scT4 : ∀ X, X < 16 → ∀ Y, Y < 16 → lj_scB X Y 4 = decide (X < Y) := by decide +kernel
theorem lj_szT4 : ∀ X, X < 16 → ∀ Y, Y < 16 → ∀ j, j < 4 → ((X.testBit j ^^ Y.testBit j) ^^ lj_scB X Y j) = ((X + 16 - Y) % 16).testBit j := by decide +kernel
theorem lj_scT5 : ∀ X, X < 32 → ∀ Y, Y < 16 → lj_scB X Y 5 = decide (X < Y) := by decide +kernel
theorem lj_szT5 : ∀ X, X < 32 → ∀ Y, Y < 16 → ∀ j, j < 5 → ((X.testBit j ^^ Y.testBit j) ^^ lj_scB X Y j) = ((X + 32 - Y) % 32).testBit j := by decide +kernel
theorem lj_szV {x y : Nat → Int64} {k X Y : Nat} (hk : k < 64) (hx : lj_is 4 x k X) (hy : lj_is 4 y k Y) : lj_is 4 (lj_sz x y) k ((X + 16 - Y) % 16) := by
  refine ⟨Nat.mod_lt _ (by omega), fun j hj => ?_⟩
  unfold lj_sz
  rw [lj_xor, lj_xor, hx.2 j hj, hy.2 j hj, lj_scH hk hx hy j (by omega)]
  exact lj_szT4 X hx.1 Y hy.1 j hj
theorem lj_scV {x y : Nat → Int64} {k X Y : Nat} (hk : k < 64) (hx : lj_is 4 x k X) (hy : lj_is 4 y k Y) : lj_b (lj_sc x y 4) k = decide (X < Y) := by
  rw [lj_scH hk hx hy 4 (by omega)]
  exact lj_scT4 X hx.1 Y hy.1
/-- y with a fifth plane -/
def lj_y5 (y : Nat → Int64) (j : Nat) : Int64 := if j < 4 then y j else 0
theorem lj_y5V {y : Nat → Int64} {k Y : Nat} (hy : lj_is 4 y k Y) : lj_is 5 (lj_y5 y) k Y := by
  have h := hy.1
  refine ⟨by omega, fun j hj => ?_⟩
  unfold lj_y5
  by_cases e : j < 4
  · rw [if_pos e]; exact hy.2 j e
  · rw [if_neg e, lj_0, show j = 4 by omega, Nat.testBit_lt_two_pow hy.1]
theorem lj_scV5 {x y : Nat → Int64} {k X Y : Nat} (hk : k < 64) (hx : lj_is 5 x k X) (hy : lj_is 4 y k Y) : lj_b (lj_sc x (lj_y5 y) 5) k = decide (X < Y) := by
  rw [lj_scH hk hx (lj_y5V hy) 5 (by omega)]
  exact lj_scT5 X hx.1 Y hy.1
theorem lj_szV5 {x y : Nat → Int64} {k X Y : Nat} (hk : k < 64) (hx : lj_is 5 x k X) (hy : lj_is 4 y k Y) : lj_is 5 (lj_sz x (lj_y5 y)) k ((X + 32 - Y) % 32) := by
  have h5 := lj_y5V hy
  refine ⟨Nat.mod_lt _ (by omega), fun j hj => ?_⟩
  unfold lj_sz
  rw [lj_xor, lj_xor, hx.2 j hj, h5.2 j hj, lj_scH hk hx h5 j (by omega)]
  exact lj_szT5 X hx.1 Y hy.1 j hj
/-! ===== the product ===== -/
def lj_mc (x y z : Nat → Int64) (i : Nat) : Nat → Int64
  | 0 => 0
  | t + 1 => (z (i + t) &&& (x t &&& y i)) ||| ((z (i + t) ^^^ (x t &&& y i)) &&& lj_mc x y z i t)
def lj_mz (x y z : Nat → Int64) (i j : Nat) : Int64 := if j < i then z j else (z j ^^^ (x (j - i) &&& y i)) ^^^ lj_mc x y z i (j - i)
def lj_mcB (X Y Z i : Nat) : Nat → Bool
  | 0 => false
  | t + 1 => (Z.testBit (i + t) && (X.testBit t && Y.testBit i)) || ((Z.testBit (i + t) ^^ (X.testBit t && Y.testBit i)) && lj_mcB X Y Z i t)
theorem lj_mcH {x y z : Nat → Int64} {k X Y Z i : Nat} (hi : i < 4) (hx : lj_is 4 x k X) (hy : lj_is 4 y k Y) (hz : lj_is 4 z k Z) : ∀ t, i + t ≤ 4 → lj_b (lj_mc x y z i t) k = lj_mcB X Y Z i t := by
  intro t
  induction t with
  | zero => intro _; exact lj_0 k
  | succ t ih =>
    intro ht
    unfold lj_mc lj_mcB
    rw [lj_or, lj_and, lj_and, lj_and, lj_xor, lj_and, hx.2 t (by omega), hy.2 i hi, hz.2 (i + t) (by omega), ih (by omega)]
/-- the product's low part: x times the low i bits of y -/
theorem lj_mT : ∀ X, X < 16 → ∀ Y, Y < 16 → ∀ i, i < 4 → ∀ j, j < 4 → (if j < i then (X * (Y % 2 ^ i) % 16).testBit j else ((X * (Y % 2 ^ i) % 16).testBit j ^^ (X.testBit (j - i) && Y.testBit i)) ^^ lj_mcB X Y (X * (Y % 2 ^ i) % 16) i (j - i)) = (X * (Y % 2 ^ (i + 1)) % 16).testBit j := by decide +kernel
theorem lj_mzV {x y z : Nat → Int64} {k X Y i : Nat} (hi : i < 4) (hx : lj_is 4 x k X) (hy : lj_is 4 y k Y) (hz : lj_is 4 z k (X * (Y % 2 ^ i) % 16)) : lj_is 4 (lj_mz x y z i) k (X * (Y % 2 ^ (i + 1)) % 16) := by
  refine ⟨Nat.mod_lt _ (by omega), fun j hj => ?_⟩
  rw [← lj_mT X hx.1 Y hy.1 i hi j hj]
  unfold lj_mz
  by_cases e : j < i
  · rw [if_pos e, if_pos e]; exact hz.2 j hj
  · rw [if_neg e, if_neg e, lj_xor, lj_xor, lj_and, hz.2 j hj, hx.2 (j - i) (by omega), hy.2 i hi, lj_mcH hi hx hy hz (j - i) (by omega)]
/-! ===== the quotient ===== -/
/-- one step: the rest q below y, the next bit of x taken in -/
theorem lj_dT : ∀ X, X < 16 → ∀ Y, Y < 16 → 0 < Y → ∀ i, i < 4 → 2 * (X / 2 ^ (i + 1) % Y) + (X.testBit i).toNat < 32 ∧
    (!decide (2 * (X / 2 ^ (i + 1) % Y) + (X.testBit i).toNat < Y)) = (X / Y).testBit i ∧
    (if 2 * (X / 2 ^ (i + 1) % Y) + (X.testBit i).toNat < Y then 2 * (X / 2 ^ (i + 1) % Y) + (X.testBit i).toNat else (2 * (X / 2 ^ (i + 1) % Y) + (X.testBit i).toNat + 32 - Y) % 32) = X / 2 ^ i % Y := by decide +kernel
theorem lj_dB : ∀ q, q < 16 → ∀ c : Bool, ∀ j, j < 4 → (2 * q + c.toNat).testBit 0 = c ∧ (2 * q + c.toNat).testBit (j + 1) = q.testBit j := by decide +kernel
/-! ===== the law's numbers ===== -/
def lj_v (op b X Y : Nat) : Nat :=
  if op = 0 then b else if op = 1 then Y else if op = 2 then (X + Y) % 16 else if op = 3 then (X + 16 - Y) % 16 else if op = 4 then X * Y % 16
  else if op = 5 then (if Y = 0 then X else X / Y) else if op = 6 then X &&& Y else if op = 7 then X ^^^ Y else if op = 8 then (if X < Y then 1 else 0) else X
def lj_f (op X Y : Nat) : Nat := if op = 5 ∧ Y = 0 then 2 else if op = 10 ∧ X = 0 then 3 else 0
def lj_e (op b X Y : Nat) : Nat := if op = 9 then (if X = 0 then 1 else b) else if op = 11 ∨ (op = 5 ∧ Y = 0) ∨ (op = 10 ∧ X = 0) then 0 else 1
abbrev lj_stay (op b X : Nat) : Prop := op = 9 ∧ b = 0 ∧ X ≠ 0
def lj_n (op b lim X : Nat) : Nat := if lj_stay op b X then lim else 1
def lj_g (op b X Y : Nat) : Nat := if lj_stay op b X then 1 else lj_f op X Y
theorem lj_nzT : ∀ X, X < 16 → (((X.testBit 0 || X.testBit 1) || X.testBit 2) || X.testBit 3) = decide (X ≠ 0) := by decide +kernel
theorem lj_nz {x : Nat → Int64} {k X : Nat} (h : lj_is 4 x k X) : lj_b (((x 0 ||| x 1) ||| x 2) ||| x 3) k = decide (X ≠ 0) := by
  rw [lj_or, lj_or, lj_or, h.2 0 (by omega), h.2 1 (by omega), h.2 2 (by omega), h.2 3 (by omega)]
  exact lj_nzT X h.1
theorem lj_e16 {op b X Y : Nat} (hb : b < 16) : lj_e op b X Y < 16 := by
  unfold lj_e
  split
  · split <;> omega
  · split <;> omega
theorem lj_e9 (b X Y : Nat) : lj_e 9 b X Y = if decide (X ≠ 0) = true then b else 1 := by
  by_cases h : X = 0 <;> simp [lj_e, h]
theorem lj_f9 (X Y : Nat) : lj_f 9 X Y = if decide (X ≠ 0) = true then 0 else 0 := by
  simp [lj_f]
theorem lj_e10 (b X Y : Nat) : lj_e 10 b X Y = if decide (X ≠ 0) = true then 1 else 0 := by
  by_cases h : X = 0 <;> simp [lj_e, h]
theorem lj_f10 (X Y : Nat) : lj_f 10 X Y = if decide (X ≠ 0) = true then 0 else 3 := by
  by_cases h : X = 0 <;> simp [lj_f, h]
theorem lj_e5 (b X Y : Nat) : lj_e 5 b X Y = if decide (Y ≠ 0) = true then 1 else 0 := by
  by_cases h : Y = 0 <;> simp [lj_e, h]
theorem lj_f5 (X Y : Nat) : lj_f 5 X Y = if decide (Y ≠ 0) = true then 0 else 2 := by
  by_cases h : Y = 0 <;> simp [lj_f, h]
def lj_X (a k : Nat) : Nat := if a = 0 then k % 8 else if a = 1 then k / 8 else 0
end
section
section
variable {post : St2 → Prop} {postL : Int64 → Prop} {postI : Int32 → Prop} {l sz jd ak : Int32} {a1 a2 a3 : Nat → Int32} {a4 a5 a6 a7 a8 a9 a10 a11 a12 a13 a14 a15 a16 : Nat → Int64} {k : Nat}
/-! ===== reset ===== -/
theorem lj_r124 (H : ∀ v w, (∀ j, j < 12 → w j = 0) → post (l, sz, jd, ak, a1, a2, a3, a4, a5, a6, a7, v, w, a10, a11, a12, a13, a14, a15, a16)) : ∃ n, wX_reset_124 post l sz jd ak n 0 a1 a2 a3 a4 a5 a6 a7 a8 a9 a10 a11 a12 a13 a14 a15 a16 :=
  pk_loop (σ := (Nat → Int64) × (Nat → Int64)) (fun n i s => wX_reset_124 post l sz jd ak n (nI i) a1 a2 a3 a4 a5 a6 a7 s.1 s.2 a10 a11 a12 a13 a14 a15 a16) (fun i s => ∀ j, j < i → s.2 j = 0) 12 0 (a8, a9) (by omega) (fun j h => absurd h (by omega))
    (fun n s h => pk_le 12 12 (fun _ => H s.1 s.2 h) (fun z => absurd z (by omega)))
    (fun n i s hi h hw => pk_le 12 i (fun z => absurd z (by omega)) (fun _ => ⟨pk_in i 12 hi, nm_e ⟨pk_in i 12 hi, nm_e (nm_r (nI_1 i) (hw (_, _) (lj_fill (f := fun _ => 0) (nI_clamp (by omega)) h rfl)))⟩⟩))
theorem lj_r97 (H : ∀ e f v w, (∀ j, j < 4 → e j = 0) → (∀ j, j < 4 → f j = 0) → (∀ j, j < 12 → w j = 0) → post (l, sz, jd, ak, a1, a2, a3, a4, a5, e, f, v, w, a10, a11, a12, a13, a14, a15, a16)) : ∃ n, wX_reset_97 post l sz jd ak n 0 a1 a2 a3 a4 a5 a6 a7 a8 a9 a10 a11 a12 a13 a14 a15 a16 :=
  pk_loop (σ := (Nat → Int64) × (Nat → Int64)) (fun n i s => wX_reset_97 post l sz jd ak n (nI i) a1 a2 a3 a4 a5 s.1 s.2 a8 a9 a10 a11 a12 a13 a14 a15 a16) (fun i s => (∀ j, j < i → s.1 j = 0) ∧ (∀ j, j < i → s.2 j = 0)) 4 0 (a6, a7) (by omega) ⟨fun j h => absurd h (by omega), fun j h => absurd h (by omega)⟩
    (fun n s h => pk_le 4 4 (fun _ => lj_r124 (fun v w hw => H s.1 s.2 v w h.1 h.2 hw)) (fun z => absurd z (by omega)))
    (fun n i s hi h hw => pk_le 4 i (fun z => absurd z (by omega)) (fun _ => ⟨pk_in i 4 hi, nm_e ⟨pk_in i 4 hi, nm_e (nm_r (nI_1 i) (hw (_, _) ⟨lj_fill (f := fun _ => 0) (nI_clamp (by omega)) h.1 rfl, lj_fill (f := fun _ => 0) (nI_clamp (by omega)) h.2 rfl⟩))⟩⟩))
theorem lj_r76 (H : ∀ g e f v w, (∀ j, j < 6 → g j = 0) → (∀ j, j < 4 → e j = 0) → (∀ j, j < 4 → f j = 0) → (∀ j, j < 12 → w j = 0) → post (l, sz, jd, ak, a1, a2, a3, a4, g, e, f, v, w, a10, a11, a12, a13, a14, a15, a16)) : ∃ n, wX_reset_76 post l sz jd ak n 0 a1 a2 a3 a4 a5 a6 a7 a8 a9 a10 a11 a12 a13 a14 a15 a16 :=
  pk_loop (fun n i s => wX_reset_76 post l sz jd ak n (nI i) a1 a2 a3 a4 s a6 a7 a8 a9 a10 a11 a12 a13 a14 a15 a16) (fun i s => ∀ j, j < i → s j = 0) 6 0 a5 (by omega) (fun j h => absurd h (by omega))
    (fun n s h => pk_le 6 6 (fun _ => lj_r97 (fun e f v w he hf hw => H s e f v w h he hf hw)) (fun z => absurd z (by omega)))
    (fun n i s hi h hw => pk_le 6 i (fun z => absurd z (by omega)) (fun _ => ⟨pk_in i 6 hi, nm_e (nm_r (nI_1 i) (hw _ (lj_fill (f := fun _ => 0) (nI_clamp (by omega)) h rfl)))⟩))
def lj_ip (i : Nat) : Int64 := if i = 0 then -6148914691236517206 else if i = 1 then -3689348814741910324 else if i = 2 then -1085102592571150096 else if i = 3 then -71777214294589696 else if i = 4 then -281470681808896 else -4294967296
def lj_R0 (i : Nat) : Int64 := if i < 3 then lj_ip i else if 4 ≤ i ∧ i < 7 then lj_ip (i - 1) else 0
theorem lj_ipW {i : Nat} {x : Int32} (hi : i < 6) (hx : x = nI i) (h : postL (lj_ip i)) : wpX_indexPlane postL () x := by
  subst hx
  have c : i = 0 ∨ i = 1 ∨ i = 2 ∨ i = 3 ∨ i = 4 ∨ i = 5 := by omega
  rcases c with c | c | c | c | c | c
  · subst c; exact br_f (by decide) (br_f (by decide) (br_t (by decide) h))
  · subst c; exact br_f (by decide) (br_f (by decide) (br_f (by decide) (br_t (by decide) h)))
  · subst c; exact br_f (by decide) (br_f (by decide) (br_f (by decide) (br_f (by decide) (br_t (by decide) h))))
  · subst c; exact br_f (by decide) (br_f (by decide) (br_f (by decide) (br_f (by decide) (br_f (by decide) (br_t (by decide) h)))))
  · subst c; exact br_f (by decide) (br_f (by decide) (br_f (by decide) (br_f (by decide) (br_f (by decide) (br_f (by decide) (br_t (by decide) h))))))
  · subst c; exact br_f (by decide) (br_t (by decide) h)
theorem lj_r55 (h8 : ∀ j, j < 8 → a4 j = lj_R0 j) (H : ∀ r g e f v w, (∀ j, j < 16 → r j = lj_R0 j) → (∀ j, j < 6 → g j = 0) → (∀ j, j < 4 → e j = 0) → (∀ j, j < 4 → f j = 0) → (∀ j, j < 12 → w j = 0) → post (l, sz, jd, ak, a1, a2, a3, r, g, e, f, v, w, a10, a11, a12, a13, a14, a15, a16)) : ∃ n, wX_reset_55 post l sz jd ak n 8 a1 a2 a3 a4 a5 a6 a7 a8 a9 a10 a11 a12 a13 a14 a15 a16 :=
  pk_loop (fun n i s => wX_reset_55 post l sz jd ak n (nI i) a1 a2 a3 s a5 a6 a7 a8 a9 a10 a11 a12 a13 a14 a15 a16) (fun i s => 8 ≤ i ∧ ∀ j, j < i → s j = lj_R0 j) 16 8 a4 (by omega) ⟨by omega, h8⟩
    (fun n s h => pk_le 16 16 (fun _ => lj_r76 (fun g e f v w hg he hf hw => H s g e f v w h.2 hg he hf hw)) (fun z => absurd z (by omega)))
    (fun n i s hi h hw => pk_le 16 i (fun z => absurd z (by omega)) (fun _ => ⟨pk_in i 16 hi, nm_e (nm_r (nI_1 i) (hw _ ⟨by omega, lj_fill (nI_clamp (by omega)) h.2 (by have h8 := h.1; unfold lj_R0; rw [if_neg (by omega), if_neg (by omega)])⟩))⟩))
theorem lj_r2 (H : ∀ r g e f v w, (∀ j, j < 16 → r j = lj_R0 j) → (∀ j, j < 6 → g j = 0) → (∀ j, j < 4 → e j = 0) → (∀ j, j < 4 → f j = 0) → (∀ j, j < 12 → w j = 0) → post (l, sz, jd, ak, a1, a2, a3, r, g, e, f, v, w, a10, a11, a12, a13, a14, a15, a16)) : ∃ n, wX_reset_2 post l sz jd ak n 0 a1 a2 a3 a4 a5 a6 a7 a8 a9 a10 a11 a12 a13 a14 a15 a16 :=
  pk_loop (fun n i s => wX_reset_2 post l sz jd ak n (nI i) a1 a2 a3 s a5 a6 a7 a8 a9 a10 a11 a12 a13 a14 a15 a16) (fun i s => ∀ j, j < i → s j = lj_ip j ∧ s (4 + j) = lj_ip (3 + j)) 3 0 a4 (by omega) (fun j h => absurd h (by omega))
    (fun n s h => pk_le 3 3 (fun _ => nm_e (nm_e (lj_r55 (fun j hj => by
      have c : j = 0 ∨ j = 1 ∨ j = 2 ∨ j = 3 ∨ j = 4 ∨ j = 5 ∨ j = 6 ∨ j = 7 := by omega
      rcases c with c | c | c | c | c | c | c | c
      · subst c; exact (h 0 (by omega)).1
      · subst c; exact (h 1 (by omega)).1
      · subst c; exact (h 2 (by omega)).1
      · subst c; rfl
      · subst c; exact (h 0 (by omega)).2
      · subst c; exact (h 1 (by omega)).2
      · subst c; exact (h 2 (by omega)).2
      · subst c; rfl) H))) (fun z => absurd z (by omega)))
    (fun n i s hi h hw => pk_le 3 i (fun z => absurd z (by omega)) (fun _ => lj_ipW (i := i) (by omega) rfl ⟨pk_in i 16 (by omega), nm_e (lj_ipW (i := 3 + i) (by omega) (nI_add 3 i) ⟨pk_in (4 + i) 16 (by omega) (nI_add 4 i), nm_e (nm_r (nI_1 i) (hw _ (fun j hj => by
      have e1 : (nI i).toNatClampNeg = i := nI_clamp (by omega)
      have e2 : (4 + nI i).toNatClampNeg = 4 + i := pk_cl (4 + i) (nI_add 4 i)
      rw [e1, e2]
      by_cases c : j = i
      · subst c; exact ⟨by rw [pk_uLn (by omega), pk_uLs], by rw [pk_uLs]⟩
      · have hj2 := h j (by omega)
        exact ⟨by rw [pk_uLn (by omega), pk_uLn c]; exact hj2.1, by rw [pk_uLn (by omega), pk_uLn (by omega)]; exact hj2.2⟩)))⟩)⟩))
theorem lj_reset (H : ∀ r g e f v w, (∀ j, j < 16 → r j = lj_R0 j) → (∀ j, j < 6 → g j = 0) → (∀ j, j < 4 → e j = 0) → (∀ j, j < 4 → f j = 0) → (∀ j, j < 12 → w j = 0) → post (l, sz, jd, ak, a1, a2, a3, r, g, e, f, v, w, a10, a11, a12, a13, a14, a15, a16)) : wpX_reset post (l, sz, jd, ak, a1, a2, a3, a4, a5, a6, a7, a8, a9, a10, a11, a12, a13, a14, a15, a16) := lj_r2 H
/-! ===== settle, send ===== -/
theorem lj_settle {lanes : Int64} {x y : Int32} {f p : Nat} (hf : f < 4) (hp : p < 16) (hx : x = nI f) (hy : y = nI p)
    (H : ∀ e g, (∀ j, j < 4 → lj_b (e j) k = (lj_b (a6 j) k || (lj_b lanes k && p.testBit j))) → (∀ j, j < 4 → lj_b (g j) k = (lj_b (a7 j) k || (lj_b lanes k && decide (j = f)))) → post (l, sz, jd, ak, a1, a2, a3, a4, a5, e, g, a8, a9, a10, a11, a12, a13, a14, a15, a16)) :
    wpX_settle post (l, sz, jd, ak, a1, a2, a3, a4, a5, a6, a7, a8, a9, a10, a11, a12, a13, a14, a15, a16) lanes x y := by
  subst hx hy
  refine ⟨pk_in f 4 hf, pk_in f 4 hf, nm_e ?_⟩
  rw [nI_clamp (show f < 2 ^ 31 by omega)]
  have hg : ∀ j, j < 4 → lj_b (vp_updL a7 f (a7 f ||| lanes) j) k = (lj_b (a7 j) k || (lj_b lanes k && decide (j = f))) := by
    intro j hj
    by_cases c : j = f
    · subst c; rw [pk_uLs, lj_or, decide_eq_true rfl, Bool.and_true]
    · rw [pk_uLn c, decide_eq_false c, Bool.and_false, Bool.or_false]
  exact pk_loop (fun n i s => wX_settle_13 post lanes (nI p) l sz jd ak n (nI i) a1 a2 a3 a4 a5 s (vp_updL a7 f (a7 f ||| lanes)) a8 a9 a10 a11 a12 a13 a14 a15 a16) (fun i s => (∀ j, j < i → lj_b (s j) k = (lj_b (a6 j) k || (lj_b lanes k && p.testBit j))) ∧ (∀ j, i ≤ j → s j = a6 j)) 4 0 a6 (by omega) ⟨fun j h => absurd h (by omega), fun j _ => rfl⟩
    (fun n s h => pk_le 4 4 (fun _ => H s _ h.1 hg) (fun z => absurd z (by omega)))
    (fun n i s hi h hw => pk_le 4 i (fun z => absurd z (by omega)) (fun _ => ek_if (lj_tb p (by omega) i (by omega))
      (fun c => nm_r (nI_1 i) (hw s ⟨fun j hj => by
        by_cases e : j = i
        · rw [e, h.2 i (Nat.le_refl i), c, Bool.and_false, Bool.or_false]
        · exact h.1 j (by omega), fun j hj => h.2 j (by omega)⟩))
      (fun c => ⟨pk_in i 4 hi, pk_in i 4 hi, nm_e (nm_r (nI_1 i) (hw _ ⟨fun j hj => by
        rw [nI_clamp (show i < 2 ^ 31 by omega)]
        by_cases e : j = i
        · rw [e, pk_uLs, lj_or, h.2 i (Nat.le_refl i), eq_true_of_ne_false c, Bool.and_true]
        · rw [pk_uLn e]; exact h.1 j (by omega), fun j hj => by
        rw [nI_clamp (show i < 2 ^ 31 by omega), pk_uLn (by omega)]; exact h.2 j (by omega)⟩))⟩)))
/-- size 1: what is sent to 0 waits, what is sent further halts -/
theorem lj_send0 {lanes : Int64} {x : Int32} (hx : x = 0) (H : post (l, 1, jd, ak, a1, a2, a3, a4, a5, a6, a7, a8, vp_updL a9 0 (a9 0 ||| lanes), a10, a11, a12, a13, a14, a15, a16)) : wpX_send post (l, 1, jd, ak, a1, a2, a3, a4, a5, a6, a7, a8, a9, a10, a11, a12, a13, a14, a15, a16) lanes x := by
  subst hx
  exact br_t (by decide) ⟨pk_in 0 12 (by omega), pk_in 0 12 (by omega), nm_e H⟩
theorem lj_send1 {lanes : Int64} {x : Int32} {p : Nat} (h0 : 0 < p) (hp : p < 16) (hx : x = nI p)
    (H : ∀ e g, (∀ j, j < 4 → lj_b (e j) k = (lj_b (a6 j) k || (lj_b lanes k && p.testBit j))) → (∀ j, j < 4 → lj_b (g j) k = (lj_b (a7 j) k || (lj_b lanes k && decide (j = 0)))) → post (l, 1, jd, ak, a1, a2, a3, a4, a5, e, g, a8, a9, a10, a11, a12, a13, a14, a15, a16)) :
    wpX_send post (l, 1, jd, ak, a1, a2, a3, a4, a5, a6, a7, a8, a9, a10, a11, a12, a13, a14, a15, a16) lanes x := by
  subst hx
  exact br_f (nI_nlt (b := 1) (by omega) (by omega)) (lj_settle (k := k) (f := 0) (p := p) (by omega) hp rfl rfl H)
theorem lj_least (H0 : a9 0 = 0 → postI (-1)) (H1 : ¬ a9 0 = 0 → postI 0) : wpX_leastWaiting postI (l, 1, jd, ak, a1, a2, a3, a4, a5, a6, a7, a8, a9, a10, a11, a12, a13, a14, a15, a16) :=
  ⟨2, br_f (by decide) ⟨pk_in 0 12 (by omega), br_c (fun h => nm_r (show (0 : Int32) + 1 = 1 by decide) (br_t (by decide) (H0 h))) (fun h => H1 h)⟩⟩
/-! ===== atLimit, countStep ===== -/
theorem lj_atLimit {lim n : Nat} (hk : k < 64) (hl : lim < 64) (hn : lj_is 6 a5 k n) (H : ∀ r, lj_b r k = decide (n = lim) → postL r) : wpX_atLimit postL (nI lim, sz, jd, ak, a1, a2, a3, a4, a5, a6, a7, a8, a9, a10, a11, a12, a13, a14, a15, a16) := by
  have hn6 : n < 64 := hn.1
  refine pk_loop (fun m i s => wX_atLimit_6 postL (nI lim) sz jd ak a1 a2 a3 a4 a5 a6 a7 a8 a9 a10 a11 a12 a13 a14 a15 a16 m s (nI i)) (fun i s => lj_b s k = lj_al n lim i) 6 0 (-1) (by omega) (lj_m1 k hk)
    (fun m s h => pk_le 6 6 (fun _ => H s (by rw [h, lj_al6 n hn6 lim hl])) (fun z => absurd z (by omega))) ?_
  intro m i s hi h hw
  have e : (nI i).toNatClampNeg = i := nI_clamp (by omega)
  refine pk_le 6 i (fun z => absurd z (by omega)) (fun _ => ek_if (lj_tb lim hl i hi) (fun c => br_t rfl ⟨pk_in i 6 hi, nm_e (nm_r (nI_1 i) (hw _ ?_))⟩) (fun c => br_f (by decide) ⟨pk_in i 6 hi, nm_e (nm_r (nI_1 i) (hw _ ?_))⟩))
  · rw [e, lj_and, lj_not _ hk, h, hn.2 i hi]
    show _ = (lj_al n lim i && (if lim.testBit i then n.testBit i else !n.testBit i))
    rw [c]; rfl
  · rw [e, lj_and, h, hn.2 i hi]
    show _ = (lj_al n lim i && (if lim.testBit i then n.testBit i else !n.testBit i))
    rw [eq_true_of_ne_false c]; rfl
theorem lj_count {lanes : Int64} {n : Nat} (hn : lj_is 6 a5 k n) (h63 : n < 63) (H : ∀ g, lj_is 6 g k (n + (lj_b lanes k).toNat) → post (l, sz, jd, ak, a1, a2, a3, a4, g, a6, a7, a8, a9, a10, a11, a12, a13, a14, a15, a16)) : wpX_countStep post (l, sz, jd, ak, a1, a2, a3, a4, a5, a6, a7, a8, a9, a10, a11, a12, a13, a14, a15, a16) lanes := by
  have hn6 : n < 64 := hn.1
  refine pk_loop (σ := Int64 × (Nat → Int64)) (fun m i s => wX_countStep_5 post l sz jd ak m s.1 (nI i) a1 a2 a3 a4 s.2 a6 a7 a8 a9 a10 a11 a12 a13 a14 a15 a16) (fun i s => lj_b s.1 k = (lj_b lanes k && lj_cy n i) ∧ (∀ j, j < i → lj_b (s.2 j) k = (n + (lj_b lanes k).toNat).testBit j) ∧ (∀ j, i ≤ j → s.2 j = a5 j)) 6 0 (lanes, a5) (by omega) ⟨?_, fun j h => absurd h (by omega), fun j _ => rfl⟩
    (fun m s h => pk_le 6 6 (fun _ => H s.2 ⟨?_, h.2.1⟩) (fun z => absurd z (by omega))) ?_
  · have c0 : lj_cy n 0 = true := decide_eq_true (by rw [Nat.pow_zero]; omega)
    show lj_b lanes k = (lj_b lanes k && lj_cy n 0)
    rw [c0, Bool.and_true]
  · cases lj_b lanes k <;> simp only [Bool.toNat_false, Bool.toNat_true] <;> omega
  · intro m i s hi h hw
    have e : (nI i).toNatClampNeg = i := nI_clamp (by omega)
    have hb : lj_b (s.2 i) k = n.testBit i := by rw [h.2.2 i (Nat.le_refl i)]; exact hn.2 i hi
    have ht := lj_cyS (lj_b lanes k) n hn6 i hi
    refine pk_le 6 i (fun z => absurd z (by omega)) (fun _ => ⟨pk_in i 6 hi, nm_e ⟨pk_in i 6 hi, pk_in i 6 hi, nm_e (nm_r (nI_1 i) (hw (_, _) ⟨?_, fun j hj => ?_, fun j hj => ?_⟩))⟩⟩)
    · show lj_b (s.2 (nI i).toNatClampNeg &&& s.1) k = _
      rw [e, lj_and, hb, h.1]; exact ht.1
    · show lj_b (vp_updL s.2 (nI i).toNatClampNeg (s.2 (nI i).toNatClampNeg ^^^ s.1) j) k = _
      rw [e]
      by_cases c : j = i
      · rw [c, pk_uLs, lj_xor, hb, h.1]; exact ht.2
      · rw [pk_uLn c]; exact h.2.1 j (by omega)
    · show vp_updL s.2 (nI i).toNatClampNeg (s.2 (nI i).toNatClampNeg ^^^ s.1) j = _
      rw [e, pk_uLn (by omega)]; exact h.2.2 j (by omega)
/-! ===== load, store ===== -/
theorem lj_ix {x : Int32} {a : Nat} (hx : x = nI a) (i : Nat) : x * 4 + nI i = nI (a * 4 + i) := by
  rw [hx, ← nI_add, ← pk_mul]; rfl
theorem lj_load {x y : Int32} {a b : Nat} (ha : a < 4) (hb : b < 4) (hx : x = nI a) (hy : y = nI b)
    (H : ∀ u v, (∀ j, j < 4 → u j = a4 (a * 4 + j)) → (∀ j, j < 4 → v j = a4 (b * 4 + j)) → post (l, sz, jd, ak, a1, a2, a3, a4, a5, a6, a7, a8, a9, u, v, a12, a13, a14, a15, a16)) : wpX_load post (l, sz, jd, ak, a1, a2, a3, a4, a5, a6, a7, a8, a9, a10, a11, a12, a13, a14, a15, a16) x y := by
  refine pk_loop (σ := (Nat → Int64) × (Nat → Int64)) (fun n i s => wX_load_2 post x y l sz jd ak n (nI i) a1 a2 a3 a4 a5 a6 a7 a8 a9 s.1 s.2 a12 a13 a14 a15 a16) (fun i s => (∀ j, j < i → s.1 j = a4 (a * 4 + j)) ∧ (∀ j, j < i → s.2 j = a4 (b * 4 + j))) 4 0 (a10, a11) (by omega) ⟨fun j h => absurd h (by omega), fun j h => absurd h (by omega)⟩
    (fun n s h => pk_le 4 4 (fun _ => H s.1 s.2 h.1 h.2) (fun z => absurd z (by omega))) ?_
  intro n i s hi h hw
  have e : (nI i).toNatClampNeg = i := nI_clamp (by omega)
  have ex : (x * 4 + nI i).toNatClampNeg = a * 4 + i := pk_cl (a * 4 + i) (lj_ix hx i)
  have ey : (y * 4 + nI i).toNatClampNeg = b * 4 + i := pk_cl (b * 4 + i) (lj_ix hy i)
  refine pk_le 4 i (fun z => absurd z (by omega)) (fun _ => ⟨pk_in (a * 4 + i) 16 (by omega) (lj_ix hx i), pk_in i 4 hi, nm_e ⟨pk_in (b * 4 + i) 16 (by omega) (lj_ix hy i), pk_in i 4 hi, nm_e (nm_r (nI_1 i) (hw (_, _) ⟨?_, ?_⟩))⟩⟩)
  · exact lj_fill (f := fun j => a4 (a * 4 + j)) e h.1 (by rw [ex])
  · exact lj_fill (f := fun j => a4 (b * 4 + j)) e h.2 (by rw [ey])
theorem lj_store {x : Int32} {lanes : Int64} {a : Nat} (hk : k < 64) (ha : a < 4) (hx : x = nI a)
    (H : ∀ r, (∀ j, j < 4 → lj_b (r (a * 4 + j)) k = if lj_b lanes k then lj_b (a12 j) k else lj_b (a4 (a * 4 + j)) k) → post (l, sz, jd, ak, a1, a2, a3, r, a5, a6, a7, a8, a9, a10, a11, a12, a13, a14, a15, a16)) : wpX_store post (l, sz, jd, ak, a1, a2, a3, a4, a5, a6, a7, a8, a9, a10, a11, a12, a13, a14, a15, a16) x lanes := by
  refine pk_loop (fun n i s => wX_store_3 post x lanes l sz jd ak n (nI i) a1 a2 a3 s a5 a6 a7 a8 a9 a10 a11 a12 a13 a14 a15 a16) (fun i s => (∀ j, j < i → lj_b (s (a * 4 + j)) k = if lj_b lanes k then lj_b (a12 j) k else lj_b (a4 (a * 4 + j)) k) ∧ (∀ j, i ≤ j → s (a * 4 + j) = a4 (a * 4 + j))) 4 0 a4 (by omega) ⟨fun j h => absurd h (by omega), fun j _ => rfl⟩
    (fun n s h => pk_le 4 4 (fun _ => H s h.1) (fun z => absurd z (by omega))) ?_
  intro n i s hi h hw
  have e : (nI i).toNatClampNeg = i := nI_clamp (by omega)
  have ex : (nI (a * 4 + i)).toNatClampNeg = a * 4 + i := nI_clamp (by omega)
  refine pk_le 4 i (fun z => absurd z (by omega)) (fun _ => nm_r (lj_ix hx i) ⟨pk_in (a * 4 + i) 16 (by omega), pk_in i 4 hi, pk_in (a * 4 + i) 16 (by omega), nm_e (nm_r (nI_1 i) (hw _ ⟨fun j hj => ?_, fun j hj => ?_⟩))⟩)
  · rw [ex, e]
    by_cases c : j = i
    · rw [c, pk_uLs, lj_or, lj_and, lj_and, lj_not _ hk, h.2 i (Nat.le_refl i)]
      cases lj_b lanes k <;> simp
    · rw [pk_uLn (by omega)]; exact h.1 j (by omega)
  · rw [ex, pk_uLn (by omega)]; exact h.2 j (by omega)
end
end
section
section
variable {post : St2 → Prop} {postS : Int64 → St2 → Prop} {l sz jd ak : Int32} {a1 a2 a3 : Nat → Int32} {a4 a5 a6 a7 a8 a9 a10 a11 a12 a13 a14 a15 a16 : Nat → Int64} {k : Nat}
/-! ===== add, subtract ===== -/
theorem lj_addP (H : ∀ z, (∀ j, j < 4 → z j = lj_az a10 a11 j) → post (l, sz, jd, ak, a1, a2, a3, a4, a5, a6, a7, a8, a9, a10, a11, z, a13, a14, a15, a16)) : wpX_add post (l, sz, jd, ak, a1, a2, a3, a4, a5, a6, a7, a8, a9, a10, a11, a12, a13, a14, a15, a16) := by
  refine pk_loop (σ := Int64 × (Nat → Int64)) (fun n i s => wX_add_4 post l sz jd ak n s.1 (nI i) a1 a2 a3 a4 a5 a6 a7 a8 a9 a10 a11 s.2 a13 a14 a15 a16) (fun i s => s.1 = lj_ac a10 a11 i ∧ ∀ j, j < i → s.2 j = lj_az a10 a11 j) 4 0 (0, a12) (by omega) ⟨rfl, fun j h => absurd h (by omega)⟩
    (fun n s h => pk_le 4 4 (fun _ => H s.2 h.2) (fun z => absurd z (by omega))) ?_
  intro n i s hi h hw
  have e : (nI i).toNatClampNeg = i := nI_clamp (by omega)
  refine pk_le 4 i (fun z => absurd z (by omega)) (fun _ => ⟨pk_in i 4 hi, pk_in i 4 hi, nm_e ⟨pk_in i 4 hi, nm_e ⟨pk_in i 4 hi, pk_in i 4 hi, nm_e (nm_r (nI_1 i) (hw (_, _) ⟨?_, ?_⟩))⟩⟩⟩)
  · show (a10 (nI i).toNatClampNeg &&& a11 (nI i).toNatClampNeg) ||| ((a10 (nI i).toNatClampNeg ^^^ a11 (nI i).toNatClampNeg) &&& s.1) = _
    rw [e, h.1]; rfl
  · exact lj_fill e h.2 (by rw [e, h.1]; rfl)
theorem lj_subP (H : ∀ z, (∀ j, j < 4 → z j = lj_sz a10 a11 j) → postS (lj_sc a10 a11 4) (l, sz, jd, ak, a1, a2, a3, a4, a5, a6, a7, a8, a9, a10, a11, z, a13, a14, a15, a16)) : wpX_subtract postS (l, sz, jd, ak, a1, a2, a3, a4, a5, a6, a7, a8, a9, a10, a11, a12, a13, a14, a15, a16) := by
  refine pk_loop (σ := Int64 × (Nat → Int64)) (fun n i s => wX_subtract_4 postS l sz jd ak n s.1 (nI i) a1 a2 a3 a4 a5 a6 a7 a8 a9 a10 a11 s.2 a13 a14 a15 a16) (fun i s => s.1 = lj_sc a10 a11 i ∧ ∀ j, j < i → s.2 j = lj_sz a10 a11 j) 4 0 (0, a12) (by omega) ⟨rfl, fun j h => absurd h (by omega)⟩
    (fun n s h => pk_le 4 4 (fun _ => ek_v (P := fun r => postS r (l, sz, jd, ak, a1, a2, a3, a4, a5, a6, a7, a8, a9, a10, a11, s.2, a13, a14, a15, a16)) h.1 (H s.2 h.2)) (fun z => absurd z (by omega))) ?_
  intro n i s hi h hw
  have e : (nI i).toNatClampNeg = i := nI_clamp (by omega)
  refine pk_le 4 i (fun z => absurd z (by omega)) (fun _ => ⟨pk_in i 4 hi, pk_in i 4 hi, nm_e ⟨pk_in i 4 hi, nm_e ⟨pk_in i 4 hi, pk_in i 4 hi, nm_e (nm_r (nI_1 i) (hw (_, _) ⟨?_, ?_⟩))⟩⟩⟩)
  · show ((a10 (nI i).toNatClampNeg ^^^ (-1)) &&& a11 (nI i).toNatClampNeg) ||| (((a10 (nI i).toNatClampNeg ^^^ a11 (nI i).toNatClampNeg) ^^^ (-1)) &&& s.1) = _
    rw [e, h.1]; rfl
  · exact lj_fill e h.2 (by rw [e, h.1]; rfl)
/-! ===== multiply ===== -/
theorem lj_m32 {J : Int32 → (Nat → Int32) → (Nat → Int32) → (Nat → Int32) → (Nat → Int64) → (Nat → Int64) → (Nat → Int64) → (Nat → Int64) → (Nat → Int64) → (Nat → Int64) → (Nat → Int64) → (Nat → Int64) → (Nat → Int64) → (Nat → Int64) → (Nat → Int64) → (Nat → Int64) → (Nat → Int64) → Prop} {i : Nat} (hi : i < 4) (H : ∀ z, (∀ j, j < 4 → z j = lj_mz a10 a11 a12 i j) → J (nI (i + 1)) a1 a2 a3 a4 a5 a6 a7 a8 a9 a10 a11 z a13 a14 a15 a16) : ∃ n, wX_multiply_32 post J (nI i) l sz jd ak n 0 (nI i) a1 a2 a3 a4 a5 a6 a7 a8 a9 a10 a11 a12 a13 a14 a15 a16 := by
  refine pk_loop (σ := Int64 × (Nat → Int64)) (fun n j s => wX_multiply_32 post J (nI i) l sz jd ak n s.1 (nI j) a1 a2 a3 a4 a5 a6 a7 a8 a9 a10 a11 s.2 a13 a14 a15 a16) (fun j s => i ≤ j ∧ s.1 = lj_mc a10 a11 a12 i (j - i) ∧ (∀ t, t < j → s.2 t = lj_mz a10 a11 a12 i t) ∧ (∀ t, j ≤ t → s.2 t = a12 t)) 4 i (0, a12) (by omega)
    ⟨Nat.le_refl i, by rw [Nat.sub_self]; rfl, fun t ht => by unfold lj_mz; rw [if_pos ht], fun t _ => rfl⟩
    (fun n s h => pk_le 4 4 (fun _ => nm_r (nI_1 i) (H s.2 h.2.2.1)) (fun z => absurd z (by omega))) ?_
  intro n j s hj h hw
  obtain ⟨hij, hc, hlo, hup⟩ := h
  have e : (nI j).toNatClampNeg = j := nI_clamp (by omega)
  have ei : (nI i).toNatClampNeg = i := nI_clamp (by omega)
  have es : nI j - nI i = nI (j - i) := pk_sub hij
  have ed : (nI j - nI i).toNatClampNeg = j - i := pk_cl (j - i) es
  have hz : s.2 j = a12 j := hup j (Nat.le_refl j)
  refine pk_le 4 j (fun z => absurd z (by omega)) (fun _ => ⟨pk_in (j - i) 4 (by omega) es, pk_in i 4 hi, nm_e ⟨pk_in j 4 hj, nm_e ⟨pk_in j 4 hj, nm_e ⟨pk_in j 4 hj, nm_e (nm_r (nI_1 j) (hw (_, _) ⟨by omega, ?_, ?_, ?_⟩))⟩⟩⟩⟩)
  · show (s.2 (nI j).toNatClampNeg &&& (a10 (nI j - nI i).toNatClampNeg &&& a11 (nI i).toNatClampNeg)) ||| ((s.2 (nI j).toNatClampNeg ^^^ (a10 (nI j - nI i).toNatClampNeg &&& a11 (nI i).toNatClampNeg)) &&& s.1) = _
    rw [e, ed, ei, hz, hc, show j + 1 - i = (j - i) + 1 by omega]
    show _ = (a12 (i + (j - i)) &&& (a10 (j - i) &&& a11 i)) ||| ((a12 (i + (j - i)) ^^^ (a10 (j - i) &&& a11 i)) &&& lj_mc a10 a11 a12 i (j - i))
    rw [show i + (j - i) = j by omega]
  · exact lj_fill e hlo (by
      rw [e, ed, ei, hz, hc]
      unfold lj_mz
      rw [if_neg (by omega)])
  · intro t ht
    show vp_updL s.2 (nI j).toNatClampNeg _ t = a12 t
    rw [e, pk_uLn (by omega)]
    exact hup t (by omega)
theorem lj_m22 (h0 : ∀ j, j < 4 → a12 j = 0) (H : ∀ z, (∀ X Y, lj_is 4 a10 k X → lj_is 4 a11 k Y → lj_is 4 z k (X * Y % 16)) → post (l, sz, jd, ak, a1, a2, a3, a4, a5, a6, a7, a8, a9, a10, a11, z, a13, a14, a15, a16)) : ∃ n, wX_multiply_22 post l sz jd ak n 0 a1 a2 a3 a4 a5 a6 a7 a8 a9 a10 a11 a12 a13 a14 a15 a16 := by
  refine pk_loop (fun n i s => wX_multiply_22 post l sz jd ak n (nI i) a1 a2 a3 a4 a5 a6 a7 a8 a9 a10 a11 s a13 a14 a15 a16) (fun i s => ∀ X Y, lj_is 4 a10 k X → lj_is 4 a11 k Y → lj_is 4 s k (X * (Y % 2 ^ i) % 16)) 4 0 a12 (by omega) ?_
    (fun n s h => pk_le 4 4 (fun _ => H s ?_) (fun z => absurd z (by omega))) ?_
  · intro X Y hX hY
    rw [Nat.pow_zero, Nat.mod_one, Nat.mul_zero, Nat.zero_mod]
    exact lj_is_0 (fun j hj => by rw [h0 j hj, lj_0])
  · intro X Y hX hY
    have t := h X Y hX hY
    rw [Nat.mod_eq_of_lt hY.1] at t
    exact t
  · intro n i s hi h hw
    exact pk_le 4 i (fun z => absurd z (by omega)) (fun _ => lj_m32 hi (fun z hz => hw z (fun X Y hX hY => lj_is_e (lj_mzV hi hX hY (h X Y hX hY)) hz)))
theorem lj_mulP (H : ∀ z, (∀ X Y, lj_is 4 a10 k X → lj_is 4 a11 k Y → lj_is 4 z k (X * Y % 16)) → post (l, sz, jd, ak, a1, a2, a3, a4, a5, a6, a7, a8, a9, a10, a11, z, a13, a14, a15, a16)) : wpX_multiply post (l, sz, jd, ak, a1, a2, a3, a4, a5, a6, a7, a8, a9, a10, a11, a12, a13, a14, a15, a16) :=
  pk_loop (fun n i s => wX_multiply_2 post l sz jd ak n (nI i) a1 a2 a3 a4 a5 a6 a7 a8 a9 a10 a11 s a13 a14 a15 a16) (fun i s => ∀ j, j < i → s j = 0) 4 0 a12 (by omega) (fun j h => absurd h (by omega))
    (fun n s h => pk_le 4 4 (fun _ => lj_m22 h H) (fun z => absurd z (by omega)))
    (fun n i s hi h hw => pk_le 4 i (fun z => absurd z (by omega)) (fun _ => ⟨pk_in i 4 hi, nm_e (nm_r (nI_1 i) (hw _ (lj_fill (f := fun _ => 0) (nI_clamp (by omega)) h rfl)))⟩))
/-! ===== bitwise ===== -/
def lj_w (op b k : Nat) (x y : Nat → Int64) (j : Nat) : Bool := if op = 0 then b.testBit j else if op = 1 then lj_b (y j) k else if op = 6 then (lj_b (x j) k && lj_b (y j) k) else (lj_b (x j) k ^^ lj_b (y j) k)
theorem lj_fillB {f : Nat → Bool} {s : Nat → Int64} {i m : Nat} {x : Int64} (hm : m = i) (h : ∀ j, j < i → lj_b (s j) k = f j) (hx : lj_b x k = f i) : ∀ j, j < i + 1 → lj_b (vp_updL s m x j) k = f j := by
  intro j hj
  rw [hm]
  by_cases e : j = i
  · rw [e, pk_uLs, hx]
  · rw [pk_uLn e]
    exact h j (by omega)
theorem lj_bitP {op b : Nat} (hk : k < 64) (ho : op < 12) (hb : b < 16) (H : ∀ z, (∀ j, j < 4 → lj_b (z j) k = lj_w op b k a10 a11 j) → post (l, sz, jd, ak, a1, a2, a3, a4, a5, a6, a7, a8, a9, a10, a11, z, a13, a14, a15, a16)) : wpX_bitwise post (l, sz, jd, ak, a1, a2, a3, a4, a5, a6, a7, a8, a9, a10, a11, a12, a13, a14, a15, a16) (nI op) (nI b) := by
  refine pk_loop (fun n i s => wX_bitwise_2 post (nI op) (nI b) l sz jd ak n (nI i) a1 a2 a3 a4 a5 a6 a7 a8 a9 a10 a11 s a13 a14 a15 a16) (fun i s => ∀ j, j < i → lj_b (s j) k = lj_w op b k a10 a11 j) 4 0 a12 (by omega) (fun j h => absurd h (by omega))
    (fun n s h => pk_le 4 4 (fun _ => H s h) (fun z => absurd z (by omega))) ?_
  intro n i s hi h hw
  have e : (nI i).toNatClampNeg = i := nI_clamp (by omega)
  refine pk_le 4 i (fun z => absurd z (by omega)) (fun _ => pk_eq op 0 (fun c0 => ek_if (lj_tb b (by omega) i (by omega)) (fun c => ⟨pk_in i 4 hi, nm_e (nm_r (nI_1 i) (hw _ (lj_fillB e h ?_)))⟩) (fun c => ⟨pk_in i 4 hi, nm_e (nm_r (nI_1 i) (hw _ (lj_fillB e h ?_)))⟩)) (fun c0 => pk_eq op 1
    (fun c1 => ⟨pk_in i 4 hi, pk_in i 4 hi, nm_e (nm_r (nI_1 i) (hw _ (lj_fillB e h ?_)))⟩)
    (fun c1 => pk_eq op 6
      (fun c6 => ⟨pk_in i 4 hi, pk_in i 4 hi, pk_in i 4 hi, nm_e (nm_r (nI_1 i) (hw _ (lj_fillB e h ?_)))⟩)
      (fun c6 => ⟨pk_in i 4 hi, pk_in i 4 hi, pk_in i 4 hi, nm_e (nm_r (nI_1 i) (hw _ (lj_fillB e h ?_)))⟩))))
  · unfold lj_w; rw [if_pos c0, c, lj_0]
  · unfold lj_w; rw [if_pos c0, eq_true_of_ne_false c, lj_m1 k hk]
  · unfold lj_w; rw [if_neg c0, if_pos c1, e]
  · unfold lj_w; rw [if_neg c0, if_neg c1, if_pos c6, e, lj_and]
  · unfold lj_w; rw [if_neg c0, if_neg c1, if_neg c6, e, lj_xor]
/-! ===== compute ===== -/
theorem lj_less {r : Int64} {z : Nat → Int64} {X Y : Nat} (h : lj_b r k = decide (X < Y)) : lj_is 4 (vp_updL (vp_updL (vp_updL (vp_updL z 0 r) 1 0) 2 0) 3 0) k (if X < Y then 1 else 0) := by
  refine ⟨by split <;> omega, fun j hj => ?_⟩
  have c : j = 0 ∨ j = 1 ∨ j = 2 ∨ j = 3 := by omega
  rcases c with c | c | c | c
  · subst c
    show lj_b r k = _
    rw [h]
    by_cases d : X < Y
    · rw [if_pos d, decide_eq_true d]; rfl
    · rw [if_neg d, decide_eq_false d]; rfl
  · subst c
    show lj_b 0 k = _
    rw [lj_0]
    split <;> rfl
  · subst c
    show lj_b 0 k = _
    rw [lj_0]
    split <;> rfl
  · subst c
    show lj_b 0 k = _
    rw [lj_0]
    split <;> rfl
theorem lj_compute {op b : Nat} {x y : Int32} (hk : k < 64) (ho : op < 9) (h5 : op ≠ 5) (hb : b < 16) (hx : x = nI op) (hy : y = nI b)
    (H : ∀ z, (∀ X Y, lj_is 4 a10 k X → lj_is 4 a11 k Y → lj_is 4 z k (lj_v op b X Y)) → post (l, sz, jd, ak, a1, a2, a3, a4, a5, a6, a7, a8, a9, a10, a11, z, a13, a14, a15, a16)) : wpX_compute post (l, sz, jd, ak, a1, a2, a3, a4, a5, a6, a7, a8, a9, a10, a11, a12, a13, a14, a15, a16) x y := by
  subst hx hy
  refine pk_eq op 2 (fun c => lj_addP (fun z hz => H z (fun X Y hX hY => ?_))) (fun c2 => pk_eq op 3 (fun c => lj_subP (fun z hz => H z (fun X Y hX hY => ?_))) (fun c3 => pk_eq op 4 (fun c => lj_mulP (k := k) (fun z hz => H z (fun X Y hX hY => ?_))) (fun c4 => pk_eq op 8 (fun c => lj_subP (fun z hz => nm_e (nm_e (nm_e (nm_e (H _ (fun X Y hX hY => ?_)))))))
    (fun c8 => lj_bitP (k := k) hk (by omega) hb (fun z hz => H z (fun X Y hX hY => ?_))))))
  · subst c; exact lj_is_e (lj_azV hX hY) hz
  · subst c; exact lj_is_e (lj_szV hk hX hY) hz
  · subst c; exact hz X Y hX hY
  · subst c; exact lj_less (lj_scV hk hX hY)
  · have c : op = 0 ∨ op = 1 ∨ op = 6 ∨ op = 7 := by omega
    rcases c with c | c | c | c
    · subst c; exact ⟨hb, fun j hj => hz j hj⟩
    · subst c; exact ⟨hY.1, fun j hj => (hz j hj).trans (hY.2 j hj)⟩
    · subst c
      refine ⟨Nat.and_lt_two_pow X hY.1, fun j hj => (hz j hj).trans ?_⟩
      show (lj_b (a10 j) k && lj_b (a11 j) k) = (X &&& Y).testBit j
      rw [hX.2 j hj, hY.2 j hj, Nat.testBit_and]
    · subst c
      refine ⟨Nat.xor_lt_two_pow hX.1 hY.1, fun j hj => (hz j hj).trans ?_⟩
      show (lj_b (a10 j) k ^^ lj_b (a11 j) k) = (X ^^^ Y).testBit j
      rw [hX.2 j hj, hY.2 j hj, Nat.testBit_xor]
/-! ===== divide ===== -/
theorem lj_rmy (H : ∀ q, (∀ j, j < 5 → q j = lj_sz a13 (lj_y5 a11) j) → postS (lj_sc a13 (lj_y5 a11) 5) (l, sz, jd, ak, a1, a2, a3, a4, a5, a6, a7, a8, a9, a10, a11, a12, a13, q, a15, a16)) : wpX_restMinusY postS (l, sz, jd, ak, a1, a2, a3, a4, a5, a6, a7, a8, a9, a10, a11, a12, a13, a14, a15, a16) := by
  refine pk_loop (σ := Int64 × (Nat → Int64)) (fun n i s => wX_restMinusY_4 postS l sz jd ak n s.1 (nI i) a1 a2 a3 a4 a5 a6 a7 a8 a9 a10 a11 a12 a13 s.2 a15 a16) (fun i s => s.1 = lj_sc a13 (lj_y5 a11) i ∧ ∀ j, j < i → s.2 j = lj_sz a13 (lj_y5 a11) j) 5 0 (0, a14) (by omega) ⟨rfl, fun j h => absurd h (by omega)⟩
    (fun n s h => pk_le 5 5 (fun _ => ek_v (P := fun r => postS r (l, sz, jd, ak, a1, a2, a3, a4, a5, a6, a7, a8, a9, a10, a11, a12, a13, s.2, a15, a16)) h.1 (H s.2 h.2)) (fun z => absurd z (by omega))) ?_
  intro n i s hi h hw
  have e : (nI i).toNatClampNeg = i := nI_clamp (by omega)
  have key : ∀ z0, z0 = lj_y5 a11 i → wX_restMinusY_24 postS (wX_restMinusY_4 postS l sz jd ak n) s.1 (nI i) z0 l sz jd ak a1 a2 a3 a4 a5 a6 a7 a8 a9 a10 a11 a12 a13 s.2 a15 a16 := by
    intro z0 hz
    refine ⟨pk_in i 5 hi, nm_e ⟨pk_in i 5 hi, nm_e ⟨pk_in i 5 hi, nm_e (nm_r (nI_1 i) (hw (_, _) ⟨?_, ?_⟩))⟩⟩⟩
    · show ((a13 (nI i).toNatClampNeg ^^^ (-1)) &&& z0) ||| (((a13 (nI i).toNatClampNeg ^^^ z0) ^^^ (-1)) &&& s.1) = _
      rw [e, h.1, hz]; rfl
    · exact lj_fill e h.2 (by rw [e, h.1, hz]; rfl)
  refine pk_le 5 i (fun z => absurd z (by omega)) (fun _ => pk_le 4 i (fun c => key 0 ?_) (fun c => ⟨pk_in i 4 c, key _ ?_⟩))
  · unfold lj_y5; rw [if_neg (by omega)]
  · unfold lj_y5; rw [if_pos c, e]
theorem lj_d83 {J : Int32 → Int32 → Int32 → Int32 → Int32 → (Nat → Int32) → (Nat → Int32) → (Nat → Int32) → (Nat → Int64) → (Nat → Int64) → (Nat → Int64) → (Nat → Int64) → (Nat → Int64) → (Nat → Int64) → (Nat → Int64) → (Nat → Int64) → (Nat → Int64) → (Nat → Int64) → (Nat → Int64) → (Nat → Int64) → (Nat → Int64) → Prop} {x1 : Int32} {en : Int64} (hk : k < 64) (H : ∀ r, (∀ j, j < 5 → lj_b (r j) k = if lj_b en k then lj_b (a14 j) k else lj_b (a13 j) k) → J (x1 + (-1)) l sz jd ak a1 a2 a3 a4 a5 a6 a7 a8 a9 a10 a11 a12 r a14 a15 a16) : ∃ n, wX_divide_83 post J x1 en l sz jd ak n 0 a1 a2 a3 a4 a5 a6 a7 a8 a9 a10 a11 a12 a13 a14 a15 a16 := by
  refine pk_loop (fun n i s => wX_divide_83 post J x1 en l sz jd ak n (nI i) a1 a2 a3 a4 a5 a6 a7 a8 a9 a10 a11 a12 s a14 a15 a16) (fun i s => (∀ j, j < i → lj_b (s j) k = if lj_b en k then lj_b (a14 j) k else lj_b (a13 j) k) ∧ (∀ j, i ≤ j → s j = a13 j)) 5 0 a13 (by omega) ⟨fun j h => absurd h (by omega), fun j _ => rfl⟩
    (fun n s h => pk_le 5 5 (fun _ => nm_e (H s h.1)) (fun z => absurd z (by omega))) ?_
  intro n i s hi h hw
  have e : (nI i).toNatClampNeg = i := nI_clamp (by omega)
  refine pk_le 5 i (fun z => absurd z (by omega)) (fun _ => ⟨pk_in i 5 hi, pk_in i 5 hi, pk_in i 5 hi, nm_e (nm_r (nI_1 i) (hw _ ⟨?_, fun j hj => ?_⟩))⟩)
  · refine lj_fillB (f := fun j => if lj_b en k then lj_b (a14 j) k else lj_b (a13 j) k) e h.1 ?_
    rw [e, lj_or, lj_and, lj_and, lj_not _ hk, h.2 i (Nat.le_refl i)]
    show _ = if lj_b en k then lj_b (a14 i) k else lj_b (a13 i) k
    cases lj_b en k <;> simp
  · rw [e, pk_uLn (by omega)]; exact h.2 j (by omega)
theorem lj_rsV {s d : Nat → Int64} {q : Nat} {c : Bool} (hq : q < 16) (hd : lj_is 5 d k q) (h0 : lj_b (s 0) k = c) (h : ∀ j, j < 4 → s (j + 1) = d j) (hl : 2 * q + c.toNat < 32) : lj_is 5 s k (2 * q + c.toNat) := by
  refine ⟨hl, fun j hj => ?_⟩
  cases j with
  | zero => rw [h0, (lj_dB q hq c 0 (by omega)).1]
  | succ j => rw [h j (by omega), hd.2 j (by omega), (lj_dB q hq c j (by omega)).2]
theorem lj_d28 {J : Int32 → Int32 → Int32 → Int32 → Int32 → (Nat → Int32) → (Nat → Int32) → (Nat → Int32) → (Nat → Int64) → (Nat → Int64) → (Nat → Int64) → (Nat → Int64) → (Nat → Int64) → (Nat → Int64) → (Nat → Int64) → (Nat → Int64) → (Nat → Int64) → (Nat → Int64) → (Nat → Int64) → (Nat → Int64) → (Nat → Int64) → Prop} {i : Nat} (hk : k < 64) (hi : i < 4)
    (H : ∀ z en r q, z = vp_updL a12 i en → (∀ X Y, lj_is 4 a10 k X → lj_is 4 a11 k Y → 0 < Y → lj_is 5 a13 k (X / 2 ^ (i + 1) % Y) → lj_b en k = (X / Y).testBit i ∧ lj_is 5 r k (X / 2 ^ i % Y)) → J (nI i + (-1)) l sz jd ak a1 a2 a3 a4 a5 a6 a7 a8 a9 a10 a11 z r q a15 a16) :
    ∃ n, wX_divide_28 post J (nI i) l sz jd ak n 4 a1 a2 a3 a4 a5 a6 a7 a8 a9 a10 a11 a12 a13 a14 a15 a16 := by
  have ei : (nI i).toNatClampNeg = i := nI_clamp (by omega)
  refine ⟨5, pk_loopD (fun n m s => wX_divide_28 post J (nI i) l sz jd ak n (nI m) a1 a2 a3 a4 a5 a6 a7 a8 a9 a10 a11 a12 s a14 a15 a16) (fun m s => m ≤ 4 ∧ (∀ j, m ≤ j → j < 4 → s (j + 1) = a13 j) ∧ (∀ j, j ≤ m → s j = a13 j)) ?_ ?_ 4 a13 ⟨by omega, fun j h h' => absurd h (by omega), fun j _ => rfl⟩⟩
  · intro n s h
    refine br_t (by decide) ⟨pk_in i 4 hi, nm_e (lj_rmy (fun q hq => nm_e ⟨pk_in i 4 hi, nm_e (lj_d83 (k := k) hk (fun r hr => H _ _ r q (congrArg (fun m => vp_updL a12 m _) ei) ?_))⟩))⟩
    intro X Y hX hY h0 hR
    have hq16 : X / 2 ^ (i + 1) % Y < 16 := Nat.lt_trans (Nat.mod_lt _ h0) hY.1
    obtain ⟨d1, d2, d3⟩ := lj_dT X hX.1 Y hY.1 h0 i hi
    have hs : lj_is 5 (vp_updL s 0 (a10 (nI i).toNatClampNeg)) k (2 * (X / 2 ^ (i + 1) % Y) + (X.testBit i).toNat) := by
      refine lj_rsV hq16 hR ?_ (fun j hj => ?_) d1
      · rw [pk_uLs, ei]; exact hX.2 i hi
      · rw [pk_uLn (by omega)]; exact h.2.1 j (by omega) hj
    have hb := lj_scV5 hk hs hY
    have hl := lj_is_e (lj_szV5 hk hs hY) hq
    rw [← d3]
    refine ⟨by rw [lj_not _ hk, hb]; exact d2, ?_⟩
    rw [lj_not _ hk, hb] at hr
    by_cases c : 2 * (X / 2 ^ (i + 1) % Y) + (X.testBit i).toNat < Y
    · rw [if_pos c]
      refine lj_is_c hs (fun j hj => ?_)
      rw [hr j hj, decide_eq_true c]
      rfl
    · rw [if_neg c]
      refine lj_is_c hl (fun j hj => ?_)
      rw [hr j hj, decide_eq_false c]
      rfl
  · intro n m s h hw
    have e1 : nI (m + 1) - 1 = nI m := nI_pred m
    have hm := h.1
    refine br_f (nI_nle (by omega) (by omega)) ⟨pk_in m 5 (by omega) e1, pk_in (m + 1) 5 (by omega), nm_e (nm_r (pk_m1 m) (hw _ ⟨by omega, fun j h1 h2 => ?_, fun j h1 => ?_⟩))⟩
    · rw [nI_clamp (show m + 1 < 2 ^ 31 by omega), pk_cl m e1]
      by_cases c : j = m
      · rw [c, pk_uLs]; exact h.2.2 m (by omega)
      · rw [pk_uLn (by omega)]; exact h.2.1 j (by omega) h2
    · rw [nI_clamp (show m + 1 < 2 ^ 31 by omega), pk_uLn (by omega)]; exact h.2.2 j (by omega)
theorem lj_d22 (hk : k < 64) (h0 : ∀ j, j < 5 → a13 j = 0) (H : ∀ z r q, (∀ X Y, lj_is 4 a10 k X → lj_is 4 a11 k Y → 0 < Y → lj_is 4 z k (X / Y)) → post (l, sz, jd, ak, a1, a2, a3, a4, a5, a6, a7, a8, a9, a10, a11, z, r, q, a15, a16)) : ∃ n, wX_divide_22 post n 3 l sz jd ak a1 a2 a3 a4 a5 a6 a7 a8 a9 a10 a11 a12 a13 a14 a15 a16 := by
  refine ⟨5, pk_loopD (σ := (Nat → Int64) × (Nat → Int64) × (Nat → Int64)) (fun n m s => wX_divide_22 post n (nI m + (-1)) l sz jd ak a1 a2 a3 a4 a5 a6 a7 a8 a9 a10 a11 s.1 s.2.1 s.2.2 a15 a16) (fun m s => m ≤ 4 ∧ ∀ X Y, lj_is 4 a10 k X → lj_is 4 a11 k Y → 0 < Y → lj_is 5 s.2.1 k (X / 2 ^ m % Y) ∧ ∀ j, m ≤ j → j < 4 → lj_b (s.1 j) k = (X / Y).testBit j) ?_ ?_ 4 (a12, a13, a14) ⟨by omega, fun X Y hX hY hp => ⟨?_, fun j h h' => absurd h (by omega)⟩⟩⟩
  · intro n s h
    refine br_t (by decide) (H s.1 s.2.1 s.2.2 (fun X Y hX hY hp => ⟨?_, fun j hj => (h.2 X Y hX hY hp).2 j (by omega) hj⟩))
    exact Nat.lt_of_le_of_lt (Nat.div_le_self X Y) hX.1
  · intro n m s h hw
    have hm := h.1
    show wX_divide_22 post (n + 1) (nI (m + 1) + (-1)) l sz jd ak a1 a2 a3 a4 a5 a6 a7 a8 a9 a10 a11 s.1 s.2.1 s.2.2 a15 a16
    rw [pk_m1 m]
    refine br_f (nI_pos (by omega)) (lj_d28 (k := k) hk (by omega) (fun z en r q hz hs => hw (z, r, q) ⟨by omega, fun X Y hX hY hp => ?_⟩))
    obtain ⟨t1, t2⟩ := h.2 X Y hX hY hp
    obtain ⟨u1, u2⟩ := hs X Y hX hY hp t1
    refine ⟨u2, fun j h1 h2 => ?_⟩
    show lj_b (z j) k = _
    rw [hz]
    by_cases c : j = m
    · rw [c, pk_uLs]; exact u1
    · rw [pk_uLn c]; exact t2 j (by omega) h2
  · have e : X / 2 ^ 4 % Y = 0 := by rw [Nat.div_eq_of_lt hX.1, Nat.zero_mod]
    rw [e]
    exact lj_is_0 (fun j hj => by show lj_b (a13 j) k = false; rw [h0 j hj, lj_0])
theorem lj_divP (hk : k < 64) (H : ∀ z r q, (∀ X Y, lj_is 4 a10 k X → lj_is 4 a11 k Y → 0 < Y → lj_is 4 z k (X / Y)) → post (l, sz, jd, ak, a1, a2, a3, a4, a5, a6, a7, a8, a9, a10, a11, z, r, q, a15, a16)) : wpX_divide post (l, sz, jd, ak, a1, a2, a3, a4, a5, a6, a7, a8, a9, a10, a11, a12, a13, a14, a15, a16) :=
  pk_loop (fun n i s => wX_divide_2 post l sz jd ak n (nI i) a1 a2 a3 a4 a5 a6 a7 a8 a9 a10 a11 a12 s a14 a15 a16) (fun i s => ∀ j, j < i → s j = 0) 5 0 a13 (by omega) (fun j h => absurd h (by omega))
    (fun n s h => pk_le 5 5 (fun _ => lj_d22 hk h H) (fun z => absurd z (by omega)))
    (fun n i s hi h hw => pk_le 5 i (fun z => absurd z (by omega)) (fun _ => ⟨pk_in i 5 hi, nm_e (nm_r (nI_1 i) (hw _ (lj_fill (f := fun _ => 0) (nI_clamp (by omega)) h rfl)))⟩))
end
end
section
/-- what carry does to lane k: nothing where the lane isn't among them; else it stays waiting, or ends -/
def lj_Ef (k op a b : Nat) (lanes : Int64) (R0 E0 F0 W0 R E F W : Nat → Int64) : Prop :=
  (lj_b lanes k = false → (∀ j, j < 4 → lj_b (R (a * 4 + j)) k = lj_b (R0 (a * 4 + j)) k) ∧ (∀ j, j < 4 → lj_b (E j) k = lj_b (E0 j) k) ∧ (∀ j, j < 4 → lj_b (F j) k = lj_b (F0 j) k) ∧ lj_b (W 0) k = lj_b (W0 0) k) ∧
  (lj_b lanes k = true → ∀ X Y, lj_is 4 (fun j => R0 (a * 4 + j)) k X → lj_is 4 (fun j => R0 (b % 4 * 4 + j)) k Y →
    (lj_stay op b X → R = R0 ∧ (∀ j, j < 4 → lj_b (E j) k = lj_b (E0 j) k) ∧ (∀ j, j < 4 → lj_b (F j) k = lj_b (F0 j) k) ∧ lj_b (W 0) k = true) ∧
    (¬ lj_stay op b X → lj_is 4 (fun j => R (a * 4 + j)) k (lj_v op b X Y) ∧ (∀ j, j < 4 → lj_b (E j) k = (lj_b (E0 j) k || (lj_e op b X Y).testBit j)) ∧ (∀ j, j < 4 → lj_b (F j) k = (lj_b (F0 j) k || decide (j = lj_f op X Y))) ∧ lj_b (W 0) k = lj_b (W0 0) k))
/-- one settle, of all lanes -/
theorem lj_Ef1 {k op a b p : Nat} {lanes : Int64} {R0 E0 F0 W0 R E F : Nat → Int64} (h9 : op ≠ 9) (he : ∀ X Y, lj_e op b X Y = p) (hf : ∀ X Y, lj_f op X Y = 0)
    (hE : ∀ j, j < 4 → lj_b (E j) k = (lj_b (E0 j) k || (lj_b lanes k && p.testBit j))) (hF : ∀ j, j < 4 → lj_b (F j) k = (lj_b (F0 j) k || (lj_b lanes k && decide (j = 0))))
    (hR0 : lj_b lanes k = false → ∀ j, j < 4 → lj_b (R (a * 4 + j)) k = lj_b (R0 (a * 4 + j)) k)
    (hR : lj_b lanes k = true → ∀ X Y, lj_is 4 (fun j => R0 (a * 4 + j)) k X → lj_is 4 (fun j => R0 (b % 4 * 4 + j)) k Y → lj_is 4 (fun j => R (a * 4 + j)) k (lj_v op b X Y)) :
    lj_Ef k op a b lanes R0 E0 F0 W0 R E F W0 := by
  refine ⟨fun ht => ⟨hR0 ht, fun j hj => ?_, fun j hj => ?_, rfl⟩, fun ht X Y hX hY => ⟨fun hs => absurd hs.1 h9, fun _ => ⟨hR ht X Y hX hY, fun j hj => ?_, fun j hj => ?_, rfl⟩⟩⟩
  · rw [hE j hj, ht, Bool.false_and, Bool.or_false]
  · rw [hF j hj, ht, Bool.false_and, Bool.or_false]
  · rw [hE j hj, ht, Bool.true_and, he]
  · rw [hF j hj, ht, Bool.true_and, hf]
/-- two settles: the lanes with c go to p1 with fate f1, the others to p2 with fate f2 -/
theorem lj_Ef2 {k op a b : Nat} {lanes c : Int64} {R0 E0 F0 W0 R E1 F1 E F : Nat → Int64} {f1 f2 p1 p2 : Nat} (hk : k < 64) (C : Nat → Nat → Bool) (hs : ∀ X, ¬ lj_stay op b X)
    (hC : ∀ X Y, lj_is 4 (fun j => R0 (a * 4 + j)) k X → lj_is 4 (fun j => R0 (b % 4 * 4 + j)) k Y → lj_b c k = C X Y)
    (he : ∀ X Y, lj_e op b X Y = if C X Y then p1 else p2) (hf : ∀ X Y, lj_f op X Y = if C X Y then f1 else f2) (d1 d2 : Int64)
    (hd : (d1 = lanes &&& c ∧ d2 = lanes &&& ((lanes &&& c) ^^^ (-1)) ∧ (∀ j, j < 4 → lj_b (E1 j) k = (lj_b (E0 j) k || (lj_b d1 k && p1.testBit j))) ∧ (∀ j, j < 4 → lj_b (F1 j) k = (lj_b (F0 j) k || (lj_b d1 k && decide (j = f1)))) ∧ (∀ j, j < 4 → lj_b (E j) k = (lj_b (E1 j) k || (lj_b d2 k && p2.testBit j))) ∧ (∀ j, j < 4 → lj_b (F j) k = (lj_b (F1 j) k || (lj_b d2 k && decide (j = f2))))) ∨
      (d1 = lanes &&& c ∧ d2 = lanes &&& ((lanes &&& c) ^^^ (-1)) ∧ (∀ j, j < 4 → lj_b (E1 j) k = (lj_b (E0 j) k || (lj_b d2 k && p2.testBit j))) ∧ (∀ j, j < 4 → lj_b (F1 j) k = (lj_b (F0 j) k || (lj_b d2 k && decide (j = f2)))) ∧ (∀ j, j < 4 → lj_b (E j) k = (lj_b (E1 j) k || (lj_b d1 k && p1.testBit j))) ∧ (∀ j, j < 4 → lj_b (F j) k = (lj_b (F1 j) k || (lj_b d1 k && decide (j = f1))))))
    (hR0 : lj_b lanes k = false → ∀ j, j < 4 → lj_b (R (a * 4 + j)) k = lj_b (R0 (a * 4 + j)) k)
    (hR : lj_b lanes k = true → ∀ X Y, lj_is 4 (fun j => R0 (a * 4 + j)) k X → lj_is 4 (fun j => R0 (b % 4 * 4 + j)) k Y → lj_is 4 (fun j => R (a * 4 + j)) k (lj_v op b X Y)) :
    lj_Ef k op a b lanes R0 E0 F0 W0 R E F W0 := by
  have b2 : lj_b (lanes &&& ((lanes &&& c) ^^^ (-1))) k = (lj_b lanes k && !lj_b c k) := by
    rw [lj_and, lj_not _ hk, lj_and]
    cases lj_b lanes k <;> cases lj_b c k <;> rfl
  have tE : ∀ j, j < 4 → lj_b (E j) k = (lj_b (E0 j) k || (lj_b lanes k && (if lj_b c k then p1 else p2).testBit j)) := by
    intro j hj
    rcases hd with ⟨rfl, rfl, h1, _, h3, _⟩ | ⟨rfl, rfl, h1, _, h3, _⟩
    · rw [h3 j hj, h1 j hj, b2, lj_and]
      cases lj_b lanes k <;> cases lj_b c k <;> simp
    · rw [h3 j hj, h1 j hj, b2, lj_and]
      cases lj_b lanes k <;> cases lj_b c k <;> simp
  have tF : ∀ j, j < 4 → lj_b (F j) k = (lj_b (F0 j) k || (lj_b lanes k && decide (j = if lj_b c k then f1 else f2))) := by
    intro j hj
    rcases hd with ⟨rfl, rfl, _, h1, _, h3⟩ | ⟨rfl, rfl, _, h1, _, h3⟩
    · rw [h3 j hj, h1 j hj, b2, lj_and]
      cases lj_b lanes k <;> cases lj_b c k <;> simp
    · rw [h3 j hj, h1 j hj, b2, lj_and]
      cases lj_b lanes k <;> cases lj_b c k <;> simp
  refine ⟨fun ht => ⟨hR0 ht, fun j hj => ?_, fun j hj => ?_, rfl⟩, fun ht X Y hX hY => ⟨fun h => absurd h (hs X), fun _ => ⟨hR ht X Y hX hY, fun j hj => ?_, fun j hj => ?_, rfl⟩⟩⟩
  · rw [tE j hj, ht, Bool.false_and, Bool.or_false]
  · rw [tF j hj, ht, Bool.false_and, Bool.or_false]
  · rw [tE j hj, ht, Bool.true_and, hC X Y hX hY, he]
  · rw [tF j hj, ht, Bool.true_and, hC X Y hX hY, hf]
/-- the branch to 0: the lanes with c wait again, the others halt at 1 -/
theorem lj_Ef3 {k a : Nat} {lanes c : Int64} {R0 E0 F0 W0 E F : Nat → Int64} (hk : k < 64)
    (hC : ∀ X, lj_is 4 (fun j => R0 (a * 4 + j)) k X → lj_b c k = decide (X ≠ 0))
    (hE : ∀ j, j < 4 → lj_b (E j) k = (lj_b (E0 j) k || (lj_b (lanes &&& ((lanes &&& c) ^^^ (-1))) k && (1 : Nat).testBit j))) (hF : ∀ j, j < 4 → lj_b (F j) k = (lj_b (F0 j) k || (lj_b (lanes &&& ((lanes &&& c) ^^^ (-1))) k && decide (j = 0)))) :
    lj_Ef k 9 a 0 lanes R0 E0 F0 W0 R0 E F (vp_updL W0 0 (W0 0 ||| (lanes &&& c))) := by
  have b2 : lj_b (lanes &&& ((lanes &&& c) ^^^ (-1))) k = (lj_b lanes k && !lj_b c k) := by
    rw [lj_and, lj_not _ hk, lj_and]
    cases lj_b lanes k <;> cases lj_b c k <;> rfl
  have bW : lj_b (vp_updL W0 0 (W0 0 ||| (lanes &&& c)) 0) k = (lj_b (W0 0) k || (lj_b lanes k && lj_b c k)) := by
    rw [pk_uLs, lj_or, lj_and]
  rw [b2] at hE hF
  refine ⟨fun ht => ⟨fun j hj => rfl, fun j hj => ?_, fun j hj => ?_, ?_⟩, fun ht X Y hX hY => ⟨fun hs => ⟨rfl, fun j hj => ?_, fun j hj => ?_, ?_⟩, fun hs => ⟨?_, fun j hj => ?_, fun j hj => ?_, ?_⟩⟩⟩
  · rw [hE j hj, ht, Bool.false_and, Bool.false_and, Bool.or_false]
  · rw [hF j hj, ht, Bool.false_and, Bool.false_and, Bool.or_false]
  · rw [bW, ht, Bool.false_and, Bool.or_false]
  · rw [hE j hj, hC X hX, decide_eq_true hs.2.2, Bool.not_true, Bool.and_false, Bool.false_and, Bool.or_false]
  · rw [hF j hj, hC X hX, decide_eq_true hs.2.2, Bool.not_true, Bool.and_false, Bool.false_and, Bool.or_false]
  · rw [bW, hC X hX, decide_eq_true hs.2.2, ht, Bool.and_true, Bool.or_true]
  · exact hX
  · have h0 : X = 0 := Decidable.byContradiction (fun h => hs ⟨rfl, rfl, h⟩)
    subst h0
    rw [hE j hj, hC 0 hX, ht]
    rfl
  · have h0 : X = 0 := Decidable.byContradiction (fun h => hs ⟨rfl, rfl, h⟩)
    subst h0
    rw [hF j hj, hC 0 hX, ht]
    rfl
  · have h0 : X = 0 := Decidable.byContradiction (fun h => hs ⟨rfl, rfl, h⟩)
    subst h0
    rw [bW, hC 0 hX, decide_eq_false (show ¬ ((0 : Nat) ≠ 0) from fun z => z rfl), Bool.and_false, Bool.or_false]
section
variable {post : St2 → Prop} {l sz jd ak : Int32} {a1 a2 a3 : Nat → Int32} {a4 a5 a6 a7 a8 a9 a10 a11 a12 a13 a14 a15 a16 : Nat → Int64} {k : Nat}
theorem lj_carry {op a b : Nat} {lanes : Int64} (hk : k < 64) (hop : op < 12) (ha : a < 4) (hb : b < 16) (h1 : a1 0 = nI op) (h2 : a2 0 = nI a) (h3 : a3 0 = nI b)
    (H : ∀ R E F W x y z r q, lj_Ef k op a b lanes a4 a6 a7 a9 R E F W → post (l, 1, jd, ak, a1, a2, a3, R, a5, E, F, a8, W, x, y, z, r, q, a15, a16)) : wpX_carry post (l, 1, jd, ak, a1, a2, a3, a4, a5, a6, a7, a8, a9, a10, a11, a12, a13, a14, a15, a16) 0 lanes := by
  have h1' : a1 (0 : Int32).toNatClampNeg = nI op := by rw [sb_cl0]; exact h1
  have h2' : a2 (0 : Int32).toNatClampNeg = nI a := by rw [sb_cl0]; exact h2
  have h3' : a3 (0 : Int32).toNatClampNeg = nI b := by rw [sb_cl0]; exact h3
  have h3m : a3 (0 : Int32).toNatClampNeg &&& 3 = nI (b % 4) := by rw [h3']; exact pk_andN (by omega) 2 (by decide)
  have e01 : (0 : Int32) + 1 = nI 1 := by decide
  have i0 : vp_in 0 12 := pk_in 0 12 (by omega)
  refine ⟨i0, nm_r h1' ⟨i0, i0, lj_load ha (Nat.mod_lt b (by omega)) h2' h3m (fun x y hx hy => ?_)⟩⟩
  have hxV : ∀ X, lj_is 4 (fun j => a4 (a * 4 + j)) k X → lj_is 4 x k X := fun X h => lj_is_e h hx
  have hyV : ∀ Y, lj_is 4 (fun j => a4 (b % 4 * 4 + j)) k Y → lj_is 4 y k Y := fun Y h => lj_is_e h hy
  refine pk_eq op 11 (fun c => ?_) (fun c11 => pk_eq op 9 (fun c => ?_) (fun c9 => pk_eq op 10 (fun c => ?_) (fun c10 => pk_eq op 5 (fun c => ?_) (fun c5 => ?_))))
  · subst c
    exact lj_settle (k := k) (f := 0) (p := 0) (by omega) (by omega) rfl rfl (fun e g he hg => H a4 e g a9 x y a12 a13 a14 (lj_Ef1 (p := 0) (by omega) (fun X Y => rfl) (fun X Y => rfl) he hg (fun _ j _ => rfl) (fun _ X Y hX hY => hX)))
  · subst c
    refine nm_e ⟨i0, ?_⟩
    by_cases hb0 : b = 0
    · subst hb0
      exact lj_send0 h3' (lj_send1 (k := k) (p := 1) (by omega) (by omega) e01 (fun e g he hg => H a4 e g _ x y a12 a13 a14 (lj_Ef3 hk (fun X hX => lj_nz (hxV X hX)) he hg)))
    · exact lj_send1 (k := k) (p := b) (by omega) hb h3' (fun e1 g1 he1 hg1 => lj_send1 (k := k) (p := 1) (by omega) (by omega) e01 (fun e g he hg => H a4 e g a9 x y a12 a13 a14
        (lj_Ef2 (c := ((x 0 ||| x 1) ||| x 2) ||| x 3) (f1 := 0) (f2 := 0) (p1 := b) (p2 := 1) hk (fun X _ => decide (X ≠ 0)) (fun X hs => hb0 hs.2.1) (fun X Y hX hY => lj_nz (hxV X hX)) (fun X Y => lj_e9 b X Y) (fun X Y => lj_f9 X Y) _ _ (Or.inl ⟨rfl, rfl, he1, hg1, he, hg⟩) (fun _ j _ => rfl) (fun _ X Y hX hY => hX))))
  · subst c
    exact nm_e (lj_settle (k := k) (f := 3) (p := 0) (by omega) (by omega) rfl rfl (fun e1 g1 he1 hg1 => lj_send1 (k := k) (p := 1) (by omega) (by omega) e01 (fun e g he hg => H a4 e g a9 x y a12 a13 a14
      (lj_Ef2 (c := ((x 0 ||| x 1) ||| x 2) ||| x 3) (f1 := 0) (f2 := 3) (p1 := 1) (p2 := 0) hk (fun X _ => decide (X ≠ 0)) (fun X hs => absurd hs.1 (by omega)) (fun X Y hX hY => lj_nz (hxV X hX)) (fun X Y => lj_e10 b X Y) (fun X Y => lj_f10 X Y) _ _ (Or.inr ⟨rfl, rfl, he1, hg1, he, hg⟩) (fun _ j _ => rfl) (fun _ X Y hX hY => hX)))))
  · subst c
    refine nm_e (lj_settle (k := k) (f := 2) (p := 0) (by omega) (by omega) rfl rfl (fun e1 g1 he1 hg1 => lj_divP (k := k) hk (fun z r q hz => ⟨i0, lj_store (k := k) hk ha h2' (fun R hR => lj_send1 (k := k) (p := 1) (by omega) (by omega) e01 (fun e g he hg => H R e g a9 x y z r q
      (lj_Ef2 (c := ((y 0 ||| y 1) ||| y 2) ||| y 3) (f1 := 0) (f2 := 2) (p1 := 1) (p2 := 0) hk (fun _ Y => decide (Y ≠ 0)) (fun X hs => absurd hs.1 (by omega)) (fun X Y hX hY => lj_nz (hyV Y hY)) (fun X Y => lj_e5 b X Y) (fun X Y => lj_f5 X Y) _ _ (Or.inr ⟨rfl, rfl, he1, hg1, he, hg⟩) (fun ht j hj => ?_) (fun ht X Y hX hY => ?_))))⟩)))
    · rw [hR j hj, lj_and, ht, Bool.false_and]; exact if_neg Bool.false_ne_true
    · by_cases h : Y = 0
      · refine lj_is_c (f := fun j => a4 (a * 4 + j)) (show lj_is 4 _ k (if Y = 0 then X else X / Y) by rw [if_pos h]; exact hX) (fun j hj => ?_)
        rw [hR j hj, lj_and, lj_nz (hyV Y hY), decide_eq_false (show ¬ (Y ≠ 0) from fun z => z h), Bool.and_false]; exact if_neg Bool.false_ne_true
      · refine lj_is_c (f := z) (show lj_is 4 _ k (if Y = 0 then X else X / Y) by rw [if_neg h]; exact hz X Y (hxV X hX) (hyV Y hY) (by omega)) (fun j hj => ?_)
        rw [hR j hj, lj_and, lj_nz (hyV Y hY), decide_eq_true (show Y ≠ 0 from h), Bool.and_true, ht]; exact if_pos rfl
  · refine ⟨i0, lj_compute (k := k) (op := op) hk (by omega) c5 hb rfl h3' (fun z hz => ⟨i0, lj_store (k := k) hk ha h2' (fun R hR => lj_send1 (k := k) (p := 1) (by omega) (by omega) e01 (fun e g he hg => H R e g a9 x y z a13 a14
      (lj_Ef1 c9 (fun X Y => ?_) (fun X Y => ?_) he hg (fun ht j hj => ?_) (fun ht X Y hX hY => lj_is_c (hz X Y (hxV X hX) (hyV Y hY)) (fun j hj => ?_)))))⟩)⟩
    · unfold lj_e; rw [if_neg c9, if_neg (by omega)]
    · unfold lj_f; rw [if_neg (by omega), if_neg (by omega)]
    · rw [hR j hj, ht]; exact if_neg Bool.false_ne_true
    · rw [hR j hj, ht]; exact if_pos rfl
end
end
section
/-- lane k has ended: register, steps, end, fate -/
def lj_D (k op a b lim X Y : Nat) (R S E F W : Nat → Int64) : Prop :=
  lj_is 4 (fun j => R (a * 4 + j)) k (lj_v op b X Y) ∧ lj_is 6 S k (lj_n op b lim X) ∧ lj_is 4 E k (lj_e op b X Y) ∧ (∀ j, j < 4 → lj_b (F j) k = decide (j = lj_g op b X Y)) ∧ lj_b (W 0) k = false
/-- lane k waits, with i steps done -/
def lj_P (k op a b lim X Y i : Nat) (R S E F W : Nat → Int64) : Prop :=
  i ≤ lim ∧ (i = 0 ∨ lj_stay op b X) ∧ lj_is 4 (fun j => R (a * 4 + j)) k X ∧ lj_is 4 (fun j => R (b % 4 * 4 + j)) k Y ∧ lj_is 6 S k i ∧ (∀ j, j < 4 → lj_b (E j) k = false) ∧ (∀ j, j < 4 → lj_b (F j) k = false) ∧ lj_b (W 0) k = true
/-- what stays of lane k when it isn't among the lanes of a round -/
theorem lj_D_c {k op a b lim X Y : Nat} {R S E F W R' S' E' F' W' : Nat → Int64} (h : lj_D k op a b lim X Y R S E F W) (hR : ∀ j, j < 4 → lj_b (R' (a * 4 + j)) k = lj_b (R (a * 4 + j)) k) (hS : ∀ n, lj_is 6 S k n → lj_is 6 S' k n)
    (hE : ∀ j, j < 4 → lj_b (E' j) k = lj_b (E j) k) (hF : ∀ j, j < 4 → lj_b (F' j) k = lj_b (F j) k) (hW : lj_b (W' 0) k = false) : lj_D k op a b lim X Y R' S' E' F' W' :=
  ⟨lj_is_c h.1 hR, hS _ h.2.1, lj_is_c h.2.2.1 hE, fun j hj => (hF j hj).trans (h.2.2.2.1 j hj), hW⟩
/-- the lane was at its limit: it is tired -/
theorem lj_D_t {k op a b lim X Y : Nat} {R S E F W R' S' E' F' W' : Nat → Int64} (hl : 1 ≤ lim) (h : lj_P k op a b lim X Y lim R S E F W) (hR : ∀ j, j < 4 → lj_b (R' (a * 4 + j)) k = lj_b (R (a * 4 + j)) k) (hS : ∀ n, lj_is 6 S k n → lj_is 6 S' k n)
    (hE : ∀ j, j < 4 → lj_b (E' j) k = lj_b (E j) k) (hF : ∀ j, j < 4 → lj_b (F' j) k = decide (j = 1)) (hW : lj_b (W' 0) k = false) : lj_D k op a b lim X Y R' S' E' F' W' := by
  obtain ⟨_, h0, hX, _, hn, he, _, _⟩ := h
  have hs : lj_stay op b X := by
    rcases h0 with h0 | h0
    · omega
    · exact h0
  refine ⟨?_, ?_, ?_, ?_, hW⟩
  · rw [hs.1]; exact lj_is_c hX hR
  · unfold lj_n; rw [if_pos hs]; exact hS _ hn
  · have e : lj_e op b X Y = 0 := by unfold lj_e; rw [if_pos hs.1, if_neg hs.2.2]; exact hs.2.1
    rw [e]
    exact lj_is_0 (fun j hj => (hE j hj).trans (he j hj))
  · intro j hj
    unfold lj_g
    rw [if_pos hs]
    exact hF j hj
section
variable {post : St2 → Prop} {l sz jd ak : Int32} {a1 a2 a3 : Nat → Int32} {a4 a5 a6 a7 a8 a9 a10 a11 a12 a13 a14 a15 a16 : Nat → Int64} {k op a b lim X Y : Nat}
theorem lj_isU {n : Nat} {f : Nat → Int64} {v w : Nat} (h : lj_is n f k v) (h' : lj_is n f k w) : v = w := by
  apply Nat.eq_of_testBit_eq
  intro j
  rcases Nat.lt_or_ge j n with c | c
  · rw [← h.2 j c, ← h'.2 j c]
  · rw [Nat.testBit_lt_two_pow (Nat.lt_of_lt_of_le h.1 (Nat.pow_le_pow_right (by omega) c)), Nat.testBit_lt_two_pow (Nat.lt_of_lt_of_le h'.1 (Nat.pow_le_pow_right (by omega) c))]
theorem lj_loop (hk : k < 64) (hop : op < 12) (ha : a < 4) (hb : b < 16) (hl1 : 1 ≤ lim) (hl : lim ≤ 40) (h1 : a1 0 = nI op) (h2 : a2 0 = nI a) (h3 : a3 0 = nI b)
    (H : ∀ R S E F V W x y z r q, lj_D k op a b lim X Y R S E F W → post (nI lim, 1, jd, ak, a1, a2, a3, R, S, E, F, V, W, x, y, z, r, q, a15, a16)) :
    ∀ m i R S E F V W x y z r q, i + m = 2700 → (lj_P k op a b lim X Y i R S E F W ∨ lj_D k op a b lim X Y R S E F W) →
      wX_judge_27 post (m + 1) (nI i) (nI lim) 1 jd ak a1 a2 a3 R S E F V W x y z r q a15 a16 := by
  intro m
  induction m with
  | zero =>
    intro i R S E F V W x y z r q hm hI
    refine pk_le 2700 i (fun _ => H R S E F V W x y z r q ?_) (fun z => absurd z (by omega))
    rcases hI with hI | hI
    · exact absurd hI.1 (by omega)
    · exact hI
  | succ m ih =>
    intro i R S E F V W x y z r q hm hI
    have i0 : vp_in 0 12 := pk_in 0 12 (by omega)
    have hn : ∃ n, lj_is 6 S k n ∧ n ≤ 40 := by
      rcases hI with hI | hI
      · have := hI.1
        exact ⟨i, hI.2.2.2.2.1, by omega⟩
      · refine ⟨_, hI.2.1, ?_⟩
        unfold lj_n
        split <;> omega
    obtain ⟨n, hn, hn40⟩ := hn
    refine pk_le 2700 i (fun z => absurd z (by omega)) (fun _ => lj_least (fun h0 => br_f (by decide) (H R S E F V W x y z r q ?_)) (fun h0 => br_t (by decide) ⟨i0, nm_e ⟨i0, nm_e (lj_atLimit (k := k) hk (by omega) hn (fun t ht => nm_e (lj_settle (k := k) (f := 1) (p := 0) (by omega) (by omega) rfl rfl (fun e g he hg => nm_e ?_))))⟩⟩))
    · rcases hI with hI | hI
      · exact absurd h0 (lj_ne hI.2.2.2.2.2.2.2)
      · exact hI
    · have hW0 : lj_b (vp_updL W (0 : Int32).toNatClampNeg 0 0) k = false := by rw [sb_cl0, pk_uLs, lj_0]
      have hc0 : W (0 : Int32).toNatClampNeg = W 0 := by rw [sb_cl0]
      rw [hc0] at he hg ⊢
      have bl : lj_b (W 0 &&& ((W 0 &&& t) ^^^ (-1))) k = (lj_b (W 0) k && !decide (n = lim)) := by
        rw [lj_and, lj_not _ hk, lj_and, ht]
        cases lj_b (W 0) k <;> cases decide (n = lim) <;> rfl
      have he' : ∀ j, j < 4 → lj_b (e j) k = lj_b (E j) k := fun j hj => by rw [he j hj, Nat.zero_testBit, Bool.and_false, Bool.or_false]
      have hg' : ∀ j, j < 4 → lj_b (g j) k = (lj_b (F j) k || ((lj_b (W 0) k && decide (n = lim)) && decide (j = 1))) := fun j hj => by rw [hg j hj, lj_and, ht]
      -- the lane is not among the lanes of this round: it has ended
      have out : lj_b (W 0 &&& ((W 0 &&& t) ^^^ (-1))) k = false → ∀ R' S' E' F' W', (∀ j, j < 4 → lj_b (R' (a * 4 + j)) k = lj_b (R (a * 4 + j)) k) → (∀ n, lj_is 6 S k n → lj_is 6 S' k n) → (∀ j, j < 4 → lj_b (E' j) k = lj_b (e j) k) → (∀ j, j < 4 → lj_b (F' j) k = lj_b (g j) k) → lj_b (W' 0) k = false → lj_D k op a b lim X Y R' S' E' F' W' := by
        intro hb0 R' S' E' F' W' hR hS hE hF hW
        rcases hI with hI | hI
        · have hni : n = i := lj_isU hn hI.2.2.2.2.1
          have hwt := hI.2.2.2.2.2.2.2
          rw [bl, hwt, Bool.true_and] at hb0
          have hnl : n = lim := Decidable.byContradiction (fun z => by rw [decide_eq_false z] at hb0; exact Bool.noConfusion hb0)
          have hil : i = lim := by omega
          have hI' := hI
          rw [hil] at hI'
          exact lj_D_t hl1 hI' hR hS (fun j hj => (hE j hj).trans (he' j hj)) (fun j hj => by rw [hF j hj, hg' j hj, hI.2.2.2.2.2.2.1 j hj, hwt, decide_eq_true hnl, Bool.true_and, Bool.true_and, Bool.false_or]) hW
        · have hwf := hI.2.2.2.2
          exact lj_D_c hI hR hS (fun j hj => (hE j hj).trans (he' j hj)) (fun j hj => by rw [hF j hj, hg' j hj, hwf, Bool.false_and, Bool.false_and, Bool.or_false]) hW
      refine br_c (fun hz => nm_r (nI_1 i) (ih (i + 1) R S e g V _ x y z r q (by omega) (Or.inr (out (by rw [hz, lj_0]) R S e g _ (fun j _ => rfl) (fun n h => h) (fun j _ => rfl) (fun j _ => rfl) hW0)))) (fun hz => ⟨i0, i0, nm_e (lj_count (k := k) hn (by omega) (fun S' hS' => lj_carry (k := k) (op := op) (a := a) (b := b) hk hop ha hb h1 h2 h3 (fun R' E' F' W' x' y' z' r' q' hE => nm_r (nI_1 i) (ih (i + 1) R' S' E' F' _ W' x' y' z' r' q' (by omega) ?_))))⟩)
      cases hbl : lj_b (W 0 &&& ((W 0 &&& t) ^^^ (-1))) k with
      | false =>
        obtain ⟨k1, k2, k3, k4⟩ := hE.1 hbl
        refine Or.inr (out hbl R' S' E' F' W' k1 (fun n' h' => ?_) k2 k3 (k4.trans hW0))
        rw [hbl] at hS'
        rw [lj_isU h' hn]
        exact hS'
      | true =>
        rw [hbl] at hS'
        have hS1 : lj_is 6 S' k (n + 1) := hS'
        rw [bl] at hbl
        have hwt : lj_b (W 0) k = true := by
          cases hx : lj_b (W 0) k
          · rw [hx] at hbl; exact hbl
          · rfl
        have hnl : n ≠ lim := fun z => by rw [hwt, decide_eq_true z] at hbl; exact Bool.noConfusion hbl
        rcases hI with hI | hI
        · obtain ⟨p1, p2, p3, p4, p5, p6, p7, p8⟩ := hI
          have hni : n = i := lj_isU hn p5
          subst hni
          have hEt := hE.2 (by rw [bl, hwt, decide_eq_false hnl]; rfl) X Y p3 p4
          by_cases hs : lj_stay op b X
          · obtain ⟨k1, k2, k3, k4⟩ := hEt.1 hs
            subst k1
            exact Or.inl ⟨by omega, Or.inr hs, p3, p4, hS1, fun j hj => (k2 j hj).trans ((he' j hj).trans (p6 j hj)), fun j hj => (k3 j hj).trans (by rw [hg' j hj, p7 j hj, decide_eq_false hnl, Bool.and_false, Bool.false_and, Bool.or_false]), k4⟩
          · obtain ⟨k1, k2, k3, k4⟩ := hEt.2 hs
            have hn0 : n = 0 := by
              rcases p2 with p2 | p2
              · exact p2
              · exact absurd p2 hs
            refine Or.inr ⟨k1, ?_, ⟨lj_e16 hb, fun j hj => ?_⟩, fun j hj => ?_, k4.trans hW0⟩
            · unfold lj_n; rw [if_neg hs]; rw [hn0] at hS1; exact hS1
            · rw [k2 j hj, he' j hj, p6 j hj, Bool.false_or]
            · unfold lj_g
              rw [if_neg hs, k3 j hj, hg' j hj, p7 j hj, decide_eq_false hnl, Bool.and_false, Bool.false_and, Bool.false_or, Bool.false_or]
        · rw [hI.2.2.2.2] at hwt
          exact Bool.noConfusion hwt
/-- the planes of the registers at the start -/
theorem lj_R0T : ∀ a, a < 4 → ∀ k, k < 64 → lj_X a k < 16 ∧ ∀ j, j < 4 → lj_b (lj_R0 (a * 4 + j)) k = (lj_X a k).testBit j := by decide +kernel
theorem lj_judge (hk : k < 64) (hop : op < 12) (ha : a < 4) (hb : b < 16) (hl1 : 1 ≤ lim) (hl : lim ≤ 40) (h1 : a1 0 = nI op) (h2 : a2 0 = nI a) (h3 : a3 0 = nI b)
    (H : ∀ R S E F V W x y z r q, lj_D k op a b lim (lj_X a k) (lj_X (b % 4) k) R S E F W → post (nI lim, 1, 1, ak, a1, a2, a3, R, S, E, F, V, W, x, y, z, r, q, a15, a16)) :
    wpX_judge post (nI lim, 1, 0, ak, a1, a2, a3, a4, a5, a6, a7, a8, a9, a10, a11, a12, a13, a14, a15, a16) := by
  refine br_t rfl (lj_reset (fun R S E F V W hR hS hE hF hW => lj_send0 rfl ⟨2701, lj_loop hk hop ha hb hl1 hl h1 h2 h3 H 2700 0 R S E F V _ a10 a11 a12 a13 a14 (by omega) (Or.inl ⟨by omega, Or.inl rfl, ?_, ?_, ?_, ?_, ?_, ?_⟩)⟩))
  · have t := lj_R0T a ha k hk
    exact ⟨t.1, fun j hj => by rw [← t.2 j hj, ← hR (a * 4 + j) (by omega)]⟩
  · have hb4 : b % 4 < 4 := Nat.mod_lt b (by omega)
    have t := lj_R0T (b % 4) hb4 k hk
    exact ⟨t.1, fun j hj => by rw [← t.2 j hj, ← hR (b % 4 * 4 + j) (by omega)]⟩
  · exact lj_is_0 (fun j hj => by rw [hS j hj, lj_0])
  · exact fun j hj => by rw [hE j hj, lj_0]
  · exact fun j hj => by rw [hF j hj, lj_0]
  · rw [pk_uLs, lj_or, lj_m1 k hk, Bool.or_true]
end
end
section
theorem lj_sh0 (w : Int64) {k : Nat} (hk : k < 64) : (((w.toUInt64 >>> ((nI k).toInt64.toUInt64 &&& Int64.toUInt64 63)).toInt64) &&& 1) = 0 ↔ lj_b w k = false := by
  rw [lj_sh w hk]
  cases lj_b w k
  · exact ⟨fun _ => rfl, fun _ => rfl⟩
  · exact ⟨fun h => absurd h (by decide), fun h => Bool.noConfusion h⟩
section
variable {post : St2 → Prop} {postR : Int32 → St2 → Prop} {l sz jd ak : Int32} {a1 a2 a3 : Nat → Int32} {a4 a5 a6 a7 a8 a9 a10 a11 a12 a13 a14 a15 a16 : Nat → Int64} {k : Nat}
theorem lj_fateR {g : Nat} (hk : k < 64) (hg : g < 4) (hF : ∀ j, j < 4 → lj_b (a7 j) k = decide (j = g)) (H : postR (nI g) (l, sz, jd, ak, a1, a2, a3, a4, a5, a6, a7, a8, a9, a10, a11, a12, a13, a14, a15, a16)) : ∃ n, wX_fate_20 postR (nI k) l sz jd ak a1 a2 a3 a4 a5 a6 a7 a8 a9 a10 a11 a12 a13 a14 a15 a16 n (-1) 0 := by
  refine pk_loop (fun n i s => wX_fate_20 postR (nI k) l sz jd ak a1 a2 a3 a4 a5 a6 a7 a8 a9 a10 a11 a12 a13 a14 a15 a16 n s (nI i)) (fun i s => s = if g < i then nI g else -1) 4 0 (-1) (by omega) (by rw [if_neg (by omega)])
    (fun n s h => pk_le 4 4 (fun _ => ek_v (P := fun r => postR r (l, sz, jd, ak, a1, a2, a3, a4, a5, a6, a7, a8, a9, a10, a11, a12, a13, a14, a15, a16)) (h.trans (if_pos hg)) H) (fun z => absurd z (by omega))) ?_
  intro n i s hi h hw
  have e : (nI i).toNatClampNeg = i := nI_clamp (by omega)
  refine pk_le 4 i (fun z => absurd z (by omega)) (fun _ => ⟨pk_in i 4 hi, ek_if (lj_sh0 _ hk) (fun c => nm_r (nI_1 i) (hw s ?_)) (fun c => nm_r (nI_1 i) (hw _ ?_))⟩)
  · rw [e, hF i hi] at c
    have hne : i ≠ g := of_decide_eq_false c
    rw [h]
    by_cases d : g < i
    · rw [if_pos d, if_pos (by omega)]
    · rw [if_neg d, if_neg (by omega)]
  · rw [e, hF i hi] at c
    have heq : i = g := of_decide_eq_true (eq_true_of_ne_false c)
    rw [if_pos (by omega), heq]
theorem lj_stepsR {v : Nat} (hk : k < 64) (hS : lj_is 6 a5 k v) (H : postR (nI v) (l, sz, jd, ak, a1, a2, a3, a4, a5, a6, a7, a8, a9, a10, a11, a12, a13, a14, a15, a16)) : ∃ n, wX_steps_20 postR (nI k) l sz jd ak a1 a2 a3 a4 a5 a6 a7 a8 a9 a10 a11 a12 a13 a14 a15 a16 n 0 0 := by
  have hv : v < 64 := hS.1
  refine pk_loop (fun n i s => wX_steps_20 postR (nI k) l sz jd ak a1 a2 a3 a4 a5 a6 a7 a8 a9 a10 a11 a12 a13 a14 a15 a16 n s (nI i)) (fun i s => s = nI (v % 2 ^ i)) 6 0 0 (by omega) (by rw [Nat.pow_zero, Nat.mod_one, nI_0])
    (fun n s h => pk_le 6 6 (fun _ => ek_v (P := fun r => postR r (l, sz, jd, ak, a1, a2, a3, a4, a5, a6, a7, a8, a9, a10, a11, a12, a13, a14, a15, a16)) (h.trans (by rw [Nat.mod_eq_of_lt hv])) H) (fun z => absurd z (by omega))) ?_
  intro n i s hi h hw
  have e : (nI i).toNatClampNeg = i := nI_clamp (by omega)
  refine pk_le 6 i (fun z => absurd z (by omega)) (fun _ => ⟨pk_in i 6 hi, nm_e (nm_r (nI_1 i) (hw _ ?_))⟩)
  rw [e, lj_sh _ hk, hS.2 i hi, h]
  exact lj_ors v hv i hi
theorem lj_endR {v : Nat} (hk : k < 64) (hS : lj_is 4 a6 k v) (H : postR (nI v) (l, sz, jd, ak, a1, a2, a3, a4, a5, a6, a7, a8, a9, a10, a11, a12, a13, a14, a15, a16)) : ∃ n, wX_endAt_20 postR (nI k) l sz jd ak a1 a2 a3 a4 a5 a6 a7 a8 a9 a10 a11 a12 a13 a14 a15 a16 n 0 0 := by
  have hv : v < 16 := hS.1
  refine pk_loop (fun n i s => wX_endAt_20 postR (nI k) l sz jd ak a1 a2 a3 a4 a5 a6 a7 a8 a9 a10 a11 a12 a13 a14 a15 a16 n s (nI i)) (fun i s => s = nI (v % 2 ^ i)) 4 0 0 (by omega) (by rw [Nat.pow_zero, Nat.mod_one, nI_0])
    (fun n s h => pk_le 4 4 (fun _ => ek_v (P := fun r => postR r (l, sz, jd, ak, a1, a2, a3, a4, a5, a6, a7, a8, a9, a10, a11, a12, a13, a14, a15, a16)) (h.trans (by rw [Nat.mod_eq_of_lt hv])) H) (fun z => absurd z (by omega))) ?_
  intro n i s hi h hw
  have e : (nI i).toNatClampNeg = i := nI_clamp (by omega)
  refine pk_le 4 i (fun z => absurd z (by omega)) (fun _ => ⟨pk_in i 4 hi, nm_e (nm_r (nI_1 i) (hw _ ?_))⟩)
  rw [e, lj_sh _ hk, hS.2 i hi, h]
  exact lj_ors v (by omega) i (by omega)
theorem lj_regR {v a : Nat} (hk : k < 64) (ha : a < 4) (hS : lj_is 4 (fun j => a4 (a * 4 + j)) k v) (H : postR (nI v) (l, sz, jd, ak, a1, a2, a3, a4, a5, a6, a7, a8, a9, a10, a11, a12, a13, a14, a15, a16)) : ∃ n, wX_register_30 postR (nI k) (nI a) l sz jd ak a1 a2 a3 a4 a5 a6 a7 a8 a9 a10 a11 a12 a13 a14 a15 a16 n 0 0 := by
  have hv : v < 16 := hS.1
  refine pk_loop (fun n i s => wX_register_30 postR (nI k) (nI a) l sz jd ak a1 a2 a3 a4 a5 a6 a7 a8 a9 a10 a11 a12 a13 a14 a15 a16 n s (nI i)) (fun i s => s = nI (v % 2 ^ i)) 4 0 0 (by omega) (by rw [Nat.pow_zero, Nat.mod_one, nI_0])
    (fun n s h => pk_le 4 4 (fun _ => ek_v (P := fun r => postR r (l, sz, jd, ak, a1, a2, a3, a4, a5, a6, a7, a8, a9, a10, a11, a12, a13, a14, a15, a16)) (h.trans (by rw [Nat.mod_eq_of_lt hv])) H) (fun z => absurd z (by omega))) ?_
  intro n i s hi h hw
  have ex : nI a * 4 + nI i = nI (a * 4 + i) := lj_ix rfl i
  have e : (nI a * 4 + nI i).toNatClampNeg = a * 4 + i := pk_cl (a * 4 + i) ex
  have hb : lj_b (a4 (a * 4 + i)) k = v.testBit i := hS.2 i hi
  refine pk_le 4 i (fun z => absurd z (by omega)) (fun _ => ⟨pk_in (a * 4 + i) 16 (by omega) ex, nm_e (nm_r (nI_1 i) (hw _ ?_))⟩)
  rw [e, lj_sh _ hk, hb, h]
  exact lj_ors v (by omega) i (by omega)
theorem lj_judged (H : post (l, sz, 1, ak, a1, a2, a3, a4, a5, a6, a7, a8, a9, a10, a11, a12, a13, a14, a15, a16)) : wpX_judge post (l, sz, 1, ak, a1, a2, a3, a4, a5, a6, a7, a8, a9, a10, a11, a12, a13, a14, a15, a16) := br_f (by decide) H
theorem lj_fate {op a b lim : Nat} (hk : k < 64) (hop : op < 12) (ha : a < 4) (hb : b < 16) (hl1 : 1 ≤ lim) (hl : lim ≤ 40) (h1 : a1 0 = nI op) (h2 : a2 0 = nI a) (h3 : a3 0 = nI b)
    (H : ∀ R S E F V W x y z r q, lj_D k op a b lim (lj_X a k) (lj_X (b % 4) k) R S E F W → postR (nI (lj_g op b (lj_X a k) (lj_X (b % 4) k))) (nI lim, 1, 1, ak, a1, a2, a3, R, S, E, F, V, W, x, y, z, r, q, a15, a16)) :
    wpX_fate postR (nI lim, 1, 0, ak, a1, a2, a3, a4, a5, a6, a7, a8, a9, a10, a11, a12, a13, a14, a15, a16) (nI k) := by
  refine br_f (nI_pos (by omega)) (br_t (nI_le (b := 63) (by omega) (by omega)) (lj_judge (k := k) hk hop ha hb hl1 hl h1 h2 h3 (fun R S E F V W x y z r q hD => lj_fateR (k := k) hk ?_ hD.2.2.2.1 (H R S E F V W x y z r q hD))))
  unfold lj_g lj_f
  split
  · omega
  · split
    · omega
    · split <;> omega
theorem lj_steps {v : Nat} (hk : k < 64) (hS : lj_is 6 a5 k v) (H : postR (nI v) (l, sz, 1, ak, a1, a2, a3, a4, a5, a6, a7, a8, a9, a10, a11, a12, a13, a14, a15, a16)) : wpX_steps postR (l, sz, 1, ak, a1, a2, a3, a4, a5, a6, a7, a8, a9, a10, a11, a12, a13, a14, a15, a16) (nI k) :=
  br_f (nI_pos (by omega)) (br_t (nI_le (b := 63) (by omega) (by omega)) (lj_judged (lj_stepsR hk hS H)))
theorem lj_endAt {v : Nat} (hk : k < 64) (hS : lj_is 4 a6 k v) (H : postR (nI v) (l, sz, 1, ak, a1, a2, a3, a4, a5, a6, a7, a8, a9, a10, a11, a12, a13, a14, a15, a16)) : wpX_endAt postR (l, sz, 1, ak, a1, a2, a3, a4, a5, a6, a7, a8, a9, a10, a11, a12, a13, a14, a15, a16) (nI k) :=
  br_f (nI_pos (by omega)) (br_t (nI_le (b := 63) (by omega) (by omega)) (lj_judged (lj_endR hk hS H)))
theorem lj_register {v a : Nat} (hk : k < 64) (ha : a < 4) (hS : lj_is 4 (fun j => a4 (a * 4 + j)) k v) (H : postR (nI v) (l, sz, 1, ak, a1, a2, a3, a4, a5, a6, a7, a8, a9, a10, a11, a12, a13, a14, a15, a16)) : wpX_register postR (l, sz, 1, ak, a1, a2, a3, a4, a5, a6, a7, a8, a9, a10, a11, a12, a13, a14, a15, a16) (nI k) (nI a) :=
  br_f (nI_pos (by omega)) (br_f (nI_nlt (a := 63) (b := k) (by omega) (by omega)) (br_f (nI_pos (by omega)) (br_t (nI_le (b := 3) (by omega) (by omega)) (lj_judged (lj_regR hk ha hS H)))))
/-! ===== emit ===== -/
theorem lj_by : ∀ n, n < 16 → (nI n).toInt8.toInt32 = nI n ∧ (nI n &&& 15).toInt8.toInt32 = nI n := by decide +kernel
theorem lj_fault {post0 : Int32 → Prop} {op a b : Nat} (hop : op < 12) (ha : a < 4) (hb0 : op = 0 → b < 16) (hb9 : op = 9 → b < 8) (hbr : op ≠ 0 → op ≠ 9 → b < 4) (H : post0 0) : wpX_faultOf post0 () (nI op) (nI a) (nI b) := by
  have hb : b < 16 := by
    by_cases h0 : op = 0
    · exact hb0 h0
    · by_cases h9 : op = 9
      · have := hb9 h9; omega
      · have := hbr h0 h9; omega
  refine br_f (nI_pos (by omega)) (br_t (nI_le (b := 11) (by omega) (by omega)) (br_f (nI_pos (by omega)) (br_t (nI_le (b := 3) (by omega) (by omega)) ?_)))
  exact pk_eq op 0 (fun c => br_f (by decide) (br_f (nI_pos (by omega)) (br_t (nI_le (b := 15) (by omega) (by omega)) H)))
    (fun c0 => pk_eq op 9 (fun c => br_f (by decide) (br_f (nI_pos (by omega)) (br_t (nI_le (b := 12) (by have := hb9 c; omega) (by omega)) H)))
      (fun c9 => pk_lt 8 op (fun c => br_t (by decide) H) (fun c => br_f (by decide) (br_f (nI_pos (by omega)) (br_t (nI_le (b := 3) (by have := hbr c0 c9; omega) (by omega)) H)))))
theorem lj_emit {op a b : Nat} (hop : op < 12) (ha : a < 4) (hb0 : op = 0 → b < 16) (hb9 : op = 9 → b < 8) (hbr : op ≠ 0 → op ≠ 9 → b < 4)
    (H : ∀ b1 b2 b3, b1 0 = nI op → b2 0 = nI a → b3 0 = nI b → postR 0 (l, 1, 0, ak, b1, b2, b3, a4, a5, a6, a7, a8, a9, a10, a11, a12, a13, a14, a15, a16)) : wpX_emit postR (l, 0, jd, ak, a1, a2, a3, a4, a5, a6, a7, a8, a9, a10, a11, a12, a13, a14, a15, a16) (nI op) (nI a) (nI b) := by
  have hb : b < 16 := by
    by_cases h0 : op = 0
    · exact hb0 h0
    · by_cases h9 : op = 9
      · have := hb9 h9; omega
      · have := hbr h0 h9; omega
  have e1 : (0 : Int32) + 1 = 1 := by decide
  have e2 : (1 : Int32) - 1 = 0 := by decide
  refine br_t (by decide) (lj_fault hop ha hb0 hb9 hbr (br_t rfl (nm_r e1 ?_)))
  rw [e2]
  refine ⟨pk_in 0 12 (by omega), nm_e ⟨pk_in 0 12 (by omega), nm_e ⟨pk_in 0 12 (by omega), nm_e ?_⟩⟩⟩
  exact H _ _ _ (by rw [sb_cl0, pk_us]; exact (lj_by op (by omega)).1) (by rw [sb_cl0, pk_us]; exact (lj_by a (by omega)).1) (by rw [sb_cl0, pk_us]; exact (lj_by b hb).2)
end
end
section
section
variable {post : Int32 → St0 → Prop} {mc ms kc ks : Nat}
/-! ===== the law's own value ===== -/
theorem lj_vadd : ∀ X, X < 8 → ∀ Y, Y < 8 → (nI X + nI Y) &&& 15 = nI ((X + Y) % 16) ∧ (nI X - nI Y) &&& 15 = nI ((X + 16 - Y) % 16) ∧ (nI X * nI Y) &&& 15 = nI (X * Y % 16) ∧ nI X &&& nI Y = nI (X &&& Y) ∧ nI X ^^^ nI Y = nI (X ^^^ Y) := by decide +kernel
theorem lj_val89 {post0 : Int32 → Prop} {op b X Y : Nat} (ho : op < 12) (hX : X < 8) (hY : Y < 8) (h0 : 5 ≤ op) (h5 : op = 5 → Y = 0) (H : post0 (nI (lj_v op b X Y))) : wL_value_89 post0 (nI op) (nI X) (nI Y) (nI X) := by
  obtain ⟨t1, t2, t3, t4, t5⟩ := lj_vadd X hX Y hY
  refine pk_eq op 6 (fun c => ?_) (fun c6 => pk_eq op 7 (fun c => ?_) (fun c7 => pk_eq op 8 (fun c => ?_) (fun c8 => ?_)))
  · subst c; exact nm_r t4 H
  · subst c; exact nm_r t5 H
  · subst c
    refine pk_le Y X (fun d => ?_) (fun d => ?_)
    · have e : lj_v 8 b X Y = 0 := by show (if X < Y then 1 else 0) = 0; rw [if_neg (by omega)]
      rw [e] at H; exact H
    · have e : lj_v 8 b X Y = 1 := by show (if X < Y then 1 else 0) = 1; rw [if_pos d]
      rw [e] at H; exact H
  · have e : lj_v op b X Y = X := by
      by_cases c5 : op = 5
      · subst c5; show (if Y = 0 then X else X / Y) = X; rw [if_pos (h5 rfl)]
      · unfold lj_v; rw [if_neg (by omega), if_neg (by omega), if_neg (by omega), if_neg (by omega), if_neg (by omega), if_neg c5, if_neg c6, if_neg c7, if_neg c8]
    rw [e] at H; exact H
theorem lj_value {post0 : Int32 → Prop} {op b X Y : Nat} (ho : op < 12) (hX : X < 8) (hY : Y < 8) (H : post0 (nI (lj_v op b X Y))) : wpL_value post0 () (nI op) (nI X) (nI Y) (nI b) := by
  obtain ⟨t1, t2, t3, t4, t5⟩ := lj_vadd X hX Y hY
  refine pk_eq op 0 (fun c => ?_) (fun c0 => pk_eq op 1 (fun c => ?_) (fun c1 => pk_eq op 2 (fun c => ?_) (fun c2 => pk_eq op 3 (fun c => ?_) (fun c3 => pk_eq op 4 (fun c => ?_) (fun c4 => pk_eq op 5 (fun c => ?_) (fun c5 => ?_))))))
  · subst c; exact H
  · subst c; exact H
  · subst c; exact nm_r t1 H
  · subst c; exact nm_r t2 H
  · subst c; exact nm_r t3 H
  · subst c
    refine pk_eq Y 0 (fun d => lj_val89 (op := 5) ho hX hY (by omega) (fun _ => d) H) (fun d => ⟨nI_ne0 (by omega) (by omega), nm_r (pk_div (a := X) (d := Y) (by omega) (by omega) (by omega)) ?_⟩)
    have e : lj_v 5 b X Y = X / Y := by show (if Y = 0 then X else X / Y) = X / Y; rw [if_neg d]
    rw [e] at H; exact H
  · exact lj_val89 ho hX hY (by omega) (fun h => absurd h c5) H
/-! ===== the checks ===== -/
theorem lj_336 {op b X Y f e : Nat} (ho : op < 12) (hX : X < 8) (hY : Y < 8) {z0 x17 : Int32} (hf : x17 = nI f) (he : z0 = nI e) (H : post 1 ()) :
    wL_lawOf_336 post mc ms (nI op) (nI b) (nI f) 1 (nI e) (nI (lj_v op b X Y)) (nI X) (nI Y) x17 z0 kc ks := by
  subst hf he
  exact lj_value ho hX hY (br_t rfl (br_t rfl (br_t rfl (br_t rfl H))))
theorem lj_317 {op b X Y f : Nat} (ho : op < 12) (h9 : op ≠ 9) (hX : X < 8) (hY : Y < 8) {z0 : Int32} (hf : f = lj_f op X Y) (hz : z0 = nI f) (H : post 1 ()) :
    wL_lawOf_317 post mc ms (nI op) (nI b) (nI f) 1 (nI (lj_e op b X Y)) (nI (lj_v op b X Y)) (nI X) (nI Y) z0 kc ks := by
  have hf4 : f < 4 := by
    rw [hf]; unfold lj_f
    split
    · omega
    · split <;> omega
  refine pk_eq f 0 (fun c => pk_eq op 11 (fun d => ?_) (fun d => ?_)) (fun c => ?_) hz
  · have e : lj_e op b X Y = 0 := by unfold lj_e; rw [if_neg h9, if_pos (Or.inl d)]
    exact lj_336 ho hX hY hz (by rw [e]; rfl) H
  · have e : lj_e op b X Y = 1 := by
      unfold lj_e
      rw [if_neg h9, if_neg ?_]
      rw [hf] at c
      intro h
      rcases h with h | h | h
      · exact d h
      · unfold lj_f at c; rw [if_pos h] at c; omega
      · unfold lj_f at c
        by_cases h2 : op = 5 ∧ Y = 0
        · rw [if_pos h2] at c; omega
        · rw [if_neg h2, if_pos h] at c; omega
    exact lj_336 ho hX hY hz (by rw [e]; rfl) H
  · have e : lj_e op b X Y = 0 := by
      unfold lj_e
      rw [if_neg h9, if_pos ?_]
      rw [hf] at c
      unfold lj_f at c
      by_cases h1 : op = 5 ∧ Y = 0
      · exact Or.inr (Or.inl h1)
      · by_cases h2 : op = 10 ∧ X = 0
        · exact Or.inr (Or.inr h2)
        · rw [if_neg h1, if_neg h2] at c; exact absurd rfl c
    exact lj_336 ho hX hY hz (by rw [e]; rfl) H
theorem lj_262 {p v : Nat} {z0 z1 : Int32} (hz : z1 = z0) {x14 x18 : Int32} (h14 : nI v = x14) (h18 : nI p = x18) (H : post 1 ()) : wL_lawOf_262 post mc ms (nI p) (nI v) x14 x18 z0 z1 kc ks :=
  br_t hz (br_t h18 (br_t h14 H))
/-- the branch's checks: round = 1 or 0 -/
theorem lj_232 {g n p v : Nat} {x14 x16 x17 z0 : Int32} (hg : nI g = if x17 = 0 then 0 else 1) (hn : nI n = if x17 = 0 then 1 else x16) (h14 : nI v = x14) (h18 : nI p = z0) (H : post 1 ()) :
    wL_lawOf_232 post mc ms (nI g) (nI n) (nI p) (nI v) x14 x16 x17 z0 kc ks := by
  refine br_c (fun c => ?_) (fun c => ?_)
  · rw [if_pos c] at hg hn
    exact br_t hg (br_t c (lj_262 hn h14 h18 H))
  · rw [if_neg c] at hg hn
    exact br_t hg (br_f c (lj_262 hn h14 h18 H))
theorem lj_219 {b X g n p : Nat} (hX : X < 8) {x16 z0 : Int32} (hg : nI g = if z0 = 0 then 0 else 1) (hn : nI n = if z0 = 0 then 1 else x16) (hp : p = if X = 0 then 1 else b) (H : post 1 ()) :
    wL_lawOf_219 post mc ms (nI b) (nI g) (nI n) (nI p) (nI X) (nI X) x16 z0 kc ks :=
  pk_eq X 0 (fun c => lj_232 hg hn rfl (by rw [hp, if_pos c]; rfl) H) (fun c => lj_232 hg hn rfl (by rw [hp, if_neg c]) H)
theorem lj_195 {op b X Y lim : Nat} (ho : op < 12) (hX : X < 8) (hY : Y < 8) (hb : b < 16) (H : post 1 ()) :
    wL_lawOf_195 post mc ms (nI op) (nI b) (nI (lj_g op b X Y)) (nI (lj_n op b lim X)) (nI (lj_e op b X Y)) (nI (lj_v op b X Y)) (nI X) (nI Y) (nI lim) kc ks := by
  refine pk_eq op 9 (fun c => ?_) (fun c9 => ?_)
  · subst c
    have hp : lj_e 9 b X Y = if X = 0 then 1 else b := by unfold lj_e; rw [if_pos rfl]
    have out : ¬ lj_stay 9 b X → wL_lawOf_218 post mc ms (nI b) (nI (lj_g 9 b X Y)) (nI (lj_n 9 b lim X)) (nI (lj_e 9 b X Y)) (nI X) (nI X) (nI lim) kc ks := by
      intro hs
      have e1 : lj_g 9 b X Y = 0 := by unfold lj_g; rw [if_neg hs]; rfl
      have e2 : lj_n 9 b lim X = 1 := by unfold lj_n; rw [if_neg hs]
      exact lj_219 hX (by rw [e1]; rfl) (by rw [e2]; rfl) hp H
    refine pk_eq X 0 (fun d => out (fun hs => hs.2.2 d)) (fun d => pk_eq b 0 (fun d2 => ?_) (fun d2 => out (fun hs => d2 hs.2.1)))
    have hs : lj_stay 9 b X := ⟨rfl, d2, d⟩
    have e1 : lj_g 9 b X Y = 1 := by unfold lj_g; rw [if_pos hs]
    have e2 : lj_n 9 b lim X = lim := by unfold lj_n; rw [if_pos hs]
    exact lj_219 hX (by rw [e1]; rfl) (by rw [e2]; rfl) hp H
  · have hs : ¬ lj_stay op b X := fun hs => c9 hs.1
    have e1 : lj_g op b X Y = lj_f op X Y := by unfold lj_g; rw [if_neg hs]
    have e2 : lj_n op b lim X = 1 := by unfold lj_n; rw [if_neg hs]
    rw [e1, e2]
    have out : ¬ (op = 5 ∧ Y = 0) → wL_lawOf_300 post mc ms (nI op) (nI b) (nI (lj_f op X Y)) (nI 1) (nI (lj_e op b X Y)) (nI (lj_v op b X Y)) (nI X) (nI Y) kc ks := by
      intro h5
      have out2 : ¬ (op = 10 ∧ X = 0) → wL_lawOf_316 post mc ms (nI op) (nI b) (nI (lj_f op X Y)) (nI 1) (nI (lj_e op b X Y)) (nI (lj_v op b X Y)) (nI X) (nI Y) kc ks := by
        intro h10
        have ef : lj_f op X Y = 0 := by unfold lj_f; rw [if_neg h5, if_neg h10]
        exact lj_317 ho c9 hX hY rfl (by rw [ef]; rfl) H
      refine pk_eq op 10 (fun d => pk_eq X 0 (fun d2 => ?_) (fun d2 => out2 (fun h => d2 h.2))) (fun d => out2 (fun h => d h.1))
      have ef : lj_f op X Y = 3 := by unfold lj_f; rw [if_neg h5, if_pos ⟨d, d2⟩]
      exact lj_317 ho c9 hX hY rfl (by rw [ef]; rfl) H
    refine pk_eq op 5 (fun d => pk_eq Y 0 (fun d2 => ?_) (fun d2 => out (fun h => d2 h.2))) (fun d => out (fun h => d h.1))
    have ef : lj_f op X Y = 2 := by unfold lj_f; rw [if_pos ⟨d, d2⟩]
    exact lj_317 ho c9 hX hY rfl (by rw [ef]; rfl) H
theorem lj_X8 {a k : Nat} (hk : k < 64) : lj_X a k < 8 := by
  unfold lj_X
  split
  · omega
  · split <;> omega
/-- the limit, held to 1 .. 40 -/
def lj_lim (x0 : Int32) : Nat := if 1 ≤ x0 then (if x0 ≤ 40 then x0.toNatClampNeg else 40) else 1
theorem lj_limN {x0 : Int32} (h1 : 1 ≤ x0) (h2 : x0 ≤ 40) : x0 = nI x0.toNatClampNeg ∧ 1 ≤ x0.toNatClampNeg ∧ x0.toNatClampNeg ≤ 40 := by
  have g1 := Int32.le_iff_toInt_le.mp h1
  have g2 := Int32.le_iff_toInt_le.mp h2
  have c1 : (1 : Int32).toInt = 1 := by decide
  have c2 : (40 : Int32).toInt = 40 := by decide
  have c0 : (0 : Int32).toInt = 0 := by decide
  rw [c1] at g1
  rw [c2] at g2
  obtain ⟨j, hj, e⟩ := nI_of (x := x0) (by rw [Int32.lt_iff_toInt_lt, c0]; omega)
  have hj2 : x0.toNatClampNeg = j := by rw [e]; exact nI_clamp hj
  rw [hj2]
  rw [e, nI_toInt hj] at g1 g2
  exact ⟨e, by omega, by omega⟩
theorem lj_limB (x0 : Int32) : 1 ≤ lj_lim x0 ∧ lj_lim x0 ≤ 40 := by
  unfold lj_lim
  split
  · split
    · rename_i h1 h2
      exact (lj_limN h1 h2).2
    · omega
  · omega
theorem lj_172 {op b X Y : Nat} {x0 : Int32} (ho : op < 12) (hX : X < 8) (hY : Y < 8) (hb : b < 16) (H : post 1 ()) :
    wL_lawOf_172 post mc ms x0 (nI op) (nI b) (nI (lj_g op b X Y)) (nI (lj_n op b (lj_lim x0) X)) (nI (lj_e op b X Y)) (nI (lj_v op b X Y)) (nI X) (nI Y) kc ks := by
  refine br_c (fun h1 => br_c (fun h2 => ?_) (fun h2 => ?_)) (fun h1 => ?_)
  · have e : lj_lim x0 = x0.toNatClampNeg := by unfold lj_lim; rw [if_pos h1, if_pos h2]
    have t := lj_195 (post := post) (mc := mc) (ms := ms) (kc := kc) (ks := ks) (lim := lj_lim x0) ho hX hY hb H
    rw [e, ← (lj_limN h1 h2).1] at t
    rw [e]
    exact t
  · have e : lj_lim x0 = 40 := by unfold lj_lim; rw [if_pos h1, if_neg h2]
    rw [e]
    exact lj_195 (lim := 40) ho hX hY hb H
  · have e : lj_lim x0 = 1 := by unfold lj_lim; rw [if_neg h1]
    rw [e]
    exact lj_195 (lim := 1) ho hX hY hb H
theorem lj_139 {op a b k : Nat} {x0 z0 : Int32} (hk : k < 64) (ho : op < 12) (hb : b < 16) (hz : z0 = nI (lj_X a k)) (H : post 1 ()) :
    wL_lawOf_139 post mc ms x0 (nI op) (nI k) (nI b) (nI (lj_g op b (lj_X a k) (lj_X (b % 4) k))) (nI (lj_n op b (lj_lim x0) (lj_X a k))) (nI (lj_e op b (lj_X a k) (lj_X (b % 4) k))) (nI (lj_v op b (lj_X a k) (lj_X (b % 4) k))) z0 kc ks := by
  subst hz
  have hm : nI b &&& 3 = nI (b % 4) := pk_andN (by omega) 2 (by decide)
  have t := lj_172 (post := post) (mc := mc) (ms := ms) (kc := kc) (ks := ks) (x0 := x0) (X := lj_X a k) (Y := lj_X (b % 4) k) ho (lj_X8 hk) (lj_X8 hk) hb H
  have e7 : nI k &&& 7 = nI (k % 8) := pk_andN (by omega) 3 (by decide)
  have e3 : nI k >>> ((3 : Int32) &&& 31) = nI (k / 8) := pk_shrN (by omega) _ 3 (by decide)
  have hb4 : b % 4 < 4 := Nat.mod_lt b (by omega)
  refine pk_eq (b % 4) 0 (fun c => ?_) (fun c0 => pk_eq (b % 4) 1 (fun c => ?_) (fun c1 => ?_) hm) hm
  · have e : lj_X (b % 4) k = k % 8 := by unfold lj_X; rw [if_pos c]
    rw [e7]
    rw [e] at t ⊢
    exact t
  · have e : lj_X (b % 4) k = k / 8 := by unfold lj_X; rw [if_neg c0, if_pos c]
    rw [e3]
    rw [e] at t ⊢
    exact t
  · have e : lj_X (b % 4) k = 0 := by unfold lj_X; rw [if_neg c0, if_neg c1]
    rw [e] at t ⊢
    exact t
end
end
section
section
variable {post : Int32 → St0 → Prop} {mc ms kc ks : Nat} {ak : Int32} {a1 a2 a3 : Nat → Int32} {a4 a5 a6 a7 a8 a9 a10 a11 a12 a13 a14 a15 a16 : Nat → Int64}
theorem lj_60 {op a b k : Nat} {x0 z0 : Int32} (hk : k < 64) (hop : op < 12) (ha : a < 4) (hb0 : op = 0 → b < 16) (hb9 : op = 9 → b < 8) (hbr : op ≠ 0 → op ≠ 9 → b < 4) (hz : z0 = nI b) (H : post 1 ()) :
    wL_lawOf_60 post mc ms x0 (nI op) (nI a) (nI k) z0 kc ks (nI (lj_lim x0)) 0 0 ak a1 a2 a3 a4 a5 a6 a7 a8 a9 a10 a11 a12 a13 a14 a15 a16 := by
  subst hz
  have hb : b < 16 := by
    by_cases h0 : op = 0
    · exact hb0 h0
    · by_cases h9 : op = 9
      · have := hb9 h9; omega
      · have := hbr h0 h9; omega
  have e7 : nI k &&& 7 = nI (k % 8) := pk_andN (by omega) 3 (by decide)
  have e3 : nI k >>> ((3 : Int32) &&& 31) = nI (k / 8) := pk_shrN (by omega) _ 3 (by decide)
  refine lj_emit hop ha hb0 hb9 hbr (fun b1 b2 b3 h1 h2 h3 => lj_fate (k := k) hk hop ha hb (lj_limB x0).1 (lj_limB x0).2 h1 h2 h3 (fun R S E F V W x y z r q hD => lj_steps (k := k) hk hD.2.1 (lj_endAt (k := k) hk hD.2.2.1 (lj_register (k := k) hk ha hD.1 ?_))))
  refine pk_eq a 0 (fun c => lj_139 hk hop hb ?_ H) (fun c0 => pk_eq a 1 (fun c => lj_139 hk hop hb ?_ H) (fun c1 => lj_139 hk hop hb ?_ H))
  · rw [e7]; unfold lj_X; rw [if_pos c]
  · rw [e3]; unfold lj_X; rw [if_neg c0, if_pos c]
  · unfold lj_X; rw [if_neg c0, if_neg c1]; rfl
end
theorem lj_init {post : St2 → Prop} {p0 : Int32} (H : post (nI (lj_lim p0), 0, 0, 0, (fun _ => 0), (fun _ => 0), (fun _ => 0), (fun _ => 0), (fun _ => 0), (fun _ => 0), (fun _ => 0), (fun _ => 0), (fun _ => 0), (fun _ => 0), (fun _ => 0), (fun _ => 0), (fun _ => 0), (fun _ => 0), (fun _ => 0), (fun _ => 0))) : wpX_init post 16 120 (0, 0, 0, 0) p0 := by
  refine ⟨by decide, by decide, by decide, by decide, by decide, by decide, by decide, by decide, by decide, by decide, by decide, by decide, by decide, by decide, by decide, by decide, by decide, by decide, by decide, by decide, by decide, by decide, by decide, by decide, by decide, by decide, by decide, by decide, by decide, by decide, by decide, by decide, br_c (fun h1 => br_c (fun h2 => ?_) (fun h2 => ?_)) (fun h1 => ?_)⟩
  · have e : lj_lim p0 = p0.toNatClampNeg := by unfold lj_lim; rw [if_pos h1, if_pos h2]
    rw [e, ← (lj_limN h1 h2).1] at H
    exact H
  · have e : lj_lim p0 = 40 := by unfold lj_lim; rw [if_pos h1, if_neg h2]
    rw [e] at H
    exact H
  · have e : lj_lim p0 = 1 := by unfold lj_lim; rw [if_neg h1]
    rw [e] at H
    exact H
theorem lj_lawOf {post : Int32 → St0 → Prop} {p0 p1 p2 p3 p4 : Int32} (H : post 1 ()) : wpL_lawOf post 17 140 () p0 p1 p2 p3 p4 := by
  obtain ⟨j, hj, ej⟩ := pk_andE p1 (m := 65535) 16 (by decide)
  obtain ⟨a, ha, ea⟩ := pk_andE p2 (m := 3) 2 (by decide)
  obtain ⟨k, hk, ek⟩ := pk_andE p4 (m := 63) 6 (by decide)
  obtain ⟨b15, hb15, eb15⟩ := pk_andE p3 (m := 15) 4 (by decide)
  obtain ⟨b7, hb7, eb7⟩ := pk_andE p3 (m := 7) 3 (by decide)
  obtain ⟨b3, hb3, eb3⟩ := pk_andE p3 (m := 3) 2 (by decide)
  have er : (p1 &&& 65535) - (p1 &&& 65535) / 12 * 12 = nI (j % 12) := by
    rw [ej]
    exact pk_rem (a := j) (d := 12) (by omega) (by omega) (by omega)
  have ho : j % 12 < 12 := Nat.mod_lt j (by omega)
  refine ⟨by decide, by decide, 16, 120, by decide, by decide, lj_init ⟨by decide, nm_r er (nm_r ea (nm_r ek (pk_eq (j % 12) 0 (fun c => ?_) (fun c0 => pk_eq (j % 12) 9 (fun c9 => ?_) (fun c9 => ?_)))))⟩⟩
  · exact lj_60 hk ho ha (fun _ => hb15) (fun h => absurd h (by omega)) (fun h _ => absurd c h) eb15 H
  · exact lj_60 hk ho ha (fun h => absurd h c0) (fun _ => hb7) (fun _ h => absurd c9 h) eb7 H
  · exact lj_60 hk ho ha (fun h => absurd h c0) (fun h => absurd h c9) (fun _ _ => hb3) eb3 H
theorem lj_cell {post0 : Int32 → Prop} {L : Nat} {xs : Nat → Int32} {x : Int32} (i : Nat) (hi : i < 5) (hL : L ≤ 5) (hx : x = nI i) (H : ∀ r, post0 r) : wpL_cellAt post0 L xs () x :=
  pk_le L i (fun _ => H 0) (fun h => ⟨pk_in i L h hx, H _⟩) rfl hx
theorem i_vc (xs : Nat → Int32) (L : Nat) (hL : L ≤ 5) : wpL_law (fun r => r = 1) L xs :=
  lj_cell 0 (by omega) hL rfl (fun r1 => lj_cell 1 (by omega) hL rfl (fun r2 => lj_cell 2 (by omega) hL rfl (fun r3 => lj_cell 3 (by omega) hL rfl (fun r4 => lj_cell 4 (by omega) hL rfl (fun r5 => ⟨17, 140, by decide, by decide, lj_lawOf rfl⟩)))))
end
