section
/-! bits of an Int32 (began as the first family of BITS.to-paste, renamed) -/
def tp_b (x : Int32) (i : Nat) : Bool := x.toBitVec.getLsbD i
theorem tp_b_or (x y : Int32) (i : Nat) : tp_b (x ||| y) i = (tp_b x i || tp_b y i) := by unfold tp_b; rw [Int32.toBitVec_or, BitVec.getLsbD_or]
theorem tp_b_and (x y : Int32) (i : Nat) : tp_b (x &&& y) i = (tp_b x i && tp_b y i) := by unfold tp_b; rw [Int32.toBitVec_and, BitVec.getLsbD_and]
theorem tp_b_xor (x y : Int32) (i : Nat) : tp_b (x ^^^ y) i = (tp_b x i ^^ tp_b y i) := by unfold tp_b; rw [Int32.toBitVec_xor, BitVec.getLsbD_xor]
theorem tp_b_m1 : ∀ i, i < 32 → tp_b (-1) i = true := by decide +kernel
theorem tp_b_0 (i : Nat) : tp_b 0 i = false := BitVec.getLsbD_zero
theorem tp_sl : ∀ n, n < 32 → ((nI n &&& 31).toBitVec.smod 32).toNat = n := by decide +kernel
theorem tp_b_sshr (n : Nat) (hn : n < 32) (x : Int32) {i : Nat} (hi : i < 32) : tp_b (x >>> (nI n &&& 31)) i = if n + i < 32 then tp_b x (n + i) else tp_b x 31 := by
  unfold tp_b
  rw [Int32.toBitVec_shiftRight]
  show (x.toBitVec.sshiftRight ((nI n &&& 31).toBitVec.smod 32).toNat).getLsbD i = _
  rw [tp_sl n hn, BitVec.getLsbD_sshiftRight, BitVec.msb_eq_getLsbD_last]
  simp [hi]
theorem tp_b_one : ∀ n, n < 32 → ∀ i, i < 32 → tp_b ((1 : Int32) <<< (nI n &&& 31)) i = decide (i = n) := by decide +kernel
theorem tp_and1 (y : Int32) : (y &&& 1) = 0 ↔ tp_b y 0 = false := by
  have h := pk_and y (m := 1) 1 (by decide)
  rw [h, ← nI_0, nI_eq (by omega) (by omega)]
  unfold tp_b
  rw [← BitVec.testBit_toNat, Nat.testBit_zero]
  simp
theorem tp_and1' (y : Int32) : (y &&& 1) = 1 ↔ tp_b y 0 = true := by
  have h := pk_and y (m := 1) 1 (by decide)
  rw [h, show (1 : Int32) = nI 1 from rfl, nI_eq (by omega) (by omega)]
  unfold tp_b
  rw [← BitVec.testBit_toNat, Nat.testBit_zero]
  simp
/-- the printed bit test -/
theorem tp_bit {x : Int32} {n : Nat} (hn : n < 32) : ((x >>> (nI n &&& 31)) &&& 1) = 0 ↔ tp_b x n = false := by
  rw [tp_and1, tp_b_sshr n hn x (by omega)]
  simp [hn]
theorem tp_bit1 {x : Int32} {n : Nat} (hn : n < 32) : ((x >>> (nI n &&& 31)) &&& 1) = 1 ↔ tp_b x n = true := by
  rw [tp_and1', tp_b_sshr n hn x (by omega)]
  simp [hn]
theorem tp_b_set {x : Int32} {n i : Nat} (hn : n < 32) (hi : i < 32) : tp_b (x ||| ((1 : Int32) <<< (nI n &&& 31))) i = (tp_b x i || decide (i = n)) := by
  rw [tp_b_or, tp_b_one n hn i hi]
theorem tp_b_clr {x : Int32} {n i : Nat} (hn : n < 32) (hi : i < 32) : tp_b (x &&& (((1 : Int32) <<< (nI n &&& 31)) ^^^ (-1))) i = (tp_b x i && !decide (i = n)) := by
  rw [tp_b_and, tp_b_xor, tp_b_one n hn i hi, tp_b_m1 i hi]
  simp
theorem tp_b_s16 {x : Int32} {i : Nat} (hi : i < 16) : tp_b x.toInt16.toInt32 i = tp_b x i := by
  unfold tp_b
  rw [Int16.toBitVec_toInt32, Int32.toBitVec_toInt16, BitVec.getLsbD_signExtend, BitVec.getLsbD_signExtend]
  have h1 : i < 32 := by omega
  simp [hi, h1]
theorem tp_b_nI {n i : Nat} (hi : i < 32) : tp_b (nI n) i = n.testBit i := by
  unfold tp_b
  show (BitVec.ofNat 32 n).getLsbD i = _
  rw [BitVec.getLsbD_ofNat]
  simp [hi]
/-- the printed bit test on a small set -/
theorem tp_tb {O n : Nat} (hn : n < 32) : ((nI O >>> (nI n &&& 31)) &&& 1) = 0 ↔ O.testBit n = false := by
  rw [tp_bit hn, tp_b_nI hn]
theorem tp_tb1 {O n : Nat} (hn : n < 32) : ((nI O >>> (nI n &&& 31)) &&& 1) = 1 ↔ O.testBit n = true := by
  rw [tp_bit1 hn, tp_b_nI hn]
/-! small sets: Nats below 8 -/
def tp_clr (O B : Nat) : Nat := O &&& (B ^^^ 7)
theorem tp_set8 : ∀ O, O < 8 → ∀ n, n < 3 → nI O ||| ((1 : Int32) <<< (nI n &&& 31)) = nI (O ||| 2 ^ n) ∧ (O ||| 2 ^ n) < 8 ∧ ∀ j, j < 3 → (O ||| 2 ^ n).testBit j = (O.testBit j || decide (j = n)) := by decide +kernel
theorem tp_clr8 : ∀ O, O < 8 → ∀ n, n < 3 → nI O &&& (((1 : Int32) <<< (nI n &&& 31)) ^^^ (-1)) = nI (tp_clr O (2 ^ n)) ∧ tp_clr O (2 ^ n) < 8 ∧ ∀ j, j < 3 → (tp_clr O (2 ^ n)).testBit j = (O.testBit j && !decide (j = n)) := by decide +kernel
theorem tp_clrS : ∀ O, O < 8 → ∀ B, B < 8 → nI O &&& (nI B ^^^ (-1)) = nI (tp_clr O B) ∧ tp_clr O B < 8 ∧ ∀ j, j < 3 → (tp_clr O B).testBit j = (O.testBit j && !(B.testBit j)) := by decide +kernel
theorem tp_tb3 : ∀ O, O < 8 → O.testBit 3 = false := by decide +kernel
theorem tp_ext8 : ∀ A, A < 8 → ∀ B, B < 8 → A.testBit 0 = B.testBit 0 → A.testBit 1 = B.testBit 1 → A.testBit 2 = B.testBit 2 → A = B := by decide +kernel
theorem tp_bx {A B : Nat} (hA : A < 8) (hB : B < 8) (h : ∀ j, j < 3 → A.testBit j = B.testBit j) : A = B := tp_ext8 A hA B hB (h 0 (by omega)) (h 1 (by omega)) (h 2 (by omega))
/-! holders: 0 nobody, t + 1 -/
def tp_h (n : Nat) : Int32 := nI n - 1
theorem tp_h_eq : ∀ n, n ≤ 3 → ∀ t, t < 4 → (tp_h n = nI t ↔ n = t + 1) := by decide +kernel
theorem tp_h_m1 : ∀ n, n ≤ 3 → (tp_h n = -1 ↔ n = 0) := by decide +kernel
theorem tp_h_by : ∀ n, n ≤ 3 → (tp_h n).toInt8.toInt32 = tp_h n := by decide +kernel
theorem tp_h_s (t : Nat) : tp_h (t + 1) = nI t := nI_pred t
theorem tp_h_0 : tp_h 0 = -1 := by decide
theorem tp_h_nI {n : Nat} (h0 : n ≠ 0) : tp_h n = nI (n - 1) := by
  obtain ⟨m, rfl⟩ : ∃ m, n = m + 1 := ⟨n - 1, by omega⟩
  exact tp_h_s m
theorem tp_by : ∀ n, n < 128 → (nI n).toInt8.toInt32 = nI n := by decide +kernel
theorem tp_h_neg : ∀ n, n ≤ 3 → (tp_h n < 0 ↔ n = 0) := by decide +kernel
theorem tp_nI_mul (a b : Nat) : nI a * nI b = nI (a * b) := pk_mul a b
theorem tp_ix (t c m : Nat) {C : Int32} (hC : C = nI c) : nI t * C + nI m = nI (t * c + m) := by rw [hC, pk_mul, nI_add]
theorem tp_ix3 (t m : Nat) : nI t * 3 + nI m = nI (t * 3 + m) := tp_ix t 3 m rfl
theorem tp_ix12 (t m : Nat) : nI t * 12 + nI m = nI (t * 12 + m) := tp_ix t 12 m rfl
theorem tp_ix64 (t m : Nat) : nI t * 64 + nI m = nI (t * 64 + m) := tp_ix t 64 m rfl
theorem tp_upd (f : Nat → Int32) (k : Nat) : upd f k (f k) = f := by
  funext j
  by_cases h : j = k
  · rw [h, pk_us]
  · rw [pk_un h]
theorem tp_upd' {f : Nat → Int32} {k : Nat} {x : Int32} (j : Nat) : upd f k x j = if j = k then x else f j := by
  by_cases h : j = k
  · rw [h, pk_us, if_pos rfl]
  · rw [pk_un h, if_neg h]
end
section
/-! the control machine of a commit: st vo he se lo bk ha de ph q -/
abbrev tp_C : Type := Nat × Nat × Nat × Nat × Nat × Nat × Bool × Bool × (Nat → Nat) × List (Nat × Nat × Nat)
def tp_up (f : Nat → Nat) (k v : Nat) : Nat → Nat := fun j => if j = k then v else f j
def tp_cSend (tr k f o : Nat) : tp_C → Option tp_C
  | (st, vo, he, se, lo, bk, ha, de, ph, q) =>
    if 60 < q.length ∨ 1000 < se then none
    else if tr = 6 ∧ lo < 10 ∧ (se + 1) * 7 % 5 < 3 then some (st, vo, he, se + 1, lo + 1, bk, ha, de, ph, q)
    else if tr = 7 then some (st, vo, he, se + 1, lo, bk, ha, de, ph, q ++ [(k, f, o), (k, f, o)])
    else some (st, vo, he, se + 1, lo, bk, ha, de, ph, q ++ [(k, f, o)])
def tp_cDown (pa m : Nat) : tp_C → Option tp_C
  | (st, vo, he, se, lo, bk, ha, de, ph, q) =>
    if bk = 0 then
      if pa.testBit m = true then
        if ph m = 0 then some (st, vo, he, se, lo, m + 1, ha, de, tp_up ph m 3, q)
        else if ph m = 1 then some (st, vo, he, se, lo, m + 1, ha, de, tp_up ph m 4, q)
        else if ph m = 2 then some (st, vo, he, se, lo, m + 1, ha, de, ph, q)
        else none
      else if ph m = 0 then some (st, vo, he, se, lo, m + 1, ha, de, ph, q)
      else none
    else none
def tp_cLead : tp_C → Option tp_C
  | (_, _, _, se, lo, bk, ha, de, ph, q) =>
    if bk = 0 then some (if de = true then 2 else 3, 0, 0, se, lo, 4, ha, de, ph, q) else none
def tp_cAsk (tr m : Nat) (c : tp_C) : Option tp_C :=
  if c.2.2.2.2.2.2.2.2.1 m = 1 ∨ c.2.2.2.2.2.2.2.2.1 m = 4 then tp_cSend tr 7 m 3 c else tp_cSend tr 5 3 m c
def tp_cRem1 (pa tr m : Nat) (c : tp_C) : Option tp_C :=
  if pa.testBit m = true then
    if c.1 = 1 then (if c.2.1.testBit m = true then some c else tp_cSend tr 1 3 m c)
    else if c.1 = 2 then (if c.2.2.1.testBit m = true then some c else tp_cSend tr 4 3 m c)
    else if c.1 = 3 then (if c.2.2.1.testBit m = true then some c else tp_cAsk tr m c)
    else some c
  else some c
def tp_cRem (pa tr : Nat) (c : tp_C) : Option tp_C :=
  (tp_cRem1 pa tr 0 c).bind fun c => (tp_cRem1 pa tr 1 c).bind fun c => tp_cRem1 pa tr 2 c
def tp_cAside (pa tr td : Nat) : tp_C → Option tp_C
  | (st, vo, he, se, lo, bk, ha, de, ph, q) =>
    if pa.testBit td = false ∧ (tr = 4 ∨ tr = 5) ∧ ha = false then tp_cDown pa td (st, vo, he, se, lo, bk, true, de, ph, q)
    else some (st, vo, he, se, lo, bk, ha, de, ph, q)
def tp_cDec (pa tr td : Nat) : tp_C → Option tp_C
  | (st, vo, he, se, lo, bk, ha, de, ph, q) =>
    if vo = pa then
      if tr = 2 ∧ ha = false then tp_cLead (st, vo, he, se, lo, bk, true, de, ph, q)
      else if de = true then none
      else (if tr = 3 ∧ ha = false then tp_cLead (2, vo, he, se, lo, bk, true, true, ph, q) else some (2, vo, he, se, lo, bk, ha, true, ph, q)).bind fun c =>
        (tp_cAside pa tr td c).bind fun c => tp_cRem pa tr c
    else some (st, vo, he, se, lo, bk, ha, de, ph, q)
def tp_cPrep (pa tr td m : Nat) : tp_C → Option tp_C
  | (st, vo, he, se, lo, bk, ha, de, ph, q) =>
    if tr = 1 ∧ ha = false ∧ m = td then tp_cDown pa m (st, vo, he, se, lo, bk, true, de, ph, q)
    else if ph m = 3 then tp_cSend tr 3 m 3 (st, vo, he, se, lo, bk, ha, de, ph, q)
    else if ph m = 0 then tp_cSend tr 2 m 3 (st, vo, he, se, lo, bk, ha, de, tp_up ph m 1, q)
    else if ph m = 1 then tp_cSend tr 2 m 3 (st, vo, he, se, lo, bk, ha, de, ph, q)
    else none
def tp_cCom2 (pa tr td m : Nat) : tp_C → Option tp_C
  | (st, vo, he, se, lo, bk, ha, de, ph, q) =>
    if tr = 5 ∧ ha = false ∧ m = td then tp_cDown pa m (st, vo, he, se, lo, bk, true, de, ph, q)
    else tp_cSend tr 6 m 3 (st, vo, he, se, lo, bk, ha, de, ph, q)
def tp_cCom (pa tr td m : Nat) : tp_C → Option tp_C
  | (st, vo, he, se, lo, bk, ha, de, ph, q) =>
    if tr = 4 ∧ ha = false ∧ m = td then tp_cDown pa m (st, vo, he, se, lo, bk, true, de, ph, q)
    else if ph m = 1 then tp_cCom2 pa tr td m (st, vo, he, se, lo, bk, ha, de, tp_up ph m 2, q)
    else if ph m = 4 then tp_cCom2 pa tr td m (st, vo, he, se, lo, bk, ha, de, tp_up ph m 6, q)
    else if ph m = 2 ∨ ph m = 6 then tp_cCom2 pa tr td m (st, vo, he, se, lo, bk, ha, de, ph, q)
    else none
def tp_cRef (tr m : Nat) : tp_C → Option tp_C
  | (st, vo, he, se, lo, bk, ha, de, ph, q) =>
    if ph m = 1 then tp_cSend tr 6 m 3 (st, vo, he, se, lo, bk, ha, de, tp_up ph m 5, q)
    else if ph m = 3 ∨ ph m = 5 then tp_cSend tr 6 m 3 (st, vo, he, se, lo, bk, ha, de, ph, q)
    else none
def tp_cLdr (pa tr td k f : Nat) : tp_C → Option tp_C
  | (st, vo, he, se, lo, bk, ha, de, ph, q) =>
    if k = 2 ∧ st = 1 then tp_cDec pa tr td (st, vo ||| 2 ^ f, he, se, lo, bk, ha, de, ph, q)
    else if k = 3 ∧ st = 1 then some (3, vo, he, se, lo, bk, ha, de, ph, q)
    else if k = 6 ∧ (st = 2 ∨ st = 3) then some (st, vo, he ||| 2 ^ f, se, lo, bk, ha, de, ph, q)
    else if k = 7 then tp_cSend tr (if de = true then 4 else 5) 3 f (st, vo, he, se, lo, bk, ha, de, ph, q)
    else some (st, vo, he, se, lo, bk, ha, de, ph, q)
def tp_cMach (pa tr td k m : Nat) (c : tp_C) : Option tp_C :=
  if k = 1 then tp_cPrep pa tr td m c else if k = 4 then tp_cCom pa tr td m c else tp_cRef tr m c
def tp_cDel (pa tr td : Nat) : tp_C → Option tp_C
  | (_, _, _, _, _, _, _, _, _, []) => none
  | (st, vo, he, se, lo, bk, ha, de, ph, (k, f, o) :: q) =>
    if o = 3 then (if f < 3 then tp_cLdr pa tr td k f (st, vo, he, se, lo, bk, ha, de, ph, q) else none)
    else if o < 3 then tp_cMach pa tr td k o (st, vo, he, se, lo, bk, ha, de, ph, q) else none
def tp_cStep (pa tr td : Nat) (c : tp_C) : Option tp_C :=
  if c.2.2.2.2.2.2.2.2.2.length = 0 then tp_cRem pa tr c else tp_cDel pa tr td c
def tp_cOver (pa : Nat) (c : tp_C) : Bool := decide ((c.1 = 2 ∨ c.1 = 3) ∧ c.2.2.1 = pa)
def tp_back (pa tr td : Nat) : Bool := decide (tr = 2 ∨ (tr = 1 ∧ pa.testBit td = true))
def tp_bkf (tr td : Nat) : Nat := if tr = 2 ∨ tr = 3 then 4 else if tr = 1 ∨ tr = 4 ∨ tr = 5 then td + 1 else 0
def tp_fin1 (pa : Nat) (de : Bool) (p m : Nat) : Bool :=
  if pa.testBit m = true then (if de = true then decide (p = 2 ∨ p = 6) else decide (p = 3 ∨ p = 5)) else decide (p = 0)
def tp_cFin (pa tr td : Nat) : tp_C → Bool
  | (_, _, _, _, _, bk, _, de, ph, _) =>
    decide (de = !(tp_back pa tr td)) && decide (bk = tp_bkf tr td) && tp_fin1 pa de (ph 0) 0 && tp_fin1 pa de (ph 1) 1 && tp_fin1 pa de (ph 2) 2
def tp_chk (pa tr td : Nat) : Nat → tp_C → Bool
  | 0, _ => false
  | n + 1, c => if tp_cOver pa c = true then tp_cFin pa tr td c else
    match tp_cStep pa tr td c with
    | none => false
    | some c' => tp_chk pa tr td n c'
def tp_c0 : tp_C := (1, 0, 0, 0, 0, 0, false, false, (fun _ => 0), [])
def tp_cIni (pa tr td : Nat) : Option tp_C :=
  if pa.testBit td = false ∧ tr = 1 then tp_cDown pa td (1, 0, 0, 0, 0, 0, true, false, (fun _ => 0), []) else some tp_c0
def tp_cAll (pa tr td : Nat) : Bool :=
  match (tp_cIni pa tr td).bind (tp_cDec pa tr td) with
  | none => false
  | some c => tp_chk pa tr td 60 c
theorem tp_all : ∀ pa, pa < 8 → ∀ tr, tr < 8 → ∀ td, td < 3 → tp_cAll pa tr td = true := by decide +kernel
end
section
/-! the law's row of four cells -/
def tp_u {α : Type} (f : Nat → α) (k : Nat) (v : α) : Nat → α := fun j => if j = k then v else f j
def tp_lb (x : Int64) (i : Nat) : Bool := x.toBitVec.getLsbD i
theorem tp_b_ext {x y : Int32} (h : ∀ i, i < 32 → tp_b x i = tp_b y i) : x = y := Int32.toBitVec_inj.mp (BitVec.eq_of_getLsbD_eq (fun i hi => h i hi))
theorem tp_l_or (x y : Int64) (i : Nat) : tp_lb (x ||| y) i = (tp_lb x i || tp_lb y i) := by unfold tp_lb; rw [Int64.toBitVec_or, BitVec.getLsbD_or]
theorem tp_l_and (x y : Int64) (i : Nat) : tp_lb (x &&& y) i = (tp_lb x i && tp_lb y i) := by unfold tp_lb; rw [Int64.toBitVec_and, BitVec.getLsbD_and]
theorem tp_l_xor (x y : Int64) (i : Nat) : tp_lb (x ^^^ y) i = (tp_lb x i ^^ tp_lb y i) := by unfold tp_lb; rw [Int64.toBitVec_xor, BitVec.getLsbD_xor]
theorem tp_l_m1 : ∀ i, i < 64 → tp_lb (-1) i = true := by decide +kernel
theorem tp_l_4095 : ∀ i, i < 64 → tp_lb 4095 i = decide (i < 12) := by decide +kernel
theorem tp_b_4095 : ∀ i, i < 32 → tp_b 4095 i = decide (i < 12) := by decide +kernel
theorem tp_lsh : ∀ k, k < 4 → ((((12 * nI k).toInt64 &&& 63).toBitVec).smod 64).toNat = 12 * k := by decide +kernel
theorem tp_l_shl {k : Nat} (hk : k < 4) (x : Int64) {i : Nat} (hi : i < 64) : tp_lb (x <<< ((12 * nI k).toInt64 &&& 63)) i = (decide (12 * k ≤ i) && tp_lb x (i - 12 * k)) := by
  unfold tp_lb
  rw [Int64.toBitVec_shiftLeft]
  show (x.toBitVec <<< (((12 * nI k).toInt64 &&& 63).toBitVec.smod 64).toNat).getLsbD i = _
  rw [tp_lsh k hk, BitVec.getLsbD_shiftLeft]
  rcases Nat.lt_or_ge i (12 * k) with h | h
  · simp [h, Nat.not_le.mpr h]
  · simp [hi, h, Nat.not_lt.mpr h]
theorem tp_l_shr {k : Nat} (hk : k < 4) (x : Int64) {i : Nat} (hi : 12 * k + i < 64) : tp_lb (x >>> ((12 * nI k).toInt64 &&& 63)) i = tp_lb x (12 * k + i) := by
  unfold tp_lb
  rw [Int64.toBitVec_shiftRight]
  show (x.toBitVec.sshiftRight (((12 * nI k).toInt64 &&& 63).toBitVec.smod 64).toNat).getLsbD i = _
  have h1 : i < 64 := by omega
  rw [tp_lsh k hk, BitVec.getLsbD_sshiftRight]
  simp [hi, h1]
def tp_cell (row : Int64) (k : Int32) : Int32 := ((row >>> ((12 * k).toInt64 &&& 63)).toInt32) &&& 4095
def tp_with (row : Int64) (k : Int32) (v : Int32) : Int64 := (row &&& (((4095 : Int64) <<< ((12 * k).toInt64 &&& 63)) ^^^ (-1))) ||| (v.toInt64 <<< ((12 * k).toInt64 &&& 63))
theorem tp_cell_b {k : Nat} (hk : k < 4) (row : Int64) {i : Nat} (hi : i < 32) : tp_b (tp_cell row (nI k)) i = (decide (i < 12) && tp_lb row (12 * k + i)) := by
  unfold tp_cell
  rw [tp_b_and, tp_b_4095 i hi]
  by_cases h : i < 12
  · have e : tp_b ((row >>> ((12 * nI k).toInt64 &&& 63)).toInt32) i = tp_lb (row >>> ((12 * nI k).toInt64 &&& 63)) i := by
      unfold tp_b tp_lb
      rw [Int64.toBitVec_toInt32, BitVec.getLsbD_signExtend]
      have h1 : i < 64 := by omega
      simp [hi, h1]
    rw [e, tp_l_shr hk row (by omega), Bool.and_comm]
  · simp [h]
theorem tp_l_nI {v : Nat} (hv : v < 4096) {i : Nat} (hi : i < 64) : tp_lb (nI v).toInt64 i = v.testBit i := by
  rw [nI_l (by omega)]
  unfold tp_lb
  show (BitVec.ofNat 64 v).getLsbD i = _
  rw [BitVec.getLsbD_ofNat]
  simp [hi]
theorem tp_tb12 {v i : Nat} (hv : v < 4096) (hi : 12 ≤ i) : v.testBit i = false := Nat.testBit_lt_two_pow (Nat.lt_of_lt_of_le hv (Nat.pow_le_pow_right (n := 2) (by omega) hi))
theorem tp_with_cell (row : Int64) {k j v : Nat} (hk : k < 4) (hj : j < 4) (hv : v < 4096) : tp_cell (tp_with row (nI k) (nI v)) (nI j) = if j = k then nI v else tp_cell row (nI j) := by
  apply tp_b_ext
  intro i hi
  rw [tp_cell_b hj _ hi]
  by_cases h : i < 12
  · unfold tp_with
    rw [tp_l_or, tp_l_and, tp_l_xor, tp_l_m1 _ (by omega), tp_l_shl hk _ (by omega), tp_l_shl hk _ (by omega), tp_l_4095 _ (by omega), tp_l_nI hv (by omega)]
    by_cases e : j = k
    · subst e
      rw [if_pos rfl, tp_b_nI hi]
      have h1 : 12 * j + i - 12 * j = i := by omega
      have h2 : 12 * j ≤ 12 * j + i := by omega
      simp [h, h1]
    · rw [if_neg e, tp_cell_b hj _ hi]
      rcases Nat.lt_or_ge j k with hl | hl
      · have h1 : ¬ 12 * k ≤ 12 * j + i := by omega
        simp [h, h1]
      · have h1 : ¬ 12 * j + i - 12 * k < 12 := by omega
        have h2 := tp_tb12 hv (i := 12 * j + i - 12 * k) (by omega)
        simp [h, h1, h2]
  · by_cases e : j = k
    · rw [if_pos e, tp_b_nI hi, tp_tb12 hv (by omega)]
      simp [h]
    · rw [if_neg e, tp_cell_b hj _ hi]
      simp [h]
/-! codes -/
def tp_z (n : Nat) : Int32 := nI n - 8
def tp_enc (n h : Nat) (w : Bool) (s : Nat) : Nat := n + 16 * h + (if w = true then 64 else 0) + 128 * s
theorem tp_enc_lt {n h : Nat} {w : Bool} {s : Nat} (hn : n < 16) (hh : h ≤ 3) (hs : s < 16) : tp_enc n h w s < 4096 := by
  unfold tp_enc
  split <;> omega
theorem tp_code0 : ∀ n, n < 16 → ∀ h, h < 4 → ∀ s, s < 16 → (((nI n ||| (nI h <<< ((4 : Int32) &&& 31))) ||| 0) ||| (nI s <<< ((7 : Int32) &&& 31))) = nI (tp_enc n h false s) := by decide +kernel
theorem tp_code1 : ∀ n, n < 16 → ∀ h, h < 4 → ∀ s, s < 16 → (((nI n ||| (nI h <<< ((4 : Int32) &&& 31))) ||| 64) ||| (nI s <<< ((7 : Int32) &&& 31))) = nI (tp_enc n h true s) := by decide +kernel
theorem tp_dec0 : ∀ n, n < 16 → ∀ h, h < 4 → ∀ s, s < 16 → ((nI (tp_enc n h false s) &&& 15) - 8 = tp_z n ∧ ((nI (tp_enc n h false s) >>> ((4 : Int32) &&& 31)) &&& 3) - 1 = tp_h h ∧ ((nI (tp_enc n h false s) >>> ((7 : Int32) &&& 31)) &&& 15) - 8 = tp_z s ∧ ((nI (tp_enc n h false s) >>> ((6 : Int32) &&& 31)) &&& 1) = 0) := by decide +kernel
theorem tp_dec1 : ∀ n, n < 16 → ∀ h, h < 4 → ∀ s, s < 16 → ((nI (tp_enc n h true s) &&& 15) - 8 = tp_z n ∧ ((nI (tp_enc n h true s) >>> ((4 : Int32) &&& 31)) &&& 3) - 1 = tp_h h ∧ ((nI (tp_enc n h true s) >>> ((7 : Int32) &&& 31)) &&& 15) - 8 = tp_z s ∧ ((nI (tp_enc n h true s) >>> ((6 : Int32) &&& 31)) &&& 1) = 1) := by decide +kernel
theorem tp_dec {n h s : Nat} {w : Bool} (hn : n < 16) (hh : h ≤ 3) (hs : s < 16) : ((nI (tp_enc n h w s) &&& 15) - 8 = tp_z n ∧ ((nI (tp_enc n h w s) >>> ((4 : Int32) &&& 31)) &&& 3) - 1 = tp_h h ∧ ((nI (tp_enc n h w s) >>> ((7 : Int32) &&& 31)) &&& 15) - 8 = tp_z s ∧ (((nI (tp_enc n h w s) >>> ((6 : Int32) &&& 31)) &&& 1) = 1 ↔ w = true)) := by
  cases w
  · obtain ⟨a, b, c, d⟩ := tp_dec0 n hn h (by omega) s hs
    exact ⟨a, b, c, by rw [d]; decide⟩
  · obtain ⟨a, b, c, d⟩ := tp_dec1 n hn h (by omega) s hs
    exact ⟨a, b, c, by rw [d]; decide⟩
theorem tp_z8 : ∀ n, n < 16 → tp_z n + 8 = nI n := by decide +kernel
theorem tp_h1 : ∀ n, n ≤ 3 → tp_h n + 1 = nI n := by decide +kernel
theorem tp_z_inj : ∀ n, n < 16 → ∀ m, m < 16 → tp_z n = tp_z m → n = m := by decide +kernel
/-! the row's picture -/
def tp_R (row : Int64) (n h : Nat → Nat) (w : Nat → Bool) (s : Nat → Nat) : Prop := ∀ k, k < 4 → n k < 16 ∧ h k ≤ 3 ∧ s k < 16 ∧ tp_cell row (nI k) = nI (tp_enc (n k) (h k) (w k) (s k))
theorem tp_R_c {row : Int64} {n h n' h' : Nat → Nat} {w w' : Nat → Bool} {s s' : Nat → Nat} (R : tp_R row n h w s) (E : ∀ k, k < 4 → n' k = n k ∧ h' k = h k ∧ w' k = w k ∧ s' k = s k) : tp_R row n' h' w' s' := by
  intro k hk
  obtain ⟨e1, e2, e3, e4⟩ := E k hk
  rw [e1, e2, e3, e4]
  exact R k hk
theorem tp_R_with {row : Int64} {n h : Nat → Nat} {w : Nat → Bool} {s : Nat → Nat} (R : tp_R row n h w s) {k a b d : Nat} {c : Bool} (hk : k < 4) (ha : a < 16) (hb : b ≤ 3) (hd : d < 16) : tp_R (tp_with row (nI k) (nI (tp_enc a b c d))) (tp_u n k a) (tp_u h k b) (tp_u w k c) (tp_u s k d) := by
  intro j hj
  rw [tp_with_cell row hk hj (tp_enc_lt ha hb hd)]
  unfold tp_u
  by_cases e : j = k
  · simp [e, ha, hb, hd]
  · simp only [e, if_false]
    exact R j hj
end
section
/-! the law's helpers -/
theorem tp_w_with {post : Int64 → Prop} {row : Int64} {n h : Nat → Nat} {w : Nat → Bool} {s : Nat → Nat} (R : tp_R row n h w s) {k a b d : Nat} (c : Bool) {p2 p3 p4 p5 : Int32} (hk : k < 4) (ha : a < 16) (hb : b ≤ 3) (hd : d < 16)
    (e2 : p2 = tp_z a) (e3 : p3 = tp_h b) (e4 : p4 = if c = true then 1 else 0) (e5 : p5 = tp_z d)
    (H : ∀ row', tp_R row' (tp_u n k a) (tp_u h k b) (tp_u w k c) (tp_u s k d) → post row') : wpL_with post () row (nI k) p2 p3 p4 p5 := by
  subst e2 e3 e4 e5
  have F := H _ (tp_R_with R (c := c) hk ha hb hd)
  cases c
  · refine br_t rfl (nm_r (e' := (nI (tp_enc a b false d)).toInt64) ?_ F)
    rw [tp_z8 a ha, tp_h1 b hb, tp_z8 d hd, tp_code0 a ha b (by omega) d hd]
  · refine br_f (by decide) (nm_r (e' := (nI (tp_enc a b true d)).toInt64) ?_ F)
    rw [tp_z8 a ha, tp_h1 b hb, tp_z8 d hd, tp_code1 a ha b (by omega) d hd]
/-- what one cell shows -/
theorem tp_R_at {row : Int64} {n h : Nat → Nat} {w : Nat → Bool} {s : Nat → Nat} (R : tp_R row n h w s) {k : Nat} (hk : k < 4) : (tp_cell row (nI k) &&& 15) - 8 = tp_z (n k) ∧ ((tp_cell row (nI k) >>> ((4 : Int32) &&& 31)) &&& 3) - 1 = tp_h (h k) ∧ ((tp_cell row (nI k) >>> ((7 : Int32) &&& 31)) &&& 15) - 8 = tp_z (s k) ∧ (((tp_cell row (nI k) >>> ((6 : Int32) &&& 31)) &&& 1) = 1 ↔ w k = true) := by
  obtain ⟨a, b, c, d⟩ := R k hk
  rw [d]
  exact tp_dec a b c
def tp_eN (t : Nat) (c : Bool) (i : Nat) (n h : Nat → Nat) (w : Nat → Bool) (s : Nat → Nat) : Nat → Nat := fun k => if k < i ∧ h k = t + 1 ∧ c = true ∧ w k = true then s k else n k
def tp_eH (t i : Nat) (h : Nat → Nat) : Nat → Nat := fun k => if k < i ∧ h k = t + 1 then 0 else h k
def tp_eW (t i : Nat) (h : Nat → Nat) (w : Nat → Bool) : Nat → Bool := fun k => if k < i ∧ h k = t + 1 then false else w k
def tp_eS (t i : Nat) (h s : Nat → Nat) : Nat → Nat := fun k => if k < i ∧ h k = t + 1 then 8 else s k
theorem tp_w_ended {post : Int64 → Prop} {row : Int64} {n h : Nat → Nat} {w : Nat → Bool} {s : Nat → Nat} (R : tp_R row n h w s) {t : Nat} (ht : t < 4) (c : Bool) {p2 : Int32} (e2 : p2 = if c = true then 1 else 0)
    (H : ∀ row', tp_R row' (tp_eN t c 4 n h w s) (tp_eH t 4 h) (tp_eW t 4 h w) (tp_eS t 4 h s) → post row') : wpL_ended post () row (nI t) p2 := by
  refine pk_loop (fun m i r => wL_ended_6 post row (nI t) p2 m r (nI i)) (fun i r => tp_R r (tp_eN t c i n h w s) (tp_eH t i h) (tp_eW t i h w) (tp_eS t i h s)) 4 0 row (by omega) ?_ ?_ ?_
  · refine tp_R_c R (fun k _ => ?_)
    simp [tp_eN, tp_eH, tp_eW, tp_eS]
  · intro m r hr
    exact pk_le 4 4 (fun _ => H r hr) (fun z => absurd z (by omega))
  · intro m i r hi hr hw
    obtain ⟨r1, r2, r3, _⟩ := R i hi
    obtain ⟨c1, c2, c3, c4⟩ := tp_R_at R hi
    have key : ∀ z0 : Int32, ∀ d : Bool, (z0 = if d = true then 1 else 0) → (d = true ↔ (c = true ∧ w i = true)) → wL_ended_40 post (wL_ended_6 post row (nI t) p2 m) row (nI t) p2 r (nI i) (tp_cell row (nI i)) z0 := by
      intro z0 d ez ed
      have hne : ¬ h i = t + 1 → wL_ended_6 post row (nI t) p2 m r (nI (i + 1)) := by
        intro ne
        refine hw r (tp_R_c hr (fun k hk => ?_))
        by_cases ek : k = i
        · subst ek
          simp [tp_eN, tp_eH, tp_eW, tp_eS, ne]
        · have e2 : (k < i + 1) = (k < i) := by
            apply propext; omega
          simp only [tp_eN, tp_eH, tp_eW, tp_eS, e2]
          simp
      have hye : ∀ a, a < 16 → a = (if d = true then s i else n i) → h i = t + 1 → ∀ r', tp_R r' (tp_u (tp_eN t c i n h w s) i a) (tp_u (tp_eH t i h) i 0) (tp_u (tp_eW t i h w) i false) (tp_u (tp_eS t i h s) i 8) → wL_ended_6 post row (nI t) p2 m r' (nI (i + 1)) := by
        intro a _ ea eh r' hr'
        refine hw r' (tp_R_c hr' (fun k hk => ?_))
        by_cases ek : k = i
        · subst ek
          have hd : (c = true ∧ w k = true) = (d = true) := propext ed.symm
          simp [tp_eN, tp_eH, tp_eW, tp_eS, tp_u, eh, ea, hd]
        · have e2 : (k < i + 1) = (k < i) := by
            apply propext; omega
          simp [tp_eN, tp_eH, tp_eW, tp_eS, tp_u, e2, ek]
      refine ek_if (d := h i = t + 1) (by rw [c2]; exact tp_h_eq _ r2 _ ht) (fun eh => ?_) (fun ne => nm_r (nI_1 i) (hne ne))
      subst ez
      cases d
      · refine br_t rfl ?_
        exact tp_w_with hr false (k := i) (a := n i) (b := 0) (d := 8) hi r1 (by omega) (by omega) c1 (by decide) rfl (by decide) (fun r' hr' => nm_r (nI_1 i) (hye (n i) r1 rfl eh r' hr'))
      · refine br_f (by decide) ?_
        exact tp_w_with hr false (k := i) (a := s i) (b := 0) (d := 8) hi r3 (by omega) (by omega) c3 (by decide) rfl (by decide) (fun r' hr' => nm_r (nI_1 i) (hye (s i) r3 rfl eh r' hr'))
    refine pk_le 4 i (fun z => absurd z (by omega)) (fun _ => ?_)
    subst e2
    cases c
    · exact br_t rfl (key 0 false rfl (by simp))
    · refine br_f (by decide) (ek_if c4 (fun z => key 1 true rfl (by simp [z])) (fun z => key 0 false rfl (by simp [z])))
/-- clearing a set -/
def tp_kH (B i : Nat) (h : Nat → Nat) : Nat → Nat := fun k => if h k ≠ 0 ∧ h k ≤ i ∧ B.testBit (h k - 1) = true then 0 else h k
def tp_kW (B i : Nat) (h : Nat → Nat) (w : Nat → Bool) : Nat → Bool := fun k => if h k ≠ 0 ∧ h k ≤ i ∧ B.testBit (h k - 1) = true then false else w k
def tp_kS (B i : Nat) (h s : Nat → Nat) : Nat → Nat := fun k => if h k ≠ 0 ∧ h k ≤ i ∧ B.testBit (h k - 1) = true then 8 else s k
theorem tp_w_cleared {post : Int64 → Prop} {row : Int64} {n h : Nat → Nat} {w : Nat → Bool} {s : Nat → Nat} (R : tp_R row n h w s) {B : Nat}
    (H : ∀ row', tp_R row' n (tp_kH B 3 h) (tp_kW B 3 h w) (tp_kS B 3 h s) → post row') : wpL_cleared post () row (nI B) := by
  refine pk_loop (fun m i r => wL_cleared_5 post (nI B) m r (nI i)) (fun i r => tp_R r n (tp_kH B i h) (tp_kW B i h w) (tp_kS B i h s)) 3 0 row (by omega) ?_ ?_ ?_
  · refine tp_R_c R (fun k _ => ?_)
    have e : ∀ x : Nat, (x ≠ 0 ∧ x ≤ 0 ∧ B.testBit (x - 1) = true) = False := fun x => by
      apply propext
      constructor
      · rintro ⟨a, b, _⟩; omega
      · exact False.elim
    simp only [tp_kH, tp_kW, tp_kS, e, if_false]
    simp
  · intro m r hr
    exact pk_le 3 3 (fun _ => H r hr) (fun z => absurd z (by omega))
  · intro m i r hi hr hw
    refine pk_le 3 i (fun z => absurd z (by omega)) (fun _ => ek_if (tp_tb1 (by omega)) (fun hb => ?_) (fun hb => ?_))
    · refine tp_w_ended hr (t := i) (by omega) false rfl (fun r' hr' => nm_r (nI_1 i) (hw r' (tp_R_c hr' (fun k hk => ?_))))
      unfold tp_kH tp_kW tp_kS tp_eN tp_eH tp_eW tp_eS
      by_cases c1 : h k = i + 1
      · simp [c1, hb, hk]
      · by_cases c2 : h k ≠ 0 ∧ h k ≤ i ∧ B.testBit (h k - 1) = true
        · have c3 : h k ≠ 0 ∧ h k ≤ i + 1 ∧ B.testBit (h k - 1) = true := ⟨c2.1, by omega, c2.2.2⟩
          simp only [if_pos c2, if_pos c3]
          simp
        · have c3 : ¬ (h k ≠ 0 ∧ h k ≤ i + 1 ∧ B.testBit (h k - 1) = true) := fun z => c2 ⟨z.1, by omega, z.2.2⟩
          simp only [if_neg c2, if_neg c3]
          simp [c1]
    · refine nm_r (nI_1 i) (hw r (tp_R_c hr (fun k hk => ?_)))
      unfold tp_kH tp_kW tp_kS
      have e : (h k ≠ 0 ∧ h k ≤ i + 1 ∧ B.testBit (h k - 1) = true) = (h k ≠ 0 ∧ h k ≤ i ∧ B.testBit (h k - 1) = true) := by
        apply propext
        constructor
        · rintro ⟨a, b, c⟩
          refine ⟨a, ?_, c⟩
          rcases Nat.lt_or_ge i (h k) with z | z
          · have : h k - 1 = i := by omega
            rw [this] at c
            exact absurd c hb
          · exact z
        · rintro ⟨a, b, c⟩
          exact ⟨a, by omega, c⟩
      simp only [e]
      simp
/-- who is on a machine, by the row -/
theorem tp_w_on {post : Int32 → Prop} {row : Int64} {n h : Nat → Nat} {w : Nat → Bool} {s : Nat → Nat} (R : tp_R row n h w s) {m : Nat} (hm : m < 3)
    (H : ∀ S, S < 8 → (∀ t, t < 3 → (S.testBit t = true ↔ ∃ k, k < 4 ∧ k % 3 = m ∧ h k = t + 1)) → post (nI S)) : wpL_on post () row (nI m) := by
  refine Exists.elim (pk_loop (fun f i (x : Nat) => wL_on_5 post row (nI m) f (nI x) (nI i)) (fun i S => S < 8 ∧ ∀ t, t < 3 → (S.testBit t = true ↔ ∃ k, k < i ∧ k % 3 = m ∧ h k = t + 1)) 4 0 0 (by omega) ?_ ?_ ?_) (fun f hf => ⟨f, hf⟩)
  · refine ⟨by omega, fun t _ => ⟨fun z => ?_, fun ⟨k, a, _⟩ => absurd a (by omega)⟩⟩
    rw [Nat.zero_testBit] at z
    exact absurd z (by decide)
  · intro f S hS
    exact pk_le 4 4 (fun _ => H S hS.1 hS.2) (fun z => absurd z (by omega))
  · intro f i S hi hS hw
    obtain ⟨h8, hS⟩ := hS
    obtain ⟨r1, r2, r3, _⟩ := R i hi
    obtain ⟨c1, c2, c3, c4⟩ := tp_R_at R hi
    have skip : (h i = 0 ∨ i % 3 ≠ m) → wL_on_5 post row (nI m) f (nI S) (nI (i + 1)) := by
      intro z
      refine hw S ⟨h8, fun t ht => (hS t ht).trans ⟨fun ⟨k, a, b, c⟩ => ⟨k, by omega, b, c⟩, fun ⟨k, a, b, c⟩ => ⟨k, ?_, b, c⟩⟩⟩
      rcases Nat.lt_or_ge k i with y | y
      · exact y
      · have ek : k = i := by omega
        subst ek
        rcases z with z | z
        · omega
        · exact absurd b z
    have take : h i ≠ 0 → i % 3 = m → wL_on_40 post (wL_on_5 post row (nI m) f) row (nI m) (nI S) (nI i) (nI (h i - 1)) := by
      intro z0 z1
      obtain ⟨q1, q2, q3⟩ := tp_set8 S h8 (h i - 1) (by omega)
      refine nm_r q1 (nm_r (nI_1 i) (hw _ ⟨q2, fun t ht => ?_⟩))
      rw [q3 t ht, Bool.or_eq_true, hS t ht, decide_eq_true_eq]
      constructor
      · rintro (⟨k, a, b, c⟩ | e)
        · exact ⟨k, by omega, b, c⟩
        · exact ⟨i, by omega, z1, by omega⟩
      · rintro ⟨k, a, b, c⟩
        rcases Nat.lt_or_ge k i with y | y
        · exact Or.inl ⟨k, y, b, c⟩
        · have ek : k = i := by omega
          subst ek
          exact Or.inr (by omega)
    refine pk_le 4 i (fun z => absurd z (by omega)) (fun _ => ?_)
    show ((((tp_cell row (nI i) >>> ((4 : Int32) &&& 31)) &&& 3) - 1 < 0 → _) ∧ (¬ ((tp_cell row (nI i) >>> ((4 : Int32) &&& 31)) &&& 3) - 1 < 0 → _))
    rw [c2]
    refine ek_if (tp_h_neg _ r2) (fun z => nm_r (nI_1 i) (skip (Or.inl z))) (fun z => ?_)
    have c2' : (((((row >>> ((12 * nI i).toInt64 &&& 63)).toInt32) &&& 4095) >>> ((4 : Int32) &&& 31)) &&& 3) - 1 = nI (h i - 1) := c2.trans (tp_h_nI z)
    rw [c2']
    refine pk_eq m 3 (fun z => absurd z (by omega)) (fun _ => ⟨by decide, ?_⟩)
    refine ek_if (d := i % 3 = m) ?_ (fun y => take z y) (fun y => nm_r (nI_1 i) (skip (Or.inr y)))
    have e := pk_rem (a := i) (d := 3) (by omega) (by omega) (by omega)
    rw [show (3 : Int32) = nI 3 from rfl, e, nI_eq (by omega) (by omega)]
theorem tp_ones : ∀ S, S < 8 → (((nI S &&& 1) + ((nI S >>> ((1 : Int32) &&& 31)) &&& 1)) + ((nI S >>> ((2 : Int32) &&& 31)) &&& 1)) = nI ((if S.testBit 0 = true then 1 else 0) + (if S.testBit 1 = true then 1 else 0) + (if S.testBit 2 = true then 1 else 0)) := by decide +kernel
end
section
/-! the component's data pictures: H holder + 1, W written, P promise, G gone -/
def tp_D (H : Nat → Nat) (W : Nat → Nat → Bool) (P : Nat → Nat → Nat) (G : Nat → Nat → Bool) (a8 a9 a11 a12 : Nat → Int32) : Prop :=
  (∀ k, k < 12 → H k ≤ 3 ∧ a8 k = tp_h (H k)) ∧ (∀ j, j < 4 → ∀ k, k < 12 → tp_b (a9 j) k = W j k) ∧ (∀ j, j < 4 → ∀ i, i < 3 → a11 (j * 3 + i) = nI (P j i)) ∧ (∀ j, j < 4 → ∀ i, i < 3 → a12 (j * 3 + i) = if G j i = true then 1 else 0)
theorem tp_D_c {H H' : Nat → Nat} {W W' : Nat → Nat → Bool} {P P' : Nat → Nat → Nat} {G G' : Nat → Nat → Bool} {a8 a9 a11 a12 : Nat → Int32} (h : tp_D H W P G a8 a9 a11 a12)
    (e1 : ∀ k, k < 12 → H' k = H k) (e2 : ∀ j, j < 4 → ∀ k, k < 12 → W' j k = W j k) (e3 : ∀ j, j < 4 → ∀ i, i < 3 → P' j i = P j i) (e4 : ∀ j, j < 4 → ∀ i, i < 3 → G' j i = G j i) : tp_D H' W' P' G' a8 a9 a11 a12 := by
  obtain ⟨h1, h2, h3, h4⟩ := h
  refine ⟨fun k hk => ?_, fun j hj k hk => ?_, fun j hj i hi => ?_, fun j hj i hi => ?_⟩
  · rw [e1 k hk]; exact h1 k hk
  · rw [e2 j hj k hk]; exact h2 j hj k hk
  · rw [e3 j hj i hi]; exact h3 j hj i hi
  · rw [e4 j hj i hi]; exact h4 j hj i hi
theorem tp_or0 (x : Int32) : x ||| 0 = x := Int32.or_zero
theorem tp_p3 (m i : Nat) : nI (m + 3 * i) + 3 = nI (m + 3 * (i + 1)) := nI_add (m + 3 * i) 3
theorem tp_w_holdersOn {post : Int32 → Prop} {g1 g2 g3 g4 g5 g6 g7 g8 g9 g10 g11 g12 g13 g14 g15 g16 : Int32} {a1 a2 a3 a4 a5 a6 a7 a8 a9 a10 a11 a12 a13 a14 a15 a16 : Nat → Int32} {H : Nat → Nat} (D : ∀ k, k < 12 → H k ≤ 3 ∧ a8 k = tp_h (H k)) {m : Nat} (hm : m < 3)
    (K : ∀ S, S < 8 → (∀ t, t < 3 → (S.testBit t = true ↔ ∃ k, k < 12 ∧ k % 3 = m ∧ H k = t + 1)) → post (nI S)) : wpX_holdersOn post (g1, g2, g3, g4, g5, g6, g7, g8, g9, g10, g11, g12, g13, g14, g15, g16, a1, a2, a3, a4, a5, a6, a7, a8, a9, a10, a11, a12, a13, a14, a15, a16) (nI m) := by
  refine Exists.elim (pk_loop (fun f i (S : Nat) => wX_holdersOn_4 post g1 g2 g3 g4 g5 g6 g7 g8 g9 g10 g11 g12 g13 g14 g15 g16 a1 a2 a3 a4 a5 a6 a7 a8 a9 a10 a11 a12 a13 a14 a15 a16 f (nI S) (nI (m + 3 * i))) (fun i S => S < 8 ∧ ∀ t, t < 3 → (S.testBit t = true ↔ ∃ k, k < m + 3 * i ∧ k % 3 = m ∧ H k = t + 1)) 4 0 0 (by omega) ?_ ?_ ?_) (fun f hf => ⟨f, hf⟩)
  · refine ⟨by omega, fun t _ => ⟨fun z => ?_, fun ⟨k, a, b, _⟩ => absurd a (by omega)⟩⟩
    rw [Nat.zero_testBit] at z
    exact absurd z (by decide)
  · intro f S hS
    refine pk_le 12 (m + 3 * 4) (fun _ => K S hS.1 (fun t ht => (hS.2 t ht).trans ⟨fun ⟨k, a, b, c⟩ => ⟨k, by omega, b, c⟩, fun ⟨k, a, b, c⟩ => ⟨k, by omega, b, c⟩⟩)) (fun z => absurd z (by omega))
  · intro f i S hi hS hw
    obtain ⟨h8, hS⟩ := hS
    have hk : m + 3 * i < 12 := by omega
    obtain ⟨r2, c2⟩ := D _ hk
    have ec : (nI (m + 3 * i)).toNatClampNeg = m + 3 * i := nI_clamp (by omega)
    refine pk_le 12 (m + 3 * i) (fun z => absurd z (by omega)) (fun _ => ⟨pk_in (m + 3 * i) 12 hk, ek_if (d := H (m + 3 * i) = 0) (by rw [ec, c2]; exact tp_h_m1 _ r2) (fun z => ?_) (fun z => ⟨pk_in (m + 3 * i) 12 hk, ?_⟩)⟩)
    · refine nm_r (tp_or0 _) (nm_r (tp_p3 m i) (hw S ⟨h8, fun t ht => (hS t ht).trans ⟨fun ⟨k, a, b, c⟩ => ⟨k, by omega, b, c⟩, fun ⟨k, a, b, c⟩ => ⟨k, ?_, b, c⟩⟩⟩))
      rcases Nat.lt_or_ge k (m + 3 * i) with y | y
      · exact y
      · have ek : k = m + 3 * i := by omega
        subst ek
        omega
    · obtain ⟨q1, q2, q3⟩ := tp_set8 S h8 (H (m + 3 * i) - 1) (by omega)
      refine nm_r (e' := nI (S ||| 2 ^ (H (m + 3 * i) - 1))) (by rw [ec, c2, tp_h_nI z, q1]) (nm_r (tp_p3 m i) (hw _ ⟨q2, fun t ht => ?_⟩))
      rw [q3 t ht, Bool.or_eq_true, hS t ht, decide_eq_true_eq]
      constructor
      · rintro (⟨k, a, b, c⟩ | e)
        · exact ⟨k, by omega, b, c⟩
        · exact ⟨m + 3 * i, by omega, by omega, by omega⟩
      · rintro ⟨k, a, b, c⟩
        rcases Nat.lt_or_ge k (m + 3 * i) with y | y
        · exact Or.inl ⟨k, y, b, c⟩
        · have ek : k = m + 3 * i := by omega
          subst ek
          exact Or.inr (by omega)
/-! releasing -/
def tp_rH (t m i : Nat) (H : Nat → Nat) : Nat → Nat := fun k => if k % 3 = m ∧ k < m + 3 * i ∧ H k = t + 1 then 0 else H k
def tp_rW (t m i : Nat) (W : Nat → Nat → Bool) : Nat → Nat → Bool := fun j k => if j = t ∧ k % 3 = m ∧ k < m + 3 * i then false else W j k
def tp_rP (t m : Nat) (P : Nat → Nat → Nat) : Nat → Nat → Nat := fun j x => if j = t ∧ x = m then 0 else P j x
theorem tp_w_releaseOn {post : St1 → Prop} {g1 g2 g3 g4 g5 g6 g7 g8 g9 g10 g11 g12 g13 g14 g15 g16 : Int32} {a1 a2 a3 a4 a5 a6 a7 a8 a9 a10 a11 a12 a13 a14 a15 a16 : Nat → Int32} {H : Nat → Nat} {W : Nat → Nat → Bool} {P : Nat → Nat → Nat} {G : Nat → Nat → Bool} (D : tp_D H W P G a8 a9 a11 a12) {t m : Nat} (ht : t < 4) (hm : m < 3)
    (K : ∀ a8' a9' a11', tp_D (tp_rH t m 4 H) (tp_rW t m 4 W) (tp_rP t m P) G a8' a9' a11' a12 → post (g1, g2, g3, g4, g5, g6, g7, g8, g9, g10, g11, g12, g13, g14, g15, g16, a1, a2, a3, a4, a5, a6, a7, a8', a9', a10, a11', a12, a13, a14, a15, a16)) : wpX_releaseOn post (g1, g2, g3, g4, g5, g6, g7, g8, g9, g10, g11, g12, g13, g14, g15, g16, a1, a2, a3, a4, a5, a6, a7, a8, a9, a10, a11, a12, a13, a14, a15, a16) (nI t) (nI m) := by
  obtain ⟨d1, d2, d3, d4⟩ := D
  refine pk_loop (fun f i (s : (Nat → Int32) × (Nat → Int32)) => wX_releaseOn_2 post (nI t) (nI m) g1 g2 g3 g4 g5 g6 g7 g8 g9 g10 g11 g12 g13 g14 g15 g16 f (nI (m + 3 * i)) a1 a2 a3 a4 a5 a6 a7 s.1 s.2 a10 a11 a12 a13 a14 a15 a16) (fun i s => (∀ k, k < 12 → s.1 k = tp_h (tp_rH t m i H k)) ∧ (∀ j, j < 4 → ∀ k, k < 12 → tp_b (s.2 j) k = tp_rW t m i W j k)) 4 0 (a8, a9) (by omega) ?_ ?_ ?_
  · refine ⟨fun k hk => ?_, fun j hj k hk => ?_⟩
    · have e : ¬ (k % 3 = m ∧ k < m + 3 * 0 ∧ H k = t + 1) := by omega
      simp only [tp_rH, if_neg e]
      exact (d1 k hk).2
    · have e : ¬ (j = t ∧ k % 3 = m ∧ k < m + 3 * 0) := by omega
      simp only [tp_rW, if_neg e]
      exact d2 j hj k hk
  · intro f s hs
    refine pk_le 12 (m + 3 * 4) (fun _ => ⟨pk_in (t * 3 + m) 12 (by omega) (tp_ix3 t m), nm_e (K _ _ _ ⟨fun k hk => ⟨?_, hs.1 k hk⟩, hs.2, fun j hj x hx => ?_, d4⟩)⟩) (fun z => absurd z (by omega))
    · have := (d1 k hk).1
      unfold tp_rH
      split <;> omega
    · rw [tp_ix3 t m, nI_clamp (by omega), tp_upd']
      unfold tp_rP
      by_cases e : j = t ∧ x = m
      · rw [if_pos e, if_pos (by omega)]; rfl
      · rw [if_neg e, if_neg (by omega)]
        exact d3 j hj x hx
  · intro f i s hi hs hw
    obtain ⟨s1, s2⟩ := hs
    have hk : m + 3 * i < 12 := by omega
    have ec : (nI (m + 3 * i)).toNatClampNeg = m + 3 * i := nI_clamp (by omega)
    have et : (nI t).toNatClampNeg = t := nI_clamp (by omega)
    have r2 := (d1 _ hk).1
    have hkH : s.1 (m + 3 * i) = tp_h (H (m + 3 * i)) := by
      rw [s1 _ hk]
      unfold tp_rH
      rw [if_neg (by omega)]
    have step : ∀ v, v ≤ 3 → v = (if H (m + 3 * i) = t + 1 then 0 else H (m + 3 * i)) → wX_releaseOn_33 post (wX_releaseOn_2 post (nI t) (nI m) g1 g2 g3 g4 g5 g6 g7 g8 g9 g10 g11 g12 g13 g14 g15 g16 f) (nI t) (nI m) (nI (m + 3 * i)) (tp_h v) (nI (m + 3 * i)) g1 g2 g3 g4 g5 g6 g7 g8 g9 g10 g11 g12 g13 g14 g15 g16 a1 a2 a3 a4 a5 a6 a7 s.1 s.2 a10 a11 a12 a13 a14 a15 a16 := by
      intro v hv ev
      refine ⟨pk_in (m + 3 * i) 12 hk, nm_r (e' := upd s.1 (m + 3 * i) (tp_h v)) (by rw [ec, vp_nar_byte, tp_h_by v hv]) ⟨pk_in t 4 ht, pk_in t 4 ht, nm_e (nm_r (tp_p3 m i) (hw (_, _) ⟨fun k hk' => ?_, fun j hj k hk' => ?_⟩))⟩⟩
      · show upd s.1 (m + 3 * i) (tp_h v) k = _
        rw [tp_upd']
        by_cases e : k = m + 3 * i
        · rw [if_pos e, ev, e]
          unfold tp_rH
          by_cases e2 : H (m + 3 * i) = t + 1
          · rw [if_pos e2, if_pos (by omega)]
          · rw [if_neg e2, if_neg (by omega)]
        · rw [if_neg e, s1 k hk']
          unfold tp_rH
          by_cases e2 : k % 3 = m ∧ k < m + 3 * i ∧ H k = t + 1
          · rw [if_pos e2, if_pos (by omega)]
          · rw [if_neg e2, if_neg (by omega)]
      · show tp_b (upd s.2 (nI t).toNatClampNeg _ j) k = _
        rw [et, tp_upd']
        by_cases e : j = t
        · rw [if_pos e, tp_b_s16 (by omega), tp_b_clr (by omega) (by omega), s2 t ht k hk', e]
          unfold tp_rW
          by_cases e2 : k = m + 3 * i
          · rw [if_pos (show t = t ∧ k % 3 = m ∧ k < m + 3 * (i + 1) by omega)]
            simp [e2]
          · by_cases e3 : t = t ∧ k % 3 = m ∧ k < m + 3 * i
            · rw [if_pos e3, if_pos (by omega)]; rfl
            · rw [if_neg e3, if_neg (by omega)]
              simp [e2]
        · rw [if_neg e, s2 j hj k hk']
          unfold tp_rW
          rw [if_neg (by omega), if_neg (by omega)]
    refine pk_le 12 (m + 3 * i) (fun z => absurd z (by omega)) (fun _ => ⟨pk_in (m + 3 * i) 12 hk, ek_if (d := H (m + 3 * i) = t + 1) (by rw [ec, hkH]; exact tp_h_eq _ r2 _ ht) (fun z => step 0 (by omega) (by rw [if_pos z])) (fun z => ⟨pk_in (m + 3 * i) 12 hk, ?_⟩)⟩)
    have y := step _ r2 (by rw [if_neg z])
    rw [ec, hkH]
    exact y
/-! rolling back -/
def tp_oH (t i : Nat) (H : Nat → Nat) : Nat → Nat := fun k => if k % 3 < i ∧ H k = t + 1 then 0 else H k
def tp_oW (t i : Nat) (W : Nat → Nat → Bool) : Nat → Nat → Bool := fun j k => if j = t ∧ k % 3 < i then false else W j k
def tp_oP (t i : Nat) (P : Nat → Nat → Nat) : Nat → Nat → Nat := fun j x => if j = t ∧ x < i then 0 else P j x
theorem tp_w_rollBack {post : St1 → Prop} {g1 g2 g3 g4 g5 g6 g7 g8 g9 g10 g11 g12 g13 g14 g15 g16 : Int32} {a1 a2 a3 a4 a5 a6 a7 a8 a9 a10 a11 a12 a13 a14 a15 a16 : Nat → Int32} {H : Nat → Nat} {W : Nat → Nat → Bool} {P : Nat → Nat → Nat} {G : Nat → Nat → Bool} (D : tp_D H W P G a8 a9 a11 a12) {t O : Nat} (ht : t < 3) (hO : O < 8) (eO : g1 = nI O)
    (K : ∀ a8' a9' a11', tp_D (tp_oH t 3 H) (tp_oW t 3 W) (tp_oP t 3 P) G a8' a9' a11' a12 → post (nI (tp_clr O (2 ^ t)), g2, g3, g4, g5, g6, g7, g8, g9, g10, g11, g12, g13, g14, g15, g16, a1, a2, a3, a4, a5, a6, a7, a8', a9', a10, a11', a12, a13, a14, a15, a16)) : wpX_rollBack post (g1, g2, g3, g4, g5, g6, g7, g8, g9, g10, g11, g12, g13, g14, g15, g16, a1, a2, a3, a4, a5, a6, a7, a8, a9, a10, a11, a12, a13, a14, a15, a16) (nI t) := by
  subst eO
  refine pk_loop (fun f i (s : (Nat → Int32) × (Nat → Int32) × (Nat → Int32)) => wX_rollBack_2 post (nI t) f (nI i) (nI O) g2 g3 g4 g5 g6 g7 g8 g9 g10 g11 g12 g13 g14 g15 g16 a1 a2 a3 a4 a5 a6 a7 s.1 s.2.1 a10 s.2.2 a12 a13 a14 a15 a16) (fun i s => tp_D (tp_oH t i H) (tp_oW t i W) (tp_oP t i P) G s.1 s.2.1 s.2.2 a12) 3 0 (a8, a9, a11) (by omega) ?_ ?_ ?_
  · refine tp_D_c D (fun k hk => ?_) (fun j hj k hk => ?_) (fun j hj x hx => ?_) (fun _ _ _ _ => rfl)
    · simp [tp_oH]
    · simp [tp_oW]
    · simp [tp_oP]
  · intro f s hs
    exact pk_le 3 3 (fun _ => nm_r (tp_clr8 O hO t ht).1 (K _ _ _ hs)) (fun z => absurd z (by omega))
  · intro f i s hi hs hw
    refine pk_le 3 i (fun z => absurd z (by omega)) (fun _ => tp_w_releaseOn hs (t := t) (m := i) (by omega) (by omega) (fun a8' a9' a11' h => nm_r (nI_1 i) (hw (a8', a9', a11') (tp_D_c h (fun k hk => ?_) (fun j hj k hk => ?_) (fun j hj x hx => ?_) (fun _ _ _ _ => rfl)))))
    · by_cases e : H k = t + 1
      · by_cases e1 : k % 3 < i
        · have q : tp_oH t i H k = 0 := if_pos ⟨e1, e⟩
          have q2 : tp_oH t (i + 1) H k = 0 := if_pos ⟨by omega, e⟩
          have q3 : tp_rH t i 4 (tp_oH t i H) k = tp_oH t i H k := if_neg (fun z => absurd z.2.2 (by rw [q]; omega))
          rw [q2, q3, q]
        · have q : tp_oH t i H k = H k := if_neg (fun z => e1 z.1)
          by_cases e2 : k % 3 = i
          · have q2 : tp_oH t (i + 1) H k = 0 := if_pos ⟨by omega, e⟩
            have q3 : tp_rH t i 4 (tp_oH t i H) k = 0 := if_pos ⟨e2, by omega, by rw [q]; exact e⟩
            rw [q2, q3]
          · have q2 : tp_oH t (i + 1) H k = H k := if_neg (fun z => absurd z.1 (by omega))
            have q3 : tp_rH t i 4 (tp_oH t i H) k = tp_oH t i H k := if_neg (fun z => e2 z.1)
            rw [q2, q3, q]
      · have q : tp_oH t i H k = H k := if_neg (fun z => e z.2)
        have q2 : tp_oH t (i + 1) H k = H k := if_neg (fun z => e z.2)
        have q3 : tp_rH t i 4 (tp_oH t i H) k = tp_oH t i H k := if_neg (fun z => e (by rw [← q]; exact z.2.2))
        rw [q2, q3, q]
    · simp only [tp_oW, tp_rW]
      by_cases e : j = t
      · by_cases e1 : k % 3 < i
        · simp [e, e1, show k % 3 < i + 1 by omega]
        · by_cases e2 : k % 3 = i
          · rw [if_pos ⟨e, by omega⟩, if_pos ⟨e, e2, by omega⟩]
          · simp [e1, e2, show ¬ k % 3 < i + 1 by omega]
      · simp [e]
    · simp only [tp_oP, tp_rP]
      by_cases e : j = t
      · by_cases e1 : x < i
        · simp [e, e1, show x < i + 1 by omega]
        · by_cases e2 : x = i
          · simp [e, e2]
          · simp [e1, e2, show ¬ x < i + 1 by omega]
      · simp [e]
theorem tp_w_isOpen {post : Int32 → Prop} {g1 g2 g3 g4 g5 g6 g7 g8 g9 g10 g11 g12 g13 g14 g15 g16 : Int32} {a1 a2 a3 a4 a5 a6 a7 a8 a9 a10 a11 a12 a13 a14 a15 a16 : Nat → Int32} {t O : Nat} (ht : t < 4) (eO : g1 = nI O) (K0 : O.testBit t = false → post 0) (K1 : O.testBit t = true → post 1) : wpX_isOpen post (g1, g2, g3, g4, g5, g6, g7, g8, g9, g10, g11, g12, g13, g14, g15, g16, a1, a2, a3, a4, a5, a6, a7, a8, a9, a10, a11, a12, a13, a14, a15, a16) (nI t) := by
  subst eO
  refine br_f (nI_pos (by omega)) (pk_le 4 t (fun z => absurd z (by omega)) (fun _ => ek_if (tp_tb (by omega)) K0 (fun z => K1 (by simpa using z))))
end
section
/-! logs as lists of (kind, transaction, key, number) -/
abbrev tp_E : Type := Nat × Nat × Nat × Int32
def tp_Lg (m : Nat) (l : List tp_E) (a2 a3 a4 a5 a6 : Nat → Int32) : Prop := a2 m = nI l.length ∧ l.length ≤ 60 ∧ ∀ i e, l[i]? = some e → (e.1 < 128 ∧ e.2.1 < 2 ^ 30 ∧ e.2.2.1 < 12) ∧ a3 (m * 64 + i) = nI e.1 ∧ a4 (m * 64 + i) = nI e.2.1 ∧ a5 (m * 64 + i) = nI e.2.2.1 ∧ a6 (m * 64 + i) = e.2.2.2
def tp_LG (L : Nat → List tp_E) (a2 a3 a4 a5 a6 : Nat → Int32) : Prop := ∀ m, m < 4 → tp_Lg m (L m) a2 a3 a4 a5 a6
theorem tp_LG_c {L L' : Nat → List tp_E} {a2 a3 a4 a5 a6 : Nat → Int32} (h : tp_LG L a2 a3 a4 a5 a6) (e : ∀ m, m < 4 → L' m = L m) : tp_LG L' a2 a3 a4 a5 a6 := by
  intro m hm
  rw [e m hm]
  exact h m hm
theorem tp_take {l : List tp_E} {i : Nat} {e : tp_E} (h : l[i]? = some e) : l.take (i + 1) = l.take i ++ [e] := by
  rw [List.take_add_one, h]
  rfl
theorem tp_get {l : List tp_E} {i : Nat} (h : i < l.length) : ∃ e, l[i]? = some e ∧ e ∈ l := ⟨l[i], List.getElem?_eq_getElem h, List.getElem_mem h⟩
theorem tp_w_log {post : St1 → Prop} {g1 g2 g3 g4 g5 g6 g7 g8 g9 g10 g11 g12 g13 g14 g15 g16 : Int32} {a1 a2 a3 a4 a5 a6 a7 a8 a9 a10 a11 a12 a13 a14 a15 a16 : Nat → Int32} {L : Nat → List tp_E} (D : tp_LG L a2 a3 a4 a5 a6) {m k n y : Nat} {v : Int32} (hm : m < 4) (hl : (L m).length < 60) (hk : k < 128) (hn : n < 2 ^ 30) (hy : y < 12) {p1 p2 p3 : Int32} (e1 : p1 = nI k) (e2 : p2 = nI n) (e3 : p3 = nI y)
    (K : ∀ a2' a3' a4' a5' a6', tp_LG (tp_u L m (L m ++ [(k, n, y, v)])) a2' a3' a4' a5' a6' → post (g1, g2, g3, g4, g5, g6, g7, g8, g9, g10, g11, g12, g13, g14, g15, g16, a1, a2', a3', a4', a5', a6', a7, a8, a9, a10, a11, a12, a13, a14, a15, a16)) : wpX_log post (g1, g2, g3, g4, g5, g6, g7, g8, g9, g10, g11, g12, g13, g14, g15, g16, a1, a2, a3, a4, a5, a6, a7, a8, a9, a10, a11, a12, a13, a14, a15, a16) (nI m) p1 p2 p3 v := by
  subst e1 e2 e3
  obtain ⟨d1, d2, d3⟩ := D m hm
  have em : (nI m).toNatClampNeg = m := nI_clamp (by omega)
  have ex : nI m * 64 + a2 (nI m).toNatClampNeg = nI (m * 64 + (L m).length) := by
    rw [em, d1]
    exact tp_ix64 m _
  have ec : (nI (m * 64 + (L m).length)).toNatClampNeg = m * 64 + (L m).length := nI_clamp (by omega)
  have hi : vp_in (nI (m * 64 + (L m).length)) 256 := vp_in_nI (by omega) (by omega)
  refine ⟨pk_in m 4 hm, nm_r ex ⟨hi, nm_e ⟨hi, nm_e ⟨hi, nm_e ⟨hi, nm_e ⟨pk_in m 4 hm, pk_in m 4 hm, nm_e (K _ _ _ _ _ ?_)⟩⟩⟩⟩⟩⟩
  rw [ec, em, tp_by k hk, tp_by y (by omega)]
  intro m' hm'
  obtain ⟨f1, f2, f3⟩ := D m' hm'
  by_cases e : m' = m
  · subst e
    refine ⟨?_, ?_, fun i e h => ?_⟩
    · rw [pk_us, d1]
      simp only [tp_u, if_true, List.length_append, List.length_singleton]
      exact nI_1 _
    · simp only [tp_u, if_true, List.length_append, List.length_singleton]
      omega
    · simp only [tp_u, if_true] at h
      rw [List.getElem?_append] at h
      by_cases c : i < (L m').length
      · rw [if_pos c] at h
        obtain ⟨h0, h1, h2, h3, h4⟩ := f3 i e h
        refine ⟨h0, ?_, ?_, ?_, ?_⟩
        · rw [pk_un (by omega)]; exact h1
        · rw [pk_un (by omega)]; exact h2
        · rw [pk_un (by omega)]; exact h3
        · rw [pk_un (by omega)]; exact h4
      · rw [if_neg c] at h
        have ei : i = (L m').length := by
          rcases Nat.lt_or_ge (i - (L m').length) 1 with z | z
          · omega
          · rw [List.getElem?_eq_none (by simpa using z)] at h
            exact absurd h (by simp)
        subst ei
        simp at h
        subst h
        exact ⟨⟨hk, hn, hy⟩, pk_us, pk_us, pk_us, pk_us⟩
  · have ne : ∀ i e, (L m')[i]? = some e → m' * 64 + i ≠ m * 64 + (L m).length := by
      intro i e h
      have hi : i < (L m').length := by
        rcases Nat.lt_or_ge i (L m').length with z | z
        · exact z
        · rw [List.getElem?_eq_none z] at h
          exact absurd h (by simp)
      omega
    have eL : tp_u L m (L m ++ [(k, n, y, v)]) m' = L m' := by simp [tp_u, e]
    rw [eL]
    refine ⟨by rw [pk_un e]; exact f1, f2, fun i e h => ?_⟩
    obtain ⟨h0, h1, h2, h3, h4⟩ := f3 i e h
    have nn := ne i e h
    exact ⟨h0, by rw [pk_un nn]; exact h1, by rw [pk_un nn]; exact h2, by rw [pk_un nn]; exact h3, by rw [pk_un nn]; exact h4⟩
theorem tp_w_isLogged {post : Int32 → Prop} {g1 g2 g3 g4 g5 g6 g7 g8 g9 g10 g11 g12 g13 g14 g15 g16 : Int32} {a1 a2 a3 a4 a5 a6 a7 a8 a9 a10 a11 a12 a13 a14 a15 a16 : Nat → Int32} {L : Nat → List tp_E} (D : tp_LG L a2 a3 a4 a5 a6) {m k n : Nat} (hm : m < 4) (hk : k < 128) (hn : n < 2 ^ 30) {p0 p1 p2 : Int32} (e0 : p0 = nI m) (e1 : p1 = nI k) (e2 : p2 = nI n)
    (K0 : (∀ e, e ∈ L m → ¬ (e.1 = k ∧ e.2.1 = n)) → post 0) (K1 : (∃ e, e ∈ L m ∧ e.1 = k ∧ e.2.1 = n) → post 1) : wpX_isLogged post (g1, g2, g3, g4, g5, g6, g7, g8, g9, g10, g11, g12, g13, g14, g15, g16, a1, a2, a3, a4, a5, a6, a7, a8, a9, a10, a11, a12, a13, a14, a15, a16) p0 p1 p2 := by
  subst e0 e1 e2
  obtain ⟨d1, d2, d3⟩ := D m hm
  have em : (nI m).toNatClampNeg = m := nI_clamp (by omega)
  refine nm_r (pk_mul m 64) ?_
  refine pk_loop (fun f i (_ : Unit) => wX_isLogged_6 post (nI m) (nI k) (nI n) g1 g2 g3 g4 g5 g6 g7 g8 g9 g10 g11 g12 g13 g14 g15 g16 a1 a2 a3 a4 a5 a6 a7 a8 a9 a10 a11 a12 a13 a14 a15 a16 f (nI (m * 64 + i))) (fun i _ => ∀ j e, j < i → (L m)[j]? = some e → ¬ (e.1 = k ∧ e.2.1 = n)) (L m).length 0 () (by omega) (fun j e h => absurd h (by omega)) ?_ ?_
  · intro f _ h
    refine ⟨pk_in m 4 hm, pk_le (m * 64 + (L m).length) (m * 64 + (L m).length) (fun _ => K0 (fun e he => ?_)) (fun z => absurd z (by omega)) (by rw [em, d1]; exact tp_ix64 m _)⟩
    obtain ⟨j, hj, ej⟩ := List.getElem_of_mem he
    exact h j e hj (by rw [List.getElem?_eq_getElem hj, ej])
  · intro f i _ hi h hw
    obtain ⟨e, he, hmem⟩ := tp_get hi
    obtain ⟨⟨b1, b2, b3⟩, c1, c2, c3, c4⟩ := d3 i e he
    have ec : (nI (m * 64 + i)).toNatClampNeg = m * 64 + i := nI_clamp (by omega)
    have hin : vp_in (nI (m * 64 + i)) 256 := vp_in_nI (by omega) (by omega)
    have next : ¬ (e.1 = k ∧ e.2.1 = n) → wX_isLogged_6 post (nI m) (nI k) (nI n) g1 g2 g3 g4 g5 g6 g7 g8 g9 g10 g11 g12 g13 g14 g15 g16 a1 a2 a3 a4 a5 a6 a7 a8 a9 a10 a11 a12 a13 a14 a15 a16 f (nI (m * 64 + i + 1)) := by
      intro ne
      refine hw () (fun j e' hj he' => ?_)
      rcases Nat.lt_or_ge j i with z | z
      · exact h j e' z he'
      · have ej : j = i := by omega
        subst ej
        rw [he] at he'
        cases he'
        exact ne
    refine ⟨pk_in m 4 hm, pk_le (m * 64 + (L m).length) (m * 64 + i) (fun z => absurd z (by omega)) (fun _ => ⟨hin, ?_⟩) (by rw [em, d1]; exact tp_ix64 m _)⟩
    refine ek_if (d := e.1 = k) (by rw [ec, c1]; exact nI_eq (by omega) (by omega)) (fun z => ⟨hin, ek_if (d := e.2.1 = n) (by rw [ec, c2]; exact nI_eq (by omega) (by omega)) (fun y => K1 ⟨e, hmem, z, y⟩) (fun y => nm_r (nI_1 _) (next (fun w => y w.2)))⟩) (fun z => nm_r (nI_1 _) (next (fun w => z w.1)))
/-! doing what is logged -/
def tp_ap1 (n : Nat) (f : Nat → Int32) (e : tp_E) : Nat → Int32 := if e.1 = 1 ∧ e.2.1 = n then upd f e.2.2.1 e.2.2.2 else f
def tp_ap (n : Nat) (l : List tp_E) (f : Nat → Int32) : Nat → Int32 := l.foldl (tp_ap1 n) f
def tp_rp1 (A : List tp_E) (s : (Nat → Int32) × Nat) (e : tp_E) : (Nat → Int32) × Nat := if e.1 = 2 then (s.1, e.2.1) else if e.1 = 3 then (tp_ap e.2.1 A s.1, 0) else if e.1 = 4 then (s.1, 0) else s
def tp_rp (A l : List tp_E) (s : (Nat → Int32) × Nat) : (Nat → Int32) × Nat := l.foldl (tp_rp1 A) s
theorem tp_w_applyLogged {post : St1 → Prop} {g1 g2 g3 g4 g5 g6 g7 g8 g9 g10 g11 g12 g13 g14 g15 g16 : Int32} {a1 a2 a3 a4 a5 a6 a7 a8 a9 a10 a11 a12 a13 a14 a15 a16 : Nat → Int32} {L : Nat → List tp_E} (D : tp_LG L a2 a3 a4 a5 a6) {m n : Nat} (hm : m < 4) (hn : n < 2 ^ 30) {p1 : Int32} (e1 : p1 = nI n)
    (K : post (g1, g2, g3, g4, g5, g6, g7, g8, g9, g10, g11, g12, g13, g14, g15, g16, a1, a2, a3, a4, a5, a6, tp_ap n (L m) a7, a8, a9, a10, a11, a12, a13, a14, a15, a16)) : wpX_applyLogged post (g1, g2, g3, g4, g5, g6, g7, g8, g9, g10, g11, g12, g13, g14, g15, g16, a1, a2, a3, a4, a5, a6, a7, a8, a9, a10, a11, a12, a13, a14, a15, a16) (nI m) p1 := by
  subst e1
  obtain ⟨d1, d2, d3⟩ := D m hm
  have em : (nI m).toNatClampNeg = m := nI_clamp (by omega)
  refine nm_r (pk_mul m 64) ?_
  refine pk_loop (fun f i (s : Nat → Int32) => wX_applyLogged_5 post (nI m) (nI n) g1 g2 g3 g4 g5 g6 g7 g8 g9 g10 g11 g12 g13 g14 g15 g16 f (nI (m * 64 + i)) a1 a2 a3 a4 a5 a6 s a8 a9 a10 a11 a12 a13 a14 a15 a16) (fun i s => s = tp_ap n ((L m).take i) a7) (L m).length 0 a7 (by omega) rfl ?_ ?_
  · intro f s h
    refine ⟨pk_in m 4 hm, pk_le (m * 64 + (L m).length) (m * 64 + (L m).length) (fun _ => ?_) (fun z => absurd z (by omega)) (by rw [em, d1]; exact tp_ix64 m _)⟩
    rw [List.take_length] at h
    subst h
    exact K
  · intro f i s hi h hw
    obtain ⟨e, he, hmem⟩ := tp_get hi
    obtain ⟨⟨b1, b2, b3⟩, c1, c2, c3, c4⟩ := d3 i e he
    have ec : (nI (m * 64 + i)).toNatClampNeg = m * 64 + i := nI_clamp (by omega)
    have hin : vp_in (nI (m * 64 + i)) 256 := vp_in_nI (by omega) (by omega)
    have ey : (nI e.2.2.1).toNatClampNeg = e.2.2.1 := nI_clamp (by omega)
    have next : wX_applyLogged_5 post (nI m) (nI n) g1 g2 g3 g4 g5 g6 g7 g8 g9 g10 g11 g12 g13 g14 g15 g16 f (nI (m * 64 + i + 1)) a1 a2 a3 a4 a5 a6 (tp_ap1 n s e) a8 a9 a10 a11 a12 a13 a14 a15 a16 := by
      refine hw _ ?_
      rw [tp_take he, h]
      unfold tp_ap
      rw [List.foldl_append]
      rfl
    have skip : ¬ (e.1 = 1 ∧ e.2.1 = n) → wX_applyLogged_5 post (nI m) (nI n) g1 g2 g3 g4 g5 g6 g7 g8 g9 g10 g11 g12 g13 g14 g15 g16 f (nI (m * 64 + i + 1)) a1 a2 a3 a4 a5 a6 s a8 a9 a10 a11 a12 a13 a14 a15 a16 := by
      intro ne
      have t := next
      unfold tp_ap1 at t
      rw [if_neg ne] at t
      exact t
    refine ⟨pk_in m 4 hm, pk_le (m * 64 + (L m).length) (m * 64 + i) (fun z => absurd z (by omega)) (fun _ => ⟨hin, ?_⟩) (by rw [em, d1]; exact tp_ix64 m _)⟩
    refine ek_if (d := e.1 = 1) (by rw [ec, c1]; exact nI_eq (b := 1) (by omega) (by omega)) (fun z => ⟨hin, ek_if (d := e.2.1 = n) (by rw [ec, c2]; exact nI_eq (by omega) (by omega)) (fun y => ⟨hin, hin, by rw [ec, c3]; exact vp_in_nI b3 (by omega), nm_r (e' := tp_ap1 n s e) ?_ (nm_r (nI_1 _) next)⟩) (fun y => nm_r (nI_1 _) (skip (fun w => y w.2)))⟩) (fun z => nm_r (nI_1 _) (skip (fun w => z w.1)))
    rw [ec, c3, c4, ey]
    unfold tp_ap1
    rw [if_pos ⟨z, y⟩]
end
section
/-! writing a key, holding what is logged, coming back -/
def tp_wW (W : Nat → Nat → Bool) (t k : Nat) : Nat → Nat → Bool := fun j x => if j = t ∧ x = k then true else W j x
theorem tp_w_writeKey {post : St1 → Prop} {g1 g2 g3 g4 g5 g6 g7 g8 g9 g10 g11 g12 g13 g14 g15 g16 : Int32} {a1 a2 a3 a4 a5 a6 a7 a8 a9 a10 a11 a12 a13 a14 a15 a16 : Nat → Int32} {H : Nat → Nat} {W : Nat → Nat → Bool} {P : Nat → Nat → Nat} {G : Nat → Nat → Bool} (D : tp_D H W P G a8 a9 a11 a12) {t k : Nat} {v : Int32} (ht : t < 3) (hk : k < 12)
    (K : ∀ a8' a9', tp_D (tp_u H k (t + 1)) (tp_wW W t k) P G a8' a9' a11 a12 → post (g1, g2, g3, g4, g5, g6, g7, g8, g9, g10, g11, g12, g13, g14, g15, g16, a1, a2, a3, a4, a5, a6, a7, a8', a9', upd a10 (t * 12 + k) v, a11, a12, a13, a14, a15, a16)) : wpX_writeKey post (g1, g2, g3, g4, g5, g6, g7, g8, g9, g10, g11, g12, g13, g14, g15, g16, a1, a2, a3, a4, a5, a6, a7, a8, a9, a10, a11, a12, a13, a14, a15, a16) (nI t) (nI k) v := by
  obtain ⟨d1, d2, d3, d4⟩ := D
  have et : (nI t).toNatClampNeg = t := nI_clamp (by omega)
  have ek : (nI k).toNatClampNeg = k := nI_clamp (by omega)
  have ei : (nI (t * 12 + k)).toNatClampNeg = t * 12 + k := nI_clamp (by omega)
  have ht4 : t < 4 := by omega
  refine ⟨pk_in k 12 hk, nm_e ⟨pk_in t 4 ht4, pk_in t 4 ht4, nm_e ⟨pk_in (t * 12 + k) 48 (by omega) (tp_ix12 t k), ?_⟩⟩⟩
  refine nm_r (e' := upd a10 (t * 12 + k) v) (by rw [tp_ix12 t k, ei]) (K _ _ ⟨fun j hj => ?_, fun j hj x hx => ?_, d3, d4⟩)
  · rw [ek, tp_upd', tp_by t (by omega)]
    unfold tp_u
    by_cases e : j = k
    · rw [if_pos e, if_pos e]
      exact ⟨by omega, (tp_h_s t).symm⟩
    · rw [if_neg e, if_neg e]
      exact d1 j hj
  · rw [et, tp_upd']
    unfold tp_wW
    by_cases e : j = t
    · rw [if_pos e, tp_b_s16 (by omega), tp_b_set (by omega) (by omega), d2 t ht4 x hx, e]
      by_cases e2 : x = k
      · simp [e2]
      · simp [e2]
    · rw [if_neg e, if_neg (by omega)]
      exact d2 j hj x hx
def tp_wrs (n : Nat) (l : List tp_E) (k : Nat) : Bool := l.any (fun e => decide (e.1 = 1 ∧ e.2.1 = n ∧ e.2.2.1 = k))
theorem tp_wrs_app (n : Nat) (l : List tp_E) (e : tp_E) (k : Nat) : tp_wrs n (l ++ [e]) k = (tp_wrs n l k || decide (e.1 = 1 ∧ e.2.1 = n ∧ e.2.2.1 = k)) := by
  unfold tp_wrs
  rw [List.any_append]
  simp
def tp_hH (n t : Nat) (l : List tp_E) (H : Nat → Nat) : Nat → Nat := fun k => if tp_wrs n l k = true then t + 1 else H k
def tp_hW (n t : Nat) (l : List tp_E) (W : Nat → Nat → Bool) : Nat → Nat → Bool := fun j k => if j = t ∧ tp_wrs n l k = true then true else W j k
def tp_pP (t m n : Nat) (P : Nat → Nat → Nat) : Nat → Nat → Nat := fun j x => if j = t ∧ x = m then n else P j x
theorem tp_w_holdLogged {post : St1 → Prop} {g1 g2 g3 g4 g5 g6 g7 g8 g9 g10 g11 g12 g13 g14 g15 g16 : Int32} {a1 a2 a3 a4 a5 a6 a7 a8 a9 a10 a11 a12 a13 a14 a15 a16 : Nat → Int32} {H : Nat → Nat} {W : Nat → Nat → Bool} {P : Nat → Nat → Nat} {G : Nat → Nat → Bool} (D : tp_D H W P G a8 a9 a11 a12) {L : Nat → List tp_E} (DL : tp_LG L a2 a3 a4 a5 a6) {t m n : Nat} (ht : t < 3) (hm : m < 3) (hn : n < 2 ^ 30) (e7 : g7 = nI t)
    (hv : ∀ e, e ∈ L m → e.1 = 1 → e.2.1 = n → a10 (t * 12 + e.2.2.1) = e.2.2.2)
    (K : ∀ a8' a9' a11', tp_D (tp_hH n t (L m) H) (tp_hW n t (L m) W) (tp_pP t m n P) G a8' a9' a11' a12 → post (g1, g2, g3, g4, g5, g6, nI t, g8, g9, g10, g11, g12, g13, g14, g15, g16, a1, a2, a3, a4, a5, a6, a7, a8', a9', a10, a11', a12, a13, a14, a15, a16)) : wpX_holdLogged post (g1, g2, g3, g4, g5, g6, g7, g8, g9, g10, g11, g12, g13, g14, g15, g16, a1, a2, a3, a4, a5, a6, a7, a8, a9, a10, a11, a12, a13, a14, a15, a16) (nI m) (nI n) := by
  subst e7
  obtain ⟨d1, d2, d3⟩ := DL m (by omega)
  have em : (nI m).toNatClampNeg = m := nI_clamp (by omega)
  have hm4 : m < 4 := by omega
  refine nm_r (pk_mul m 64) ?_
  refine pk_loop (fun f i (s : (Nat → Int32) × (Nat → Int32)) => wX_holdLogged_5 post (nI m) (nI n) f (nI (m * 64 + i)) g1 g2 g3 g4 g5 g6 (nI t) g8 g9 g10 g11 g12 g13 g14 g15 g16 a1 a2 a3 a4 a5 a6 a7 s.1 s.2 a10 a11 a12 a13 a14 a15 a16) (fun i s => tp_D (tp_hH n t ((L m).take i) H) (tp_hW n t ((L m).take i) W) P G s.1 s.2 a11 a12) (L m).length 0 (a8, a9) (by omega) ?_ ?_ ?_
  · refine tp_D_c D (fun k hk => ?_) (fun j hj k hk => ?_) (fun _ _ _ _ => rfl) (fun _ _ _ _ => rfl)
    · simp [tp_hH, tp_wrs]
    · simp [tp_hW, tp_wrs]
  · intro f s h
    rw [List.take_length] at h
    obtain ⟨h1, h2, h3, h4⟩ := h
    refine ⟨pk_in m 4 hm4, pk_le (m * 64 + (L m).length) (m * 64 + (L m).length) (fun _ => ⟨pk_in (t * 3 + m) 12 (by omega) (tp_ix3 t m), nm_e (K _ _ _ ⟨h1, h2, fun j hj x hx => ?_, h4⟩)⟩) (fun z => absurd z (by omega)) (by rw [em, d1]; exact tp_ix64 m _)⟩
    rw [tp_ix3 t m, nI_clamp (by omega), tp_upd']
    unfold tp_pP
    by_cases e : j = t ∧ x = m
    · rw [if_pos e, if_pos (by omega)]
    · rw [if_neg e, if_neg (by omega)]
      exact h3 j hj x hx
  · intro f i s hi h hw
    obtain ⟨e, he, hmem⟩ := tp_get hi
    obtain ⟨⟨b1, b2, b3⟩, c1, c2, c3, c4⟩ := d3 i e he
    have ec : (nI (m * 64 + i)).toNatClampNeg = m * 64 + i := nI_clamp (by omega)
    have hin : vp_in (nI (m * 64 + i)) 256 := vp_in_nI (by omega) (by omega)
    have skip : ¬ (e.1 = 1 ∧ e.2.1 = n) → wX_holdLogged_5 post (nI m) (nI n) f (nI (m * 64 + i + 1)) g1 g2 g3 g4 g5 g6 (nI t) g8 g9 g10 g11 g12 g13 g14 g15 g16 a1 a2 a3 a4 a5 a6 a7 s.1 s.2 a10 a11 a12 a13 a14 a15 a16 := by
      intro ne
      refine hw s ?_
      rw [tp_take he]
      have q : ∀ k, tp_wrs n ((L m).take i ++ [e]) k = tp_wrs n ((L m).take i) k := by
        intro k
        rw [tp_wrs_app, decide_eq_false (fun z => ne ⟨z.1, z.2.1⟩), Bool.or_false]
      refine tp_D_c h (fun k hk => ?_) (fun j hj k hk => ?_) (fun _ _ _ _ => rfl) (fun _ _ _ _ => rfl)
      · simp only [tp_hH, q]
      · simp only [tp_hW, q]
    refine ⟨pk_in m 4 hm4, pk_le (m * 64 + (L m).length) (m * 64 + i) (fun z => absurd z (by omega)) (fun _ => ⟨hin, ?_⟩) (by rw [em, d1]; exact tp_ix64 m _)⟩
    refine ek_if (d := e.1 = 1) (by rw [ec, c1]; exact nI_eq (b := 1) (by omega) (by omega)) (fun z => ⟨hin, ek_if (d := e.2.1 = n) (by rw [ec, c2]; exact nI_eq (by omega) (by omega)) (fun y => ⟨hin, hin, ?_⟩) (fun y => nm_r (nI_1 _) (skip (fun w => y w.2)))⟩) (fun z => nm_r (nI_1 _) (skip (fun w => z w.1)))
    rw [ec, c3, c4]
    refine tp_w_writeKey h (t := t) (k := e.2.2.1) ht b3 (fun a8' a9' h' => nm_r (nI_1 _) ?_)
    have ev := hv e hmem z y
    rw [← ev, tp_upd]
    refine hw (a8', a9') ?_
    rw [tp_take he]
    refine tp_D_c h' (fun k hk => ?_) (fun j hj k hk => ?_) (fun _ _ _ _ => rfl) (fun _ _ _ _ => rfl)
    · unfold tp_hH tp_u
      rw [tp_wrs_app]
      by_cases e2 : k = e.2.2.1
      · subst e2
        simp [z, y]
      · have e3 : ¬ e.2.2.1 = k := fun w => e2 w.symm
        simp [e2, e3]
    · unfold tp_hW tp_wW
      rw [tp_wrs_app]
      by_cases e2 : k = e.2.2.1
      · subst e2
        by_cases e4 : j = t
        · simp [z, y, e4]
        · simp [e4]
      · have e3 : ¬ e.2.2.1 = k := fun w => e2 w.symm
        simp [e2, e3]
theorem tp_w_comeBack33 {post : St1 → Prop} {g1 g2 g3 g4 g5 g6 g7 g8 g9 g10 g11 g12 g13 g14 g15 g16 : Int32} {a1 a2 a3 a4 a5 a6 a7 a8 a9 a10 a11 a12 a13 a14 a15 a16 : Nat → Int32} {L : Nat → List tp_E} (D : tp_LG L a2 a3 a4 a5 a6) {m : Nat} (hm : m < 3)
    (K0 : (tp_rp (L m) (L m) (a7, 0)).2 = 0 → post (g1, g2, g3, g4, g5, g6, g7, g8, g9, g10, g11, g12, g13, g14, g15, g16, a1, a2, a3, a4, a5, a6, (tp_rp (L m) (L m) (a7, 0)).1, a8, a9, a10, a11, a12, a13, a14, a15, a16))
    (K1 : (tp_rp (L m) (L m) (a7, 0)).2 ≠ 0 → wpX_holdLogged post (g1, g2, g3, g4, g5, g6, g7, g8, g9, g10, g11, g12, g13, g14, g15, g16, a1, a2, a3, a4, a5, a6, (tp_rp (L m) (L m) (a7, 0)).1, a8, a9, a10, a11, a12, a13, a14, a15, a16) (nI m) (nI (tp_rp (L m) (L m) (a7, 0)).2)) : ∃ f, wX_comeBack_33 post (nI m) f 0 (nI (m * 64)) g1 g2 g3 g4 g5 g6 g7 g8 g9 g10 g11 g12 g13 g14 g15 g16 a1 a2 a3 a4 a5 a6 a7 a8 a9 a10 a11 a12 a13 a14 a15 a16 := by
  have hm4 : m < 4 := by omega
  obtain ⟨d1, d2, d3⟩ := D m hm4
  have em : (nI m).toNatClampNeg = m := nI_clamp (by omega)
  refine pk_loop (fun f i (s : (Nat → Int32) × Nat) => wX_comeBack_33 post (nI m) f (nI s.2) (nI (m * 64 + i)) g1 g2 g3 g4 g5 g6 g7 g8 g9 g10 g11 g12 g13 g14 g15 g16 a1 a2 a3 a4 a5 a6 s.1 a8 a9 a10 a11 a12 a13 a14 a15 a16) (fun i s => s = tp_rp (L m) ((L m).take i) (a7, 0) ∧ s.2 < 2 ^ 30) (L m).length 0 (a7, 0) (by omega) ⟨rfl, (by decide : (0 : Nat) < 2 ^ 30)⟩ ?_ ?_
  · intro f s h
    rw [List.take_length] at h
    obtain ⟨h, hb⟩ := h
    subst h
    exact ⟨pk_in m 4 hm4, pk_le (m * 64 + (L m).length) (m * 64 + (L m).length) (fun _ => pk_eq _ 0 (fun z => K0 z) (fun z => K1 z)) (fun z => absurd z (by omega)) (by rw [em, d1]; exact tp_ix64 m _)⟩
  · intro f i s hi h hw
    obtain ⟨h, hb⟩ := h
    obtain ⟨e, he, hmem⟩ := tp_get hi
    obtain ⟨⟨b1, b2, b3⟩, c1, c2, c3, c4⟩ := d3 i e he
    have ec : (nI (m * 64 + i)).toNatClampNeg = m * 64 + i := nI_clamp (by omega)
    have hin : vp_in (nI (m * 64 + i)) 256 := vp_in_nI (by omega) (by omega)
    have next : ∀ s', s' = tp_rp1 (L m) s e → s'.2 < 2 ^ 30 → wX_comeBack_33 post (nI m) f (nI s'.2) (nI (m * 64 + i + 1)) g1 g2 g3 g4 g5 g6 g7 g8 g9 g10 g11 g12 g13 g14 g15 g16 a1 a2 a3 a4 a5 a6 s'.1 a8 a9 a10 a11 a12 a13 a14 a15 a16 := by
      intro s' es hs
      refine hw s' ⟨?_, hs⟩
      rw [tp_take he, es, h]
      unfold tp_rp
      rw [List.foldl_append]
      rfl
    refine ⟨pk_in m 4 hm4, pk_le (m * 64 + (L m).length) (m * 64 + i) (fun z => absurd z (by omega)) (fun _ => ⟨hin, nm_r (e' := nI e.2.1) (by rw [ec, c2]) ⟨hin, ?_⟩⟩) (by rw [em, d1]; exact tp_ix64 m _)⟩
    refine ek_if (d := e.1 = 2) (by rw [ec, c1]; exact nI_eq (b := 2) (by omega) (by omega)) (fun z => nm_r (nI_1 _) ?_) (fun z2 => ⟨hin, ek_if (d := e.1 = 3) (by rw [ec, c1]; exact nI_eq (b := 3) (by omega) (by omega)) (fun z => ?_) (fun z3 => ⟨hin, ek_if (d := e.1 = 4) (by rw [ec, c1]; exact nI_eq (b := 4) (by omega) (by omega)) (fun z => nm_r (nI_1 _) ?_) (fun z4 => nm_r (nI_1 _) ?_)⟩)⟩)
    · exact next (s.1, e.2.1) (by unfold tp_rp1; rw [if_pos z]) b2
    · refine tp_w_applyLogged D (m := m) (n := e.2.1) hm4 b2 rfl (nm_r (nI_1 _) ?_)
      exact next (tp_ap e.2.1 (L m) s.1, 0) (by unfold tp_rp1; rw [if_neg z2, if_pos z]) (by show 0 < _; decide)
    · exact next (s.1, 0) (by unfold tp_rp1; rw [if_neg z2, if_neg z3, if_pos z]) (by show 0 < _; decide)
    · exact next s (by unfold tp_rp1; rw [if_neg z2, if_neg z3, if_neg z4]) hb
def tp_rst (m : Nat) (a1 a7 : Nat → Int32) : Nat → Int32 := fun k => if k % 3 = m ∧ k < 12 then a1 k else a7 k
theorem tp_w_comeBack {post : St1 → Prop} {g1 g2 g3 g4 g5 g6 g7 g8 g9 g10 g11 g12 g13 g14 g15 g16 : Int32} {a1 a2 a3 a4 a5 a6 a7 a8 a9 a10 a11 a12 a13 a14 a15 a16 : Nat → Int32} {L : Nat → List tp_E} (D : tp_LG L a2 a3 a4 a5 a6) {m : Nat} (hm : m < 3)
    (K0 : (tp_rp (L m) (L m) (tp_rst m a1 a7, 0)).2 = 0 → post (g1, g2, g3, g4, g5, g6, g7, g8, g9, g10, g11, g12, g13, g14, g15, g16, a1, a2, a3, a4, a5, a6, (tp_rp (L m) (L m) (tp_rst m a1 a7, 0)).1, a8, a9, a10, a11, a12, a13, a14, a15, a16))
    (K1 : (tp_rp (L m) (L m) (tp_rst m a1 a7, 0)).2 ≠ 0 → wpX_holdLogged post (g1, g2, g3, g4, g5, g6, g7, g8, g9, g10, g11, g12, g13, g14, g15, g16, a1, a2, a3, a4, a5, a6, (tp_rp (L m) (L m) (tp_rst m a1 a7, 0)).1, a8, a9, a10, a11, a12, a13, a14, a15, a16) (nI m) (nI (tp_rp (L m) (L m) (tp_rst m a1 a7, 0)).2)) : wpX_comeBack post (g1, g2, g3, g4, g5, g6, g7, g8, g9, g10, g11, g12, g13, g14, g15, g16, a1, a2, a3, a4, a5, a6, a7, a8, a9, a10, a11, a12, a13, a14, a15, a16) (nI m) := by
  refine pk_loop (fun f i (s : Nat → Int32) => wX_comeBack_2 post (nI m) g1 g2 g3 g4 g5 g6 g7 g8 g9 g10 g11 g12 g13 g14 g15 g16 f (nI (m + 3 * i)) a1 a2 a3 a4 a5 a6 s a8 a9 a10 a11 a12 a13 a14 a15 a16) (fun i s => s = fun k => if k % 3 = m ∧ k < m + 3 * i then a1 k else a7 k) 4 0 a7 (by omega) ?_ ?_ ?_
  · funext k
    rw [if_neg (by omega)]
  · intro f s h
    have hs : s = tp_rst m a1 a7 := by
      rw [h]
      funext k
      unfold tp_rst
      by_cases e : k % 3 = m ∧ k < 12
      · rw [if_pos e, if_pos (by omega)]
      · rw [if_neg e, if_neg (by omega)]
    subst hs
    exact pk_le 12 (m + 3 * 4) (fun _ => nm_r (pk_mul m 64) (tp_w_comeBack33 D hm K0 K1)) (fun z => absurd z (by omega))
  · intro f i s hi h hw
    have hk : m + 3 * i < 12 := by omega
    have ec : (nI (m + 3 * i)).toNatClampNeg = m + 3 * i := nI_clamp (by omega)
    refine pk_le 12 (m + 3 * i) (fun z => absurd z (by omega)) (fun _ => ⟨pk_in (m + 3 * i) 12 hk, pk_in (m + 3 * i) 12 hk, nm_e (nm_r (tp_p3 m i) (hw _ ?_))⟩)
    rw [ec]
    funext k
    rw [tp_upd', h]
    by_cases e : k = m + 3 * i
    · rw [if_pos e, if_pos (by omega), e]
    · rw [if_neg e]
      show (if k % 3 = m ∧ k < m + 3 * i then a1 k else a7 k) = _
      by_cases e2 : k % 3 = m ∧ k < m + 3 * i
      · rw [if_pos e2, if_pos (by omega)]
      · rw [if_neg e2, if_neg (by omega)]
end
section
/-! replaying logs, pure -/
theorem tp_ap_app (n : Nat) (l r : List tp_E) (f : Nat → Int32) : tp_ap n (l ++ r) f = tp_ap n r (tp_ap n l f) := List.foldl_append
theorem tp_rp_app (A l r : List tp_E) (s : (Nat → Int32) × Nat) : tp_rp A (l ++ r) s = tp_rp A r (tp_rp A l s) := List.foldl_append
theorem tp_ap_none {n : Nat} : ∀ (l : List tp_E) (f : Nat → Int32), (∀ e, e ∈ l → ¬ (e.1 = 1 ∧ e.2.1 = n)) → tp_ap n l f = f
  | [], _, _ => rfl
  | e :: l, f, h => by
    show tp_ap n l (tp_ap1 n f e) = f
    have h1 : tp_ap1 n f e = f := by
      unfold tp_ap1
      rw [if_neg (h e (List.mem_cons_self ..))]
    rw [h1]
    exact tp_ap_none l f (fun e' he => h e' (List.mem_cons_of_mem _ he))
theorem tp_ap_other {n k : Nat} : ∀ (l : List tp_E) (f : Nat → Int32), (∀ e, e ∈ l → e.1 = 1 → e.2.2.1 ≠ k) → tp_ap n l f k = f k
  | [], _, _ => rfl
  | e :: l, f, h => by
    show tp_ap n l (tp_ap1 n f e) k = f k
    rw [tp_ap_other l _ (fun e' he => h e' (List.mem_cons_of_mem _ he))]
    unfold tp_ap1
    by_cases c : e.1 = 1 ∧ e.2.1 = n
    · rw [if_pos c, pk_un (fun z => h e (List.mem_cons_self ..) c.1 z.symm)]
    · rw [if_neg c]
theorem tp_ap_cong {n k : Nat} : ∀ (l : List tp_E) (f g : Nat → Int32), f k = g k → tp_ap n l f k = tp_ap n l g k
  | [], _, _, h => h
  | e :: l, f, g, h => by
    show tp_ap n l (tp_ap1 n f e) k = tp_ap n l (tp_ap1 n g e) k
    refine tp_ap_cong l _ _ ?_
    unfold tp_ap1
    by_cases c : e.1 = 1 ∧ e.2.1 = n
    · rw [if_pos c, if_pos c, tp_upd', tp_upd']
      by_cases z : k = e.2.2.1
      · rw [if_pos z, if_pos z]
      · rw [if_neg z, if_neg z, h]
    · rw [if_neg c, if_neg c, h]
theorem tp_rp_cong {A : List tp_E} {k : Nat} : ∀ (l : List tp_E) (s r : (Nat → Int32) × Nat), s.1 k = r.1 k → s.2 = r.2 → (tp_rp A l s).1 k = (tp_rp A l r).1 k ∧ (tp_rp A l s).2 = (tp_rp A l r).2
  | [], _, _, h, h2 => ⟨h, h2⟩
  | e :: l, s, r, h, h2 => by
    show (tp_rp A l (tp_rp1 A s e)).1 k = (tp_rp A l (tp_rp1 A r e)).1 k ∧ (tp_rp A l (tp_rp1 A s e)).2 = (tp_rp A l (tp_rp1 A r e)).2
    refine tp_rp_cong l _ _ ?_ ?_
    · unfold tp_rp1
      split
      · exact h
      · split
        · exact tp_ap_cong A _ _ h
        · split <;> exact h
    · unfold tp_rp1
      split
      · rfl
      · split
        · rfl
        · split
          · rfl
          · exact h2
theorem tp_rp_other {A : List tp_E} {k : Nat} (hA : ∀ e, e ∈ A → e.1 = 1 → e.2.2.1 ≠ k) : ∀ (l : List tp_E) (s : (Nat → Int32) × Nat), (tp_rp A l s).1 k = s.1 k
  | [], _ => rfl
  | e :: l, s => by
    show (tp_rp A l (tp_rp1 A s e)).1 k = s.1 k
    rw [tp_rp_other hA l]
    unfold tp_rp1
    split
    · rfl
    · split
      · exact tp_ap_other A _ hA
      · split <;> rfl
theorem tp_rp_fresh {A X : List tp_E} {N : Nat} (hX : ∀ e, e ∈ X → e.2.1 = N) : ∀ (l : List tp_E) (s : (Nat → Int32) × Nat), (∀ e, e ∈ l → e.2.1 < N) → tp_rp (A ++ X) l s = tp_rp A l s
  | [], _, _ => rfl
  | e :: l, s, h => by
    show tp_rp (A ++ X) l (tp_rp1 (A ++ X) s e) = tp_rp A l (tp_rp1 A s e)
    have h1 : tp_rp1 (A ++ X) s e = tp_rp1 A s e := by
      unfold tp_rp1
      have h2 : tp_ap e.2.1 (A ++ X) s.1 = tp_ap e.2.1 A s.1 := by
        rw [tp_ap_app]
        refine tp_ap_none X _ (fun e' he c => ?_)
        have a := hX e' he
        have b := h e (List.mem_cons_self ..)
        omega
      rw [h2]
    rw [h1]
    exact tp_rp_fresh hX l _ (fun e' he => h e' (List.mem_cons_of_mem _ he))
/-- what a transaction has written on machine m, as log entries -/
def tp_wr (W : Nat → Bool) (b : Nat → Int32) (N m : Nat) : Nat → List tp_E
  | 0 => []
  | i + 1 => tp_wr W b N m i ++ (if W (m + 3 * i) = true then [(1, N, m + 3 * i, b (m + 3 * i))] else [])
theorem tp_wr_all {W : Nat → Bool} {b : Nat → Int32} {N m : Nat} : ∀ i e, e ∈ tp_wr W b N m i → e.1 = 1 ∧ e.2.1 = N ∧ e.2.2.1 % 3 = m % 3 ∧ e.2.2.1 < m + 3 * i ∧ W e.2.2.1 = true ∧ e.2.2.2 = b e.2.2.1 := by
  intro i
  induction i with
  | zero => intro e he; exact absurd he (by simp [tp_wr])
  | succ i ih =>
    intro e he
    unfold tp_wr at he
    rw [List.mem_append] at he
    rcases he with he | he
    · obtain ⟨a, b, c, d, f, g⟩ := ih e he
      exact ⟨a, b, c, by omega, f, g⟩
    · by_cases c : W (m + 3 * i) = true
      · rw [if_pos c, List.mem_singleton] at he
        subst he
        exact ⟨rfl, rfl, by simp, by simp, c, rfl⟩
      · rw [if_neg c] at he
        exact absurd he (by simp)
theorem tp_wr_len {W : Nat → Bool} {b : Nat → Int32} {N m : Nat} : ∀ i, (tp_wr W b N m i).length ≤ i := by
  intro i
  induction i with
  | zero => simp [tp_wr]
  | succ i ih =>
    unfold tp_wr
    rw [List.length_append]
    split <;> simp <;> omega
theorem tp_ap_wr {W : Nat → Bool} {b : Nat → Int32} {N m : Nat} (hm : m < 3) (f : Nat → Int32) (k : Nat) : ∀ i, tp_ap N (tp_wr W b N m i) f k = if k % 3 = m ∧ k < m + 3 * i ∧ W k = true then b k else f k := by
  intro i
  induction i with
  | zero =>
    rw [if_neg (by omega)]
    rfl
  | succ i ih =>
    unfold tp_wr
    rw [tp_ap_app]
    by_cases c : W (m + 3 * i) = true
    · rw [if_pos c]
      show tp_ap1 N _ _ k = _
      unfold tp_ap1
      rw [if_pos ⟨rfl, rfl⟩, tp_upd']
      show (if k = m + 3 * i then b (m + 3 * i) else _) = _
      by_cases e : k = m + 3 * i
      · rw [if_pos e, e, if_pos ⟨by omega, by omega, c⟩]
      · rw [if_neg e, ih]
        by_cases e2 : k % 3 = m ∧ k < m + 3 * i ∧ W k = true
        · rw [if_pos e2, if_pos ⟨e2.1, by omega, e2.2.2⟩]
        · rw [if_neg e2, if_neg (fun z => e2 ⟨z.1, by omega, z.2.2⟩)]
    · rw [if_neg c]
      show tp_ap N (tp_wr W b N m i) f k = _
      rw [ih]
      by_cases e2 : k % 3 = m ∧ k < m + 3 * i ∧ W k = true
      · rw [if_pos e2, if_pos ⟨e2.1, by omega, e2.2.2⟩]
      · rw [if_neg e2, if_neg (fun z => ?_)]
        by_cases e : k = m + 3 * i
        · rw [e] at z; exact c z.2.2
        · exact e2 ⟨z.1, by omega, z.2.2⟩
theorem tp_rp_one {A : List tp_E} : ∀ (l : List tp_E) (s : (Nat → Int32) × Nat), (∀ e, e ∈ l → e.1 = 1) → tp_rp A l s = s
  | [], _, _ => rfl
  | e :: l, s, h => by
    show tp_rp A l (tp_rp1 A s e) = s
    have h0 := h e (List.mem_cons_self ..)
    have h1 : tp_rp1 A s e = s := by
      unfold tp_rp1
      rw [if_neg (by omega), if_neg (by omega), if_neg (by omega)]
    rw [h1]
    exact tp_rp_one l s (fun e' he => h e' (List.mem_cons_of_mem _ he))
theorem tp_wrs_wr {W : Nat → Bool} {b : Nat → Int32} {N m : Nat} (hm : m < 3) (k : Nat) : ∀ i, tp_wrs N (tp_wr W b N m i) k = decide (k % 3 = m ∧ k < m + 3 * i ∧ W k = true) := by
  intro i
  induction i with
  | zero =>
    rw [decide_eq_false (by omega)]
    rfl
  | succ i ih =>
    unfold tp_wr
    by_cases c : W (m + 3 * i) = true
    · rw [if_pos c, tp_wrs_app, ih]
      by_cases e : k = m + 3 * i
      · subst e
        rw [decide_eq_true (show ((1, N, m + 3 * i, b (m + 3 * i)) : tp_E).1 = 1 ∧ ((1, N, m + 3 * i, b (m + 3 * i)) : tp_E).2.1 = N ∧ ((1, N, m + 3 * i, b (m + 3 * i)) : tp_E).2.2.1 = m + 3 * i from ⟨rfl, rfl, rfl⟩), decide_eq_true (show (m + 3 * i) % 3 = m ∧ m + 3 * i < m + 3 * (i + 1) ∧ W (m + 3 * i) = true from ⟨by omega, by omega, c⟩), Bool.or_true]
      · rw [decide_eq_false (p := ((1, N, m + 3 * i, b (m + 3 * i)) : tp_E).1 = 1 ∧ ((1, N, m + 3 * i, b (m + 3 * i)) : tp_E).2.1 = N ∧ ((1, N, m + 3 * i, b (m + 3 * i)) : tp_E).2.2.1 = k) (fun z => e z.2.2.symm), Bool.or_false]
        by_cases e2 : k % 3 = m ∧ k < m + 3 * i ∧ W k = true
        · rw [decide_eq_true e2, decide_eq_true ⟨e2.1, by omega, e2.2.2⟩]
        · rw [decide_eq_false e2, decide_eq_false (fun z => e2 ⟨z.1, by omega, z.2.2⟩)]
    · rw [if_neg c, List.append_nil, ih]
      by_cases e2 : k % 3 = m ∧ k < m + 3 * i ∧ W k = true
      · rw [decide_eq_true e2, decide_eq_true ⟨e2.1, by omega, e2.2.2⟩]
      · rw [decide_eq_false e2, decide_eq_false (fun z => ?_)]
        by_cases e : k = m + 3 * i
        · rw [e] at z; exact c z.2.2
        · exact e2 ⟨z.1, by omega, z.2.2⟩
/-- what a commit has added to a machine's log, by the machine's phase -/
def tp_ext (N : Nat) (w : List tp_E) (p : Nat) : List tp_E := if p = 1 ∨ p = 4 then w ++ [(2, N, 0, 0)] else if p = 2 ∨ p = 6 then w ++ [(2, N, 0, 0), (3, N, 0, 0)] else if p = 5 then w ++ [(2, N, 0, 0), (4, N, 0, 0)] else []
theorem tp_ext_all {N : Nat} {w : List tp_E} (hw : ∀ e, e ∈ w → e.2.1 = N) (p : Nat) : ∀ e, e ∈ tp_ext N w p → e.2.1 = N := by
  intro e he
  unfold tp_ext at he
  split at he
  · simp at he
    rcases he with he | he
    · exact hw e he
    · rw [he]
  · split at he
    · simp at he
      rcases he with he | he | he
      · exact hw e he
      · rw [he]
      · rw [he]
    · split at he
      · simp at he
        rcases he with he | he | he
        · exact hw e he
        · rw [he]
        · rw [he]
      · exact absurd he (by simp)
/-- a machine's log tells its numbers, and nothing is in doubt -/
def tp_Set (m : Nat) (l : List tp_E) (b1 b7 : Nat → Int32) : Prop := (∀ e, e ∈ l → e.1 = 1 → e.2.2.1 % 3 = m) ∧ (tp_rp l l (b1, 0)).2 = 0 ∧ ∀ k, k < 12 → k % 3 = m → (tp_rp l l (b1, 0)).1 k = b7 k
/-- replay over a log and what a commit has added -/
theorem tp_replay {m N : Nat} {l : List tp_E} {b1 b7 b f : Nat → Int32} {W : Nat → Bool} (hm : m < 3) (S : tp_Set m l b1 b7) (hl : ∀ e, e ∈ l → e.2.1 < N) (hf : ∀ k, k < 12 → k % 3 = m → f k = b1 k) (p : Nat) :
    (tp_rp (l ++ tp_ext N (tp_wr W b N m 4) p) (l ++ tp_ext N (tp_wr W b N m 4) p) (f, 0)).2 = (if p = 1 ∨ p = 4 then N else 0) ∧
    (∀ k, k < 12 → k % 3 = m → (tp_rp (l ++ tp_ext N (tp_wr W b N m 4) p) (l ++ tp_ext N (tp_wr W b N m 4) p) (f, 0)).1 k = if (p = 2 ∨ p = 6) ∧ W k = true then b k else b7 k) ∧
    (∀ k, k % 3 ≠ m → (tp_rp (l ++ tp_ext N (tp_wr W b N m 4) p) (l ++ tp_ext N (tp_wr W b N m 4) p) (f, 0)).1 k = f k) := by
  obtain ⟨s0, s1, s2⟩ := S
  have hw : ∀ e, e ∈ tp_wr W b N m 4 → e.2.1 = N := fun e he => (tp_wr_all 4 e he).2.1
  have hx := tp_ext_all hw p
  have hother : ∀ k, k % 3 ≠ m → (tp_rp (l ++ tp_ext N (tp_wr W b N m 4) p) (l ++ tp_ext N (tp_wr W b N m 4) p) (f, 0)).1 k = f k := by
    intro k hk
    refine tp_rp_other (fun e he h1 => ?_) _ (f, 0)
    rw [List.mem_append] at he
    rcases he with he | he
    · have := s0 e he h1
      omega
    · have key : e ∈ tp_wr W b N m 4 → e.2.2.1 ≠ k := by
        intro h
        have := (tp_wr_all 4 e h).2.2.1
        omega
      unfold tp_ext at he
      split at he
      · simp at he
        rcases he with he | he
        · exact key he
        · rw [he] at h1; exact absurd h1 (by simp)
      · split at he
        · simp at he
          rcases he with he | he | he
          · exact key he
          · rw [he] at h1; exact absurd h1 (by simp)
          · rw [he] at h1; exact absurd h1 (by simp)
        · split at he
          · simp at he
            rcases he with he | he | he
            · exact key he
            · rw [he] at h1; exact absurd h1 (by simp)
            · rw [he] at h1; exact absurd h1 (by simp)
          · exact absurd he (by simp)
  refine ⟨?_, ?_, hother⟩
  all_goals rw [tp_rp_app, tp_rp_fresh hx l _ hl]
  · have z0 : (tp_rp l l (f, 0)).2 = 0 := ((tp_rp_cong (k := m) l (f, 0) (b1, 0) (hf m (by omega) (by omega)) rfl).2).trans s1
    generalize tp_rp l l (f, 0) = r at z0
    unfold tp_ext
    split
    · rw [tp_rp_app, tp_rp_one _ _ (fun e he => (tp_wr_all 4 e he).1)]
      rfl
    · split
      · rw [tp_rp_app, tp_rp_one _ _ (fun e he => (tp_wr_all 4 e he).1)]
        rfl
      · split
        · rw [tp_rp_app, tp_rp_one _ _ (fun e he => (tp_wr_all 4 e he).1)]
          rfl
        · exact z0
  · intro k hk hkm
    have z1 : (tp_rp l l (f, 0)).1 k = b7 k := ((tp_rp_cong (k := k) l (f, 0) (b1, 0) (hf k hk hkm) rfl).1).trans (s2 k hk hkm)
    have zl : ∀ g, tp_ap N l g = g := fun g => tp_ap_none l g (fun e he c => by have := hl e he; omega)
    generalize tp_rp l l (f, 0) = r at z1
    unfold tp_ext
    by_cases c1 : p = 1 ∨ p = 4
    · rw [if_pos c1, if_neg (by omega), tp_rp_app, tp_rp_one _ _ (fun e he => (tp_wr_all 4 e he).1)]
      exact z1
    · rw [if_neg c1]
      by_cases c2 : p = 2 ∨ p = 6
      · rw [if_pos c2, tp_rp_app, tp_rp_one _ _ (fun e he => (tp_wr_all 4 e he).1)]
        show tp_ap N (l ++ (tp_wr W b N m 4 ++ [(2, N, 0, 0), (3, N, 0, 0)])) r.1 k = _
        rw [tp_ap_app, zl, tp_ap_app, tp_ap_none [(2, N, 0, 0), (3, N, 0, 0)] _ (by simp), tp_ap_wr hm]
        by_cases c3 : W k = true
        · rw [if_pos ⟨hkm, by omega, c3⟩, if_pos ⟨c2, c3⟩]
        · rw [if_neg (fun z => c3 z.2.2), if_neg (fun z => c3 z.2)]
          exact z1
      · rw [if_neg c2, if_neg (show ¬ ((p = 2 ∨ p = 6) ∧ W k = true) from fun z => c2 z.1)]
        by_cases c3 : p = 5
        · rw [if_pos c3, tp_rp_app, tp_rp_one _ _ (fun e he => (tp_wr_all 4 e he).1)]
          exact z1
        · rw [if_neg c3]
          exact z1
end
section
/-! breaking down: the transactions of a set S are released or rolled back; sp: the one that is being committed -/
def tp_clH (S : Nat) (sp : Nat → Bool) (m i : Nat) (H : Nat → Nat) : Nat → Nat := fun k => if H k ≠ 0 ∧ H k ≤ i ∧ S.testBit (H k - 1) = true ∧ (sp (H k - 1) = false ∨ k % 3 = m) then 0 else H k
def tp_clW (S : Nat) (sp : Nat → Bool) (m i : Nat) (W : Nat → Nat → Bool) : Nat → Nat → Bool := fun j k => if j < i ∧ S.testBit j = true ∧ (sp j = false ∨ k % 3 = m) then false else W j k
def tp_clP (S : Nat) (sp : Nat → Bool) (m i : Nat) (P : Nat → Nat → Nat) : Nat → Nat → Nat := fun j x => if j < i ∧ S.testBit j = true ∧ (sp j = false ∨ x = m) then 0 else P j x
def tp_clG (S : Nat) (sp : Nat → Bool) (m i : Nat) (G : Nat → Nat → Bool) : Nat → Nat → Bool := fun j x => if j < i ∧ S.testBit j = true ∧ sp j = true ∧ x = m then true else G j x
def tp_clO (S : Nat) (sp : Nat → Bool) (O : Nat) : Nat → Nat
  | 0 => O
  | i + 1 => if S.testBit i = true ∧ sp i = false then tp_clr (tp_clO S sp O i) (2 ^ i) else tp_clO S sp O i
def tp_clN (S : Nat) (sp : Nat → Bool) : Nat → Nat
  | 0 => 0
  | i + 1 => if S.testBit i = true ∧ sp i = false then tp_clN S sp i + 1 else tp_clN S sp i
theorem tp_tb3' {S i : Nat} (hS : S < 8) (hi : i < 4) (h : S.testBit i = true) : i < 3 := by
  rcases Nat.lt_or_ge i 3 with z | z
  · exact z
  · have e : i = 3 := by omega
    subst e
    rw [tp_tb3 S hS] at h
    exact absurd h (by decide)
theorem tp_clO_ok {S O : Nat} {sp : Nat → Bool} (hS : S < 8) (hO : O < 8) : ∀ i, i ≤ 4 → tp_clO S sp O i < 8 ∧ ∀ j, j < 3 → (tp_clO S sp O i).testBit j = (O.testBit j && !(decide (j < i) && S.testBit j && !(sp j))) := by
  intro i
  induction i with
  | zero => intro _; exact ⟨hO, fun j _ => by simp [tp_clO]⟩
  | succ i ih =>
    intro hi
    obtain ⟨h1, h2⟩ := ih (by omega)
    unfold tp_clO
    by_cases c : S.testBit i = true ∧ sp i = false
    · rw [if_pos c]
      obtain ⟨_, q2, q3⟩ := tp_clr8 _ h1 i (tp_tb3' hS (by omega) c.1)
      refine ⟨q2, fun j hj => ?_⟩
      rw [q3 j hj, h2 j hj]
      by_cases e : j = i
      · subst e; simp [c.1, c.2]
      · have : (decide (j < i + 1)) = decide (j < i) := by
          apply decide_eq_decide.mpr; omega
        simp [e, this]
    · rw [if_neg c]
      refine ⟨h1, fun j hj => ?_⟩
      rw [h2 j hj]
      by_cases e : j = i
      · subst e
        have : (S.testBit j && !(sp j)) = false := by
          cases h : S.testBit j <;> cases h' : sp j <;> simp_all
        simp [Bool.and_assoc, this]
      · have : (decide (j < i + 1)) = decide (j < i) := by
          apply decide_eq_decide.mpr; omega
        simp [this]
theorem tp_clN_le (S : Nat) (sp : Nat → Bool) : ∀ i, tp_clN S sp i ≤ i := by
  intro i
  induction i with
  | zero => exact Nat.le_refl 0
  | succ i ih =>
    unfold tp_clN
    split <;> omega
theorem tp_cl_0 {S : Nat} {sp : Nat → Bool} {m : Nat} {H : Nat → Nat} {W : Nat → Nat → Bool} {P : Nat → Nat → Nat} {G : Nat → Nat → Bool} {a8 a9 a11 a12 : Nat → Int32} (D : tp_D H W P G a8 a9 a11 a12) : tp_D (tp_clH S sp m 0 H) (tp_clW S sp m 0 W) (tp_clP S sp m 0 P) (tp_clG S sp m 0 G) a8 a9 a11 a12 := by
  refine tp_D_c D (fun k hk => ?_) (fun j hj k hk => ?_) (fun j hj x hx => ?_) (fun j hj x hx => ?_)
  · unfold tp_clH; rw [if_neg (fun z => absurd z.2.1 (by omega))]
  · unfold tp_clW; rw [if_neg (fun z => absurd z.1 (by omega))]
  · unfold tp_clP; rw [if_neg (fun z => absurd z.1 (by omega))]
  · unfold tp_clG; rw [if_neg (fun z => absurd z.1 (by omega))]
/-- the next transaction isn't of the set -/
theorem tp_cl_skip {S : Nat} {sp : Nat → Bool} {m i : Nat} {H : Nat → Nat} {W : Nat → Nat → Bool} {P : Nat → Nat → Nat} {G : Nat → Nat → Bool} {a8 a9 a11 a12 : Nat → Int32} (hb : S.testBit i = false) (D : tp_D (tp_clH S sp m i H) (tp_clW S sp m i W) (tp_clP S sp m i P) (tp_clG S sp m i G) a8 a9 a11 a12) : tp_D (tp_clH S sp m (i + 1) H) (tp_clW S sp m (i + 1) W) (tp_clP S sp m (i + 1) P) (tp_clG S sp m (i + 1) G) a8 a9 a11 a12 := by
  have hj : ∀ j, S.testBit j = true → (j < i + 1 ↔ j < i) := by
    intro j h
    constructor
    · intro z
      rcases Nat.lt_or_ge j i with y | y
      · exact y
      · have e : j = i := by omega
        subst e
        rw [hb] at h
        exact absurd h (by decide)
    · intro z; omega
  refine tp_D_c D (fun k hk => ?_) (fun j _ k hk => ?_) (fun j _ x hx => ?_) (fun j _ x hx => ?_)
  · unfold tp_clH
    by_cases c : H k ≠ 0 ∧ H k ≤ i ∧ S.testBit (H k - 1) = true ∧ (sp (H k - 1) = false ∨ k % 3 = m)
    · rw [if_pos c, if_pos ⟨c.1, by omega, c.2.2⟩]
    · rw [if_neg c, if_neg (fun z => c ⟨z.1, ?_, z.2.2⟩)]
      have := (hj _ z.2.2.1).mp (by omega)
      omega
  · unfold tp_clW
    by_cases c : j < i ∧ S.testBit j = true ∧ (sp j = false ∨ k % 3 = m)
    · rw [if_pos c, if_pos ⟨by omega, c.2⟩]
    · rw [if_neg c, if_neg (fun z => c ⟨(hj _ z.2.1).mp z.1, z.2⟩)]
  · unfold tp_clP
    by_cases c : j < i ∧ S.testBit j = true ∧ (sp j = false ∨ x = m)
    · rw [if_pos c, if_pos ⟨by omega, c.2⟩]
    · rw [if_neg c, if_neg (fun z => c ⟨(hj _ z.2.1).mp z.1, z.2⟩)]
  · unfold tp_clG
    by_cases c : j < i ∧ S.testBit j = true ∧ sp j = true ∧ x = m
    · rw [if_pos c, if_pos ⟨by omega, c.2⟩]
    · rw [if_neg c, if_neg (fun z => c ⟨(hj _ z.2.1).mp z.1, z.2⟩)]
/-- pure: what release on m, roll back, do to the pictures -/
theorem tp_clH_same {S : Nat} {sp : Nat → Bool} {m i : Nat} {H : Nat → Nat} {k : Nat} : tp_clH S sp m i H k = i + 1 ↔ H k = i + 1 := by
  unfold tp_clH
  constructor
  · intro h
    split at h
    · exact absurd h (by omega)
    · exact h
  · intro h
    rw [if_neg (fun z => absurd z.2.1 (by omega))]
    exact h
theorem tp_cl_roll {S : Nat} {sp : Nat → Bool} {m i : Nat} {H : Nat → Nat} {W : Nat → Nat → Bool} {P : Nat → Nat → Nat} {G : Nat → Nat → Bool} {a8 a9 a11 a12 : Nat → Int32} (hb : S.testBit i = true) (hs : sp i = false)
    (D : tp_D (tp_oH i 3 (tp_clH S sp m i H)) (tp_oW i 3 (tp_clW S sp m i W)) (tp_oP i 3 (tp_clP S sp m i P)) (tp_clG S sp m i G) a8 a9 a11 a12) : tp_D (tp_clH S sp m (i + 1) H) (tp_clW S sp m (i + 1) W) (tp_clP S sp m (i + 1) P) (tp_clG S sp m (i + 1) G) a8 a9 a11 a12 := by
  refine tp_D_c D (fun k hk => ?_) (fun j _ k hk => ?_) (fun j _ x hx => ?_) (fun j _ x hx => ?_)
  · unfold tp_oH
    by_cases c : H k = i + 1
    · rw [if_pos ⟨by omega, tp_clH_same.mpr c⟩]
      unfold tp_clH
      rw [if_pos]
      have : H k - 1 = i := by omega
      rw [this]
      exact ⟨by omega, by omega, hb, Or.inl hs⟩
    · rw [if_neg (fun z => c (tp_clH_same.mp z.2))]
      unfold tp_clH
      by_cases c2 : H k ≠ 0 ∧ H k ≤ i ∧ S.testBit (H k - 1) = true ∧ (sp (H k - 1) = false ∨ k % 3 = m)
      · rw [if_pos c2, if_pos ⟨c2.1, by omega, c2.2.2⟩]
      · rw [if_neg c2, if_neg (fun z => c2 ⟨z.1, by omega, z.2.2⟩)]
  · unfold tp_oW tp_clW
    by_cases c : j = i
    · subst c
      rw [if_pos ⟨by omega, hb, Or.inl hs⟩, if_pos ⟨rfl, by omega⟩]
    · rw [if_neg (show ¬ (j = i ∧ k % 3 < 3) from fun z => c z.1)]
      by_cases c2 : j < i ∧ S.testBit j = true ∧ (sp j = false ∨ k % 3 = m)
      · rw [if_pos c2, if_pos ⟨by omega, c2.2⟩]
      · rw [if_neg c2, if_neg (fun z => c2 ⟨by omega, z.2⟩)]
  · unfold tp_oP tp_clP
    by_cases c : j = i
    · subst c
      rw [if_pos ⟨by omega, hb, Or.inl hs⟩, if_pos ⟨rfl, by omega⟩]
    · rw [if_neg (show ¬ (j = i ∧ x < 3) from fun z => c z.1)]
      by_cases c2 : j < i ∧ S.testBit j = true ∧ (sp j = false ∨ x = m)
      · rw [if_pos c2, if_pos ⟨by omega, c2.2⟩]
      · rw [if_neg c2, if_neg (fun z => c2 ⟨by omega, z.2⟩)]
  · unfold tp_clG
    by_cases c2 : j < i ∧ S.testBit j = true ∧ sp j = true ∧ x = m
    · rw [if_pos c2, if_pos ⟨by omega, c2.2⟩]
    · rw [if_neg c2, if_neg (fun z => c2 ⟨?_, z.2⟩)]
      rcases Nat.lt_or_ge j i with y | y
      · exact y
      · have e : j = i := by omega
        subst e
        have := z.2.2.1
        rw [hs] at this
        exact absurd this (by decide)
/-- release on m, then roll back: the release shows no more -/
theorem tp_ro {m i : Nat} {H : Nat → Nat} {W : Nat → Nat → Bool} {P : Nat → Nat → Nat} {G : Nat → Nat → Bool} {a8 a9 a11 a12 : Nat → Int32}
    (D : tp_D (tp_oH i 3 (tp_rH i m 4 H)) (tp_oW i 3 (tp_rW i m 4 W)) (tp_oP i 3 (tp_rP i m P)) G a8 a9 a11 a12) : tp_D (tp_oH i 3 H) (tp_oW i 3 W) (tp_oP i 3 P) G a8 a9 a11 a12 := by
  refine tp_D_c D (fun k hk => ?_) (fun j _ k hk => ?_) (fun j _ x hx => ?_) (fun j _ x hx => rfl)
  · by_cases c : H k = i + 1
    · have q1 : tp_oH i 3 H k = 0 := if_pos ⟨by omega, c⟩
      by_cases c2 : k % 3 = m
      · have q2 : tp_rH i m 4 H k = 0 := if_pos ⟨c2, by omega, c⟩
        have q3 : tp_oH i 3 (tp_rH i m 4 H) k = tp_rH i m 4 H k := if_neg (fun z => absurd z.2 (by rw [q2]; omega))
        rw [q1, q3, q2]
      · have q2 : tp_rH i m 4 H k = H k := if_neg (fun z => c2 z.1)
        have q3 : tp_oH i 3 (tp_rH i m 4 H) k = 0 := if_pos ⟨by omega, by rw [q2]; exact c⟩
        rw [q1, q3]
    · have q1 : tp_oH i 3 H k = H k := if_neg (fun z => c z.2)
      have q2 : tp_rH i m 4 H k = H k := if_neg (fun z => c z.2.2)
      have q3 : tp_oH i 3 (tp_rH i m 4 H) k = tp_rH i m 4 H k := if_neg (fun z => c (by rw [← q2]; exact z.2))
      rw [q1, q3, q2]
  · unfold tp_oW tp_rW
    by_cases c : j = i
    · rw [if_pos ⟨c, by omega⟩, if_pos ⟨c, by omega⟩]
    · rw [if_neg (fun z => c z.1), if_neg (fun z => c z.1), if_neg (fun z => c z.1)]
  · unfold tp_oP tp_rP
    by_cases c : j = i
    · rw [if_pos ⟨c, by omega⟩, if_pos ⟨c, by omega⟩]
    · rw [if_neg (fun z => c z.1), if_neg (fun z => c z.1), if_neg (fun z => c z.1)]
/-- the one that is being committed: released on m alone, and gone there -/
theorem tp_cl_gone {S : Nat} {sp : Nat → Bool} {m i : Nat} {H : Nat → Nat} {W : Nat → Nat → Bool} {P : Nat → Nat → Nat} {G : Nat → Nat → Bool} {a8 a9 a11 a12 : Nat → Int32} (hi : i < 4) (hm : m < 3) (hb : S.testBit i = true) (hs : sp i = true)
    (D : tp_D (tp_rH i m 4 (tp_clH S sp m i H)) (tp_rW i m 4 (tp_clW S sp m i W)) (tp_rP i m (tp_clP S sp m i P)) (tp_clG S sp m i G) a8 a9 a11 a12) : tp_D (tp_clH S sp m (i + 1) H) (tp_clW S sp m (i + 1) W) (tp_clP S sp m (i + 1) P) (tp_clG S sp m (i + 1) G) a8 a9 a11 (upd a12 (i * 3 + m) 1) := by
  have D' : tp_D (tp_rH i m 4 (tp_clH S sp m i H)) (tp_rW i m 4 (tp_clW S sp m i W)) (tp_rP i m (tp_clP S sp m i P)) (fun j x => if j = i ∧ x = m then true else tp_clG S sp m i G j x) a8 a9 a11 (upd a12 (i * 3 + m) 1) := by
    obtain ⟨d1, d2, d3, d4⟩ := D
    refine ⟨d1, d2, d3, fun j hj x hx => ?_⟩
    rw [tp_upd']
    by_cases c : j = i ∧ x = m
    · rw [if_pos (by omega), if_pos (show (if j = i ∧ x = m then true else tp_clG S sp m i G j x) = true by rw [if_pos c])]
    · rw [if_neg (by omega), d4 j hj x hx]
      show _ = if (if j = i ∧ x = m then true else tp_clG S sp m i G j x) = true then _ else _
      rw [if_neg c]
  refine tp_D_c D' (fun k hk => ?_) (fun j _ k hk => ?_) (fun j _ x hx => ?_) (fun j _ x hx => ?_)
  · unfold tp_rH
    by_cases c : H k = i + 1
    · by_cases c1 : k % 3 = m
      · rw [if_pos ⟨c1, by omega, tp_clH_same.mpr c⟩]
        unfold tp_clH
        rw [if_pos]
        have : H k - 1 = i := by omega
        rw [this]
        exact ⟨by omega, by omega, hb, Or.inr c1⟩
      · rw [if_neg (fun z => c1 z.1)]
        unfold tp_clH
        have e : H k - 1 = i := by omega
        rw [e, hs, if_neg (fun z => ?_), if_neg (fun z => absurd z.2.1 (by omega))]
        rcases z.2.2.2 with y | y
        · exact absurd y (by decide)
        · exact c1 y
    · rw [if_neg (fun z => c (tp_clH_same.mp z.2.2))]
      unfold tp_clH
      by_cases c2 : H k ≠ 0 ∧ H k ≤ i ∧ S.testBit (H k - 1) = true ∧ (sp (H k - 1) = false ∨ k % 3 = m)
      · rw [if_pos c2, if_pos ⟨c2.1, by omega, c2.2.2⟩]
      · rw [if_neg c2, if_neg (fun z => c2 ⟨z.1, by omega, z.2.2⟩)]
  · unfold tp_rW tp_clW
    by_cases c : j = i
    · subst c
      by_cases c1 : k % 3 = m
      · rw [if_pos ⟨by omega, hb, Or.inr c1⟩, if_pos ⟨rfl, c1, by omega⟩]
      · rw [if_neg (fun z => ?_), if_neg (fun z => c1 z.2.1), if_neg (fun z => absurd z.1 (by omega))]
        rcases z.2.2 with y | y
        · rw [hs] at y; exact absurd y (by decide)
        · exact c1 y
    · rw [if_neg (show ¬ (j = i ∧ k % 3 = m ∧ k < m + 3 * 4) from fun z => c z.1)]
      by_cases c2 : j < i ∧ S.testBit j = true ∧ (sp j = false ∨ k % 3 = m)
      · rw [if_pos c2, if_pos ⟨by omega, c2.2⟩]
      · rw [if_neg c2, if_neg (fun z => c2 ⟨by omega, z.2⟩)]
  · unfold tp_rP tp_clP
    by_cases c : j = i
    · subst c
      by_cases c1 : x = m
      · rw [if_pos ⟨by omega, hb, Or.inr c1⟩, if_pos ⟨rfl, c1⟩]
      · rw [if_neg (fun z => ?_), if_neg (fun z => c1 z.2), if_neg (fun z => absurd z.1 (by omega))]
        rcases z.2.2 with y | y
        · rw [hs] at y; exact absurd y (by decide)
        · exact c1 y
    · rw [if_neg (show ¬ (j = i ∧ x = m) from fun z => c z.1)]
      by_cases c2 : j < i ∧ S.testBit j = true ∧ (sp j = false ∨ x = m)
      · rw [if_pos c2, if_pos ⟨by omega, c2.2⟩]
      · rw [if_neg c2, if_neg (fun z => c2 ⟨by omega, z.2⟩)]
  · unfold tp_clG
    by_cases c : j = i ∧ x = m
    · rw [if_pos c, c.1, if_pos ⟨by omega, hb, hs, c.2⟩]
    · rw [if_neg c]
      by_cases c2 : j < i ∧ S.testBit j = true ∧ sp j = true ∧ x = m
      · rw [if_pos c2, if_pos ⟨by omega, c2.2⟩]
      · rw [if_neg c2, if_neg (fun z => c2 ⟨?_, z.2⟩)]
        rcases Nat.lt_or_ge j i with y | y
        · exact y
        · exact absurd ⟨by omega, z.2.2.2⟩ c
def tp_sp (st sl : Nat) : Nat → Bool := fun j => decide (st ≠ 0 ∧ j = sl)
theorem tp_w_breakDown {post : Int32 → St1 → Prop} {g1 g2 g3 g4 g5 g6 g7 g8 g9 g10 g11 g12 g13 g14 g15 g16 : Int32} {a1 a2 a3 a4 a5 a6 a7 a8 a9 a10 a11 a12 a13 a14 a15 a16 : Nat → Int32} {H : Nat → Nat} {W : Nat → Nat → Bool} {P : Nat → Nat → Nat} {G : Nat → Nat → Bool} (D : tp_D H W P G a8 a9 a11 a12) {m O st sl : Nat} (hm : m < 3) (hO : O < 8) (eO : g1 = nI O) (hst : st < 8) (e2 : g2 = nI st) (hsl : sl < 300) (e7 : g7 = nI sl)
    (K : ∀ S, S < 8 → (∀ t, t < 3 → (S.testBit t = true ↔ ∃ k, k < 12 ∧ k % 3 = m ∧ H k = t + 1)) → ∀ a8' a9' a11' a12', tp_D (tp_clH S (tp_sp st sl) m 4 H) (tp_clW S (tp_sp st sl) m 4 W) (tp_clP S (tp_sp st sl) m 4 P) (tp_clG S (tp_sp st sl) m 4 G) a8' a9' a11' a12' →
      wpX_comeBack (fun u => post (nI (tp_clN S (tp_sp st sl) 4)) u) (nI (tp_clO S (tp_sp st sl) O 4), nI st, g3, g4, g5, g6, nI sl, g8, g9, g10, g11, g12, g13, g14, g15, g16, a1, a2, a3, a4, a5, a6, a7, a8', a9', a10, a11', a12', a13, a14, a15, a16) (nI m)) : wpX_breakDown post (g1, g2, g3, g4, g5, g6, g7, g8, g9, g10, g11, g12, g13, g14, g15, g16, a1, a2, a3, a4, a5, a6, a7, a8, a9, a10, a11, a12, a13, a14, a15, a16) (nI m) := by
  subst eO e2 e7
  refine tp_w_holdersOn D.1 hm (fun S hS hSb => ?_)
  refine pk_loop (fun f i (s : (Nat → Int32) × (Nat → Int32) × (Nat → Int32) × (Nat → Int32)) => wX_breakDown_11 post (nI m) (nI S) f (nI (tp_clN S (tp_sp st sl) i)) (nI i) (nI (tp_clO S (tp_sp st sl) O i)) (nI st) g3 g4 g5 g6 (nI sl) g8 g9 g10 g11 g12 g13 g14 g15 g16 a1 a2 a3 a4 a5 a6 a7 s.1 s.2.1 a10 s.2.2.1 s.2.2.2 a13 a14 a15 a16) (fun i s => tp_D (tp_clH S (tp_sp st sl) m i H) (tp_clW S (tp_sp st sl) m i W) (tp_clP S (tp_sp st sl) m i P) (tp_clG S (tp_sp st sl) m i G) s.1 s.2.1 s.2.2.1 s.2.2.2) 4 0 (a8, a9, a11, a12) (by omega) (tp_cl_0 D) ?_ ?_
  · intro f s h
    exact pk_le 4 4 (fun _ => K S hS hSb _ _ _ _ h) (fun z => absurd z (by omega))
  · intro f i s hi h hw
    have hcO := tp_clO_ok (sp := tp_sp st sl) hS hO i (by omega)
    have hcN := tp_clN_le S (tp_sp st sl) i
    refine pk_le 4 i (fun z => absurd z (by omega)) (fun _ => ek_if (tp_tb (by omega)) (fun hb => nm_r (nI_1 i) ?_) (fun hb => ?_))
    · have t : wX_breakDown_11 post (nI m) (nI S) f (nI (tp_clN S (tp_sp st sl) (i + 1))) (nI (i + 1)) (nI (tp_clO S (tp_sp st sl) O (i + 1))) (nI st) g3 g4 g5 g6 (nI sl) g8 g9 g10 g11 g12 g13 g14 g15 g16 a1 a2 a3 a4 a5 a6 a7 s.1 s.2.1 a10 s.2.2.1 s.2.2.2 a13 a14 a15 a16 := hw s (tp_cl_skip hb h)
      unfold tp_clN tp_clO at t
      rw [if_neg (fun z => by rw [hb] at z; exact absurd z.1 (by decide)), if_neg (fun z => by rw [hb] at z; exact absurd z.1 (by decide))] at t
      exact t
    · have hb : S.testBit i = true := by simpa using hb
      have hi3 : i < 3 := tp_tb3' hS hi hb
      have roll : (st = 0 ∨ i ≠ sl) → ∀ a8' a9' a11', tp_D (tp_rH i m 4 (tp_clH S (tp_sp st sl) m i H)) (tp_rW i m 4 (tp_clW S (tp_sp st sl) m i W)) (tp_rP i m (tp_clP S (tp_sp st sl) m i P)) (tp_clG S (tp_sp st sl) m i G) a8' a9' a11' s.2.2.2 →
          wX_breakDown_64 post (wX_breakDown_11 post (nI m) (nI S) f) (nI m) (nI S) (nI (tp_clN S (tp_sp st sl) i)) (nI i) (nI (tp_clO S (tp_sp st sl) O i)) (nI st) g3 g4 g5 g6 (nI sl) g8 g9 g10 g11 g12 g13 g14 g15 g16 a1 a2 a3 a4 a5 a6 a7 a8' a9' a10 a11' s.2.2.2 a13 a14 a15 a16 := by
        intro hns a8' a9' a11' h'
        have hsp : tp_sp st sl i = false := by
          unfold tp_sp
          exact decide_eq_false (by omega)
        refine tp_w_rollBack h' (t := i) hi3 hcO.1 rfl (fun b8 b9 b11 h'' => nm_r (nI_1 _) (nm_r (nI_1 i) ?_))
        have t : wX_breakDown_11 post (nI m) (nI S) f (nI (tp_clN S (tp_sp st sl) (i + 1))) (nI (i + 1)) (nI (tp_clO S (tp_sp st sl) O (i + 1))) (nI st) g3 g4 g5 g6 (nI sl) g8 g9 g10 g11 g12 g13 g14 g15 g16 a1 a2 a3 a4 a5 a6 a7 b8 b9 a10 b11 s.2.2.2 a13 a14 a15 a16 := hw (b8, b9, b11, s.2.2.2) (tp_cl_roll hb hsp (tp_ro h''))
        unfold tp_clN tp_clO at t
        rw [if_pos ⟨hb, hsp⟩, if_pos ⟨hb, hsp⟩] at t
        exact t
      refine tp_w_releaseOn h (t := i) (m := m) hi hm (fun a8' a9' a11' h' => ?_)
      refine pk_eq st 0 (fun z => roll (Or.inl z) _ _ _ h') (fun z => pk_eq i sl (fun y => ⟨pk_in (i * 3 + m) 12 (by omega) (tp_ix3 i m), nm_e (nm_r (nI_1 i) ?_)⟩) (fun y => roll (Or.inr y) _ _ _ h'))
      have hsp : tp_sp st sl i = true := by
        unfold tp_sp
        exact decide_eq_true ⟨z, y⟩
      have t : wX_breakDown_11 post (nI m) (nI S) f (nI (tp_clN S (tp_sp st sl) (i + 1))) (nI (i + 1)) (nI (tp_clO S (tp_sp st sl) O (i + 1))) (nI st) g3 g4 g5 g6 (nI sl) g8 g9 g10 g11 g12 g13 g14 g15 g16 a1 a2 a3 a4 a5 a6 a7 a8' a9' a10 a11' (upd s.2.2.2 (i * 3 + m) 1) a13 a14 a15 a16 := hw (a8', a9', a11', upd s.2.2.2 (i * 3 + m) 1) (tp_cl_gone hi hm hb hsp h')
      unfold tp_clN tp_clO at t
      rw [if_neg (fun z => by rw [hsp] at z; exact absurd z.2 (by decide)), if_neg (fun z => by rw [hsp] at z; exact absurd z.2 (by decide))] at t
      rw [tp_ix3 i m, nI_clamp (by omega)]
      exact t
theorem tp_w_breakLeader {post : Int32 → St1 → Prop} {g1 g2 g3 g4 g5 g6 g7 g8 g9 g10 g11 g12 g13 g14 g15 g16 : Int32} {a1 a2 a3 a4 a5 a6 a7 a8 a9 a10 a11 a12 a13 a14 a15 a16 : Nat → Int32} {H : Nat → Nat} {W : Nat → Nat → Bool} {P : Nat → Nat → Nat} {G : Nat → Nat → Bool} (D : tp_D H W P G a8 a9 a11 a12) {L : Nat → List tp_E} (DL : tp_LG L a2 a3 a4 a5 a6) {O st sl N : Nat} (hO : O < 8) (eO : g1 = nI O) (hst : st < 8) (e2 : g2 = nI st) (hsl : sl < 300) (e7 : g7 = nI sl) (hN : N < 2 ^ 30) (e6 : g6 = nI N) {de : Bool}
    (hde : de = true → ∃ e, e ∈ L 3 ∧ e.1 = 5 ∧ e.2.1 = N) (hnd : de = false → ∀ e, e ∈ L 3 → ¬ (e.1 = 5 ∧ e.2.1 = N))
    (K0 : st = 0 → ∀ a8' a9' a11' a12', tp_D (tp_clH O (tp_sp st sl) 3 4 H) (tp_clW O (tp_sp st sl) 3 4 W) (tp_clP O (tp_sp st sl) 3 4 P) (tp_clG O (tp_sp st sl) 3 4 G) a8' a9' a11' a12' → post (nI (tp_clN O (tp_sp st sl) 4)) (nI (tp_clO O (tp_sp st sl) O 4), nI st, g3, g4, g5, nI N, nI sl, g8, g9, g10, g11, g12, g13, g14, g15, g16, a1, a2, a3, a4, a5, a6, a7, a8', a9', a10, a11', a12', a13, a14, a15, a16))
    (K1 : st ≠ 0 → ∀ a8' a9' a11' a12', tp_D (tp_clH O (tp_sp st sl) 3 4 H) (tp_clW O (tp_sp st sl) 3 4 W) (tp_clP O (tp_sp st sl) 3 4 P) (tp_clG O (tp_sp st sl) 3 4 G) a8' a9' a11' a12' → post (nI (tp_clN O (tp_sp st sl) 4)) (nI (tp_clO O (tp_sp st sl) O 4), nI (if de = true then 2 else 3), nI 0, nI 0, g5, nI N, nI sl, g8, g9, g10, g11, g12, g13, g14, g15, g16, a1, a2, a3, a4, a5, a6, a7, a8', a9', a10, a11', a12', a13, a14, a15, a16)) : wpX_breakLeader post (g1, g2, g3, g4, g5, g6, g7, g8, g9, g10, g11, g12, g13, g14, g15, g16, a1, a2, a3, a4, a5, a6, a7, a8, a9, a10, a11, a12, a13, a14, a15, a16) := by
  subst eO e2 e7 e6
  refine pk_loop (fun f i (s : (Nat → Int32) × (Nat → Int32) × (Nat → Int32) × (Nat → Int32)) => wX_breakLeader_4 post f (nI (tp_clN O (tp_sp st sl) i)) (nI i) (nI (tp_clO O (tp_sp st sl) O i)) (nI st) g3 g4 g5 (nI N) (nI sl) g8 g9 g10 g11 g12 g13 g14 g15 g16 a1 a2 a3 a4 a5 a6 a7 s.1 s.2.1 a10 s.2.2.1 s.2.2.2 a13 a14 a15 a16) (fun i s => tp_D (tp_clH O (tp_sp st sl) 3 i H) (tp_clW O (tp_sp st sl) 3 i W) (tp_clP O (tp_sp st sl) 3 i P) (tp_clG O (tp_sp st sl) 3 i G) s.1 s.2.1 s.2.2.1 s.2.2.2) 4 0 (a8, a9, a11, a12) (by omega) (tp_cl_0 D) ?_ ?_
  · intro f s h
    refine pk_le 4 4 (fun _ => pk_eq st 0 (fun z => K0 z _ _ _ _ h) (fun z => ?_)) (fun z => absurd z (by omega))
    have k1 := K1 z _ _ _ _ h
    cases de
    · exact tp_w_isLogged DL (m := 3) (k := 5) (n := N) (by omega) (by omega) hN rfl rfl rfl (fun _ => br_t rfl k1) (fun ⟨e, a, b, c⟩ => absurd ⟨b, c⟩ (hnd rfl e a))
    · refine tp_w_isLogged DL (m := 3) (k := 5) (n := N) (by omega) (by omega) hN rfl rfl rfl (fun q => ?_) (fun _ => br_f (by decide) k1)
      obtain ⟨e, a, b, c⟩ := hde rfl
      exact absurd ⟨b, c⟩ (q e a)
  · intro f i s hi h hw
    have hcO := tp_clO_ok (sp := tp_sp st sl) hO hO i (by omega)
    have hcN := tp_clN_le O (tp_sp st sl) i
    have hbit : (tp_clO O (tp_sp st sl) O i).testBit i = O.testBit i := by
      rcases Nat.lt_or_ge i 3 with z | z
      · rw [hcO.2 i z]; simp
      · have e : i = 3 := by omega
        subst e
        rw [tp_tb3 _ hcO.1, tp_tb3 _ hO]
    have skip : O.testBit i = false ∨ tp_sp st sl i = true → wX_breakLeader_4 post f (nI (tp_clN O (tp_sp st sl) i)) (nI (i + 1)) (nI (tp_clO O (tp_sp st sl) O i)) (nI st) g3 g4 g5 (nI N) (nI sl) g8 g9 g10 g11 g12 g13 g14 g15 g16 a1 a2 a3 a4 a5 a6 a7 s.1 s.2.1 a10 s.2.2.1 s.2.2.2 a13 a14 a15 a16 := by
      intro c
      have t : wX_breakLeader_4 post f (nI (tp_clN O (tp_sp st sl) (i + 1))) (nI (i + 1)) (nI (tp_clO O (tp_sp st sl) O (i + 1))) (nI st) g3 g4 g5 (nI N) (nI sl) g8 g9 g10 g11 g12 g13 g14 g15 g16 a1 a2 a3 a4 a5 a6 a7 s.1 s.2.1 a10 s.2.2.1 s.2.2.2 a13 a14 a15 a16 := by
        refine hw s ?_
        rcases c with c | c
        · exact tp_cl_skip c h
        · refine tp_D_c h (fun k hk => ?_) (fun j _ k hk => ?_) (fun j _ x hx => ?_) (fun j _ x hx => ?_)
          · unfold tp_clH
            by_cases c2 : H k ≠ 0 ∧ H k ≤ i ∧ O.testBit (H k - 1) = true ∧ (tp_sp st sl (H k - 1) = false ∨ k % 3 = 3)
            · rw [if_pos c2, if_pos ⟨c2.1, by omega, c2.2.2⟩]
            · rw [if_neg c2, if_neg (fun z => c2 ⟨z.1, ?_, z.2.2⟩)]
              rcases Nat.lt_or_ge i (H k) with y | y
              · have e : H k - 1 = i := by omega
                rcases z.2.2.2 with w | w
                · rw [e, c] at w; exact absurd w (by decide)
                · omega
              · exact y
          · unfold tp_clW
            by_cases c2 : j < i ∧ O.testBit j = true ∧ (tp_sp st sl j = false ∨ k % 3 = 3)
            · rw [if_pos c2, if_pos ⟨by omega, c2.2⟩]
            · rw [if_neg c2, if_neg (fun z => c2 ⟨?_, z.2⟩)]
              rcases Nat.lt_or_ge j i with y | y
              · exact y
              · have e : j = i := by omega
                subst e
                rcases z.2.2 with w | w
                · rw [c] at w; exact absurd w (by decide)
                · omega
          · unfold tp_clP
            by_cases c2 : j < i ∧ O.testBit j = true ∧ (tp_sp st sl j = false ∨ x = 3)
            · rw [if_pos c2, if_pos ⟨by omega, c2.2⟩]
            · rw [if_neg c2, if_neg (fun z => c2 ⟨?_, z.2⟩)]
              rcases Nat.lt_or_ge j i with y | y
              · exact y
              · have e : j = i := by omega
                subst e
                rcases z.2.2 with w | w
                · rw [c] at w; exact absurd w (by decide)
                · omega
          · unfold tp_clG
            rw [if_neg (fun z => absurd z.2.2.2 (by omega)), if_neg (fun z => absurd z.2.2.2 (by omega))]
      have nc : ¬ (O.testBit i = true ∧ tp_sp st sl i = false) := by
        rintro ⟨z1, z2⟩
        rcases c with c | c
        · rw [c] at z1; exact absurd z1 (by decide)
        · rw [c] at z2; exact absurd z2 (by decide)
      unfold tp_clN tp_clO at t
      rw [if_neg nc, if_neg nc] at t
      exact t
    have roll : O.testBit i = true → tp_sp st sl i = false → wX_breakLeader_32 post (wX_breakLeader_4 post f) (nI (tp_clN O (tp_sp st sl) i)) (nI i) (nI (tp_clO O (tp_sp st sl) O i)) (nI st) g3 g4 g5 (nI N) (nI sl) g8 g9 g10 g11 g12 g13 g14 g15 g16 a1 a2 a3 a4 a5 a6 a7 s.1 s.2.1 a10 s.2.2.1 s.2.2.2 a13 a14 a15 a16 := by
      intro hb hsp
      have hi3 : i < 3 := tp_tb3' hO hi hb
      refine tp_w_rollBack h (t := i) hi3 hcO.1 rfl (fun b8 b9 b11 h'' => nm_r (nI_1 _) (nm_r (nI_1 i) ?_))
      have t : wX_breakLeader_4 post f (nI (tp_clN O (tp_sp st sl) (i + 1))) (nI (i + 1)) (nI (tp_clO O (tp_sp st sl) O (i + 1))) (nI st) g3 g4 g5 (nI N) (nI sl) g8 g9 g10 g11 g12 g13 g14 g15 g16 a1 a2 a3 a4 a5 a6 a7 b8 b9 a10 b11 s.2.2.2 a13 a14 a15 a16 := hw (b8, b9, b11, s.2.2.2) (tp_cl_roll hb hsp h'')
      unfold tp_clN tp_clO at t
      rw [if_pos ⟨hb, hsp⟩, if_pos ⟨hb, hsp⟩] at t
      exact t
    refine pk_le 4 i (fun z => absurd z (by omega)) (fun _ => tp_w_isOpen (t := i) hi rfl (fun hb => br_t rfl (nm_r (nI_1 i) (skip (Or.inl (hbit.symm.trans hb))))) (fun hb => br_f (by decide) (pk_eq st 0 (fun z => roll (hbit.symm.trans hb) ?_) (fun z => pk_eq i sl (fun y => nm_r (nI_1 i) (skip (Or.inr ?_))) (fun y => roll (hbit.symm.trans hb) ?_)))))
    · unfold tp_sp
      exact decide_eq_false (fun w => w.1 z)
    · unfold tp_sp
      exact decide_eq_true ⟨z, y⟩
    · unfold tp_sp
      exact decide_eq_false (fun w => y w.2)
end
section
/-! messages under way -/
def tp_Q (N : Nat) (q : List (Nat × Nat × Nat)) (g13 g14 : Int32) (a13 a14 a15 a16 : Nat → Int32) : Prop :=
  ∃ f, f < 64 ∧ g13 = nI f ∧ g14 = nI q.length ∧ q.length ≤ 62 ∧ ∀ i e, q[i]? = some e → (e.1 < 8 ∧ e.2.1 < 4 ∧ e.2.2 < 4) ∧ a13 ((f + i) % 64) = nI e.1 ∧ a14 ((f + i) % 64) = nI e.2.1 ∧ a15 ((f + i) % 64) = nI e.2.2 ∧ a16 ((f + i) % 64) = nI N
theorem tp_Q_push {N : Nat} {q : List (Nat × Nat × Nat)} {g13 g14 : Int32} {a13 a14 a15 a16 : Nat → Int32} {e : Nat × Nat × Nat} (h : tp_Q N q g13 g14 a13 a14 a15 a16) (hl : q.length ≤ 61) (he : e.1 < 8 ∧ e.2.1 < 4 ∧ e.2.2 < 4) :
    ∃ f, f < 64 ∧ g13 = nI f ∧ g14 = nI q.length ∧ tp_Q N (q ++ [e]) g13 (nI (q.length + 1)) (upd a13 ((f + q.length) % 64) (nI e.1)) (upd a14 ((f + q.length) % 64) (nI e.2.1)) (upd a15 ((f + q.length) % 64) (nI e.2.2)) (upd a16 ((f + q.length) % 64) (nI N)) := by
  obtain ⟨f, h1, h2, h3, h4, h5⟩ := h
  refine ⟨f, h1, h2, h3, f, h1, h2, by simp, by simp; omega, fun i e' h => ?_⟩
  rw [List.getElem?_append] at h
  by_cases c : i < q.length
  · rw [if_pos c] at h
    obtain ⟨k0, k1, k2, k3, k4⟩ := h5 i e' h
    have ne : (f + i) % 64 ≠ (f + q.length) % 64 := by omega
    exact ⟨k0, by rw [pk_un ne]; exact k1, by rw [pk_un ne]; exact k2, by rw [pk_un ne]; exact k3, by rw [pk_un ne]; exact k4⟩
  · rw [if_neg c] at h
    have ei : i = q.length := by
      rcases Nat.lt_or_ge (i - q.length) 1 with z | z
      · omega
      · rw [List.getElem?_eq_none (by simpa using z)] at h
        exact absurd h (by simp)
    subst ei
    simp at h
    subst h
    exact ⟨he, pk_us, pk_us, pk_us, pk_us⟩
theorem tp_w_send95 {post : St1 → Prop} {g1 g2 g3 g4 g5 g6 g7 g8 g9 g10 g11 g12 g13 g14 g15 g16 : Int32} {a1 a2 a3 a4 a5 a6 a7 a8 a9 a10 a11 a12 a13 a14 a15 a16 : Nat → Int32} {N : Nat} {q : List (Nat × Nat × Nat)} (Q : tp_Q N q g13 g14 a13 a14 a15 a16) {k f o T : Nat} (hT : T ≤ 2) (hq : q.length ≤ 60) (e6 : g6 = nI N) (hk : k < 8) (hf : f < 4) (ho : o < 4) {p0 p1 p2 p3 : Int32} (x0 : p0 = nI k) (x1 : p1 = nI f) (x2 : p2 = nI o) (x3 : p3 = nI T)
    (K : ∀ g14' a13' a14' a15' a16', tp_Q N (q ++ List.replicate T (k, f, o)) g13 g14' a13' a14' a15' a16' → post (g1, g2, g3, g4, g5, g6, g7, g8, g9, g10, g11, g12, g13, g14', g15, g16, a1, a2, a3, a4, a5, a6, a7, a8, a9, a10, a11, a12, a13', a14', a15', a16')) : ∃ fu, wX_send_95 post p0 p1 p2 p3 g1 g2 g3 g4 g5 g6 g7 g8 g9 g10 g11 g12 g13 g15 g16 fu 0 g14 a1 a2 a3 a4 a5 a6 a7 a8 a9 a10 a11 a12 a13 a14 a15 a16 := by
  subst x0 x1 x2 x3
  refine pk_loop (fun n i (s : Int32 × (Nat → Int32) × (Nat → Int32) × (Nat → Int32) × (Nat → Int32)) => wX_send_95 post (nI k) (nI f) (nI o) (nI T) g1 g2 g3 g4 g5 g6 g7 g8 g9 g10 g11 g12 g13 g15 g16 n (nI i) s.1 a1 a2 a3 a4 a5 a6 a7 a8 a9 a10 a11 a12 s.2.1 s.2.2.1 s.2.2.2.1 s.2.2.2.2) (fun i s => tp_Q N (q ++ List.replicate i (k, f, o)) g13 s.1 s.2.1 s.2.2.1 s.2.2.2.1 s.2.2.2.2) T 0 (g14, a13, a14, a15, a16) (by omega) ?_ ?_ ?_
  · show tp_Q N (q ++ []) g13 g14 a13 a14 a15 a16
    rw [List.append_nil]
    exact Q
  · intro n s h
    exact pk_le T T (fun _ => K _ _ _ _ _ h) (fun z => absurd z (by omega))
  · intro n i s hi h hw
    have hlen : (q ++ List.replicate i (k, f, o)).length = q.length + i := by simp
    obtain ⟨f0, w1, w2, w3, w4⟩ := tp_Q_push (e := (k, f, o)) h (by omega) ⟨hk, hf, ho⟩
    rw [hlen] at w3 w4
    refine pk_le T i (fun z => absurd z (by omega)) (fun _ => pk_le 64 (q.length + i) (fun z => absurd z (by omega)) (fun _ => ⟨by decide, ?_⟩) rfl w3)
    have ex : (g13 + s.1) - (g13 + s.1) / 64 * 64 = nI ((f0 + (q.length + i)) % 64) := by
      rw [w2, w3, nI_add]
      exact pk_rem (a := f0 + (q.length + i)) (d := 64) (by omega) (by omega) (by omega)
    have hin : vp_in (nI ((f0 + (q.length + i)) % 64)) 64 := vp_in_nI (by omega) (by omega)
    have ec : (nI ((f0 + (q.length + i)) % 64)).toNatClampNeg = (f0 + (q.length + i)) % 64 := nI_clamp (by omega)
    refine nm_r ex ⟨hin, nm_r (e' := upd s.2.1 ((f0 + (q.length + i)) % 64) (nI k)) (by rw [ec, tp_by k (by omega)]) ⟨hin, nm_r (e' := upd s.2.2.1 ((f0 + (q.length + i)) % 64) (nI f)) (by rw [ec, tp_by f (by omega)]) ⟨hin, nm_r (e' := upd s.2.2.2.1 ((f0 + (q.length + i)) % 64) (nI o)) (by rw [ec, tp_by o (by omega)]) ⟨hin, nm_r (e' := upd s.2.2.2.2 ((f0 + (q.length + i)) % 64) (nI N)) (by rw [ec, e6]) (nm_r (e' := nI (q.length + i + 1)) (by rw [w3]; exact nI_1 _) (nm_r (nI_1 i) (hw (nI (q.length + i + 1), _, _, _, _) ?_)))⟩⟩⟩⟩
    rw [List.replicate_succ', ← List.append_assoc]
    exact w4
def tp_sL (tr se lo : Nat) : Nat := if tr = 6 ∧ lo < 10 ∧ (se + 1) * 7 % 5 < 3 then lo + 1 else lo
def tp_sQ (tr k f o se lo : Nat) (q : List (Nat × Nat × Nat)) : List (Nat × Nat × Nat) := if tr = 6 ∧ lo < 10 ∧ (se + 1) * 7 % 5 < 3 then q else if tr = 7 then q ++ [(k, f, o), (k, f, o)] else q ++ [(k, f, o)]
theorem tp_w_send {post : St1 → Prop} {g1 g2 g3 g4 g5 g6 g7 g8 g9 g10 g11 g12 g13 g14 g15 g16 : Int32} {a1 a2 a3 a4 a5 a6 a7 a8 a9 a10 a11 a12 a13 a14 a15 a16 : Nat → Int32} {N : Nat} {q : List (Nat × Nat × Nat)} (Q : tp_Q N q g13 g14 a13 a14 a15 a16) {k f o tr se lo : Nat} (hq : q.length ≤ 60) (e6 : g6 = nI N) (htr : tr < 8) (e9 : g9 = nI tr) (hse : se ≤ 1000) (e15 : g15 = nI se) (hlo : lo ≤ 1000) (e16 : g16 = nI lo) (hk : k < 8) (hf : f < 4) (ho : o < 4) {p0 p1 p2 : Int32} (x0 : p0 = nI k) (x1 : p1 = nI f) (x2 : p2 = nI o)
    (K : ∀ g14' a13' a14' a15' a16', tp_Q N (tp_sQ tr k f o se lo q) g13 g14' a13' a14' a15' a16' → post (g1, g2, g3, g4, g5, g6, g7, g8, g9, g10, g11, g12, g13, g14', nI (se + 1), nI (tp_sL tr se lo), a1, a2, a3, a4, a5, a6, a7, a8, a9, a10, a11, a12, a13', a14', a15', a16')) : wpX_send post (g1, g2, g3, g4, g5, g6, g7, g8, g9, g10, g11, g12, g13, g14, g15, g16, a1, a2, a3, a4, a5, a6, a7, a8, a9, a10, a11, a12, a13, a14, a15, a16) p0 p1 p2 := by
  have good : ¬ (tr = 6 ∧ lo < 10 ∧ (se + 1) * 7 % 5 < 3) → wX_send_45 post p0 p1 p2 g1 g2 g3 g4 g5 g6 g7 g8 g9 g10 g11 g12 g13 g14 (nI (se + 1)) g16 a1 a2 a3 a4 a5 a6 a7 a8 a9 a10 a11 a12 a13 a14 a15 a16 := by
    intro nc
    have eL : tp_sL tr se lo = lo := if_neg nc
    have eQ : tp_sQ tr k f o se lo q = if tr = 7 then q ++ [(k, f, o), (k, f, o)] else q ++ [(k, f, o)] := if_neg nc
    rw [eL, eQ] at K
    refine br_t rfl (nm_r (e' := nI lo) (by rw [e16]; exact nI_add lo 0) (br_t rfl (pk_eq tr 7 (fun z => ?_) (fun z => ?_) e9)))
    · rw [if_pos z] at K
      exact tp_w_send95 Q (T := 2) (by omega) hq e6 hk hf ho x0 x1 x2 rfl K
    · rw [if_neg z] at K
      exact tp_w_send95 Q (T := 1) (by omega) hq e6 hk hf ho x0 x1 x2 rfl K
  refine nm_r (e' := nI (se + 1)) (by rw [e15]; exact nI_1 se) (pk_eq tr 6 (fun z => pk_le 10 lo (fun y => good (by omega)) (fun y => ⟨by decide, pk_le 3 ((se + 1) * 7 % 5) (fun w => good (by omega)) (fun w => ?_) rfl ?_⟩) rfl e16) (fun z => good (by omega)) e9)
  · have hc : tr = 6 ∧ lo < 10 ∧ (se + 1) * 7 % 5 < 3 := ⟨z, y, w⟩
    have eL : tp_sL tr se lo = lo + 1 := if_pos hc
    have eQ : tp_sQ tr k f o se lo q = q := if_pos hc
    rw [eL, eQ] at K
    refine br_f (by decide) (nm_r (e' := nI (lo + 1)) (by rw [e16]; exact nI_1 lo) (br_f (by decide) ?_))
    refine tp_w_send95 Q (T := 0) (by omega) hq e6 hk hf ho x0 x1 x2 rfl (fun g14' a13' a14' a15' a16' h => K _ _ _ _ _ ?_)
    have h' : tp_Q N (q ++ []) g13 g14' a13' a14' a15' a16' := h
    rw [List.append_nil] at h'
    exact h'
  · have e1 : nI (se + 1) * 7 = nI ((se + 1) * 7) := pk_mul (se + 1) 7
    rw [e1]
    exact pk_rem (a := (se + 1) * 7) (d := 5) (by omega) (by omega) (by omega)
def tp_bo (b : Bool) : Int32 := if b = true then 1 else 0
theorem tp_w_strikes {post : Int32 → St1 → Prop} {g1 g2 g3 g4 g5 g6 g7 g8 g9 g10 g11 g12 g13 g14 g15 g16 : Int32} {a1 a2 a3 a4 a5 a6 a7 a8 a9 a10 a11 a12 a13 a14 a15 a16 : Nat → Int32} {tr td w m : Nat} {ha : Bool} (htr : tr < 8) (e9 : g9 = nI tr) (htd : td < 3) (e10 : g10 = nI td) (e11 : g11 = tp_bo ha) (hw : w < 8) (hm : m < 3) {p0 p1 : Int32} (x0 : p0 = nI w) (x1 : p1 = nI m)
    (K1 : tr = w → ha = false → m = td → post 1 (g1, g2, g3, g4, g5, g6, g7, g8, g9, g10, tp_bo true, g12, g13, g14, g15, g16, a1, a2, a3, a4, a5, a6, a7, a8, a9, a10, a11, a12, a13, a14, a15, a16)) (K0 : ¬ (tr = w ∧ ha = false ∧ m = td) → post 0 (g1, g2, g3, g4, g5, g6, g7, g8, g9, g10, tp_bo ha, g12, g13, g14, g15, g16, a1, a2, a3, a4, a5, a6, a7, a8, a9, a10, a11, a12, a13, a14, a15, a16)) : wpX_strikes post (g1, g2, g3, g4, g5, g6, g7, g8, g9, g10, g11, g12, g13, g14, g15, g16, a1, a2, a3, a4, a5, a6, a7, a8, a9, a10, a11, a12, a13, a14, a15, a16) p0 p1 := by
  subst e11
  have no : ¬ (tr = w ∧ ha = false ∧ m = td) → wX_strikes_27 post g1 g2 g3 g4 g5 g6 g7 g8 g9 g10 (tp_bo ha) g12 g13 g14 g15 g16 a1 a2 a3 a4 a5 a6 a7 a8 a9 a10 a11 a12 a13 a14 a15 a16 := by
    intro nc
    have k0 := K0 nc
    cases ha
    · exact br_t rfl (br_t rfl ⟨rfl, k0⟩)
    · exact br_f (by decide) ⟨rfl, k0⟩
  refine pk_eq tr w (fun z => ?_) (fun z => no (fun c => z c.1)) e9 x0
  cases ha
  · refine br_t rfl (pk_eq m td (fun y => br_t rfl (br_f (by decide) ⟨rfl, K1 z rfl y⟩)) (fun y => no (fun c => y c.2.2)) x1 e10)
  · exact br_f (by decide) (no (fun c => absurd c.2.1 (by decide)))
theorem tp_w_isPart {post : Int32 → Prop} {g1 g2 g3 g4 g5 g6 g7 g8 g9 g10 g11 g12 g13 g14 g15 g16 : Int32} {a1 a2 a3 a4 a5 a6 a7 a8 a9 a10 a11 a12 a13 a14 a15 a16 : Nat → Int32} {m pa : Nat} {p0 : Int32} (hm : m < 32) (e8 : g8 = nI pa) (K0 : pa.testBit m = false → post 0) (K1 : pa.testBit m = true → post 1) (x0 : p0 = nI m := by rfl) : wpX_isPart post (g1, g2, g3, g4, g5, g6, g7, g8, g9, g10, g11, g12, g13, g14, g15, g16, a1, a2, a3, a4, a5, a6, a7, a8, a9, a10, a11, a12, a13, a14, a15, a16) p0 := by
  subst e8 x0
  exact ek_if (tp_tb hm) K0 (fun z => K1 (by simpa using z))
theorem tp_w_hasWritten {post : Int32 → Prop} {g1 g2 g3 g4 g5 g6 g7 g8 g9 g10 g11 g12 g13 g14 g15 g16 : Int32} {a1 a2 a3 a4 a5 a6 a7 a8 a9 a10 a11 a12 a13 a14 a15 a16 : Nat → Int32} {W : Nat → Nat → Bool} (D : ∀ j, j < 4 → ∀ k, k < 12 → tp_b (a9 j) k = W j k) {t k : Nat} (ht : t < 4) (hk : k < 12) (K0 : W t k = false → post 0) (K1 : W t k = true → post 1) : wpX_hasWritten post (g1, g2, g3, g4, g5, g6, g7, g8, g9, g10, g11, g12, g13, g14, g15, g16, a1, a2, a3, a4, a5, a6, a7, a8, a9, a10, a11, a12, a13, a14, a15, a16) (nI t) (nI k) := by
  have et : (nI t).toNatClampNeg = t := nI_clamp (by omega)
  refine ⟨pk_in t 4 ht, ek_if (d := W t k = false) ?_ K0 (fun z => K1 (by simpa using z))⟩
  rw [et, tp_bit (by omega), D t ht k hk]
theorem tp_w_promiseOn {post : St1 → Prop} {g1 g2 g3 g4 g5 g6 g7 g8 g9 g10 g11 g12 g13 g14 g15 g16 : Int32} {a1 a2 a3 a4 a5 a6 a7 a8 a9 a10 a11 a12 a13 a14 a15 a16 : Nat → Int32} {H : Nat → Nat} {W : Nat → Nat → Bool} {P : Nat → Nat → Nat} {G : Nat → Nat → Bool} (D : tp_D H W P G a8 a9 a11 a12) {L : Nat → List tp_E} (DL : tp_LG L a2 a3 a4 a5 a6) {t m N : Nat} (ht : t < 3) (hm : m < 3) (hN : N < 2 ^ 30) (e6 : g6 = nI N) (e7 : g7 = nI t) (hl : (L m).length ≤ 50)
    (K : ∀ a2' a3' a4' a5' a6' a11', tp_LG (tp_u L m (L m ++ (tp_wr (W t) (fun k => a10 (t * 12 + k)) N m 4 ++ [(2, N, 0, 0)]))) a2' a3' a4' a5' a6' → tp_D H W (tp_pP t m N P) G a8 a9 a11' a12 → post (g1, g2, g3, g4, g5, nI N, nI t, g8, g9, g10, g11, g12, g13, g14, g15, g16, a1, a2', a3', a4', a5', a6', a7, a8, a9, a10, a11', a12, a13, a14, a15, a16)) : wpX_promiseOn post (g1, g2, g3, g4, g5, g6, g7, g8, g9, g10, g11, g12, g13, g14, g15, g16, a1, a2, a3, a4, a5, a6, a7, a8, a9, a10, a11, a12, a13, a14, a15, a16) (nI m) := by
  subst e6 e7
  obtain ⟨d1, d2, d3, d4⟩ := D
  have hlw : ∀ i, i ≤ 4 → (tp_u L m (L m ++ tp_wr (W t) (fun k => a10 (t * 12 + k)) N m i) m).length < 60 := by
    intro i hi
    have := tp_wr_len (W := W t) (b := fun k => a10 (t * 12 + k)) (N := N) (m := m) i
    simp only [tp_u, if_true, List.length_append]
    omega
  refine pk_loop (fun f i (s : (Nat → Int32) × (Nat → Int32) × (Nat → Int32) × (Nat → Int32) × (Nat → Int32)) => wX_promiseOn_2 post (nI m) f (nI (m + 3 * i)) g1 g2 g3 g4 g5 (nI N) (nI t) g8 g9 g10 g11 g12 g13 g14 g15 g16 a1 s.1 s.2.1 s.2.2.1 s.2.2.2.1 s.2.2.2.2 a7 a8 a9 a10 a11 a12 a13 a14 a15 a16) (fun i s => tp_LG (tp_u L m (L m ++ tp_wr (W t) (fun k => a10 (t * 12 + k)) N m i)) s.1 s.2.1 s.2.2.1 s.2.2.2.1 s.2.2.2.2) 4 0 (a2, a3, a4, a5, a6) (by omega) ?_ ?_ ?_
  · refine tp_LG_c DL (fun x hx => ?_)
    unfold tp_u
    by_cases e : x = m
    · rw [if_pos e, e]; simp [tp_wr]
    · rw [if_neg e]
  · intro f s h
    refine pk_le 12 (m + 3 * 4) (fun _ => tp_w_log h (m := m) (k := 2) (n := N) (y := 0) (by omega) (hlw 4 (by omega)) (by omega) hN (by omega) rfl rfl rfl (fun a2' a3' a4' a5' a6' h' => ⟨pk_in (t * 3 + m) 12 (by omega) (tp_ix3 t m), nm_e (K _ _ _ _ _ _ (tp_LG_c h' (fun x hx => ?_)) ⟨d1, d2, fun j hj x hx => ?_, d4⟩)⟩)) (fun z => absurd z (by omega))
    · unfold tp_u
      by_cases e : x = m
      · rw [if_pos e, if_pos e, if_pos rfl, List.append_assoc]
      · rw [if_neg e, if_neg e, if_neg e]
    · rw [tp_ix3 t m, nI_clamp (by omega), tp_upd']
      unfold tp_pP
      by_cases e : j = t ∧ x = m
      · rw [if_pos e, if_pos (by omega)]
      · rw [if_neg e, if_neg (by omega)]
        exact d3 j hj x hx
  · intro f i s hi h hw
    have hk : m + 3 * i < 12 := by omega
    have ei : (nI (t * 12 + (m + 3 * i))).toNatClampNeg = t * 12 + (m + 3 * i) := nI_clamp (by omega)
    refine pk_le 12 (m + 3 * i) (fun z => absurd z (by omega)) (fun _ => tp_w_hasWritten d2 (t := t) (k := m + 3 * i) (by omega) hk (fun z => br_t rfl (nm_r (tp_p3 m i) (hw s (tp_LG_c h (fun x hx => ?_))))) (fun z => br_f (by decide) ⟨pk_in (t * 12 + (m + 3 * i)) 48 (by omega) (tp_ix12 t _), ?_⟩))
    · unfold tp_u
      by_cases e : x = m
      · rw [if_pos e, if_pos e]
        show L m ++ (tp_wr (W t) _ N m i ++ _) = _
        rw [if_neg (by rw [z]; decide), List.append_nil]
      · rw [if_neg e, if_neg e]
    · refine tp_w_log h (m := m) (k := 1) (n := N) (y := m + 3 * i) (by omega) (hlw i (by omega)) (by omega) hN hk rfl rfl rfl (fun a2' a3' a4' a5' a6' h' => nm_r (tp_p3 m i) (hw (a2', a3', a4', a5', a6') (tp_LG_c h' (fun x hx => ?_))))
      unfold tp_u
      by_cases e : x = m
      · rw [if_pos e, if_pos e, if_pos rfl, List.append_assoc]
        show L m ++ (tp_wr (W t) _ N m i ++ _) = _
        rw [if_pos z, tp_ix12 t _, ei]
      · rw [if_neg e, if_neg e, if_neg e]
end
section
/-! starting a commit, shortening logs, begin, get, put, looking -/
theorem tp_w_startCommit {post : St1 → Prop} {g1 g2 g3 g4 g5 g6 g7 g8 g9 g10 g11 g12 g13 g14 g15 g16 : Int32} {a1 a2 a3 a4 a5 a6 a7 a8 a9 a10 a11 a12 a13 a14 a15 a16 : Nat → Int32} {H : Nat → Nat} (D : ∀ k, k < 12 → H k ≤ 3 ∧ a8 k = tp_h (H k)) {t nm : Nat} (ht : t < 3) (e5 : g5 = nI nm)
    (K : ∀ pa, pa < 8 → (∀ m, m < 3 → (pa.testBit m = true ↔ ∃ k, k < 12 ∧ k % 3 = m ∧ H k = t + 1)) → post (g1, nI 1, nI 0, nI 0, nI (nm + 1), nI (nm + 1), nI t, nI pa, g9, g10, tp_bo false, g12, nI 0, nI 0, nI 0, nI 0, a1, a2, a3, a4, a5, a6, a7, a8, a9, a10, a11, a12, a13, a14, a15, a16)) : wpX_startCommit post (g1, g2, g3, g4, g5, g6, g7, g8, g9, g10, g11, g12, g13, g14, g15, g16, a1, a2, a3, a4, a5, a6, a7, a8, a9, a10, a11, a12, a13, a14, a15, a16) (nI t) := by
  refine nm_r (e' := nI (nm + 1)) (by rw [e5]; exact nI_1 nm) ?_
  refine Exists.elim (pk_loop (fun f i (pa : Nat) => wX_startCommit_30 post (nI t) g1 g2 g3 g4 (nI (nm + 1)) (nI (nm + 1)) (nI t) g9 g10 g11 g12 g13 g14 g15 g16 a1 a2 a3 a4 a5 a6 a7 a8 a9 a10 a11 a12 a13 a14 a15 a16 f (nI i) (nI pa)) (fun i pa => pa < 8 ∧ ∀ m, m < 3 → (pa.testBit m = true ↔ (m < i ∧ ∃ k, k < 12 ∧ k % 3 = m ∧ H k = t + 1))) 3 0 0 (by omega) ?_ ?_ ?_) (fun f hf => ⟨f, hf⟩)
  · refine ⟨by omega, fun m _ => ⟨fun z => ?_, fun z => absurd z.1 (by omega)⟩⟩
    rw [Nat.zero_testBit] at z
    exact absurd z (by decide)
  · intro f pa h
    exact pk_le 3 3 (fun _ => K pa h.1 (fun m hm => (h.2 m hm).trans ⟨fun z => z.2, fun z => ⟨hm, z⟩⟩)) (fun z => absurd z (by omega))
  · intro f i pa hi h hw
    obtain ⟨h8, h⟩ := h
    refine pk_le 3 i (fun z => absurd z (by omega)) (fun _ => tp_w_holdersOn D (m := i) (by omega) (fun S hS hSb => ek_if (tp_tb (by omega)) (fun hb => ?_) (fun hb => ?_)))
    · refine nm_r (tp_or0 _) (nm_r (nI_1 i) (hw pa ⟨h8, fun m hm => (h m hm).trans ⟨fun z => ⟨by omega, z.2⟩, fun z => ⟨?_, z.2⟩⟩⟩))
      rcases Nat.lt_or_ge m i with y | y
      · exact y
      · have e : m = i := by omega
        subst e
        have := (hSb t ht).mpr z.2
        rw [hb] at this
        exact absurd this (by decide)
    · have hb : S.testBit t = true := by simpa using hb
      obtain ⟨q1, q2, q3⟩ := tp_set8 pa h8 i hi
      refine nm_r q1 (nm_r (nI_1 i) (hw _ ⟨q2, fun m hm => ?_⟩))
      rw [q3 m hm, Bool.or_eq_true, h m hm, decide_eq_true_eq]
      constructor
      · rintro (z | z)
        · exact ⟨by omega, z.2⟩
        · subst z
          exact ⟨by omega, (hSb t ht).mp hb⟩
      · rintro ⟨z1, z2⟩
        rcases Nat.lt_or_ge m i with y | y
        · exact Or.inl ⟨y, z2⟩
        · exact Or.inr (by omega)
def tp_shL (L : Nat → List tp_E) (i : Nat) : Nat → List tp_E := fun m => if m < i ∧ 40 < (L m).length then [] else L m
def tp_sh1 (L : Nat → List tp_E) (i : Nat) (a1 a7 : Nat → Int32) : Nat → Int32 := fun k => if k < 12 ∧ k % 3 < i ∧ 40 < (L (k % 3)).length then a7 k else a1 k
theorem tp_w_shorten20 {post : St1 → Prop} {J2 : Int32 → (Nat → Int32) → (Nat → Int32) → (Nat → Int32) → (Nat → Int32) → (Nat → Int32) → (Nat → Int32) → (Nat → Int32) → (Nat → Int32) → (Nat → Int32) → (Nat → Int32) → (Nat → Int32) → (Nat → Int32) → (Nat → Int32) → (Nat → Int32) → (Nat → Int32) → (Nat → Int32) → Prop} {g1 g2 g3 g4 g5 g6 g7 g8 g9 g10 g11 g12 g13 g14 g15 g16 : Int32} {a1 a2 a3 a4 a5 a6 a7 a8 a9 a10 a11 a12 a13 a14 a15 a16 : Nat → Int32} {m : Nat} (hm : m < 3)
    (K : J2 (nI (m + 1)) (fun k => if k % 3 = m ∧ k < 12 then a7 k else a1 k) (upd a2 m 0) a3 a4 a5 a6 a7 a8 a9 a10 a11 a12 a13 a14 a15 a16) : ∃ f, wX_shortenLogs_20 post J2 (nI m) g1 g2 g3 g4 g5 g6 g7 g8 g9 g10 g11 g12 g13 g14 g15 g16 f (nI m) a1 a2 a3 a4 a5 a6 a7 a8 a9 a10 a11 a12 a13 a14 a15 a16 := by
  have em : (nI m).toNatClampNeg = m := nI_clamp (by omega)
  refine pk_loop (fun f i (s : Nat → Int32) => wX_shortenLogs_20 post J2 (nI m) g1 g2 g3 g4 g5 g6 g7 g8 g9 g10 g11 g12 g13 g14 g15 g16 f (nI (m + 3 * i)) s a2 a3 a4 a5 a6 a7 a8 a9 a10 a11 a12 a13 a14 a15 a16) (fun i s => s = fun k => if k % 3 = m ∧ k < m + 3 * i then a7 k else a1 k) 4 0 a1 (by omega) ?_ ?_ ?_
  · funext k
    rw [if_neg (by omega)]
  · intro f s h
    have hs : s = fun k => if k % 3 = m ∧ k < 12 then a7 k else a1 k := by
      rw [h]
      funext k
      by_cases e : k % 3 = m ∧ k < 12
      · rw [if_pos e, if_pos (by omega)]
      · rw [if_neg e, if_neg (by omega)]
    subst hs
    exact pk_le 12 (m + 3 * 4) (fun _ => ⟨pk_in m 4 (by omega), nm_r (e' := upd a2 m 0) (by rw [em]) (nm_r (nI_1 m) K)⟩) (fun z => absurd z (by omega))
  · intro f i s hi h hw
    have hk : m + 3 * i < 12 := by omega
    have ec : (nI (m + 3 * i)).toNatClampNeg = m + 3 * i := nI_clamp (by omega)
    refine pk_le 12 (m + 3 * i) (fun z => absurd z (by omega)) (fun _ => ⟨pk_in (m + 3 * i) 12 hk, pk_in (m + 3 * i) 12 hk, nm_e (nm_r (tp_p3 m i) (hw _ ?_))⟩)
    rw [ec]
    funext k
    rw [tp_upd', h]
    by_cases e : k = m + 3 * i
    · rw [if_pos e, if_pos (by omega), e]
    · rw [if_neg e]
      show (if k % 3 = m ∧ k < m + 3 * i then a7 k else a1 k) = _
      by_cases e2 : k % 3 = m ∧ k < m + 3 * i
      · rw [if_pos e2, if_pos (by omega)]
      · rw [if_neg e2, if_neg (by omega)]
theorem tp_LG_nil {L : Nat → List tp_E} {m : Nat} {a2 a3 a4 a5 a6 : Nat → Int32} (h : tp_LG L a2 a3 a4 a5 a6) : tp_LG (tp_u L m []) (upd a2 m 0) a3 a4 a5 a6 := by
  intro x hx
  obtain ⟨f1, f2, f3⟩ := h x hx
  unfold tp_u
  by_cases e : x = m
  · rw [if_pos e, e]
    exact ⟨pk_us, by simp, fun i e h => absurd h (by simp)⟩
  · rw [if_neg e]
    exact ⟨by rw [pk_un e]; exact f1, f2, f3⟩
theorem tp_w_shortenLogs {post : St1 → Prop} {g1 g2 g3 g4 g5 g6 g7 g8 g9 g10 g11 g12 g13 g14 g15 g16 : Int32} {a1 a2 a3 a4 a5 a6 a7 a8 a9 a10 a11 a12 a13 a14 a15 a16 : Nat → Int32} {L : Nat → List tp_E} (D : tp_LG L a2 a3 a4 a5 a6)
    (K : ∀ a2', tp_LG (tp_shL L 4) a2' a3 a4 a5 a6 → post (g1, g2, g3, g4, g5, g6, g7, g8, g9, g10, g11, g12, g13, g14, g15, g16, tp_sh1 L 3 a1 a7, a2', a3, a4, a5, a6, a7, a8, a9, a10, a11, a12, a13, a14, a15, a16)) : wpX_shortenLogs post (g1, g2, g3, g4, g5, g6, g7, g8, g9, g10, g11, g12, g13, g14, g15, g16, a1, a2, a3, a4, a5, a6, a7, a8, a9, a10, a11, a12, a13, a14, a15, a16) := by
  refine pk_loop (fun f i (s : (Nat → Int32) × (Nat → Int32)) => wX_shortenLogs_2 post g1 g2 g3 g4 g5 g6 g7 g8 g9 g10 g11 g12 g13 g14 g15 g16 f (nI i) s.1 s.2 a3 a4 a5 a6 a7 a8 a9 a10 a11 a12 a13 a14 a15 a16) (fun i s => s.1 = tp_sh1 L i a1 a7 ∧ tp_LG (tp_shL L i) s.2 a3 a4 a5 a6) 3 0 (a1, a2) (by omega) ?_ ?_ ?_
  · refine ⟨?_, tp_LG_c D (fun m _ => ?_)⟩
    · funext k
      unfold tp_sh1
      rw [if_neg (by omega)]
    · unfold tp_shL
      rw [if_neg (by omega)]
  · intro f s h
    obtain ⟨h1, h2⟩ := h
    have l3 := h2 3 (by omega)
    have e3 : tp_shL L 3 3 = L 3 := by
      unfold tp_shL
      rw [if_neg (by omega)]
    rw [e3] at l3
    have key : ∀ a2', tp_LG (tp_shL L 4) a2' a3 a4 a5 a6 → post (g1, g2, g3, g4, g5, g6, g7, g8, g9, g10, g11, g12, g13, g14, g15, g16, s.1, a2', a3, a4, a5, a6, a7, a8, a9, a10, a11, a12, a13, a14, a15, a16) := by
      rw [h1]
      exact K
    refine pk_le 3 3 (fun _ => pk_le (L 3).length 40 (fun z => key _ (tp_LG_c h2 (fun m hm => ?_))) (fun z => nm_e (key _ (tp_LG_c (tp_LG_nil (m := 3) h2) (fun m hm => ?_)))) l3.1 rfl (by have := l3.2.1; omega)) (fun z => absurd z (by omega))
    · unfold tp_shL
      by_cases e : m = 3
      · subst e
        rw [if_neg (by omega), if_neg (by omega)]
      · by_cases c : m < 3 ∧ 40 < (L m).length
        · rw [if_pos c, if_pos ⟨by omega, c.2⟩]
        · rw [if_neg c, if_neg (fun z => c ⟨by omega, z.2⟩)]
    · unfold tp_u tp_shL
      by_cases e : m = 3
      · subst e
        rw [if_pos rfl, if_pos ⟨by omega, z⟩]
      · rw [if_neg e]
        by_cases c : m < 3 ∧ 40 < (L m).length
        · rw [if_pos c, if_pos ⟨by omega, c.2⟩]
        · rw [if_neg c, if_neg (fun z => c ⟨by omega, z.2⟩)]
  · intro f i s hi h hw
    obtain ⟨h1, h2⟩ := h
    have l3 := h2 i (by omega)
    have e3 : tp_shL L i i = L i := by
      unfold tp_shL
      rw [if_neg (by omega)]
    rw [e3] at l3
    have em : (nI i).toNatClampNeg = i := nI_clamp (by omega)
    refine pk_le 3 i (fun z => absurd z (by omega)) (fun _ => ⟨pk_in i 4 (by omega), pk_le (L i).length 40 (fun z => nm_r (nI_1 i) (hw s ⟨?_, tp_LG_c h2 (fun m hm => ?_)⟩)) (fun z => tp_w_shorten20 hi (hw (_, _) ⟨?_, tp_LG_c (tp_LG_nil (m := i) h2) (fun m hm => ?_)⟩)) (by rw [em]; exact l3.1) rfl (by have := l3.2.1; omega)⟩)
    · rw [h1]
      funext k
      unfold tp_sh1
      by_cases c : k < 12 ∧ k % 3 < i ∧ 40 < (L (k % 3)).length
      · rw [if_pos c, if_pos ⟨c.1, by omega, c.2.2⟩]
      · rw [if_neg c, if_neg (fun y => c ⟨y.1, ?_, y.2.2⟩)]
        rcases Nat.lt_or_ge (k % 3) i with w | w
        · exact w
        · have e : k % 3 = i := by omega
          rw [e] at y
          omega
    · unfold tp_shL
      by_cases c : m < i ∧ 40 < (L m).length
      · rw [if_pos c, if_pos ⟨by omega, c.2⟩]
      · rw [if_neg c, if_neg (fun y => c ⟨?_, y.2⟩)]
        rcases Nat.lt_or_ge m i with w | w
        · exact w
        · have e : m = i := by omega
          subst e
          omega
    · show (fun k => if k % 3 = i ∧ k < 12 then a7 k else s.1 k) = _
      rw [h1]
      funext k
      unfold tp_sh1
      by_cases e : k % 3 = i ∧ k < 12
      · rw [if_pos e, if_pos ⟨e.2, by omega, by rw [e.1]; exact z⟩]
      · rw [if_neg e]
        by_cases c : k < 12 ∧ k % 3 < i ∧ 40 < (L (k % 3)).length
        · rw [if_pos c, if_pos ⟨c.1, by omega, c.2.2⟩]
        · rw [if_neg c, if_neg (fun y => c ⟨y.1, by omega, y.2.2⟩)]
    · unfold tp_u tp_shL
      by_cases e : m = i
      · rw [if_pos e, if_pos ⟨by omega, by rw [e]; exact z⟩]
      · rw [if_neg e]
        by_cases c : m < i ∧ 40 < (L m).length
        · rw [if_pos c, if_pos ⟨by omega, c.2⟩]
        · rw [if_neg c, if_neg (fun y => c ⟨by omega, y.2⟩)]
/-! begin -/
theorem tp_w_begin36 {post : Int32 → St1 → Prop} {g1 g2 g3 g4 g5 g6 g7 g8 g9 g10 g11 g12 g13 g14 g15 g16 : Int32} {a1 a2 a3 a4 a5 a6 a7 a8 a9 a10 a11 a12 a13 a14 a15 a16 : Nat → Int32} {P : Nat → Nat → Nat} {G : Nat → Nat → Bool} (d3 : ∀ j, j < 4 → ∀ i, i < 3 → a11 (j * 3 + i) = nI (P j i)) (d4 : ∀ j, j < 4 → ∀ i, i < 3 → a12 (j * 3 + i) = if G j i = true then 1 else 0) {t : Nat} (ht : t < 4)
    (K : ∀ a11' a12', (∀ j, j < 4 → ∀ i, i < 3 → a11' (j * 3 + i) = nI (if j = t then 0 else P j i)) → (∀ j, j < 4 → ∀ i, i < 3 → a12' (j * 3 + i) = if (if j = t then false else G j i) = true then 1 else 0) → post (nI t) (g1, g2, g3, g4, g5, g6, g7, g8, g9, g10, g11, g12, g13, g14, g15, g16, a1, a2, a3, a4, a5, a6, a7, a8, a9, a10, a11', a12', a13, a14, a15, a16)) : ∃ f, wX_begin_36 post (nI t) g1 g2 g3 g4 g5 g6 g7 g8 g9 g10 g11 g12 g13 g14 g15 g16 f 0 a1 a2 a3 a4 a5 a6 a7 a8 a9 a10 a11 a12 a13 a14 a15 a16 := by
  refine pk_loop (fun f i (s : (Nat → Int32) × (Nat → Int32)) => wX_begin_36 post (nI t) g1 g2 g3 g4 g5 g6 g7 g8 g9 g10 g11 g12 g13 g14 g15 g16 f (nI i) a1 a2 a3 a4 a5 a6 a7 a8 a9 a10 s.1 s.2 a13 a14 a15 a16) (fun i s => (∀ j, j < 4 → ∀ x, x < 3 → s.1 (j * 3 + x) = nI (if j = t ∧ x < i then 0 else P j x)) ∧ (∀ j, j < 4 → ∀ x, x < 3 → s.2 (j * 3 + x) = if (if j = t ∧ x < i then false else G j x) = true then 1 else 0)) 3 0 (a11, a12) (by omega) ?_ ?_ ?_
  · refine ⟨fun j hj x hx => ?_, fun j hj x hx => ?_⟩
    · rw [if_neg (by omega)]; exact d3 j hj x hx
    · rw [if_neg (show ¬ (j = t ∧ x < 0) by omega)]; exact d4 j hj x hx
  · intro f s h
    refine pk_le 3 3 (fun _ => K _ _ (fun j hj x hx => ?_) (fun j hj x hx => ?_)) (fun z => absurd z (by omega))
    · rw [h.1 j hj x hx]
      by_cases e : j = t
      · rw [if_pos ⟨e, hx⟩, if_pos e]
      · rw [if_neg (fun z => e z.1), if_neg e]
    · rw [h.2 j hj x hx]
      by_cases e : j = t
      · simp only [e, hx, and_self, if_true]
      · simp only [e, false_and, if_false]
  · intro f i s hi h hw
    have hin : vp_in (nI t * 3 + nI i) 12 := by
      rw [tp_ix3 t i]
      exact vp_in_nI (by omega) (by omega)
    have ec : (nI t * 3 + nI i).toNatClampNeg = t * 3 + i := by
      rw [tp_ix3 t i]
      exact nI_clamp (by omega)
    refine pk_le 3 i (fun z => absurd z (by omega)) (fun _ => ⟨hin, nm_r (e' := upd s.1 (t * 3 + i) 0) (by rw [ec]) ⟨hin, nm_r (e' := upd s.2 (t * 3 + i) 0) (by rw [ec]) (nm_r (nI_1 i) (hw (_, _) ⟨fun j hj x hx => ?_, fun j hj x hx => ?_⟩))⟩⟩)
    · show upd s.1 (t * 3 + i) 0 (j * 3 + x) = _
      rw [tp_upd']
      by_cases e : j = t ∧ x = i
      · rw [if_pos (by omega), if_pos (by omega)]; rfl
      · rw [if_neg (by omega), h.1 j hj x hx]
        by_cases c : j = t ∧ x < i
        · rw [if_pos c, if_pos (by omega)]
        · rw [if_neg c, if_neg (by omega)]
    · show upd s.2 (t * 3 + i) 0 (j * 3 + x) = _
      rw [tp_upd']
      by_cases e : j = t ∧ x = i
      · rw [if_pos (by omega)]
        have c : j = t ∧ x < i + 1 := by omega
        simp only [c, and_self, if_true]
        rfl
      · rw [if_neg (by omega), h.2 j hj x hx]
        by_cases c : j = t ∧ x < i
        · rw [if_pos c, if_pos (show j = t ∧ x < i + 1 by omega)]
        · rw [if_neg c, if_neg (show ¬ (j = t ∧ x < i + 1) by omega)]
theorem tp_w_begin {post : Int32 → St1 → Prop} {g1 g2 g3 g4 g5 g6 g7 g8 g9 g10 g11 g12 g13 g14 g15 g16 : Int32} {a1 a2 a3 a4 a5 a6 a7 a8 a9 a10 a11 a12 a13 a14 a15 a16 : Nat → Int32} {H : Nat → Nat} {W : Nat → Nat → Bool} {P : Nat → Nat → Nat} {G : Nat → Nat → Bool} (D : tp_D H W P G a8 a9 a11 a12) {O t : Nat} (ht : t < 3) (hO : O < 8) (eO : g1 = nI O) (hlo : ∀ j, j < t → O.testBit j = true) (hbt : O.testBit t = false)
    (K : ∀ a9' a11' a12', tp_D H (fun j k => if j = t then false else W j k) (fun j x => if j = t then 0 else P j x) (fun j x => if j = t then false else G j x) a8 a9' a11' a12' → post (nI t) (nI (O ||| 2 ^ t), g2, g3, g4, g5, g6, g7, g8, g9, g10, g11, g12, g13, g14, g15, g16, a1, a2, a3, a4, a5, a6, a7, a8, a9', a10, a11', a12', a13, a14, a15, a16)) : wpX_begin post (g1, g2, g3, g4, g5, g6, g7, g8, g9, g10, g11, g12, g13, g14, g15, g16, a1, a2, a3, a4, a5, a6, a7, a8, a9, a10, a11, a12, a13, a14, a15, a16) := by
  subst eO
  obtain ⟨d1, d2, d3, d4⟩ := D
  refine pk_loop (fun f i (_ : Unit) => wX_begin_2 post (nI O) g2 g3 g4 g5 g6 g7 g8 g9 g10 g11 g12 g13 g14 g15 g16 a1 a2 a3 a4 a5 a6 a7 a8 a9 a10 a11 a12 a13 a14 a15 a16 f (nI i)) (fun _ _ => True) t 0 () (by omega) trivial ?_ ?_
  · intro f _ _
    refine pk_le 4 t (fun z => absurd z (by omega)) (fun _ => tp_w_isOpen (t := t) (by omega) rfl (fun _ => br_t rfl (nm_r (tp_set8 O hO t ht).1 ⟨pk_in t 4 (by omega), nm_r (e' := upd a9 t 0) (by rw [nI_clamp (by omega)]) (tp_w_begin36 d3 d4 (t := t) (by omega) (fun a11' a12' q1 q2 => K _ _ _ ⟨d1, fun j hj k hk => ?_, q1, q2⟩))⟩)) (fun z => absurd z (by rw [hbt]; decide)))
    rw [tp_upd']
    by_cases e : j = t
    · rw [if_pos e, tp_b_0]
      simp [e]
    · rw [if_neg e, d2 j hj k hk]
      simp [e]
  · intro f i _ hi _ hw
    exact pk_le 4 i (fun z => absurd z (by omega)) (fun _ => tp_w_isOpen (t := i) (by omega) rfl (fun z => absurd z (by rw [hlo i hi]; decide)) (fun _ => br_f (by decide) (nm_r (nI_1 i) (hw () trivial))))
/-! get and put -/
theorem tp_w_isKey {post : Int32 → Prop} {k : Nat} (hk : k < 12) (K : post 1) : wpX_isKey post () (nI k) :=
  br_f (nI_pos (by omega)) (pk_le 12 k (fun z => absurd z (by omega)) (fun _ => K))
theorem tp_w_isFree {post : Int32 → Prop} {g1 g2 g3 g4 g5 g6 g7 g8 g9 g10 g11 g12 g13 g14 g15 g16 : Int32} {a1 a2 a3 a4 a5 a6 a7 a8 a9 a10 a11 a12 a13 a14 a15 a16 : Nat → Int32} {H : Nat → Nat} (D : ∀ k, k < 12 → H k ≤ 3 ∧ a8 k = tp_h (H k)) {t k : Nat} (ht : t < 4) (hk : k < 12) (K0 : H k ≠ 0 → H k ≠ t + 1 → post 0) (K1 : (H k = 0 ∨ H k = t + 1) → post 1) : wpX_isFree post (g1, g2, g3, g4, g5, g6, g7, g8, g9, g10, g11, g12, g13, g14, g15, g16, a1, a2, a3, a4, a5, a6, a7, a8, a9, a10, a11, a12, a13, a14, a15, a16) (nI t) (nI k) := by
  have ek : (nI k).toNatClampNeg = k := nI_clamp (by omega)
  obtain ⟨d1, d2⟩ := D k hk
  exact ⟨pk_in k 12 hk, ek_if (d := H k = 0) (by rw [ek, d2]; exact tp_h_m1 _ d1) (fun z => K1 (Or.inl z)) (fun z => ⟨pk_in k 12 hk, ek_if (d := H k = t + 1) (by rw [ek, d2]; exact tp_h_eq _ d1 _ ht) (fun y => K1 (Or.inr y)) (fun y => K0 z y)⟩)⟩
theorem tp_w_seen {post : Int32 → Prop} {g1 g2 g3 g4 g5 g6 g7 g8 g9 g10 g11 g12 g13 g14 g15 g16 : Int32} {a1 a2 a3 a4 a5 a6 a7 a8 a9 a10 a11 a12 a13 a14 a15 a16 : Nat → Int32} {W : Nat → Nat → Bool} (D : ∀ j, j < 4 → ∀ k, k < 12 → tp_b (a9 j) k = W j k) {t k : Nat} (ht : t < 4) (hk : k < 12) (K : post (if W t k = true then a10 (t * 12 + k) else a7 k)) : wpX_seen post (g1, g2, g3, g4, g5, g6, g7, g8, g9, g10, g11, g12, g13, g14, g15, g16, a1, a2, a3, a4, a5, a6, a7, a8, a9, a10, a11, a12, a13, a14, a15, a16) (nI t) (nI k) := by
  have ek : (nI k).toNatClampNeg = k := nI_clamp (by omega)
  have ei : (nI (t * 12 + k)).toNatClampNeg = t * 12 + k := nI_clamp (by omega)
  unfold wpX_seen
  refine tp_w_hasWritten D ht hk (fun z => br_t rfl ⟨pk_in k 12 hk, ?_⟩) (fun z => br_f (by decide) ⟨pk_in (t * 12 + k) 48 (by omega) (tp_ix12 t k), ?_⟩)
  · rw [z] at K
    rw [ek]
    exact K
  · rw [if_pos z] at K
    rw [tp_ix12 t k, ei]
    exact K
theorem tp_w_get {post : Int32 → St1 → Prop} {g1 g2 g3 g4 g5 g6 g7 g8 g9 g10 g11 g12 g13 g14 g15 g16 : Int32} {a1 a2 a3 a4 a5 a6 a7 a8 a9 a10 a11 a12 a13 a14 a15 a16 : Nat → Int32} {H : Nat → Nat} {W : Nat → Nat → Bool} {P : Nat → Nat → Nat} {G : Nat → Nat → Bool} (D : tp_D H W P G a8 a9 a11 a12) {O t k : Nat} (ht : t < 3) (hk : k < 12) (eO : g1 = nI O)
    (K0 : O.testBit t = false → post (-100000) (g1, g2, g3, g4, g5, g6, g7, g8, g9, g10, g11, g12, g13, g14, g15, g16, a1, a2, a3, a4, a5, a6, a7, a8, a9, a10, a11, a12, a13, a14, a15, a16)) (K1 : O.testBit t = true → H k ≠ 0 → H k ≠ t + 1 → post (-300000) (g1, g2, g3, g4, g5, g6, g7, g8, g9, g10, g11, g12, g13, g14, g15, g16, a1, a2, a3, a4, a5, a6, a7, a8, a9, a10, a11, a12, a13, a14, a15, a16))
    (K2 : O.testBit t = true → (H k = 0 ∨ H k = t + 1) → ∀ a8', tp_D (tp_u H k (t + 1)) W P G a8' a9 a11 a12 → post (if W t k = true then a10 (t * 12 + k) else a7 k) (g1, g2, g3, g4, g5, g6, g7, g8, g9, g10, g11, g12, g13, g14, g15, g16, a1, a2, a3, a4, a5, a6, a7, a8', a9, a10, a11, a12, a13, a14, a15, a16)) : wpX_get post (g1, g2, g3, g4, g5, g6, g7, g8, g9, g10, g11, g12, g13, g14, g15, g16, a1, a2, a3, a4, a5, a6, a7, a8, a9, a10, a11, a12, a13, a14, a15, a16) (nI t) (nI k) := by
  have ek : (nI k).toNatClampNeg = k := nI_clamp (by omega)
  obtain ⟨d1, d2, d3, d4⟩ := D
  unfold wpX_get
  refine tp_w_isOpen (t := t) (by omega) eO (fun z => br_t rfl (K0 z)) (fun z => br_f (by decide) (tp_w_isKey hk (br_f (by decide) (tp_w_isFree d1 (t := t) (by omega) hk (fun y1 y2 => br_t rfl (K1 z y1 y2)) (fun y => br_f (by decide) ⟨pk_in k 12 hk, nm_e (tp_w_seen d2 (by omega) hk (K2 z y _ ⟨fun j hj => ?_, d2, d3, d4⟩))⟩)))))
  rw [ek, tp_upd', tp_by t (by omega)]
  unfold tp_u
  by_cases e : j = k
  · rw [if_pos e, if_pos e]
    exact ⟨by omega, (tp_h_s t).symm⟩
  · rw [if_neg e, if_neg e]
    exact d1 j hj
theorem tp_z_num : ∀ n, n < 16 → ¬ tp_z n < (-9999) ∧ ¬ (9999 : Int32) < tp_z n := by decide +kernel
theorem tp_w_put {post : Int32 → St1 → Prop} {g1 g2 g3 g4 g5 g6 g7 g8 g9 g10 g11 g12 g13 g14 g15 g16 : Int32} {a1 a2 a3 a4 a5 a6 a7 a8 a9 a10 a11 a12 a13 a14 a15 a16 : Nat → Int32} {H : Nat → Nat} {W : Nat → Nat → Bool} {P : Nat → Nat → Nat} {G : Nat → Nat → Bool} (D : tp_D H W P G a8 a9 a11 a12) {O t k n : Nat} (ht : t < 3) (hk : k < 12) (hn : n < 16) (eO : g1 = nI O)
    (K0 : O.testBit t = false → post (-100000) (g1, g2, g3, g4, g5, g6, g7, g8, g9, g10, g11, g12, g13, g14, g15, g16, a1, a2, a3, a4, a5, a6, a7, a8, a9, a10, a11, a12, a13, a14, a15, a16)) (K1 : O.testBit t = true → H k ≠ 0 → H k ≠ t + 1 → post (-300000) (g1, g2, g3, g4, g5, g6, g7, g8, g9, g10, g11, g12, g13, g14, g15, g16, a1, a2, a3, a4, a5, a6, a7, a8, a9, a10, a11, a12, a13, a14, a15, a16))
    (K2 : O.testBit t = true → (H k = 0 ∨ H k = t + 1) → ∀ a8' a9', tp_D (tp_u H k (t + 1)) (tp_wW W t k) P G a8' a9' a11 a12 → post (if W t k = true then a10 (t * 12 + k) else a7 k) (g1, g2, g3, g4, g5, g6, g7, g8, g9, g10, g11, g12, g13, g14, g15, g16, a1, a2, a3, a4, a5, a6, a7, a8', a9', upd a10 (t * 12 + k) (tp_z n), a11, a12, a13, a14, a15, a16)) : wpX_put post (g1, g2, g3, g4, g5, g6, g7, g8, g9, g10, g11, g12, g13, g14, g15, g16, a1, a2, a3, a4, a5, a6, a7, a8, a9, a10, a11, a12, a13, a14, a15, a16) (nI t) (nI k) (tp_z n) := by
  obtain ⟨z1, z2⟩ := tp_z_num n hn
  unfold wpX_put
  exact tp_w_isOpen (t := t) (by omega) eO (fun z => br_t rfl (K0 z)) (fun z => br_f (by decide) (tp_w_isKey hk (br_f (by decide) (br_f z1 (br_f z2 (br_f (by decide) (tp_w_isFree D.1 (t := t) (by omega) hk (fun y1 y2 => br_t rfl (K1 z y1 y2)) (fun y => br_f (by decide) (tp_w_seen D.2.1 (by omega) hk (tp_w_writeKey D ht hk (fun a8' a9' h => K2 z y _ _ h)))))))))))
end
section
/-! the state of a commit: start pictures, control state, component -/
def tp_cH (t : Nat) (B : Nat → Nat) (H0 : Nat → Nat) (W0 : Nat → Nat → Bool) (bk : Nat) (ph : Nat → Nat) : Nat → Nat := fun k => if H0 k = t + 1 then (if ph (k % 3) = 0 ∨ ph (k % 3) = 1 ∨ (ph (k % 3) = 4 ∧ W0 t k = true) then t + 1 else 0) else if H0 k ≠ 0 ∧ (B bk).testBit (H0 k - 1) = true then 0 else H0 k
def tp_cW (t : Nat) (B : Nat → Nat) (W0 : Nat → Nat → Bool) (bk : Nat) (ph : Nat → Nat) : Nat → Nat → Bool := fun j k => if j = t then (W0 t k && decide (ph (k % 3) = 0 ∨ ph (k % 3) = 1 ∨ ph (k % 3) = 4)) else if (B bk).testBit j = true then false else W0 j k
def tp_cP (t N : Nat) (ph : Nat → Nat) : Nat → Nat → Nat := fun j x => if j = t ∧ (ph x = 1 ∨ ph x = 4) then N else 0
def tp_cG (t : Nat) (G0 : Nat → Nat → Bool) (ph : Nat → Nat) : Nat → Nat → Bool := fun j x => if j = t then decide (ph x = 3 ∨ ph x = 4 ∨ ph x = 6) else G0 j x
def tp_cL (t N : Nat) (L0 : Nat → List tp_E) (W0 : Nat → Nat → Bool) (b10 : Nat → Int32) (de : Bool) (ph : Nat → Nat) : Nat → List tp_E := fun m => if m = 3 then L0 3 ++ (if de = true then [(5, N, 0, 0)] else []) else L0 m ++ tp_ext N (tp_wr (W0 t) (fun k => b10 (t * 12 + k)) N m 4) (ph m)
def tp_c7 (t : Nat) (b7 : Nat → Int32) (W0 : Nat → Nat → Bool) (b10 : Nat → Int32) (ph : Nat → Nat) : Nat → Int32 := fun k => if (ph (k % 3) = 2 ∨ ph (k % 3) = 6) ∧ W0 t k = true then b10 (t * 12 + k) else b7 k
/-- what holds at the start of a commit -/
def tp_X (t N pa tr td cc O : Nat) (B : Nat → Nat) (L0 : Nat → List tp_E) (b1 b7 : Nat → Int32) (H0 : Nat → Nat) (W0 : Nat → Nat → Bool) (G0 : Nat → Nat → Bool) (b10 : Nat → Int32) : Prop :=
  t < 3 ∧ 1 ≤ N ∧ N < 2 ^ 20 ∧ pa < 8 ∧ tr < 8 ∧ td < 3 ∧ O < 8 ∧ O.testBit t = true ∧
  (∀ m, m < 3 → (pa.testBit m = true ↔ ∃ k, k < 12 ∧ k % 3 = m ∧ H0 k = t + 1)) ∧
  (B 0 = 0 ∧ (∀ x, B x < 8) ∧ (∀ m, m < 3 → ∀ j, j < 3 → ((B (m + 1)).testBit j = true ↔ (j ≠ t ∧ ∃ k, k < 12 ∧ k % 3 = m ∧ H0 k = j + 1))) ∧ (∀ j, j < 3 → ((B 4).testBit j = true ↔ (j ≠ t ∧ O.testBit j = true)))) ∧
  (∀ k, k < 12 → H0 k ≤ 3 ∧ (H0 k ≠ 0 → O.testBit (H0 k - 1) = true)) ∧
  (∀ j, j < 4 → ∀ k, k < 12 → W0 j k = true → H0 k = j + 1) ∧
  (∀ m, m < 3 → tp_Set m (L0 m) b1 b7) ∧
  (∀ m, m < 4 → (L0 m).length ≤ 40 ∧ ∀ e, e ∈ L0 m → e.2.1 < N) ∧
  (∀ x, x < 3 → G0 t x = false)
def tp_S (t N pa tr td cc Ob st vo he se lo : Nat) (ha : Bool) (g1 g2 g3 g4 g5 g6 g7 g8 g9 g10 g11 g12 g15 g16 : Int32) : Prop :=
  g1 = nI Ob ∧ g2 = nI st ∧ g3 = nI vo ∧ g4 = nI he ∧ g5 = nI N ∧ g6 = nI N ∧ g7 = nI t ∧ g8 = nI pa ∧ g9 = nI tr ∧ g10 = nI td ∧ g11 = tp_bo ha ∧ g12 = nI cc ∧ g15 = nI se ∧ g16 = nI lo
def tp_Dt (t N : Nat) (B : Nat → Nat) (L0 : Nat → List tp_E) (b1 b7 : Nat → Int32) (H0 : Nat → Nat) (W0 : Nat → Nat → Bool) (G0 : Nat → Nat → Bool) (b10 : Nat → Int32) (bk : Nat) (de : Bool) (ph : Nat → Nat) (a1 a2 a3 a4 a5 a6 a7 a8 a9 a10 a11 a12 : Nat → Int32) : Prop :=
  a1 = b1 ∧ a10 = b10 ∧ tp_LG (tp_cL t N L0 W0 b10 de ph) a2 a3 a4 a5 a6 ∧ (∀ k, k < 12 → a7 k = tp_c7 t b7 W0 b10 ph k) ∧ tp_D (tp_cH t B H0 W0 bk ph) (tp_cW t B W0 bk ph) (tp_cP t N ph) (tp_cG t G0 ph) a8 a9 a11 a12
def tp_I (t N pa tr td cc O : Nat) (B : Nat → Nat) (L0 : Nat → List tp_E) (b1 b7 : Nat → Int32) (H0 : Nat → Nat) (W0 : Nat → Nat → Bool) (G0 : Nat → Nat → Bool) (b10 : Nat → Int32) (c : tp_C) (u : St1) : Prop := match c with
  | (st, vo, he, se, lo, bk, ha, de, ph, q) => match u with
    | (g1, g2, g3, g4, g5, g6, g7, g8, g9, g10, g11, g12, g13, g14, g15, g16, a1, a2, a3, a4, a5, a6, a7, a8, a9, a10, a11, a12, a13, a14, a15, a16) => (1 ≤ st ∧ st < 4 ∧ vo < 8 ∧ he < 8 ∧ lo ≤ 10 ∧ bk ≤ 4) ∧ tp_S t N pa tr td cc (tp_clr O (B bk)) st vo he se lo ha g1 g2 g3 g4 g5 g6 g7 g8 g9 g10 g11 g12 g15 g16 ∧ tp_Q N q g13 g14 a13 a14 a15 a16 ∧ tp_Dt t N B L0 b1 b7 H0 W0 G0 b10 bk de ph a1 a2 a3 a4 a5 a6 a7 a8 a9 a10 a11 a12
theorem tp_cSend_eq {tr k f o st vo he se lo bk : Nat} {ha de : Bool} {ph : Nat → Nat} {q : List (Nat × Nat × Nat)} {c' : tp_C} (e : tp_cSend tr k f o (st, vo, he, se, lo, bk, ha, de, ph, q) = some c') : q.length ≤ 60 ∧ se ≤ 1000 ∧ c' = (st, vo, he, se + 1, tp_sL tr se lo, bk, ha, de, ph, tp_sQ tr k f o se lo q) := by
  unfold tp_cSend at e
  dsimp only at e
  unfold tp_sL tp_sQ
  by_cases c1 : 60 < q.length ∨ 1000 < se
  · rw [if_pos c1] at e
    exact absurd e (by simp)
  · rw [if_neg c1] at e
    refine ⟨by omega, by omega, ?_⟩
    by_cases c2 : tr = 6 ∧ lo < 10 ∧ (se + 1) * 7 % 5 < 3
    · rw [if_pos c2] at e
      rw [if_pos c2, if_pos c2]
      exact (Option.some.inj e).symm
    · rw [if_neg c2] at e
      rw [if_neg c2, if_neg c2]
      by_cases c3 : tr = 7
      · rw [if_pos c3] at e
        rw [if_pos c3]
        exact (Option.some.inj e).symm
      · rw [if_neg c3] at e
        rw [if_neg c3]
        exact (Option.some.inj e).symm
theorem tp_i_send {post : St1 → Prop} {t N pa tr td cc O : Nat} {B : Nat → Nat} {L0 : Nat → List tp_E} {b1 b7 : Nat → Int32} {H0 : Nat → Nat} {W0 : Nat → Nat → Bool} {G0 : Nat → Nat → Bool} {b10 : Nat → Int32} {c c' : tp_C} {u : St1} (hX : tp_X t N pa tr td cc O B L0 b1 b7 H0 W0 G0 b10) (I : tp_I t N pa tr td cc O B L0 b1 b7 H0 W0 G0 b10 c u) {k f o : Nat} (hk : k < 8) (hf : f < 4) (ho : o < 4) (e : tp_cSend tr k f o c = some c') {p0 p1 p2 : Int32} (x0 : p0 = nI k) (x1 : p1 = nI f) (x2 : p2 = nI o)
    (K : ∀ u', tp_I t N pa tr td cc O B L0 b1 b7 H0 W0 G0 b10 c' u' → post u') : wpX_send post u p0 p1 p2 := by
  obtain ⟨st, vo, he, se, lo, bk, ha, de, ph, q⟩ := c
  obtain ⟨g1, g2, g3, g4, g5, g6, g7, g8, g9, g10, g11, g12, g13, g14, g15, g16, a1, a2, a3, a4, a5, a6, a7, a8, a9, a10, a11, a12, a13, a14, a15, a16⟩ := u
  obtain ⟨hb, ⟨s1, s2, s3, s4, s5, s6, s7, s8, s9, s10, s11, s12, s15, s16⟩, hQ, hD⟩ := I
  obtain ⟨q1, q2, rfl⟩ := tp_cSend_eq e
  refine tp_w_send hQ (tr := tr) (se := se) (lo := lo) q1 s6 hX.2.2.2.2.1 s9 q2 s15 (by omega) s16 hk hf ho x0 x1 x2 (fun g14' a13' a14' a15' a16' h => K _ ?_)
  refine ⟨⟨hb.1, hb.2.1, hb.2.2.1, hb.2.2.2.1, ?_, hb.2.2.2.2.2⟩, ⟨s1, s2, s3, s4, s5, s6, s7, s8, s9, s10, s11, s12, rfl, rfl⟩, h, hD⟩
  unfold tp_sL
  split <;> omega
/-- strikes, over the invariant -/
theorem tp_i_strikes {post : Int32 → St1 → Prop} {t N pa tr td cc O : Nat} {B : Nat → Nat} {L0 : Nat → List tp_E} {b1 b7 : Nat → Int32} {H0 : Nat → Nat} {W0 : Nat → Nat → Bool} {G0 : Nat → Nat → Bool} {b10 : Nat → Int32} {st vo he se lo bk : Nat} {ha de : Bool} {ph : Nat → Nat} {q : List (Nat × Nat × Nat)} {u : St1} (hX : tp_X t N pa tr td cc O B L0 b1 b7 H0 W0 G0 b10) (I : tp_I t N pa tr td cc O B L0 b1 b7 H0 W0 G0 b10 (st, vo, he, se, lo, bk, ha, de, ph, q) u) {w m : Nat} (hw : w < 8) (hm : m < 3) {p0 p1 : Int32} (x0 : p0 = nI w) (x1 : p1 = nI m)
    (K1 : tr = w ∧ ha = false ∧ m = td → ∀ u', tp_I t N pa tr td cc O B L0 b1 b7 H0 W0 G0 b10 (st, vo, he, se, lo, bk, true, de, ph, q) u' → post 1 u') (K0 : ¬ (tr = w ∧ ha = false ∧ m = td) → ∀ u', tp_I t N pa tr td cc O B L0 b1 b7 H0 W0 G0 b10 (st, vo, he, se, lo, bk, ha, de, ph, q) u' → post 0 u') : wpX_strikes post u p0 p1 := by
  obtain ⟨g1, g2, g3, g4, g5, g6, g7, g8, g9, g10, g11, g12, g13, g14, g15, g16, a1, a2, a3, a4, a5, a6, a7, a8, a9, a10, a11, a12, a13, a14, a15, a16⟩ := u
  obtain ⟨hb, ⟨s1, s2, s3, s4, s5, s6, s7, s8, s9, s10, s11, s12, s15, s16⟩, hQ, hD⟩ := I
  exact tp_w_strikes hX.2.2.2.2.1 s9 hX.2.2.2.2.2.1 s10 s11 hw hm x0 x1 (fun y1 y2 y3 => K1 ⟨y1, y2, y3⟩ _ ⟨hb, ⟨s1, s2, s3, s4, s5, s6, s7, s8, s9, s10, rfl, s12, s15, s16⟩, hQ, hD⟩) (fun y => K0 y _ ⟨hb, ⟨s1, s2, s3, s4, s5, s6, s7, s8, s9, s10, rfl, s12, s15, s16⟩, hQ, hD⟩)
end
section
/-! a machine breaks down while a commit is under way: the pictures -/
theorem tp_cH_o {t : Nat} {B : Nat → Nat} {H0 : Nat → Nat} {W0 : Nat → Nat → Bool} {bk : Nat} {ph : Nat → Nat} {k : Nat} (c : ¬ H0 k = t + 1) : tp_cH t B H0 W0 bk ph k = if H0 k ≠ 0 ∧ (B bk).testBit (H0 k - 1) = true then 0 else H0 k := by
  unfold tp_cH
  rw [if_neg c]
theorem tp_cH_t {t : Nat} {B : Nat → Nat} {H0 : Nat → Nat} {W0 : Nat → Nat → Bool} {bk : Nat} {ph : Nat → Nat} {k : Nat} (c : H0 k = t + 1) : tp_cH t B H0 W0 bk ph k = if ph (k % 3) = 0 ∨ ph (k % 3) = 1 ∨ (ph (k % 3) = 4 ∧ W0 t k = true) then t + 1 else 0 := by
  unfold tp_cH
  rw [if_pos c]
theorem tp_cH_o0 {t : Nat} {B : Nat → Nat} {H0 : Nat → Nat} {W0 : Nat → Nat → Bool} {ph : Nat → Nat} {k : Nat} (b0 : B 0 = 0) (c : ¬ H0 k = t + 1) : tp_cH t B H0 W0 0 ph k = H0 k := by
  rw [tp_cH_o c, if_neg]
  rintro ⟨_, z⟩
  rw [b0, Nat.zero_testBit] at z
  exact absurd z (by decide)
theorem tp_up_s {f : Nat → Nat} {k v : Nat} : tp_up f k v k = v := by
  unfold tp_up
  rw [if_pos rfl]
theorem tp_up_n {f : Nat → Nat} {k v j : Nat} (h : j ≠ k) : tp_up f k v j = f j := by
  unfold tp_up
  rw [if_neg h]
theorem tp_sp_eq {st t : Nat} (h : st ≠ 0) (j : Nat) : tp_sp st t j = decide (j = t) := by
  unfold tp_sp
  simp [h]
/-- the set that is hit: the others by the row, and the one that is being committed -/
theorem tp_hit1 {t N pa tr td cc O : Nat} {B : Nat → Nat} {L0 : Nat → List tp_E} {b1 b7 : Nat → Int32} {H0 : Nat → Nat} {W0 : Nat → Nat → Bool} {G0 : Nat → Nat → Bool} {b10 : Nat → Int32} (hX : tp_X t N pa tr td cc O B L0 b1 b7 H0 W0 G0 b10) {ph : Nat → Nat} {m S : Nat} (hm : m < 3) (hSb : ∀ j, j < 3 → (S.testBit j = true ↔ ∃ k, k < 12 ∧ k % 3 = m ∧ tp_cH t B H0 W0 0 ph k = j + 1)) {j : Nat} (hj : j < 3) (hjt : j ≠ t) : S.testBit j = (B (m + 1)).testBit j := by
  obtain ⟨_, _, _, _, _, _, _, _, _, ⟨b0, _, b1', _⟩, _⟩ := hX
  have e : (S.testBit j = true) = ((B (m + 1)).testBit j = true) := by
    apply propext
    rw [hSb j hj, b1' m hm j hj]
    constructor
    · rintro ⟨k, y1, y2, y3⟩
      refine ⟨hjt, k, y1, y2, ?_⟩
      by_cases c : H0 k = t + 1
      · rw [tp_cH_t c] at y3
        split at y3 <;> omega
      · rw [tp_cH_o0 b0 c] at y3
        exact y3
    · rintro ⟨_, k, y1, y2, y3⟩
      exact ⟨k, y1, y2, by rw [tp_cH_o0 b0 (by omega)]; exact y3⟩
  cases h1 : S.testBit j <;> cases h2 : (B (m + 1)).testBit j <;> simp_all
theorem tp_hitO {t N pa tr td cc O : Nat} {B : Nat → Nat} {L0 : Nat → List tp_E} {b1 b7 : Nat → Int32} {H0 : Nat → Nat} {W0 : Nat → Nat → Bool} {G0 : Nat → Nat → Bool} {b10 : Nat → Int32} (hX : tp_X t N pa tr td cc O B L0 b1 b7 H0 W0 G0 b10) {ph : Nat → Nat} {st m S : Nat} (hst : st ≠ 0) (hm : m < 3) (hS : S < 8) (hSb : ∀ j, j < 3 → (S.testBit j = true ↔ ∃ k, k < 12 ∧ k % 3 = m ∧ tp_cH t B H0 W0 0 ph k = j + 1)) : tp_clO S (tp_sp st t) (tp_clr O (B 0)) 4 = tp_clr O (B (m + 1)) := by
  have hX' := hX
  obtain ⟨_, _, _, _, _, _, hO, _, _, ⟨b0, b8, b1', _⟩, _⟩ := hX
  obtain ⟨p1, p2, p3⟩ := tp_clrS O hO (B 0) (b8 0)
  obtain ⟨r1, r2, r3⟩ := tp_clrS O hO (B (m + 1)) (b8 _)
  obtain ⟨q1, q2⟩ := tp_clO_ok (sp := tp_sp st t) hS p2 4 (by omega)
  refine tp_bx q1 r2 (fun j hj => ?_)
  rw [q2 j hj, r3 j hj, p3 j hj, b0, Nat.zero_testBit, tp_sp_eq hst]
  by_cases e : j = t
  · have : (B (m + 1)).testBit j = false := by
      cases h : (B (m + 1)).testBit j
      · rfl
      · exact absurd e ((b1' m hm j hj).mp h).1
    rw [this]
    simp [e]
  · rw [tp_hit1 hX' hm hSb hj e]
    simp [e, show j < 4 by omega]
theorem tp_pd_t {t N pa tr td cc O : Nat} {B : Nat → Nat} {L0 : Nat → List tp_E} {b1 b7 : Nat → Int32} {H0 : Nat → Nat} {W0 : Nat → Nat → Bool} {G0 : Nat → Nat → Bool} {b10 : Nat → Int32} (hX : tp_X t N pa tr td cc O B L0 b1 b7 H0 W0 G0 b10) {ph : Nat → Nat} {st m S : Nat} (hst : st ≠ 0) (hm : m < 3) (hSb : ∀ j, j < 3 → (S.testBit j = true ↔ ∃ k, k < 12 ∧ k % 3 = m ∧ tp_cH t B H0 W0 0 ph k = j + 1)) (hT : S.testBit t = true) {a8 a9 a11 a12 : Nat → Int32}
    (D : tp_D (tp_clH S (tp_sp st t) m 4 (tp_cH t B H0 W0 0 ph)) (tp_clW S (tp_sp st t) m 4 (tp_cW t B W0 0 ph)) (tp_clP S (tp_sp st t) m 4 (tp_cP t N ph)) (tp_clG S (tp_sp st t) m 4 (tp_cG t G0 ph)) a8 a9 a11 a12) :
    tp_D (tp_cH t B H0 W0 (m + 1) (tp_up ph m 3)) (tp_cW t B W0 (m + 1) (tp_up ph m 3)) (tp_cP t N (tp_up ph m 3)) (tp_cG t G0 (tp_up ph m 3)) a8 a9 a11 a12 := by
  have F1 := fun j hj hjt => tp_hit1 hX hm hSb (j := j) hj hjt
  obtain ⟨ht, _, _, _, _, _, hO, _, _, ⟨b0, b8, b1', _⟩, hH, hW, _⟩ := hX
  refine tp_D_c D (fun k hk => ?_) (fun j hj k hk => ?_) (fun j hj x hx => ?_) (fun j hj x hx => ?_)
  · by_cases c : H0 k = t + 1
    · by_cases cm : k % 3 = m
      · rw [tp_cH_t c, cm, tp_up_s, if_neg (by omega)]
        unfold tp_clH
        rw [tp_cH_t c]
        split
        · rw [if_pos]
          exact ⟨by omega, by omega, by simpa using hT, Or.inr cm⟩
        · rw [if_neg (fun z => z.1 rfl)]
      · rw [tp_cH_t c, tp_up_n cm]
        unfold tp_clH
        rw [tp_cH_t c]
        split
        · rw [if_neg]
          rintro ⟨_, _, _, z⟩
          rw [tp_sp_eq hst] at z
          simp at z
          exact cm z
        · rw [if_neg (fun z => z.1 rfl)]
    · rw [tp_cH_o c]
      unfold tp_clH
      rw [tp_cH_o0 b0 c, tp_sp_eq hst]
      by_cases c0 : H0 k = 0
      · simp [c0]
      · have h3 := (hH k hk).1
        have e1 : ¬ H0 k - 1 = t := by omega
        rw [F1 (H0 k - 1) (by omega) e1]
        simp [c0, e1, show H0 k ≤ 4 by omega]
  · unfold tp_clW tp_cW
    rw [tp_sp_eq hst]
    by_cases c : j = t
    · subst c
      by_cases cm : k % 3 = m
      · simp [cm, tp_up_s, hT, hj]
      · simp [cm, tp_up_n cm]
    · rw [if_neg c, if_neg c, b0, Nat.zero_testBit, if_neg (show ¬ false = true by decide)]
      rcases Nat.lt_or_ge j 3 with z | z
      · rw [F1 j z c]
        simp [c, hj]
      · have e3 : j = 3 := by omega
        subst e3
        have hw : W0 3 k = false := by
          cases h : W0 3 k
          · rfl
          · have := hW 3 (by omega) k hk h
            have := (hH k hk).1
            omega
        rw [hw]
        simp
  · unfold tp_clP tp_cP
    rw [tp_sp_eq hst]
    by_cases c : j = t
    · subst c
      by_cases cm : x = m
      · simp [cm, tp_up_s, hT, hj]
      · simp [cm, tp_up_n cm]
    · simp [c]
  · unfold tp_clG tp_cG
    rw [tp_sp_eq hst]
    by_cases c : j = t
    · subst c
      by_cases cm : x = m
      · simp [cm, tp_up_s, hT, hj]
      · simp [cm, tp_up_n cm]
    · simp [c]
theorem tp_pd_f {t N pa tr td cc O : Nat} {B : Nat → Nat} {L0 : Nat → List tp_E} {b1 b7 : Nat → Int32} {H0 : Nat → Nat} {W0 : Nat → Nat → Bool} {G0 : Nat → Nat → Bool} {b10 : Nat → Int32} (hX : tp_X t N pa tr td cc O B L0 b1 b7 H0 W0 G0 b10) {ph : Nat → Nat} {st m S : Nat} (hst : st ≠ 0) (hm : m < 3) (hSb : ∀ j, j < 3 → (S.testBit j = true ↔ ∃ k, k < 12 ∧ k % 3 = m ∧ tp_cH t B H0 W0 0 ph k = j + 1)) (hT : S.testBit t = false) {a8 a9 a11 a12 : Nat → Int32}
    (D : tp_D (tp_clH S (tp_sp st t) m 4 (tp_cH t B H0 W0 0 ph)) (tp_clW S (tp_sp st t) m 4 (tp_cW t B W0 0 ph)) (tp_clP S (tp_sp st t) m 4 (tp_cP t N ph)) (tp_clG S (tp_sp st t) m 4 (tp_cG t G0 ph)) a8 a9 a11 a12) :
    tp_D (tp_cH t B H0 W0 (m + 1) ph) (tp_cW t B W0 (m + 1) ph) (tp_cP t N ph) (tp_cG t G0 ph) a8 a9 a11 a12 := by
  have F1 := fun j hj hjt => tp_hit1 hX hm hSb (j := j) hj hjt
  obtain ⟨ht, _, _, _, _, _, hO, _, _, ⟨b0, b8, b1', _⟩, hH, hW, _⟩ := hX
  refine tp_D_c D (fun k hk => ?_) (fun j hj k hk => ?_) (fun j hj x hx => ?_) (fun j hj x hx => ?_)
  · by_cases c : H0 k = t + 1
    · rw [tp_cH_t c]
      unfold tp_clH
      rw [tp_cH_t c]
      split
      · rw [if_neg]
        rintro ⟨_, _, z, _⟩
        rw [show t + 1 - 1 = t by omega, hT] at z
        exact absurd z (by decide)
      · rw [if_neg (fun z => z.1 rfl)]
    · rw [tp_cH_o c]
      unfold tp_clH
      rw [tp_cH_o0 b0 c, tp_sp_eq hst]
      by_cases c0 : H0 k = 0
      · simp [c0]
      · have h3 := (hH k hk).1
        have e1 : ¬ H0 k - 1 = t := by omega
        rw [F1 (H0 k - 1) (by omega) e1]
        simp [c0, e1, show H0 k ≤ 4 by omega]
  · unfold tp_clW tp_cW
    rw [tp_sp_eq hst]
    by_cases c : j = t
    · subst c
      simp [hT]
    · rw [if_neg c, if_neg c, b0, Nat.zero_testBit, if_neg (show ¬ false = true by decide)]
      rcases Nat.lt_or_ge j 3 with z | z
      · rw [F1 j z c]
        simp [c, hj]
      · have e3 : j = 3 := by omega
        subst e3
        have hw : W0 3 k = false := by
          cases h : W0 3 k
          · rfl
          · have := hW 3 (by omega) k hk h
            have := (hH k hk).1
            omega
        rw [hw]
        simp
  · unfold tp_clP tp_cP
    rw [tp_sp_eq hst]
    by_cases c : j = t
    · subst c
      simp [hT]
    · simp [c]
  · unfold tp_clG tp_cG
    rw [tp_sp_eq hst]
    by_cases c : j = t
    · subst c
      simp [hT]
    · simp [c]
/-- the leader breaks down -/
theorem tp_pd_l {t N pa tr td cc O : Nat} {B : Nat → Nat} {L0 : Nat → List tp_E} {b1 b7 : Nat → Int32} {H0 : Nat → Nat} {W0 : Nat → Nat → Bool} {G0 : Nat → Nat → Bool} {b10 : Nat → Int32} (hX : tp_X t N pa tr td cc O B L0 b1 b7 H0 W0 G0 b10) {ph : Nat → Nat} {st : Nat} (hst : st ≠ 0) {a8 a9 a11 a12 : Nat → Int32}
    (D : tp_D (tp_clH (tp_clr O (B 0)) (tp_sp st t) 3 4 (tp_cH t B H0 W0 0 ph)) (tp_clW (tp_clr O (B 0)) (tp_sp st t) 3 4 (tp_cW t B W0 0 ph)) (tp_clP (tp_clr O (B 0)) (tp_sp st t) 3 4 (tp_cP t N ph)) (tp_clG (tp_clr O (B 0)) (tp_sp st t) 3 4 (tp_cG t G0 ph)) a8 a9 a11 a12) :
    tp_D (tp_cH t B H0 W0 4 ph) (tp_cW t B W0 4 ph) (tp_cP t N ph) (tp_cG t G0 ph) a8 a9 a11 a12 ∧ tp_clO (tp_clr O (B 0)) (tp_sp st t) (tp_clr O (B 0)) 4 = tp_clr O (B 4) := by
  obtain ⟨ht, _, _, _, _, _, hO, _, _, ⟨b0, b8, _, b4⟩, hH, hW, _⟩ := hX
  obtain ⟨_, p2, p3⟩ := tp_clrS O hO (B 0) (b8 0)
  have pO : ∀ j, j < 3 → (tp_clr O (B 0)).testBit j = O.testBit j := by
    intro j hj
    rw [p3 j hj, b0, Nat.zero_testBit]
    simp
  have F1 : ∀ j, j < 3 → j ≠ t → (B 4).testBit j = O.testBit j := by
    intro j hj hjt
    have e := b4 j hj
    cases h1 : (B 4).testBit j <;> cases h2 : O.testBit j <;> simp_all
  refine ⟨tp_D_c D (fun k hk => ?_) (fun j hj k hk => ?_) (fun j hj x hx => ?_) (fun j hj x hx => ?_), ?_⟩
  · by_cases c : H0 k = t + 1
    · rw [tp_cH_t c]
      unfold tp_clH
      rw [tp_cH_t c]
      split
      · rw [if_neg]
        rintro ⟨_, _, _, z⟩
        rw [tp_sp_eq hst] at z
        simp at z
        omega
      · rw [if_neg (fun z => z.1 rfl)]
    · rw [tp_cH_o c]
      unfold tp_clH
      rw [tp_cH_o0 b0 c, tp_sp_eq hst]
      by_cases c0 : H0 k = 0
      · simp [c0]
      · have h3 := (hH k hk).1
        have e1 : ¬ H0 k - 1 = t := by omega
        rw [pO (H0 k - 1) (by omega), F1 (H0 k - 1) (by omega) e1]
        simp [c0, e1, show H0 k ≤ 4 by omega]
  · unfold tp_clW tp_cW
    rw [tp_sp_eq hst]
    by_cases c : j = t
    · subst c
      simp [show ¬ k % 3 = 3 by omega]
    · rw [if_neg c, if_neg c, b0, Nat.zero_testBit, if_neg (show ¬ false = true by decide)]
      rcases Nat.lt_or_ge j 3 with z | z
      · rw [F1 j z c, ← b0, pO j z]
        simp [c, hj]
      · have e3 : j = 3 := by omega
        subst e3
        have hw : W0 3 k = false := by
          cases h : W0 3 k
          · rfl
          · have := hW 3 (by omega) k hk h
            have := (hH k hk).1
            omega
        rw [hw]
        simp
  · unfold tp_clP tp_cP
    rw [tp_sp_eq hst]
    by_cases c : j = t
    · subst c
      simp [show ¬ x = 3 by omega]
    · simp [c]
  · have q : tp_clG (tp_clr O (B 0)) (tp_sp st t) 3 4 (tp_cG t G0 ph) j x = tp_cG t G0 ph j x := if_neg (fun z => absurd z.2.2.2 (by omega))
    rw [q]
  · obtain ⟨r1, r2, r3⟩ := tp_clrS O hO (B 4) (b8 _)
    obtain ⟨q1, q2⟩ := tp_clO_ok (sp := tp_sp st t) p2 p2 4 (by omega)
    refine tp_bx q1 r2 (fun j hj => ?_)
    rw [q2 j hj, r3 j hj, pO j hj, tp_sp_eq hst]
    by_cases e : j = t
    · have : (B 4).testBit j = false := by
        cases h : (B 4).testBit j
        · rfl
        · exact absurd e ((b4 j hj).mp h).1
      rw [this]
      simp [e]
    · rw [F1 j hj e]
      simp [e, show j < 4 by omega]
/-- holding what is logged after a crash -/
theorem tp_pd_h {t N pa tr td cc O : Nat} {B : Nat → Nat} {L0 : Nat → List tp_E} {b1 b7 : Nat → Int32} {H0 : Nat → Nat} {W0 : Nat → Nat → Bool} {G0 : Nat → Nat → Bool} {b10 : Nat → Int32} (hX : tp_X t N pa tr td cc O B L0 b1 b7 H0 W0 G0 b10) {ph : Nat → Nat} {de : Bool} {bk m : Nat} (hm : m < 3) (hp : ph m = 1) {a8 a9 a11 a12 : Nat → Int32}
    (D : tp_D (tp_hH N t (tp_cL t N L0 W0 b10 de ph m) (tp_cH t B H0 W0 bk (tp_up ph m 3))) (tp_hW N t (tp_cL t N L0 W0 b10 de ph m) (tp_cW t B W0 bk (tp_up ph m 3))) (tp_pP t m N (tp_cP t N (tp_up ph m 3))) (tp_cG t G0 (tp_up ph m 3)) a8 a9 a11 a12) :
    tp_D (tp_cH t B H0 W0 bk (tp_up ph m 4)) (tp_cW t B W0 bk (tp_up ph m 4)) (tp_cP t N (tp_up ph m 4)) (tp_cG t G0 (tp_up ph m 4)) a8 a9 a11 a12 := by
  obtain ⟨ht, _, _, _, _, _, hO, _, _, _, hH, hW, _, hL, _⟩ := hX
  have hw : ∀ k, k < 12 → tp_wrs N (tp_cL t N L0 W0 b10 de ph m) k = decide (k % 3 = m ∧ W0 t k = true) := by
    intro k hk
    have e0 : tp_cL t N L0 W0 b10 de ph m = L0 m ++ (tp_wr (W0 t) (fun k => b10 (t * 12 + k)) N m 4 ++ [(2, N, 0, 0)]) := by
      unfold tp_cL tp_ext
      rw [if_neg (by omega), if_pos (Or.inl hp)]
    rw [e0, ← List.append_assoc, tp_wrs_app]
    have e1 : tp_wrs N (L0 m ++ tp_wr (W0 t) (fun k => b10 (t * 12 + k)) N m 4) k = (tp_wrs N (L0 m) k || tp_wrs N (tp_wr (W0 t) (fun k => b10 (t * 12 + k)) N m 4) k) := by
      unfold tp_wrs
      rw [List.any_append]
    have e2 : tp_wrs N (L0 m) k = false := by
      unfold tp_wrs
      rw [List.any_eq_false]
      intro e he z
      have := (hL m (by omega)).2 e he
      simp at z
      omega
    rw [e1, e2, tp_wrs_wr hm, decide_eq_false (p := ((2, N, 0, 0) : tp_E).1 = 1 ∧ ((2, N, 0, 0) : tp_E).2.1 = N ∧ ((2, N, 0, 0) : tp_E).2.2.1 = k) (by simp), Bool.false_or, Bool.or_false]
    apply decide_eq_decide.mpr
    constructor
    · exact fun z => ⟨z.1, z.2.2⟩
    · exact fun z => ⟨z.1, by omega, z.2⟩
  refine tp_D_c D (fun k hk => ?_) (fun j hj k hk => ?_) (fun j hj x hx => ?_) (fun j hj x hx => ?_)
  · unfold tp_hH
    rw [hw k hk]
    by_cases c : H0 k = t + 1
    · rw [tp_cH_t c, tp_cH_t c]
      by_cases cm : k % 3 = m
      · rw [cm, tp_up_s, tp_up_s]
        simp
      · rw [tp_up_n cm, tp_up_n cm]
        simp [cm]
    · rw [tp_cH_o c, tp_cH_o c]
      have : W0 t k = false := by
        cases h : W0 t k
        · rfl
        · exact absurd (hW t (by omega) k hk h) c
      simp [this]
  · unfold tp_hW tp_cW
    rw [hw k hk]
    by_cases c : j = t
    · subst c
      by_cases cm : k % 3 = m
      · rw [cm, tp_up_s, tp_up_s]
        simp
      · rw [tp_up_n cm, tp_up_n cm]
        simp [cm]
    · simp [c]
  · unfold tp_pP tp_cP
    by_cases c : j = t
    · subst c
      by_cases cm : x = m
      · simp [cm, tp_up_s]
      · simp [cm, tp_up_n cm]
    · simp [c]
  · unfold tp_cG
    by_cases c : j = t
    · subst c
      by_cases cm : x = m
      · simp [cm, tp_up_s]
      · simp [tp_up_n cm]
    · simp [c]
end
section
/-! breaking down, over the invariant -/
theorem tp_cL_m {t N : Nat} {L0 : Nat → List tp_E} {W0 : Nat → Nat → Bool} {b10 : Nat → Int32} {de : Bool} {ph : Nat → Nat} {m : Nat} (hm : m < 3) : tp_cL t N L0 W0 b10 de ph m = L0 m ++ tp_ext N (tp_wr (W0 t) (fun k => b10 (t * 12 + k)) N m 4) (ph m) := by
  unfold tp_cL
  rw [if_neg (by omega)]
theorem tp_cL_up {t N : Nat} {L0 : Nat → List tp_E} {W0 : Nat → Nat → Bool} {b10 : Nat → Int32} {de : Bool} {ph : Nat → Nat} {m v : Nat} (e : ∀ w, tp_ext N w v = tp_ext N w (ph m)) (j : Nat) : tp_cL t N L0 W0 b10 de (tp_up ph m v) j = tp_cL t N L0 W0 b10 de ph j := by
  unfold tp_cL
  by_cases c : j = 3
  · rw [if_pos c, if_pos c]
  · rw [if_neg c, if_neg c]
    by_cases cm : j = m
    · rw [cm, tp_up_s, e]
    · rw [tp_up_n cm]
theorem tp_c7_up {t : Nat} {b7 : Nat → Int32} {W0 : Nat → Nat → Bool} {b10 : Nat → Int32} {ph : Nat → Nat} {m v : Nat} (h1 : ¬ (ph m = 2 ∨ ph m = 6)) (h2 : ¬ (v = 2 ∨ v = 6)) (k : Nat) : tp_c7 t b7 W0 b10 (tp_up ph m v) k = tp_c7 t b7 W0 b10 ph k := by
  unfold tp_c7
  by_cases cm : k % 3 = m
  · rw [cm, tp_up_s, if_neg (fun z => h2 z.1), if_neg (fun z => h1 z.1)]
  · rw [tp_up_n cm]
theorem tp_dlog {t N pa tr td cc O : Nat} {B : Nat → Nat} {L0 : Nat → List tp_E} {b1 b7 : Nat → Int32} {H0 : Nat → Nat} {W0 : Nat → Nat → Bool} {G0 : Nat → Nat → Bool} {b10 : Nat → Int32} (hX : tp_X t N pa tr td cc O B L0 b1 b7 H0 W0 G0 b10) {de : Bool} {ph : Nat → Nat} : (de = true → ∃ e, e ∈ tp_cL t N L0 W0 b10 de ph 3 ∧ e.1 = 5 ∧ e.2.1 = N) ∧ (de = false → ∀ e, e ∈ tp_cL t N L0 W0 b10 de ph 3 → ¬ (e.1 = 5 ∧ e.2.1 = N)) := by
  obtain ⟨ht, _, _, _, _, _, hO, _, _, _, hH, hW, _, hL, _⟩ := hX
  refine ⟨fun h => ⟨(5, N, 0, 0), ?_, rfl, rfl⟩, fun h e he z => ?_⟩
  · unfold tp_cL
    rw [if_pos rfl, h]
    simp
  · unfold tp_cL at he
    rw [if_pos rfl, h] at he
    simp at he
    have := (hL 3 (by omega)).2 e he
    omega
theorem tp_i_down {post : Int32 → St1 → Prop} {t N pa tr td cc O : Nat} {B : Nat → Nat} {L0 : Nat → List tp_E} {b1 b7 : Nat → Int32} {H0 : Nat → Nat} {W0 : Nat → Nat → Bool} {G0 : Nat → Nat → Bool} {b10 : Nat → Int32} {st vo he se lo bk : Nat} {ha de : Bool} {ph : Nat → Nat} {q : List (Nat × Nat × Nat)} {c' : tp_C} {u : St1} (hX : tp_X t N pa tr td cc O B L0 b1 b7 H0 W0 G0 b10) (I : tp_I t N pa tr td cc O B L0 b1 b7 H0 W0 G0 b10 (st, vo, he, se, lo, bk, ha, de, ph, q) u) {m : Nat} {p0 : Int32} (hm : m < 3) (x0 : p0 = nI m) (e : tp_cDown pa m (st, vo, he, se, lo, bk, ha, de, ph, q) = some c')
    (K : ∀ r u', tp_I t N pa tr td cc O B L0 b1 b7 H0 W0 G0 b10 c' u' → post r u') : wpX_breakDown post u p0 := by
  subst x0
  obtain ⟨g1, g2, g3, g4, g5, g6, g7, g8, g9, g10, g11, g12, g13, g14, g15, g16, a1, a2, a3, a4, a5, a6, a7, a8, a9, a10, a11, a12, a13, a14, a15, a16⟩ := u
  obtain ⟨hb, ⟨s1, s2, s3, s4, s5, s6, s7, s8, s9, s10, s11, s12, s15, s16⟩, hQ, ⟨d1, d10, dL, d7, dD⟩⟩ := I
  unfold tp_cDown at e
  dsimp only at e
  by_cases hbk : bk = 0
  case neg =>
    rw [if_neg hbk] at e
    exact absurd e (by simp)
  rw [if_pos hbk] at e
  subst hbk
  have hX' := hX
  obtain ⟨ht, hN1, hN, hpa, htr, htd, hO, hOt, hparts, ⟨b0, b8, b1', b4⟩, hH, hW, hSet, hL, hG⟩ := hX
  have hst : st ≠ 0 := by omega
  refine tp_w_breakDown dD hm (tp_clrS O hO (B 0) (b8 0)).2.1 s1 (by omega) s2 (by omega) s7 (fun S hS hSb a8' a9' a11' a12' D => ?_)
  rw [tp_hitO hX' hst hm hS hSb]
  have R := tp_replay (N := N) (W := W0 t) (b := fun k => b10 (t * 12 + k)) (f := tp_rst m a1 a7) hm (hSet m hm) (hL m (by omega)).2 (fun k hk hkm => by
    unfold tp_rst
    rw [if_pos ⟨hkm, hk⟩, d1]) (ph m)
  rw [← tp_cL_m (de := de) hm] at R
  obtain ⟨R1, R2, R3⟩ := R
  have a7ok : ∀ k, k < 12 → (tp_rp (tp_cL t N L0 W0 b10 de ph m) (tp_cL t N L0 W0 b10 de ph m) (tp_rst m a1 a7, 0)).1 k = tp_c7 t b7 W0 b10 ph k := by
    intro k hk
    by_cases cm : k % 3 = m
    · rw [R2 k hk cm]
      unfold tp_c7
      rw [cm]
    · rw [R3 k cm]
      unfold tp_rst
      rw [if_neg (fun z => cm z.1)]
      exact d7 k hk
  have hv : ∀ e, e ∈ tp_cL t N L0 W0 b10 de ph m → e.1 = 1 → e.2.1 = N → a10 (t * 12 + e.2.2.1) = e.2.2.2 := by
    intro e he z1 z2
    rw [tp_cL_m hm, List.mem_append] at he
    rcases he with he | he
    · have := (hL m (by omega)).2 e he
      omega
    · have key : e ∈ tp_wr (W0 t) (fun k => b10 (t * 12 + k)) N m 4 → a10 (t * 12 + e.2.2.1) = e.2.2.2 := by
        intro h
        rw [(tp_wr_all 4 e h).2.2.2.2.2, d10]
      unfold tp_ext at he
      split at he
      · simp at he
        rcases he with he | he
        · exact key he
        · rw [he] at z1; exact absurd z1 (by simp)
      · split at he
        · simp at he
          rcases he with he | he | he
          · exact key he
          · rw [he] at z1; exact absurd z1 (by simp)
          · rw [he] at z1; exact absurd z1 (by simp)
        · split at he
          · simp at he
            rcases he with he | he | he
            · exact key he
            · rw [he] at z1; exact absurd z1 (by simp)
            · rw [he] at z1; exact absurd z1 (by simp)
          · exact absurd he (by simp)
  have hTt : pa.testBit m = true → (ph m = 0 ∨ ph m = 1) → S.testBit t = true := by
    intro hp hq
    obtain ⟨k, k1, k2, k3⟩ := (hparts m hm).mp hp
    refine (hSb t ht).mpr ⟨k, k1, k2, ?_⟩
    rw [tp_cH_t k3, k2, if_pos (by omega)]
  have hTf : (pa.testBit m = false ∨ ph m = 2) → S.testBit t = false := by
    intro hp
    cases hT : S.testBit t
    · rfl
    · obtain ⟨k, k1, k2, k3⟩ := (hSb t ht).mp hT
      by_cases c : H0 k = t + 1
      · rcases hp with hp | hp
        · have := (hparts m hm).mpr ⟨k, k1, k2, c⟩
          rw [hp] at this
          exact absurd this (by decide)
        · rw [tp_cH_t c, k2, hp] at k3
          simp at k3
      · rw [tp_cH_o0 b0 c] at k3
        exact absurd k3 c
  have fin : ∀ ph', (∀ k, tp_c7 t b7 W0 b10 ph' k = tp_c7 t b7 W0 b10 ph k) → (∀ j, tp_cL t N L0 W0 b10 de ph' j = tp_cL t N L0 W0 b10 de ph j) → c' = (st, vo, he, se, lo, m + 1, ha, de, ph', q) →
      ∀ a8' a9' a11' a12', tp_D (tp_cH t B H0 W0 (m + 1) ph') (tp_cW t B W0 (m + 1) ph') (tp_cP t N ph') (tp_cG t G0 ph') a8' a9' a11' a12' →
      tp_I t N pa tr td cc O B L0 b1 b7 H0 W0 G0 b10 c' (nI (tp_clr O (B (m + 1))), nI st, g3, g4, g5, g6, nI t, g8, g9, g10, g11, g12, g13, g14, g15, g16, a1, a2, a3, a4, a5, a6, (tp_rp (tp_cL t N L0 W0 b10 de ph m) (tp_cL t N L0 W0 b10 de ph m) (tp_rst m a1 a7, 0)).1, a8', a9', a10, a11', a12', a13, a14, a15, a16) := by
    intro ph' h7 hL' ec' a8' a9' a11' a12' D'
    subst ec'
    refine ⟨⟨hb.1, hb.2.1, hb.2.2.1, hb.2.2.2.1, hb.2.2.2.2.1, by omega⟩, ⟨rfl, rfl, s3, s4, s5, s6, rfl, s8, s9, s10, s11, s12, s15, s16⟩, hQ, d1, d10, tp_LG_c dL (fun j _ => hL' j), fun k hk => ?_, D'⟩
    rw [h7 k]
    exact a7ok k hk
  by_cases hp : pa.testBit m = true
  · rw [if_pos hp] at e
    by_cases p0 : ph m = 0
    · rw [if_pos p0] at e
      have e := (Option.some.inj e).symm
      have hT := hTt hp (Or.inl p0)
      have D2 := tp_pd_t hX' hst hm hSb hT D
      refine tp_w_comeBack dL hm (fun z => K _ _ (fin (tp_up ph m 3) (tp_c7_up (by omega) (by omega)) (tp_cL_up (fun w => by rw [p0]; rfl)) e _ _ _ _ D2)) (fun z => absurd R1 (by rw [p0]; exact z))
    · rw [if_neg p0] at e
      by_cases p1 : ph m = 1
      · rw [if_pos p1] at e
        have e := (Option.some.inj e).symm
        have hT := hTt hp (Or.inr p1)
        have D2 := tp_pd_t hX' hst hm hSb hT D
        rw [p1] at R1
        have R1' : (tp_rp (tp_cL t N L0 W0 b10 de ph m) (tp_cL t N L0 W0 b10 de ph m) (tp_rst m a1 a7, 0)).2 = N := R1
        refine tp_w_comeBack dL hm (fun z => absurd (R1'.symm.trans z) (by omega)) (fun z => ?_)
        rw [R1']
        exact tp_w_holdLogged D2 dL ht hm (by omega) rfl hv (fun c8 c9 c11 D3 => K _ _ (fin (tp_up ph m 4) (tp_c7_up (by omega) (by omega)) (tp_cL_up (fun w => by rw [p1]; rfl)) e _ _ _ _ (tp_pd_h hX' hm p1 D3)))
      · rw [if_neg p1] at e
        by_cases p2 : ph m = 2
        · rw [if_pos p2] at e
          have e := (Option.some.inj e).symm
          have hT := hTf (Or.inr p2)
          have D2 := tp_pd_f hX' hst hm hSb hT D
          exact tp_w_comeBack dL hm (fun z => K _ _ (fin ph (fun _ => rfl) (fun _ => rfl) e _ _ _ _ D2)) (fun z => absurd R1 (by rw [p2]; exact z))
        · rw [if_neg p2] at e
          exact absurd e (by simp)
  · rw [if_neg hp] at e
    by_cases p0 : ph m = 0
    · rw [if_pos p0] at e
      have e := (Option.some.inj e).symm
      have hT := hTf (Or.inl (by simpa using hp))
      have D2 := tp_pd_f hX' hst hm hSb hT D
      exact tp_w_comeBack dL hm (fun z => K _ _ (fin ph (fun _ => rfl) (fun _ => rfl) e _ _ _ _ D2)) (fun z => absurd R1 (by rw [p0]; exact z))
    · rw [if_neg p0] at e
      exact absurd e (by simp)
theorem tp_i_lead {post : Int32 → St1 → Prop} {t N pa tr td cc O : Nat} {B : Nat → Nat} {L0 : Nat → List tp_E} {b1 b7 : Nat → Int32} {H0 : Nat → Nat} {W0 : Nat → Nat → Bool} {G0 : Nat → Nat → Bool} {b10 : Nat → Int32} {st vo he se lo bk : Nat} {ha de : Bool} {ph : Nat → Nat} {q : List (Nat × Nat × Nat)} {c' : tp_C} {u : St1} (hX : tp_X t N pa tr td cc O B L0 b1 b7 H0 W0 G0 b10) (I : tp_I t N pa tr td cc O B L0 b1 b7 H0 W0 G0 b10 (st, vo, he, se, lo, bk, ha, de, ph, q) u) (e : tp_cLead (st, vo, he, se, lo, bk, ha, de, ph, q) = some c')
    (K : ∀ r u', tp_I t N pa tr td cc O B L0 b1 b7 H0 W0 G0 b10 c' u' → post r u') : wpX_breakLeader post u := by
  obtain ⟨g1, g2, g3, g4, g5, g6, g7, g8, g9, g10, g11, g12, g13, g14, g15, g16, a1, a2, a3, a4, a5, a6, a7, a8, a9, a10, a11, a12, a13, a14, a15, a16⟩ := u
  obtain ⟨hb, ⟨s1, s2, s3, s4, s5, s6, s7, s8, s9, s10, s11, s12, s15, s16⟩, hQ, ⟨d1, d10, dL, d7, dD⟩⟩ := I
  unfold tp_cLead at e
  dsimp only at e
  by_cases hbk : bk = 0
  case neg =>
    rw [if_neg hbk] at e
    exact absurd e (by simp)
  rw [if_pos hbk] at e
  subst hbk
  have hX' := hX
  obtain ⟨ht, hN1, hN, hpa, htr, htd, hO, hOt, hparts, ⟨b0, b8, b1', b4⟩, hH, hW, hSet, hL, hG⟩ := hX
  have hst : st ≠ 0 := by omega
  have e := (Option.some.inj e).symm
  subst e
  obtain ⟨l1, l2⟩ := tp_dlog hX' (de := de) (ph := ph)
  refine tp_w_breakLeader dD dL (tp_clrS O hO (B 0) (b8 0)).2.1 s1 (by omega) s2 (by omega) s7 (by omega) s6 l1 l2 (fun z => absurd z hst) (fun _ a8' a9' a11' a12' D => K _ _ ?_)
  obtain ⟨D2, eO⟩ := tp_pd_l hX' hst D
  rw [eO]
  refine ⟨⟨?_, ?_, by omega, by omega, hb.2.2.2.2.1, by omega⟩, ⟨rfl, rfl, rfl, rfl, s5, rfl, rfl, s8, s9, s10, s11, s12, s15, s16⟩, hQ, d1, d10, dL, d7, D2⟩
  · split <;> omega
  · split <;> omega
end
section
/-! reminding, deciding, hearing: over the invariant -/
theorem tp_P_at {t N pa tr td cc O : Nat} {B : Nat → Nat} {L0 : Nat → List tp_E} {b1 b7 : Nat → Int32} {H0 : Nat → Nat} {W0 : Nat → Nat → Bool} {G0 : Nat → Nat → Bool} {b10 : Nat → Int32} {st vo he se lo bk : Nat} {ha de : Bool} {ph : Nat → Nat} {q : List (Nat × Nat × Nat)} {g1 g2 g3 g4 g5 g6 g7 g8 g9 g10 g11 g12 g13 g14 g15 g16 : Int32} {a1 a2 a3 a4 a5 a6 a7 a8 a9 a10 a11 a12 a13 a14 a15 a16 : Nat → Int32} (hX : tp_X t N pa tr td cc O B L0 b1 b7 H0 W0 G0 b10) (I : tp_I t N pa tr td cc O B L0 b1 b7 H0 W0 G0 b10 (st, vo, he, se, lo, bk, ha, de, ph, q) (g1, g2, g3, g4, g5, g6, g7, g8, g9, g10, g11, g12, g13, g14, g15, g16, a1, a2, a3, a4, a5, a6, a7, a8, a9, a10, a11, a12, a13, a14, a15, a16)) {m : Nat} (hm : m < 3) : a11 (g7 * 3 + nI m).toNatClampNeg = nI (if ph m = 1 ∨ ph m = 4 then N else 0) ∧ vp_in (g7 * 3 + nI m) 12 ∧ (a11 (g7 * 3 + nI m).toNatClampNeg = g6 ↔ (ph m = 1 ∨ ph m = 4)) ∧ (a12 (g7 * 3 + nI m).toNatClampNeg = 0 ↔ ¬ (ph m = 3 ∨ ph m = 4 ∨ ph m = 6)) := by
  obtain ⟨hb, ⟨s1, s2, s3, s4, s5, s6, s7, s8, s9, s10, s11, s12, s15, s16⟩, hQ, ⟨d1, d10, dL, d7, dD⟩⟩ := I
  obtain ⟨ht, hN1, hN, _⟩ := hX
  have ei : (g7 * 3 + nI m) = nI (t * 3 + m) := by rw [s7]; exact tp_ix3 t m
  have e1 : a11 (g7 * 3 + nI m).toNatClampNeg = nI (if ph m = 1 ∨ ph m = 4 then N else 0) := by
    rw [ei, nI_clamp (by omega), dD.2.2.1 t (by omega) m hm]
    unfold tp_cP
    simp
  refine ⟨e1, by rw [ei]; exact vp_in_nI (by omega) (by omega), ?_, ?_⟩
  · rw [e1, s6, nI_eq (by split <;> omega) (by omega)]
    split
    · simp [*]
    · simp [*]; omega
  · rw [ei, nI_clamp (by omega), dD.2.2.2 t (by omega) m hm]
    unfold tp_cG
    rw [if_pos rfl]
    by_cases c : ph m = 3 ∨ ph m = 4 ∨ ph m = 6
    · simp [c]
    · simp [c]
theorem tp_i_ask {post : St1 → Prop} {t N pa tr td cc O : Nat} {B : Nat → Nat} {L0 : Nat → List tp_E} {b1 b7 : Nat → Int32} {H0 : Nat → Nat} {W0 : Nat → Nat → Bool} {G0 : Nat → Nat → Bool} {b10 : Nat → Int32} {c c' : tp_C} {u : St1} (hX : tp_X t N pa tr td cc O B L0 b1 b7 H0 W0 G0 b10) (I : tp_I t N pa tr td cc O B L0 b1 b7 H0 W0 G0 b10 c u) {m : Nat} (hm : m < 3) (e : tp_cAsk tr m c = some c')
    (K : ∀ u', tp_I t N pa tr td cc O B L0 b1 b7 H0 W0 G0 b10 c' u' → post u') : wpX_askOrRefuse post u (nI m) := by
  obtain ⟨st, vo, he, se, lo, bk, ha, de, ph, q⟩ := c
  obtain ⟨g1, g2, g3, g4, g5, g6, g7, g8, g9, g10, g11, g12, g13, g14, g15, g16, a1, a2, a3, a4, a5, a6, a7, a8, a9, a10, a11, a12, a13, a14, a15, a16⟩ := u
  obtain ⟨f1, f2, f3, f4⟩ := tp_P_at hX I hm
  unfold tp_cAsk at e
  dsimp only at e
  refine ⟨f2, ek_if f3 (fun z => ?_) (fun z => ?_)⟩
  · rw [if_pos z] at e
    exact tp_i_send hX I (k := 7) (f := m) (o := 3) (by omega) (by omega) (by omega) e rfl rfl rfl (fun u' h => K u' h)
  · rw [if_neg z] at e
    exact tp_i_send hX I (k := 5) (f := 3) (o := m) (by omega) (by omega) (by omega) e rfl rfl rfl (fun u' h => K u' h)
/-- one machine of remind's loop -/
theorem tp_i_rem1 {post : St1 → Prop} {J : Int32 → Int32 → Int32 → Int32 → Int32 → Int32 → Int32 → Int32 → Int32 → Int32 → Int32 → Int32 → Int32 → Int32 → Int32 → Int32 → Int32 → (Nat → Int32) → (Nat → Int32) → (Nat → Int32) → (Nat → Int32) → (Nat → Int32) → (Nat → Int32) → (Nat → Int32) → (Nat → Int32) → (Nat → Int32) → (Nat → Int32) → (Nat → Int32) → (Nat → Int32) → (Nat → Int32) → (Nat → Int32) → (Nat → Int32) → (Nat → Int32) → Prop} {t N pa tr td cc O : Nat} {B : Nat → Nat} {L0 : Nat → List tp_E} {b1 b7 : Nat → Int32} {H0 : Nat → Nat} {W0 : Nat → Nat → Bool} {G0 : Nat → Nat → Bool} {b10 : Nat → Int32} {c c' : tp_C} {g1 g2 g3 g4 g5 g6 g7 g8 g9 g10 g11 g12 g13 g14 g15 g16 : Int32} {a1 a2 a3 a4 a5 a6 a7 a8 a9 a10 a11 a12 a13 a14 a15 a16 : Nat → Int32} (hX : tp_X t N pa tr td cc O B L0 b1 b7 H0 W0 G0 b10) (I : tp_I t N pa tr td cc O B L0 b1 b7 H0 W0 G0 b10 c (g1, g2, g3, g4, g5, g6, g7, g8, g9, g10, g11, g12, g13, g14, g15, g16, a1, a2, a3, a4, a5, a6, a7, a8, a9, a10, a11, a12, a13, a14, a15, a16)) {m : Nat} (hm : m < 3) (e : tp_cRem1 pa tr m c = some c') (f : Nat)
    (K : ∀ g1' g2' g3' g4' g5' g6' g7' g8' g9' g10' g11' g12' g13' g14' g15' g16' a1' a2' a3' a4' a5' a6' a7' a8' a9' a10' a11' a12' a13' a14' a15' a16', tp_I t N pa tr td cc O B L0 b1 b7 H0 W0 G0 b10 c' (g1', g2', g3', g4', g5', g6', g7', g8', g9', g10', g11', g12', g13', g14', g15', g16', a1', a2', a3', a4', a5', a6', a7', a8', a9', a10', a11', a12', a13', a14', a15', a16') → J (nI (m + 1)) g1' g2' g3' g4' g5' g6' g7' g8' g9' g10' g11' g12' g13' g14' g15' g16' a1' a2' a3' a4' a5' a6' a7' a8' a9' a10' a11' a12' a13' a14' a15' a16') : (((((g3 >>> (nI m &&& 31)) &&& 1) = 0 → (wX_remind_23 post J (nI m) 0 g1 g2 g3 g4 g5 g6 g7 g8 g9 g10 g11 g12 g13 g14 g15 g16 a1 a2 a3 a4 a5 a6 a7 a8 a9 a10 a11 a12 a13 a14 a15 a16)) ∧ (¬ ((g3 >>> (nI m &&& 31)) &&& 1) = 0 → (wX_remind_23 post J (nI m) 1 g1 g2 g3 g4 g5 g6 g7 g8 g9 g10 g11 g12 g13 g14 g15 g16 a1 a2 a3 a4 a5 a6 a7 a8 a9 a10 a11 a12 a13 a14 a15 a16)))) := by
  obtain ⟨st, vo, he, se, lo, bk, ha, de, ph, q⟩ := c
  have I0 := I
  obtain ⟨hb, ⟨s1, s2, s3, s4, s5, s6, s7, s8, s9, s10, s11, s12, s15, s16⟩, hQ, hD⟩ := I
  have hpa := hX.2.2.2.1
  unfold tp_cRem1 at e
  dsimp only at e
  have c95 : ∀ g1' g2' g3' g4' g5' g6' g7' g8' g9' g10' g11' g12' g13' g14' g15' g16' a1' a2' a3' a4' a5' a6' a7' a8' a9' a10' a11' a12' a13' a14' a15' a16' (x3 : Int32) (c1 : tp_C), tp_I t N pa tr td cc O B L0 b1 b7 H0 W0 G0 b10 c1 (g1', g2', g3', g4', g5', g6', g7', g8', g9', g10', g11', g12', g13', g14', g15', g16', a1', a2', a3', a4', a5', a6', a7', a8', a9', a10', a11', a12', a13', a14', a15', a16') → g8' = nI pa → g2' = nI st → (¬ (pa.testBit m = true ∧ st = 3 ∧ x3 = 0) → c' = c1) → (pa.testBit m = true ∧ st = 3 ∧ x3 = 0 → tp_cAsk tr m c1 = some c') → wX_remind_95 post J (nI m) x3 g1' g2' g3' g4' g5' g6' g7' g8' g9' g10' g11' g12' g13' g14' g15' g16' a1' a2' a3' a4' a5' a6' a7' a8' a9' a10' a11' a12' a13' a14' a15' a16' := by
    intro g1' g2' g3' g4' g5' g6' g7' g8' g9' g10' g11' g12' g13' g14' g15' g16' a1' a2' a3' a4' a5' a6' a7' a8' a9' a10' a11' a12' a13' a14' a15' a16' x3 c1 I1 t8 t2 h1 h2
    refine tp_w_isPart (m := m) (by omega) t8 (fun z => br_t rfl (nm_r (nI_1 m) (K _ _ _ _ _ _ _ _ _ _ _ _ _ _ _ _ _ _ _ _ _ _ _ _ _ _ _ _ _ _ _ _ (by rw [h1 (by simp [z])]; exact I1)))) (fun z => br_f (by decide) (pk_eq st 3 (fun y => br_c (fun x => ?_) (fun x => nm_r (nI_1 m) (K _ _ _ _ _ _ _ _ _ _ _ _ _ _ _ _ _ _ _ _ _ _ _ _ _ _ _ _ _ _ _ _ (by rw [h1 (by simp [x])]; exact I1)))) (fun y => nm_r (nI_1 m) (K _ _ _ _ _ _ _ _ _ _ _ _ _ _ _ _ _ _ _ _ _ _ _ _ _ _ _ _ _ _ _ _ (by rw [h1 (by simp [y])]; exact I1))) t2))
    refine tp_i_ask hX I1 hm (h2 ⟨z, y, x⟩) (fun u' h' => ?_)
    obtain ⟨g1'', g2'', g3'', g4'', g5'', g6'', g7'', g8'', g9'', g10'', g11'', g12'', g13'', g14'', g15'', g16'', a1'', a2'', a3'', a4'', a5'', a6'', a7'', a8'', a9'', a10'', a11'', a12'', a13'', a14'', a15'', a16''⟩ := u'
    exact nm_r (nI_1 m) (K _ _ _ _ _ _ _ _ _ _ _ _ _ _ _ _ _ _ _ _ _ _ _ _ _ _ _ _ _ _ _ _ h')
  have c68 : ∀ x3 : Int32, (x3 = 0 ↔ he.testBit m = false) → ¬ (pa.testBit m = true ∧ st = 1 ∧ vo.testBit m = false) → wX_remind_68 post J (nI m) x3 g1 g2 g3 g4 g5 g6 g7 g8 g9 g10 g11 g12 g13 g14 g15 g16 a1 a2 a3 a4 a5 a6 a7 a8 a9 a10 a11 a12 a13 a14 a15 a16 := by
    intro x3 ex n1
    have skip : ¬ (pa.testBit m = true ∧ st = 2 ∧ x3 = 0) → wX_remind_95 post J (nI m) x3 g1 g2 g3 g4 g5 g6 g7 g8 g9 g10 g11 g12 g13 g14 g15 g16 a1 a2 a3 a4 a5 a6 a7 a8 a9 a10 a11 a12 a13 a14 a15 a16 := by
      intro n2
      refine c95 _ _ _ _ _ _ _ _ _ _ _ _ _ _ _ _ _ _ _ _ _ _ _ _ _ _ _ _ _ _ _ _ x3 _ I0 s8 s2 (fun n3 => ?_) (fun y3 => ?_)
      · by_cases z : pa.testBit m = true
        · rw [if_pos z] at e
          by_cases z1 : st = 1
          · rw [if_pos z1, if_pos (by cases h : vo.testBit m <;> simp_all)] at e
            exact (Option.some.inj e).symm
          · rw [if_neg z1] at e
            by_cases z2 : st = 2
            · rw [if_pos z2, if_pos (by cases h : he.testBit m <;> simp_all)] at e
              exact (Option.some.inj e).symm
            · rw [if_neg z2] at e
              by_cases z3 : st = 3
              · rw [if_pos z3, if_pos (by cases h : he.testBit m <;> simp_all)] at e
                exact (Option.some.inj e).symm
              · rw [if_neg z3] at e
                exact (Option.some.inj e).symm
        · rw [if_neg z] at e
          exact (Option.some.inj e).symm
      · obtain ⟨z, z3, zx⟩ := y3
        have zh := ex.mp zx
        rw [if_pos z, if_neg (by omega), if_neg (by omega), if_pos z3, if_neg (by simp [zh])] at e
        exact e
    refine tp_w_isPart (m := m) (by omega) s8 (fun z => br_t rfl (skip (by simp [z]))) (fun z => br_f (by decide) (pk_eq st 2 (fun y => br_c (fun x => ?_) (fun x => skip (by simp [x]))) (fun y => skip (by simp [y])) s2))
    have zh := ex.mp x
    rw [if_pos z, if_neg (by omega), if_pos y, if_neg (by simp [zh])] at e
    refine tp_i_send hX I0 (k := 4) (f := 3) (o := m) (by omega) (by omega) (by omega) e rfl rfl rfl (fun u' h' => ?_)
    obtain ⟨g1', g2', g3', g4', g5', g6', g7', g8', g9', g10', g11', g12', g13', g14', g15', g16', a1', a2', a3', a4', a5', a6', a7', a8', a9', a10', a11', a12', a13', a14', a15', a16'⟩ := u'
    obtain ⟨q1, q2, rfl⟩ := tp_cSend_eq e
    have h2 := h'
    obtain ⟨_, ⟨_, r2, _, _, _, _, _, r8, _⟩, _⟩ := h'
    exact c95 _ _ _ _ _ _ _ _ _ _ _ _ _ _ _ _ _ _ _ _ _ _ _ _ _ _ _ _ _ _ _ _ x3 _ h2 r8 r2 (fun _ => rfl) (fun y3 => absurd y3.2.1 (by omega))
  have c40 : ∀ x2 x3 : Int32, (x2 = 0 ↔ vo.testBit m = false) → (x3 = 0 ↔ he.testBit m = false) → wX_remind_40 post J (nI m) x2 x3 g1 g2 g3 g4 g5 g6 g7 g8 g9 g10 g11 g12 g13 g14 g15 g16 a1 a2 a3 a4 a5 a6 a7 a8 a9 a10 a11 a12 a13 a14 a15 a16 := by
    intro x2 x3 e2 ex
    refine tp_w_isPart (m := m) (by omega) s8 (fun z => br_t rfl (c68 x3 ex (by simp [z]))) (fun z => br_f (by decide) (pk_eq st 1 (fun y => br_c (fun x => ?_) (fun x => c68 x3 ex (fun w => x (e2.mpr w.2.2)))) (fun y => c68 x3 ex (by simp [y])) s2))
    have zv := e2.mp x
    rw [if_pos z, if_pos y, if_neg (by simp [zv])] at e
    refine tp_i_send hX I0 (k := 1) (f := 3) (o := m) (by omega) (by omega) (by omega) e rfl rfl rfl (fun u' h' => ?_)
    obtain ⟨g1', g2', g3', g4', g5', g6', g7', g8', g9', g10', g11', g12', g13', g14', g15', g16', a1', a2', a3', a4', a5', a6', a7', a8', a9', a10', a11', a12', a13', a14', a15', a16'⟩ := u'
    obtain ⟨q1, q2, rfl⟩ := tp_cSend_eq e
    have h2 := h'
    obtain ⟨_, ⟨_, r2, _, _, _, _, _, r8, _⟩, _⟩ := h'
    have k95 : wX_remind_95 post J (nI m) x3 g1' g2' g3' g4' g5' g6' g7' g8' g9' g10' g11' g12' g13' g14' g15' g16' a1' a2' a3' a4' a5' a6' a7' a8' a9' a10' a11' a12' a13' a14' a15' a16' := c95 _ _ _ _ _ _ _ _ _ _ _ _ _ _ _ _ _ _ _ _ _ _ _ _ _ _ _ _ _ _ _ _ x3 _ h2 r8 r2 (fun _ => rfl) (fun y3 => absurd y3.2.1 (by omega))
    exact tp_w_isPart (m := m) (by omega) r8 (fun _ => br_t rfl k95) (fun _ => br_f (by decide) (pk_eq st 2 (fun y3 => absurd y3 (by omega)) (fun _ => k95) r2))
  have c23 : ∀ x2 : Int32, (x2 = 0 ↔ vo.testBit m = false) → wX_remind_23 post J (nI m) x2 g1 g2 g3 g4 g5 g6 g7 g8 g9 g10 g11 g12 g13 g14 g15 g16 a1 a2 a3 a4 a5 a6 a7 a8 a9 a10 a11 a12 a13 a14 a15 a16 := by
    intro x2 e2
    refine ek_if (d := he.testBit m = false) (by rw [s4]; exact tp_tb (by omega)) (fun z => c40 x2 0 e2 (by simp [z])) (fun z => c40 x2 1 e2 ?_)
    simp at z
    simp [z]
  refine ek_if (d := vo.testBit m = false) (by rw [s3]; exact tp_tb (by omega)) (fun z => c23 0 (by simp [z])) (fun z => c23 1 ?_)
  simp at z
  simp [z]
theorem tp_i_rem {post : St1 → Prop} {t N pa tr td cc O : Nat} {B : Nat → Nat} {L0 : Nat → List tp_E} {b1 b7 : Nat → Int32} {H0 : Nat → Nat} {W0 : Nat → Nat → Bool} {G0 : Nat → Nat → Bool} {b10 : Nat → Int32} {c c' : tp_C} {u : St1} (hX : tp_X t N pa tr td cc O B L0 b1 b7 H0 W0 G0 b10) (I : tp_I t N pa tr td cc O B L0 b1 b7 H0 W0 G0 b10 c u) (e : tp_cRem pa tr c = some c')
    (K : ∀ u', tp_I t N pa tr td cc O B L0 b1 b7 H0 W0 G0 b10 c' u' → post u') : wpX_remind post u := by
  obtain ⟨g1, g2, g3, g4, g5, g6, g7, g8, g9, g10, g11, g12, g13, g14, g15, g16, a1, a2, a3, a4, a5, a6, a7, a8, a9, a10, a11, a12, a13, a14, a15, a16⟩ := u
  unfold tp_cRem at e
  rw [Option.bind_eq_some_iff] at e
  obtain ⟨c1, e1, e⟩ := e
  rw [Option.bind_eq_some_iff] at e
  obtain ⟨c2, e2, e3⟩ := e
  refine ⟨4, ?_⟩
  refine pk_le 3 0 (fun z => absurd z (by omega)) (fun _ => tp_i_rem1 hX I (m := 0) (by omega) e1 0 (fun g1' g2' g3' g4' g5' g6' g7' g8' g9' g10' g11' g12' g13' g14' g15' g16' a1' a2' a3' a4' a5' a6' a7' a8' a9' a10' a11' a12' a13' a14' a15' a16' I1 => ?_))
  refine pk_le 3 1 (fun z => absurd z (by omega)) (fun _ => tp_i_rem1 hX I1 (m := 1) (by omega) e2 0 (fun g1'' g2'' g3'' g4'' g5'' g6'' g7'' g8'' g9'' g10'' g11'' g12'' g13'' g14'' g15'' g16'' a1'' a2'' a3'' a4'' a5'' a6'' a7'' a8'' a9'' a10'' a11'' a12'' a13'' a14'' a15'' a16'' I2 => ?_))
  refine pk_le 3 2 (fun z => absurd z (by omega)) (fun _ => tp_i_rem1 hX I2 (m := 2) (by omega) e3 0 (fun g1''' g2''' g3''' g4''' g5''' g6''' g7''' g8''' g9''' g10''' g11''' g12''' g13''' g14''' g15''' g16''' a1''' a2''' a3''' a4''' a5''' a6''' a7''' a8''' a9''' a10''' a11''' a12''' a13''' a14''' a15''' a16''' I3 => ?_))
  exact pk_le 3 3 (fun _ => K _ I3) (fun z => absurd z (by omega))
end
section
/-! deciding and hearing, over the invariant -/
theorem tp_i_64 {post : St1 → Prop} {t N pa tr td cc O : Nat} {B : Nat → Nat} {L0 : Nat → List tp_E} {b1 b7 : Nat → Int32} {H0 : Nat → Nat} {W0 : Nat → Nat → Bool} {G0 : Nat → Nat → Bool} {b10 : Nat → Int32} {st vo he se lo bk : Nat} {ha de : Bool} {ph : Nat → Nat} {q : List (Nat × Nat × Nat)} {c' : tp_C} {g1 g2 g3 g4 g5 g6 g7 g8 g9 g10 g11 g12 g13 g14 g15 g16 : Int32} {a1 a2 a3 a4 a5 a6 a7 a8 a9 a10 a11 a12 a13 a14 a15 a16 : Nat → Int32} (hX : tp_X t N pa tr td cc O B L0 b1 b7 H0 W0 G0 b10) (I : tp_I t N pa tr td cc O B L0 b1 b7 H0 W0 G0 b10 (st, vo, he, se, lo, bk, ha, de, ph, q) (g1, g2, g3, g4, g5, g6, g7, g8, g9, g10, g11, g12, g13, g14, g15, g16, a1, a2, a3, a4, a5, a6, a7, a8, a9, a10, a11, a12, a13, a14, a15, a16)) (e : (tp_cAside pa tr td (st, vo, he, se, lo, bk, ha, de, ph, q)).bind (fun c => tp_cRem pa tr c) = some c')
    (K : ∀ u', tp_I t N pa tr td cc O B L0 b1 b7 H0 W0 G0 b10 c' u' → post u') : wX_decideIfReady_64 post g1 g2 g3 g4 g5 g6 g7 g8 g9 g10 g11 g12 g13 g14 g15 g16 a1 a2 a3 a4 a5 a6 a7 a8 a9 a10 a11 a12 a13 a14 a15 a16 := by
  have hb := I.1
  obtain ⟨s1, s2, s3, s4, s5, s6, s7, s8, s9, s10, s11, s12, s15, s16⟩ := I.2.1
  have htr := hX.2.2.2.2.1
  have htd := hX.2.2.2.2.2.1
  rw [Option.bind_eq_some_iff] at e
  obtain ⟨c1, e1, e2⟩ := e
  unfold tp_cAside at e1
  dsimp only at e1
  have k125 : ∀ u1, tp_I t N pa tr td cc O B L0 b1 b7 H0 W0 G0 b10 c1 u1 → (match u1 with | (g1', g2', g3', g4', g5', g6', g7', g8', g9', g10', g11', g12', g13', g14', g15', g16', a1', a2', a3', a4', a5', a6', a7', a8', a9', a10', a11', a12', a13', a14', a15', a16') => wX_decideIfReady_125 post g1' g2' g3' g4' g5' g6' g7' g8' g9' g10' g11' g12' g13' g14' g15' g16' a1' a2' a3' a4' a5' a6' a7' a8' a9' a10' a11' a12' a13' a14' a15' a16') := by
    intro u1 I1
    obtain ⟨g1', g2', g3', g4', g5', g6', g7', g8', g9', g10', g11', g12', g13', g14', g15', g16', a1', a2', a3', a4', a5', a6', a7', a8', a9', a10', a11', a12', a13', a14', a15', a16'⟩ := u1
    exact tp_i_rem hX I1 e2 (fun u' h => K u' h)
  have no : ¬ (pa.testBit td = false ∧ (tr = 4 ∨ tr = 5) ∧ ha = false) → ∀ u1, tp_I t N pa tr td cc O B L0 b1 b7 H0 W0 G0 b10 (st, vo, he, se, lo, bk, ha, de, ph, q) u1 → (match u1 with | (g1', g2', g3', g4', g5', g6', g7', g8', g9', g10', g11', g12', g13', g14', g15', g16', a1', a2', a3', a4', a5', a6', a7', a8', a9', a10', a11', a12', a13', a14', a15', a16') => wX_decideIfReady_125 post g1' g2' g3' g4' g5' g6' g7' g8' g9' g10' g11' g12' g13' g14' g15' g16' a1' a2' a3' a4' a5' a6' a7' a8' a9' a10' a11' a12' a13' a14' a15' a16') := by
    intro nc u1 I1
    rw [if_neg nc] at e1
    have e1 := Option.some.inj e1
    subst e1
    exact k125 u1 I1
  have yes : pa.testBit td = false → (tr = 4 ∨ tr = 5) → wX_decideIfReady_91 post g1 g2 g3 g4 g5 g6 g7 g8 g9 g10 g11 g12 g13 g14 g15 g16 a1 a2 a3 a4 a5 a6 a7 a8 a9 a10 a11 a12 a13 a14 a15 a16 := by
    intro hp ht
    refine br_f (by decide) (tp_i_strikes hX I (w := tr) (m := td) htr htd s9 s10 (fun y u1 I1 => ?_) (fun y u1 I1 => ?_))
    · obtain ⟨g1', g2', g3', g4', g5', g6', g7', g8', g9', g10', g11', g12', g13', g14', g15', g16', a1', a2', a3', a4', a5', a6', a7', a8', a9', a10', a11', a12', a13', a14', a15', a16'⟩ := u1
      refine br_f (by decide) ?_
      rw [if_pos ⟨hp, ht, y.2.1⟩] at e1
      exact tp_i_down hX I1 htd I1.2.1.2.2.2.2.2.2.2.2.2.1 e1 (fun r u2 I2 => by
        have := k125 u2 I2
        obtain ⟨g1'', g2'', g3'', g4'', g5'', g6'', g7'', g8'', g9'', g10'', g11'', g12'', g13'', g14'', g15'', g16'', a1'', a2'', a3'', a4'', a5'', a6'', a7'', a8'', a9'', a10'', a11'', a12'', a13'', a14'', a15'', a16''⟩ := u2
        exact this)
    · have := no (fun w => y ⟨rfl, w.2.2, rfl⟩) u1 I1
      obtain ⟨g1', g2', g3', g4', g5', g6', g7', g8', g9', g10', g11', g12', g13', g14', g15', g16', a1', a2', a3', a4', a5', a6', a7', a8', a9', a10', a11', a12', a13', a14', a15', a16'⟩ := u1
      exact br_t rfl this
  refine tp_w_isPart (m := td) (by omega) s8 (fun z => br_t rfl (pk_eq tr 4 (fun y => yes z (Or.inl y)) (fun y => pk_eq tr 5 (fun w => yes z (Or.inr w)) (fun w => br_t rfl (no (by omega) _ I)) s9) s9)) (fun z => br_f (by decide) (br_t rfl (no (by simp [z]) _ I))) s10
theorem tp_i_dec {post : St1 → Prop} {t N pa tr td cc O : Nat} {B : Nat → Nat} {L0 : Nat → List tp_E} {b1 b7 : Nat → Int32} {H0 : Nat → Nat} {W0 : Nat → Nat → Bool} {G0 : Nat → Nat → Bool} {b10 : Nat → Int32} {c c' : tp_C} {u : St1} (hX : tp_X t N pa tr td cc O B L0 b1 b7 H0 W0 G0 b10) (I : tp_I t N pa tr td cc O B L0 b1 b7 H0 W0 G0 b10 c u) (e : tp_cDec pa tr td c = some c')
    (K : ∀ u', tp_I t N pa tr td cc O B L0 b1 b7 H0 W0 G0 b10 c' u' → post u') : wpX_decideIfReady post u := by
  obtain ⟨st, vo, he, se, lo, bk, ha, de, ph, q⟩ := c
  obtain ⟨g1, g2, g3, g4, g5, g6, g7, g8, g9, g10, g11, g12, g13, g14, g15, g16, a1, a2, a3, a4, a5, a6, a7, a8, a9, a10, a11, a12, a13, a14, a15, a16⟩ := u
  have hb := I.1
  obtain ⟨s1, s2, s3, s4, s5, s6, s7, s8, s9, s10, s11, s12, s15, s16⟩ := I.2.1
  have hpa := hX.2.2.2.1
  have htd := hX.2.2.2.2.2.1
  unfold tp_cDec at e
  dsimp only at e
  refine pk_eq vo pa (fun z => ?_) (fun z => ?_) s3 s8
  case refine_2 =>
    rw [if_neg z] at e
    have e := Option.some.inj e
    subst e
    exact K _ I
  rw [if_pos z] at e
  refine tp_i_strikes hX I (w := 2) (m := td) (by omega) htd rfl s10 (fun y u1 I1 => ?_) (fun y u1 I1 => ?_)
  · obtain ⟨g1', g2', g3', g4', g5', g6', g7', g8', g9', g10', g11', g12', g13', g14', g15', g16', a1', a2', a3', a4', a5', a6', a7', a8', a9', a10', a11', a12', a13', a14', a15', a16'⟩ := u1
    rw [if_pos ⟨y.1, y.2.1⟩] at e
    exact br_f (by decide) (tp_i_lead hX I1 e (fun r u2 I2 => K u2 I2))
  · obtain ⟨g1', g2', g3', g4', g5', g6', g7', g8', g9', g10', g11', g12', g13', g14', g15', g16', a1', a2', a3', a4', a5', a6', a7', a8', a9', a10', a11', a12', a13', a14', a15', a16'⟩ := u1
    rw [if_neg (fun w => y ⟨w.1, w.2, rfl⟩)] at e
    by_cases hde : de = true
    · rw [if_pos hde] at e
      exact absurd e (by simp)
    rw [if_neg hde] at e
    have hde : de = false := by simpa using hde
    subst hde
    obtain ⟨hb1, ⟨r1, r2, r3, r4, r5, r6, r7, r8, r9, r10, r11, r12, r15, r16⟩, hQ1, ⟨d1, d10, dL, d7, dD⟩⟩ := I1
    have hN := hX.2.2.1
    have hL3 : (tp_cL t N L0 W0 b10 false ph 3).length < 60 := by
      unfold tp_cL
      rw [if_pos rfl]
      simp
      have := (hX.2.2.2.2.2.2.2.2.2.2.2.2.2.1 3 (by omega)).1
      omega
    refine br_t rfl (tp_w_log dL (m := 3) (k := 5) (n := N) (y := 0) (by omega) hL3 (by omega) (by omega) (by omega) rfl r6 rfl (fun a2'' a3'' a4'' a5'' a6'' dL2 => ?_))
    have I2 : tp_I t N pa tr td cc O B L0 b1 b7 H0 W0 G0 b10 (2, vo, he, se, lo, bk, ha, true, ph, q) (g1', nI 2, g3', g4', g5', g6', g7', g8', g9', g10', g11', g12', g13', g14', g15', g16', a1', a2'', a3'', a4'', a5'', a6'', a7', a8', a9', a10', a11', a12', a13', a14', a15', a16') := by
      refine ⟨⟨by omega, by omega, hb.2.2⟩, ⟨r1, rfl, r3, r4, r5, r6, r7, r8, r9, r10, r11, r12, r15, r16⟩, hQ1, d1, d10, tp_LG_c dL2 (fun j hj => ?_), d7, dD⟩
      unfold tp_u tp_cL
      by_cases cj : j = 3
      · subst cj
        simp
      · simp [cj]
    rw [Option.bind_eq_some_iff] at e
    obtain ⟨c3, e3, e4⟩ := e
    refine tp_i_strikes hX I2 (w := 3) (m := td) (by omega) htd rfl r10 (fun y3 u3 I3 => ?_) (fun y3 u3 I3 => ?_)
    · obtain ⟨g1''', g2''', g3''', g4''', g5''', g6''', g7''', g8''', g9''', g10''', g11''', g12''', g13''', g14''', g15''', g16''', a1''', a2''', a3''', a4''', a5''', a6''', a7''', a8''', a9''', a10''', a11''', a12''', a13''', a14''', a15''', a16'''⟩ := u3
      rw [if_pos ⟨y3.1, y3.2.1⟩] at e3
      refine br_f (by decide) (tp_i_lead hX I3 e3 (fun r u4 I4 => ?_))
      obtain ⟨g1z, g2z, g3z, g4z, g5z, g6z, g7z, g8z, g9z, g10z, g11z, g12z, g13z, g14z, g15z, g16z, a1z, a2z, a3z, a4z, a5z, a6z, a7z, a8z, a9z, a10z, a11z, a12z, a13z, a14z, a15z, a16z⟩ := u4
      obtain ⟨zst, zvo, zhe, zse, zlo, zbk, zha, zde, zph, zq⟩ := c3
      exact tp_i_64 hX I4 e4 (fun u' h => K u' h)
    · obtain ⟨g1''', g2''', g3''', g4''', g5''', g6''', g7''', g8''', g9''', g10''', g11''', g12''', g13''', g14''', g15''', g16''', a1''', a2''', a3''', a4''', a5''', a6''', a7''', a8''', a9''', a10''', a11''', a12''', a13''', a14''', a15''', a16'''⟩ := u3
      rw [if_neg (fun w => y3 ⟨w.1, w.2, rfl⟩)] at e3
      have e3 := Option.some.inj e3
      subst e3
      exact br_t rfl (tp_i_64 hX I3 e4 (fun u' h => K u' h))
/-! a machine hears -/
theorem tp_wr_c {W W' : Nat → Bool} {b b' : Nat → Int32} {N m : Nat} : ∀ i, (∀ x, x < i → W (m + 3 * x) = W' (m + 3 * x) ∧ b (m + 3 * x) = b' (m + 3 * x)) → tp_wr W b N m i = tp_wr W' b' N m i := by
  intro i
  induction i with
  | zero => intro _; rfl
  | succ i ih =>
    intro h
    unfold tp_wr
    rw [ih (fun x hx => h x (by omega)), (h i (by omega)).1, (h i (by omega)).2]
theorem tp_i_prep {post : St1 → Prop} {t N pa tr td cc O : Nat} {B : Nat → Nat} {L0 : Nat → List tp_E} {b1 b7 : Nat → Int32} {H0 : Nat → Nat} {W0 : Nat → Nat → Bool} {G0 : Nat → Nat → Bool} {b10 : Nat → Int32} {c c' : tp_C} {u : St1} (hX : tp_X t N pa tr td cc O B L0 b1 b7 H0 W0 G0 b10) (I : tp_I t N pa tr td cc O B L0 b1 b7 H0 W0 G0 b10 c u) {m : Nat} (hm : m < 3) (e : tp_cPrep pa tr td m c = some c')
    (K : ∀ u', tp_I t N pa tr td cc O B L0 b1 b7 H0 W0 G0 b10 c' u' → post u') : wpX_hearPrepare post u (nI m) := by
  obtain ⟨st, vo, he, se, lo, bk, ha, de, ph, q⟩ := c
  obtain ⟨g1, g2, g3, g4, g5, g6, g7, g8, g9, g10, g11, g12, g13, g14, g15, g16, a1, a2, a3, a4, a5, a6, a7, a8, a9, a10, a11, a12, a13, a14, a15, a16⟩ := u
  unfold tp_cPrep at e
  dsimp only at e
  refine tp_i_strikes hX I (w := 1) (m := m) (by omega) hm rfl rfl (fun y u1 I1 => ?_) (fun y u1 I1 => ?_)
  · obtain ⟨g1', g2', g3', g4', g5', g6', g7', g8', g9', g10', g11', g12', g13', g14', g15', g16', a1', a2', a3', a4', a5', a6', a7', a8', a9', a10', a11', a12', a13', a14', a15', a16'⟩ := u1
    rw [if_pos y] at e
    exact br_f (by decide) (tp_i_down hX I1 hm rfl e (fun r u2 I2 => K u2 I2))
  · obtain ⟨g1', g2', g3', g4', g5', g6', g7', g8', g9', g10', g11', g12', g13', g14', g15', g16', a1', a2', a3', a4', a5', a6', a7', a8', a9', a10', a11', a12', a13', a14', a15', a16'⟩ := u1
    rw [if_neg y] at e
    obtain ⟨f1, f2, f3, f4⟩ := tp_P_at hX I1 hm
    refine br_t rfl (nm_e ⟨f2, ek_if f4 (fun z => ⟨f2, ek_if f3 (fun w => ?_) (fun w => ?_)⟩) (fun z => ?_)⟩)
    · rw [if_neg (by omega)] at e
      by_cases p0 : ph m = 0
      · omega
      · rw [if_neg p0] at e
        by_cases p1 : ph m = 1
        · rw [if_pos p1] at e
          exact tp_i_send hX I1 (k := 2) (f := m) (o := 3) (by omega) (by omega) (by omega) e rfl rfl rfl (fun u' h => K u' h)
        · rw [if_neg p1] at e
          exact absurd e (by simp)
    · rw [if_neg (by omega)] at e
      by_cases p0 : ph m = 0
      · rw [if_pos p0] at e
        obtain ⟨hb1, ⟨r1, r2, r3, r4, r5, r6, r7, r8, r9, r10, r11, r12, r15, r16⟩, hQ1, ⟨d1, d10, dL, d7, dD⟩⟩ := I1
        have hX' := hX
        obtain ⟨ht, hN1, hN, hpa, htr, htd, hO, hOt, hparts, _, hH, hW, hSet, hL, hG⟩ := hX
        have eL : tp_cL t N L0 W0 b10 de ph m = L0 m := by
          rw [tp_cL_m hm, p0]
          exact List.append_nil _
        refine tp_w_promiseOn dD dL ht hm (by omega) r6 r7 (by rw [eL]; have := (hL m (by omega)).1; omega) (fun a2'' a3'' a4'' a5'' a6'' a11'' dL2 dD2 => ?_)
        have ew : tp_wr (tp_cW t B W0 bk ph t) (fun k => a10' (t * 12 + k)) N m 4 = tp_wr (W0 t) (fun k => b10 (t * 12 + k)) N m 4 := by
          refine tp_wr_c 4 (fun x hx => ⟨?_, by rw [d10]⟩)
          unfold tp_cW
          rw [if_pos rfl, show (m + 3 * x) % 3 = m by omega, p0]
          simp
        rw [eL, ew] at dL2
        have I2 : tp_I t N pa tr td cc O B L0 b1 b7 H0 W0 G0 b10 (st, vo, he, se, lo, bk, ha, de, tp_up ph m 1, q) (g1', g2', g3', g4', g5', nI N, nI t, g8', g9', g10', g11', g12', g13', g14', g15', g16', a1', a2'', a3'', a4'', a5'', a6'', a7', a8', a9', a10', a11'', a12', a13', a14', a15', a16') := by
          refine ⟨hb1, ⟨r1, r2, r3, r4, r5, rfl, rfl, r8, r9, r10, r11, r12, r15, r16⟩, hQ1, d1, d10, tp_LG_c dL2 (fun j hj => ?_), fun k hk => ?_, tp_D_c dD2 (fun k hk => ?_) (fun j hj k hk => ?_) (fun j hj x hx => ?_) (fun j hj x hx => ?_)⟩
          · unfold tp_u
            by_cases cj : j = m
            · rw [if_pos cj, cj, tp_cL_m hm, tp_up_s]
              rfl
            · rw [if_neg cj]
              unfold tp_cL
              rw [tp_up_n cj]
          · rw [tp_c7_up (by omega) (by omega)]
            exact d7 k hk
          · unfold tp_cH
            by_cases cm : k % 3 = m
            · rw [cm, tp_up_s, p0]
              simp
            · rw [tp_up_n cm]
          · unfold tp_cW
            by_cases cm : k % 3 = m
            · rw [cm, tp_up_s, p0]
              simp
            · rw [tp_up_n cm]
          · unfold tp_cP tp_pP
            by_cases cm : x = m
            · rw [cm, tp_up_s]
              by_cases cj : j = t
              · simp [cj]
              · simp [cj]
            · rw [tp_up_n cm]
              simp [cm]
          · unfold tp_cG
            by_cases cm : x = m
            · rw [cm, tp_up_s, p0]
              simp
            · rw [tp_up_n cm]
        exact tp_i_send hX' I2 (k := 2) (f := m) (o := 3) (by omega) (by omega) (by omega) e rfl rfl rfl (fun u' h => K u' h)
      · rw [if_neg p0, if_neg (by omega)] at e
        exact absurd e (by simp)
    · by_cases p3 : ph m = 3
      · rw [if_pos p3] at e
        exact tp_i_send hX I1 (k := 3) (f := m) (o := 3) (by omega) (by omega) (by omega) e rfl rfl rfl (fun u' h => K u' h)
      · rw [if_neg p3, if_neg (by omega), if_neg (by omega)] at e
        exact absurd e (by simp)
/-- pure: a machine's pictures after a release, when nothing or everything of t is released there -/
theorem tp_p_rel {t N : Nat} {B : Nat → Nat} {H0 : Nat → Nat} {W0 G0 : Nat → Nat → Bool} {ph : Nat → Nat} {bk m v : Nat} (hm : m < 3) (ht : t < 3) (hv : v = 2 ∨ v = 3 ∨ v = 5 ∨ v = 6) (hg : (v = 3 ∨ v = 6) ↔ (ph m = 3 ∨ ph m = 4 ∨ ph m = 6)) {a8 a9 a11 a12 : Nat → Int32}
    (D : tp_D (tp_rH t m 4 (tp_cH t B H0 W0 bk ph)) (tp_rW t m 4 (tp_cW t B W0 bk ph)) (tp_rP t m (tp_cP t N ph)) (tp_cG t G0 ph) a8 a9 a11 a12) : tp_D (tp_cH t B H0 W0 bk (tp_up ph m v)) (tp_cW t B W0 bk (tp_up ph m v)) (tp_cP t N (tp_up ph m v)) (tp_cG t G0 (tp_up ph m v)) a8 a9 a11 a12 := by
  refine tp_D_c D (fun k hk => ?_) (fun j hj k hk => ?_) (fun j hj x hx => ?_) (fun j hj x hx => ?_)
  · unfold tp_rH
    by_cases c : H0 k = t + 1
    · by_cases cm : k % 3 = m
      · rw [tp_cH_t c, tp_cH_t c, cm, tp_up_s, if_neg (by omega)]
        by_cases c2 : ph m = 0 ∨ ph m = 1 ∨ (ph m = 4 ∧ W0 t k = true)
        · rw [if_pos c2, if_pos ⟨rfl, by omega, rfl⟩]
        · rw [if_neg c2]
          split <;> rfl
      · rw [if_neg (fun z => cm z.1), tp_cH_t c, tp_cH_t c, tp_up_n cm]
    · rw [if_neg (fun z => ?_), tp_cH_o c, tp_cH_o c]
      rw [tp_cH_o c] at z
      have := z.2.2
      split at this
      · omega
      · exact c this
  · unfold tp_rW tp_cW
    by_cases c : j = t
    · subst c
      by_cases cm : k % 3 = m
      · rw [cm, tp_up_s, if_pos (show j = j ∧ m = m ∧ k < m + 3 * 4 from ⟨rfl, rfl, by omega⟩), if_pos rfl, decide_eq_false (by omega), Bool.and_false]
      · rw [tp_up_n cm]
        simp [cm]
    · simp [c]
  · unfold tp_rP tp_cP
    by_cases c : j = t
    · subst c
      by_cases cm : x = m
      · subst cm
        rw [tp_up_s, if_neg (show ¬ (j = j ∧ (v = 1 ∨ v = 4)) by omega), if_pos ⟨rfl, rfl⟩]
      · rw [tp_up_n cm]
        simp [cm]
    · simp [c]
  · unfold tp_cG
    by_cases c : j = t
    · rw [if_pos c, if_pos c]
      by_cases cm : x = m
      · rw [cm, tp_up_s]
        apply decide_eq_decide.mpr
        rw [← hg]
        omega
      · rw [tp_up_n cm]
    · rw [if_neg c, if_neg c]
theorem tp_up_id {f : Nat → Nat} {m v : Nat} (h : f m = v) : tp_up f m v = f := by
  funext j
  by_cases c : j = m
  · rw [c, tp_up_s, h]
  · rw [tp_up_n c]
theorem tp_i_ref {post : St1 → Prop} {t N pa tr td cc O : Nat} {B : Nat → Nat} {L0 : Nat → List tp_E} {b1 b7 : Nat → Int32} {H0 : Nat → Nat} {W0 : Nat → Nat → Bool} {G0 : Nat → Nat → Bool} {b10 : Nat → Int32} {c c' : tp_C} {u : St1} (hX : tp_X t N pa tr td cc O B L0 b1 b7 H0 W0 G0 b10) (I : tp_I t N pa tr td cc O B L0 b1 b7 H0 W0 G0 b10 c u) {m : Nat} (hm : m < 3) (e : tp_cRef tr m c = some c')
    (K : ∀ u', tp_I t N pa tr td cc O B L0 b1 b7 H0 W0 G0 b10 c' u' → post u') : wpX_hearRefuse post u (nI m) := by
  obtain ⟨st, vo, he, se, lo, bk, ha, de, ph, q⟩ := c
  obtain ⟨g1, g2, g3, g4, g5, g6, g7, g8, g9, g10, g11, g12, g13, g14, g15, g16, a1, a2, a3, a4, a5, a6, a7, a8, a9, a10, a11, a12, a13, a14, a15, a16⟩ := u
  unfold tp_cRef at e
  dsimp only at e
  obtain ⟨f1, f2, f3, f4⟩ := tp_P_at hX I hm
  obtain ⟨hb, ⟨s1, s2, s3, s4, s5, s6, s7, s8, s9, s10, s11, s12, s15, s16⟩, hQ, ⟨d1, d10, dL, d7, dD⟩⟩ := I
  have hX' := hX
  obtain ⟨ht, hN1, hN, hpa, htr, htd, hO, hOt, hparts, _, hH, hW, hSet, hL, hG⟩ := hX
  have c32 : ∀ v, (v = 3 ∨ v = 5) → (v = 3 ↔ (ph m = 3 ∨ ph m = 4 ∨ ph m = 6)) → tp_cSend tr 6 m 3 (st, vo, he, se, lo, bk, ha, de, tp_up ph m v, q) = some c' → (¬ (ph m = 2 ∨ ph m = 6)) → ∀ a2' a3' a4' a5' a6', tp_LG (tp_cL t N L0 W0 b10 de (tp_up ph m v)) a2' a3' a4' a5' a6' → wX_hearRefuse_32 post (nI m) g1 g2 g3 g4 g5 g6 g7 g8 g9 g10 g11 g12 g13 g14 g15 g16 a1 a2' a3' a4' a5' a6' a7 a8 a9 a10 a11 a12 a13 a14 a15 a16 := by
    intro v hv hg e' np a2' a3' a4' a5' a6' dL'
    subst s7
    refine tp_w_releaseOn dD (t := t) (m := m) (by omega) hm (fun a8' a9' a11' D' => ?_)
    have D2 := tp_p_rel (v := v) hm ht (by omega) (by omega) D'
    have I2 : tp_I t N pa tr td cc O B L0 b1 b7 H0 W0 G0 b10 (st, vo, he, se, lo, bk, ha, de, tp_up ph m v, q) (g1, g2, g3, g4, g5, g6, nI t, g8, g9, g10, g11, g12, g13, g14, g15, g16, a1, a2', a3', a4', a5', a6', a7, a8', a9', a10, a11', a12, a13, a14, a15, a16) := ⟨hb, ⟨s1, s2, s3, s4, s5, s6, rfl, s8, s9, s10, s11, s12, s15, s16⟩, hQ, d1, d10, dL', fun k hk => by rw [tp_c7_up np (by omega)]; exact d7 k hk, D2⟩
    exact tp_i_send hX' I2 (k := 6) (f := m) (o := 3) (by omega) (by omega) (by omega) e' rfl rfl rfl (fun u' h => K u' h)
  refine ⟨f2, ek_if f3 (fun z => ?_) (fun z => ?_)⟩
  · by_cases p1 : ph m = 1
    · rw [if_pos p1] at e
      have hl : (tp_cL t N L0 W0 b10 de ph m).length < 60 := by
        rw [tp_cL_m hm, p1]
        have := (hL m (by omega)).1
        have := tp_wr_len (W := W0 t) (b := fun k => b10 (t * 12 + k)) (N := N) (m := m) 4
        simp [tp_ext]
        omega
      refine tp_w_log dL (m := m) (k := 4) (n := N) (y := 0) (by omega) hl (by omega) (by omega) (by omega) rfl s6 rfl (fun a2' a3' a4' a5' a6' dL2 => c32 5 (by omega) (by omega) e (by omega) _ _ _ _ _ (tp_LG_c dL2 (fun j hj => ?_)))
      unfold tp_u
      by_cases cj : j = m
      · rw [if_pos cj, cj, tp_cL_m hm, tp_cL_m hm, tp_up_s, p1]
        simp [tp_ext]
      · rw [if_neg cj]
        unfold tp_cL
        rw [tp_up_n cj]
    · rw [if_neg p1, if_neg (by omega)] at e
      exact absurd e (by simp)
  · rw [if_neg (by omega)] at e
    by_cases p3 : ph m = 3 ∨ ph m = 5
    · rw [if_pos p3] at e
      have eu : tp_up ph m (ph m) = ph := tp_up_id rfl
      exact c32 (ph m) (by omega) (by omega) (by rw [eu]; exact e) (by omega) _ _ _ _ _ (by rw [eu]; exact dL)
    · rw [if_neg p3] at e
      exact absurd e (by simp)
theorem tp_i_com2 {post : St1 → Prop} {t N pa tr td cc O : Nat} {B : Nat → Nat} {L0 : Nat → List tp_E} {b1 b7 : Nat → Int32} {H0 : Nat → Nat} {W0 : Nat → Nat → Bool} {G0 : Nat → Nat → Bool} {b10 : Nat → Int32} {st vo he se lo bk : Nat} {ha de : Bool} {ph : Nat → Nat} {q : List (Nat × Nat × Nat)} {c' : tp_C} {g1 g2 g3 g4 g5 g6 g7 g8 g9 g10 g11 g12 g13 g14 g15 g16 : Int32} {a1 a2 a3 a4 a5 a6 a7 a8 a9 a10 a11 a12 a13 a14 a15 a16 : Nat → Int32} (hX : tp_X t N pa tr td cc O B L0 b1 b7 H0 W0 G0 b10) (I : tp_I t N pa tr td cc O B L0 b1 b7 H0 W0 G0 b10 (st, vo, he, se, lo, bk, ha, de, ph, q) (g1, g2, g3, g4, g5, g6, g7, g8, g9, g10, g11, g12, g13, g14, g15, g16, a1, a2, a3, a4, a5, a6, a7, a8, a9, a10, a11, a12, a13, a14, a15, a16)) {m : Nat} (hm : m < 3) (e : tp_cCom2 pa tr td m (st, vo, he, se, lo, bk, ha, de, ph, q) = some c')
    (K : ∀ u', tp_I t N pa tr td cc O B L0 b1 b7 H0 W0 G0 b10 c' u' → post u') : wX_hearCommit_66 post (nI m) g1 g2 g3 g4 g5 g6 g7 g8 g9 g10 g11 g12 g13 g14 g15 g16 a1 a2 a3 a4 a5 a6 a7 a8 a9 a10 a11 a12 a13 a14 a15 a16 := by
  unfold tp_cCom2 at e
  dsimp only at e
  refine tp_i_strikes hX I (w := 5) (m := m) (by omega) hm rfl rfl (fun y u1 I1 => ?_) (fun y u1 I1 => ?_)
  · obtain ⟨g1', g2', g3', g4', g5', g6', g7', g8', g9', g10', g11', g12', g13', g14', g15', g16', a1', a2', a3', a4', a5', a6', a7', a8', a9', a10', a11', a12', a13', a14', a15', a16'⟩ := u1
    rw [if_pos y] at e
    exact br_f (by decide) (tp_i_down hX I1 hm rfl e (fun r u2 I2 => K u2 I2))
  · obtain ⟨g1', g2', g3', g4', g5', g6', g7', g8', g9', g10', g11', g12', g13', g14', g15', g16', a1', a2', a3', a4', a5', a6', a7', a8', a9', a10', a11', a12', a13', a14', a15', a16'⟩ := u1
    rw [if_neg y] at e
    exact br_t rfl (tp_i_send hX I1 (k := 6) (f := m) (o := 3) (by omega) (by omega) (by omega) e rfl rfl rfl (fun u' h => K u' h))
theorem tp_i_com1 {post : St1 → Prop} {t N pa tr td cc O : Nat} {B : Nat → Nat} {L0 : Nat → List tp_E} {b1 b7 : Nat → Int32} {H0 : Nat → Nat} {W0 : Nat → Nat → Bool} {G0 : Nat → Nat → Bool} {b10 : Nat → Int32} {st vo he se lo bk : Nat} {ha de : Bool} {ph : Nat → Nat} {q : List (Nat × Nat × Nat)} {g1 g2 g3 g4 g5 g6 g7 g8 g9 g10 g11 g12 g13 g14 g15 g16 : Int32} {a1 a2 a3 a4 a5 a6 a7 a8 a9 a10 a11 a12 a13 a14 a15 a16 : Nat → Int32} (hX : tp_X t N pa tr td cc O B L0 b1 b7 H0 W0 G0 b10) (I : tp_I t N pa tr td cc O B L0 b1 b7 H0 W0 G0 b10 (st, vo, he, se, lo, bk, ha, de, ph, q) (g1, g2, g3, g4, g5, g6, g7, g8, g9, g10, g11, g12, g13, g14, g15, g16, a1, a2, a3, a4, a5, a6, a7, a8, a9, a10, a11, a12, a13, a14, a15, a16)) {m v : Nat} (hm : m < 3) (hv : (ph m = 1 ∧ v = 2) ∨ (ph m = 4 ∧ v = 6))
    (K : ∀ u', tp_I t N pa tr td cc O B L0 b1 b7 H0 W0 G0 b10 (st, vo, he, se, lo, bk, ha, de, tp_up ph m v, q) u' → match u' with | (g1x, g2x, g3x, g4x, g5x, g6x, g7x, g8x, g9x, g10x, g11x, g12x, g13x, g14x, g15x, g16x, a1x, a2x, a3x, a4x, a5x, a6x, a7x, a8x, a9x, a10x, a11x, a12x, a13x, a14x, a15x, a16x) => wX_hearCommit_66 post (nI m) g1x g2x g3x g4x g5x g6x g7x g8x g9x g10x g11x g12x g13x g14x g15x g16x a1x a2x a3x a4x a5x a6x a7x a8x a9x a10x a11x a12x a13x a14x a15x a16x) :
    wpX_log (fun u => match u with | (g1x, g2x, g3x, g4x, g5x, g6x, g7x, g8x, g9x, g10x, g11x, g12x, g13x, g14x, g15x, g16x, a1x, a2x, a3x, a4x, a5x, a6x, a7x, a8x, a9x, a10x, a11x, a12x, a13x, a14x, a15x, a16x) => wpX_applyLogged (fun u => match u with | (g1y, g2y, g3y, g4y, g5y, g6y, g7y, g8y, g9y, g10y, g11y, g12y, g13y, g14y, g15y, g16y, a1y, a2y, a3y, a4y, a5y, a6y, a7y, a8y, a9y, a10y, a11y, a12y, a13y, a14y, a15y, a16y) => wpX_releaseOn (fun u => match u with | (g1z, g2z, g3z, g4z, g5z, g6z, g7z, g8z, g9z, g10z, g11z, g12z, g13z, g14z, g15z, g16z, a1z, a2z, a3z, a4z, a5z, a6z, a7z, a8z, a9z, a10z, a11z, a12z, a13z, a14z, a15z, a16z) => wX_hearCommit_66 post (nI m) g1z g2z g3z g4z g5z g6z g7z g8z g9z g10z g11z g12z g13z g14z g15z g16z a1z a2z a3z a4z a5z a6z a7z a8z a9z a10z a11z a12z a13z a14z a15z a16z) (g1y, g2y, g3y, g4y, g5y, g6y, g7y, g8y, g9y, g10y, g11y, g12y, g13y, g14y, g15y, g16y, a1y, a2y, a3y, a4y, a5y, a6y, a7y, a8y, a9y, a10y, a11y, a12y, a13y, a14y, a15y, a16y) g7y (nI m)) (g1x, g2x, g3x, g4x, g5x, g6x, g7x, g8x, g9x, g10x, g11x, g12x, g13x, g14x, g15x, g16x, a1x, a2x, a3x, a4x, a5x, a6x, a7x, a8x, a9x, a10x, a11x, a12x, a13x, a14x, a15x, a16x) (nI m) g6x) (g1, g2, g3, g4, g5, g6, g7, g8, g9, g10, g11, g12, g13, g14, g15, g16, a1, a2, a3, a4, a5, a6, a7, a8, a9, a10, a11, a12, a13, a14, a15, a16) (nI m) 3 g6 0 0 := by
  have hX' := hX
  obtain ⟨ht, hN1, hN, hpa, htr, htd, hO, hOt, hparts, _, hH, hW, hSet, hL, hG⟩ := hX
  obtain ⟨hb, ⟨s1, s2, s3, s4, s5, s6, s7, s8, s9, s10, s11, s12, s15, s16⟩, hQ, ⟨d1, d10, dL, d7, dD⟩⟩ := I
  have z : ph m = 1 ∨ ph m = 4 := by omega
  have hl : (tp_cL t N L0 W0 b10 de ph m).length < 60 := by
    rw [tp_cL_m hm]
    have := (hL m (by omega)).1
    have := tp_wr_len (W := W0 t) (b := fun k => b10 (t * 12 + k)) (N := N) (m := m) 4
    unfold tp_ext
    rw [if_pos z]
    simp
    omega
  subst s7
  refine tp_w_log dL (m := m) (k := 3) (n := N) (y := 0) (by omega) hl (by omega) (by omega) (by omega) rfl s6 rfl (fun a2' a3' a4' a5' a6' dL2 => ?_)
  have dL3 : tp_LG (tp_cL t N L0 W0 b10 de (tp_up ph m v)) a2' a3' a4' a5' a6' := by
    refine tp_LG_c dL2 (fun j hj => ?_)
    unfold tp_u
    by_cases cj : j = m
    · rw [if_pos cj, cj, tp_cL_m hm, tp_cL_m hm, tp_up_s]
      unfold tp_ext
      rw [if_pos z, if_neg (by omega), if_pos (by omega)]
      simp
    · rw [if_neg cj]
      unfold tp_cL
      rw [tp_up_n cj]
  have e7 : ∀ k, k < 12 → tp_ap N (tp_cL t N L0 W0 b10 de (tp_up ph m v) m) a7 k = tp_c7 t b7 W0 b10 (tp_up ph m v) k := by
    intro k hk
    rw [tp_cL_m hm, tp_up_s, tp_ap_app, tp_ap_none (L0 m) _ (fun e he c => by have := (hL m (by omega)).2 e he; omega)]
    have ee : tp_ext N (tp_wr (W0 t) (fun k => b10 (t * 12 + k)) N m 4) v = tp_wr (W0 t) (fun k => b10 (t * 12 + k)) N m 4 ++ [(2, N, 0, 0), (3, N, 0, 0)] := by
      unfold tp_ext
      rw [if_neg (by omega), if_pos (by omega)]
    rw [ee, tp_ap_app, tp_ap_none [(2, N, 0, 0), (3, N, 0, 0)] _ (by simp), tp_ap_wr hm, d7 k hk]
    unfold tp_c7
    by_cases cm : k % 3 = m
    · rw [cm, tp_up_s]
      by_cases cw : W0 t k = true
      · rw [if_pos ⟨rfl, by omega, cw⟩, if_pos ⟨by omega, cw⟩]
      · rw [if_neg (fun y => cw y.2.2), if_neg (fun y => cw y.2), if_neg (fun y => cw y.2)]
    · rw [if_neg (fun y => cm y.1), tp_up_n cm]
  refine tp_w_applyLogged dL3 (m := m) (n := N) (by omega) (by omega) s6 ?_
  refine tp_w_releaseOn dD (t := t) (m := m) (by omega) hm (fun a8' a9' a11' D' => ?_)
  have D2 := tp_p_rel (v := v) hm ht (by omega) (by omega) D'
  exact K (g1, g2, g3, g4, g5, g6, nI t, g8, g9, g10, g11, g12, g13, g14, g15, g16, a1, a2', a3', a4', a5', a6', tp_ap N (tp_cL t N L0 W0 b10 de (tp_up ph m v) m) a7, a8', a9', a10, a11', a12, a13, a14, a15, a16) ⟨hb, ⟨s1, s2, s3, s4, s5, s6, rfl, s8, s9, s10, s11, s12, s15, s16⟩, hQ, d1, d10, dL3, e7, D2⟩
theorem tp_i_com {post : St1 → Prop} {t N pa tr td cc O : Nat} {B : Nat → Nat} {L0 : Nat → List tp_E} {b1 b7 : Nat → Int32} {H0 : Nat → Nat} {W0 : Nat → Nat → Bool} {G0 : Nat → Nat → Bool} {b10 : Nat → Int32} {c c' : tp_C} {u : St1} (hX : tp_X t N pa tr td cc O B L0 b1 b7 H0 W0 G0 b10) (I : tp_I t N pa tr td cc O B L0 b1 b7 H0 W0 G0 b10 c u) {m : Nat} (hm : m < 3) (e : tp_cCom pa tr td m c = some c')
    (K : ∀ u', tp_I t N pa tr td cc O B L0 b1 b7 H0 W0 G0 b10 c' u' → post u') : wpX_hearCommit post u (nI m) := by
  obtain ⟨st, vo, he, se, lo, bk, ha, de, ph, q⟩ := c
  obtain ⟨g1, g2, g3, g4, g5, g6, g7, g8, g9, g10, g11, g12, g13, g14, g15, g16, a1, a2, a3, a4, a5, a6, a7, a8, a9, a10, a11, a12, a13, a14, a15, a16⟩ := u
  unfold tp_cCom at e
  dsimp only at e
  refine tp_i_strikes hX I (w := 4) (m := m) (by omega) hm rfl rfl (fun y u1 I1 => ?_) (fun y u1 I1 => ?_)
  · obtain ⟨g1', g2', g3', g4', g5', g6', g7', g8', g9', g10', g11', g12', g13', g14', g15', g16', a1', a2', a3', a4', a5', a6', a7', a8', a9', a10', a11', a12', a13', a14', a15', a16'⟩ := u1
    rw [if_pos y] at e
    exact br_f (by decide) (tp_i_down hX I1 hm rfl e (fun r u2 I2 => K u2 I2))
  · obtain ⟨g1', g2', g3', g4', g5', g6', g7', g8', g9', g10', g11', g12', g13', g14', g15', g16', a1', a2', a3', a4', a5', a6', a7', a8', a9', a10', a11', a12', a13', a14', a15', a16'⟩ := u1
    rw [if_neg y] at e
    obtain ⟨f1, f2, f3, f4⟩ := tp_P_at hX I1 hm
    refine br_t rfl ⟨f2, ek_if f3 (fun z => ?_) (fun z => ?_)⟩
    · by_cases p1 : ph m = 1
      · rw [if_pos p1] at e
        exact tp_i_com1 hX I1 (v := 2) hm (by omega) (fun u2 I2 => by
          obtain ⟨g1x, g2x, g3x, g4x, g5x, g6x, g7x, g8x, g9x, g10x, g11x, g12x, g13x, g14x, g15x, g16x, a1x, a2x, a3x, a4x, a5x, a6x, a7x, a8x, a9x, a10x, a11x, a12x, a13x, a14x, a15x, a16x⟩ := u2
          exact tp_i_com2 hX I2 hm e K)
      · rw [if_neg p1, if_pos (by omega)] at e
        exact tp_i_com1 hX I1 (v := 6) hm (by omega) (fun u2 I2 => by
          obtain ⟨g1x, g2x, g3x, g4x, g5x, g6x, g7x, g8x, g9x, g10x, g11x, g12x, g13x, g14x, g15x, g16x, a1x, a2x, a3x, a4x, a5x, a6x, a7x, a8x, a9x, a10x, a11x, a12x, a13x, a14x, a15x, a16x⟩ := u2
          exact tp_i_com2 hX I2 hm e K)
    · rw [if_neg (by omega), if_neg (by omega)] at e
      by_cases p2 : ph m = 2 ∨ ph m = 6
      · rw [if_pos p2] at e
        exact tp_i_com2 hX I1 hm e K
      · rw [if_neg p2] at e
        exact absurd e (by simp)
end
section
/-! the leader hears, delivering, the rounds of a commit -/
theorem tp_i_mach {post : St1 → Prop} {t N pa tr td cc O : Nat} {B : Nat → Nat} {L0 : Nat → List tp_E} {b1 b7 : Nat → Int32} {H0 : Nat → Nat} {W0 : Nat → Nat → Bool} {G0 : Nat → Nat → Bool} {b10 : Nat → Int32} {c c' : tp_C} {u : St1} (hX : tp_X t N pa tr td cc O B L0 b1 b7 H0 W0 G0 b10) (I : tp_I t N pa tr td cc O B L0 b1 b7 H0 W0 G0 b10 c u) {k m : Nat} (hk : k < 8) (hm : m < 3) (e : tp_cMach pa tr td k m c = some c') {p0 p1 : Int32} (x0 : p0 = nI k) (x1 : p1 = nI m)
    (K : ∀ u', tp_I t N pa tr td cc O B L0 b1 b7 H0 W0 G0 b10 c' u' → post u') : wpX_hearAsMachine post u p0 p1 := by
  subst x0 x1
  obtain ⟨g1, g2, g3, g4, g5, g6, g7, g8, g9, g10, g11, g12, g13, g14, g15, g16, a1, a2, a3, a4, a5, a6, a7, a8, a9, a10, a11, a12, a13, a14, a15, a16⟩ := u
  unfold tp_cMach at e
  refine pk_eq k 1 (fun z => ?_) (fun z => pk_eq k 4 (fun y => ?_) (fun y => ?_))
  · rw [if_pos z] at e
    exact tp_i_prep hX I hm e (fun u' h => K u' h)
  · rw [if_neg z, if_pos y] at e
    exact tp_i_com hX I hm e (fun u' h => K u' h)
  · rw [if_neg z, if_neg y] at e
    exact tp_i_ref hX I hm e (fun u' h => K u' h)
theorem tp_i_ldr {post : St1 → Prop} {t N pa tr td cc O : Nat} {B : Nat → Nat} {L0 : Nat → List tp_E} {b1 b7 : Nat → Int32} {H0 : Nat → Nat} {W0 : Nat → Nat → Bool} {G0 : Nat → Nat → Bool} {b10 : Nat → Int32} {c c' : tp_C} {u : St1} (hX : tp_X t N pa tr td cc O B L0 b1 b7 H0 W0 G0 b10) (I : tp_I t N pa tr td cc O B L0 b1 b7 H0 W0 G0 b10 c u) {k f : Nat} (hk : k < 8) (hf : f < 3) (e : tp_cLdr pa tr td k f c = some c') {p0 p1 : Int32} (x0 : p0 = nI k) (x1 : p1 = nI f)
    (K : ∀ u', tp_I t N pa tr td cc O B L0 b1 b7 H0 W0 G0 b10 c' u' → post u') : wpX_hearAsLeader post u p0 p1 := by
  subst x0 x1
  obtain ⟨st, vo, he, se, lo, bk, ha, de, ph, q⟩ := c
  obtain ⟨g1, g2, g3, g4, g5, g6, g7, g8, g9, g10, g11, g12, g13, g14, g15, g16, a1, a2, a3, a4, a5, a6, a7, a8, a9, a10, a11, a12, a13, a14, a15, a16⟩ := u
  unfold tp_cLdr at e
  dsimp only at e
  have I0 := I
  obtain ⟨hb, ⟨s1, s2, s3, s4, s5, s6, s7, s8, s9, s10, s11, s12, s15, s16⟩, hQ, hD⟩ := I
  have hN := hX.2.2.1
  have c90 : ¬ (k = 2 ∧ st = 1) → ¬ (k = 3 ∧ st = 1) → ¬ (k = 6 ∧ (st = 2 ∨ st = 3)) → wX_hearAsLeader_90 post (nI k) (nI f) g1 g2 g3 g4 g5 g6 g7 g8 g9 g10 g11 g12 g13 g14 g15 g16 a1 a2 a3 a4 a5 a6 a7 a8 a9 a10 a11 a12 a13 a14 a15 a16 := by
    intro n1 n2 n3
    rw [if_neg n1, if_neg n2, if_neg n3] at e
    refine pk_eq k 7 (fun z => ?_) (fun z => ?_)
    · rw [if_pos z] at e
      obtain ⟨l1, l2⟩ := tp_dlog hX (de := de) (ph := ph)
      refine tp_w_isLogged hD.2.2.1 (m := 3) (k := 5) (n := N) (by omega) (by omega) (by omega) rfl rfl s6 (fun w => ?_) (fun w => ?_)
      · cases de
        · exact br_t rfl (tp_i_send hX I0 (k := 5) (f := 3) (o := f) (by omega) (by omega) (by omega) e rfl rfl rfl (fun u' h => K u' h))
        · obtain ⟨x, y1, y2, y3⟩ := l1 rfl
          exact absurd ⟨y2, y3⟩ (w x y1)
      · cases de
        · obtain ⟨x, y1, y2, y3⟩ := w
          exact absurd ⟨y2, y3⟩ (l2 rfl x y1)
        · exact br_f (by decide) (tp_i_send hX I0 (k := 4) (f := 3) (o := f) (by omega) (by omega) (by omega) e rfl rfl rfl (fun u' h => K u' h))
    · rw [if_neg z] at e
      have e := Option.some.inj e
      subst e
      exact K _ I0
  have c75 : k = 6 → (st = 2 ∨ st = 3) → wX_hearAsLeader_75 post (nI f) g1 g2 g3 g4 g5 g6 g7 g8 g9 g10 g11 g12 g13 g14 g15 g16 a1 a2 a3 a4 a5 a6 a7 a8 a9 a10 a11 a12 a13 a14 a15 a16 := by
    intro y1 y2
    rw [if_neg (by omega), if_neg (by omega), if_pos ⟨y1, y2⟩] at e
    have e := Option.some.inj e
    subst e
    obtain ⟨q1, q2, _⟩ := tp_set8 he hb.2.2.2.1 f hf
    refine nm_r (e' := nI (he ||| 2 ^ f)) (by rw [s4]; exact q1) (K _ ?_)
    exact ⟨⟨hb.1, hb.2.1, hb.2.2.1, q2, hb.2.2.2.2⟩, ⟨s1, s2, s3, rfl, s5, s6, s7, s8, s9, s10, s11, s12, s15, s16⟩, hQ, hD⟩
  have c53 : ¬ (k = 2 ∧ st = 1) → ¬ (k = 3 ∧ st = 1) → wX_hearAsLeader_53 post (nI k) (nI f) g1 g2 g3 g4 g5 g6 g7 g8 g9 g10 g11 g12 g13 g14 g15 g16 a1 a2 a3 a4 a5 a6 a7 a8 a9 a10 a11 a12 a13 a14 a15 a16 := by
    intro n1 n2
    refine pk_eq k 6 (fun z => pk_eq st 2 (fun y => c75 z (Or.inl y)) (fun y => pk_eq st 3 (fun w => c75 z (Or.inr w)) (fun w => c90 n1 n2 (by omega)) s2) s2) (fun z => c90 n1 n2 (by omega))
  have c32 : ¬ (k = 2 ∧ st = 1) → wX_hearAsLeader_32 post (nI k) (nI f) g1 g2 g3 g4 g5 g6 g7 g8 g9 g10 g11 g12 g13 g14 g15 g16 a1 a2 a3 a4 a5 a6 a7 a8 a9 a10 a11 a12 a13 a14 a15 a16 := by
    intro n1
    refine pk_eq k 3 (fun z => pk_eq st 1 (fun y => ?_) (fun y => c53 n1 (by omega)) s2) (fun z => c53 n1 (by omega))
    rw [if_neg n1, if_pos ⟨z, y⟩] at e
    have e := Option.some.inj e
    subst e
    exact K _ ⟨⟨by omega, by omega, hb.2.2⟩, ⟨s1, rfl, s3, s4, s5, s6, s7, s8, s9, s10, s11, s12, s15, s16⟩, hQ, hD⟩
  refine pk_eq k 2 (fun z => pk_eq st 1 (fun y => ?_) (fun y => c32 (by omega)) s2) (fun z => c32 (by omega))
  rw [if_pos ⟨z, y⟩] at e
  obtain ⟨q1, q2, _⟩ := tp_set8 vo hb.2.2.1 f hf
  refine nm_r (e' := nI (vo ||| 2 ^ f)) (by rw [s3]; exact q1) ?_
  exact tp_i_dec hX (c := (st, vo ||| 2 ^ f, he, se, lo, bk, ha, de, ph, q)) ⟨⟨hb.1, hb.2.1, q2, hb.2.2.2⟩, ⟨s1, s2, rfl, s4, s5, s6, s7, s8, s9, s10, s11, s12, s15, s16⟩, hQ, hD⟩ e (fun u' h => K u' h)
theorem tp_i_del {post : St1 → Prop} {t N pa tr td cc O : Nat} {B : Nat → Nat} {L0 : Nat → List tp_E} {b1 b7 : Nat → Int32} {H0 : Nat → Nat} {W0 : Nat → Nat → Bool} {G0 : Nat → Nat → Bool} {b10 : Nat → Int32} {c c' : tp_C} {u : St1} (hX : tp_X t N pa tr td cc O B L0 b1 b7 H0 W0 G0 b10) (I : tp_I t N pa tr td cc O B L0 b1 b7 H0 W0 G0 b10 c u) (e : tp_cDel pa tr td c = some c')
    (K : ∀ u', tp_I t N pa tr td cc O B L0 b1 b7 H0 W0 G0 b10 c' u' → post u') : wpX_deliver post u := by
  obtain ⟨st, vo, he, se, lo, bk, ha, de, ph, q⟩ := c
  obtain ⟨g1, g2, g3, g4, g5, g6, g7, g8, g9, g10, g11, g12, g13, g14, g15, g16, a1, a2, a3, a4, a5, a6, a7, a8, a9, a10, a11, a12, a13, a14, a15, a16⟩ := u
  obtain ⟨hb, ⟨s1, s2, s3, s4, s5, s6, s7, s8, s9, s10, s11, s12, s15, s16⟩, ⟨f0, w1, w2, w3, w4, w5⟩, hD⟩ := I
  have hN := hX.2.2.1
  cases q with
  | nil => exact absurd e (by simp [tp_cDel])
  | cons x q =>
    obtain ⟨k, f, o⟩ := x
    unfold tp_cDel at e
    dsimp only at e
    obtain ⟨⟨v1, v2, v3⟩, y13, y14, y15, y16⟩ := w5 0 (k, f, o) rfl
    have ef : (f0 + 0) % 64 = f0 := by omega
    rw [ef] at y13 y14 y15 y16
    have ec : g13.toNatClampNeg = f0 := by rw [w2]; exact nI_clamp (by omega)
    have hin : vp_in g13 64 := by rw [w2]; exact vp_in_nI w1 (by omega)
    have ex : (g13 + 1) - (g13 + 1) / 64 * 64 = nI ((f0 + 1) % 64) := by
      rw [w2, nI_1]
      exact pk_rem (a := f0 + 1) (d := 64) (by omega) (by omega) (by omega)
    have ey : g14 - 1 = nI q.length := by
      rw [w3]
      exact nI_pred q.length
    have Q2 : tp_Q N q (nI ((f0 + 1) % 64)) (nI q.length) a13 a14 a15 a16 := by
      refine ⟨(f0 + 1) % 64, by omega, rfl, rfl, by simp at w4; omega, fun i e' h => ?_⟩
      have := w5 (i + 1) e' (by simpa using h)
      rw [show ((f0 + 1) % 64 + i) % 64 = (f0 + (i + 1)) % 64 by omega]
      exact this
    have I2 : tp_I t N pa tr td cc O B L0 b1 b7 H0 W0 G0 b10 (st, vo, he, se, lo, bk, ha, de, ph, q) (g1, g2, g3, g4, g5, g6, g7, g8, g9, g10, g11, g12, nI ((f0 + 1) % 64), nI q.length, g15, g16, a1, a2, a3, a4, a5, a6, a7, a8, a9, a10, a11, a12, a13, a14, a15, a16) := ⟨hb, ⟨s1, s2, s3, s4, s5, s6, s7, s8, s9, s10, s11, s12, s15, s16⟩, Q2, hD⟩
    refine ⟨by decide, nm_r ex (nm_r ey ⟨hin, br_t (by rw [ec, y16, s6]) ⟨hin, nm_r (e' := nI f) (by rw [ec, y14]) ⟨hin, ek_if (d := o = 3) (by rw [ec, y15]; exact nI_eq (b := 3) (by omega) (by omega)) (fun z => ⟨hin, ?_⟩) (fun z => ⟨hin, hin, ?_⟩)⟩⟩⟩)⟩
    · rw [if_pos z] at e
      by_cases hf : f < 3
      · rw [if_pos hf] at e
        exact tp_i_ldr hX I2 v1 hf e (by rw [ec, y13]) rfl (fun u' h => K u' h)
      · rw [if_neg hf] at e
        exact absurd e (by simp)
    · rw [if_neg z] at e
      by_cases ho : o < 3
      · rw [if_pos ho] at e
        exact tp_i_mach hX I2 v1 ho e (by rw [ec, y13]) (by rw [ec, y15]) (fun u' h => K u' h)
      · rw [if_neg ho] at e
        exact absurd e (by simp)
theorem tp_i_over {post : Int32 → Prop} {t N pa tr td cc O : Nat} {B : Nat → Nat} {L0 : Nat → List tp_E} {b1 b7 : Nat → Int32} {H0 : Nat → Nat} {W0 : Nat → Nat → Bool} {G0 : Nat → Nat → Bool} {b10 : Nat → Int32} {c : tp_C} {u : St1} (hX : tp_X t N pa tr td cc O B L0 b1 b7 H0 W0 G0 b10) (I : tp_I t N pa tr td cc O B L0 b1 b7 H0 W0 G0 b10 c u) (K1 : tp_cOver pa c = true → post 1) (K0 : tp_cOver pa c = false → post 0) : wpX_isOver post u := by
  obtain ⟨st, vo, he, se, lo, bk, ha, de, ph, q⟩ := c
  obtain ⟨g1, g2, g3, g4, g5, g6, g7, g8, g9, g10, g11, g12, g13, g14, g15, g16, a1, a2, a3, a4, a5, a6, a7, a8, a9, a10, a11, a12, a13, a14, a15, a16⟩ := u
  obtain ⟨hb, ⟨s1, s2, s3, s4, s5, s6, s7, s8, s9, s10, s11, s12, s15, s16⟩, hQ, hD⟩ := I
  have hpa := hX.2.2.2.1
  have hh := hb.2.2.2.1
  unfold tp_cOver at K1 K0
  dsimp only at K1 K0
  have c16 : (st = 2 ∨ st = 3) → wX_isOver_16 post g1 g2 g3 g4 g5 g6 g7 g8 g9 g10 g11 g12 g13 g14 g15 g16 a1 a2 a3 a4 a5 a6 a7 a8 a9 a10 a11 a12 a13 a14 a15 a16 := fun z => pk_eq he pa (fun y => K1 (decide_eq_true ⟨z, y⟩)) (fun y => K0 (decide_eq_false (fun w => y w.2))) s4 s8
  exact pk_eq st 2 (fun z => c16 (Or.inl z)) (fun z => pk_eq st 3 (fun y => c16 (Or.inr y)) (fun y => K0 (decide_eq_false (by omega))) s2) s2
theorem tp_i_loop {post : Int32 → St1 → Prop} {x1 : Int32} {t N pa tr td cc O : Nat} {B : Nat → Nat} {L0 : Nat → List tp_E} {b1 b7 : Nat → Int32} {H0 : Nat → Nat} {W0 : Nat → Nat → Bool} {G0 : Nat → Nat → Bool} {b10 : Nat → Int32} (hX : tp_X t N pa tr td cc O B L0 b1 b7 H0 W0 G0 b10) (K : ∀ c' u', tp_I t N pa tr td cc O B L0 b1 b7 H0 W0 G0 b10 c' u' → tp_cFin pa tr td c' = true → match u' with | (g1x, g2x, g3x, g4x, g5x, g6x, g7x, g8x, g9x, g10x, g11x, g12x, g13x, g14x, g15x, g16x, a1x, a2x, a3x, a4x, a5x, a6x, a7x, a8x, a9x, a10x, a11x, a12x, a13x, a14x, a15x, a16x) => wX_commit_114 post x1 g1x g2x g3x g4x g5x g6x g7x g8x g9x g10x g11x g12x g13x g14x g15x g16x a1x a2x a3x a4x a5x a6x a7x a8x a9x a10x a11x a12x a13x a14x a15x a16x) :
    ∀ n r c u, tp_chk pa tr td n c = true → r + n ≤ 2000 → tp_I t N pa tr td cc O B L0 b1 b7 H0 W0 G0 b10 c u → match u with | (g1, g2, g3, g4, g5, g6, g7, g8, g9, g10, g11, g12, g13, g14, g15, g16, a1, a2, a3, a4, a5, a6, a7, a8, a9, a10, a11, a12, a13, a14, a15, a16) => wX_commit_75 post x1 n (nI r) g1 g2 g3 g4 g5 g6 g7 g8 g9 g10 g11 g12 g13 g14 g15 g16 a1 a2 a3 a4 a5 a6 a7 a8 a9 a10 a11 a12 a13 a14 a15 a16 := by
  intro n
  induction n with
  | zero => intro r c u h; exact absurd h (by simp [tp_chk])
  | succ n ih =>
    intro r c u h hr I
    obtain ⟨g1, g2, g3, g4, g5, g6, g7, g8, g9, g10, g11, g12, g13, g14, g15, g16, a1, a2, a3, a4, a5, a6, a7, a8, a9, a10, a11, a12, a13, a14, a15, a16⟩ := u
    unfold tp_chk at h
    refine pk_le 2000 r (fun z => absurd z (by omega)) (fun _ => tp_i_over hX I (fun ov => br_f (by decide) ?_) (fun ov => br_t rfl ?_))
    · rw [if_pos ov] at h
      exact K c _ I h
    · rw [if_neg (by rw [ov]; decide)] at h
      cases hs : tp_cStep pa tr td c with
      | none =>
        rw [hs] at h
        exact absurd h (by simp)
      | some c' =>
        rw [hs] at h
        have h : tp_chk pa tr td n c' = true := h
        unfold tp_cStep at hs
        have hq : ∃ f, f < 64 ∧ g13 = nI f ∧ g14 = nI c.2.2.2.2.2.2.2.2.2.length ∧ c.2.2.2.2.2.2.2.2.2.length ≤ 62 := by
          obtain ⟨st, vo, he, se, lo, bk, ha, de, ph, q⟩ := c
          obtain ⟨f0, w1, w2, w3, w4, w5⟩ := I.2.2.1
          exact ⟨f0, w1, w2, w3, w4⟩
        obtain ⟨f0, w1, w2, w3, w4⟩ := hq
        refine pk_eq _ 0 (fun z => ?_) (fun z => ?_) w3 rfl
        · rw [if_pos z] at hs
          refine tp_i_rem hX I hs (fun u' I' => ?_)
          have := ih (r + 1) c' u' h (by omega) I'
          obtain ⟨g1', g2', g3', g4', g5', g6', g7', g8', g9', g10', g11', g12', g13', g14', g15', g16', a1', a2', a3', a4', a5', a6', a7', a8', a9', a10', a11', a12', a13', a14', a15', a16'⟩ := u'
          exact nm_r (nI_1 r) this
        · rw [if_neg z] at hs
          refine tp_i_del hX I hs (fun u' I' => ?_)
          have := ih (r + 1) c' u' h (by omega) I'
          obtain ⟨g1', g2', g3', g4', g5', g6', g7', g8', g9', g10', g11', g12', g13', g14', g15', g16', a1', a2', a3', a4', a5', a6', a7', a8', a9', a10', a11', a12', a13', a14', a15', a16'⟩ := u'
          exact nm_r (nI_1 r) this
end
section
/-! between the calls: what holds of the component; a whole commit -/
def tp_K (O cc nm : Nat) (H : Nat → Nat) (W : Nat → Nat → Bool) (b7 b10 : Nat → Int32) (u : St1) : Prop := match u with
  | (g1, g2, g3, g4, g5, g6, g7, g8, g9, g10, g11, g12, g13, g14, g15, g16, a1, a2, a3, a4, a5, a6, a7, a8, a9, a10, a11, a12, a13, a14, a15, a16) => O < 8 ∧ nm < 2 ^ 19 ∧ g1 = nI O ∧ g2 = nI 0 ∧ g5 = nI nm ∧ g12 = nI cc ∧ (∃ N, N < 2 ^ 20 ∧ g6 = nI N) ∧ (∃ sl, sl < 3 ∧ g7 = nI sl) ∧ a10 = b10 ∧ (∀ k, k < 12 → a7 k = b7 k) ∧
    (∀ k, k < 12 → H k ≤ 3 ∧ (H k ≠ 0 → O.testBit (H k - 1) = true)) ∧ (∀ j, j < 4 → ∀ k, k < 12 → W j k = true → H k = j + 1) ∧
    ∃ L G, tp_LG L a2 a3 a4 a5 a6 ∧ (∀ m, m < 4 → (L m).length ≤ 40 ∧ ∀ e, e ∈ L m → e.2.1 < nm + 1) ∧ (∀ m, m < 3 → tp_Set m (L m) a1 b7) ∧ tp_D H W (fun _ _ => 0) G a8 a9 a11 a12 ∧ (∀ j, j < 3 → O.testBit j = true → ∀ x, x < 3 → G j x = false)
theorem tp_mk8 : ∀ a b c : Bool, ∃ S, S < 8 ∧ S.testBit 0 = a ∧ S.testBit 1 = b ∧ S.testBit 2 = c := by
  intro a b c
  cases a <;> cases b <;> cases c
  · exact ⟨0, by decide⟩
  · exact ⟨4, by decide⟩
  · exact ⟨2, by decide⟩
  · exact ⟨6, by decide⟩
  · exact ⟨1, by decide⟩
  · exact ⟨5, by decide⟩
  · exact ⟨3, by decide⟩
  · exact ⟨7, by decide⟩
theorem tp_mk (p : Nat → Prop) : ∃ S, S < 8 ∧ ∀ j, j < 3 → (S.testBit j = true ↔ p j) := by
  have d : ∀ q : Prop, ∃ b : Bool, b = true ↔ q := by
    intro q
    by_cases h : q
    · exact ⟨true, by simp [h]⟩
    · exact ⟨false, by simp [h]⟩
  obtain ⟨b0, h0⟩ := d (p 0)
  obtain ⟨b1, h1⟩ := d (p 1)
  obtain ⟨b2, h2⟩ := d (p 2)
  obtain ⟨S, s8, s0, s1, s2⟩ := tp_mk8 b0 b1 b2
  refine ⟨S, s8, fun j hj => ?_⟩
  have e : j = 0 ∨ j = 1 ∨ j = 2 := by omega
  rcases e with e | e | e
  · subst e; rw [s0]; exact h0
  · subst e; rw [s1]; exact h1
  · subst e; rw [s2]; exact h2
theorem tp_clr0 : ∀ O, O < 8 → tp_clr O 0 = O := by decide +kernel
/-- the pictures after a commit -/
def tp_fH (t Bm : Nat) (H0 : Nat → Nat) : Nat → Nat := fun k => if H0 k = t + 1 then 0 else if H0 k ≠ 0 ∧ Bm.testBit (H0 k - 1) = true then 0 else H0 k
def tp_fW (t Bm : Nat) (W0 : Nat → Nat → Bool) : Nat → Nat → Bool := fun j k => if j = t then false else if Bm.testBit j = true then false else W0 j k
def tp_f7 (t : Nat) (de : Bool) (W0 : Nat → Nat → Bool) (b7 b10 : Nat → Int32) : Nat → Int32 := fun k => if de = true ∧ W0 t k = true then b10 (t * 12 + k) else b7 k
theorem tp_f7_eq {t N pa tr td cc O : Nat} {B : Nat → Nat} {L0 : Nat → List tp_E} {b1 b7 : Nat → Int32} {H0 : Nat → Nat} {W0 : Nat → Nat → Bool} {G0 : Nat → Nat → Bool} {b10 : Nat → Int32} (hX : tp_X t N pa tr td cc O B L0 b1 b7 H0 W0 G0 b10) {de : Bool} {ph : Nat → Nat} (hf : ∀ m, m < 3 → tp_fin1 pa de (ph m) m = true) {k : Nat} (hk : k < 12) : tp_c7 t b7 W0 b10 ph k = tp_f7 t de W0 b7 b10 k := by
  obtain ⟨ht, hN1, hN, hpa, htr, htd, hO, hOt, hparts, _, hH, hW, hSet, hL, hG⟩ := hX
  unfold tp_c7 tp_f7
  by_cases w : W0 t k = true
  · have h0 := hW t (by omega) k hk w
    have hp : pa.testBit (k % 3) = true := (hparts (k % 3) (by omega)).mpr ⟨k, hk, rfl, h0⟩
    have f := hf (k % 3) (by omega)
    unfold tp_fin1 at f
    rw [if_pos hp] at f
    cases de
    · rw [if_neg (by decide)] at f
      have f := of_decide_eq_true f
      rw [if_neg (fun z => absurd z.1 (by omega)), if_neg (fun z => absurd z.1 (by decide))]
    · rw [if_pos rfl] at f
      have f := of_decide_eq_true f
      rw [if_pos ⟨f, w⟩, if_pos ⟨rfl, w⟩]
  · rw [if_neg (fun z => w z.2), if_neg (fun z => w z.2)]
theorem tp_fph {pa p m : Nat} {de : Bool} (hf : tp_fin1 pa de p m = true) : ¬ (p = 1 ∨ p = 4) := by
  unfold tp_fin1 at hf
  split at hf
  · split at hf
    · have := of_decide_eq_true hf; omega
    · have := of_decide_eq_true hf; omega
  · have := of_decide_eq_true hf; omega
theorem tp_fSet {t N pa tr td cc O : Nat} {B : Nat → Nat} {L0 : Nat → List tp_E} {b1 b7 : Nat → Int32} {H0 : Nat → Nat} {W0 : Nat → Nat → Bool} {G0 : Nat → Nat → Bool} {b10 : Nat → Int32} (hX : tp_X t N pa tr td cc O B L0 b1 b7 H0 W0 G0 b10) {de : Bool} {ph : Nat → Nat} (hf : ∀ m, m < 3 → tp_fin1 pa de (ph m) m = true) {m : Nat} (hm : m < 3) : tp_Set m (tp_cL t N L0 W0 b10 de ph m) b1 (tp_f7 t de W0 b7 b10) := by
  have e7 := fun k hk => tp_f7_eq hX hf (k := k) hk
  obtain ⟨ht, hN1, hN, hpa, htr, htd, hO, hOt, hparts, _, hH, hW, hSet, hL, hG⟩ := hX
  have R := tp_replay (N := N) (W := W0 t) (b := fun k => b10 (t * 12 + k)) (f := b1) hm (hSet m hm) (hL m (by omega)).2 (fun k _ _ => rfl) (ph m)
  rw [← tp_cL_m (de := de) hm] at R
  obtain ⟨R1, R2, R3⟩ := R
  refine ⟨fun e he h1 => ?_, ?_, fun k hk hkm => ?_⟩
  · rw [tp_cL_m hm, List.mem_append] at he
    rcases he with he | he
    · exact (hSet m hm).1 e he h1
    · have key : e ∈ tp_wr (W0 t) (fun k => b10 (t * 12 + k)) N m 4 → e.2.2.1 % 3 = m := by
        intro h
        have := (tp_wr_all 4 e h).2.2.1
        omega
      unfold tp_ext at he
      split at he
      · simp at he
        rcases he with he | he
        · exact key he
        · rw [he] at h1; exact absurd h1 (by simp)
      · split at he
        · simp at he
          rcases he with he | he | he
          · exact key he
          · rw [he] at h1; exact absurd h1 (by simp)
          · rw [he] at h1; exact absurd h1 (by simp)
        · split at he
          · simp at he
            rcases he with he | he | he
            · exact key he
            · rw [he] at h1; exact absurd h1 (by simp)
            · rw [he] at h1; exact absurd h1 (by simp)
          · exact absurd he (by simp)
  · rw [R1, if_neg (tp_fph (hf m hm))]
  · rw [R2 k hk hkm, ← e7 k hk]
    unfold tp_c7
    rw [hkm]
theorem tp_cL_len {t N pa tr td cc O : Nat} {B : Nat → Nat} {L0 : Nat → List tp_E} {b1 b7 : Nat → Int32} {H0 : Nat → Nat} {W0 : Nat → Nat → Bool} {G0 : Nat → Nat → Bool} {b10 : Nat → Int32} (hX : tp_X t N pa tr td cc O B L0 b1 b7 H0 W0 G0 b10) {de : Bool} {ph : Nat → Nat} {m : Nat} (hm : m < 4) : (tp_cL t N L0 W0 b10 de ph m).length ≤ 50 ∧ ∀ e, e ∈ tp_cL t N L0 W0 b10 de ph m → e.2.1 < N + 1 := by
  obtain ⟨ht, hN1, hN, hpa, htr, htd, hO, hOt, hparts, _, hH, hW, hSet, hL, hG⟩ := hX
  have l0 := (hL m hm).1
  by_cases c : m = 3
  · subst c
    unfold tp_cL
    rw [if_pos rfl]
    refine ⟨?_, fun e he => ?_⟩
    · rw [List.length_append]
      split <;> simp <;> omega
    · rw [List.mem_append] at he
      rcases he with he | he
      · have := (hL 3 (by omega)).2 e he
        omega
      · split at he
        · simp at he
          rw [he]
          show N < N + 1
          omega
        · exact absurd he (by simp)
  · rw [tp_cL_m (by omega)]
    refine ⟨?_, fun e he => ?_⟩
    · have := tp_wr_len (W := W0 t) (b := fun k => b10 (t * 12 + k)) (N := N) (m := m) 4
      rw [List.length_append]
      unfold tp_ext
      split
      · simp; omega
      · split
        · simp; omega
        · split
          · simp; omega
          · simp; omega
    · rw [List.mem_append] at he
      rcases he with he | he
      · have := (hL m hm).2 e he
        omega
      · have := tp_ext_all (fun e h => (tp_wr_all 4 e h).2.1) (ph m) e he
        omega
/-- a shortened log still tells the numbers -/
theorem tp_shSet {m : Nat} {L : Nat → List tp_E} {a1 a7 b7 : Nat → Int32} (hm : m < 3) (S : tp_Set m (L m) a1 b7) (e7 : ∀ k, k < 12 → a7 k = b7 k) : tp_Set m (tp_shL L 4 m) (tp_sh1 L 3 a1 a7) b7 := by
  obtain ⟨s0, s1, s2⟩ := S
  by_cases c : 40 < (L m).length
  · have e : tp_shL L 4 m = [] := if_pos ⟨by omega, c⟩
    rw [e]
    refine ⟨fun e he => absurd he (by simp), rfl, fun k hk hkm => ?_⟩
    show tp_sh1 L 3 a1 a7 k = b7 k
    unfold tp_sh1
    rw [if_pos ⟨hk, by omega, by rw [hkm]; exact c⟩]
    exact e7 k hk
  · have e : tp_shL L 4 m = L m := if_neg (fun z => c z.2)
    rw [e]
    have h1 : ∀ k, k < 12 → k % 3 = m → tp_sh1 L 3 a1 a7 k = a1 k := by
      intro k hk hkm
      unfold tp_sh1
      rw [if_neg (fun z => c (by rw [hkm] at z; exact z.2.2))]
    refine ⟨s0, ?_, fun k hk hkm => ?_⟩
    · rw [(tp_rp_cong (k := m) (L m) (tp_sh1 L 3 a1 a7, 0) (a1, 0) (h1 m (by omega) (by omega)) rfl).2]
      exact s1
    · rw [(tp_rp_cong (k := k) (L m) (tp_sh1 L 3 a1 a7, 0) (a1, 0) (h1 k hk hkm) rfl).1]
      exact s2 k hk hkm
theorem tp_i_fin {post : Int32 → St1 → Prop} {t N pa tr td cc O : Nat} {B : Nat → Nat} {L0 : Nat → List tp_E} {b1 b7 : Nat → Int32} {H0 : Nat → Nat} {W0 : Nat → Nat → Bool} {G0 : Nat → Nat → Bool} {b10 : Nat → Int32} {c : tp_C} {u : St1} (hX : tp_X t N pa tr td cc O B L0 b1 b7 H0 W0 G0 b10) (hG0 : ∀ j, j < 3 → O.testBit j = true → ∀ x, x < 3 → G0 j x = false) (hN19 : N < 2 ^ 19) (I : tp_I t N pa tr td cc O B L0 b1 b7 H0 W0 G0 b10 c u) (hf : tp_cFin pa tr td c = true)
    (K : ∀ u', tp_K (tp_clr (tp_clr O (B (tp_bkf tr td))) (2 ^ t)) (cc + (if tp_back pa tr td = true then 0 else 1)) N (tp_fH t (B (tp_bkf tr td)) H0) (tp_fW t (B (tp_bkf tr td)) W0) (tp_f7 t (!(tp_back pa tr td)) W0 b7 b10) b10 u' → post (if tp_back pa tr td = true then 0 else 1) u') :
    match u with | (g1, g2, g3, g4, g5, g6, g7, g8, g9, g10, g11, g12, g13, g14, g15, g16, a1, a2, a3, a4, a5, a6, a7, a8, a9, a10, a11, a12, a13, a14, a15, a16) => wX_commit_114 post (nI t) g1 g2 g3 g4 g5 g6 g7 g8 g9 g10 g11 g12 g13 g14 g15 g16 a1 a2 a3 a4 a5 a6 a7 a8 a9 a10 a11 a12 a13 a14 a15 a16 := by
  obtain ⟨st, vo, he, se, lo, bk, ha, de, ph, q⟩ := c
  obtain ⟨g1, g2, g3, g4, g5, g6, g7, g8, g9, g10, g11, g12, g13, g14, g15, g16, a1, a2, a3, a4, a5, a6, a7, a8, a9, a10, a11, a12, a13, a14, a15, a16⟩ := u
  unfold tp_cFin at hf
  simp only [Bool.and_eq_true, decide_eq_true_eq] at hf
  obtain ⟨⟨⟨⟨hde, hbk⟩, f0⟩, f1⟩, f2⟩ := hf
  have hf : ∀ m, m < 3 → tp_fin1 pa de (ph m) m = true := by
    intro m hm
    have e : m = 0 ∨ m = 1 ∨ m = 2 := by omega
    rcases e with e | e | e
    · subst e; exact f0
    · subst e; exact f1
    · subst e; exact f2
  obtain ⟨hb, ⟨s1, s2, s3, s4, s5, s6, s7, s8, s9, s10, s11, s12, s15, s16⟩, hQ, ⟨d1, d10, dL, d7, dD⟩⟩ := I
  have e7 := fun k hk => tp_f7_eq hX hf (k := k) hk
  have eS := fun m hm => tp_fSet hX hf (m := m) hm
  have eL := fun m hm => tp_cL_len hX (de := de) (ph := ph) (m := m) hm
  obtain ⟨l1, l2⟩ := tp_dlog hX (de := de) (ph := ph)
  obtain ⟨ht, hN1, hN, hpa, htr, htd, hO, hOt, hparts, ⟨b0, b8, b1', b4⟩, hH, hW, hSet, hL, hG⟩ := hX
  have key : ∀ z0 : Int32, z0 = (if tp_back pa tr td = true then 0 else 1) → wX_commit_132 post (nI t) z0 g1 g2 g3 g4 g5 g6 g7 g8 g9 g10 g11 g12 g13 g14 g15 g16 a1 a2 a3 a4 a5 a6 a7 a8 a9 a10 a11 a12 a13 a14 a15 a16 := by
    intro z0 ez
    have hl3 : (tp_cL t N L0 W0 b10 de ph 3).length < 60 := by
      have := (eL 3 (by omega)).1
      omega
    refine tp_w_log dL (m := 3) (k := 6) (n := N) (y := 0) (by omega) hl3 (by omega) (by omega) (by omega) rfl s6 rfl (fun a2' a3' a4' a5' a6' dL2 => ?_)
    refine tp_w_rollBack dD (t := t) ht (tp_clrS O hO _ (b8 bk)).2.1 s1 (fun a8' a9' a11' D2 => ?_)
    refine nm_r (e' := nI (cc + (if tp_back pa tr td = true then 0 else 1))) ?_ ?_
    · rw [s12, ez]
      split
      · exact nI_add cc 0
      · exact nI_add cc 1
    refine tp_w_shortenLogs dL2 (fun a2'' dL3 => ?_)
    subst ez
    refine K _ ?_
    rw [← hbk]
    obtain ⟨c1, c2, c3⟩ := tp_clrS O hO _ (b8 bk)
    obtain ⟨_, c5, c6⟩ := tp_clr8 _ c2 t ht
    have hde' : (!(tp_back pa tr td)) = de := hde.symm
    rw [hde']
    have eL2 : ∀ m, m < 3 → tp_u (tp_cL t N L0 W0 b10 de ph) 3 (tp_cL t N L0 W0 b10 de ph 3 ++ [(6, N, 0, 0)]) m = tp_cL t N L0 W0 b10 de ph m := by
      intro m hm
      unfold tp_u
      rw [if_neg (by omega)]
    have a7ok : ∀ k, k < 12 → a7 k = tp_f7 t de W0 b7 b10 k := fun k hk => (d7 k hk).trans (e7 k hk)
    refine ⟨c5, hN19, rfl, rfl, s5, rfl, ⟨N, hN, s6⟩, ⟨t, ht, s7⟩, d10, a7ok, fun k hk => ⟨?_, fun hk0 => ?_⟩, fun j hj k hk hw => ?_, _, tp_cG t G0 ph, dL3, fun m hm => ⟨?_, fun e he => ?_⟩, fun m hm => ?_, tp_D_c D2 (fun k hk => ?_) (fun j hj k hk => ?_) (fun j hj x hx => ?_) (fun _ _ _ _ => rfl), fun j hj hjo x hx => ?_⟩
    · have := (hH k hk).1
      unfold tp_fH
      split
      · omega
      · split <;> omega
    · unfold tp_fH at hk0 ⊢
      by_cases y1 : H0 k = t + 1
      · rw [if_pos y1] at hk0
        exact absurd rfl hk0
      · rw [if_neg y1] at hk0 ⊢
        by_cases y2 : H0 k ≠ 0 ∧ (B bk).testBit (H0 k - 1) = true
        · rw [if_pos y2] at hk0
          exact absurd rfl hk0
        · rw [if_neg y2] at hk0 ⊢
          have h3 := (hH k hk).1
          have ho := (hH k hk).2 hk0
          have hb2 : (B bk).testBit (H0 k - 1) = false := by
            cases h : (B bk).testBit (H0 k - 1)
            · rfl
            · exact absurd ⟨hk0, h⟩ y2
          rw [c6 _ (by omega), c3 _ (by omega), ho, hb2]
          simp
          omega
    · unfold tp_fW at hw
      by_cases y1 : j = t
      · rw [if_pos y1] at hw
        exact absurd hw (by decide)
      · rw [if_neg y1] at hw
        by_cases y2 : (B bk).testBit j = true
        · rw [if_pos y2] at hw
          exact absurd hw (by decide)
        · rw [if_neg y2] at hw
          have h0 := hW j hj k hk hw
          unfold tp_fH
          rw [if_neg (by omega), if_neg (fun z => y2 (by rw [h0] at z; exact z.2))]
          exact h0
    · unfold tp_shL
      split
      · simp
      · rename_i nc
        omega
    · unfold tp_shL at he
      split at he
      · exact absurd he (by simp)
      · unfold tp_u at he
        split at he
        · rw [List.mem_append] at he
          rcases he with he | he
          · exact (eL 3 (by omega)).2 e he
          · simp at he
            rw [he]
            show N < N + 1
            omega
        · exact (eL m hm).2 e he
    · refine tp_shSet hm ?_ a7ok
      rw [eL2 m hm, d1]
      exact eS m hm
    · by_cases y1 : H0 k = t + 1
      · have q1 : tp_fH t (B bk) H0 k = 0 := if_pos y1
        rw [q1]
        by_cases y2 : tp_cH t B H0 W0 bk ph k = t + 1
        · have q2 : tp_oH t 3 (tp_cH t B H0 W0 bk ph) k = 0 := if_pos ⟨by omega, y2⟩
          rw [q2]
        · have q2 : tp_oH t 3 (tp_cH t B H0 W0 bk ph) k = tp_cH t B H0 W0 bk ph k := if_neg (fun z => y2 z.2)
          rw [q2]
          rw [tp_cH_t y1] at y2 ⊢
          split at y2
          · exact absurd rfl y2
          · rename_i nc
            rw [if_neg nc]
      · have q1 : tp_fH t (B bk) H0 k = tp_cH t B H0 W0 bk ph k := by
          rw [tp_cH_o y1]
          exact if_neg y1
        have q2 : tp_oH t 3 (tp_cH t B H0 W0 bk ph) k = tp_cH t B H0 W0 bk ph k := by
          refine if_neg (fun z => ?_)
          have z2 := z.2
          rw [tp_cH_o y1] at z2
          split at z2
          · omega
          · exact y1 z2
        rw [q1, q2]
    · unfold tp_fW tp_oW tp_cW
      by_cases y1 : j = t
      · rw [if_pos y1, if_pos ⟨y1, by omega⟩]
      · rw [if_neg y1, if_neg (show ¬ (j = t ∧ k % 3 < 3) from fun z => y1 z.1), if_neg y1]
    · unfold tp_oP tp_cP
      by_cases y1 : j = t
      · rw [if_pos ⟨y1, hx⟩]
      · rw [if_neg (fun z => y1 z.1), if_neg (fun z => y1 z.1)]
    · rw [c6 j hj] at hjo
      simp at hjo
      unfold tp_cG
      rw [if_neg hjo.2]
      have := c3 j hj
      rw [hjo.1] at this
      refine hG0 j hj ?_ x hx
      cases h : O.testBit j
      · rw [h] at this; simp at this
      · rfl
  unfold wX_commit_114
  refine tp_w_isLogged dL (m := 3) (k := 5) (n := N) (by omega) (by omega) (by omega) rfl rfl s6 (fun w => br_t rfl (key 0 ?_)) (fun w => br_f (by decide) (key 1 ?_))
  · cases h : tp_back pa tr td
    · rw [h] at hde
      obtain ⟨x, y1, y2, y3⟩ := l1 hde
      exact absurd ⟨y2, y3⟩ (w x y1)
    · rfl
  · cases h : tp_back pa tr td
    · rfl
    · rw [h] at hde
      obtain ⟨x, y1, y2, y3⟩ := w
      exact absurd ⟨y2, y3⟩ (l2 hde x y1)
end
section
/-! the calls of the law, over what holds between them -/
theorem tp_k_commit {post : Int32 → St1 → Prop} {O cc nm : Nat} {H : Nat → Nat} {W : Nat → Nat → Bool} {b7 b10 : Nat → Int32} {u : St1} (hK : tp_K O cc nm H W b7 b10 u) (hnm : nm < 2 ^ 18) {t tr td : Nat} (ht : t < 3) (htr : tr < 8) (htd : td < 3)
    (K0 : O.testBit t = false → post (-100000) u)
    (K1 : O.testBit t = true → ∀ pa, pa < 8 → (∀ m, m < 3 → (pa.testBit m = true ↔ ∃ k, k < 12 ∧ k % 3 = m ∧ H k = t + 1)) → ∀ Bm, Bm < 8 → ((tr = 2 ∨ tr = 3) → ∀ j, j < 3 → (Bm.testBit j = true ↔ (j ≠ t ∧ O.testBit j = true))) → ((tr = 1 ∨ tr = 4 ∨ tr = 5) → ∀ j, j < 3 → (Bm.testBit j = true ↔ (j ≠ t ∧ ∃ k, k < 12 ∧ k % 3 = td ∧ H k = j + 1))) → (¬ (tr = 1 ∨ tr = 2 ∨ tr = 3 ∨ tr = 4 ∨ tr = 5) → Bm = 0) →
      ∀ u', tp_K (tp_clr (tp_clr O Bm) (2 ^ t)) (cc + (if tp_back pa tr td = true then 0 else 1)) (nm + 1) (tp_fH t Bm H) (tp_fW t Bm W) (tp_f7 t (!(tp_back pa tr td)) W b7 b10) b10 u' → post (if tp_back pa tr td = true then 0 else 1) u') : wpX_commit post u (nI t) (nI tr) (nI td) := by
  obtain ⟨g1, g2, g3, g4, g5, g6, g7, g8, g9, g10, g11, g12, g13, g14, g15, g16, a1, a2, a3, a4, a5, a6, a7, a8, a9, a10, a11, a12, a13, a14, a15, a16⟩ := u
  obtain ⟨hO, hnm', s1, s2, s5, s12, ⟨N0, hN0, s6⟩, ⟨sl, hsl, s7⟩, d10, d7, hH, hW, L, G, dL, hL, hS, dD, hG⟩ := hK
  unfold wpX_commit
  refine tp_w_isOpen (t := t) (by omega) s1 (fun z => br_t rfl (K0 z)) (fun z => br_f (by decide) (br_f (nI_pos (by omega)) (pk_lt 7 tr (fun y => absurd y (by omega)) (fun _ => br_f (nI_pos (by omega)) (pk_lt td 3 (fun _ => ?_) (fun y => absurd y (by omega)))))))
  refine tp_w_startCommit dD.1 ht s5 (fun pa hpa hparts => ?_)
  have hB0 := fun x => tp_mk (fun j => (1 ≤ x ∧ x ≤ 3 ∧ j ≠ t ∧ ∃ k, k < 12 ∧ k % 3 = x - 1 ∧ H k = j + 1) ∨ (x = 4 ∧ j ≠ t ∧ O.testBit j = true))
  obtain ⟨B, hB⟩ : ∃ B : Nat → Nat, ∀ x, B x < 8 ∧ ∀ j, j < 3 → ((B x).testBit j = true ↔ ((1 ≤ x ∧ x ≤ 3 ∧ j ≠ t ∧ ∃ k, k < 12 ∧ k % 3 = x - 1 ∧ H k = j + 1) ∨ (x = 4 ∧ j ≠ t ∧ O.testBit j = true))) := ⟨fun x => Classical.choose (hB0 x), fun x => Classical.choose_spec (hB0 x)⟩
  have b0 : B 0 = 0 := by
    refine tp_bx (hB 0).1 (by omega) (fun j hj => ?_)
    rw [Nat.zero_testBit]
    cases h : (B 0).testBit j
    · rfl
    · rcases ((hB 0).2 j hj).mp h with y | y
      · omega
      · omega
  have bm : ∀ m, m < 3 → ∀ j, j < 3 → ((B (m + 1)).testBit j = true ↔ (j ≠ t ∧ ∃ k, k < 12 ∧ k % 3 = m ∧ H k = j + 1)) := by
    intro m hm j hj
    rw [(hB (m + 1)).2 j hj]
    constructor
    · rintro (⟨_, _, y1, k, y2, y3, y4⟩ | ⟨y, _⟩)
      · exact ⟨y1, k, y2, by omega, y4⟩
      · omega
    · rintro ⟨y1, k, y2, y3, y4⟩
      exact Or.inl ⟨by omega, by omega, y1, k, y2, by omega, y4⟩
  have b4 : ∀ j, j < 3 → ((B 4).testBit j = true ↔ (j ≠ t ∧ O.testBit j = true)) := by
    intro j hj
    rw [(hB 4).2 j hj]
    constructor
    · rintro (⟨_, y, _⟩ | ⟨_, y⟩)
      · omega
      · exact y
    · intro y
      exact Or.inr ⟨rfl, y⟩
  have hX : tp_X t (nm + 1) pa tr td cc O B L a1 b7 H W G b10 := ⟨ht, by omega, by omega, hpa, htr, htd, hO, z, hparts, ⟨b0, fun x => (hB x).1, bm, b4⟩, hH, hW, hS, hL, hG t ht z⟩
  have I0 : tp_I t (nm + 1) pa tr td cc O B L a1 b7 H W G b10 (1, 0, 0, 0, 0, 0, false, false, (fun _ => 0), []) (g1, nI 1, nI 0, nI 0, nI (nm + 1), nI (nm + 1), nI t, nI pa, nI tr, nI td, tp_bo false, g12, nI 0, nI 0, nI 0, nI 0, a1, a2, a3, a4, a5, a6, a7, a8, a9, a10, a11, a12, a13, a14, a15, a16) := by
    refine ⟨⟨by omega, by omega, by omega, by omega, by omega, by omega⟩, ⟨?_, rfl, rfl, rfl, rfl, rfl, rfl, rfl, rfl, rfl, rfl, s12, rfl, rfl⟩, ⟨0, by omega, rfl, rfl, by simp, fun i e h => absurd h (by simp)⟩, rfl, d10, tp_LG_c dL (fun m hm => ?_), fun k hk => ?_, tp_D_c dD (fun k hk => ?_) (fun j hj k hk => ?_) (fun j hj x hx => ?_) (fun j hj x hx => ?_)⟩
    · rw [b0, tp_clr0 O hO]
      exact s1
    · unfold tp_cL
      by_cases c : m = 3
      · subst c; simp
      · rw [if_neg c]; simp [tp_ext]
    · rw [d7 k hk]
      unfold tp_c7
      simp
    · by_cases c : H k = t + 1
      · rw [tp_cH_t c, if_pos (Or.inl rfl), c]
      · rw [tp_cH_o0 b0 c]
    · unfold tp_cW
      rw [b0, Nat.zero_testBit]
      by_cases c : j = t
      · simp [c]
      · simp [c]
    · unfold tp_cP
      simp
    · unfold tp_cG
      by_cases c : j = t
      · rw [if_pos c, c, hG t ht z x hx]
        simp
      · rw [if_neg c]
  have hall := tp_all pa hpa tr htr td htd
  unfold tp_cAll at hall
  cases hi : tp_cIni pa tr td with
  | none =>
    rw [hi] at hall
    exact absurd hall (by simp)
  | some c1 =>
    rw [hi] at hall
    have hall : (match tp_cDec pa tr td c1 with | none => false | some c => tp_chk pa tr td 60 c) = true := hall
    cases hd : tp_cDec pa tr td c1 with
    | none =>
      rw [hd] at hall
      exact absurd hall (by simp)
    | some c2 =>
      rw [hd] at hall
      have hall : tp_chk pa tr td 60 c2 = true := hall
      have k68 : ∀ u1, tp_I t (nm + 1) pa tr td cc O B L a1 b7 H W G b10 c1 u1 → match u1 with | (g1', g2', g3', g4', g5', g6', g7', g8', g9', g10', g11', g12', g13', g14', g15', g16', a1', a2', a3', a4', a5', a6', a7', a8', a9', a10', a11', a12', a13', a14', a15', a16') => wX_commit_68 post (nI t) g1' g2' g3' g4' g5' g6' g7' g8' g9' g10' g11' g12' g13' g14' g15' g16' a1' a2' a3' a4' a5' a6' a7' a8' a9' a10' a11' a12' a13' a14' a15' a16' := by
        intro u1 I1
        obtain ⟨g1', g2', g3', g4', g5', g6', g7', g8', g9', g10', g11', g12', g13', g14', g15', g16', a1', a2', a3', a4', a5', a6', a7', a8', a9', a10', a11', a12', a13', a14', a15', a16'⟩ := u1
        refine tp_i_dec hX I1 hd (fun u2 I2 => ?_)
        have lp := tp_i_loop (post := post) (x1 := nI t) hX (fun c' u' I' hf => tp_i_fin hX hG (by omega) I' hf (fun u'' hK' => K1 z pa hpa hparts (B (tp_bkf tr td)) (hB _).1 (fun y => ?_) (fun y => ?_) (fun y => ?_) u'' hK')) 60 0 c2 u2 hall (by omega) I2
        · obtain ⟨g1'', g2'', g3'', g4'', g5'', g6'', g7'', g8'', g9'', g10'', g11'', g12'', g13'', g14'', g15'', g16'', a1'', a2'', a3'', a4'', a5'', a6'', a7'', a8'', a9'', a10'', a11'', a12'', a13'', a14'', a15'', a16''⟩ := u2
          exact ⟨60, lp⟩
        · have e : tp_bkf tr td = 4 := if_pos y
          rw [e]
          exact b4
        · have e : tp_bkf tr td = td + 1 := by
            unfold tp_bkf
            rw [if_neg (by omega), if_pos y]
          rw [e]
          exact bm td htd
        · have e : tp_bkf tr td = 0 := by
            unfold tp_bkf
            rw [if_neg (by omega), if_neg (by omega)]
          rw [e]
          exact b0
      unfold tp_cIni at hi
      refine tp_w_isPart (m := td) (by omega) rfl (fun y => br_t rfl (tp_i_strikes hX I0 (w := 1) (m := td) (by omega) htd rfl rfl (fun x u1 I1 => ?_) (fun x u1 I1 => ?_))) (fun y => br_f (by decide) ?_)
      · rw [if_pos ⟨y, x.1⟩] at hi
        obtain ⟨g1', g2', g3', g4', g5', g6', g7', g8', g9', g10', g11', g12', g13', g14', g15', g16', a1', a2', a3', a4', a5', a6', a7', a8', a9', a10', a11', a12', a13', a14', a15', a16'⟩ := u1
        refine br_f (by decide) (tp_i_down hX I1 htd rfl hi (fun r u2 I2 => ?_))
        have := k68 u2 I2
        obtain ⟨g1'', g2'', g3'', g4'', g5'', g6'', g7'', g8'', g9'', g10'', g11'', g12'', g13'', g14'', g15'', g16'', a1'', a2'', a3'', a4'', a5'', a6'', a7'', a8'', a9'', a10'', a11'', a12'', a13'', a14'', a15'', a16''⟩ := u2
        exact this
      · rw [if_neg (fun w => x ⟨w.2, rfl, rfl⟩)] at hi
        have hi := Option.some.inj hi
        subst hi
        have := k68 u1 I1
        obtain ⟨g1', g2', g3', g4', g5', g6', g7', g8', g9', g10', g11', g12', g13', g14', g15', g16', a1', a2', a3', a4', a5', a6', a7', a8', a9', a10', a11', a12', a13', a14', a15', a16'⟩ := u1
        exact br_t rfl this
      · rw [if_neg (fun w => by rw [y] at w; exact absurd w.1 (by decide))] at hi
        have hi := Option.some.inj hi
        subst hi
        exact k68 _ I0
/-! crashes between the calls -/
def tp_xH (S : Nat) (H : Nat → Nat) : Nat → Nat := fun k => if H k ≠ 0 ∧ S.testBit (H k - 1) = true then 0 else H k
def tp_xW (S : Nat) (W : Nat → Nat → Bool) : Nat → Nat → Bool := fun j k => if S.testBit j = true then false else W j k
theorem tp_sp0 (sl : Nat) : tp_sp 0 sl = fun _ => false := by
  funext j
  unfold tp_sp
  simp
theorem tp_x_facts {O S : Nat} {H : Nat → Nat} {W : Nat → Nat → Bool} (hO : O < 8) (hS : S < 8) (hH : ∀ k, k < 12 → H k ≤ 3 ∧ (H k ≠ 0 → O.testBit (H k - 1) = true)) (hW : ∀ j, j < 4 → ∀ k, k < 12 → W j k = true → H k = j + 1) :
    (∀ k, k < 12 → tp_xH S H k ≤ 3 ∧ (tp_xH S H k ≠ 0 → (tp_clr O S).testBit (tp_xH S H k - 1) = true)) ∧ (∀ j, j < 4 → ∀ k, k < 12 → tp_xW S W j k = true → tp_xH S H k = j + 1) ∧ tp_clO S (fun _ => false) O 4 = tp_clr O S := by
  obtain ⟨c1, c2, c3⟩ := tp_clrS O hO S hS
  refine ⟨fun k hk => ?_, fun j hj k hk hw => ?_, ?_⟩
  · obtain ⟨h3, ho⟩ := hH k hk
    unfold tp_xH
    by_cases y : H k ≠ 0 ∧ S.testBit (H k - 1) = true
    · rw [if_pos y]
      exact ⟨by omega, fun z => absurd rfl z⟩
    · rw [if_neg y]
      refine ⟨h3, fun z => ?_⟩
      rw [c3 _ (by omega), ho z]
      cases h : S.testBit (H k - 1)
      · rfl
      · exact absurd ⟨z, h⟩ y
  · unfold tp_xW at hw
    by_cases y : S.testBit j = true
    · rw [if_pos y] at hw
      exact absurd hw (by decide)
    · rw [if_neg y] at hw
      have h0 := hW j hj k hk hw
      unfold tp_xH
      rw [if_neg (fun z => y (by rw [h0] at z; exact z.2))]
      exact h0
  · obtain ⟨q1, q2⟩ := tp_clO_ok (sp := fun _ => false) hS hO 4 (by omega)
    refine tp_bx q1 c2 (fun j hj => ?_)
    rw [q2 j hj, c3 j hj]
    simp [show j < 4 by omega]
theorem tp_x_D {S m : Nat} {H : Nat → Nat} {W : Nat → Nat → Bool} {G : Nat → Nat → Bool} {a8 a9 a11 a12 : Nat → Int32} (hH : ∀ k, k < 12 → H k ≤ 3) (D : tp_D (tp_clH S (fun _ => false) m 4 H) (tp_clW S (fun _ => false) m 4 W) (tp_clP S (fun _ => false) m 4 (fun _ _ => 0)) (tp_clG S (fun _ => false) m 4 G) a8 a9 a11 a12) : tp_D (tp_xH S H) (tp_xW S W) (fun _ _ => 0) G a8 a9 a11 a12 := by
  refine tp_D_c D (fun k hk => ?_) (fun j hj k hk => ?_) (fun j hj x hx => ?_) (fun j hj x hx => ?_)
  · have := hH k hk
    unfold tp_xH tp_clH
    simp [show H k ≤ 4 by omega]
  · unfold tp_xW tp_clW
    simp [hj]
  · unfold tp_clP
    simp
  · unfold tp_clG
    simp
theorem tp_k_crash {post : Int32 → St1 → Prop} {O cc nm : Nat} {H : Nat → Nat} {W : Nat → Nat → Bool} {b7 b10 : Nat → Int32} {u : St1} (hK : tp_K O cc nm H W b7 b10 u) {m : Nat} (hm : m < 3)
    (K : ∀ S, S < 8 → (∀ j, j < 3 → (S.testBit j = true ↔ ∃ k, k < 12 ∧ k % 3 = m ∧ H k = j + 1)) → ∀ u', tp_K (tp_clr O S) cc nm (tp_xH S H) (tp_xW S W) b7 b10 u' → post (nI (tp_clN S (fun _ => false) 4)) u') : wpX_crash post u (nI m) := by
  obtain ⟨g1, g2, g3, g4, g5, g6, g7, g8, g9, g10, g11, g12, g13, g14, g15, g16, a1, a2, a3, a4, a5, a6, a7, a8, a9, a10, a11, a12, a13, a14, a15, a16⟩ := u
  obtain ⟨hO, hnm', s1, s2, s5, s12, ⟨N0, hN0, s6⟩, ⟨sl, hsl, s7⟩, d10, d7, hH, hW, L, G, dL, hL, hS, dD, hG⟩ := hK
  refine br_f (nI_pos (by omega)) (pk_le m 3 (fun _ => pk_eq m 3 (fun y => absurd y (by omega)) (fun _ => ?_)) (fun y => absurd y (by omega)))
  refine tp_w_breakDown dD hm hO s1 (by omega) s2 (by omega) s7 (fun S hS8 hSb a8' a9' a11' a12' D => ?_)
  rw [tp_sp0] at D ⊢
  obtain ⟨x1, x2, x3⟩ := tp_x_facts hO hS8 hH hW
  rw [x3]
  have D2 := tp_x_D (fun k hk => (hH k hk).1) D
  obtain ⟨t0, t1, t2⟩ := hS m hm
  have hf : ∀ k, k < 12 → k % 3 = m → tp_rst m a1 a7 k = a1 k := by
    intro k hk hkm
    unfold tp_rst
    rw [if_pos ⟨hkm, hk⟩]
  have r2 : (tp_rp (L m) (L m) (tp_rst m a1 a7, 0)).2 = 0 := ((tp_rp_cong (k := m) (L m) (tp_rst m a1 a7, 0) (a1, 0) (hf m (by omega) (by omega)) rfl).2).trans t1
  have r1 : ∀ k, k < 12 → (tp_rp (L m) (L m) (tp_rst m a1 a7, 0)).1 k = b7 k := by
    intro k hk
    by_cases c : k % 3 = m
    · exact ((tp_rp_cong (k := k) (L m) (tp_rst m a1 a7, 0) (a1, 0) (hf k hk c) rfl).1).trans (t2 k hk c)
    · rw [tp_rp_other (fun e he h1 => by have := t0 e he h1; omega) (L m) (tp_rst m a1 a7, 0)]
      show tp_rst m a1 a7 k = _
      unfold tp_rst
      rw [if_neg (fun w => c w.1)]
      exact d7 k hk
  refine tp_w_comeBack dL hm (fun _ => K S hS8 hSb _ ?_) (fun w => absurd r2 w)
  obtain ⟨_, c2, c3⟩ := tp_clrS O hO S hS8
  refine ⟨c2, hnm', rfl, rfl, s5, s12, ⟨N0, hN0, s6⟩, ⟨sl, hsl, rfl⟩, d10, r1, x1, x2, L, G, dL, hL, hS, D2, fun j hj hjo x hx => ?_⟩
  rw [c3 j hj] at hjo
  simp at hjo
  exact hG j hj hjo.1 x hx
theorem tp_k_crash3 {post : Int32 → St1 → Prop} {O cc nm : Nat} {H : Nat → Nat} {W : Nat → Nat → Bool} {b7 b10 : Nat → Int32} {u : St1} (hK : tp_K O cc nm H W b7 b10 u) {p0 : Int32} (x0 : p0 = nI 3)
    (K : ∀ u', tp_K (tp_clr O O) cc nm (tp_xH O H) (tp_xW O W) b7 b10 u' → post (nI (tp_clN O (fun _ => false) 4)) u') : wpX_crash post u p0 := by
  subst x0
  obtain ⟨g1, g2, g3, g4, g5, g6, g7, g8, g9, g10, g11, g12, g13, g14, g15, g16, a1, a2, a3, a4, a5, a6, a7, a8, a9, a10, a11, a12, a13, a14, a15, a16⟩ := u
  obtain ⟨hO, hnm', s1, s2, s5, s12, ⟨N0, hN0, s6⟩, ⟨sl, hsl, s7⟩, d10, d7, hH, hW, L, G, dL, hL, hS, dD, hG⟩ := hK
  refine br_f (nI_pos (by omega)) (pk_le 3 3 (fun _ => pk_eq 3 3 (fun _ => ?_) (fun y => absurd rfl y)) (fun y => absurd y (by omega)))
  have main : ∀ de : Bool, (de = true → ∃ e, e ∈ L 3 ∧ e.1 = 5 ∧ e.2.1 = N0) → (de = false → ∀ e, e ∈ L 3 → ¬ (e.1 = 5 ∧ e.2.1 = N0)) → wpX_breakLeader post (g1, g2, g3, g4, g5, g6, g7, g8, g9, g10, g11, g12, g13, g14, g15, g16, a1, a2, a3, a4, a5, a6, a7, a8, a9, a10, a11, a12, a13, a14, a15, a16) := by
    intro de l1 l2
    refine tp_w_breakLeader dD dL hO s1 (by omega) s2 (by omega) s7 (N := N0) (by omega) s6 l1 l2 (fun _ a8' a9' a11' a12' D => ?_) (fun y => absurd rfl y)
    rw [tp_sp0] at D ⊢
    obtain ⟨x1, x2, x3⟩ := tp_x_facts hO hO hH hW
    rw [x3]
    have D2 := tp_x_D (fun k hk => (hH k hk).1) D
    obtain ⟨_, c2, c3⟩ := tp_clrS O hO O hO
    refine K _ ⟨c2, hnm', rfl, rfl, s5, s12, ⟨N0, hN0, rfl⟩, ⟨sl, hsl, rfl⟩, d10, d7, x1, x2, L, G, dL, hL, hS, D2, fun j hj hjo x hx => ?_⟩
    rw [c3 j hj] at hjo
    simp at hjo
  by_cases c : ∃ e, e ∈ L 3 ∧ e.1 = 5 ∧ e.2.1 = N0
  · exact main true (fun _ => c) (fun y => absurd y (by decide))
  · exact main false (fun y => absurd y (by decide)) (fun _ e he w => c ⟨e, he, w⟩)
theorem tp_k_begin {post : Int32 → St1 → Prop} {O cc nm : Nat} {H : Nat → Nat} {W : Nat → Nat → Bool} {b7 b10 : Nat → Int32} {u : St1} (hK : tp_K O cc nm H W b7 b10 u) {t : Nat} (ht : t < 3) (hlo : ∀ j, j < t → O.testBit j = true) (hbt : O.testBit t = false)
    (K : ∀ u', tp_K (O ||| 2 ^ t) cc nm H W b7 b10 u' → post (nI t) u') : wpX_begin post u := by
  obtain ⟨g1, g2, g3, g4, g5, g6, g7, g8, g9, g10, g11, g12, g13, g14, g15, g16, a1, a2, a3, a4, a5, a6, a7, a8, a9, a10, a11, a12, a13, a14, a15, a16⟩ := u
  obtain ⟨hO, hnm', s1, s2, s5, s12, s6, s7, d10, d7, hH, hW, L, G, dL, hL, hS, dD, hG⟩ := hK
  refine tp_w_begin dD ht hO s1 hlo hbt (fun a9' a11' a12' D => K _ ?_)
  obtain ⟨_, q2, q3⟩ := tp_set8 O hO t ht
  refine ⟨q2, hnm', rfl, s2, s5, s12, s6, s7, d10, d7, fun k hk => ⟨(hH k hk).1, fun y => ?_⟩, hW, L, (fun j x => if j = t then false else G j x), dL, hL, hS, tp_D_c D (fun _ _ => rfl) (fun j hj k hk => ?_) (fun j hj x hx => ?_) (fun _ _ _ _ => rfl), fun j hj hjo x hx => ?_⟩
  · have h3 := (hH k hk).1
    rw [q3 _ (by omega), (hH k hk).2 y]
    rfl
  · by_cases c : j = t
    · rw [if_pos c]
      cases h : W j k
      · rfl
      · have h0 := hW j hj k hk h
        have := (hH k hk).2 (by omega)
        rw [h0, show j + 1 - 1 = j by omega, c, hbt] at this
        exact absurd this (by decide)
    · rw [if_neg c]
  · split <;> rfl
  · rw [q3 j hj] at hjo
    by_cases c : j = t
    · simp [c]
    · simp [c] at hjo
      simp only [c, if_false]
      exact hG j hj hjo x hx
theorem tp_k_get {post : Int32 → St1 → Prop} {O cc nm : Nat} {H : Nat → Nat} {W : Nat → Nat → Bool} {b7 b10 : Nat → Int32} {u : St1} (hK : tp_K O cc nm H W b7 b10 u) {t k : Nat} (ht : t < 3) (hk : k < 12)
    (K0 : O.testBit t = false → post (-100000) u) (K1 : O.testBit t = true → H k ≠ 0 → H k ≠ t + 1 → post (-300000) u)
    (K2 : O.testBit t = true → (H k = 0 ∨ H k = t + 1) → ∀ u', tp_K O cc nm (tp_u H k (t + 1)) W b7 b10 u' → post (if W t k = true then b10 (t * 12 + k) else b7 k) u') : wpX_get post u (nI t) (nI k) := by
  obtain ⟨g1, g2, g3, g4, g5, g6, g7, g8, g9, g10, g11, g12, g13, g14, g15, g16, a1, a2, a3, a4, a5, a6, a7, a8, a9, a10, a11, a12, a13, a14, a15, a16⟩ := u
  obtain ⟨hO, hnm', s1, s2, s5, s12, s6, s7, d10, d7, hH, hW, L, G, dL, hL, hS, dD, hG⟩ := hK
  refine tp_w_get dD ht hk s1 K0 K1 (fun z y a8' D => ?_)
  rw [d10, d7 k hk]
  refine K2 z y _ ⟨hO, hnm', s1, s2, s5, s12, s6, s7, rfl, d7, fun x hx => ?_, fun j hj x hx w => ?_, L, G, dL, hL, hS, D, hG⟩
  · unfold tp_u
    by_cases c : x = k
    · rw [if_pos c]
      exact ⟨by omega, fun _ => z⟩
    · rw [if_neg c]
      exact hH x hx
  · have h0 := hW j hj x hx w
    unfold tp_u
    by_cases c : x = k
    · subst c
      rw [if_pos rfl]
      omega
    · rw [if_neg c]
      exact h0
theorem tp_k_put {post : Int32 → St1 → Prop} {O cc nm : Nat} {H : Nat → Nat} {W : Nat → Nat → Bool} {b7 b10 : Nat → Int32} {u : St1} (hK : tp_K O cc nm H W b7 b10 u) {t k n : Nat} (ht : t < 3) (hk : k < 12) (hn : n < 16)
    (K0 : O.testBit t = false → post (-100000) u) (K1 : O.testBit t = true → H k ≠ 0 → H k ≠ t + 1 → post (-300000) u)
    (K2 : O.testBit t = true → (H k = 0 ∨ H k = t + 1) → ∀ u', tp_K O cc nm (tp_u H k (t + 1)) (tp_wW W t k) b7 (upd b10 (t * 12 + k) (tp_z n)) u' → post (if W t k = true then b10 (t * 12 + k) else b7 k) u') : wpX_put post u (nI t) (nI k) (tp_z n) := by
  obtain ⟨g1, g2, g3, g4, g5, g6, g7, g8, g9, g10, g11, g12, g13, g14, g15, g16, a1, a2, a3, a4, a5, a6, a7, a8, a9, a10, a11, a12, a13, a14, a15, a16⟩ := u
  obtain ⟨hO, hnm', s1, s2, s5, s12, s6, s7, d10, d7, hH, hW, L, G, dL, hL, hS, dD, hG⟩ := hK
  refine tp_w_put dD ht hk hn s1 K0 K1 (fun z y a8' a9' D => ?_)
  rw [d10, d7 k hk]
  refine K2 z y _ ⟨hO, hnm', s1, s2, s5, s12, s6, s7, rfl, d7, fun x hx => ?_, fun j hj x hx w => ?_, L, G, dL, hL, hS, D, hG⟩
  · unfold tp_u
    by_cases c : x = k
    · rw [if_pos c]
      exact ⟨by omega, fun _ => z⟩
    · rw [if_neg c]
      exact hH x hx
  · unfold tp_wW at w
    unfold tp_u
    by_cases c : x = k
    · subst c
      rw [if_pos rfl]
      by_cases c2 : j = t
      · rw [c2]
      · rw [if_neg (fun q => c2 q.1)] at w
        have h0 := hW j hj x hx w
        omega
    · rw [if_neg c]
      rw [if_neg (fun q => c q.2)] at w
      exact hW j hj x hx w
theorem tp_k_peek {post : Int32 → Prop} {O cc nm : Nat} {H : Nat → Nat} {W : Nat → Nat → Bool} {b7 b10 : Nat → Int32} {u : St1} (hK : tp_K O cc nm H W b7 b10 u) {k : Nat} (hk : k < 12) (K : post (b7 k)) : wpX_peek post u (nI k) := by
  obtain ⟨g1, g2, g3, g4, g5, g6, g7, g8, g9, g10, g11, g12, g13, g14, g15, g16, a1, a2, a3, a4, a5, a6, a7, a8, a9, a10, a11, a12, a13, a14, a15, a16⟩ := u
  obtain ⟨hO, hnm', s1, s2, s5, s12, s6, s7, d10, d7, _⟩ := hK
  unfold wpX_peek
  refine tp_w_isKey hk (br_f (by decide) ⟨pk_in k 12 hk, ?_⟩)
  rw [nI_clamp (by omega), d7 k hk]
  exact K
theorem tp_k_holder {post : Int32 → Prop} {O cc nm : Nat} {H : Nat → Nat} {W : Nat → Nat → Bool} {b7 b10 : Nat → Int32} {u : St1} (hK : tp_K O cc nm H W b7 b10 u) {k : Nat} (hk : k < 12) (K : post (if H k = 0 then -200000 else tp_h (H k))) : wpX_holder post u (nI k) := by
  obtain ⟨g1, g2, g3, g4, g5, g6, g7, g8, g9, g10, g11, g12, g13, g14, g15, g16, a1, a2, a3, a4, a5, a6, a7, a8, a9, a10, a11, a12, a13, a14, a15, a16⟩ := u
  obtain ⟨hO, hnm', s1, s2, s5, s12, s6, s7, d10, d7, hH, hW, L, G, dL, hL, hS, dD, hG⟩ := hK
  obtain ⟨q1, q2⟩ := dD.1 k hk
  have ek : (nI k).toNatClampNeg = k := nI_clamp (by omega)
  unfold wpX_holder
  refine tp_w_isKey hk (br_f (by decide) ⟨pk_in k 12 hk, ek_if (d := H k = 0) (by rw [ek, q2]; exact tp_h_m1 _ q1) (fun z => ?_) (fun z => ⟨pk_in k 12 hk, ?_⟩)⟩)
  · rw [if_pos z] at K
    exact K
  · rw [if_neg z] at K
    rw [ek, q2]
    exact K
end
section
/-! the law's turn: the invariant of its loop, and each kind of turn -/
def tp_J (row : Int64) (O cc nm : Nat) (u : St1) : Prop := ∃ (H : Nat → Nat) (W : Nat → Nat → Bool) (b7 b10 : Nat → Int32) (n : Nat → Nat) (w : Nat → Bool) (s : Nat → Nat), tp_K O cc nm H W b7 b10 u ∧ (∀ k, 4 ≤ k → k < 12 → H k = 0) ∧ tp_R row n H w s ∧ ∀ k, k < 4 → b7 k = tp_z (n k) ∧ (H k ≠ 0 → w k = W (H k - 1) k ∧ tp_z (s k) = if w k = true then b10 ((H k - 1) * 12 + k) else b7 k)
def tp_N (J : (Int64 → Int32 → Int32 → Int32 → Int32 → Int32 → Int32 → Int32 → Int32 → Int32 → Int32 → Int32 → Int32 → Int32 → Int32 → Int32 → Int32 → Int32 → Int32 → Int32 → (Nat → Int32) → (Nat → Int32) → (Nat → Int32) → (Nat → Int32) → (Nat → Int32) → (Nat → Int32) → (Nat → Int32) → (Nat → Int32) → (Nat → Int32) → (Nat → Int32) → (Nat → Int32) → (Nat → Int32) → (Nat → Int32) → (Nat → Int32) → (Nat → Int32) → (Nat → Int32) → Prop)) (x6 : Int32) (nm : Nat) : Prop := ∀ row' O' cc' nm' u', tp_J row' O' cc' nm' u' → nm' ≤ nm + 1 → match u' with | (g1, g2, g3, g4, g5, g6, g7, g8, g9, g10, g11, g12, g13, g14, g15, g16, a1, a2, a3, a4, a5, a6, a7, a8, a9, a10, a11, a12, a13, a14, a15, a16) => J row' (nI O') (nI cc') (x6 + 1) g1 g2 g3 g4 g5 g6 g7 g8 g9 g10 g11 g12 g13 g14 g15 g16 a1 a2 a3 a4 a5 a6 a7 a8 a9 a10 a11 a12 a13 a14 a15 a16
theorem tp_h_ge : ∀ n, n ≤ 3 → (0 ≤ tp_h n ↔ n ≠ 0) := by decide +kernel
theorem tp_l_677 {post : Int32 → Prop} {L : Nat} {xs : Nat → Int32} {J : (Int64 → Int32 → Int32 → Int32 → Int32 → Int32 → Int32 → Int32 → Int32 → Int32 → Int32 → Int32 → Int32 → Int32 → Int32 → Int32 → Int32 → Int32 → Int32 → Int32 → (Nat → Int32) → (Nat → Int32) → (Nat → Int32) → (Nat → Int32) → (Nat → Int32) → (Nat → Int32) → (Nat → Int32) → (Nat → Int32) → (Nat → Int32) → (Nat → Int32) → (Nat → Int32) → (Nat → Int32) → (Nat → Int32) → (Nat → Int32) → (Nat → Int32) → (Nat → Int32) → Prop)} {row : Int64} {O cc nm nm0 : Nat} {x4 x5 x6 x16 x17 : Int32} {kc ks : Nat} {u : St1} (h : tp_J row O cc nm u) (hnm : nm ≤ nm0 + 1) (e : x16 = x17) (e4 : x4 = nI O) (e5 : x5 = nI cc) (K : tp_N J x6 nm0) : match u with | (g1, g2, g3, g4, g5, g6, g7, g8, g9, g10, g11, g12, g13, g14, g15, g16, a1, a2, a3, a4, a5, a6, a7, a8, a9, a10, a11, a12, a13, a14, a15, a16) => wL_law_677 post L xs J row x4 x5 x6 x16 x17 kc ks g1 g2 g3 g4 g5 g6 g7 g8 g9 g10 g11 g12 g13 g14 g15 g16 a1 a2 a3 a4 a5 a6 a7 a8 a9 a10 a11 a12 a13 a14 a15 a16 := by
  have hJ := h
  have k0 := K row O cc nm u hJ hnm
  obtain ⟨g1, g2, g3, g4, g5, g6, g7, g8, g9, g10, g11, g12, g13, g14, g15, g16, a1, a2, a3, a4, a5, a6, a7, a8, a9, a10, a11, a12, a13, a14, a15, a16⟩ := u
  obtain ⟨H, W, b7, b10, n, w, s, hK, hH4, hR, hC⟩ := h
  have g1e : g1 = nI O := hK.2.2.1
  have g12e : g12 = nI cc := hK.2.2.2.2.2.1
  subst e4 e5
  refine br_t e (br_t g1e (br_t g12e ?_))
  refine pk_loop (fun f i (_ : Unit) => wL_law_712 post L xs J row (nI O) (nI cc) x6 kc ks g1 g2 g3 g4 g5 g6 g7 g8 g9 g10 g11 g12 g13 g14 g15 g16 a1 a2 a3 a4 a5 a6 a7 a8 a9 a10 a11 a12 a13 a14 a15 a16 f 1 (nI i)) (fun _ _ => True) 4 0 () (by omega) trivial ?_ ?_
  · intro f _ _
    exact pk_le 4 4 (fun _ => br_f (by decide) (nm_e k0)) (fun z => absurd z (by omega))
  · intro f i _ hi _ hw
    obtain ⟨r1, r2, r3, _⟩ := hR i hi
    obtain ⟨c1, c2, c3, c4⟩ := tp_R_at hR hi
    have next := hw () trivial
    refine pk_le 4 i (fun z => absurd z (by omega)) (fun _ => br_f (by decide) (tp_k_peek hK (by omega) (br_t ?_ (tp_k_holder hK (by omega) ?_))))
    · exact ((hC i hi).1).trans c1.symm
    · refine ek_if (d := H i ≠ 0) ?_ (fun z => br_t ?_ (nm_r (nI_1 i) next)) (fun z => br_t ?_ (nm_r (nI_1 i) next))
      · show 0 ≤ ((tp_cell row (nI i) >>> ((4 : Int32) &&& 31)) &&& 3) - 1 ↔ _
        rw [c2]
        exact tp_h_ge _ r2
      · rw [if_neg z]
        exact c2.symm
      · rw [if_pos (by omega)]
/-! begin -/
theorem tp_and8 : ∀ O, O < 8 → ((nI O &&& 1 = 0 ↔ O.testBit 0 = false) ∧ (nI O &&& 2 = 0 ↔ O.testBit 1 = false) ∧ (nI O = 7 ↔ O = 7) ∧ (O ≠ 7 → O.testBit 0 = true → O.testBit 1 = true → O.testBit 2 = false)) := by decide +kernel
theorem tp_l_begin {post : Int32 → Prop} {L : Nat} {xs : Nat → Int32} {J : (Int64 → Int32 → Int32 → Int32 → Int32 → Int32 → Int32 → Int32 → Int32 → Int32 → Int32 → Int32 → Int32 → Int32 → Int32 → Int32 → Int32 → Int32 → Int32 → Int32 → (Nat → Int32) → (Nat → Int32) → (Nat → Int32) → (Nat → Int32) → (Nat → Int32) → (Nat → Int32) → (Nat → Int32) → (Nat → Int32) → (Nat → Int32) → (Nat → Int32) → (Nat → Int32) → (Nat → Int32) → (Nat → Int32) → (Nat → Int32) → (Nat → Int32) → (Nat → Int32) → Prop)} {row : Int64} {O cc nm : Nat} {x6 : Int32} {kc ks : Nat} {u : St1} (h : tp_J row O cc nm u) (h7 : O ≠ 7) (K : tp_N J x6 nm) :
    wpX_begin (fun r u => match u with | (g1, g2, g3, g4, g5, g6, g7, g8, g9, g10, g11, g12, g13, g14, g15, g16, a1, a2, a3, a4, a5, a6, a7, a8, a9, a10, a11, a12, a13, a14, a15, a16) => ((((nI O) &&& 1) = 0 → (wL_law_219 post L xs J row (nI O) (nI cc) x6 r 0 kc ks g1 g2 g3 g4 g5 g6 g7 g8 g9 g10 g11 g12 g13 g14 g15 g16 a1 a2 a3 a4 a5 a6 a7 a8 a9 a10 a11 a12 a13 a14 a15 a16)) ∧ (¬ ((nI O) &&& 1) = 0 → (((((nI O) &&& 2) = 0 → (wL_law_219 post L xs J row (nI O) (nI cc) x6 r 1 kc ks g1 g2 g3 g4 g5 g6 g7 g8 g9 g10 g11 g12 g13 g14 g15 g16 a1 a2 a3 a4 a5 a6 a7 a8 a9 a10 a11 a12 a13 a14 a15 a16)) ∧ (¬ ((nI O) &&& 2) = 0 → (wL_law_219 post L xs J row (nI O) (nI cc) x6 r 2 kc ks g1 g2 g3 g4 g5 g6 g7 g8 g9 g10 g11 g12 g13 g14 g15 g16 a1 a2 a3 a4 a5 a6 a7 a8 a9 a10 a11 a12 a13 a14 a15 a16))))))) u := by
  obtain ⟨H, W, b7, b10, n, w, s, hK, hH4, hR, hC⟩ := h
  have hO : O < 8 := by
    obtain ⟨g1, g2, g3, g4, g5, g6, g7, g8, g9, g10, g11, g12, g13, g14, g15, g16, a1, a2, a3, a4, a5, a6, a7, a8, a9, a10, a11, a12, a13, a14, a15, a16⟩ := u
    exact hK.1
  obtain ⟨q1, q2, q3, q4⟩ := tp_and8 O hO
  have fin : ∀ t, t < 3 → ∀ z0 : Int32, z0 = nI t → ∀ u', tp_K (O ||| 2 ^ t) cc nm H W b7 b10 u' → match u' with | (g1, g2, g3, g4, g5, g6, g7, g8, g9, g10, g11, g12, g13, g14, g15, g16, a1, a2, a3, a4, a5, a6, a7, a8, a9, a10, a11, a12, a13, a14, a15, a16) => wL_law_219 post L xs J row (nI O) (nI cc) x6 (nI t) z0 kc ks g1 g2 g3 g4 g5 g6 g7 g8 g9 g10 g11 g12 g13 g14 g15 g16 a1 a2 a3 a4 a5 a6 a7 a8 a9 a10 a11 a12 a13 a14 a15 a16 := by
    intro t ht z0 ez u' hK'
    subst ez
    have r := tp_l_677 (post := post) (L := L) (xs := xs) (J := J) (x6 := x6) (x16 := nI t) (x17 := nI t) (kc := kc) (ks := ks) (nm0 := nm) ⟨H, W, b7, b10, n, w, s, hK', hH4, hR, hC⟩ (by omega) rfl rfl rfl K
    obtain ⟨g1, g2, g3, g4, g5, g6, g7, g8, g9, g10, g11, g12, g13, g14, g15, g16, a1, a2, a3, a4, a5, a6, a7, a8, a9, a10, a11, a12, a13, a14, a15, a16⟩ := u'
    exact nm_r (tp_set8 O hO t ht).1 r
  by_cases b0 : O.testBit 0 = false
  · refine tp_k_begin hK (t := 0) (by omega) (fun j hj => absurd hj (by omega)) b0 (fun u' hK' => ?_)
    have := fin 0 (by omega) 0 rfl u' hK'
    obtain ⟨g1, g2, g3, g4, g5, g6, g7, g8, g9, g10, g11, g12, g13, g14, g15, g16, a1, a2, a3, a4, a5, a6, a7, a8, a9, a10, a11, a12, a13, a14, a15, a16⟩ := u'
    exact br_t (q1.mpr b0) this
  · by_cases b1 : O.testBit 1 = false
    · refine tp_k_begin hK (t := 1) (by omega) (fun j hj => ?_) b1 (fun u' hK' => ?_)
      · have : j = 0 := by omega
        subst this
        simpa using b0
      · have := fin 1 (by omega) 1 rfl u' hK'
        obtain ⟨g1, g2, g3, g4, g5, g6, g7, g8, g9, g10, g11, g12, g13, g14, g15, g16, a1, a2, a3, a4, a5, a6, a7, a8, a9, a10, a11, a12, a13, a14, a15, a16⟩ := u'
        exact br_f (fun z => b0 (q1.mp z)) (br_t (q2.mpr b1) this)
    · have b2 := q4 h7 (by simpa using b0) (by simpa using b1)
      refine tp_k_begin hK (t := 2) (by omega) (fun j hj => ?_) b2 (fun u' hK' => ?_)
      · have : j = 0 ∨ j = 1 := by omega
        rcases this with this | this
        · subst this
          simpa using b0
        · subst this
          simpa using b1
      · have := fin 2 (by omega) 2 rfl u' hK'
        obtain ⟨g1, g2, g3, g4, g5, g6, g7, g8, g9, g10, g11, g12, g13, g14, g15, g16, a1, a2, a3, a4, a5, a6, a7, a8, a9, a10, a11, a12, a13, a14, a15, a16⟩ := u'
        exact br_f (fun z => b0 (q1.mp z)) (br_f (fun z => b1 (q2.mp z)) this)
/-! crash -/
theorem tp_cntN : ∀ S, S < 8 → tp_clN S (fun _ => false) 4 = (if S.testBit 0 = true then 1 else 0) + (if S.testBit 1 = true then 1 else 0) + (if S.testBit 2 = true then 1 else 0) := by decide +kernel
theorem tp_l_644 {post : Int32 → Prop} {L : Nat} {xs : Nat → Int32} {J : (Int64 → Int32 → Int32 → Int32 → Int32 → Int32 → Int32 → Int32 → Int32 → Int32 → Int32 → Int32 → Int32 → Int32 → Int32 → Int32 → Int32 → Int32 → Int32 → Int32 → (Nat → Int32) → (Nat → Int32) → (Nat → Int32) → (Nat → Int32) → (Nat → Int32) → (Nat → Int32) → (Nat → Int32) → (Nat → Int32) → (Nat → Int32) → (Nat → Int32) → (Nat → Int32) → (Nat → Int32) → (Nat → Int32) → (Nat → Int32) → (Nat → Int32) → (Nat → Int32) → Prop)} {row : Int64} {O cc nm : Nat} {x6 x18 : Int32} {kc ks S : Nat} {u : St1} (h : tp_J row O cc nm u) (hS : S < 8)
    (hc : ∀ (H : Nat → Nat) (W : Nat → Nat → Bool) (b7 b10 : Nat → Int32) (n : Nat → Nat) (w : Nat → Bool) (s : Nat → Nat), tp_K O cc nm H W b7 b10 u → (∀ k, 4 ≤ k → k < 12 → H k = 0) → tp_R row n H w s → ∀ ps : Int32 → St1 → Prop, (∀ u', tp_K (tp_clr O S) cc nm (tp_xH S H) (tp_xW S W) b7 b10 u' → ps (nI (tp_clN S (fun _ => false) 4)) u') → wpX_crash ps u x18)
    (K : tp_N J x6 nm) : match u with | (g1, g2, g3, g4, g5, g6, g7, g8, g9, g10, g11, g12, g13, g14, g15, g16, a1, a2, a3, a4, a5, a6, a7, a8, a9, a10, a11, a12, a13, a14, a15, a16) => wL_law_644 post L xs J row (nI O) (nI cc) x6 x18 (nI S) kc ks g1 g2 g3 g4 g5 g6 g7 g8 g9 g10 g11 g12 g13 g14 g15 g16 a1 a2 a3 a4 a5 a6 a7 a8 a9 a10 a11 a12 a13 a14 a15 a16 := by
  obtain ⟨H, W, b7, b10, n, w, s, hK, hH4, hR, hC⟩ := h
  have hO : O < 8 := by
    obtain ⟨g1, g2, g3, g4, g5, g6, g7, g8, g9, g10, g11, g12, g13, g14, g15, g16, a1, a2, a3, a4, a5, a6, a7, a8, a9, a10, a11, a12, a13, a14, a15, a16⟩ := u
    exact hK.1
  have hc := hc H W b7 b10 n w s hK hH4 hR
  obtain ⟨g1, g2, g3, g4, g5, g6, g7, g8, g9, g10, g11, g12, g13, g14, g15, g16, a1, a2, a3, a4, a5, a6, a7, a8, a9, a10, a11, a12, a13, a14, a15, a16⟩ := u
  refine hc _ (fun u' hK' => ?_)
  have r : ∀ row', tp_R row' n (tp_kH S 3 H) (tp_kW S 3 H w) (tp_kS S 3 H s) → match u' with | (g1', g2', g3', g4', g5', g6', g7', g8', g9', g10', g11', g12', g13', g14', g15', g16', a1', a2', a3', a4', a5', a6', a7', a8', a9', a10', a11', a12', a13', a14', a15', a16') => wL_law_677 post L xs J row' (nI (tp_clr O S)) (nI cc) x6 (nI (tp_clN S (fun _ => false) 4)) (nI ((if S.testBit 0 = true then 1 else 0) + (if S.testBit 1 = true then 1 else 0) + (if S.testBit 2 = true then 1 else 0))) kc ks g1' g2' g3' g4' g5' g6' g7' g8' g9' g10' g11' g12' g13' g14' g15' g16' a1' a2' a3' a4' a5' a6' a7' a8' a9' a10' a11' a12' a13' a14' a15' a16' := by
    intro row' hR'
    refine tp_l_677 (O := tp_clr O S) (cc := cc) (nm := nm) (nm0 := nm) ⟨tp_xH S H, tp_xW S W, b7, b10, n, tp_kW S 3 H w, tp_kS S 3 H s, hK', ?_, tp_R_c hR' (fun k hk => ⟨rfl, ?_, rfl, rfl⟩), fun k hk => ⟨(hC k hk).1, fun hz => ?_⟩⟩ (by omega) (by rw [tp_cntN S hS]) rfl rfl K
    · intro k h1 h2
      unfold tp_xH
      rw [hH4 k h1 h2]
      simp
    · have := (hR k hk).2.1
      unfold tp_xH tp_kH
      simp [this]
    · have h3 := (hR k hk).2.1
      have hx : ¬ (H k ≠ 0 ∧ S.testBit (H k - 1) = true) := by
        intro y
        unfold tp_xH at hz
        rw [if_pos y] at hz
        exact hz rfl
      have ex : tp_xH S H k = H k := if_neg hx
      rw [ex] at hz ⊢
      have hb : S.testBit (H k - 1) = false := by
        cases hh : S.testBit (H k - 1)
        · rfl
        · exact absurd ⟨hz, hh⟩ hx
      have n1 : ¬ (H k ≠ 0 ∧ H k ≤ 3 ∧ S.testBit (H k - 1) = true) := fun y => hx ⟨y.1, y.2.2⟩
      have e1 : tp_kW S 3 H w k = w k := if_neg n1
      have e2 : tp_kS S 3 H s k = s k := if_neg n1
      have e3 : tp_xW S W (H k - 1) k = W (H k - 1) k := if_neg (by rw [hb]; decide)
      rw [e1, e2, e3]
      exact (hC k hk).2 hz
  obtain ⟨g1', g2', g3', g4', g5', g6', g7', g8', g9', g10', g11', g12', g13', g14', g15', g16', a1', a2', a3', a4', a5', a6', a7', a8', a9', a10', a11', a12', a13', a14', a15', a16'⟩ := u'
  show wpL_cleared _ () row (nI S)
  refine tp_w_cleared hR (fun row' hR' => nm_r (tp_clrS O hO S hS).1 ?_)
  rw [tp_ones S hS]
  exact r row' hR'
theorem tp_l_crash {post : Int32 → Prop} {L : Nat} {xs : Nat → Int32} {J : (Int64 → Int32 → Int32 → Int32 → Int32 → Int32 → Int32 → Int32 → Int32 → Int32 → Int32 → Int32 → Int32 → Int32 → Int32 → Int32 → Int32 → Int32 → Int32 → Int32 → (Nat → Int32) → (Nat → Int32) → (Nat → Int32) → (Nat → Int32) → (Nat → Int32) → (Nat → Int32) → (Nat → Int32) → (Nat → Int32) → (Nat → Int32) → (Nat → Int32) → (Nat → Int32) → (Nat → Int32) → (Nat → Int32) → (Nat → Int32) → (Nat → Int32) → (Nat → Int32) → Prop)} {row : Int64} {O cc nm m : Nat} {x6 : Int32} {kc ks : Nat} {g1 g2 g3 g4 g5 g6 g7 g8 g9 g10 g11 g12 g13 g14 g15 g16 : Int32} {a1 a2 a3 a4 a5 a6 a7 a8 a9 a10 a11 a12 a13 a14 a15 a16 : Nat → Int32} (h : tp_J row O cc nm (g1, g2, g3, g4, g5, g6, g7, g8, g9, g10, g11, g12, g13, g14, g15, g16, a1, a2, a3, a4, a5, a6, a7, a8, a9, a10, a11, a12, a13, a14, a15, a16)) (hm : m < 4) (K : tp_N J x6 nm) :
    ((nI m = 3 → (wL_law_644 post L xs J row (nI O) (nI cc) x6 (nI m) (nI O) kc ks g1 g2 g3 g4 g5 g6 g7 g8 g9 g10 g11 g12 g13 g14 g15 g16 a1 a2 a3 a4 a5 a6 a7 a8 a9 a10 a11 a12 a13 a14 a15 a16)) ∧ (¬ nI m = 3 → (wpL_on (fun r => (wL_law_644 post L xs J row (nI O) (nI cc) x6 (nI m) r kc ks g1 g2 g3 g4 g5 g6 g7 g8 g9 g10 g11 g12 g13 g14 g15 g16 a1 a2 a3 a4 a5 a6 a7 a8 a9 a10 a11 a12 a13 a14 a15 a16)) () row (nI m)))) := by
  have hJ := h
  obtain ⟨H, W, b7, b10, n, w, s, hK, hH4, hR, hC⟩ := h
  have hO : O < 8 := hK.1
  refine pk_eq m 3 (fun z => ?_) (fun z => ?_)
  · subst z
    exact tp_l_644 hJ hO (fun H W b7 b10 n w s hK _ _ ps hp => tp_k_crash3 hK rfl hp) K
  · refine tp_w_on hR (by omega) (fun S hS hSb => ?_)
    refine tp_l_644 (u := (g1, g2, g3, g4, g5, g6, g7, g8, g9, g10, g11, g12, g13, g14, g15, g16, a1, a2, a3, a4, a5, a6, a7, a8, a9, a10, a11, a12, a13, a14, a15, a16)) hJ hS (fun H' W' b7' b10' n' w' s' hK' hH4' hR' ps hp => tp_k_crash hK' (by omega) (fun S' hS' hSb' u' hu' => ?_)) K
    have hd : ∀ k, k < 4 → H k = H' k := by
      intro k hk
      obtain ⟨p1, p2, p3, p4⟩ := hR k hk
      obtain ⟨p1', p2', p3', p4'⟩ := hR' k hk
      have e1 := (tp_R_at hR hk).2.1
      have e2 := (tp_R_at hR' hk).2.1
      have e3 : tp_h (H k) = tp_h (H' k) := e1.symm.trans e2
      by_cases y : H' k = 0
      · rw [y]
        exact (tp_h_m1 _ p2).mp (by rw [e3, y]; decide)
      · rw [tp_h_nI y] at e3
        have := (tp_h_eq _ p2 (H' k - 1) (by omega)).mp e3
        omega
    have e : S' = S := by
      refine tp_bx hS' hS (fun j hj => ?_)
      have : (S'.testBit j = true) = (S.testBit j = true) := by
        apply propext
        rw [hSb' j hj, hSb j hj]
        constructor
        · rintro ⟨k, y1, y2, y3⟩
          by_cases y4 : k < 4
          · exact ⟨k, y4, y2, by rw [hd k y4]; exact y3⟩
          · have := hH4' k (by omega) y1
            omega
        · rintro ⟨k, y1, y2, y3⟩
          exact ⟨k, by omega, y2, by rw [← hd k y1]; exact y3⟩
      cases h1 : S'.testBit j <;> cases h2 : S.testBit j <;> simp_all
    subst e
    exact hp u' hu'
end
section
/-! get and put -/
theorem tp_bo_0 (b : Bool) : tp_bo b = 0 ↔ b = false := by
  cases b <;> decide
theorem tp_l_315 {post : Int32 → Prop} {L : Nat} {xs : Nat → Int32} {J : (Int64 → Int32 → Int32 → Int32 → Int32 → Int32 → Int32 → Int32 → Int32 → Int32 → Int32 → Int32 → Int32 → Int32 → Int32 → Int32 → Int32 → Int32 → Int32 → Int32 → (Nat → Int32) → (Nat → Int32) → (Nat → Int32) → (Nat → Int32) → (Nat → Int32) → (Nat → Int32) → (Nat → Int32) → (Nat → Int32) → (Nat → Int32) → (Nat → Int32) → (Nat → Int32) → (Nat → Int32) → (Nat → Int32) → (Nat → Int32) → (Nat → Int32) → (Nat → Int32) → Prop)} {row : Int64} {t k kc ks : Nat} {x4 x5 x6 x13 x14 x15 x16 x17 x18 : Int32} {n H : Nat → Nat} {w : Nat → Bool} {s : Nat → Nat} {g1 g2 g3 g4 g5 g6 g7 g8 g9 g10 g11 g12 g13 g14 g15 g16 : Int32} {a1 a2 a3 a4 a5 a6 a7 a8 a9 a10 a11 a12 a13 a14 a15 a16 : Nat → Int32} (hR : tp_R row n H w s) (ht : t < 3) (hk : k < 4) (wr : Bool)
    (G : ∀ b : Bool, (b = true ↔ (wr = true ∨ (H k = t + 1 ∧ w k = true))) → wL_law_348 post L xs J row x4 x5 x6 (nI t) (nI k) (tp_cell row (nI k)) x13 x14 x15 x16 x17 x18 (tp_bo wr) (tp_bo b) kc ks g1 g2 g3 g4 g5 g6 g7 g8 g9 g10 g11 g12 g13 g14 g15 g16 a1 a2 a3 a4 a5 a6 a7 a8 a9 a10 a11 a12 a13 a14 a15 a16) :
    wL_law_315 post L xs J row x4 x5 x6 (nI t) (nI k) (tp_cell row (nI k)) x13 x14 x15 x16 x18 (tp_bo wr) x17 kc ks g1 g2 g3 g4 g5 g6 g7 g8 g9 g10 g11 g12 g13 g14 g15 g16 a1 a2 a3 a4 a5 a6 a7 a8 a9 a10 a11 a12 a13 a14 a15 a16 := by
  obtain ⟨r1, r2, r3, _⟩ := hR k hk
  obtain ⟨c1, c2, c3, c4⟩ := tp_R_at hR hk
  cases wr
  · refine br_t rfl (ek_if (d := H k = t + 1) (by rw [c2]; exact tp_h_eq _ r2 _ (by omega)) (fun z => ek_if c4 (fun y => G true (by simp [z, y])) (fun y => G false (by simp [y]))) (fun z => G false (by simp [z])))
  · exact br_f (by decide) (G true (by simp))
theorem tp_l_gp {post : Int32 → Prop} {L : Nat} {xs : Nat → Int32} {J : (Int64 → Int32 → Int32 → Int32 → Int32 → Int32 → Int32 → Int32 → Int32 → Int32 → Int32 → Int32 → Int32 → Int32 → Int32 → Int32 → Int32 → Int32 → Int32 → Int32 → (Nat → Int32) → (Nat → Int32) → (Nat → Int32) → (Nat → Int32) → (Nat → Int32) → (Nat → Int32) → (Nat → Int32) → (Nat → Int32) → (Nat → Int32) → (Nat → Int32) → (Nat → Int32) → (Nat → Int32) → (Nat → Int32) → (Nat → Int32) → (Nat → Int32) → (Nat → Int32) → Prop)} {row : Int64} {O cc nm t k nn kc ks : Nat} {x6 x13 x14 x15 x18 : Int32} {H : Nat → Nat} {W : Nat → Nat → Bool} {b7 b10 : Nat → Int32} {n : Nat → Nat} {w : Nat → Bool} {s : Nat → Nat} {g1 g2 g3 g4 g5 g6 g7 g8 g9 g10 g11 g12 g13 g14 g15 g16 : Int32} {a1 a2 a3 a4 a5 a6 a7 a8 a9 a10 a11 a12 a13 a14 a15 a16 : Nat → Int32}
    (hK : tp_K O cc nm H W b7 b10 (g1, g2, g3, g4, g5, g6, g7, g8, g9, g10, g11, g12, g13, g14, g15, g16, a1, a2, a3, a4, a5, a6, a7, a8, a9, a10, a11, a12, a13, a14, a15, a16)) (hH4 : ∀ k, 4 ≤ k → k < 12 → H k = 0) (hR : tp_R row n H w s) (hC : ∀ k, k < 4 → b7 k = tp_z (n k) ∧ (H k ≠ 0 → w k = W (H k - 1) k ∧ tp_z (s k) = if w k = true then b10 ((H k - 1) * 12 + k) else b7 k))
    (ht : t < 3) (hk : k < 4) (hn : nn < 16) (e13 : x13 = 0 ↔ O.testBit t = false) (e14 : x14 = 0 ↔ (H k = 0 ∨ H k = t + 1)) (e15 : x15 = tp_z (if H k = t + 1 then s k else n k)) (e18 : x18 = tp_z nn) (wr : Bool) (K : tp_N J x6 nm) :
    wL_law_263 post L xs J row (nI O) (nI cc) x6 (nI t) (nI k) (tp_cell row (nI k)) x13 x14 x15 x18 (tp_bo wr) kc ks g1 g2 g3 g4 g5 g6 g7 g8 g9 g10 g11 g12 g13 g14 g15 g16 a1 a2 a3 a4 a5 a6 a7 a8 a9 a10 a11 a12 a13 a14 a15 a16 := by
  have hJ : tp_J row O cc nm (g1, g2, g3, g4, g5, g6, g7, g8, g9, g10, g11, g12, g13, g14, g15, g16, a1, a2, a3, a4, a5, a6, a7, a8, a9, a10, a11, a12, a13, a14, a15, a16) := ⟨H, W, b7, b10, n, w, s, hK, hH4, hR, hC⟩
  have hW : ∀ j, j < 4 → ∀ k, k < 12 → W j k = true → H k = j + 1 := hK.2.2.2.2.2.2.2.2.2.2.2.1
  obtain ⟨r1, r2, r3, _⟩ := hR k hk
  obtain ⟨c1, c2, c3, c4⟩ := tp_R_at hR hk
  -- nothing is done
  have no : ∀ got : Int32, (O.testBit t = false ∧ got = -100000) ∨ (O.testBit t = true ∧ H k ≠ 0 ∧ H k ≠ t + 1 ∧ got = -300000) → wL_law_291 post L xs J row (nI O) (nI cc) x6 (nI t) (nI k) (tp_cell row (nI k)) x13 x14 x15 x18 (tp_bo wr) got kc ks g1 g2 g3 g4 g5 g6 g7 g8 g9 g10 g11 g12 g13 g14 g15 g16 a1 a2 a3 a4 a5 a6 a7 a8 a9 a10 a11 a12 a13 a14 a15 a16 := by
    intro got hg
    have r := fun (x17 : Int32) (e : got = x17) => tp_l_677 (post := post) (L := L) (xs := xs) (J := J) (x6 := x6) (x16 := got) (x17 := x17) (kc := kc) (ks := ks) (nm0 := nm) hJ (by omega) e rfl rfl K
    rcases hg with ⟨y1, y2⟩ | ⟨y1, y2, y3, y4⟩
    · have z13 := e13.mpr y1
      exact br_t z13 (tp_l_315 hR ht hk wr (fun b _ => br_t z13 (r (-100000) y2)))
    · have z13 : ¬ x13 = 0 := fun z => by rw [e13.mp z] at y1; exact absurd y1 (by decide)
      have z14 : ¬ x14 = 0 := fun z => by
        rcases e14.mp z with y | y
        · exact y2 y
        · exact y3 y
      exact br_f z13 (br_f z14 (tp_l_315 hR ht hk wr (fun b _ => br_f z13 (br_f z14 (r (-300000) y4)))))
  have eW : (H k = 0 ∨ H k = t + 1) → (if W t k = true then b10 (t * 12 + k) else b7 k) = x15 := by
    intro y
    rw [e15]
    by_cases y1 : H k = t + 1
    · obtain ⟨q1, q2⟩ := (hC k hk).2 (by omega)
      rw [y1, show t + 1 - 1 = t by omega] at q1 q2
      rw [if_pos y1, q2, q1]
    · rw [if_neg y1, if_neg (fun z => y1 (hW t (by omega) k (by omega) z))]
      exact (hC k hk).1
  have hc16 : (if H k = t + 1 then s k else n k) < 16 := by
    split <;> assumption
  cases wr
  · refine br_t rfl (tp_k_get hK ht (by omega) (fun z => no _ (Or.inl ⟨z, rfl⟩)) (fun z y1 y2 => no _ (Or.inr ⟨z, y1, y2, rfl⟩)) (fun z y u' hK' => ?_))
    obtain ⟨g1', g2', g3', g4', g5', g6', g7', g8', g9', g10', g11', g12', g13', g14', g15', g16', a1', a2', a3', a4', a5', a6', a7', a8', a9', a10', a11', a12', a13', a14', a15', a16'⟩ := u'
    have z13 : ¬ x13 = 0 := fun x => by rw [e13.mp x] at z; exact absurd z (by decide)
    have z14 : x14 = 0 := e14.mpr y
    refine br_f z13 (br_t z14 (tp_l_315 hR ht hk false (fun b hb => br_f z13 (br_t z14 (br_t rfl (tp_w_with hR b (k := k) (a := n k) (b := t + 1) (d := if H k = t + 1 then s k else n k) hk r1 (by omega) hc16 c1 (tp_h_s t).symm rfl e15 (fun row' hR' => ?_)))))))
    refine tp_l_677 (u := (g1', g2', g3', g4', g5', g6', g7', g8', g9', g10', g11', g12', g13', g14', g15', g16', a1', a2', a3', a4', a5', a6', a7', a8', a9', a10', a11', a12', a13', a14', a15', a16')) (nm := nm) (nm0 := nm) ⟨_, W, b7, b10, _, _, _, hK', fun x h1 h2 => ?_, hR', fun x hx => ⟨?_, fun hz => ?_⟩⟩ (by omega) (eW y) rfl rfl K
    · unfold tp_u
      rw [if_neg (by omega)]
      exact hH4 x h1 h2
    · unfold tp_u
      by_cases c : x = k
      · rw [if_pos c, c]
        exact (hC k hk).1
      · rw [if_neg c]
        exact (hC x hx).1
    · by_cases c : x = k
      · subst c
        have u1 : tp_u H x (t + 1) x = t + 1 := if_pos rfl
        have u2 : tp_u w x b x = b := if_pos rfl
        have u3 : tp_u s x (if H x = t + 1 then s x else n x) x = if H x = t + 1 then s x else n x := if_pos rfl
        rw [u1, u2, u3, show t + 1 - 1 = t by omega, ← e15, ← eW y]
        have eb : b = W t x := by
          by_cases y1 : H x = t + 1
          · obtain ⟨q1, _⟩ := (hC x hx).2 (by omega)
            rw [y1, show t + 1 - 1 = t by omega] at q1
            cases hb1 : b <;> cases hw1 : W t x <;> simp_all
          · have w0 : W t x = false := by
              cases hw1 : W t x
              · rfl
              · exact absurd (hW t (by omega) x (by omega) hw1) y1
            rw [w0]
            cases hb1 : b <;> simp_all
        rw [eb]
        exact ⟨rfl, rfl⟩
      · have u1 : tp_u H k (t + 1) x = H x := if_neg c
        have u2 : tp_u w k b x = w x := if_neg c
        have u3 : tp_u s k (if H k = t + 1 then s k else n k) x = s x := if_neg c
        rw [u1] at hz ⊢
        rw [u2, u3]
        exact (hC x hx).2 hz
  · subst e18
    refine br_f (by decide) (tp_k_put hK ht (by omega) hn (fun z => no _ (Or.inl ⟨z, rfl⟩)) (fun z y1 y2 => no _ (Or.inr ⟨z, y1, y2, rfl⟩)) (fun z y u' hK' => ?_))
    obtain ⟨g1', g2', g3', g4', g5', g6', g7', g8', g9', g10', g11', g12', g13', g14', g15', g16', a1', a2', a3', a4', a5', a6', a7', a8', a9', a10', a11', a12', a13', a14', a15', a16'⟩ := u'
    have z13 : ¬ x13 = 0 := fun x => by rw [e13.mp x] at z; exact absurd z (by decide)
    have z14 : x14 = 0 := e14.mpr y
    refine br_f z13 (br_t z14 (tp_l_315 hR ht hk true (fun b hb => br_f z13 (br_t z14 (br_f (by decide) (tp_w_with hR b (k := k) (a := n k) (b := t + 1) (d := nn) hk r1 (by omega) hn c1 (tp_h_s t).symm rfl rfl (fun row' hR' => ?_)))))))
    have hb : b = true := hb.mpr (Or.inl rfl)
    subst hb
    refine tp_l_677 (u := (g1', g2', g3', g4', g5', g6', g7', g8', g9', g10', g11', g12', g13', g14', g15', g16', a1', a2', a3', a4', a5', a6', a7', a8', a9', a10', a11', a12', a13', a14', a15', a16')) (nm := nm) (nm0 := nm) ⟨_, _, b7, _, _, _, _, hK', fun x h1 h2 => ?_, hR', fun x hx => ⟨?_, fun hz => ?_⟩⟩ (by omega) (eW y) rfl rfl K
    · unfold tp_u
      rw [if_neg (by omega)]
      exact hH4 x h1 h2
    · unfold tp_u
      by_cases c : x = k
      · rw [if_pos c, c]
        exact (hC k hk).1
      · rw [if_neg c]
        exact (hC x hx).1
    · by_cases c : x = k
      · subst c
        have u1 : tp_u H x (t + 1) x = t + 1 := if_pos rfl
        have u2 : tp_u w x true x = true := if_pos rfl
        have u3 : tp_u s x nn x = nn := if_pos rfl
        have u4 : tp_wW W t x t x = true := if_pos ⟨rfl, rfl⟩
        rw [u1, u2, u3, show t + 1 - 1 = t by omega, u4, if_pos rfl, pk_us]
        exact ⟨rfl, rfl⟩
      · have u1 : tp_u H k (t + 1) x = H x := if_neg c
        have u2 : tp_u w k true x = w x := if_neg c
        have u3 : tp_u s k nn x = s x := if_neg c
        have u4 : ∀ j, tp_wW W t k j x = W j x := fun j => if_neg (fun z => c z.2)
        rw [u1] at hz ⊢
        rw [u2, u3, u4, pk_un (by omega)]
        exact (hC x hx).2 hz
/-! commit -/
theorem tp_l_c0 {post : Int32 → Prop} {L : Nat} {xs : Nat → Int32} {J : (Int64 → Int32 → Int32 → Int32 → Int32 → Int32 → Int32 → Int32 → Int32 → Int32 → Int32 → Int32 → Int32 → Int32 → Int32 → Int32 → Int32 → Int32 → Int32 → Int32 → (Nat → Int32) → (Nat → Int32) → (Nat → Int32) → (Nat → Int32) → (Nat → Int32) → (Nat → Int32) → (Nat → Int32) → (Nat → Int32) → (Nat → Int32) → (Nat → Int32) → (Nat → Int32) → (Nat → Int32) → (Nat → Int32) → (Nat → Int32) → (Nat → Int32) → (Nat → Int32) → Prop)} {row : Int64} {O cc nm t td tr kc ks : Nat} {x6 x13 z0 : Int32} {g1 g2 g3 g4 g5 g6 g7 g8 g9 g10 g11 g12 g13 g14 g15 g16 : Int32} {a1 a2 a3 a4 a5 a6 a7 a8 a9 a10 a11 a12 a13 a14 a15 a16 : Nat → Int32} (hJ : tp_J row O cc nm (g1, g2, g3, g4, g5, g6, g7, g8, g9, g10, g11, g12, g13, g14, g15, g16, a1, a2, a3, a4, a5, a6, a7, a8, a9, a10, a11, a12, a13, a14, a15, a16)) (htd : td < 3) (htr : tr < 8) (e13 : x13 = 0) (K : tp_N J x6 nm) :
    wL_law_456 post L xs J row (nI O) (nI cc) x6 (nI t) (nI td) x13 (-100000) (nI tr) z0 kc ks g1 g2 g3 g4 g5 g6 g7 g8 g9 g10 g11 g12 g13 g14 g15 g16 a1 a2 a3 a4 a5 a6 a7 a8 a9 a10 a11 a12 a13 a14 a15 a16 := by
  have hJ' := hJ
  obtain ⟨H, W, b7, b10, n, w, s, hK, hH4, hR, hC⟩ := hJ
  have r := tp_l_677 (post := post) (L := L) (xs := xs) (J := J) (x6 := x6) (x16 := -100000) (x17 := -100000) (kc := kc) (ks := ks) (nm0 := nm) hJ' (by omega) rfl rfl rfl K
  have c551 : ∀ hit : Int32, wL_law_551 post L xs J row (nI O) (nI cc) x6 (nI t) x13 (-100000) (-100000) z0 hit kc ks g1 g2 g3 g4 g5 g6 g7 g8 g9 g10 g11 g12 g13 g14 g15 g16 a1 a2 a3 a4 a5 a6 a7 a8 a9 a10 a11 a12 a13 a14 a15 a16 := fun hit => br_t e13 (br_t e13 (br_t e13 r))
  have c541 : wL_law_541 post L xs J row (nI O) (nI cc) x6 (nI t) (nI td) x13 (-100000) (-100000) z0 kc ks g1 g2 g3 g4 g5 g6 g7 g8 g9 g10 g11 g12 g13 g14 g15 g16 a1 a2 a3 a4 a5 a6 a7 a8 a9 a10 a11 a12 a13 a14 a15 a16 := tp_w_on hR htd (fun S _ _ => c551 _)
  exact br_t e13 (br_t e13 (pk_eq tr 2 (fun _ => c551 _) (fun _ => pk_eq tr 3 (fun _ => c551 _) (fun _ => pk_eq tr 1 (fun _ => c541) (fun _ => pk_eq tr 4 (fun _ => c541) (fun _ => pk_eq tr 5 (fun _ => c541) (fun _ => c551 _)))))))
theorem tp_b7t : ∀ j, j < 3 → (7 : Nat).testBit j = true := by decide +kernel
theorem tp_l_c1 {post : Int32 → Prop} {L : Nat} {xs : Nat → Int32} {J : (Int64 → Int32 → Int32 → Int32 → Int32 → Int32 → Int32 → Int32 → Int32 → Int32 → Int32 → Int32 → Int32 → Int32 → Int32 → Int32 → Int32 → Int32 → Int32 → Int32 → (Nat → Int32) → (Nat → Int32) → (Nat → Int32) → (Nat → Int32) → (Nat → Int32) → (Nat → Int32) → (Nat → Int32) → (Nat → Int32) → (Nat → Int32) → (Nat → Int32) → (Nat → Int32) → (Nat → Int32) → (Nat → Int32) → (Nat → Int32) → (Nat → Int32) → (Nat → Int32) → Prop)} {row : Int64} {O cc nm t td tr kc ks Bm : Nat} {x6 x13 got : Int32} {H : Nat → Nat} {W : Nat → Nat → Bool} {b7 b10 : Nat → Int32} {n : Nat → Nat} {w : Nat → Bool} {s : Nat → Nat} {back : Bool} {g1 g2 g3 g4 g5 g6 g7 g8 g9 g10 g11 g12 g13 g14 g15 g16 : Int32} {a1 a2 a3 a4 a5 a6 a7 a8 a9 a10 a11 a12 a13 a14 a15 a16 : Nat → Int32}
    (hO : O < 8) (hH : ∀ k, k < 12 → H k ≤ 3 ∧ (H k ≠ 0 → O.testBit (H k - 1) = true)) (hW : ∀ j, j < 4 → ∀ k, k < 12 → W j k = true → H k = j + 1)
    (hH4 : ∀ k, 4 ≤ k → k < 12 → H k = 0) (hR : tp_R row n H w s) (hC : ∀ k, k < 4 → b7 k = tp_z (n k) ∧ (H k ≠ 0 → w k = W (H k - 1) k ∧ tp_z (s k) = if w k = true then b10 ((H k - 1) * 12 + k) else b7 k))
    (ht : t < 3) (htd : td < 3) (htr : tr < 8) (e13 : ¬ x13 = 0) (hBm : Bm < 8) (B1 : (tr = 2 ∨ tr = 3) → ∀ j, j < 3 → (Bm.testBit j = true ↔ (j ≠ t ∧ O.testBit j = true))) (B2 : (tr = 1 ∨ tr = 4 ∨ tr = 5) → ∀ j, j < 3 → (Bm.testBit j = true ↔ (j ≠ t ∧ ∃ k, k < 12 ∧ k % 3 = td ∧ H k = j + 1))) (B3 : ¬ (tr = 1 ∨ tr = 2 ∨ tr = 3 ∨ tr = 4 ∨ tr = 5) → Bm = 0)
    (hK : tp_K (tp_clr (tp_clr O Bm) (2 ^ t)) (cc + (if back = true then 0 else 1)) (nm + 1) (tp_fH t Bm H) (tp_fW t Bm W) (tp_f7 t (!back) W b7 b10) b10 (g1, g2, g3, g4, g5, g6, g7, g8, g9, g10, g11, g12, g13, g14, g15, g16, a1, a2, a3, a4, a5, a6, a7, a8, a9, a10, a11, a12, a13, a14, a15, a16)) (eg : got = if back = true then 0 else 1) (K : tp_N J x6 nm) :
    wL_law_456 post L xs J row (nI O) (nI cc) x6 (nI t) (nI td) x13 got (nI tr) (tp_bo back) kc ks g1 g2 g3 g4 g5 g6 g7 g8 g9 g10 g11 g12 g13 g14 g15 g16 a1 a2 a3 a4 a5 a6 a7 a8 a9 a10 a11 a12 a13 a14 a15 a16 := by
  have c551 : ∀ row1, tp_R row1 (tp_eN t (!back) 4 n H w s) (tp_eH t 4 H) (tp_eW t 4 H w) (tp_eS t 4 H s) → ∀ hit, hit < 8 → (∀ j, j < 3 → j ≠ t → O.testBit j = true → hit.testBit j = Bm.testBit j) → ∀ x20 : Int32, x20 = nI hit → ∀ due : Int32, due = (if back = true then 0 else 1) →
      wL_law_551 post L xs J row1 (nI O) (nI cc) x6 (nI t) x13 got due (tp_bo back) x20 kc ks g1 g2 g3 g4 g5 g6 g7 g8 g9 g10 g11 g12 g13 g14 g15 g16 a1 a2 a3 a4 a5 a6 a7 a8 a9 a10 a11 a12 a13 a14 a15 a16 := by
    intro row1 hR1 hit hh8 hh x20 e20 due ed
    subst e20
    refine br_f e13 (tp_w_cleared hR1 (fun row2 hR2 => br_f e13 (br_f e13 ?_)))
    obtain ⟨p1, p2, p3⟩ := tp_clrS O hO hit hh8
    obtain ⟨p4, p5, p6⟩ := tp_clr8 _ p2 t ht
    obtain ⟨_, m2, m3⟩ := tp_clrS O hO Bm hBm
    obtain ⟨_, m5, m6⟩ := tp_clr8 _ m2 t ht
    have eO : tp_clr (tp_clr O hit) (2 ^ t) = tp_clr (tp_clr O Bm) (2 ^ t) := by
      refine tp_bx p5 m5 (fun j hj => ?_)
      rw [p6 j hj, m6 j hj, p3 j hj, m3 j hj]
      by_cases c : j = t
      · simp [c]
      · cases ho : O.testBit j
        · simp
        · rw [hh j hj c ho]
    rw [p1, p4, eO]
    have key : ∀ x5 : Int32, x5 = nI (cc + (if back = true then 0 else 1)) → wL_law_677 post L xs J row2 (nI (tp_clr (tp_clr O Bm) (2 ^ t))) x5 x6 got due kc ks g1 g2 g3 g4 g5 g6 g7 g8 g9 g10 g11 g12 g13 g14 g15 g16 a1 a2 a3 a4 a5 a6 a7 a8 a9 a10 a11 a12 a13 a14 a15 a16 := by
      intro x5 e5
      refine tp_l_677 (u := (g1, g2, g3, g4, g5, g6, g7, g8, g9, g10, g11, g12, g13, g14, g15, g16, a1, a2, a3, a4, a5, a6, a7, a8, a9, a10, a11, a12, a13, a14, a15, a16)) (nm := nm + 1) (nm0 := nm) ⟨_, _, _, b10, _, _, _, hK, fun k h1 h2 => ?_, tp_R_c hR2 (fun k hk => ⟨rfl, ?_, rfl, rfl⟩), fun k hk => ⟨?_, fun hz => ?_⟩⟩ (by omega) (by rw [eg, ed]) rfl e5 K
      · unfold tp_fH
        rw [hH4 k h1 h2]
        simp
      · by_cases c : H k = t + 1
        · have q1 : tp_fH t Bm H k = 0 := if_pos c
          have q2 : tp_eH t 4 H k = 0 := if_pos ⟨hk, c⟩
          have q3 : tp_kH hit 3 (tp_eH t 4 H) k = tp_eH t 4 H k := if_neg (fun z => z.1 q2)
          rw [q1, q3, q2]
        · have q2 : tp_eH t 4 H k = H k := if_neg (fun z => c z.2)
          have q1 : tp_fH t Bm H k = if H k ≠ 0 ∧ Bm.testBit (H k - 1) = true then 0 else H k := if_neg c
          rw [q1]
          by_cases c0 : H k = 0
          · have q3 : tp_kH hit 3 (tp_eH t 4 H) k = tp_eH t 4 H k := if_neg (fun z => z.1 (by rw [q2]; exact c0))
            rw [q3, q2, if_neg (fun z => z.1 c0)]
          · obtain ⟨h3, ho⟩ := hH k (by omega)
            have hb := hh (H k - 1) (by omega) (by omega) (ho c0)
            cases hv : Bm.testBit (H k - 1)
            · rw [if_neg (fun z => absurd z.2 (by decide))]
              have q3 : tp_kH hit 3 (tp_eH t 4 H) k = tp_eH t 4 H k := if_neg (fun z => by
                have z3 := z.2.2
                rw [q2, hb, hv] at z3
                exact absurd z3 (by decide))
              rw [q3, q2]
            · rw [if_pos ⟨c0, rfl⟩]
              have q3 : tp_kH hit 3 (tp_eH t 4 H) k = 0 := if_pos ⟨by rw [q2]; exact c0, by rw [q2]; exact h3, by rw [q2, hb, hv]⟩
              rw [q3]
      · unfold tp_f7 tp_eN
        by_cases c : H k = t + 1
        · obtain ⟨q1, q2⟩ := (hC k hk).2 (by omega)
          rw [c, show t + 1 - 1 = t by omega] at q1 q2
          by_cases c2 : (!back) = true ∧ W t k = true
          · rw [if_pos c2, if_pos ⟨hk, c, c2.1, by rw [q1]; exact c2.2⟩, q2, q1, if_pos c2.2]
          · rw [if_neg c2, if_neg (fun z => c2 ⟨z.2.2.1, by rw [← q1]; exact z.2.2.2⟩)]
            exact (hC k hk).1
        · rw [if_neg (fun z => c (hW t (by omega) k (by omega) z.2)), if_neg (fun z => c z.2.1)]
          exact (hC k hk).1
      · by_cases c : H k = t + 1
        · have q1 : tp_fH t Bm H k = 0 := if_pos c
          exact absurd q1 hz
        · have q1 : tp_fH t Bm H k = if H k ≠ 0 ∧ Bm.testBit (H k - 1) = true then 0 else H k := if_neg c
          rw [q1] at hz ⊢
          by_cases c2 : H k ≠ 0 ∧ Bm.testBit (H k - 1) = true
          · rw [if_pos c2] at hz
            exact absurd rfl hz
          · rw [if_neg c2] at hz ⊢
            obtain ⟨h3, ho⟩ := hH k (by omega)
            have hv : Bm.testBit (H k - 1) = false := by
              cases hv : Bm.testBit (H k - 1)
              · rfl
              · exact absurd ⟨hz, hv⟩ c2
            have hb := hh (H k - 1) (by omega) (by omega) (ho hz)
            have q2 : tp_eH t 4 H k = H k := if_neg (fun z => c z.2)
            have nk : ¬ (tp_eH t 4 H k ≠ 0 ∧ tp_eH t 4 H k ≤ 3 ∧ hit.testBit (tp_eH t 4 H k - 1) = true) := fun z => by
              have z3 := z.2.2
              rw [q2, hb, hv] at z3
              exact absurd z3 (by decide)
            have w1 : tp_kW hit 3 (tp_eH t 4 H) (tp_eW t 4 H w) k = tp_eW t 4 H w k := if_neg nk
            have w2 : tp_eW t 4 H w k = w k := if_neg (fun z => c z.2)
            have w3 : tp_kS hit 3 (tp_eH t 4 H) (tp_eS t 4 H s) k = tp_eS t 4 H s k := if_neg nk
            have w4 : tp_eS t 4 H s k = s k := if_neg (fun z => c z.2)
            have w5 : tp_fW t Bm W (H k - 1) k = W (H k - 1) k := by
              unfold tp_fW
              rw [if_neg (by omega), if_neg (by rw [hv]; decide)]
            have w6 : tp_f7 t (!back) W b7 b10 k = b7 k := if_neg (fun z => c (hW t (by omega) k (by omega) z.2))
            rw [w1, w2, w3, w4, w5, w6]
            exact (hC k hk).2 hz
    cases back
    · exact br_t rfl (key _ (nI_1 cc))
    · exact br_f (by decide) (key _ rfl)
  have c505 : ∀ row1, tp_R row1 (tp_eN t (!back) 4 n H w s) (tp_eH t 4 H) (tp_eW t 4 H w) (tp_eS t 4 H s) → ∀ due : Int32, due = (if back = true then 0 else 1) → wL_law_505 post L xs J (nI O) (nI cc) x6 (nI t) (nI td) x13 got due (nI tr) (tp_bo back) row1 kc ks g1 g2 g3 g4 g5 g6 g7 g8 g9 g10 g11 g12 g13 g14 g15 g16 a1 a2 a3 a4 a5 a6 a7 a8 a9 a10 a11 a12 a13 a14 a15 a16 := by
    intro row1 hR1 due ed
    have hA7 : (tr = 2 ∨ tr = 3) → wL_law_518 post L xs J row1 (nI O) (nI cc) x6 (nI t) x13 got due (tp_bo back) kc ks g1 g2 g3 g4 g5 g6 g7 g8 g9 g10 g11 g12 g13 g14 g15 g16 a1 a2 a3 a4 a5 a6 a7 a8 a9 a10 a11 a12 a13 a14 a15 a16 := by
      intro y
      refine c551 row1 hR1 7 (by omega) (fun j hj hjt ho => ?_) 7 rfl due ed
      rw [tp_b7t j hj]
      exact ((B1 y j hj).mpr ⟨hjt, ho⟩).symm
    have ao : (tr = 1 ∨ tr = 4 ∨ tr = 5) → wL_law_541 post L xs J row1 (nI O) (nI cc) x6 (nI t) (nI td) x13 got due (tp_bo back) kc ks g1 g2 g3 g4 g5 g6 g7 g8 g9 g10 g11 g12 g13 g14 g15 g16 a1 a2 a3 a4 a5 a6 a7 a8 a9 a10 a11 a12 a13 a14 a15 a16 := by
      intro y
      refine tp_w_on hR1 htd (fun S hS hSb => c551 row1 hR1 S hS (fun j hj hjt ho => ?_) _ rfl due ed)
      have e : (S.testBit j = true) = (Bm.testBit j = true) := by
        apply propext
        rw [hSb j hj, B2 y j hj]
        constructor
        · rintro ⟨k, k1, k2, k3⟩
          refine ⟨hjt, k, by omega, k2, ?_⟩
          unfold tp_eH at k3
          split at k3
          · omega
          · exact k3
        · rintro ⟨_, k, k1, k2, k3⟩
          by_cases k4 : k < 4
          · refine ⟨k, k4, k2, ?_⟩
            unfold tp_eH
            rw [if_neg (by omega)]
            exact k3
          · have := hH4 k (by omega) k1
            omega
      cases h1 : S.testBit j <;> cases h2 : Bm.testBit j <;> simp_all
    refine pk_eq tr 2 (fun y => hA7 (Or.inl y)) (fun y2 => pk_eq tr 3 (fun y => hA7 (Or.inr y)) (fun y3 => pk_eq tr 1 (fun y => ao (Or.inl y)) (fun y1 => pk_eq tr 4 (fun y => ao (Or.inr (Or.inl y))) (fun y4 => pk_eq tr 5 (fun y => ao (Or.inr (Or.inr y))) (fun y5 => ?_)))))
    have e0 := B3 (by omega)
    subst e0
    exact c551 row1 hR1 0 (by omega) (fun _ _ _ _ => rfl) 0 rfl due ed
  refine br_f e13 ?_
  cases back
  · exact br_t rfl (br_f e13 (br_t rfl (tp_w_ended hR (t := t) (by omega) true rfl (fun row1 hR1 => c505 row1 hR1 1 rfl))))
  · exact br_f (by decide) (br_f e13 (br_f (by decide) (tp_w_ended hR (t := t) (by omega) false rfl (fun row1 hR1 => c505 row1 hR1 0 rfl))))
end
section
/-! a turn of the law, its loop, and the start -/
theorem tp_l_233 {post : Int32 → Prop} {L : Nat} {xs : Nat → Int32} {J : (Int64 → Int32 → Int32 → Int32 → Int32 → Int32 → Int32 → Int32 → Int32 → Int32 → Int32 → Int32 → Int32 → Int32 → Int32 → Int32 → Int32 → Int32 → Int32 → Int32 → (Nat → Int32) → (Nat → Int32) → (Nat → Int32) → (Nat → Int32) → (Nat → Int32) → (Nat → Int32) → (Nat → Int32) → (Nat → Int32) → (Nat → Int32) → (Nat → Int32) → (Nat → Int32) → (Nat → Int32) → (Nat → Int32) → (Nat → Int32) → (Nat → Int32) → (Nat → Int32) → Prop)} {row : Int64} {O cc nm a t k td kc ks : Nat} {x6 x8 x13 x14 x15 : Int32} {H : Nat → Nat} {W : Nat → Nat → Bool} {b7 b10 : Nat → Int32} {n : Nat → Nat} {w : Nat → Bool} {s : Nat → Nat} {g1 g2 g3 g4 g5 g6 g7 g8 g9 g10 g11 g12 g13 g14 g15 g16 : Int32} {a1 a2 a3 a4 a5 a6 a7 a8 a9 a10 a11 a12 a13 a14 a15 a16 : Nat → Int32}
    (hK : tp_K O cc nm H W b7 b10 (g1, g2, g3, g4, g5, g6, g7, g8, g9, g10, g11, g12, g13, g14, g15, g16, a1, a2, a3, a4, a5, a6, a7, a8, a9, a10, a11, a12, a13, a14, a15, a16)) (hH4 : ∀ k, 4 ≤ k → k < 12 → H k = 0) (hR : tp_R row n H w s) (hC : ∀ k, k < 4 → b7 k = tp_z (n k) ∧ (H k ≠ 0 → w k = W (H k - 1) k ∧ tp_z (s k) = if w k = true then b10 ((H k - 1) * 12 + k) else b7 k))
    (hnm : nm < 2 ^ 18) (ha : a < 16) (ht : t < 3) (hk : k < 4) (htd : td < 3) (e13 : x13 = 0 ↔ O.testBit t = false) (e14 : x14 = 0 ↔ (H k = 0 ∨ H k = t + 1)) (e15 : x15 = tp_z (if H k = t + 1 then s k else n k)) (K : tp_N J x6 nm) :
    wL_law_233 post L xs J row (nI O) (nI cc) x6 (nI a) x8 (nI t) (nI k) (nI td) (tp_cell row (nI k)) x13 x14 x15 kc ks g1 g2 g3 g4 g5 g6 g7 g8 g9 g10 g11 g12 g13 g14 g15 g16 a1 a2 a3 a4 a5 a6 a7 a8 a9 a10 a11 a12 a13 a14 a15 a16 := by
  have hJ : tp_J row O cc nm (g1, g2, g3, g4, g5, g6, g7, g8, g9, g10, g11, g12, g13, g14, g15, g16, a1, a2, a3, a4, a5, a6, a7, a8, a9, a10, a11, a12, a13, a14, a15, a16) := ⟨H, W, b7, b10, n, w, s, hK, hH4, hR, hC⟩
  refine pk_le 9 a (fun _ => pk_le 13 a (fun _ => ?_) (fun _ => ?_)) (fun _ => ?_)
  · obtain ⟨mm, hmm, em⟩ := pk_andE (x8 >>> ((4 : Int32) &&& 31)) (m := 3) 2 (by decide)
    exact nm_r em (tp_l_crash hJ hmm K)
  · obtain ⟨tr, htr, er⟩ := pk_andE (x8 >>> ((6 : Int32) &&& 31)) (m := 7) 3 (by decide)
    have htr : tr < 8 := htr
    refine nm_r er (tp_k_commit hK hnm ht htr htd (fun z => ?_) (fun z pa hpa hparts Bm hBm B1 B2 B3 u' hK' => ?_))
    · have z13 := e13.mpr z
      have c1 := fun z0 => tp_l_c0 (post := post) (L := L) (xs := xs) (t := t) (kc := kc) (ks := ks) (z0 := z0) hJ htd htr z13 K
      exact pk_eq tr 2 (fun _ => c1 1) (fun _ => pk_eq tr 1 (fun _ => tp_w_on hR htd (fun S _ _ => br_c (fun _ => c1 1) (fun _ => c1 0))) (fun _ => c1 0))
    · obtain ⟨g1', g2', g3', g4', g5', g6', g7', g8', g9', g10', g11', g12', g13', g14', g15', g16', a1', a2', a3', a4', a5', a6', a7', a8', a9', a10', a11', a12', a13', a14', a15', a16'⟩ := u'
      have z13 : ¬ x13 = 0 := fun x => by rw [e13.mp x] at z; exact absurd z (by decide)
      have c1 := tp_l_c1 (post := post) (L := L) (xs := xs) (kc := kc) (ks := ks) (td := td) (tr := tr) hK.1 hK.2.2.2.2.2.2.2.2.2.2.1 hK.2.2.2.2.2.2.2.2.2.2.2.1 hH4 hR hC ht htd htr z13 hBm B1 B2 B3 hK' rfl K
      have yes : tp_back pa tr td = true → wL_law_451 post L xs J row (nI O) (nI cc) x6 (nI t) (nI td) x13 (if tp_back pa tr td = true then 0 else 1) (nI tr) kc ks g1' g2' g3' g4' g5' g6' g7' g8' g9' g10' g11' g12' g13' g14' g15' g16' a1' a2' a3' a4' a5' a6' a7' a8' a9' a10' a11' a12' a13' a14' a15' a16' := by
        intro hb
        have c2 := c1
        rw [show tp_bo (tp_back pa tr td) = 1 by rw [hb]; rfl] at c2
        exact c2
      have no : tp_back pa tr td = false → wL_law_455 post L xs J row (nI O) (nI cc) x6 (nI t) (nI td) x13 (if tp_back pa tr td = true then 0 else 1) (nI tr) kc ks g1' g2' g3' g4' g5' g6' g7' g8' g9' g10' g11' g12' g13' g14' g15' g16' a1' a2' a3' a4' a5' a6' a7' a8' a9' a10' a11' a12' a13' a14' a15' a16' := by
        intro hb
        have c2 := c1
        rw [show tp_bo (tp_back pa tr td) = 0 by rw [hb]; rfl] at c2
        exact c2
      refine pk_eq tr 2 (fun y => yes (decide_eq_true (Or.inl y))) (fun y2 => pk_eq tr 1 (fun y => tp_w_on hR htd (fun S hS hSb => ek_if (tp_tb1 (by omega)) (fun q => yes (decide_eq_true (Or.inr ⟨y, ?_⟩))) (fun q => no (decide_eq_false (fun v => ?_))))) (fun y => no (decide_eq_false (by omega))))
      · obtain ⟨x, x1, x2, x3⟩ := (hSb t ht).mp q
        exact (hparts td htd).mpr ⟨x, by omega, x2, x3⟩
      · rcases v with v | v
        · exact y2 v
        · obtain ⟨x, x1, x2, x3⟩ := (hparts td htd).mp v.2
          by_cases x4 : x < 4
          · exact q ((hSb t ht).mpr ⟨x, x4, x2, x3⟩)
          · have := hH4 x (by omega) x1
            omega
  · obtain ⟨nn, hnn, en⟩ := pk_andE (x8 >>> ((4 : Int32) &&& 31)) (m := 15) 4 (by decide)
    have hnn : nn < 16 := hnn
    refine nm_r (e' := tp_z nn) (by rw [en]; rfl) (pk_le a 4 (fun _ => ?_) (fun _ => ?_))
    · exact tp_l_gp hK hH4 hR hC ht hk hnn e13 e14 e15 rfl false K
    · exact tp_l_gp hK hH4 hR hC ht hk hnn e13 e14 e15 rfl true K
theorem tp_l_119 {post : Int32 → Prop} {L : Nat} {xs : Nat → Int32} {J : (Int64 → Int32 → Int32 → Int32 → Int32 → Int32 → Int32 → Int32 → Int32 → Int32 → Int32 → Int32 → Int32 → Int32 → Int32 → Int32 → Int32 → Int32 → Int32 → Int32 → (Nat → Int32) → (Nat → Int32) → (Nat → Int32) → (Nat → Int32) → (Nat → Int32) → (Nat → Int32) → (Nat → Int32) → (Nat → Int32) → (Nat → Int32) → (Nat → Int32) → (Nat → Int32) → (Nat → Int32) → (Nat → Int32) → (Nat → Int32) → (Nat → Int32) → (Nat → Int32) → Prop)} {row : Int64} {O cc nm a t k td kc ks : Nat} {x6 x8 x13 : Int32} {g1 g2 g3 g4 g5 g6 g7 g8 g9 g10 g11 g12 g13 g14 g15 g16 : Int32} {a1 a2 a3 a4 a5 a6 a7 a8 a9 a10 a11 a12 a13 a14 a15 a16 : Nat → Int32}
    (hJ : tp_J row O cc nm (g1, g2, g3, g4, g5, g6, g7, g8, g9, g10, g11, g12, g13, g14, g15, g16, a1, a2, a3, a4, a5, a6, a7, a8, a9, a10, a11, a12, a13, a14, a15, a16)) (hnm : nm < 2 ^ 18) (ha : a < 16) (ht : t < 3) (hk : k < 4) (htd : td < 3) (e13 : x13 = 0 ↔ O.testBit t = false) (K : tp_N J x6 nm) :
    wL_law_119 post L xs J row (nI O) (nI cc) x6 (nI a) x8 (nI t) (nI k) (nI td) (tp_cell row (nI k)) x13 kc ks g1 g2 g3 g4 g5 g6 g7 g8 g9 g10 g11 g12 g13 g14 g15 g16 a1 a2 a3 a4 a5 a6 a7 a8 a9 a10 a11 a12 a13 a14 a15 a16 := by
  have hJ' := hJ
  obtain ⟨H, W, b7, b10, n, w, s, hK, hH4, hR, hC⟩ := hJ
  have hO : O < 8 := hK.1
  obtain ⟨r1, r2, r3, _⟩ := hR k hk
  obtain ⟨c1, c2, c3, c4⟩ := tp_R_at hR hk
  have c169 : ∀ x14 x15 : Int32, (x14 = 0 ↔ (H k = 0 ∨ H k = t + 1)) → x15 = tp_z (if H k = t + 1 then s k else n k) → wL_law_169 post L xs J row (nI O) (nI cc) x6 (nI a) x8 (nI t) (nI k) (nI td) (tp_cell row (nI k)) x13 x14 x15 kc ks g1 g2 g3 g4 g5 g6 g7 g8 g9 g10 g11 g12 g13 g14 g15 g16 a1 a2 a3 a4 a5 a6 a7 a8 a9 a10 a11 a12 a13 a14 a15 a16 := by
    intro x14 x15 e14 e15
    have c233 := tp_l_233 (post := post) (L := L) (xs := xs) (x8 := x8) (kc := kc) (ks := ks) hK hH4 hR hC hnm ha ht hk htd e13 e14 e15 K
    exact pk_le 3 a (fun _ => c233) (fun _ => ek_if (d := O = 7) (tp_and8 O hO).2.2.1 (fun _ => c233) (fun z => tp_l_begin hJ' z K))
  have c144 : ∀ x14 : Int32, (x14 = 0 ↔ (H k = 0 ∨ H k = t + 1)) → wL_law_144 post L xs J row (nI O) (nI cc) x6 (nI a) x8 (nI t) (nI k) (nI td) (tp_cell row (nI k)) x13 x14 kc ks g1 g2 g3 g4 g5 g6 g7 g8 g9 g10 g11 g12 g13 g14 g15 g16 a1 a2 a3 a4 a5 a6 a7 a8 a9 a10 a11 a12 a13 a14 a15 a16 := by
    intro x14 e14
    refine ek_if (d := H k = t + 1) (by rw [c2]; exact tp_h_eq _ r2 _ (by omega)) (fun z => ?_) (fun z => ?_)
    · exact c169 x14 _ e14 (by rw [if_pos z]; exact c3)
    · exact c169 x14 _ e14 (by rw [if_neg z]; exact c1)
  refine ek_if (d := H k = 0) (by rw [c2]; exact tp_h_neg _ r2) (fun z => c144 0 (by simp [z])) (fun z => ek_if (d := H k = t + 1) (by rw [c2]; exact tp_h_eq _ r2 _ (by omega)) (fun y => c144 0 (by simp [y])) (fun y => c144 1 ?_))
  simp [z, y]
theorem tp_l_loop {L : Nat} {xs : Nat → Int32} {kc ks : Nat} (hL : L ≤ 260) : ∀ n i row O cc nm u, tp_J row O cc nm u → nm ≤ i → i ≤ L → L - i < n → match u with | (g1, g2, g3, g4, g5, g6, g7, g8, g9, g10, g11, g12, g13, g14, g15, g16, a1, a2, a3, a4, a5, a6, a7, a8, a9, a10, a11, a12, a13, a14, a15, a16) => wL_law_45 (fun r => r = 1) L xs kc ks n row (nI O) (nI cc) (nI i) g1 g2 g3 g4 g5 g6 g7 g8 g9 g10 g11 g12 g13 g14 g15 g16 a1 a2 a3 a4 a5 a6 a7 a8 a9 a10 a11 a12 a13 a14 a15 a16 := by
  intro n
  induction n with
  | zero => intro i row O cc nm u _ _ _ h; exact absurd h (by omega)
  | succ n ih =>
    intro i row O cc nm u hJ hnm hi hn
    obtain ⟨g1, g2, g3, g4, g5, g6, g7, g8, g9, g10, g11, g12, g13, g14, g15, g16, a1, a2, a3, a4, a5, a6, a7, a8, a9, a10, a11, a12, a13, a14, a15, a16⟩ := u
    refine pk_le L i (fun _ => rfl) (fun z => ?_)
    have K : tp_N (wL_law_45 (fun r => r = 1) L xs kc ks n) (nI i) nm := by
      intro row' O' cc' nm' u' hJ' hn'
      have := ih (i + 1) row' O' cc' nm' u' hJ' (by omega) (by omega) (by omega)
      obtain ⟨g1', g2', g3', g4', g5', g6', g7', g8', g9', g10', g11', g12', g13', g14', g15', g16', a1', a2', a3', a4', a5', a6', a7', a8', a9', a10', a11', a12', a13', a14', a15', a16'⟩ := u'
      rw [nI_1]
      exact this
    have ec : (nI i).toNatClampNeg = i := nI_clamp (by omega)
    have hin : vp_in (nI i) L := vp_in_nI z (by omega)
    obtain ⟨a, ha, ea⟩ := pk_andE (xs (nI i).toNatClampNeg) (m := 15) 4 (by decide)
    have ha : a < 16 := ha
    refine ⟨hin, nm_r ea ⟨hin, nm_e ⟨by decide, ?_⟩⟩⟩
    obtain ⟨t0, ht0, et⟩ := pk_andE (xs (nI i).toNatClampNeg >>> ((4 : Int32) &&& 31)) (m := 3) 2 (by decide)
    obtain ⟨k, hk, ek⟩ := pk_andE ((xs (nI i).toNatClampNeg >>> ((4 : Int32) &&& 31)) >>> ((2 : Int32) &&& 31)) (m := 3) 2 (by decide)
    obtain ⟨m0, hm0, em⟩ := pk_andE ((xs (nI i).toNatClampNeg >>> ((4 : Int32) &&& 31)) >>> ((4 : Int32) &&& 31)) (m := 3) 2 (by decide)
    have ht0 : t0 < 4 := ht0
    have hk : k < 4 := hk
    have hm0 : m0 < 4 := hm0
    refine nm_r (e' := nI (t0 % 3)) (by rw [et]; exact pk_rem (a := t0) (d := 3) (by omega) (by omega) (by omega)) (nm_r ek ⟨by decide, nm_r (e' := nI (m0 % 3)) (by rw [em]; exact pk_rem (a := m0) (d := 3) (by omega) (by omega) (by omega)) ?_⟩)
    refine ek_if (d := O.testBit (t0 % 3) = true) (tp_tb1 (by omega)) (fun y => ?_) (fun y => ?_)
    · exact tp_l_119 hJ (by omega) ha (by omega) hk (by omega) (by rw [y]; decide) K
    · exact tp_l_119 hJ (by omega) ha (by omega) hk (by omega) (by simp at y; rw [y]; decide) K
/-! the start -/
theorem tp_cell0 : ∀ k, k < 4 → tp_cell 0 (nI k) = nI 0 := by decide +kernel
theorem tp_J0 {row : Int64} (hR : tp_R row (fun k => if k < 4 then 8 else 0) (fun _ => 0) (fun _ => false) (fun k => if k < 4 then 8 else 0)) : tp_J row 0 0 0 (0, 0, 0, 0, 0, 0, 0, 0, 0, 0, 0, 0, 0, 0, 0, 0, (fun _ => 0), (fun _ => 0), (fun _ => 0), (fun _ => 0), (fun _ => 0), (fun _ => 0), (fun _ => 0), (fun k => if k < 12 then -1 else 0), (fun _ => 0), (fun _ => 0), (fun _ => 0), (fun _ => 0), (fun _ => 0), (fun _ => 0), (fun _ => 0), (fun _ => 0)) := by
  refine ⟨fun _ => 0, fun _ _ => false, fun _ => 0, fun _ => 0, _, _, _, ?_, fun _ _ _ => rfl, hR, fun k hk => ⟨?_, fun z => absurd rfl z⟩⟩
  · refine ⟨by omega, by omega, rfl, rfl, rfl, rfl, ⟨0, by omega, rfl⟩, ⟨0, by omega, rfl⟩, rfl, fun _ _ => rfl, fun k hk => ⟨Nat.zero_le 3, fun z => absurd rfl z⟩, fun j hj k hk z => absurd (show false = true from z) (by decide), fun _ => [], fun _ _ => false, fun m hm => ⟨rfl, by simp, fun i e h => absurd h (by simp)⟩, fun m hm => ⟨by simp, fun e he => absurd he (by simp)⟩, fun m hm => ⟨fun e he => absurd he (by simp), rfl, fun k _ _ => rfl⟩, ⟨fun k hk => ⟨Nat.zero_le 3, ?_⟩, fun j hj k hk => tp_b_0 k, fun j hj x hx => rfl, fun j hj x hx => rfl⟩, fun _ _ _ _ _ => rfl⟩
    show (if k < 12 then -1 else 0) = tp_h 0
    rw [if_pos hk, tp_h_0]
  · show (0 : Int32) = tp_z (if k < 4 then 8 else 0)
    rw [if_pos hk]
    decide
theorem tp_start {L : Nat} {xs : Nat → Int32} {kc ks : Nat} (hL : L ≤ 260) : ∃ f, wL_law_13 (fun r => r = 1) L xs kc ks 0 0 0 0 0 0 0 0 0 0 0 0 0 0 0 0 (fun _ => 0) (fun _ => 0) (fun _ => 0) (fun _ => 0) (fun _ => 0) (fun _ => 0) (fun _ => 0) (fun k => if k < 12 then -1 else 0) (fun _ => 0) (fun _ => 0) (fun _ => 0) (fun _ => 0) (fun _ => 0) (fun _ => 0) (fun _ => 0) (fun _ => 0) f 0 0 := by
  refine pk_loop (fun f i (r : Int64) => wL_law_13 (fun r => r = 1) L xs kc ks 0 0 0 0 0 0 0 0 0 0 0 0 0 0 0 0 (fun _ => 0) (fun _ => 0) (fun _ => 0) (fun _ => 0) (fun _ => 0) (fun _ => 0) (fun _ => 0) (fun k => if k < 12 then -1 else 0) (fun _ => 0) (fun _ => 0) (fun _ => 0) (fun _ => 0) (fun _ => 0) (fun _ => 0) (fun _ => 0) (fun _ => 0) f r (nI i)) (fun i r => tp_R r (fun k => if k < i then 8 else 0) (fun _ => 0) (fun _ => false) (fun k => if k < i then 8 else 0)) 4 0 0 (by omega) ?_ ?_ ?_
  · intro k hk
    refine ⟨by simp, Nat.zero_le 3, by simp, ?_⟩
    rw [tp_cell0 k hk]
    simp [tp_enc]
  · intro f r h
    exact pk_le 4 4 (fun _ => ⟨L + 1, tp_l_loop hL (L + 1) 0 r 0 0 0 _ (tp_J0 h) (by omega) (by omega) (by omega)⟩) (fun z => absurd z (by omega))
  · intro f i r hi h hw
    refine pk_le 4 i (fun z => absurd z (by omega)) (fun _ => tp_w_with h false (k := i) (a := 8) (b := 0) (d := 8) hi (by omega) (by omega) (by omega) (by decide) (by decide) rfl (by decide) (fun r' hR' => nm_r (nI_1 i) (hw r' (tp_R_c hR' (fun k hk => ?_)))))
    unfold tp_u
    by_cases c : k = i
    · subst c
      simp
    · have e : (k < i + 1) = (k < i) := by
        apply propext
        omega
      simp [c, e]
theorem tp_init {post : St1 → Prop} (K : post (0, 0, 0, 0, 0, 0, 0, 0, 0, 0, 0, 0, 0, 0, 0, 0, (fun _ => 0), (fun _ => 0), (fun _ => 0), (fun _ => 0), (fun _ => 0), (fun _ => 0), (fun _ => 0), (fun k => if k < 12 then -1 else 0), (fun _ => 0), (fun _ => 0), (fun _ => 0), (fun _ => 0), (fun _ => 0), (fun _ => 0), (fun _ => 0), (fun _ => 0))) : ∃ f, wX_init_136 post 16 1396 16 1396 0 0 0 0 0 0 0 0 0 0 0 0 0 0 0 0 f 0 (fun _ => 0) (fun _ => 0) (fun _ => 0) (fun _ => 0) (fun _ => 0) (fun _ => 0) (fun _ => 0) (fun _ => 0) (fun _ => 0) (fun _ => 0) (fun _ => 0) (fun _ => 0) (fun _ => 0) (fun _ => 0) (fun _ => 0) (fun _ => 0) := by
  refine pk_loop (fun f i (s : Nat → Int32) => wX_init_136 post 16 1396 16 1396 0 0 0 0 0 0 0 0 0 0 0 0 0 0 0 0 f (nI i) (fun _ => 0) (fun _ => 0) (fun _ => 0) (fun _ => 0) (fun _ => 0) (fun _ => 0) (fun _ => 0) s (fun _ => 0) (fun _ => 0) (fun _ => 0) (fun _ => 0) (fun _ => 0) (fun _ => 0) (fun _ => 0) (fun _ => 0)) (fun i s => s = fun k => if k < i then -1 else 0) 12 0 (fun _ => 0) (by omega) ?_ ?_ ?_
  · funext k
    simp
  · intro f s h
    subst h
    exact pk_le 12 12 (fun _ => K) (fun z => absurd z (by omega))
  · intro f i s hi h hw
    refine pk_le 12 i (fun z => absurd z (by omega)) (fun _ => ⟨pk_in i 12 hi, nm_e (nm_r (nI_1 i) (hw _ ?_))⟩)
    rw [nI_clamp (by omega), h]
    funext k
    rw [tp_upd']
    by_cases c : k = i
    · subst c
      simp
    · have e : (k < i + 1) = (k < i) := by
        apply propext
        omega
      simp [c, e]
theorem i_vc (xs : Nat → Int32) (L : Nat) (hL : L ≤ 260) : wpL_law (fun r => r = 1) L xs := by
  refine ⟨16, 1396, by omega, by omega, ?_⟩
  unfold wpX_init
  dsimp only
  refine ⟨by omega, by omega, by omega, by omega, by omega, by omega, by omega, by omega, by omega, by omega, by omega, by omega, by omega, by omega, by omega, by omega, by omega, by omega, by omega, by omega, by omega, by omega, by omega, by omega, by omega, by omega, by omega, by omega, by omega, by omega, by omega, by omega, ?_⟩
  exact tp_init (tp_start hL)
end
