section
/-! words of code as naturals -/
theorem rq_or (a b : Nat) : nI a ||| nI b = nI (a ||| b) := by
  apply Int32.toBitVec_inj.1
  show BitVec.ofNat 32 a ||| BitVec.ofNat 32 b = BitVec.ofNat 32 (a ||| b)
  apply BitVec.eq_of_getLsbD_eq
  intro i hi
  simp [hi]
theorem rq_word {w a b : Nat} (hw : w < 2048) (ha : a < 1024) (hb : b < 1024) : (((nI w <<< ((20 : Int32) &&& 31)) ||| (nI a <<< ((10 : Int32) &&& 31))) ||| nI b) = nI (w * 1048576 + a * 1024 + b) := by
  rw [pk_shlN (n := w) ((20 : Int32) &&& 31) 20 (by decide) (by omega), pk_shlN (n := a) ((10 : Int32) &&& 31) 10 (by decide) (by omega), rq_or, rq_or]
  have h1 := Nat.two_pow_add_eq_or_of_lt (i := 20) (b := a * 2 ^ 10) (by omega) w
  have h2 := Nat.two_pow_add_eq_or_of_lt (i := 10) (b := b) (by omega) (w * 1024 + a)
  rw [show w * 2 ^ 20 = 2 ^ 20 * w by omega, ← h1, show 2 ^ 20 * w + a * 2 ^ 10 = 2 ^ 10 * (w * 1024 + a) by omega, ← h2, show 2 ^ 10 * (w * 1024 + a) + b = w * 1048576 + a * 1024 + b by omega]
theorem rq_m1024 : ∀ i, i < 32 → (-1024 : Int32).toBitVec.getLsbD i = decide (10 ≤ i) := by decide +kernel
theorem rq_land {x n : Nat} (hn : n < 1024) : ((nI x &&& (-1024)) ||| nI n) = nI (x / 1024 * 1024 + n) := by
  apply Int32.toBitVec_inj.1
  show (BitVec.ofNat 32 x &&& (-1024 : Int32).toBitVec) ||| BitVec.ofNat 32 n = BitVec.ofNat 32 (x / 1024 * 1024 + n)
  apply BitVec.eq_of_getLsbD_eq
  intro i hi
  rw [BitVec.getLsbD_or, BitVec.getLsbD_and, rq_m1024 i hi, BitVec.getLsbD_ofNat, BitVec.getLsbD_ofNat, BitVec.getLsbD_ofNat, show x / 1024 * 1024 + n = 2 ^ 10 * (x / 2 ^ 10) + n by omega, Nat.testBit_two_pow_mul_add (x / 2 ^ 10) (show n < 2 ^ 10 by omega) i, Nat.testBit_div_two_pow]
  by_cases h : i < 10
  · simp [hi, h, Nat.not_le.mpr h]
  · have h' : n.testBit i = false := Nat.testBit_lt_two_pow (Nat.lt_of_lt_of_le (show n < 2 ^ 10 by omega) (Nat.pow_le_pow_right (by omega) (by omega)))
    simp [hi, h, h', Nat.not_lt.mp h]
theorem rq_jmp {n : Nat} (hn : n < 1024) : ((5242880 : Int32) ||| nI n) = nI (5242880 + n) := by
  have h1 := Nat.two_pow_add_eq_or_of_lt (i := 20) (b := n) (by omega) 5
  rw [show (5242880 : Int32) = nI 5242880 from rfl, rq_or]
  congr 1
  exact h1.symm
theorem rq_short : ∀ n, n < 512 → (nI n).toInt16.toInt32 = nI n := by decide +kernel
theorem rq_byte : ∀ n, n < 100 → (nI n).toInt8.toInt32 = nI n := by decide +kernel
theorem rq_op {n : Nat} (h : n < 2 ^ 31) : nI n >>> ((20 : Int32) &&& 31) = nI (n / 1048576) := pk_shrN h _ 20 (by decide)
theorem rq_a {n : Nat} (h : n < 2 ^ 31) : (nI n >>> ((10 : Int32) &&& 31)) &&& 1023 = nI (n / 1024 % 1024) := by
  rw [pk_shrN h _ 10 (by decide)]
  exact pk_andN (by omega) 10 (by decide)
theorem rq_b {n : Nat} (h : n < 2 ^ 31) : nI n &&& 1023 = nI (n % 1024) := pk_andN (by omega) 10 (by decide)
end
section
/-! the pure code generator: a picture is (codeEnd, words) -/
def pg_ci (f : Nat → Nat) : Nat → Int32 := fun i => nI (f i)
def pg_put (w a b : Nat) (c : Nat × (Nat → Nat)) : Nat × (Nat → Nat) := (c.1 + 1, fun i => if i = c.1 then w * 1048576 + a * 1024 + b else c.2 i)
def pg_set (k v : Nat) (c : Nat × (Nat → Nat)) : Nat × (Nat → Nat) := (c.1, fun i => if i = k then v else c.2 i)
def pg_land (k : Nat) (c : Nat × (Nat → Nat)) : Nat × (Nat → Nat) := (c.1, fun i => if i = k then c.2 k / 1024 * 1024 + c.1 else c.2 i)
theorem pg_put_1 (w a b : Nat) (c : Nat × (Nat → Nat)) : (pg_put w a b c).1 = c.1 + 1 := rfl
theorem pg_set_1 (k v : Nat) (c : Nat × (Nat → Nat)) : (pg_set k v c).1 = c.1 := rfl
theorem pg_land_1 (k : Nat) (c : Nat × (Nat → Nat)) : (pg_land k c).1 = c.1 := rfl
def pg_sgn1 (fld : Nat) (c : Nat × (Nat → Nat)) : Nat × (Nat → Nat) :=
  let c1 := pg_put 23 fld 0 c
  let c2 := pg_put 5 0 0 c1
  let c3 := pg_land c.1 c2
  let c4 := pg_put 16 149 0 c3
  let c5 := pg_put 17 fld 0 c4
  pg_land c1.1 c5
def pg_signs (c : Nat × (Nat → Nat)) : Nat × (Nat → Nat) := pg_sgn1 128 (pg_sgn1 122 (pg_put 18 151 149 c))
def pg_signOf (fld : Nat) (c : Nat × (Nat → Nat)) : Nat × (Nat → Nat) :=
  let c1 := pg_put 15 149 0 c
  let c2 := pg_put 24 149 0 c1
  let c3 := pg_put 20 0 0 c2
  let c4 := pg_land c1.1 c3
  let c5 := pg_put 25 fld 0 c4
  let c6 := pg_land c.1 c5
  pg_put 20 0 0 c6
def pg_mulB (k : Nat) (c : Nat × (Nat → Nat)) : Nat × (Nat → Nat) :=
  let c1 := pg_put 14 116 151 c
  let c2 := pg_put 18 (128 - k) 148 c1
  let c3 := pg_put 15 148 0 c2
  let c4 := pg_put 2 122 116 c3
  let c5 := pg_put 5 0 c2.1 c4
  pg_land c2.1 c5
def pg_mulL : Nat → Nat × (Nat → Nat) → Nat × (Nat → Nat)
  | 0, c => pg_signOf 116 c
  | k + 1, c => pg_mulL k (pg_mulB k c)
def pg_mul (c : Nat × (Nat → Nat)) : Nat × (Nat → Nat) := pg_mulL 6 (pg_put 1 151 116 (pg_signs c))
def pg_divB (k : Nat) (c : Nat × (Nat → Nat)) : Nat × (Nat → Nat) :=
  let c1 := pg_put 14 135 (122 - k) c
  let c2 := pg_put 18 151 148 c1
  let c3 := pg_put 4 135 128 c2
  let c4 := pg_put 7 0 0 c3
  let c5 := pg_put 3 128 135 c4
  let c6 := pg_put 16 148 0 c5
  let c7 := pg_put 5 0 c2.1 c6
  let c8 := pg_land c3.1 c7
  pg_put 14 141 148 c8
def pg_divL : Nat → Nat × (Nat → Nat) → Nat × (Nat → Nat)
  | 0, c => pg_signOf 141 c
  | k + 1, c => pg_divL k (pg_divB k c)
def pg_div (c : Nat × (Nat → Nat)) : Nat × (Nat → Nat) :=
  let c0 := pg_signs c
  let c1 := pg_put 1 151 141 c0
  let c2 := pg_put 4 128 151 c1
  let c3 := pg_put 6 0 0 c2
  let c4 := pg_put 11 3 0 c3
  let c5 := pg_put 20 0 0 c4
  let c6 := pg_land c2.1 c5
  pg_divL 6 (pg_put 1 151 135 c6)
def pg_prB : Nat → Nat × (Nat → Nat) → Nat × (Nat → Nat)
  | 0, c => pg_put 20 0 0 (pg_put 22 32 0 c)
  | j + 1, c => pg_prB j (pg_put 21 (147 - j) 0 c)
def pg_prA (wr : Nat) : Nat → Nat × (Nat → Nat) → Nat × (Nat → Nat)
  | 0, c => pg_prB 6 (pg_set c.1 (5242880 + (wr + 6)) (pg_put 5 0 0 c))
  | j + 1, c => pg_prA wr j (pg_put 5 0 (wr + 6 - (j + 1)) (pg_put 24 (147 - (j + 1)) (c.1 + 2) c))
def pg_print (c : Nat × (Nat → Nat)) : Nat × (Nat → Nat) :=
  let c1 := pg_put 23 147 0 c
  let c2 := pg_put 5 0 0 c1
  let c3 := pg_land c.1 c2
  let c4 := pg_put 22 45 0 c3
  let c5 := pg_land c1.1 c4
  pg_prA (c5.1 + 10) 5 c5
def pg_comp (x y : Nat) (c : Nat × (Nat → Nat)) : Nat × (Nat → Nat) :=
  let c3 := pg_put 12 2 0 (pg_put 12 1 0 (pg_put 12 0 0 c))
  let c4 := pg_put 4 x y c3
  let c5 := pg_put 6 0 0 c4
  let c6 := pg_put 7 0 0 c5
  let c7 := pg_put 11 2 0 c6
  let c8 := pg_put 5 0 0 c7
  let c9 := pg_land c4.1 c8
  let c10 := pg_put 11 0 0 c9
  let c11 := pg_put 5 0 0 c10
  let c12 := pg_land c5.1 c11
  let c13 := pg_put 11 1 0 c12
  pg_land c10.1 (pg_land c7.1 c13)
/-- a line's body: x and y are the work field 0 -/
def pg_body (op w : Nat) (c : Nat × (Nat → Nat)) : Nat × (Nat → Nat) :=
  if op = 0 then pg_put 1 5 (6 * w + 5) c
  else if op = 1 ∨ op = 2 then
    (if w = 0 then pg_put 1 104 (6 * w + 5) (pg_put (op + 1) 5 104 (pg_put 1 5 104 c)) else pg_put (op + 1) 5 (6 * w + 5) (pg_put 1 5 (6 * w + 5) c))
  else if op = 3 then pg_put 1 116 (6 * w + 5) (pg_put 19 0 1 (pg_put 1 5 128 (pg_put 1 5 122 c)))
  else if op = 4 then pg_put 1 141 (6 * w + 5) (pg_put 19 0 46 (pg_put 1 5 128 (pg_put 1 5 122 c)))
  else if op = 5 then pg_comp 5 5 c
  else if op = 6 then pg_put 11 w 0 c
  else if op = 7 then pg_put 12 w 0 c
  else if op = 8 then pg_put 19 0 114 (pg_put 1 5 147 c)
  else pg_put 22 10 0 c
def pg_line (cn op w : Nat) (c : Nat × (Nat → Nat)) : Nat × (Nat → Nat) :=
  if cn = 0 then pg_body op w (pg_put 26 0 0 c)
  else if cn ≤ 4 then pg_land c.1 (pg_body op w (pg_put 26 0 0 (pg_put 10 (cn - 1) 0 c)))
  else pg_land c.1 (pg_body op w (pg_put 26 0 0 (pg_put 9 (cn - 5) 0 c)))
def pg_group (lc wh cn op w k : Nat) (c : Nat × (Nat → Nat)) : Nat × (Nat → Nat) :=
  if lc = 1 ∧ wh = k then pg_put 20 0 0 (pg_line cn op w c) else pg_put 20 0 0 c
def pg_cyc2 (g0 g1 g2 g3 lp : Nat) (c : Nat × (Nat → Nat)) : Nat × (Nat → Nat) :=
  let c1 := pg_put 5 0 lp (pg_put 19 0 g0 (pg_put 18 152 150 c))
  let c2 := pg_land lp c1
  let c3 := pg_put 24 150 0 c2
  let c4 := pg_put 19 0 g2 (pg_put 19 0 g1 c3)
  pg_put 0 0 0 (pg_put 19 0 g3 (pg_land c2.1 c4))
def pg_cyc (g0 g1 g2 g3 : Nat) (c : Nat × (Nat → Nat)) : Nat × (Nat → Nat) :=
  let c1 := pg_put 13 0 0 c
  let c2 := pg_put 24 150 0 c1
  let c3 := pg_put 4 43 41 c2
  let c4 := pg_put 8 0 0 c3
  let c5 := pg_put 19 0 g1 c4
  let c6 := pg_put 19 0 g2 c5
  let c7 := pg_put 5 0 0 c6
  let c8 := pg_land c3.1 c7
  let c9 := pg_put 4 39 37 c8
  let c10 := pg_put 8 0 0 c9
  let c11 := pg_put 19 0 g1 c10
  let c14 := pg_land c9.1 (pg_land c6.1 (pg_land c1.1 c11))
  pg_cyc2 g0 g1 g2 g3 c.1 (pg_put 1 55 52 (pg_put 1 49 46 (pg_put 1 43 41 (pg_put 1 39 37 c14))))
def pg_tail (lc wh cn op w : Nat) (c : Nat × (Nat → Nat)) : Nat × (Nat → Nat) :=
  let c1 := pg_group lc wh cn op w 0 c
  let c2 := pg_group lc wh cn op w 1 c1
  let c3 := pg_group lc wh cn op w 2 c2
  let c4 := pg_group lc wh cn op w 3 c3
  pg_cyc c.1 c1.1 c2.1 c3.1 (pg_land 0 c4)
def pg_pre : Nat × (Nat → Nat) := pg_print (pg_div (pg_mul (pg_put 5 0 0 (0, fun _ => 0))))
def pg_all (lc wh cn op w : Nat) : Nat × (Nat → Nat) := pg_tail lc wh cn op w pg_pre
end
section
/-! the abstract machine: (at, call stack, indicators, next card, tally, printed, have, halted) -/
def ar_zf (i : Nat) : Bool := Nat.blt i 36 || (Nat.ble 56 i && Nat.blt i 150) || Nat.beq i 151
def ar_fr (i : Nat) : Bool := Nat.ble 36 i && Nat.blt i 56
abbrev AR_S : Type := Nat × List Nat × (Nat → Bool) × Nat × Nat × Nat × Bool × Bool
def ar_exec (cc w a b : Nat) (s : AR_S) : Option AR_S :=
  if w = 0 then some (s.1 + 1, s.2.1, s.2.2.1, s.2.2.2.1, s.2.2.2.2.1, s.2.2.2.2.2.1, s.2.2.2.2.2.2.1, true)
  else if w = 1 then (if ((ar_zf a && ar_zf b) || (ar_fr a && ar_fr b)) = true then some (s.1 + 1, s.2) else none)
  else if w = 2 ∨ w = 3 ∨ w = 4 ∨ w = 14 then (if (ar_zf a && ar_zf b) = true then some (s.1 + 1, s.2) else none)
  else if w = 5 then some (b, s.2)
  else if w = 6 ∨ w = 7 then some (s.1 + 1, s.2)
  else if w = 9 then (if a < 4 then some (if s.2.2.1 a = true then b else s.1 + 1, s.2) else none)
  else if w = 10 then (if a < 4 then some (if s.2.2.1 a = true then s.1 + 1 else b, s.2) else none)
  else if w = 11 ∨ w = 12 then (if a < 4 then some (s.1 + 1, s.2.1, (fun j => if j = a then Nat.beq w 11 else s.2.2.1 j), s.2.2.2) else none)
  else if w = 13 then (if s.2.2.2.1 = cc then some (b, s.2) else if s.2.2.2.1 < 16 then some (s.1 + 1, s.2.1, s.2.2.1, s.2.2.2.1 + 1, s.2.2.2.2) else none)
  else if w = 15 then (if ar_zf a = true then some (b, s.2) else none)
  else if w = 18 then (if (ar_zf a && ar_zf b) = true then some (s.1 + 1, s.2) else if a = 152 ∧ b = 150 then some (s.1 + 1, s.2.1, s.2.2.1, s.2.2.2.1, s.2.2.2.2.1, s.2.2.2.2.2.1, true, s.2.2.2.2.2.2.2) else none)
  else if w = 19 then (if s.2.1.length < 4 then some (b, (s.1 + 1) :: s.2.1, s.2.2) else none)
  else if w = 20 then (match s.2.1 with | [] => none | x :: r => if r.length < 4 then some (x, r, s.2.2) else none)
  else if w = 21 ∨ w = 22 then (if (w = 22 ∨ ar_zf a = true) ∧ s.2.2.2.2.2.1 < 80 then some (s.1 + 1, s.2.1, s.2.2.1, s.2.2.2.1, s.2.2.2.2.1, s.2.2.2.2.2.1 + 1, s.2.2.2.2.2.2) else none)
  else if w = 23 then (if ar_zf a = true then some (s.1 + 1, s.2) else none)
  else if w = 24 then (if ar_zf a = true then some (b, s.2) else if a = 150 then some (if s.2.2.2.2.2.2.1 = true then s.1 + 1 else b, s.2) else none)
  else if w = 26 then some (s.1 + 1, s.2.1, s.2.2.1, s.2.2.2.1, s.2.2.2.2.1 + 1, s.2.2.2.2.2)
  else none
def ar_step (cc : Nat) (f : Nat → Nat) (s : AR_S) : Option AR_S :=
  if s.1 < 420 ∧ f s.1 < 2147483648 then ar_exec cc (f s.1 / 1048576) (f s.1 / 1024 % 1024) (f s.1 % 1024) s else none
def ar_run (cc : Nat) (f : Nat → Nat) : Nat → AR_S → Option AR_S
  | 0, _ => none
  | n + 1, s => if s.2.2.2.2.2.2.2 = true then some s else (match ar_step cc f s with | none => none | some t => ar_run cc f n t)
def ar_init : AR_S := (0, [], fun _ => false, 0, 0, 0, false, false)
def ar_runs (cc lc wh cn : Nat) : Bool := Nat.beq lc 1 && (Nat.beq cn 0 || Nat.blt 4 cn) && (Nat.beq cc 1 || Nat.beq wh 3)
def ar_size (rs : Bool) (op : Nat) : Nat := if rs = true then (if op = 8 then 2 else if op = 9 then 1 else 0) else 0
def ar_shown (rs : Bool) (op w : Nat) : Bool := rs && ((Nat.beq op 6 && Nat.beq w 2) || Nat.beq op 5)
/-- what the law asks of the end of a run -/
def ar_ok (cc lc wh cn op w : Nat) : Bool :=
  match ar_run cc (pg_all lc wh cn op w).2 60 ar_init with
  | none => false
  | some s => Nat.beq s.2.2.2.2.1 (ar_runs cc lc wh cn).toNat && Nat.beq s.2.2.2.2.2.1 (ar_size (ar_runs cc lc wh cn) op) && (s.2.2.1 2 == ar_shown (ar_runs cc lc wh cn) op w)
set_option maxRecDepth 100000 in
theorem ar_none : ∀ cc, cc < 2 → ar_ok cc 0 0 0 0 0 = true := by decide +kernel
def ar_okb (cc wh cn op w : Nat) : Bool := ((Nat.beq op 6 || Nat.beq op 7) && Nat.ble 4 w) || ar_ok cc 1 wh cn op w
def ar_tab (wh : Nat) : Bool := (List.range 2).all (fun cc => (List.range 9).all (fun cn => (List.range 10).all (fun op => (List.range 6).all (fun w => ar_okb cc wh cn op w))))
set_option maxRecDepth 100000 in
theorem ar_t0 : ar_tab 0 = true := by decide +kernel
set_option maxRecDepth 100000 in
theorem ar_t1 : ar_tab 1 = true := by decide +kernel
set_option maxRecDepth 100000 in
theorem ar_t2 : ar_tab 2 = true := by decide +kernel
set_option maxRecDepth 100000 in
theorem ar_t3 : ar_tab 3 = true := by decide +kernel
theorem ar_all (cc : Nat) (hcc : cc < 2) (wh : Nat) (hwh : wh < 4) (cn : Nat) (hcn : cn < 9) (op : Nat) (hop : op < 10) (w : Nat) (hw : w < 6) (h67 : op = 6 ∨ op = 7 → w < 4) : ar_ok cc 1 wh cn op w = true := by
  have ht : ar_tab wh = true := by
    have hc : wh = 0 ∨ wh = 1 ∨ wh = 2 ∨ wh = 3 := by omega
    rcases hc with rfl | rfl | rfl | rfl
    · exact ar_t0
    · exact ar_t1
    · exact ar_t2
    · exact ar_t3
  have h1 := List.all_eq_true.mp (List.all_eq_true.mp (List.all_eq_true.mp (List.all_eq_true.mp ht cc (List.mem_range.mpr hcc)) cn (List.mem_range.mpr hcn)) op (List.mem_range.mpr hop)) w (List.mem_range.mpr hw)
  unfold ar_okb at h1
  rcases (Bool.or_eq_true _ _).mp h1 with z | z
  · obtain ⟨z1, z2⟩ := (Bool.and_eq_true _ _).mp z
    have z3 := Nat.le_of_ble_eq_true z2
    have z4 : op = 6 ∨ op = 7 := by
      rcases (Bool.or_eq_true _ _).mp z1 with y | y
      · exact Or.inl (Nat.eq_of_beq_eq_true y)
      · exact Or.inr (Nat.eq_of_beq_eq_true y)
    exact absurd (h67 z4) (by omega)
  · exact z
end
section
/-! the compiling methods, over the pure code generator -/
section
variable {cc lc lv me sA pA lA rA eA qA tA cA gA hA zA oA cp ce mA dA nA ia od cd nc ta zh pc : Int32} {a1 a2 a3 a4 a5 a6 a7 a8 a9 a10 a11 a12 a13 a14 a15 a16 a17 a18 a19 a20 a21 a22 a23 : Nat → Int32}
theorem wk_put {post : Int32 → St2 → Prop} {p0 p1 p2 : Int32} (c : Nat × (Nat → Nat)) (w a b : Nat) (hn : c.1 < 420) (hw : w < 2048) (ha : a < 1024) (hb : b < 1024) (h : post (nI c.1) (cc, lc, 1, nI 153, nI 104, nI 116, nI 122, nI 128, nI 135, nI 141, nI 147, nI 148, nI 149, nI 150, nI 151, nI 152, cp, nI (pg_put w a b c).1, mA, dA, nA, ia, od, cd, nc, ta, zh, pc, a1, a2, a3, a4, a5, a6, a7, a8, a9, a10, a11, a12, a13, a14, a15, a16, a17, a18, pg_ci (pg_put w a b c).2, a20, a21, a22, a23)) (h0 : p0 = nI w := by rfl) (h1 : p1 = nI a := by rfl) (h2 : p2 = nI b := by rfl) : wpX_put post (cc, lc, 1, nI 153, nI 104, nI 116, nI 122, nI 128, nI 135, nI 141, nI 147, nI 148, nI 149, nI 150, nI 151, nI 152, cp, nI c.1, mA, dA, nA, ia, od, cd, nc, ta, zh, pc, a1, a2, a3, a4, a5, a6, a7, a8, a9, a10, a11, a12, a13, a14, a15, a16, a17, a18, pg_ci c.2, a20, a21, a22, a23) p0 p1 p2 := by
  subst h0 h1 h2
  refine ⟨vp_in_nI hn (by omega), nm_r (e' := pg_ci (pg_put w a b c).2) ?_ (nm_r (nI_1 _) ?_)⟩
  · rw [nI_clamp (by omega), rq_word hw ha hb]
    funext i
    show (if i = c.1 then nI (w * 1048576 + a * 1024 + b) else nI (c.2 i)) = nI (if i = c.1 then w * 1048576 + a * 1024 + b else c.2 i)
    split <;> rfl
  · rw [show nI (c.1 + 1) - 1 = nI c.1 from nI_pred _]
    exact h
theorem wk_land {post : St2 → Prop} {p0 : Int32} (c : Nat × (Nat → Nat)) (i : Nat) (hi : i < 420) (hn : c.1 < 1024) (h : post (cc, lc, 1, nI 153, nI 104, nI 116, nI 122, nI 128, nI 135, nI 141, nI 147, nI 148, nI 149, nI 150, nI 151, nI 152, cp, nI (pg_land i c).1, mA, dA, nA, ia, od, cd, nc, ta, zh, pc, a1, a2, a3, a4, a5, a6, a7, a8, a9, a10, a11, a12, a13, a14, a15, a16, a17, a18, pg_ci (pg_land i c).2, a20, a21, a22, a23)) (h0 : p0 = nI i := by rfl) : wpX_land post (cc, lc, 1, nI 153, nI 104, nI 116, nI 122, nI 128, nI 135, nI 141, nI 147, nI 148, nI 149, nI 150, nI 151, nI 152, cp, nI c.1, mA, dA, nA, ia, od, cd, nc, ta, zh, pc, a1, a2, a3, a4, a5, a6, a7, a8, a9, a10, a11, a12, a13, a14, a15, a16, a17, a18, pg_ci c.2, a20, a21, a22, a23) p0 := by
  subst h0
  refine ⟨vp_in_nI hi (by omega), vp_in_nI hi (by omega), nm_r (e' := pg_ci (pg_land i c).2) ?_ h⟩
  rw [nI_clamp (by omega), show (pg_ci c.2 i &&& (-1024)) ||| nI c.1 = nI (c.2 i / 1024 * 1024 + c.1) from rq_land hn]
  funext j
  show (if j = i then nI (c.2 i / 1024 * 1024 + c.1) else nI (c.2 j)) = nI (if j = i then c.2 i / 1024 * 1024 + c.1 else c.2 j)
  split <;> rfl
theorem wk_sgn {post : St2 → Prop} {J : (Int32 → Int32 → Int32 → Int32 → Int32 → Int32 → Int32 → Int32 → Int32 → Int32 → Int32 → Int32 → Int32 → Int32 → Int32 → Int32 → Int32 → Int32 → Int32 → Int32 → Int32 → Int32 → Int32 → Int32 → Int32 → Int32 → Int32 → Int32 → Int32 → (Nat → Int32) → (Nat → Int32) → (Nat → Int32) → (Nat → Int32) → (Nat → Int32) → (Nat → Int32) → (Nat → Int32) → (Nat → Int32) → (Nat → Int32) → (Nat → Int32) → (Nat → Int32) → (Nat → Int32) → (Nat → Int32) → (Nat → Int32) → (Nat → Int32) → (Nat → Int32) → (Nat → Int32) → (Nat → Int32) → (Nat → Int32) → (Nat → Int32) → (Nat → Int32) → (Nat → Int32) → (Nat → Int32) → Prop)} (c : Nat × (Nat → Nat)) (x fld : Nat) (hn : c.1 + 4 ≤ 420) (hf : fld < 1024) (h : J (nI (x + 1)) cc lc 1 (nI 153) (nI 104) (nI 116) (nI 122) (nI 128) (nI 135) (nI 141) (nI 147) (nI 148) (nI 149) (nI 150) (nI 151) (nI 152) cp (nI (pg_sgn1 fld c).1) mA dA nA ia od cd nc ta zh pc a1 a2 a3 a4 a5 a6 a7 a8 a9 a10 a11 a12 a13 a14 a15 a16 a17 a18 (pg_ci (pg_sgn1 fld c).2) a20 a21 a22 a23) : wX_writeSigns_37 post J (nI x) (nI fld) cc lc 1 (nI 153) (nI 104) (nI 116) (nI 122) (nI 128) (nI 135) (nI 141) (nI 147) (nI 148) (nI 149) (nI 150) (nI 151) (nI 152) cp (nI c.1) mA dA nA ia od cd nc ta zh pc a1 a2 a3 a4 a5 a6 a7 a8 a9 a10 a11 a12 a13 a14 a15 a16 a17 a18 (pg_ci c.2) a20 a21 a22 a23 := by
  unfold wX_writeSigns_37
  refine wk_put _ 23 fld 0 (by first | omega | (simp only [pg_put_1, pg_land_1, pg_set_1]; omega)) (by decide) hf (by decide) ?_
  refine wk_put _ 5 0 0 (by first | omega | (simp only [pg_put_1, pg_land_1, pg_set_1]; omega)) (by decide) (by decide) (by decide) ?_
  refine wk_land _ c.1 (by first | omega | (simp only [pg_put_1, pg_land_1, pg_set_1]; omega)) (by first | omega | (simp only [pg_put_1, pg_land_1, pg_set_1]; omega)) ?_
  refine wk_put _ 16 149 0 (by first | omega | (simp only [pg_put_1, pg_land_1, pg_set_1]; omega)) (by decide) (by decide) (by decide) ?_
  refine wk_put _ 17 fld 0 (by first | omega | (simp only [pg_put_1, pg_land_1, pg_set_1]; omega)) (by decide) hf (by decide) ?_
  refine wk_land _ (c.1 + 1) (by first | omega | (simp only [pg_put_1, pg_land_1, pg_set_1]; omega)) (by first | omega | (simp only [pg_put_1, pg_land_1, pg_set_1]; omega)) ?_
  exact nm_r (nI_1 x) h
theorem wk_signs {post : St2 → Prop} (c : Nat × (Nat → Nat)) (hn : c.1 + 9 ≤ 420) (h : post (cc, lc, 1, nI 153, nI 104, nI 116, nI 122, nI 128, nI 135, nI 141, nI 147, nI 148, nI 149, nI 150, nI 151, nI 152, cp, nI (pg_signs c).1, mA, dA, nA, ia, od, cd, nc, ta, zh, pc, a1, a2, a3, a4, a5, a6, a7, a8, a9, a10, a11, a12, a13, a14, a15, a16, a17, a18, pg_ci (pg_signs c).2, a20, a21, a22, a23)) : wpX_writeSigns post (cc, lc, 1, nI 153, nI 104, nI 116, nI 122, nI 128, nI 135, nI 141, nI 147, nI 148, nI 149, nI 150, nI 151, nI 152, cp, nI c.1, mA, dA, nA, ia, od, cd, nc, ta, zh, pc, a1, a2, a3, a4, a5, a6, a7, a8, a9, a10, a11, a12, a13, a14, a15, a16, a17, a18, pg_ci c.2, a20, a21, a22, a23) := by
  unfold wpX_writeSigns
  refine wk_put _ 18 151 149 (by first | omega | (simp only [pg_put_1, pg_land_1, pg_set_1]; omega)) (by decide) (by decide) (by decide) ?_
  refine ⟨3, br_f (by decide) (br_t rfl ?_)⟩
  refine wk_sgn _ 0 122 (by first | omega | (simp only [pg_put_1, pg_land_1, pg_set_1]; omega)) (by decide) ?_
  refine br_f (by decide) (br_f (by decide) ?_)
  refine wk_sgn _ 1 128 (by show c.1 + 1 + 4 + 4 ≤ 420; omega) (by decide) ?_
  exact br_t (by decide) h
theorem wk_signOf {post : St2 → Prop} (c : Nat × (Nat → Nat)) (fld : Nat) (hn : c.1 + 5 ≤ 420) (hf : fld < 1024) (h : post (cc, lc, 1, nI 153, nI 104, nI 116, nI 122, nI 128, nI 135, nI 141, nI 147, nI 148, nI 149, nI 150, nI 151, nI 152, cp, nI (pg_signOf fld c).1, mA, dA, nA, ia, od, cd, nc, ta, zh, pc, a1, a2, a3, a4, a5, a6, a7, a8, a9, a10, a11, a12, a13, a14, a15, a16, a17, a18, pg_ci (pg_signOf fld c).2, a20, a21, a22, a23)) : wpX_writeSignOf post (cc, lc, 1, nI 153, nI 104, nI 116, nI 122, nI 128, nI 135, nI 141, nI 147, nI 148, nI 149, nI 150, nI 151, nI 152, cp, nI c.1, mA, dA, nA, ia, od, cd, nc, ta, zh, pc, a1, a2, a3, a4, a5, a6, a7, a8, a9, a10, a11, a12, a13, a14, a15, a16, a17, a18, pg_ci c.2, a20, a21, a22, a23) (nI fld) := by
  unfold wpX_writeSignOf
  refine wk_put _ 15 149 0 (by first | omega | (simp only [pg_put_1, pg_land_1, pg_set_1]; omega)) (by decide) (by decide) (by decide) ?_
  refine wk_put _ 24 149 0 (by first | omega | (simp only [pg_put_1, pg_land_1, pg_set_1]; omega)) (by decide) (by decide) (by decide) ?_
  refine wk_put _ 20 0 0 (by first | omega | (simp only [pg_put_1, pg_land_1, pg_set_1]; omega)) (by decide) (by decide) (by decide) ?_
  refine wk_land _ (c.1 + 1) (by first | omega | (simp only [pg_put_1, pg_land_1, pg_set_1]; omega)) (by first | omega | (simp only [pg_put_1, pg_land_1, pg_set_1]; omega)) ?_
  refine wk_put _ 25 fld 0 (by first | omega | (simp only [pg_put_1, pg_land_1, pg_set_1]; omega)) (by decide) hf (by decide) ?_
  refine wk_land _ c.1 (by first | omega | (simp only [pg_put_1, pg_land_1, pg_set_1]; omega)) (by first | omega | (simp only [pg_put_1, pg_land_1, pg_set_1]; omega)) ?_
  refine wk_put _ 20 0 0 (by first | omega | (simp only [pg_put_1, pg_land_1, pg_set_1]; omega)) (by decide) (by decide) (by decide) ?_
  exact h
theorem wk_mulL {post : St2 → Prop} : ∀ (j : Nat) (c : Nat × (Nat → Nat)), j ≤ 6 → c.1 + 5 * j + 5 ≤ 420 → post (cc, lc, 1, nI 153, nI 104, nI 116, nI 122, nI 128, nI 135, nI 141, nI 147, nI 148, nI 149, nI 150, nI 151, nI 152, cp, nI (pg_mulL j c).1, mA, dA, nA, ia, od, cd, nc, ta, zh, pc, a1, a2, a3, a4, a5, a6, a7, a8, a9, a10, a11, a12, a13, a14, a15, a16, a17, a18, pg_ci (pg_mulL j c).2, a20, a21, a22, a23) → ∀ x, x = nI j + (-1) → wX_writeMultiply_28 post (j + 1) x cc lc 1 (nI 153) (nI 104) (nI 116) (nI 122) (nI 128) (nI 135) (nI 141) (nI 147) (nI 148) (nI 149) (nI 150) (nI 151) (nI 152) cp (nI c.1) mA dA nA ia od cd nc ta zh pc a1 a2 a3 a4 a5 a6 a7 a8 a9 a10 a11 a12 a13 a14 a15 a16 a17 a18 (pg_ci c.2) a20 a21 a22 a23 := by
  intro j
  induction j with
  | zero =>
    intro c _ hn h
    exact nm_r (e' := -1) (by decide) (br_t (by decide) (wk_signOf c 116 (by omega) (by decide) h))
  | succ j ih =>
    intro c hj hn h
    refine nm_r (pk_m1 j) (br_f (nI_pos (by omega)) ?_)
    refine wk_put _ 14 116 151 (by first | omega | (simp only [pg_put_1, pg_land_1, pg_set_1]; omega)) (by decide) (by decide) (by decide) ?_
    refine wk_put _ 18 (128 - j) 148 (by first | omega | (simp only [pg_put_1, pg_land_1, pg_set_1]; omega)) (by decide) (by omega) (by decide) ?_ rfl (pk_sub (a := 128) (by omega))
    refine wk_put _ 15 148 0 (by first | omega | (simp only [pg_put_1, pg_land_1, pg_set_1]; omega)) (by decide) (by decide) (by decide) ?_
    refine wk_put _ 2 122 116 (by first | omega | (simp only [pg_put_1, pg_land_1, pg_set_1]; omega)) (by decide) (by decide) (by decide) ?_
    refine wk_put _ 5 0 (c.1 + 2) (by first | omega | (simp only [pg_put_1, pg_land_1, pg_set_1]; omega)) (by decide) (by decide) (by omega) ?_
    refine wk_land _ (c.1 + 2) (by first | omega | (simp only [pg_put_1, pg_land_1, pg_set_1]; omega)) (by first | omega | (simp only [pg_put_1, pg_land_1, pg_set_1]; omega)) ?_
    exact ih _ (by omega) (by show c.1 + 5 + 5 * j + 5 ≤ 420; omega) h
theorem wk_mul {post : St2 → Prop} (c : Nat × (Nat → Nat)) (m : Nat) (hm : c.1 = m) (hn : c.1 + 45 ≤ 420) (h : post (cc, lc, 1, nI 153, nI 104, nI 116, nI 122, nI 128, nI 135, nI 141, nI 147, nI 148, nI 149, nI 150, nI 151, nI 152, cp, nI (pg_mul c).1, nI m, dA, nA, ia, od, cd, nc, ta, zh, pc, a1, a2, a3, a4, a5, a6, a7, a8, a9, a10, a11, a12, a13, a14, a15, a16, a17, a18, pg_ci (pg_mul c).2, a20, a21, a22, a23)) : wpX_writeMultiply post (cc, lc, 1, nI 153, nI 104, nI 116, nI 122, nI 128, nI 135, nI 141, nI 147, nI 148, nI 149, nI 150, nI 151, nI 152, cp, nI c.1, mA, dA, nA, ia, od, cd, nc, ta, zh, pc, a1, a2, a3, a4, a5, a6, a7, a8, a9, a10, a11, a12, a13, a14, a15, a16, a17, a18, pg_ci c.2, a20, a21, a22, a23) := by
  subst hm
  unfold wpX_writeMultiply
  refine wk_signs _ (by omega) ?_
  refine wk_put _ 1 151 116 (by show c.1 + 9 < 420; omega) (by decide) (by decide) (by decide) ?_
  exact ⟨7, wk_mulL 6 _ (by omega) (by show c.1 + 10 + 5 * 6 + 5 ≤ 420; omega) h 5 (by decide)⟩
theorem wk_divL {post : St2 → Prop} : ∀ (j : Nat) (c : Nat × (Nat → Nat)), j ≤ 6 → c.1 + 8 * j + 5 ≤ 420 → post (cc, lc, 1, nI 153, nI 104, nI 116, nI 122, nI 128, nI 135, nI 141, nI 147, nI 148, nI 149, nI 150, nI 151, nI 152, cp, nI (pg_divL j c).1, mA, dA, nA, ia, od, cd, nc, ta, zh, pc, a1, a2, a3, a4, a5, a6, a7, a8, a9, a10, a11, a12, a13, a14, a15, a16, a17, a18, pg_ci (pg_divL j c).2, a20, a21, a22, a23) → ∀ x, x = nI j + (-1) → wX_writeDivide_88 post (j + 1) x cc lc 1 (nI 153) (nI 104) (nI 116) (nI 122) (nI 128) (nI 135) (nI 141) (nI 147) (nI 148) (nI 149) (nI 150) (nI 151) (nI 152) cp (nI c.1) mA dA nA ia od cd nc ta zh pc a1 a2 a3 a4 a5 a6 a7 a8 a9 a10 a11 a12 a13 a14 a15 a16 a17 a18 (pg_ci c.2) a20 a21 a22 a23 := by
  intro j
  induction j with
  | zero =>
    intro c _ hn h
    exact nm_r (e' := -1) (by decide) (br_t (by decide) (wk_signOf c 141 (by omega) (by decide) h))
  | succ j ih =>
    intro c hj hn h
    refine nm_r (pk_m1 j) (br_f (nI_pos (by omega)) ?_)
    refine wk_put _ 14 135 (122 - j) (by first | omega | (simp only [pg_put_1, pg_land_1, pg_set_1]; omega)) (by decide) (by decide) (by omega) ?_ rfl rfl (pk_sub (a := 122) (by omega))
    refine wk_put _ 18 151 148 (by first | omega | (simp only [pg_put_1, pg_land_1, pg_set_1]; omega)) (by decide) (by decide) (by decide) ?_
    refine wk_put _ 4 135 128 (by first | omega | (simp only [pg_put_1, pg_land_1, pg_set_1]; omega)) (by decide) (by decide) (by decide) ?_
    refine wk_put _ 7 0 0 (by first | omega | (simp only [pg_put_1, pg_land_1, pg_set_1]; omega)) (by decide) (by decide) (by decide) ?_
    refine wk_put _ 3 128 135 (by first | omega | (simp only [pg_put_1, pg_land_1, pg_set_1]; omega)) (by decide) (by decide) (by decide) ?_
    refine wk_put _ 16 148 0 (by first | omega | (simp only [pg_put_1, pg_land_1, pg_set_1]; omega)) (by decide) (by decide) (by decide) ?_
    refine wk_put _ 5 0 (c.1 + 2) (by first | omega | (simp only [pg_put_1, pg_land_1, pg_set_1]; omega)) (by decide) (by decide) (by omega) ?_
    refine wk_land _ (c.1 + 3) (by first | omega | (simp only [pg_put_1, pg_land_1, pg_set_1]; omega)) (by first | omega | (simp only [pg_put_1, pg_land_1, pg_set_1]; omega)) ?_
    refine wk_put _ 14 141 148 (by first | omega | (simp only [pg_put_1, pg_land_1, pg_set_1]; omega)) (by decide) (by decide) (by decide) ?_
    exact ih _ (by omega) (by show c.1 + 8 + 8 * j + 5 ≤ 420; omega) h
theorem wk_div {post : St2 → Prop} (c : Nat × (Nat → Nat)) (m : Nat) (hm : c.1 = m) (hn : c.1 + 68 ≤ 420) (h : post (cc, lc, 1, nI 153, nI 104, nI 116, nI 122, nI 128, nI 135, nI 141, nI 147, nI 148, nI 149, nI 150, nI 151, nI 152, cp, nI (pg_div c).1, mA, nI m, nA, ia, od, cd, nc, ta, zh, pc, a1, a2, a3, a4, a5, a6, a7, a8, a9, a10, a11, a12, a13, a14, a15, a16, a17, a18, pg_ci (pg_div c).2, a20, a21, a22, a23)) : wpX_writeDivide post (cc, lc, 1, nI 153, nI 104, nI 116, nI 122, nI 128, nI 135, nI 141, nI 147, nI 148, nI 149, nI 150, nI 151, nI 152, cp, nI c.1, mA, dA, nA, ia, od, cd, nc, ta, zh, pc, a1, a2, a3, a4, a5, a6, a7, a8, a9, a10, a11, a12, a13, a14, a15, a16, a17, a18, pg_ci c.2, a20, a21, a22, a23) := by
  subst hm
  unfold wpX_writeDivide
  refine wk_signs _ (by omega) ?_
  refine wk_put _ 1 151 141 (by show c.1 + 9 < 420; omega) (by decide) (by decide) (by decide) ?_
  refine wk_put _ 4 128 151 (by show c.1 + 10 < 420; omega) (by decide) (by decide) (by decide) ?_
  refine wk_put _ 6 0 0 (by show c.1 + 11 < 420; omega) (by decide) (by decide) (by decide) ?_
  refine wk_put _ 11 3 0 (by show c.1 + 12 < 420; omega) (by decide) (by decide) (by decide) ?_
  refine wk_put _ 20 0 0 (by show c.1 + 13 < 420; omega) (by decide) (by decide) (by decide) ?_
  refine wk_land _ (c.1 + 11) (by omega) (by show c.1 + 14 < 1024; omega) ?_
  refine wk_put _ 1 151 135 (by show c.1 + 14 < 420; omega) (by decide) (by decide) (by decide) ?_
  exact ⟨7, wk_divL 6 _ (by omega) (by show c.1 + 15 + 8 * 6 + 5 ≤ 420; omega) h 5 (by decide)⟩
theorem wk_prB {post : St2 → Prop} : ∀ (j : Nat) (c : Nat × (Nat → Nat)), j ≤ 6 → c.1 + j + 2 ≤ 420 → post (cc, lc, 1, nI 153, nI 104, nI 116, nI 122, nI 128, nI 135, nI 141, nI 147, nI 148, nI 149, nI 150, nI 151, nI 152, cp, nI (pg_prB j c).1, mA, dA, nA, ia, od, cd, nc, ta, zh, pc, a1, a2, a3, a4, a5, a6, a7, a8, a9, a10, a11, a12, a13, a14, a15, a16, a17, a18, pg_ci (pg_prB j c).2, a20, a21, a22, a23) → ∀ x, x = nI j + (-1) → wX_writePrint_130 post (j + 1) x cc lc 1 (nI 153) (nI 104) (nI 116) (nI 122) (nI 128) (nI 135) (nI 141) (nI 147) (nI 148) (nI 149) (nI 150) (nI 151) (nI 152) cp (nI c.1) mA dA nA ia od cd nc ta zh pc a1 a2 a3 a4 a5 a6 a7 a8 a9 a10 a11 a12 a13 a14 a15 a16 a17 a18 (pg_ci c.2) a20 a21 a22 a23 := by
  intro j
  induction j with
  | zero =>
    intro c _ hn h
    refine nm_r (e' := -1) (by decide) (br_t (by decide) ?_)
    refine wk_put _ 22 32 0 (by first | omega | (simp only [pg_put_1, pg_land_1, pg_set_1]; omega)) (by decide) (by decide) (by decide) ?_
    refine wk_put _ 20 0 0 (by first | omega | (simp only [pg_put_1, pg_land_1, pg_set_1]; omega)) (by decide) (by decide) (by decide) ?_
    exact h
  | succ j ih =>
    intro c hj hn h
    refine nm_r (pk_m1 j) (br_f (nI_pos (by omega)) ?_)
    refine wk_put _ 21 (147 - j) 0 (by first | omega | (simp only [pg_put_1, pg_land_1, pg_set_1]; omega)) (by decide) (by omega) (by decide) ?_ rfl (pk_sub (a := 147) (by omega))
    exact ih _ (by omega) (by show c.1 + 1 + j + 2 ≤ 420; omega) h
theorem wk_prA {post : St2 → Prop} (wr : Nat) (hwr : wr + 6 < 1024) : ∀ (j : Nat) (c : Nat × (Nat → Nat)), j ≤ 5 → c.1 + 2 * j + 9 ≤ 420 → post (cc, lc, 1, nI 153, nI 104, nI 116, nI 122, nI 128, nI 135, nI 141, nI 147, nI 148, nI 149, nI 150, nI 151, nI 152, cp, nI (pg_prA wr j c).1, mA, dA, nA, ia, od, cd, nc, ta, zh, pc, a1, a2, a3, a4, a5, a6, a7, a8, a9, a10, a11, a12, a13, a14, a15, a16, a17, a18, pg_ci (pg_prA wr j c).2, a20, a21, a22, a23) → wX_writePrint_59 post (nI wr) (j + 1) (nI j) cc lc 1 (nI 153) (nI 104) (nI 116) (nI 122) (nI 128) (nI 135) (nI 141) (nI 147) (nI 148) (nI 149) (nI 150) (nI 151) (nI 152) cp (nI c.1) mA dA nA ia od cd nc ta zh pc a1 a2 a3 a4 a5 a6 a7 a8 a9 a10 a11 a12 a13 a14 a15 a16 a17 a18 (pg_ci c.2) a20 a21 a22 a23 := by
  intro j
  induction j with
  | zero =>
    intro c _ hn h
    refine br_t (by decide) ?_
    refine wk_put _ 5 0 0 (by first | omega | (simp only [pg_put_1, pg_land_1, pg_set_1]; omega)) (by decide) (by decide) (by decide) ?_
    refine ⟨vp_in_nI (by omega) (by omega), nm_r (e' := pg_ci (pg_set c.1 (5242880 + (wr + 6)) (pg_put 5 0 0 c)).2) ?_ ⟨7, wk_prB 6 (pg_set c.1 (5242880 + (wr + 6)) (pg_put 5 0 0 c)) (by omega) (by show c.1 + 1 + 6 + 2 ≤ 420; omega) h 5 (by decide)⟩⟩
    rw [nI_clamp (by omega), show nI wr + 6 = nI (wr + 6) from nI_add wr 6, rq_jmp hwr]
    funext i
    show (if i = c.1 then nI (5242880 + (wr + 6)) else nI ((pg_put 5 0 0 c).2 i)) = nI (if i = c.1 then 5242880 + (wr + 6) else (pg_put 5 0 0 c).2 i)
    split <;> rfl
  | succ j ih =>
    intro c hj hn h
    refine br_f (nI_nle (by omega) (by omega)) ?_
    refine wk_put _ 24 (147 - (j + 1)) (c.1 + 2) (by first | omega | (simp only [pg_put_1, pg_land_1, pg_set_1]; omega)) (by decide) (by omega) (by omega) ?_ rfl (pk_sub (a := 147) (by omega)) (nI_add c.1 2)
    refine wk_put _ 5 0 (wr + 6 - (j + 1)) (by first | omega | (simp only [pg_put_1, pg_land_1, pg_set_1]; omega)) (by decide) (by decide) (by omega) ?_ rfl rfl (by rw [show nI wr + 6 = nI (wr + 6) from nI_add wr 6, pk_sub (by omega)])
    exact nm_r (pk_m1 j) (ih _ (by omega) (by show c.1 + 2 + 2 * j + 9 ≤ 420; omega) h)
theorem wk_print {post : St2 → Prop} (c : Nat × (Nat → Nat)) (m : Nat) (hm : c.1 = m) (hn : c.1 + 22 ≤ 420) (h : post (cc, lc, 1, nI 153, nI 104, nI 116, nI 122, nI 128, nI 135, nI 141, nI 147, nI 148, nI 149, nI 150, nI 151, nI 152, cp, nI (pg_print c).1, mA, dA, nI m, ia, od, cd, nc, ta, zh, pc, a1, a2, a3, a4, a5, a6, a7, a8, a9, a10, a11, a12, a13, a14, a15, a16, a17, a18, pg_ci (pg_print c).2, a20, a21, a22, a23)) : wpX_writePrint post (cc, lc, 1, nI 153, nI 104, nI 116, nI 122, nI 128, nI 135, nI 141, nI 147, nI 148, nI 149, nI 150, nI 151, nI 152, cp, nI c.1, mA, dA, nA, ia, od, cd, nc, ta, zh, pc, a1, a2, a3, a4, a5, a6, a7, a8, a9, a10, a11, a12, a13, a14, a15, a16, a17, a18, pg_ci c.2, a20, a21, a22, a23) := by
  subst hm
  unfold wpX_writePrint
  refine wk_put _ 23 147 0 (by first | omega | (simp only [pg_put_1, pg_land_1, pg_set_1]; omega)) (by decide) (by decide) (by decide) ?_
  refine wk_put _ 5 0 0 (by first | omega | (simp only [pg_put_1, pg_land_1, pg_set_1]; omega)) (by decide) (by decide) (by decide) ?_
  refine wk_land _ c.1 (by first | omega | (simp only [pg_put_1, pg_land_1, pg_set_1]; omega)) (by first | omega | (simp only [pg_put_1, pg_land_1, pg_set_1]; omega)) ?_
  refine wk_put _ 22 45 0 (by first | omega | (simp only [pg_put_1, pg_land_1, pg_set_1]; omega)) (by decide) (by decide) (by decide) ?_
  refine wk_land _ (c.1 + 1) (by first | omega | (simp only [pg_put_1, pg_land_1, pg_set_1]; omega)) (by first | omega | (simp only [pg_put_1, pg_land_1, pg_set_1]; omega)) ?_
  exact nm_r (nI_add (c.1 + 3) 10) ⟨6, wk_prA (c.1 + 3 + 10) (by omega) 5 _ (by omega) (by show c.1 + 3 + 2 * 5 + 9 ≤ 420; omega) h⟩
end
end
section
/-! lines, groups, the cycle, compile -/
section
variable {cc lc lv me sA pA lA rA eA qA tA cA gA hA zA oA cp ce mA dA nA ia od cd nc ta zh pc : Int32} {a1 a2 a3 a4 a5 a6 a7 a8 a9 a10 a11 a12 a13 a14 a15 a16 a17 a18 a19 a20 a21 a22 a23 : Nat → Int32}
theorem wk_comp {post : St2 → Prop} (c : Nat × (Nat → Nat)) (x y : Nat) (hn : c.1 + 11 ≤ 420) (hx : x < 1024) (hy : y < 1024) (h : post (cc, lc, 1, nI 153, nI 104, nI 116, nI 122, nI 128, nI 135, nI 141, nI 147, nI 148, nI 149, nI 150, nI 151, nI 152, cp, nI (pg_comp x y c).1, mA, dA, nA, ia, od, cd, nc, ta, zh, pc, a1, a2, a3, a4, a5, a6, a7, a8, a9, a10, a11, a12, a13, a14, a15, a16, a17, a18, pg_ci (pg_comp x y c).2, a20, a21, a22, a23)) : wpX_writeCompare post (cc, lc, 1, nI 153, nI 104, nI 116, nI 122, nI 128, nI 135, nI 141, nI 147, nI 148, nI 149, nI 150, nI 151, nI 152, cp, nI c.1, mA, dA, nA, ia, od, cd, nc, ta, zh, pc, a1, a2, a3, a4, a5, a6, a7, a8, a9, a10, a11, a12, a13, a14, a15, a16, a17, a18, pg_ci c.2, a20, a21, a22, a23) (nI x) (nI y) := by
  unfold wpX_writeCompare
  refine wk_put _ 12 0 0 (by first | omega | (simp only [pg_put_1, pg_land_1, pg_set_1]; omega)) (by decide) (by decide) (by decide) ?_
  refine wk_put _ 12 1 0 (by first | omega | (simp only [pg_put_1, pg_land_1, pg_set_1]; omega)) (by decide) (by decide) (by decide) ?_
  refine wk_put _ 12 2 0 (by first | omega | (simp only [pg_put_1, pg_land_1, pg_set_1]; omega)) (by decide) (by decide) (by decide) ?_
  refine wk_put _ 4 x y (by first | omega | (simp only [pg_put_1, pg_land_1, pg_set_1]; omega)) (by decide) hx hy ?_
  refine wk_put _ 6 0 0 (by first | omega | (simp only [pg_put_1, pg_land_1, pg_set_1]; omega)) (by decide) (by decide) (by decide) ?_
  refine wk_put _ 7 0 0 (by first | omega | (simp only [pg_put_1, pg_land_1, pg_set_1]; omega)) (by decide) (by decide) (by decide) ?_
  refine wk_put _ 11 2 0 (by first | omega | (simp only [pg_put_1, pg_land_1, pg_set_1]; omega)) (by decide) (by decide) (by decide) ?_
  refine wk_put _ 5 0 0 (by first | omega | (simp only [pg_put_1, pg_land_1, pg_set_1]; omega)) (by decide) (by decide) (by decide) ?_
  refine wk_land _ (c.1 + 4) (by first | omega | (simp only [pg_put_1, pg_land_1, pg_set_1]; omega)) (by first | omega | (simp only [pg_put_1, pg_land_1, pg_set_1]; omega)) ?_
  refine wk_put _ 11 0 0 (by first | omega | (simp only [pg_put_1, pg_land_1, pg_set_1]; omega)) (by decide) (by decide) (by decide) ?_
  refine wk_put _ 5 0 0 (by first | omega | (simp only [pg_put_1, pg_land_1, pg_set_1]; omega)) (by decide) (by decide) (by decide) ?_
  refine wk_land _ (c.1 + 5) (by first | omega | (simp only [pg_put_1, pg_land_1, pg_set_1]; omega)) (by first | omega | (simp only [pg_put_1, pg_land_1, pg_set_1]; omega)) ?_
  refine wk_put _ 11 1 0 (by first | omega | (simp only [pg_put_1, pg_land_1, pg_set_1]; omega)) (by decide) (by decide) (by decide) ?_
  refine wk_land _ (c.1 + 7) (by first | omega | (simp only [pg_put_1, pg_land_1, pg_set_1]; omega)) (by first | omega | (simp only [pg_put_1, pg_land_1, pg_set_1]; omega)) ?_
  refine wk_land _ (c.1 + 9) (by first | omega | (simp only [pg_put_1, pg_land_1, pg_set_1]; omega)) (by first | omega | (simp only [pg_put_1, pg_land_1, pg_set_1]; omega)) ?_
  exact h
/-- in the field of seven digits -/
theorem wk_sum52 {post : St2 → Prop} (c : Nat × (Nat → Nat)) (x y t z : Nat) (hn : c.1 + 3 ≤ 420) (hx : x < 1024) (hy : y < 1024) (ht : t < 1024) (hz : z < 2048) (h : post (cc, lc, 1, nI 153, nI 104, nI 116, nI 122, nI 128, nI 135, nI 141, nI 147, nI 148, nI 149, nI 150, nI 151, nI 152, cp, nI (pg_put 1 104 t (pg_put z y 104 (pg_put 1 x 104 c))).1, mA, dA, nA, ia, od, cd, nc, ta, zh, pc, a1, a2, a3, a4, a5, a6, a7, a8, a9, a10, a11, a12, a13, a14, a15, a16, a17, a18, pg_ci (pg_put 1 104 t (pg_put z y 104 (pg_put 1 x 104 c))).2, a20, a21, a22, a23)) : wX_writeSum_52 post (nI x) (nI y) (nI t) (nI z) cc lc 1 (nI 153) (nI 104) (nI 116) (nI 122) (nI 128) (nI 135) (nI 141) (nI 147) (nI 148) (nI 149) (nI 150) (nI 151) (nI 152) cp (nI c.1) mA dA nA ia od cd nc ta zh pc a1 a2 a3 a4 a5 a6 a7 a8 a9 a10 a11 a12 a13 a14 a15 a16 a17 a18 (pg_ci c.2) a20 a21 a22 a23 := by
  unfold wX_writeSum_52
  refine wk_put _ 1 x 104 (by first | omega | (simp only [pg_put_1, pg_land_1, pg_set_1]; omega)) (by decide) hx (by decide) ?_
  refine wk_put _ z y 104 (by first | omega | (simp only [pg_put_1, pg_land_1, pg_set_1]; omega)) hz hy (by decide) ?_
  refine wk_put _ 1 104 t (by first | omega | (simp only [pg_put_1, pg_land_1, pg_set_1]; omega)) (by decide) (by decide) ht ?_
  exact h
theorem wk_sum41 {post : St2 → Prop} (c : Nat × (Nat → Nat)) (y t z : Nat) (hn : c.1 + 1 ≤ 420) (hy : y < 1024) (ht : t < 1024) (hz : z < 2048) (h : post (cc, lc, 1, nI 153, nI 104, nI 116, nI 122, nI 128, nI 135, nI 141, nI 147, nI 148, nI 149, nI 150, nI 151, nI 152, cp, nI (pg_put z y t c).1, mA, dA, nA, ia, od, cd, nc, ta, zh, pc, a1, a2, a3, a4, a5, a6, a7, a8, a9, a10, a11, a12, a13, a14, a15, a16, a17, a18, pg_ci (pg_put z y t c).2, a20, a21, a22, a23)) : wX_writeSum_41 post (nI y) (nI t) (nI z) cc lc 1 (nI 153) (nI 104) (nI 116) (nI 122) (nI 128) (nI 135) (nI 141) (nI 147) (nI 148) (nI 149) (nI 150) (nI 151) (nI 152) cp (nI c.1) mA dA nA ia od cd nc ta zh pc a1 a2 a3 a4 a5 a6 a7 a8 a9 a10 a11 a12 a13 a14 a15 a16 a17 a18 (pg_ci c.2) a20 a21 a22 a23 := by
  unfold wX_writeSum_41
  refine wk_put _ z y t (by first | omega | (simp only [pg_put_1, pg_land_1, pg_set_1]; omega)) hz hy ht ?_
  exact h
theorem wk_sum10 {post : St2 → Prop} (c : Nat × (Nat → Nat)) (w z : Nat) (hn : c.1 + 3 ≤ 420) (hw : w < 6) (hz : z < 2048)
    (h : post (if w = 0 then (cc, lc, 1, nI 153, nI 104, nI 116, nI 122, nI 128, nI 135, nI 141, nI 147, nI 148, nI 149, nI 150, nI 151, nI 152, cp, nI (pg_put 1 104 (6 * w + 5) (pg_put z 5 104 (pg_put 1 5 104 c))).1, mA, dA, nA, ia, od, cd, nc, ta, zh, pc, a1, a2, a3, a4, a5, a6, a7, a8, a9, a10, a11, a12, a13, a14, a15, a16, a17, a18, pg_ci (pg_put 1 104 (6 * w + 5) (pg_put z 5 104 (pg_put 1 5 104 c))).2, a20, a21, a22, a23) else (cc, lc, 1, nI 153, nI 104, nI 116, nI 122, nI 128, nI 135, nI 141, nI 147, nI 148, nI 149, nI 150, nI 151, nI 152, cp, nI (pg_put z 5 (6 * w + 5) (pg_put 1 5 (6 * w + 5) c)).1, mA, dA, nA, ia, od, cd, nc, ta, zh, pc, a1, a2, a3, a4, a5, a6, a7, a8, a9, a10, a11, a12, a13, a14, a15, a16, a17, a18, pg_ci (pg_put z 5 (6 * w + 5) (pg_put 1 5 (6 * w + 5) c)).2, a20, a21, a22, a23))) :
    wX_writeSum_10 post (nI 5) (nI 5) (nI (6 * w + 5)) (nI z) cc lc 1 (nI 153) (nI 104) (nI 116) (nI 122) (nI 128) (nI 135) (nI 141) (nI 147) (nI 148) (nI 149) (nI 150) (nI 151) (nI 152) cp (nI c.1) mA dA nA ia od cd nc ta zh pc a1 a2 a3 a4 a5 a6 a7 a8 a9 a10 a11 a12 a13 a14 a15 a16 a17 a18 (pg_ci c.2) a20 a21 a22 a23 := by
  unfold wX_writeSum_10
  refine br_t rfl (pk_eq 5 (6 * w + 5) (fun e => ?_) (fun e => ?_))
  · rw [if_pos (by omega)] at h
    exact wk_sum52 c 5 5 (6 * w + 5) z hn (by decide) (by decide) (by omega) hz h
  · rw [if_neg (by omega)] at h
    refine pk_eq 5 (6 * w + 5) (fun e' => absurd e' e) (fun _ => ?_)
    refine wk_put _ 1 5 (6 * w + 5) (by first | omega | (simp only [pg_put_1, pg_land_1, pg_set_1]; omega)) (by decide) (by decide) (by omega) ?_
    exact wk_sum41 _ 5 (6 * w + 5) z (by first | omega | (simp only [pg_put_1, pg_land_1, pg_set_1]; omega)) (by decide) (by omega) hz h
theorem wk_prod64 {post : St2 → Prop} (c : Nat × (Nat → Nat)) (t z : Nat) (hn : c.1 + 1 ≤ 420) (ht : t < 1024) (hz : z < 1024) (h : post (cc, lc, 1, nI 153, nI 104, nI 116, nI 122, nI 128, nI 135, nI 141, nI 147, nI 148, nI 149, nI 150, nI 151, nI 152, cp, nI (pg_put 1 z t c).1, mA, dA, nA, ia, od, cd, nc, ta, zh, pc, a1, a2, a3, a4, a5, a6, a7, a8, a9, a10, a11, a12, a13, a14, a15, a16, a17, a18, pg_ci (pg_put 1 z t c).2, a20, a21, a22, a23)) : wX_writeProduct_64 post (nI t) (nI z) 1 cc lc 1 (nI 153) (nI 104) (nI 116) (nI 122) (nI 128) (nI 135) (nI 141) (nI 147) (nI 148) (nI 149) (nI 150) (nI 151) (nI 152) cp (nI c.1) mA dA nA ia od cd nc ta zh pc a1 a2 a3 a4 a5 a6 a7 a8 a9 a10 a11 a12 a13 a14 a15 a16 a17 a18 (pg_ci c.2) a20 a21 a22 a23 := by
  unfold wX_writeProduct_64
  refine wk_put _ 1 z t (by first | omega | (simp only [pg_put_1, pg_land_1, pg_set_1]; omega)) (by decide) hz ht ?_
  exact h
theorem wk_prod3 {post : St2 → Prop} (c : Nat × (Nat → Nat)) (t : Nat) (hn : c.1 + 4 ≤ 420) (ht : t < 1024)
    (h : post (cc, lc, 1, nI 153, nI 104, nI 116, nI 122, nI 128, nI 135, nI 141, nI 147, nI 148, nI 149, nI 150, nI 151, nI 152, cp, nI (pg_put 1 116 t (pg_put 19 0 1 (pg_put 1 5 128 (pg_put 1 5 122 c)))).1, nI 1, dA, nA, ia, od, cd, nc, ta, zh, pc, a1, a2, a3, a4, a5, a6, a7, a8, a9, a10, a11, a12, a13, a14, a15, a16, a17, a18, pg_ci (pg_put 1 116 t (pg_put 19 0 1 (pg_put 1 5 128 (pg_put 1 5 122 c)))).2, a20, a21, a22, a23)) :
    wpX_writeProduct post (cc, lc, 1, nI 153, nI 104, nI 116, nI 122, nI 128, nI 135, nI 141, nI 147, nI 148, nI 149, nI 150, nI 151, nI 152, cp, nI c.1, nI 1, dA, nA, ia, od, cd, nc, ta, zh, pc, a1, a2, a3, a4, a5, a6, a7, a8, a9, a10, a11, a12, a13, a14, a15, a16, a17, a18, pg_ci c.2, a20, a21, a22, a23) (nI 3) (nI 5) (nI 5) (nI t) := by
  unfold wpX_writeProduct
  refine wk_put _ 1 5 122 (by first | omega | (simp only [pg_put_1, pg_land_1, pg_set_1]; omega)) (by decide) (by decide) (by decide) ?_
  refine wk_put _ 1 5 128 (by first | omega | (simp only [pg_put_1, pg_land_1, pg_set_1]; omega)) (by decide) (by decide) (by decide) ?_
  refine br_t rfl ?_
  unfold wX_writeProduct_42
  refine wk_put _ 19 0 1 (by first | omega | (simp only [pg_put_1, pg_land_1, pg_set_1]; omega)) (by decide) (by decide) (by decide) ?_
  refine br_t rfl ?_
  exact wk_prod64 _ t 116 (by first | omega | (simp only [pg_put_1, pg_land_1, pg_set_1]; omega)) ht (by decide) h
theorem wk_prod4 {post : St2 → Prop} (c : Nat × (Nat → Nat)) (t : Nat) (hn : c.1 + 4 ≤ 420) (ht : t < 1024)
    (h : post (cc, lc, 1, nI 153, nI 104, nI 116, nI 122, nI 128, nI 135, nI 141, nI 147, nI 148, nI 149, nI 150, nI 151, nI 152, cp, nI (pg_put 1 141 t (pg_put 19 0 46 (pg_put 1 5 128 (pg_put 1 5 122 c)))).1, mA, nI 46, nA, ia, od, cd, nc, ta, zh, pc, a1, a2, a3, a4, a5, a6, a7, a8, a9, a10, a11, a12, a13, a14, a15, a16, a17, a18, pg_ci (pg_put 1 141 t (pg_put 19 0 46 (pg_put 1 5 128 (pg_put 1 5 122 c)))).2, a20, a21, a22, a23)) :
    wpX_writeProduct post (cc, lc, 1, nI 153, nI 104, nI 116, nI 122, nI 128, nI 135, nI 141, nI 147, nI 148, nI 149, nI 150, nI 151, nI 152, cp, nI c.1, mA, nI 46, nA, ia, od, cd, nc, ta, zh, pc, a1, a2, a3, a4, a5, a6, a7, a8, a9, a10, a11, a12, a13, a14, a15, a16, a17, a18, pg_ci c.2, a20, a21, a22, a23) (nI 4) (nI 5) (nI 5) (nI t) := by
  unfold wpX_writeProduct
  refine wk_put _ 1 5 122 (by first | omega | (simp only [pg_put_1, pg_land_1, pg_set_1]; omega)) (by decide) (by decide) (by decide) ?_
  refine wk_put _ 1 5 128 (by first | omega | (simp only [pg_put_1, pg_land_1, pg_set_1]; omega)) (by decide) (by decide) (by decide) ?_
  refine br_f (by decide) ?_
  unfold wX_writeProduct_42
  refine wk_put _ 19 0 46 (by first | omega | (simp only [pg_put_1, pg_land_1, pg_set_1]; omega)) (by decide) (by decide) (by decide) ?_
  refine br_f (by decide) ?_
  exact wk_prod64 _ t 141 (by first | omega | (simp only [pg_put_1, pg_land_1, pg_set_1]; omega)) ht (by decide) h
/-- what the line arrays hold at 0, and where the work fields end -/
def wk_ln (a5 a6 a7 a8 a9 a10 a15 : Nat → Int32) (wh cn op w : Nat) : Prop :=
  wh < 4 ∧ cn < 9 ∧ op < 10 ∧ w < 6 ∧ a5 0 = nI wh ∧ a6 0 = nI cn ∧ a7 0 = nI op ∧ a8 0 = nI w ∧ a9 0 = 0 ∧ a10 0 = 0 ∧ (∀ k, k < 6 → a15 k = nI (6 * k + 5))
theorem wk_src {post : Int32 → Prop} {u : St2} (hu : u = (cc, lc, lv, me, sA, pA, lA, rA, eA, qA, tA, cA, gA, hA, zA, oA, cp, ce, mA, dA, nA, ia, od, cd, nc, ta, zh, pc, a1, a2, a3, a4, a5, a6, a7, a8, a9, a10, a11, a12, a13, a14, a15, a16, a17, a18, a19, a20, a21, a22, a23)) (h15 : a15 0 = nI 5) (p : Int32) (hp : p = 0) (h : post (nI 5)) : wpX_sourceAt post u 0 p := by
  subst hu hp
  exact br_f (by decide) ⟨pk_in 0 6 (by decide), by rw [show (0 : Int32).toNatClampNeg = 0 from rfl, h15]; exact h⟩
theorem wk_43 {post : St2 → Prop} {x3 : Int32} (c : Nat × (Nat → Nat)) (wh cn op w : Nat) (hl : wk_ln a5 a6 a7 a8 a9 a10 a15 wh cn op w) (hn : c.1 + 12 ≤ 420)
    (h : wX_writeLine_289 post x3 cc lc 1 (nI 153) (nI 104) (nI 116) (nI 122) (nI 128) (nI 135) (nI 141) (nI 147) (nI 148) (nI 149) (nI 150) (nI 151) (nI 152) cp (nI (pg_body op w (pg_put 26 0 0 c)).1) (nI 1) (nI 46) (nI 114) ia od cd nc ta zh pc a1 a2 a3 a4 a5 a6 a7 a8 a9 a10 a11 a12 a13 a14 a15 a16 a17 a18 (pg_ci (pg_body op w (pg_put 26 0 0 c)).2) a20 a21 a22 a23) :
    wX_writeLine_43 post 0 x3 cc lc 1 (nI 153) (nI 104) (nI 116) (nI 122) (nI 128) (nI 135) (nI 141) (nI 147) (nI 148) (nI 149) (nI 150) (nI 151) (nI 152) cp (nI c.1) (nI 1) (nI 46) (nI 114) ia od cd nc ta zh pc a1 a2 a3 a4 a5 a6 a7 a8 a9 a10 a11 a12 a13 a14 a15 a16 a17 a18 (pg_ci c.2) a20 a21 a22 a23 := by
  obtain ⟨_, _, hop, hw, _, _, h7, h8, h9, h10, h15⟩ := hl
  have hin : vp_in 0 14 := pk_in 0 14 (by decide)
  have hin8 : vp_in (a8 (0 : Int32).toNatClampNeg) 6 := pk_in w 6 hw h8
  have hW : a15 (a8 (0 : Int32).toNatClampNeg).toNatClampNeg = nI (6 * w + 5) := by
    rw [show a8 (0 : Int32).toNatClampNeg = nI w from h8, nI_clamp (by omega)]
    exact h15 w hw
  unfold wX_writeLine_43
  refine wk_put _ 26 0 0 (by first | omega | (simp only [pg_put_1, pg_land_1, pg_set_1]; omega)) (by decide) (by decide) (by decide) ?_
  refine ⟨hin, nm_r (e' := nI op) h7 ⟨hin, wk_src rfl (h15 0 (by omega)) _ h9 ⟨hin, wk_src rfl (h15 0 (by omega)) _ h10 ?_⟩⟩⟩
  have hc : op = 0 ∨ op = 1 ∨ op = 2 ∨ op = 3 ∨ op = 4 ∨ op = 5 ∨ op = 6 ∨ op = 7 ∨ op = 8 ∨ op = 9 := by omega
  rcases hc with rfl | rfl | rfl | rfl | rfl | rfl | rfl | rfl | rfl | rfl
  · refine br_t rfl ⟨hin, hin8, ?_⟩
    refine wk_put _ 1 5 (6 * w + 5) (by first | omega | (simp only [pg_put_1, pg_land_1, pg_set_1]; omega)) (by decide) (by decide) (by omega) ?_ rfl rfl hW
    exact h
  · refine br_f (by decide) (br_t rfl ⟨hin, hin8, br_t rfl ?_⟩)
    rw [hW]
    refine wk_sum10 _ w 2 (by show c.1 + 1 + 3 ≤ 420; omega) hw (by decide) ?_
    by_cases e : w = 0
    · rw [if_pos e]
      rw [show pg_body 1 w (pg_put 26 0 0 c) = pg_put 1 104 (6 * w + 5) (pg_put 2 5 104 (pg_put 1 5 104 (pg_put 26 0 0 c))) by simp [pg_body, e]] at h
      exact h
    · rw [if_neg e]
      rw [show pg_body 1 w (pg_put 26 0 0 c) = pg_put 2 5 (6 * w + 5) (pg_put 1 5 (6 * w + 5) (pg_put 26 0 0 c)) by simp [pg_body, e]] at h
      exact h
  · refine br_f (by decide) (br_f (by decide) (br_t rfl ⟨hin, hin8, br_f (by decide) ?_⟩))
    rw [hW]
    refine wk_sum10 _ w 3 (by show c.1 + 1 + 3 ≤ 420; omega) hw (by decide) ?_
    by_cases e : w = 0
    · rw [if_pos e]
      rw [show pg_body 2 w (pg_put 26 0 0 c) = pg_put 1 104 (6 * w + 5) (pg_put 3 5 104 (pg_put 1 5 104 (pg_put 26 0 0 c))) by simp [pg_body, e]] at h
      exact h
    · rw [if_neg e]
      rw [show pg_body 2 w (pg_put 26 0 0 c) = pg_put 3 5 (6 * w + 5) (pg_put 1 5 (6 * w + 5) (pg_put 26 0 0 c)) by simp [pg_body, e]] at h
      exact h
  · refine br_f (by decide) (br_f (by decide) (br_f (by decide) (br_t rfl ⟨hin, hin8, ?_⟩)))
    rw [hW]
    exact wk_prod3 _ (6 * w + 5) (by show c.1 + 1 + 4 ≤ 420; omega) (by omega) h
  · refine br_f (by decide) (br_f (by decide) (br_f (by decide) (br_f (by decide) (br_t rfl ⟨hin, hin8, ?_⟩))))
    rw [hW]
    exact wk_prod4 _ (6 * w + 5) (by show c.1 + 1 + 4 ≤ 420; omega) (by omega) h
  · refine br_f (by decide) (br_f (by decide) (br_f (by decide) (br_f (by decide) (br_f (by decide) (br_t rfl ?_)))))
    exact wk_comp _ 5 5 (by show c.1 + 1 + 11 ≤ 420; omega) (by decide) (by decide) h
  · refine br_f (by decide) (br_f (by decide) (br_f (by decide) (br_f (by decide) (br_f (by decide) (br_f (by decide) (br_t rfl (br_t rfl ⟨hin, ?_⟩)))))))
    refine wk_put _ 11 w 0 (by first | omega | (simp only [pg_put_1, pg_land_1, pg_set_1]; omega)) (by decide) (by omega) (by decide) ?_ rfl h8
    exact h
  · refine br_f (by decide) (br_f (by decide) (br_f (by decide) (br_f (by decide) (br_f (by decide) (br_f (by decide) (br_f (by decide) (br_t rfl (br_f (by decide) ⟨hin, ?_⟩))))))))
    refine wk_put _ 12 w 0 (by first | omega | (simp only [pg_put_1, pg_land_1, pg_set_1]; omega)) (by decide) (by omega) (by decide) ?_ rfl h8
    exact h
  · refine br_f (by decide) (br_f (by decide) (br_f (by decide) (br_f (by decide) (br_f (by decide) (br_f (by decide) (br_f (by decide) (br_f (by decide) (br_t rfl ?_))))))))
    refine wk_put _ 1 5 147 (by first | omega | (simp only [pg_put_1, pg_land_1, pg_set_1]; omega)) (by decide) (by decide) (by decide) ?_
    refine wk_put _ 19 0 114 (by first | omega | (simp only [pg_put_1, pg_land_1, pg_set_1]; omega)) (by decide) (by decide) (by decide) ?_
    exact h
  · refine br_f (by decide) (br_f (by decide) (br_f (by decide) (br_f (by decide) (br_f (by decide) (br_f (by decide) (br_f (by decide) (br_f (by decide) (br_f (by decide) ?_))))))))
    refine wk_put _ 22 10 0 (by first | omega | (simp only [pg_put_1, pg_land_1, pg_set_1]; omega)) (by decide) (by decide) (by decide) ?_
    exact h
theorem wk_body_le (op w : Nat) (c : Nat × (Nat → Nat)) : (pg_body op w c).1 ≤ c.1 + 11 := by
  unfold pg_body
  repeat' split
  all_goals (simp only [pg_put_1, pg_comp, pg_land_1]; omega)
theorem wk_line_le (cn op w : Nat) (c : Nat × (Nat → Nat)) : (pg_line cn op w c).1 ≤ c.1 + 13 := by
  unfold pg_line
  have h0 := wk_body_le op w (pg_put 26 0 0 c)
  have h1 := wk_body_le op w (pg_put 26 0 0 (pg_put 10 (cn - 1) 0 c))
  have h2 := wk_body_le op w (pg_put 26 0 0 (pg_put 9 (cn - 5) 0 c))
  simp only [pg_put_1] at h0 h1 h2
  repeat' split
  all_goals first | omega | (simp only [pg_land_1]; omega)
theorem wk_line {post : St2 → Prop} (c : Nat × (Nat → Nat)) (wh cn op w : Nat) (hl : wk_ln a5 a6 a7 a8 a9 a10 a15 wh cn op w) (hn : c.1 + 13 ≤ 420)
    (h : post (cc, lc, 1, nI 153, nI 104, nI 116, nI 122, nI 128, nI 135, nI 141, nI 147, nI 148, nI 149, nI 150, nI 151, nI 152, cp, nI (pg_line cn op w c).1, nI 1, nI 46, nI 114, ia, od, cd, nc, ta, zh, pc, a1, a2, a3, a4, a5, a6, a7, a8, a9, a10, a11, a12, a13, a14, a15, a16, a17, a18, pg_ci (pg_line cn op w c).2, a20, a21, a22, a23)) :
    wpX_writeLine post (cc, lc, 1, nI 153, nI 104, nI 116, nI 122, nI 128, nI 135, nI 141, nI 147, nI 148, nI 149, nI 150, nI 151, nI 152, cp, nI c.1, nI 1, nI 46, nI 114, ia, od, cd, nc, ta, zh, pc, a1, a2, a3, a4, a5, a6, a7, a8, a9, a10, a11, a12, a13, a14, a15, a16, a17, a18, pg_ci c.2, a20, a21, a22, a23) 0 := by
  have hcn := hl.2.1
  have h6 := hl.2.2.2.2.2.1
  have h1 := wk_body_le op w (pg_put 26 0 0 (pg_put 10 (cn - 1) 0 c))
  have h2 := wk_body_le op w (pg_put 26 0 0 (pg_put 9 (cn - 5) 0 c))
  simp only [pg_put_1] at h1 h2
  refine ⟨pk_in 0 14 (by decide), nm_r (e' := nI cn) h6 (pk_le cn 4 (fun z => pk_le cn 0 (fun z0 => ?_) (fun z0 => ?_)) (fun z => ?_))⟩
  · refine wk_43 c wh cn op w hl (by omega) ?_
    rw [show pg_line cn op w c = pg_body op w (pg_put 26 0 0 c) by simp [pg_line, show cn = 0 by omega]] at h
    exact br_t (by decide) h
  · refine wk_put _ 10 (cn - 1) 0 (by first | omega | (simp only [pg_put_1, pg_land_1, pg_set_1]; omega)) (by decide) (by omega) (by decide) ?_ rfl (pk_sub (b := 1) (by omega))
    refine wk_43 _ wh cn op w hl (by show c.1 + 1 + 12 ≤ 420; omega) ?_
    rw [show pg_line cn op w c = pg_land c.1 (pg_body op w (pg_put 26 0 0 (pg_put 10 (cn - 1) 0 c))) by simp [pg_line, show cn ≠ 0 by omega, z]] at h
    exact br_f (nI_pos (by omega)) (wk_land _ c.1 (by omega) (by omega) h)
  · refine wk_put _ 9 (cn - 5) 0 (by first | omega | (simp only [pg_put_1, pg_land_1, pg_set_1]; omega)) (by decide) (by omega) (by decide) ?_ rfl (pk_sub (b := 5) (by omega))
    refine wk_43 _ wh cn op w hl (by show c.1 + 1 + 12 ≤ 420; omega) ?_
    rw [show pg_line cn op w c = pg_land c.1 (pg_body op w (pg_put 26 0 0 (pg_put 9 (cn - 5) 0 c))) by simp [pg_line, show cn ≠ 0 by omega, show ¬ cn ≤ 4 by omega]] at h
    exact br_f (nI_pos (by omega)) (wk_land _ c.1 (by omega) (by omega) h)
theorem wk_group {post : St2 → Prop} (c : Nat × (Nat → Nat)) (n wh cn op w k : Nat) (hk : k < 4) (hnl : n = 0 ∨ n = 1 ∧ wk_ln a5 a6 a7 a8 a9 a10 a15 wh cn op w) (hn : c.1 + 14 ≤ 420)
    (h : post (cc, nI n, 1, nI 153, nI 104, nI 116, nI 122, nI 128, nI 135, nI 141, nI 147, nI 148, nI 149, nI 150, nI 151, nI 152, cp, nI (pg_group n wh cn op w k c).1, nI 1, nI 46, nI 114, ia, od, cd, nc, ta, zh, pc, a1, a2, a3, a4, a5, a6, a7, a8, a9, a10, a11, a12, a13, a14, a15, a16, a17, a18, pg_ci (pg_group n wh cn op w k c).2, upd a20 k (nI c.1), a21, a22, a23)) :
    wpX_writeGroup post (cc, nI n, 1, nI 153, nI 104, nI 116, nI 122, nI 128, nI 135, nI 141, nI 147, nI 148, nI 149, nI 150, nI 151, nI 152, cp, nI c.1, nI 1, nI 46, nI 114, ia, od, cd, nc, ta, zh, pc, a1, a2, a3, a4, a5, a6, a7, a8, a9, a10, a11, a12, a13, a14, a15, a16, a17, a18, pg_ci c.2, a20, a21, a22, a23) (nI k) := by
  refine ⟨vp_in_nI hk (by omega), nm_r (e' := upd a20 k (nI c.1)) (by rw [nI_clamp (by omega), rq_short c.1 (by omega)]) ⟨2, ?_⟩⟩
  rcases hnl with rfl | ⟨rfl, hl⟩
  · refine br_t (by decide) ?_
    refine wk_put _ 20 0 0 (by first | omega | (simp only [pg_put_1, pg_land_1, pg_set_1]; omega)) (by decide) (by decide) (by decide) ?_
    exact h
  · refine br_f (by decide) ⟨pk_in 0 14 (by decide), ?_⟩
    have hl' := wk_line_le cn op w c
    refine pk_eq wh k (fun e => ?_) (fun e => ?_) (show a5 (0 : Int32).toNatClampNeg = nI wh from hl.2.2.2.2.1) rfl (by have := hl.1; omega) (by omega)
    · refine wk_line c wh cn op w hl (by omega) (nm_r (nI_add 0 1) (br_t (by decide) ?_))
      refine wk_put _ 20 0 0 (by omega) (by decide) (by decide) (by decide) ?_
      rw [show pg_group 1 wh cn op w k c = pg_put 20 0 0 (pg_line cn op w c) by simp [pg_group, e]] at h
      exact h
    · refine nm_r (nI_add 0 1) (br_t (by decide) ?_)
      refine wk_put _ 20 0 0 (by first | omega | (simp only [pg_put_1, pg_land_1, pg_set_1]; omega)) (by decide) (by decide) (by decide) ?_
      rw [show pg_group 1 wh cn op w k c = pg_put 20 0 0 c by simp [pg_group, e]] at h
      exact h
theorem wk_group_le (n wh cn op w k : Nat) (c : Nat × (Nat → Nat)) : (pg_group n wh cn op w k c).1 ≤ c.1 + 14 := by
  have h := wk_line_le cn op w c
  unfold pg_group
  split <;> simp only [pg_put_1] <;> omega
end
end
section
section
variable {cc lc lv me sA pA lA rA eA qA tA cA gA hA zA oA cp ce mA dA nA ia od cd nc ta zh pc : Int32} {a1 a2 a3 a4 a5 a6 a7 a8 a9 a10 a11 a12 a13 a14 a15 a16 a17 a18 a19 a20 a21 a22 a23 : Nat → Int32}
theorem wk_cycS {post : St2 → Prop} {x1 x2 : Int32} {n : Nat} (c : Nat × (Nat → Nat)) (k i b : Nat) (hk : k < 4) (h17 : a17 k = nI i) (h16 : a16 k = nI b) (hi : i < 1024) (hb : b < 1024) (hn : c.1 < 420)
    (h : wX_writeCycle_159 post x1 x2 n (nI (k + 1)) cc lc 1 (nI 153) (nI 104) (nI 116) (nI 122) (nI 128) (nI 135) (nI 141) (nI 147) (nI 148) (nI 149) (nI 150) (nI 151) (nI 152) cp (nI (pg_put 1 i b c).1) mA dA nA ia od cd nc ta zh pc a1 a2 a3 a4 a5 a6 a7 a8 a9 a10 a11 a12 a13 a14 a15 a16 a17 a18 (pg_ci (pg_put 1 i b c).2) a20 a21 a22 a23) : wX_writeCycle_159 post x1 x2 (n + 1) (nI k) cc lc 1 (nI 153) (nI 104) (nI 116) (nI 122) (nI 128) (nI 135) (nI 141) (nI 147) (nI 148) (nI 149) (nI 150) (nI 151) (nI 152) cp (nI c.1) mA dA nA ia od cd nc ta zh pc a1 a2 a3 a4 a5 a6 a7 a8 a9 a10 a11 a12 a13 a14 a15 a16 a17 a18 (pg_ci c.2) a20 a21 a22 a23 := by
  have hin : vp_in (nI k) 4 := vp_in_nI hk (by omega)
  refine br_f (nI_ge (b := 4) hk (by decide)) ⟨hin, hin, ?_⟩
  refine wk_put _ 1 i b hn (by decide) hi hb (nm_r (nI_1 k) h) rfl ?_ ?_
  · rw [nI_clamp (by omega)]
    exact h17
  · rw [nI_clamp (by omega)]
    exact h16
theorem wk_cyc2 {post : St2 → Prop} {n : Nat} (c : Nat × (Nat → Nat)) (g0 g1 g2 g3 lp : Nat) (h0 : a20 0 = nI g0) (h1 : a20 1 = nI g1) (h2 : a20 2 = nI g2) (h3 : a20 3 = nI g3) (b0 : g0 < 1024) (b1 : g1 < 1024) (b2 : g2 < 1024) (b3 : g3 < 1024) (bl : lp < 420) (hn : c.1 + 8 ≤ 420)
    (h : post (cc, lc, 1, nI 153, nI 104, nI 116, nI 122, nI 128, nI 135, nI 141, nI 147, nI 148, nI 149, nI 150, nI 151, nI 152, cp, nI (pg_cyc2 g0 g1 g2 g3 lp c).1, mA, dA, nA, ia, od, cd, nc, ta, zh, pc, a1, a2, a3, a4, a5, a6, a7, a8, a9, a10, a11, a12, a13, a14, a15, a16, a17, a18, pg_ci (pg_cyc2 g0 g1 g2 g3 lp c).2, a20, a21, a22, a23)) : wX_writeCycle_159 post (nI lp) (nI lp) (n + 1) (nI 4) cc lc 1 (nI 153) (nI 104) (nI 116) (nI 122) (nI 128) (nI 135) (nI 141) (nI 147) (nI 148) (nI 149) (nI 150) (nI 151) (nI 152) cp (nI c.1) mA dA nA ia od cd nc ta zh pc a1 a2 a3 a4 a5 a6 a7 a8 a9 a10 a11 a12 a13 a14 a15 a16 a17 a18 (pg_ci c.2) a20 a21 a22 a23 := by
  refine br_t (by decide) ?_
  refine wk_put _ 18 152 150 (by first | omega | (simp only [pg_put_1, pg_land_1, pg_set_1]; omega)) (by decide) (by decide) (by decide) ?_
  refine wk_put _ 19 0 g0 (by first | omega | (simp only [pg_put_1, pg_land_1, pg_set_1]; omega)) (by decide) (by decide) b0 ?_ rfl rfl h0
  refine wk_put _ 5 0 lp (by first | omega | (simp only [pg_put_1, pg_land_1, pg_set_1]; omega)) (by decide) (by decide) (by omega) ?_
  refine wk_land _ lp bl (by first | omega | (simp only [pg_put_1, pg_land_1, pg_set_1]; omega)) ?_
  refine wk_put _ 24 150 0 (by first | omega | (simp only [pg_put_1, pg_land_1, pg_set_1]; omega)) (by decide) (by decide) (by decide) ?_
  refine wk_put _ 19 0 g1 (by first | omega | (simp only [pg_put_1, pg_land_1, pg_set_1]; omega)) (by decide) (by decide) b1 ?_ rfl rfl h1
  refine wk_put _ 19 0 g2 (by first | omega | (simp only [pg_put_1, pg_land_1, pg_set_1]; omega)) (by decide) (by decide) b2 ?_ rfl rfl h2
  refine wk_land _ (c.1 + 3) (by first | omega | (simp only [pg_put_1, pg_land_1, pg_set_1]; omega)) (by first | omega | (simp only [pg_put_1, pg_land_1, pg_set_1]; omega)) ?_
  refine wk_put _ 19 0 g3 (by first | omega | (simp only [pg_put_1, pg_land_1, pg_set_1]; omega)) (by decide) (by decide) b3 ?_ rfl rfl h3
  refine wk_put _ 0 0 0 (by first | omega | (simp only [pg_put_1, pg_land_1, pg_set_1]; omega)) (by decide) (by decide) (by decide) ?_
  exact h
/-- where the card and the input fields end -/
def wk_cf (a16 a17 : Nat → Int32) : Prop := a16 0 = nI 37 ∧ a16 1 = nI 41 ∧ a16 2 = nI 46 ∧ a16 3 = nI 52 ∧ a17 0 = nI 39 ∧ a17 1 = nI 43 ∧ a17 2 = nI 49 ∧ a17 3 = nI 55
theorem wk_cyc {post : St2 → Prop} (c : Nat × (Nat → Nat)) (g0 g1 g2 g3 : Nat) (hf : wk_cf a16 a17) (h0 : a20 0 = nI g0) (h1 : a20 1 = nI g1) (h2 : a20 2 = nI g2) (h3 : a20 3 = nI g3) (b0 : g0 < 1024) (b1 : g1 < 1024) (b2 : g2 < 1024) (b3 : g3 < 1024) (hn : c.1 + 22 ≤ 420)
    (h : post (cc, lc, 1, nI 153, nI 104, nI 116, nI 122, nI 128, nI 135, nI 141, nI 147, nI 148, nI 149, nI 150, nI 151, nI 152, cp, nI (pg_cyc g0 g1 g2 g3 c).1, mA, dA, nA, ia, od, cd, nc, ta, zh, pc, a1, a2, a3, a4, a5, a6, a7, a8, a9, a10, a11, a12, a13, a14, a15, a16, a17, a18, pg_ci (pg_cyc g0 g1 g2 g3 c).2, a20, a21, a22, a23)) : wpX_writeCycle post (cc, lc, 1, nI 153, nI 104, nI 116, nI 122, nI 128, nI 135, nI 141, nI 147, nI 148, nI 149, nI 150, nI 151, nI 152, cp, nI c.1, mA, dA, nA, ia, od, cd, nc, ta, zh, pc, a1, a2, a3, a4, a5, a6, a7, a8, a9, a10, a11, a12, a13, a14, a15, a16, a17, a18, pg_ci c.2, a20, a21, a22, a23) := by
  obtain ⟨e0, e1, e2, e3, f0, f1, f2, f3⟩ := hf
  unfold wpX_writeCycle
  refine wk_put _ 13 0 0 (by first | omega | (simp only [pg_put_1, pg_land_1, pg_set_1]; omega)) (by decide) (by decide) (by decide) ?_
  refine wk_put _ 24 150 0 (by first | omega | (simp only [pg_put_1, pg_land_1, pg_set_1]; omega)) (by decide) (by decide) (by decide) ?_
  refine wk_put _ 4 43 41 (by first | omega | (simp only [pg_put_1, pg_land_1, pg_set_1]; omega)) (by decide) (by decide) (by decide) ?_ rfl f1 e1
  refine wk_put _ 8 0 0 (by first | omega | (simp only [pg_put_1, pg_land_1, pg_set_1]; omega)) (by decide) (by decide) (by decide) ?_
  refine wk_put _ 19 0 g1 (by first | omega | (simp only [pg_put_1, pg_land_1, pg_set_1]; omega)) (by decide) (by decide) b1 ?_ rfl rfl h1
  refine wk_put _ 19 0 g2 (by first | omega | (simp only [pg_put_1, pg_land_1, pg_set_1]; omega)) (by decide) (by decide) b2 ?_ rfl rfl h2
  refine wk_put _ 5 0 0 (by first | omega | (simp only [pg_put_1, pg_land_1, pg_set_1]; omega)) (by decide) (by decide) (by decide) ?_
  refine wk_land _ (c.1 + 3) (by first | omega | (simp only [pg_put_1, pg_land_1, pg_set_1]; omega)) (by first | omega | (simp only [pg_put_1, pg_land_1, pg_set_1]; omega)) ?_
  refine wk_put _ 4 39 37 (by first | omega | (simp only [pg_put_1, pg_land_1, pg_set_1]; omega)) (by decide) (by decide) (by decide) ?_ rfl f0 e0
  refine wk_put _ 8 0 0 (by first | omega | (simp only [pg_put_1, pg_land_1, pg_set_1]; omega)) (by decide) (by decide) (by decide) ?_
  refine wk_put _ 19 0 g1 (by first | omega | (simp only [pg_put_1, pg_land_1, pg_set_1]; omega)) (by decide) (by decide) b1 ?_ rfl rfl h1
  refine wk_land _ (c.1 + 1) (by first | omega | (simp only [pg_put_1, pg_land_1, pg_set_1]; omega)) (by first | omega | (simp only [pg_put_1, pg_land_1, pg_set_1]; omega)) ?_
  refine wk_land _ (c.1 + 6) (by first | omega | (simp only [pg_put_1, pg_land_1, pg_set_1]; omega)) (by first | omega | (simp only [pg_put_1, pg_land_1, pg_set_1]; omega)) ?_
  refine wk_land _ (c.1 + 8) (by first | omega | (simp only [pg_put_1, pg_land_1, pg_set_1]; omega)) (by first | omega | (simp only [pg_put_1, pg_land_1, pg_set_1]; omega)) ?_
  refine ⟨5, ?_⟩
  refine wk_cycS _ 0 39 37 (by decide) f0 e0 (by decide) (by decide) (by first | omega | (simp only [pg_put_1, pg_land_1, pg_set_1]; omega)) ?_
  refine wk_cycS _ 1 43 41 (by decide) f1 e1 (by decide) (by decide) (by first | omega | (simp only [pg_put_1, pg_land_1, pg_set_1]; omega)) ?_
  refine wk_cycS _ 2 49 46 (by decide) f2 e2 (by decide) (by decide) (by first | omega | (simp only [pg_put_1, pg_land_1, pg_set_1]; omega)) ?_
  refine wk_cycS _ 3 55 52 (by decide) f3 e3 (by decide) (by decide) (by first | omega | (simp only [pg_put_1, pg_land_1, pg_set_1]; omega)) ?_
  exact wk_cyc2 _ g0 g1 g2 g3 c.1 h0 h1 h2 h3 b0 b1 b2 b3 (by omega) (by first | omega | (simp only [pg_put_1, pg_land_1, pg_set_1]; omega)) h
theorem wk_compile {post : St2 → Prop} (n wh cn op w : Nat) (hf : wk_cf a16 a17) (hnl : n = 0 ∨ n = 1 ∧ wk_ln a5 a6 a7 a8 a9 a10 a15 wh cn op w)
    (h : ∀ g, post (cc, nI n, 1, nI 153, nI 104, nI 116, nI 122, nI 128, nI 135, nI 141, nI 147, nI 148, nI 149, nI 150, nI 151, nI 152, 1, nI (pg_all n wh cn op w).1, nI 1, nI 46, nI 114, ia, od, cd, nc, ta, zh, pc, a1, a2, a3, a4, a5, a6, a7, a8, a9, a10, a11, a12, a13, a14, a15, a16, a17, a18, pg_ci (pg_all n wh cn op w).2, g, a21, a22, a23)) :
    wpX_compile post (cc, nI n, 1, nI 153, nI 104, nI 116, nI 122, nI 128, nI 135, nI 141, nI 147, nI 148, nI 149, nI 150, nI 151, nI 152, cp, ce, mA, dA, nA, ia, od, cd, nc, ta, zh, pc, a1, a2, a3, a4, a5, a6, a7, a8, a9, a10, a11, a12, a13, a14, a15, a16, a17, a18, (fun _ => 0), a20, a21, a22, a23) := by
  have hp : pg_pre.1 = 136 := by decide +kernel
  have l1 := wk_group_le n wh cn op w 0 pg_pre
  have l2 := wk_group_le n wh cn op w 1 (pg_group n wh cn op w 0 pg_pre)
  have l3 := wk_group_le n wh cn op w 2 (pg_group n wh cn op w 1 (pg_group n wh cn op w 0 pg_pre))
  have l4 := wk_group_le n wh cn op w 3 (pg_group n wh cn op w 2 (pg_group n wh cn op w 1 (pg_group n wh cn op w 0 pg_pre)))
  unfold wpX_compile
  refine wk_put (0, fun _ => 0) 5 0 0 (by decide) (by decide) (by decide) (by decide) ?_
  refine wk_mul _ 1 rfl (by decide) ?_
  refine wk_div _ 46 (by decide +kernel) (by decide +kernel) ?_
  refine wk_print _ 114 (by decide +kernel) (by decide +kernel) ?_
  refine ⟨5, br_f (by decide) ?_⟩
  refine wk_group pg_pre n wh cn op w 0 (by decide) hnl (by omega) (nm_r (nI_add 0 1) (br_f (by decide) ?_))
  refine wk_group _ n wh cn op w 1 (by decide) hnl (by omega) (nm_r (nI_add 1 1) (br_f (by decide) ?_))
  refine wk_group _ n wh cn op w 2 (by decide) hnl (by omega) (nm_r (nI_add 2 1) (br_f (by decide) ?_))
  refine wk_group _ n wh cn op w 3 (by decide) hnl (by omega) (nm_r (nI_add 3 1) (br_t (by decide) ?_))
  refine wk_land _ 0 (by decide) (by omega) ?_
  exact wk_cyc _ pg_pre.1 (pg_group n wh cn op w 0 pg_pre).1 (pg_group n wh cn op w 1 (pg_group n wh cn op w 0 pg_pre)).1 (pg_group n wh cn op w 2 (pg_group n wh cn op w 1 (pg_group n wh cn op w 0 pg_pre))).1 hf rfl rfl rfl rfl (by omega) (by omega) (by omega) (by omega) (by simp only [pg_land_1]; omega) (h _)
end
end
section
/-! layOut, unrolled: where the fields end, the marks -/
def lo_M (l : List Nat) : Nat → Int32 := fun i => if i ∈ l then 1 else 0
theorem lo_M_add (l : List Nat) (m : Nat) : upd (lo_M l) m 1 = lo_M (m :: l) := by
  funext i
  show (if i = m then (1 : Int32) else (if i ∈ l then 1 else 0)) = if i ∈ m :: l then 1 else 0
  by_cases e : i = m
  · rw [if_pos e, if_pos (by rw [e]; exact List.mem_cons_self)]
  · rw [if_neg e]
    by_cases g : i ∈ l
    · rw [if_pos g, if_pos (List.mem_cons_of_mem _ g)]
    · rw [if_neg g, if_neg (by intro z; rcases List.mem_cons.mp z with z | z; exact e z; exact g z)]
theorem lo_st (a : Nat → Int32) (w r : Nat) (hw : w < 512) (hr : r < 512) : upd a (nI w).toNatClampNeg (nI r).toInt16.toInt32 = upd a w (nI r) := by
  rw [nI_clamp (by omega), rq_short r hr]
section
variable {cc lc lv me sA pA lA rA eA qA tA cA gA hA zA oA cp ce mA dA nA ia od cd nc ta zh pc : Int32} {a1 a2 a3 a4 a5 a6 a7 a8 a9 a10 a11 a12 a13 a14 a15 a16 a17 a18 a19 a20 a21 a22 a23 : Nat → Int32}
theorem lo_nf {post : Int32 → St2 → Prop} {p : Int32} (l : List Nat) (m len r : Nat) (hm : m < 240) (hr : m + len = r + 1) (h : post (nI r) (cc, lc, lv, nI (r + 1), sA, pA, lA, rA, eA, qA, tA, cA, gA, hA, zA, oA, cp, ce, mA, dA, nA, ia, od, cd, nc, ta, zh, pc, a1, a2, a3, a4, a5, a6, a7, a8, a9, a10, a11, a12, lo_M (m :: l), a14, a15, a16, a17, a18, a19, a20, a21, a22, a23)) (hp : p = nI len := by rfl) : wpX_newField post (cc, lc, lv, nI m, sA, pA, lA, rA, eA, qA, tA, cA, gA, hA, zA, oA, cp, ce, mA, dA, nA, ia, od, cd, nc, ta, zh, pc, a1, a2, a3, a4, a5, a6, a7, a8, a9, a10, a11, a12, lo_M l, a14, a15, a16, a17, a18, a19, a20, a21, a22, a23) p := by
  subst hp
  refine ⟨vp_in_nI hm (by omega), nm_r (e' := lo_M (m :: l)) (by rw [nI_clamp (by omega)]; exact lo_M_add l m) (nm_r (e' := nI (r + 1)) (by rw [nI_add, hr]) ?_)⟩
  rw [show nI (r + 1) - 1 = nI r from nI_pred r]
  exact h
theorem lo_nf_2 {post : Int32 → St2 → Prop} {p : Int32} (l : List Nat) (m len r : Nat) (hm : m < 240) (hr : m + len = r + 1) (h : post (nI r) (cc, lc, lv, nI (r + 1), sA, pA, lA, rA, eA, qA, tA, cA, gA, hA, zA, oA, cp, ce, mA, dA, nA, ia, od, cd, nc, ta, zh, pc, a1, a2, a3, a4, a5, a6, a7, a8, a9, a10, a11, a12, lo_M (m :: l), a14, a15, a16, a17, a18, a19, a20, a21, a22, a23)) (hp : p = nI len := by rfl) : wpX_newField_2 post (cc, lc, lv, nI m, sA, pA, lA, rA, eA, qA, tA, cA, gA, hA, zA, oA, cp, ce, mA, dA, nA, ia, od, cd, nc, ta, zh, pc, a1, a2, a3, a4, a5, a6, a7, a8, a9, a10, a11, a12, lo_M l, a14, a15, a16, a17, a18, a19, a20, a21, a22, a23) p := by
  subst hp
  refine ⟨vp_in_nI hm (by omega), nm_r (e' := lo_M (m :: l)) (by rw [nI_clamp (by omega)]; exact lo_M_add l m) (nm_r (e' := nI (r + 1)) (by rw [nI_add, hr]) ?_)⟩
  rw [show nI (r + 1) - 1 = nI r from nI_pred r]
  exact h
theorem lo_nf_3 {post : Int32 → St2 → Prop} {p : Int32} (l : List Nat) (m len r : Nat) (hm : m < 240) (hr : m + len = r + 1) (h : post (nI r) (cc, lc, lv, nI (r + 1), sA, pA, lA, rA, eA, qA, tA, cA, gA, hA, zA, oA, cp, ce, mA, dA, nA, ia, od, cd, nc, ta, zh, pc, a1, a2, a3, a4, a5, a6, a7, a8, a9, a10, a11, a12, lo_M (m :: l), a14, a15, a16, a17, a18, a19, a20, a21, a22, a23)) (hp : p = nI len := by rfl) : wpX_newField_3 post (cc, lc, lv, nI m, sA, pA, lA, rA, eA, qA, tA, cA, gA, hA, zA, oA, cp, ce, mA, dA, nA, ia, od, cd, nc, ta, zh, pc, a1, a2, a3, a4, a5, a6, a7, a8, a9, a10, a11, a12, lo_M l, a14, a15, a16, a17, a18, a19, a20, a21, a22, a23) p := by
  subst hp
  refine ⟨vp_in_nI hm (by omega), nm_r (e' := lo_M (m :: l)) (by rw [nI_clamp (by omega)]; exact lo_M_add l m) (nm_r (e' := nI (r + 1)) (by rw [nI_add, hr]) ?_)⟩
  rw [show nI (r + 1) - 1 = nI r from nI_pred r]
  exact h
theorem lo_nf_4 {post : Int32 → St2 → Prop} {p : Int32} (l : List Nat) (m len r : Nat) (hm : m < 240) (hr : m + len = r + 1) (h : post (nI r) (cc, lc, lv, nI (r + 1), sA, pA, lA, rA, eA, qA, tA, cA, gA, hA, zA, oA, cp, ce, mA, dA, nA, ia, od, cd, nc, ta, zh, pc, a1, a2, a3, a4, a5, a6, a7, a8, a9, a10, a11, a12, lo_M (m :: l), a14, a15, a16, a17, a18, a19, a20, a21, a22, a23)) (hp : p = nI len := by rfl) : wpX_newField_4 post (cc, lc, lv, nI m, sA, pA, lA, rA, eA, qA, tA, cA, gA, hA, zA, oA, cp, ce, mA, dA, nA, ia, od, cd, nc, ta, zh, pc, a1, a2, a3, a4, a5, a6, a7, a8, a9, a10, a11, a12, lo_M l, a14, a15, a16, a17, a18, a19, a20, a21, a22, a23) p := by
  subst hp
  refine ⟨vp_in_nI hm (by omega), nm_r (e' := lo_M (m :: l)) (by rw [nI_clamp (by omega)]; exact lo_M_add l m) (nm_r (e' := nI (r + 1)) (by rw [nI_add, hr]) ?_)⟩
  rw [show nI (r + 1) - 1 = nI r from nI_pred r]
  exact h
theorem lo_nf_5 {post : Int32 → St2 → Prop} {p : Int32} (l : List Nat) (m len r : Nat) (hm : m < 240) (hr : m + len = r + 1) (h : post (nI r) (cc, lc, lv, nI (r + 1), sA, pA, lA, rA, eA, qA, tA, cA, gA, hA, zA, oA, cp, ce, mA, dA, nA, ia, od, cd, nc, ta, zh, pc, a1, a2, a3, a4, a5, a6, a7, a8, a9, a10, a11, a12, lo_M (m :: l), a14, a15, a16, a17, a18, a19, a20, a21, a22, a23)) (hp : p = nI len := by rfl) : wpX_newField_5 post (cc, lc, lv, nI m, sA, pA, lA, rA, eA, qA, tA, cA, gA, hA, zA, oA, cp, ce, mA, dA, nA, ia, od, cd, nc, ta, zh, pc, a1, a2, a3, a4, a5, a6, a7, a8, a9, a10, a11, a12, lo_M l, a14, a15, a16, a17, a18, a19, a20, a21, a22, a23) p := by
  subst hp
  refine ⟨vp_in_nI hm (by omega), nm_r (e' := lo_M (m :: l)) (by rw [nI_clamp (by omega)]; exact lo_M_add l m) (nm_r (e' := nI (r + 1)) (by rw [nI_add, hr]) ?_)⟩
  rw [show nI (r + 1) - 1 = nI r from nI_pred r]
  exact h
end
def lo_L : List Nat := [152, 151, 150, 149, 148, 142, 136, 129, 123, 117, 105, 98, 95, 92, 89, 86, 83, 80, 77, 74, 71, 68, 65, 62, 59, 56, 53, 50, 47, 44, 42, 40, 38, 36, 30, 24, 18, 12, 6, 0]
def lo_15 : Nat → Int32 := upd (upd (upd (upd (upd (upd (fun _ => 0) 0 (nI 5)) 1 (nI 11)) 2 (nI 17)) 3 (nI 23)) 4 (nI 29)) 5 (nI 35)
def lo_16 : Nat → Int32 := upd (upd (upd (upd (fun _ => 0) 0 (nI 37)) 1 (nI 41)) 2 (nI 46)) 3 (nI 52)
def lo_17 : Nat → Int32 := upd (upd (upd (upd (fun _ => 0) 0 (nI 39)) 1 (nI 43)) 2 (nI 49)) 3 (nI 55)
def lo_18 : Nat → Int32 := upd (upd (upd (upd (upd (upd (upd (upd (upd (upd (upd (upd (upd (upd (fun _ => 0) 0 (nI 58)) 1 (nI 61)) 2 (nI 64)) 3 (nI 67)) 4 (nI 70)) 5 (nI 73)) 6 (nI 76)) 7 (nI 79)) 8 (nI 82)) 9 (nI 85)) 10 (nI 88)) 11 (nI 91)) 12 (nI 94)) 13 (nI 97)
theorem lo_out {post : St2 → Prop} (h : post (0, 0, 1, nI 153, nI 104, nI 116, nI 122, nI 128, nI 135, nI 141, nI 147, nI 148, nI 149, nI 150, nI 151, nI 152, 0, 0, 0, 0, 0, 0, 0, 0, 0, 0, 0, 0, (fun _ => 0), (fun _ => 0), (fun _ => 0), (fun _ => 0), (fun _ => 0), (fun _ => 0), (fun _ => 0), (fun _ => 0), (fun _ => 0), (fun _ => 0), (fun _ => 0), upd (fun _ => 0) 152 1, lo_M lo_L, (fun _ => 0), lo_15, lo_16, lo_17, lo_18, (fun _ => 0), (fun _ => 0), (fun _ => 0), (fun _ => 0), (fun _ => 0))) : wpX_layOut post (0, 0, 1, nI 0, 0, 0, 0, 0, 0, 0, 0, 0, 0, 0, 0, 0, 0, 0, 0, 0, 0, 0, 0, 0, 0, 0, 0, 0, (fun _ => 0), (fun _ => 0), (fun _ => 0), (fun _ => 0), (fun _ => 0), (fun _ => 0), (fun _ => 0), (fun _ => 0), (fun _ => 0), (fun _ => 0), (fun _ => 0), (fun _ => 0), lo_M [], (fun _ => 0), (fun _ => 0), (fun _ => 0), (fun _ => 0), (fun _ => 0), (fun _ => 0), (fun _ => 0), (fun _ => 0), (fun _ => 0), (fun _ => 0)) := by
  unfold wpX_layOut
  refine ⟨7, ?_⟩
  refine br_f (by decide) ?_
  refine lo_nf_5 _ 0 6 5 (by decide) (by decide) ?_
  refine ⟨pk_in 0 6 (by decide), nm_r (lo_st _ 0 5 (by decide) (by decide)) (nm_r (nI_add 0 1) ?_)⟩
  refine br_f (by decide) ?_
  refine lo_nf_5 _ 6 6 11 (by decide) (by decide) ?_
  refine ⟨pk_in 1 6 (by decide), nm_r (lo_st _ 1 11 (by decide) (by decide)) (nm_r (nI_add 1 1) ?_)⟩
  refine br_f (by decide) ?_
  refine lo_nf_5 _ 12 6 17 (by decide) (by decide) ?_
  refine ⟨pk_in 2 6 (by decide), nm_r (lo_st _ 2 17 (by decide) (by decide)) (nm_r (nI_add 2 1) ?_)⟩
  refine br_f (by decide) ?_
  refine lo_nf_5 _ 18 6 23 (by decide) (by decide) ?_
  refine ⟨pk_in 3 6 (by decide), nm_r (lo_st _ 3 23 (by decide) (by decide)) (nm_r (nI_add 3 1) ?_)⟩
  refine br_f (by decide) ?_
  refine lo_nf_5 _ 24 6 29 (by decide) (by decide) ?_
  refine ⟨pk_in 4 6 (by decide), nm_r (lo_st _ 4 29 (by decide) (by decide)) (nm_r (nI_add 4 1) ?_)⟩
  refine br_f (by decide) ?_
  refine lo_nf_5 _ 30 6 35 (by decide) (by decide) ?_
  refine ⟨pk_in 5 6 (by decide), nm_r (lo_st _ 5 35 (by decide) (by decide)) (nm_r (nI_add 5 1) ?_)⟩
  refine br_t (by decide) ⟨5, ?_⟩
  refine br_f (by decide) (br_f (by decide) ?_)
  unfold wX_layOut_50
  refine lo_nf_3 _ 36 2 37 (by decide) (by decide) ?_
  refine ⟨pk_in 0 4 (by decide), nm_r (lo_st _ 0 37 (by decide) (by decide)) (br_f (by decide) ?_)⟩
  unfold wX_layOut_71
  refine lo_nf_4 _ 38 2 39 (by decide) (by decide) ?_
  refine ⟨pk_in 0 4 (by decide), nm_r (lo_st _ 0 39 (by decide) (by decide)) (nm_r (nI_add 0 1) ?_)⟩
  refine br_f (by decide) (br_f (by decide) ?_)
  unfold wX_layOut_50
  refine lo_nf_3 _ 40 2 41 (by decide) (by decide) ?_
  refine ⟨pk_in 1 4 (by decide), nm_r (lo_st _ 1 41 (by decide) (by decide)) (br_f (by decide) ?_)⟩
  unfold wX_layOut_71
  refine lo_nf_4 _ 42 2 43 (by decide) (by decide) ?_
  refine ⟨pk_in 1 4 (by decide), nm_r (lo_st _ 1 43 (by decide) (by decide)) (nm_r (nI_add 1 1) ?_)⟩
  refine br_f (by decide) (br_t (by decide) ?_)
  unfold wX_layOut_50
  refine lo_nf_3 _ 44 3 46 (by decide) (by decide) ?_
  refine ⟨pk_in 2 4 (by decide), nm_r (lo_st _ 2 46 (by decide) (by decide)) (br_t (by decide) ?_)⟩
  unfold wX_layOut_71
  refine lo_nf_4 _ 47 3 49 (by decide) (by decide) ?_
  refine ⟨pk_in 2 4 (by decide), nm_r (lo_st _ 2 49 (by decide) (by decide)) (nm_r (nI_add 2 1) ?_)⟩
  refine br_f (by decide) (br_t (by decide) ?_)
  unfold wX_layOut_50
  refine lo_nf_3 _ 50 3 52 (by decide) (by decide) ?_
  refine ⟨pk_in 3 4 (by decide), nm_r (lo_st _ 3 52 (by decide) (by decide)) (br_t (by decide) ?_)⟩
  unfold wX_layOut_71
  refine lo_nf_4 _ 53 3 55 (by decide) (by decide) ?_
  refine ⟨pk_in 3 4 (by decide), nm_r (lo_st _ 3 55 (by decide) (by decide)) (nm_r (nI_add 3 1) ?_)⟩
  refine br_t (by decide) ⟨15, ?_⟩
  refine br_f (by decide) ?_
  refine lo_nf_2 _ 56 3 58 (by decide) (by decide) ?_
  refine ⟨pk_in 0 14 (by decide), nm_r (lo_st _ 0 58 (by decide) (by decide)) (nm_r (nI_add 0 1) ?_)⟩
  refine br_f (by decide) ?_
  refine lo_nf_2 _ 59 3 61 (by decide) (by decide) ?_
  refine ⟨pk_in 1 14 (by decide), nm_r (lo_st _ 1 61 (by decide) (by decide)) (nm_r (nI_add 1 1) ?_)⟩
  refine br_f (by decide) ?_
  refine lo_nf_2 _ 62 3 64 (by decide) (by decide) ?_
  refine ⟨pk_in 2 14 (by decide), nm_r (lo_st _ 2 64 (by decide) (by decide)) (nm_r (nI_add 2 1) ?_)⟩
  refine br_f (by decide) ?_
  refine lo_nf_2 _ 65 3 67 (by decide) (by decide) ?_
  refine ⟨pk_in 3 14 (by decide), nm_r (lo_st _ 3 67 (by decide) (by decide)) (nm_r (nI_add 3 1) ?_)⟩
  refine br_f (by decide) ?_
  refine lo_nf_2 _ 68 3 70 (by decide) (by decide) ?_
  refine ⟨pk_in 4 14 (by decide), nm_r (lo_st _ 4 70 (by decide) (by decide)) (nm_r (nI_add 4 1) ?_)⟩
  refine br_f (by decide) ?_
  refine lo_nf_2 _ 71 3 73 (by decide) (by decide) ?_
  refine ⟨pk_in 5 14 (by decide), nm_r (lo_st _ 5 73 (by decide) (by decide)) (nm_r (nI_add 5 1) ?_)⟩
  refine br_f (by decide) ?_
  refine lo_nf_2 _ 74 3 76 (by decide) (by decide) ?_
  refine ⟨pk_in 6 14 (by decide), nm_r (lo_st _ 6 76 (by decide) (by decide)) (nm_r (nI_add 6 1) ?_)⟩
  refine br_f (by decide) ?_
  refine lo_nf_2 _ 77 3 79 (by decide) (by decide) ?_
  refine ⟨pk_in 7 14 (by decide), nm_r (lo_st _ 7 79 (by decide) (by decide)) (nm_r (nI_add 7 1) ?_)⟩
  refine br_f (by decide) ?_
  refine lo_nf_2 _ 80 3 82 (by decide) (by decide) ?_
  refine ⟨pk_in 8 14 (by decide), nm_r (lo_st _ 8 82 (by decide) (by decide)) (nm_r (nI_add 8 1) ?_)⟩
  refine br_f (by decide) ?_
  refine lo_nf_2 _ 83 3 85 (by decide) (by decide) ?_
  refine ⟨pk_in 9 14 (by decide), nm_r (lo_st _ 9 85 (by decide) (by decide)) (nm_r (nI_add 9 1) ?_)⟩
  refine br_f (by decide) ?_
  refine lo_nf_2 _ 86 3 88 (by decide) (by decide) ?_
  refine ⟨pk_in 10 14 (by decide), nm_r (lo_st _ 10 88 (by decide) (by decide)) (nm_r (nI_add 10 1) ?_)⟩
  refine br_f (by decide) ?_
  refine lo_nf_2 _ 89 3 91 (by decide) (by decide) ?_
  refine ⟨pk_in 11 14 (by decide), nm_r (lo_st _ 11 91 (by decide) (by decide)) (nm_r (nI_add 11 1) ?_)⟩
  refine br_f (by decide) ?_
  refine lo_nf_2 _ 92 3 94 (by decide) (by decide) ?_
  refine ⟨pk_in 12 14 (by decide), nm_r (lo_st _ 12 94 (by decide) (by decide)) (nm_r (nI_add 12 1) ?_)⟩
  refine br_f (by decide) ?_
  refine lo_nf_2 _ 95 3 97 (by decide) (by decide) ?_
  refine ⟨pk_in 13 14 (by decide), nm_r (lo_st _ 13 97 (by decide) (by decide)) (nm_r (nI_add 13 1) ?_)⟩
  refine br_t (by decide) ?_
  refine lo_nf _ 98 7 104 (by decide) (by decide) ?_
  refine lo_nf _ 105 12 116 (by decide) (by decide) ?_
  refine lo_nf _ 117 6 122 (by decide) (by decide) ?_
  refine lo_nf _ 123 6 128 (by decide) (by decide) ?_
  refine lo_nf _ 129 7 135 (by decide) (by decide) ?_
  refine lo_nf _ 136 6 141 (by decide) (by decide) ?_
  refine lo_nf _ 142 6 147 (by decide) (by decide) ?_
  refine lo_nf _ 148 1 148 (by decide) (by decide) ?_
  refine lo_nf _ 149 1 149 (by decide) (by decide) ?_
  refine lo_nf _ 150 1 150 (by decide) (by decide) ?_
  refine lo_nf _ 151 1 151 (by decide) (by decide) ?_
  refine lo_nf _ 152 1 152 (by decide) (by decide) ?_
  refine ⟨pk_in 152 240 (by decide), nm_r (e' := upd (fun _ => 0) 152 1) (by rw [nI_clamp (by decide)]) ?_⟩
  exact h
theorem lo_M0 : lo_M [] = fun _ => 0 := by
  funext i
  exact if_neg (by intro z; cases z)
theorem lo_init {post : St2 → Prop} {mc ms : Nat} (hc : 23 ≤ mc) (hs : 1422 ≤ ms) (h : post (0, 0, 1, nI 153, nI 104, nI 116, nI 122, nI 128, nI 135, nI 141, nI 147, nI 148, nI 149, nI 150, nI 151, nI 152, 0, 0, 0, 0, 0, 0, 0, 0, 0, 0, 0, 0, (fun _ => 0), (fun _ => 0), (fun _ => 0), (fun _ => 0), (fun _ => 0), (fun _ => 0), (fun _ => 0), (fun _ => 0), (fun _ => 0), (fun _ => 0), (fun _ => 0), upd (fun _ => 0) 152 1, lo_M lo_L, (fun _ => 0), lo_15, lo_16, lo_17, lo_18, (fun _ => 0), (fun _ => 0), (fun _ => 0), (fun _ => 0), (fun _ => 0))) : wpX_init post mc ms (0, 0, 0, 0, 0, 0, 0, 0, 0, 0, 0, 0, 0, 0, 0, 0, 0, 0, 0, 0, 0, 0, 0, 0, 0, 0, 0, 0) := by
  have h' := lo_out (post := post) h
  rw [lo_M0] at h'
  exact ⟨by omega, by omega, by omega, by omega, by omega, by omega, by omega, by omega, by omega, by omega, by omega, by omega, by omega, by omega, by omega, by omega, by omega, by omega, by omega, by omega, by omega, by omega, by omega, by omega, by omega, by omega, by omega, by omega, by omega, by omega, by omega, by omega, by omega, by omega, by omega, by omega, by omega, by omega, by omega, by omega, by omega, by omega, by omega, by omega, by omega, by omega, h'⟩
theorem lo_15v : ∀ k, k < 6 → lo_15 k = nI (6 * k + 5) := by decide +kernel
theorem lo_18v : ∀ k, k < 14 → lo_18 k = nI (3 * k + 58) := by decide +kernel
theorem lo_cf : wk_cf lo_16 lo_17 := ⟨rfl, rfl, rfl, rfl, rfl, rfl, rfl, rfl⟩
end
section
/-! fields under the invariant: all digits and signs at the addresses of ar_zf are 0 -/
def zi_D (hv : Bool) (d : Nat → Int32) : Prop := (∀ i, ar_zf i = true → d i = 0) ∧ d 150 = (if hv = true then 1 else 0) ∧ d 152 = 1
def zi_M (m : Nat → Int32) : Prop := ∀ i, ar_zf i = true → m i = 0
theorem zi_D_upd {hv : Bool} {d : Nat → Int32} (h : zi_D hv d) (i : Nat) (v : Int32) (hz : ar_zf i = true → v = 0) (h0 : i ≠ 150) (h2 : i ≠ 152) : zi_D hv (upd d i v) := by
  refine ⟨fun j hj => ?_, ?_, ?_⟩
  · by_cases e : j = i
    · rw [e, pk_us]
      exact hz (e ▸ hj)
    · rw [pk_un e]
      exact h.1 j hj
  · rw [pk_un (Ne.symm h0)]
    exact h.2.1
  · rw [pk_un (Ne.symm h2)]
    exact h.2.2
theorem zi_M_upd {m : Nat → Int32} (h : zi_M m) (i : Nat) (v : Int32) (hz : ar_zf i = true → v = 0) : zi_M (upd m i v) := by
  intro j hj
  by_cases e : j = i
  · rw [e, pk_us]
    exact hz (e ▸ hj)
  · rw [pk_un e]
    exact h j hj
def zi_len (a : Nat) : Nat := a + 1 - (lo_L.find? (fun s => Nat.ble s a)).getD 0
theorem zi_len1 : ∀ a, a < 153 → 1 ≤ zi_len a ∧ zi_len a ≤ 12 ∧ zi_len a ≤ a + 1 ∧ (a + 1 - zi_len a) ∈ lo_L := by decide +kernel
theorem zi_len2 : ∀ a, a < 153 → ∀ k, k < zi_len a → 1 ≤ k → ¬ (a + 1 - k) ∈ lo_L := by decide +kernel
theorem zi_lenZ : ∀ a, a < 153 → ar_zf a = true → ∀ k, k < zi_len a → ar_zf (a - k) = true := by decide +kernel
theorem zi_lenF : ∀ a, a < 153 → ar_fr a = true → ∀ k, k < zi_len a → ar_fr (a - k) = true := by decide +kernel
theorem zi_zf153 {a : Nat} (h : ar_zf a = true) : a < 153 := by
  simp [ar_zf] at h
  omega
theorem zi_fr153 {a : Nat} (h : ar_fr a = true) : a < 153 := by
  simp [ar_fr] at h
  omega
theorem zi_frz {a : Nat} (h : ar_fr a = true) : ¬ ar_zf a = true := by
  simp [ar_fr] at h
  simp [ar_zf]
  omega
theorem zi_z150 {a : Nat} (h : ar_zf a = true ∨ ar_fr a = true) : a ≠ 150 ∧ a ≠ 152 := by
  simp [ar_zf, ar_fr] at h
  omega
theorem zi_mk1 {a : Nat} (h : a ∈ lo_L) : ¬ lo_M lo_L a = 0 := by
  unfold lo_M
  rw [if_pos h]
  decide
theorem zi_mk0 {a : Nat} (h : ¬ a ∈ lo_L) : lo_M lo_L a = 0 := if_neg h
theorem zi_ix {a i : Nat} (h : i ≤ a + 1) : nI a - nI i + 1 = nI (a + 1 - i) := by
  rw [← pk_sub h, ← nI_1 a]
  grind
theorem zi_s1 (n : Nat) : nI n - 1 = nI n + (-1) := by grind
section
variable {cc lc lv me sA pA lA rA eA qA tA cA gA hA zA oA cp ce mA dA nA ia od cd nc ta zh pc : Int32} {a1 a2 a3 a4 a5 a6 a7 a8 a9 a10 a11 a12 a13 a14 a15 a16 a17 a18 a19 a20 a21 a22 a23 : Nat → Int32}
theorem zl_len {post : Int32 → Prop} (a : Nat) (ha : a < 153) (h : post (nI (zi_len a))) : wpX_lengthOf post (cc, lc, lv, me, sA, pA, lA, rA, eA, qA, tA, cA, gA, hA, zA, oA, cp, ce, mA, dA, nA, ia, od, cd, nc, ta, zh, pc, a1, a2, a3, a4, a5, a6, a7, a8, a9, a10, a11, a12, lo_M lo_L, a14, a15, a16, a17, a18, a19, a20, a21, a22, a23) (nI a) := by
  obtain ⟨l1, l2, l3, l4⟩ := zi_len1 a ha
  refine pk_loop (σ := Unit) (fun n i _ => wX_lengthOf_2 post (nI a) cc lc lv me sA pA lA rA eA qA tA cA gA hA zA oA cp ce mA dA nA ia od cd nc ta zh pc a1 a2 a3 a4 a5 a6 a7 a8 a9 a10 a11 a12 (lo_M lo_L) a14 a15 a16 a17 a18 a19 a20 a21 a22 a23 n (nI i)) (fun i _ => 1 ≤ i) (zi_len a) 1 () l1 (by omega) ?_ ?_
  · intro n _ _
    refine ⟨pk_in (a + 1 - zi_len a) 240 (by omega) (zi_ix l3), br_f ?_ h⟩
    rw [zi_ix l3, nI_clamp (by omega)]
    exact zi_mk1 l4
  · intro n i _ hi h1 hw
    refine ⟨pk_in (a + 1 - i) 240 (by omega) (zi_ix (by omega)), br_t ?_ (nm_r (nI_1 i) (hw () (by omega)))⟩
    rw [zi_ix (by omega), nI_clamp (by omega)]
    exact zi_mk0 (zi_len2 a ha i hi h1)
theorem zl_isz {post : Int32 → Prop} (a : Nat) (ha : a < 153) (h0 : post 0) (h1 : post 1) : wpX_isZero post (cc, lc, lv, me, sA, pA, lA, rA, eA, qA, tA, cA, gA, hA, zA, oA, cp, ce, mA, dA, nA, ia, od, cd, nc, ta, zh, pc, a1, a2, a3, a4, a5, a6, a7, a8, a9, a10, a11, a12, lo_M lo_L, a14, a15, a16, a17, a18, a19, a20, a21, a22, a23) (nI a) := by
  obtain ⟨l1, l2, l3, l4⟩ := zi_len1 a ha
  refine zl_len a ha ?_
  refine pk_loop (σ := Unit) (fun n i _ => wX_isZero_8 post (nI a) (nI (zi_len a)) cc lc lv me sA pA lA rA eA qA tA cA gA hA zA oA cp ce mA dA nA ia od cd nc ta zh pc a1 a2 a3 a4 a5 a6 a7 a8 a9 a10 a11 a12 (lo_M lo_L) a14 a15 a16 a17 a18 a19 a20 a21 a22 a23 n (nI i)) (fun i _ => True) (zi_len a) 0 () (by omega) trivial ?_ ?_
  · intro n _ _
    exact pk_le (zi_len a) (zi_len a) (fun _ => h1) (fun z => absurd z (by omega))
  · intro n i _ hi _ hw
    exact pk_le (zi_len a) i (fun z => absurd z (by omega)) (fun _ => ⟨pk_in (a - i) 240 (by omega) (pk_sub (by omega)), br_c (fun _ => nm_r (nI_1 i) (hw () trivial)) (fun _ => h0)⟩)
theorem zl_dig {post : Int32 → Prop} (a n k : Nat) (ha : a < 240) (hn : n ≤ a + 1) (hk : k < 240) (h0 : n ≤ k → post 0) (h1 : k < n → post (a12 (a - k))) : wpX_digitAt post (cc, lc, lv, me, sA, pA, lA, rA, eA, qA, tA, cA, gA, hA, zA, oA, cp, ce, mA, dA, nA, ia, od, cd, nc, ta, zh, pc, a1, a2, a3, a4, a5, a6, a7, a8, a9, a10, a11, a12, a13, a14, a15, a16, a17, a18, a19, a20, a21, a22, a23) (nI a) (nI n) (nI k) := by
  refine pk_le n k h0 (fun z => ⟨pk_in (a - k) 240 (by omega) (pk_sub (by omega)), ?_⟩)
  rw [pk_sub (by omega), nI_clamp (by omega)]
  exact h1 z
/-- a digit of a zero field -/
theorem zl_digZ {post : Int32 → Prop} {hv : Bool} (a k : Nat) (hz : ar_zf a = true) (hD : zi_D hv a12) (hk : k < 240) (h : post 0) : wpX_digitAt post (cc, lc, lv, me, sA, pA, lA, rA, eA, qA, tA, cA, gA, hA, zA, oA, cp, ce, mA, dA, nA, ia, od, cd, nc, ta, zh, pc, a1, a2, a3, a4, a5, a6, a7, a8, a9, a10, a11, a12, a13, a14, a15, a16, a17, a18, a19, a20, a21, a22, a23) (nI a) (nI (zi_len a)) (nI k) := by
  have ha := zi_zf153 hz
  obtain ⟨l1, l2, l3, l4⟩ := zi_len1 a ha
  refine zl_dig a (zi_len a) k (by omega) l3 hk (fun _ => h) (fun z => ?_)
  rw [hD.1 (a - k) (zi_lenZ a ha hz k z)]
  exact h
theorem zl_zadd {post : St2 → Prop} {hv : Bool} (a b : Nat) (hab : (ar_zf a = true ∧ ar_zf b = true) ∨ (ar_fr a = true ∧ ar_fr b = true)) (hD : zi_D hv a12) (hM : zi_M a14)
    (h : ∀ d m, zi_D hv d → zi_M m → post (cc, lc, lv, me, sA, pA, lA, rA, eA, qA, tA, cA, gA, hA, zA, oA, cp, ce, mA, dA, nA, ia, od, cd, nc, ta, zh, pc, a1, a2, a3, a4, a5, a6, a7, a8, a9, a10, a11, d, lo_M lo_L, m, a15, a16, a17, a18, a19, a20, a21, a22, a23)) : wpX_zeroAdd post (cc, lc, lv, me, sA, pA, lA, rA, eA, qA, tA, cA, gA, hA, zA, oA, cp, ce, mA, dA, nA, ia, od, cd, nc, ta, zh, pc, a1, a2, a3, a4, a5, a6, a7, a8, a9, a10, a11, a12, lo_M lo_L, a14, a15, a16, a17, a18, a19, a20, a21, a22, a23) (nI a) (nI b) := by
  have ha : a < 153 := by rcases hab with z | z; exact zi_zf153 z.1; exact zi_fr153 z.1
  have hb : b < 153 := by rcases hab with z | z; exact zi_zf153 z.2; exact zi_fr153 z.2
  obtain ⟨l1, l2, l3, l4⟩ := zi_len1 a ha
  obtain ⟨k1, k2, k3, k4⟩ := zi_len1 b hb
  have hpos : ∀ k, k < zi_len b → ar_zf (b - k) = true ∨ ar_fr (b - k) = true := fun k hk => by
    rcases hab with z | z
    · exact Or.inl (zi_lenZ b hb z.2 k hk)
    · exact Or.inr (zi_lenF b hb z.2 k hk)
  have hx : ar_zf b = true → a14 (nI a).toNatClampNeg = 0 := fun z => by
    rw [nI_clamp (by omega)]
    rcases hab with y | y
    · exact hM a y.1
    · exact absurd z (zi_frz y.2)
  refine zl_len a ha (zl_len b hb ⟨pk_in a 240 (by omega), nm_e ?_⟩)
  refine pk_loop (fun n i d => wX_zeroAdd_24 post (nI a) (nI b) (nI (zi_len a)) (nI (zi_len b)) (a14 (nI a).toNatClampNeg) cc lc lv me sA pA lA rA eA qA tA cA gA hA zA oA cp ce mA dA nA ia od cd nc ta zh pc n (nI i) a1 a2 a3 a4 a5 a6 a7 a8 a9 a10 a11 d (lo_M lo_L) a14 a15 a16 a17 a18 a19 a20 a21 a22 a23) (fun i d => zi_D hv d) (zi_len b) 0 a12 (by omega) hD ?_ ?_
  · intro n d hd
    refine pk_le (zi_len b) (zi_len b) (fun _ => br_c (fun x0 => ⟨pk_in b 240 (by omega), ?_⟩) (fun x0 => zl_isz b hb ?_ ?_)) (fun z => absurd z (by omega))
    · exact nm_e (h d _ hd (zi_M_upd hM _ 0 (fun _ => rfl)))
    · refine br_t rfl ⟨pk_in b 240 (by omega), nm_e (h d _ hd (zi_M_upd hM _ 1 (fun z => ?_)))⟩
      rw [nI_clamp (by omega)] at z
      exact absurd (hx z) x0
    · exact br_f (by decide) ⟨pk_in b 240 (by omega), nm_e (h d _ hd (zi_M_upd hM _ 0 (fun _ => rfl)))⟩
  · intro n i d hi hd hw
    refine pk_le (zi_len b) i (fun z => absurd z (by omega)) (fun _ => ?_)
    have hp := hpos i hi
    have hne := zi_z150 hp
    have fin : ∀ r : Int32, (ar_zf (b - i) = true → r = 0) → (vp_in (nI b - nI i) 240 ∧ ∀ x, x = upd d (nI b - nI i).toNatClampNeg r.toInt8.toInt32 → ∀ y, y = nI i + 1 → wX_zeroAdd_24 post (nI a) (nI b) (nI (zi_len a)) (nI (zi_len b)) (a14 (nI a).toNatClampNeg) cc lc lv me sA pA lA rA eA qA tA cA gA hA zA oA cp ce mA dA nA ia od cd nc ta zh pc n y a1 a2 a3 a4 a5 a6 a7 a8 a9 a10 a11 x (lo_M lo_L) a14 a15 a16 a17 a18 a19 a20 a21 a22 a23) := fun r hr => by
      refine ⟨pk_in (b - i) 240 (by omega) (pk_sub (by omega)), nm_r (e' := upd d (b - i) r.toInt8.toInt32) (by rw [pk_sub (by omega), nI_clamp (by omega)]) (nm_r (nI_1 i) (hw _ (zi_D_upd hd _ _ (fun z => ?_) hne.1 hne.2)))⟩
      rw [hr z]
      rfl
    refine zl_dig a (zi_len a) i (by omega) l3 (by omega) (fun _ => fin 0 (fun _ => rfl)) (fun z => fin _ (fun y => ?_))
    rcases hab with g | g
    · exact hd.1 (a - i) (zi_lenZ a ha g.1 i z)
    · exact absurd y (zi_frz (zi_lenF b hb g.2 i hi))
theorem zl_178 {post : St2 → Prop} {hv : Bool} (b : Nat) (hz : ar_zf b = true) (hD : zi_D hv a12) (hM : zi_M a14)
    (h : ∀ d m, zi_D hv d → zi_M m → post (cc, lc, lv, me, sA, pA, lA, rA, eA, qA, tA, cA, gA, hA, zA, oA, cp, ce, mA, dA, nA, ia, od, cd, nc, ta, zh, pc, a1, a2, a3, a4, a5, a6, a7, a8, a9, a10, a11, d, lo_M lo_L, m, a15, a16, a17, a18, a19, a20, a21, a22, a23)) : wX_add_178 post (nI b) cc lc lv me sA pA lA rA eA qA tA cA gA hA zA oA cp ce mA dA nA ia od cd nc ta zh pc a1 a2 a3 a4 a5 a6 a7 a8 a9 a10 a11 a12 (lo_M lo_L) a14 a15 a16 a17 a18 a19 a20 a21 a22 a23 := by
  have hb := zi_zf153 hz
  unfold wX_add_178
  refine zl_isz b hb (br_t rfl (h _ _ hD hM)) (br_f (by decide) ⟨pk_in b 240 (by omega), nm_e (h _ _ hD (zi_M_upd hM _ 0 (fun _ => rfl)))⟩)
theorem zl_add {post : St2 → Prop} {hv : Bool} {sg : Int32} (a b : Nat) (za : ar_zf a = true) (zb : ar_zf b = true) (hD : zi_D hv a12) (hM : zi_M a14)
    (h : ∀ d m, zi_D hv d → zi_M m → post (cc, lc, lv, me, sA, pA, lA, rA, eA, qA, tA, cA, gA, hA, zA, oA, cp, ce, mA, dA, nA, ia, od, cd, nc, ta, zh, pc, a1, a2, a3, a4, a5, a6, a7, a8, a9, a10, a11, d, lo_M lo_L, m, a15, a16, a17, a18, a19, a20, a21, a22, a23)) : wpX_add post (cc, lc, lv, me, sA, pA, lA, rA, eA, qA, tA, cA, gA, hA, zA, oA, cp, ce, mA, dA, nA, ia, od, cd, nc, ta, zh, pc, a1, a2, a3, a4, a5, a6, a7, a8, a9, a10, a11, a12, lo_M lo_L, a14, a15, a16, a17, a18, a19, a20, a21, a22, a23) (nI a) (nI b) sg := by
  have ha := zi_zf153 za
  have hb := zi_zf153 zb
  obtain ⟨k1, k2, k3, k4⟩ := zi_len1 b hb
  have hdig : ∀ (d : Nat → Int32) (i : Nat), zi_D hv d → i < zi_len b → d (nI b - nI i).toNatClampNeg = 0 := fun d i hd hi => by
    rw [pk_sub (by omega), nI_clamp (by omega)]
    exact hd.1 _ (zi_lenZ b hb zb i hi)
  have hin : ∀ i, i < zi_len b → vp_in (nI b - nI i) 240 := fun i hi => pk_in (b - i) 240 (by omega) (pk_sub (by omega))
  have hup : ∀ (d : Nat → Int32) (i : Nat) (v : Int32), zi_D hv d → i < zi_len b → v = 0 → zi_D hv (upd d (nI b - nI i).toNatClampNeg v) := fun d i v hd hi e => by
    rw [pk_sub (by omega), nI_clamp (by omega)]
    have hne := zi_z150 (Or.inl (zi_lenZ b hb zb i hi))
    exact zi_D_upd hd _ _ (fun _ => e) hne.1 hne.2
  refine zl_len a ha (zl_len b hb ⟨pk_in b 240 (by omega), br_c (fun _ => ?_) (fun _ => ?_)⟩)
  · refine pk_loop (fun n i d => wX_add_30 post (nI a) (nI b) (nI (zi_len a)) (nI (zi_len b)) cc lc lv me sA pA lA rA eA qA tA cA gA hA zA oA cp ce mA dA nA ia od cd nc ta zh pc n 0 (nI i) a1 a2 a3 a4 a5 a6 a7 a8 a9 a10 a11 d (lo_M lo_L) a14 a15 a16 a17 a18 a19 a20 a21 a22 a23) (fun i d => zi_D hv d) (zi_len b) 0 a12 (by omega) hD ?_ ?_
    · intro n d hd
      exact pk_le (zi_len b) (zi_len b) (fun _ => zl_178 b zb hd hM h) (fun z => absurd z (by omega))
    · intro n i d hi hd hw
      refine pk_le (zi_len b) i (fun z => absurd z (by omega)) (fun _ => ⟨hin i hi, zl_digZ a i za hd (by omega) ?_⟩)
      refine nm_r (e' := 0) (by rw [hdig d i hd hi]; rfl) ⟨by decide, hin i hi, nm_e ⟨by decide, nm_r (e' := 0) (by decide) (nm_r (nI_1 i) ?_)⟩⟩
      exact hw _ (hup d i _ hd hi (by decide))
  · refine pk_loop (fun n i d => wX_add_98 post (nI a) (nI b) sg (nI (zi_len a)) (nI (zi_len b)) cc lc lv me sA pA lA rA eA qA tA cA gA hA zA oA cp ce mA dA nA ia od cd nc ta zh pc n 0 (nI i) a1 a2 a3 a4 a5 a6 a7 a8 a9 a10 a11 d (lo_M lo_L) a14 a15 a16 a17 a18 a19 a20 a21 a22 a23) (fun i d => zi_D hv d) (zi_len b) 0 a12 (by omega) hD ?_ ?_
    · intro n d hd
      exact pk_le (zi_len b) (zi_len b) (fun _ => br_t (by decide) (zl_178 b zb hd hM h)) (fun z => absurd z (by omega))
    · intro n i d hi hd hw
      refine pk_le (zi_len b) i (fun z => absurd z (by omega)) (fun _ => ⟨hin i hi, zl_digZ a i za hd (by omega) ?_⟩)
      refine nm_r (e' := 0) (by rw [hdig d i hd hi]; rfl) (br_t (by decide) ⟨hin i hi, nm_e (nm_r (nI_1 i) ?_)⟩)
      exact hw _ (hup d i _ hd hi (by decide))
theorem zl_cmpL {post : Int32 → Prop} {hv : Bool} (a b : Nat) (za : ar_zf a = true) (zb : ar_zf b = true) (hD : zi_D hv a12) (h : post 0) :
    ∀ j, j < 200 → ∀ x, x = nI j + (-1) → wX_compare_63 post (nI a) (nI b) (nI (zi_len a)) (nI (zi_len b)) cc lc lv me sA pA lA rA eA qA tA cA gA hA zA oA cp ce mA dA nA ia od cd nc ta zh pc a1 a2 a3 a4 a5 a6 a7 a8 a9 a10 a11 a12 (lo_M lo_L) a14 a15 a16 a17 a18 a19 a20 a21 a22 a23 (j + 1) x := by
  intro j
  induction j with
  | zero =>
    intro _
    exact nm_r (e' := -1) (by decide) (br_t (by decide) h)
  | succ j ih =>
    intro hj
    refine nm_r (pk_m1 j) (br_f (nI_pos (by omega)) ?_)
    refine zl_digZ a j za hD (by omega) (zl_digZ b j zb hD (by omega) ?_)
    exact nm_r (e' := 0) (by decide) (br_t rfl (ih (by omega)))
theorem zl_cmp {post : Int32 → Prop} {hv : Bool} (a b : Nat) (za : ar_zf a = true) (zb : ar_zf b = true) (hD : zi_D hv a12) (hM : zi_M a14) (h : post 0) : wpX_compare post (cc, lc, lv, me, sA, pA, lA, rA, eA, qA, tA, cA, gA, hA, zA, oA, cp, ce, mA, dA, nA, ia, od, cd, nc, ta, zh, pc, a1, a2, a3, a4, a5, a6, a7, a8, a9, a10, a11, a12, lo_M lo_L, a14, a15, a16, a17, a18, a19, a20, a21, a22, a23) (nI a) (nI b) := by
  have ha := zi_zf153 za
  have hb := zi_zf153 zb
  obtain ⟨l1, l2, l3, l4⟩ := zi_len1 a ha
  obtain ⟨k1, k2, k3, k4⟩ := zi_len1 b hb
  refine ⟨pk_in a 240 (by omega), pk_in b 240 (by omega), br_t ?_ (zl_len a ha (zl_len b hb (br_c (fun _ => ?_) (fun _ => ?_))))⟩
  · rw [nI_clamp (by omega), nI_clamp (by omega), hM a za, hM b zb]
  · exact nm_r (zi_s1 _) ⟨_, zl_cmpL a b za zb hD h (zi_len b) (by omega) _ rfl⟩
  · exact nm_r (zi_s1 _) ⟨_, zl_cmpL a b za zb hD h (zi_len a) (by omega) _ rfl⟩
theorem zl_shiftL {post : St2 → Prop} {hv : Bool} (a : Nat) (za : ar_zf a = true) (hM : zi_M a14)
    (h : ∀ d m, zi_D hv d → zi_M m → post (cc, lc, lv, me, sA, pA, lA, rA, eA, qA, tA, cA, gA, hA, zA, oA, cp, ce, mA, dA, nA, ia, od, cd, nc, ta, zh, pc, a1, a2, a3, a4, a5, a6, a7, a8, a9, a10, a11, d, lo_M lo_L, m, a15, a16, a17, a18, a19, a20, a21, a22, a23)) :
    ∀ j (d : Nat → Int32), j < zi_len a → zi_D hv d → wX_shift_11 post (nI a) 0 cc lc lv me sA pA lA rA eA qA tA cA gA hA zA oA cp ce mA dA nA ia od cd nc ta zh pc (j + 1) (nI j) a1 a2 a3 a4 a5 a6 a7 a8 a9 a10 a11 d (lo_M lo_L) a14 a15 a16 a17 a18 a19 a20 a21 a22 a23 := by
  have ha := zi_zf153 za
  obtain ⟨l1, l2, l3, l4⟩ := zi_len1 a ha
  have hne : ∀ k, k < zi_len a → a - k ≠ 150 ∧ a - k ≠ 152 := fun k hk => zi_z150 (Or.inl (zi_lenZ a ha za k hk))
  intro j
  induction j with
  | zero =>
    intro d _ hd
    refine br_t (by decide) ⟨pk_in a 240 (by omega), nm_e (h _ _ ?_ hM)⟩
    rw [nI_clamp (by omega)]
    exact zi_D_upd hd a _ (fun _ => by decide) (hne 0 (by omega)).1 (hne 0 (by omega)).2
  | succ j ih =>
    intro d hj hd
    refine br_f (nI_nle (by omega) (by omega)) ⟨pk_in (a - j) 240 (by omega) ?_, pk_in (a - (j + 1)) 240 (by omega) (pk_sub (by omega)), nm_e (nm_r (pk_m1 j) (ih _ (by omega) ?_))⟩
    · rw [zi_ix (by omega)]
      congr 1
      omega
    · rw [pk_sub (by omega), nI_clamp (show a - (j + 1) < 2 ^ 31 by omega)]
      refine zi_D_upd hd _ _ (fun _ => ?_) (hne _ hj).1 (hne _ hj).2
      rw [← pk_sub (show j + 1 ≤ a by omega), zi_ix (by omega), nI_clamp (by omega), hd.1 _ (show ar_zf (a + 1 - (j + 1)) = true by rw [show a + 1 - (j + 1) = a - j by omega]; exact zi_lenZ a ha za j (by omega)), vp_nar_byte]
      rfl
theorem zl_shift {post : St2 → Prop} {hv : Bool} {q : Int32} (hq : q = 0) (a : Nat) (za : ar_zf a = true) (hD : zi_D hv a12) (hM : zi_M a14)
    (h : ∀ d m, zi_D hv d → zi_M m → post (cc, lc, lv, me, sA, pA, lA, rA, eA, qA, tA, cA, gA, hA, zA, oA, cp, ce, mA, dA, nA, ia, od, cd, nc, ta, zh, pc, a1, a2, a3, a4, a5, a6, a7, a8, a9, a10, a11, d, lo_M lo_L, m, a15, a16, a17, a18, a19, a20, a21, a22, a23)) : wpX_shift post (cc, lc, lv, me, sA, pA, lA, rA, eA, qA, tA, cA, gA, hA, zA, oA, cp, ce, mA, dA, nA, ia, od, cd, nc, ta, zh, pc, a1, a2, a3, a4, a5, a6, a7, a8, a9, a10, a11, a12, lo_M lo_L, a14, a15, a16, a17, a18, a19, a20, a21, a22, a23) (nI a) q := by
  subst hq
  have ha := zi_zf153 za
  obtain ⟨l1, l2, l3, l4⟩ := zi_len1 a ha
  exact zl_len a ha (nm_r (pk_sub (b := 1) l1) ⟨_, zl_shiftL a za hM h (zi_len a - 1) a12 (by omega) hD⟩)
theorem zl_setL {post : St2 → Prop} {hv : Bool} {v : Int32} (a : Nat) (hc : ar_fr a = true ∨ (ar_zf a = true ∧ v = 0)) (hM : zi_M a14)
    (h : ∀ d m, zi_D hv d → zi_M m → post (cc, lc, lv, me, sA, pA, lA, rA, eA, qA, tA, cA, gA, hA, zA, oA, cp, ce, mA, dA, nA, ia, od, cd, nc, ta, zh, pc, a1, a2, a3, a4, a5, a6, a7, a8, a9, a10, a11, d, lo_M lo_L, m, a15, a16, a17, a18, a19, a20, a21, a22, a23)) :
    ∀ j k (d : Nat → Int32) (t : Int32), k + (j + 1) = zi_len a → zi_D hv d → (v = 0 → t = 0) → wX_setField_17 post (nI a) v cc lc lv me sA pA lA rA eA qA tA cA gA hA zA oA cp ce mA dA nA ia od cd nc ta zh pc (j + 2) t (nI (a - k)) 1 a1 a2 a3 a4 a5 a6 a7 a8 a9 a10 a11 d (lo_M lo_L) a14 a15 a16 a17 a18 a19 a20 a21 a22 a23 := by
  have ha : a < 153 := by rcases hc with z | z; exact zi_fr153 z; exact zi_zf153 z.1
  obtain ⟨l1, l2, l3, l4⟩ := zi_len1 a ha
  have hne : ∀ k, k < zi_len a → a - k ≠ 150 ∧ a - k ≠ 152 := fun k hk => by
    rcases hc with z | z
    · exact zi_z150 (Or.inr (zi_lenF a ha z k hk))
    · exact zi_z150 (Or.inl (zi_lenZ a ha z.1 k hk))
  have hst : ∀ k (d : Nat → Int32) (t : Int32), k < zi_len a → zi_D hv d → (v = 0 → t = 0) → zi_D hv (upd d (nI (a - k)).toNatClampNeg ((t - t / 10 * 10).toInt8.toInt32)) := fun k d t hk hd ht => by
    rw [nI_clamp (by omega)]
    refine zi_D_upd hd _ _ (fun z => ?_) (hne k hk).1 (hne k hk).2
    rcases hc with y | y
    · exact absurd z (zi_frz (zi_lenF a ha y k hk))
    · rw [ht y.2]
      decide
  intro j
  induction j with
  | zero =>
    intro k d t hk hd ht
    have hin : vp_in (nI (a - k)) 240 := pk_in (a - k) 240 (by omega)
    refine br_f (by decide) ⟨by decide, hin, nm_e ⟨by decide, nm_e ⟨hin, br_f ?_ (nm_e (br_t rfl ?_))⟩⟩⟩
    · rw [nI_clamp (by omega), show a - k = a + 1 - zi_len a by omega]
      exact zi_mk1 l4
    · refine br_c (fun _ => ⟨pk_in a 240 (by omega), nm_e (h _ _ (hst k d t (by omega) hd ht) (zi_M_upd hM _ 0 (fun _ => rfl)))⟩) (fun g => ⟨pk_in a 240 (by omega), nm_e (h _ _ (hst k d t (by omega) hd ht) (zi_M_upd hM _ 1 (fun z => ?_)))⟩)
      rw [nI_clamp (by omega)] at z
      rcases hc with y | y
      · exact absurd z (zi_frz y)
      · exact absurd (by rw [y.2]; decide) g
  | succ j ih =>
    intro k d t hk hd ht
    have hin : vp_in (nI (a - k)) 240 := pk_in (a - k) 240 (by omega)
    refine br_f (by decide) ⟨by decide, hin, nm_e ⟨by decide, nm_e ⟨hin, br_t ?_ (nm_r (e' := nI (a - (k + 1))) ?_ ?_)⟩⟩⟩
    · rw [nI_clamp (by omega), show a - k = a + 1 - (k + 1) by omega]
      exact zi_mk0 (zi_len2 a ha (k + 1) (by omega) (by omega))
    · rw [sb_m1 (by omega)]
      rfl
    · exact ih (k + 1) _ _ (by omega) (hst k d t (by omega) hd ht) (fun z => by rw [ht z]; decide)
theorem zl_set {post : St2 → Prop} {hv : Bool} {v q : Int32} (a : Nat) (hq : q = nI a) (hc : ar_fr a = true ∨ (ar_zf a = true ∧ v = 0)) (hD : zi_D hv a12) (hM : zi_M a14)
    (h : ∀ d m, zi_D hv d → zi_M m → post (cc, lc, lv, me, sA, pA, lA, rA, eA, qA, tA, cA, gA, hA, zA, oA, cp, ce, mA, dA, nA, ia, od, cd, nc, ta, zh, pc, a1, a2, a3, a4, a5, a6, a7, a8, a9, a10, a11, d, lo_M lo_L, m, a15, a16, a17, a18, a19, a20, a21, a22, a23)) : wpX_setField post (cc, lc, lv, me, sA, pA, lA, rA, eA, qA, tA, cA, gA, hA, zA, oA, cp, ce, mA, dA, nA, ia, od, cd, nc, ta, zh, pc, a1, a2, a3, a4, a5, a6, a7, a8, a9, a10, a11, a12, lo_M lo_L, a14, a15, a16, a17, a18, a19, a20, a21, a22, a23) q v := by
  subst hq
  have ha : a < 153 := by rcases hc with z | z; exact zi_fr153 z; exact zi_zf153 z.1
  obtain ⟨l1, l2, l3, l4⟩ := zi_len1 a ha
  refine br_c (fun _ => ⟨zi_len a - 1 + 2, ?_⟩) (fun _ => nm_e ⟨zi_len a - 1 + 2, ?_⟩)
  · exact zl_setL a hc hM h (zi_len a - 1) 0 a12 v (by omega) hD (fun z => z)
  · exact zl_setL a hc hM h (zi_len a - 1) 0 a12 (-v) (by omega) hD (fun z => by rw [z]; decide)
theorem zl_valL {post : Int32 → Prop} {hv : Bool} (a : Nat) (za : ar_zf a = true) (hD : zi_D hv a12) (hM : zi_M a14) (h : post 0) :
    ∀ j k (t : Int32), k + (j + 1) = zi_len a → wX_fieldValue_10 post (nI a) cc lc lv me sA pA lA rA eA qA tA cA gA hA zA oA cp ce mA dA nA ia od cd nc ta zh pc a1 a2 a3 a4 a5 a6 a7 a8 a9 a10 a11 a12 (lo_M lo_L) a14 a15 a16 a17 a18 a19 a20 a21 a22 a23 (j + 2) 0 t (nI (a - k)) 1 := by
  have ha := zi_zf153 za
  obtain ⟨l1, l2, l3, l4⟩ := zi_len1 a ha
  have hz : ∀ k (t : Int32), k < zi_len a → (0 : Int32) + t * a12 (nI (a - k)).toNatClampNeg = 0 := fun k t hk => by
    rw [nI_clamp (by omega), hD.1 _ (zi_lenZ a ha za k hk), Int32.mul_zero]
    rfl
  intro j
  induction j with
  | zero =>
    intro k t hk
    have hin : vp_in (nI (a - k)) 240 := pk_in (a - k) 240 (by omega)
    refine br_f (by decide) ⟨hin, nm_r (hz k t (by omega)) <| nm_e ⟨hin, br_f ?_ (nm_e (br_t rfl ⟨pk_in a 240 (by omega), br_t ?_ h⟩))⟩⟩
    · rw [nI_clamp (by omega), show a - k = a + 1 - zi_len a by omega]
      exact zi_mk1 l4
    · rw [nI_clamp (by omega)]
      exact hM a za
  | succ j ih =>
    intro k t hk
    have hin : vp_in (nI (a - k)) 240 := pk_in (a - k) 240 (by omega)
    refine br_f (by decide) ⟨hin, nm_r (hz k t (by omega)) <| nm_e ⟨hin, br_t ?_ (nm_r (e' := nI (a - (k + 1))) ?_ ?_)⟩⟩
    · rw [nI_clamp (by omega), show a - k = a + 1 - (k + 1) by omega]
      exact zi_mk0 (zi_len2 a ha (k + 1) (by omega) (by omega))
    · rw [sb_m1 (by omega)]
      rfl
    · exact ih (k + 1) _ (by omega)
theorem zl_val {post : Int32 → Prop} {hv : Bool} {q : Int32} (a : Nat) (hq : q = nI a) (za : ar_zf a = true) (hD : zi_D hv a12) (hM : zi_M a14) (h : post 0) : wpX_fieldValue post (cc, lc, lv, me, sA, pA, lA, rA, eA, qA, tA, cA, gA, hA, zA, oA, cp, ce, mA, dA, nA, ia, od, cd, nc, ta, zh, pc, a1, a2, a3, a4, a5, a6, a7, a8, a9, a10, a11, a12, lo_M lo_L, a14, a15, a16, a17, a18, a19, a20, a21, a22, a23) q := by
  subst hq
  obtain ⟨l1, l2, l3, l4⟩ := zi_len1 a (zi_zf153 za)
  exact ⟨zi_len a - 1 + 2, zl_valL a za hD hM h (zi_len a - 1) 0 1 (by omega)⟩
end
end
section
/-! the machine's step, one lemma an instruction -/
def st_K : List Nat → (Nat → Int32) → Prop
  | [], _ => True
  | x :: r, a => a r.length = nI x ∧ st_K r a
def st_I (ind : Nat → Bool) (a : Nat → Int32) : Prop := ∀ k, k < 4 → a k = if ind k = true then 1 else 0
theorem st_K_upd : ∀ (l : List Nat) (a : Nat → Int32) (k : Nat) (v : Int32), l.length ≤ k → st_K l a → st_K l (upd a k v) := by
  intro l
  induction l with
  | nil => intro a k v _ _; trivial
  | cons x r ih =>
    intro a k v hk h
    have hl : (x :: r).length = r.length + 1 := rfl
    exact ⟨by rw [pk_un (by omega)]; exact h.1, ih a k v (by omega) h.2⟩
section
variable {cc lc lv me sA pA lA rA eA qA tA cA gA hA zA oA cp ce mA dA nA ia od cd nc ta zh pc : Int32} {a1 a2 a3 a4 a5 a6 a7 a8 a9 a10 a11 a12 a13 a14 a15 a16 a17 a18 a19 a20 a21 a22 a23 : Nat → Int32}
theorem st_0 {post : St2 → Prop} {f : Nat → Nat} (p a b : Nat) (hp : p < 420) (hw : f p < 2147483648) (ew : f p / 1048576 = 0) (ea : f p / 1024 % 1024 = a) (eb : f p % 1024 = b) (h : post (cc, lc, lv, me, sA, pA, lA, rA, eA, qA, tA, cA, gA, hA, zA, oA, cp, ce, mA, dA, nA, nI (p + 1), od, cd, nc, ta, 1, pc, a1, a2, a3, a4, a5, a6, a7, a8, a9, a10, a11, a12, a13, a14, a15, a16, a17, a18, pg_ci f, a20, a21, a22, a23)) : wpX_step post (cc, lc, lv, me, sA, pA, lA, rA, eA, qA, tA, cA, gA, hA, zA, oA, cp, ce, mA, dA, nA, nI p, od, cd, nc, ta, zh, pc, a1, a2, a3, a4, a5, a6, a7, a8, a9, a10, a11, a12, a13, a14, a15, a16, a17, a18, pg_ci f, a20, a21, a22, a23) := by
  refine ⟨vp_in_nI hp (by omega), nm_r (e' := nI (f p)) (by rw [nI_clamp (by omega)]; rfl) <| nm_r (nI_1 p) <| nm_r (e' := nI 0) (by rw [rq_op hw, ew]) <| nm_r (e' := nI a) (by rw [rq_a hw, ea]) <| nm_r (e' := nI b) (by rw [rq_b hw, eb]) ?_⟩
  exact br_t rfl h
theorem st_1 {post : St2 → Prop} {f : Nat → Nat} (p a b : Nat) (hp : p < 420) (hw : f p < 2147483648) (ew : f p / 1048576 = 1) (ea : f p / 1024 % 1024 = a) (eb : f p % 1024 = b) {hv : Bool} (hab : (ar_zf a = true ∧ ar_zf b = true) ∨ (ar_fr a = true ∧ ar_fr b = true)) (hD : zi_D hv a12) (hM : zi_M a14) (h : ∀ d m, zi_D hv d → zi_M m → post (cc, lc, lv, me, sA, pA, lA, rA, eA, qA, tA, cA, gA, hA, zA, oA, cp, ce, mA, dA, nA, nI (p + 1), od, cd, nc, ta, zh, pc, a1, a2, a3, a4, a5, a6, a7, a8, a9, a10, a11, d, lo_M lo_L, m, a15, a16, a17, a18, pg_ci f, a20, a21, a22, a23)) : wpX_step post (cc, lc, lv, me, sA, pA, lA, rA, eA, qA, tA, cA, gA, hA, zA, oA, cp, ce, mA, dA, nA, nI p, od, cd, nc, ta, zh, pc, a1, a2, a3, a4, a5, a6, a7, a8, a9, a10, a11, a12, lo_M lo_L, a14, a15, a16, a17, a18, pg_ci f, a20, a21, a22, a23) := by
  refine ⟨vp_in_nI hp (by omega), nm_r (e' := nI (f p)) (by rw [nI_clamp (by omega)]; rfl) <| nm_r (nI_1 p) <| nm_r (e' := nI 1) (by rw [rq_op hw, ew]) <| nm_r (e' := nI a) (by rw [rq_a hw, ea]) <| nm_r (e' := nI b) (by rw [rq_b hw, eb]) ?_⟩
  refine br_f (by decide) <|  br_t (by decide) ?_
  exact br_t rfl (zl_zadd a b hab hD hM h)
theorem st_2 {post : St2 → Prop} {f : Nat → Nat} (p a b : Nat) (hp : p < 420) (hw : f p < 2147483648) (ew : f p / 1048576 = 2) (ea : f p / 1024 % 1024 = a) (eb : f p % 1024 = b) {hv : Bool} (za : ar_zf a = true) (zb : ar_zf b = true) (hD : zi_D hv a12) (hM : zi_M a14) (h : ∀ d m, zi_D hv d → zi_M m → post (cc, lc, lv, me, sA, pA, lA, rA, eA, qA, tA, cA, gA, hA, zA, oA, cp, ce, mA, dA, nA, nI (p + 1), od, cd, nc, ta, zh, pc, a1, a2, a3, a4, a5, a6, a7, a8, a9, a10, a11, d, lo_M lo_L, m, a15, a16, a17, a18, pg_ci f, a20, a21, a22, a23)) : wpX_step post (cc, lc, lv, me, sA, pA, lA, rA, eA, qA, tA, cA, gA, hA, zA, oA, cp, ce, mA, dA, nA, nI p, od, cd, nc, ta, zh, pc, a1, a2, a3, a4, a5, a6, a7, a8, a9, a10, a11, a12, lo_M lo_L, a14, a15, a16, a17, a18, pg_ci f, a20, a21, a22, a23) := by
  refine ⟨vp_in_nI hp (by omega), nm_r (e' := nI (f p)) (by rw [nI_clamp (by omega)]; rfl) <| nm_r (nI_1 p) <| nm_r (e' := nI 2) (by rw [rq_op hw, ew]) <| nm_r (e' := nI a) (by rw [rq_a hw, ea]) <| nm_r (e' := nI b) (by rw [rq_b hw, eb]) ?_⟩
  have ha := zi_zf153 za
  refine br_f (by decide) <|  br_t (by decide) ?_
  exact br_f (by decide) <|  br_t rfl ⟨pk_in a 240 (by omega), zl_add a b za zb hD hM h⟩
theorem st_3 {post : St2 → Prop} {f : Nat → Nat} (p a b : Nat) (hp : p < 420) (hw : f p < 2147483648) (ew : f p / 1048576 = 3) (ea : f p / 1024 % 1024 = a) (eb : f p % 1024 = b) {hv : Bool} (za : ar_zf a = true) (zb : ar_zf b = true) (hD : zi_D hv a12) (hM : zi_M a14) (h : ∀ d m, zi_D hv d → zi_M m → post (cc, lc, lv, me, sA, pA, lA, rA, eA, qA, tA, cA, gA, hA, zA, oA, cp, ce, mA, dA, nA, nI (p + 1), od, cd, nc, ta, zh, pc, a1, a2, a3, a4, a5, a6, a7, a8, a9, a10, a11, d, lo_M lo_L, m, a15, a16, a17, a18, pg_ci f, a20, a21, a22, a23)) : wpX_step post (cc, lc, lv, me, sA, pA, lA, rA, eA, qA, tA, cA, gA, hA, zA, oA, cp, ce, mA, dA, nA, nI p, od, cd, nc, ta, zh, pc, a1, a2, a3, a4, a5, a6, a7, a8, a9, a10, a11, a12, lo_M lo_L, a14, a15, a16, a17, a18, pg_ci f, a20, a21, a22, a23) := by
  refine ⟨vp_in_nI hp (by omega), nm_r (e' := nI (f p)) (by rw [nI_clamp (by omega)]; rfl) <| nm_r (nI_1 p) <| nm_r (e' := nI 3) (by rw [rq_op hw, ew]) <| nm_r (e' := nI a) (by rw [rq_a hw, ea]) <| nm_r (e' := nI b) (by rw [rq_b hw, eb]) ?_⟩
  have ha := zi_zf153 za
  refine br_f (by decide) <|  br_t (by decide) ?_
  refine br_f (by decide) <| br_f (by decide) <|  br_t rfl ⟨pk_in a 240 (by omega), br_t (by rw [nI_clamp (by omega)]; exact hM a za) ?_⟩
  unfold wX_step_134
  exact zl_add a b za zb hD hM h
theorem st_4 {post : St2 → Prop} {f : Nat → Nat} (p a b : Nat) (hp : p < 420) (hw : f p < 2147483648) (ew : f p / 1048576 = 4) (ea : f p / 1024 % 1024 = a) (eb : f p % 1024 = b) {hv : Bool} (za : ar_zf a = true) (zb : ar_zf b = true) (hD : zi_D hv a12) (hM : zi_M a14) (h : post (cc, lc, lv, me, sA, pA, lA, rA, eA, qA, tA, cA, gA, hA, zA, oA, cp, ce, mA, dA, nA, nI (p + 1), 0, cd, nc, ta, zh, pc, a1, a2, a3, a4, a5, a6, a7, a8, a9, a10, a11, a12, lo_M lo_L, a14, a15, a16, a17, a18, pg_ci f, a20, a21, a22, a23)) : wpX_step post (cc, lc, lv, me, sA, pA, lA, rA, eA, qA, tA, cA, gA, hA, zA, oA, cp, ce, mA, dA, nA, nI p, od, cd, nc, ta, zh, pc, a1, a2, a3, a4, a5, a6, a7, a8, a9, a10, a11, a12, lo_M lo_L, a14, a15, a16, a17, a18, pg_ci f, a20, a21, a22, a23) := by
  refine ⟨vp_in_nI hp (by omega), nm_r (e' := nI (f p)) (by rw [nI_clamp (by omega)]; rfl) <| nm_r (nI_1 p) <| nm_r (e' := nI 4) (by rw [rq_op hw, ew]) <| nm_r (e' := nI a) (by rw [rq_a hw, ea]) <| nm_r (e' := nI b) (by rw [rq_b hw, eb]) ?_⟩
  refine br_f (by decide) <|  br_t (by decide) ?_
  exact br_f (by decide) <| br_f (by decide) <| br_f (by decide) <|  br_t rfl (zl_cmp a b za zb hD hM h)
theorem st_5 {post : St2 → Prop} {f : Nat → Nat} (p a b : Nat) (hp : p < 420) (hw : f p < 2147483648) (ew : f p / 1048576 = 5) (ea : f p / 1024 % 1024 = a) (eb : f p % 1024 = b) (h : post (cc, lc, lv, me, sA, pA, lA, rA, eA, qA, tA, cA, gA, hA, zA, oA, cp, ce, mA, dA, nA, nI b, od, cd, nc, ta, zh, pc, a1, a2, a3, a4, a5, a6, a7, a8, a9, a10, a11, a12, a13, a14, a15, a16, a17, a18, pg_ci f, a20, a21, a22, a23)) : wpX_step post (cc, lc, lv, me, sA, pA, lA, rA, eA, qA, tA, cA, gA, hA, zA, oA, cp, ce, mA, dA, nA, nI p, od, cd, nc, ta, zh, pc, a1, a2, a3, a4, a5, a6, a7, a8, a9, a10, a11, a12, a13, a14, a15, a16, a17, a18, pg_ci f, a20, a21, a22, a23) := by
  refine ⟨vp_in_nI hp (by omega), nm_r (e' := nI (f p)) (by rw [nI_clamp (by omega)]; rfl) <| nm_r (nI_1 p) <| nm_r (e' := nI 5) (by rw [rq_op hw, ew]) <| nm_r (e' := nI a) (by rw [rq_a hw, ea]) <| nm_r (e' := nI b) (by rw [rq_b hw, eb]) ?_⟩
  refine br_f (by decide) <| br_f (by decide) <| br_f (by decide) <|  br_t rfl ?_
  exact br_f (by decide) <| br_f (by decide) <| br_f (by decide) <| br_f (by decide) <| br_f (by decide) <| br_f (by decide) <|  h
theorem st_6 {post : St2 → Prop} {f : Nat → Nat} (p a b : Nat) (hp : p < 420) (hw : f p < 2147483648) (ew : f p / 1048576 = 6) (ea : f p / 1024 % 1024 = a) (eb : f p % 1024 = b) (h : post (cc, lc, lv, me, sA, pA, lA, rA, eA, qA, tA, cA, gA, hA, zA, oA, cp, ce, mA, dA, nA, nI (p + 1), 0, cd, nc, ta, zh, pc, a1, a2, a3, a4, a5, a6, a7, a8, a9, a10, a11, a12, a13, a14, a15, a16, a17, a18, pg_ci f, a20, a21, a22, a23)) : wpX_step post (cc, lc, lv, me, sA, pA, lA, rA, eA, qA, tA, cA, gA, hA, zA, oA, cp, ce, mA, dA, nA, nI p, 0, cd, nc, ta, zh, pc, a1, a2, a3, a4, a5, a6, a7, a8, a9, a10, a11, a12, a13, a14, a15, a16, a17, a18, pg_ci f, a20, a21, a22, a23) := by
  refine ⟨vp_in_nI hp (by omega), nm_r (e' := nI (f p)) (by rw [nI_clamp (by omega)]; rfl) <| nm_r (nI_1 p) <| nm_r (e' := nI 6) (by rw [rq_op hw, ew]) <| nm_r (e' := nI a) (by rw [rq_a hw, ea]) <| nm_r (e' := nI b) (by rw [rq_b hw, eb]) ?_⟩
  refine br_f (by decide) <| br_f (by decide) <| br_f (by decide) <|  br_f (by decide) <|  br_t rfl (br_t (by decide) ?_)
  exact br_t rfl h
theorem st_7 {post : St2 → Prop} {f : Nat → Nat} (p a b : Nat) (hp : p < 420) (hw : f p < 2147483648) (ew : f p / 1048576 = 7) (ea : f p / 1024 % 1024 = a) (eb : f p % 1024 = b) (h : post (cc, lc, lv, me, sA, pA, lA, rA, eA, qA, tA, cA, gA, hA, zA, oA, cp, ce, mA, dA, nA, nI (p + 1), 0, cd, nc, ta, zh, pc, a1, a2, a3, a4, a5, a6, a7, a8, a9, a10, a11, a12, a13, a14, a15, a16, a17, a18, pg_ci f, a20, a21, a22, a23)) : wpX_step post (cc, lc, lv, me, sA, pA, lA, rA, eA, qA, tA, cA, gA, hA, zA, oA, cp, ce, mA, dA, nA, nI p, 0, cd, nc, ta, zh, pc, a1, a2, a3, a4, a5, a6, a7, a8, a9, a10, a11, a12, a13, a14, a15, a16, a17, a18, pg_ci f, a20, a21, a22, a23) := by
  refine ⟨vp_in_nI hp (by omega), nm_r (e' := nI (f p)) (by rw [nI_clamp (by omega)]; rfl) <| nm_r (nI_1 p) <| nm_r (e' := nI 7) (by rw [rq_op hw, ew]) <| nm_r (e' := nI a) (by rw [rq_a hw, ea]) <| nm_r (e' := nI b) (by rw [rq_b hw, eb]) ?_⟩
  refine br_f (by decide) <| br_f (by decide) <| br_f (by decide) <|  br_f (by decide) <| br_f (by decide) <|  br_t rfl (br_t (by decide) ?_)
  exact br_t rfl h
theorem st_9 {post : St2 → Prop} {f : Nat → Nat} (p a b : Nat) (hp : p < 420) (hw : f p < 2147483648) (ew : f p / 1048576 = 9) (ea : f p / 1024 % 1024 = a) (eb : f p % 1024 = b) (ha : a < 4) (h0 : a22 a = 0 → post (cc, lc, lv, me, sA, pA, lA, rA, eA, qA, tA, cA, gA, hA, zA, oA, cp, ce, mA, dA, nA, nI (p + 1), od, cd, nc, ta, zh, pc, a1, a2, a3, a4, a5, a6, a7, a8, a9, a10, a11, a12, a13, a14, a15, a16, a17, a18, pg_ci f, a20, a21, a22, a23)) (h1 : ¬ a22 a = 0 → post (cc, lc, lv, me, sA, pA, lA, rA, eA, qA, tA, cA, gA, hA, zA, oA, cp, ce, mA, dA, nA, nI b, od, cd, nc, ta, zh, pc, a1, a2, a3, a4, a5, a6, a7, a8, a9, a10, a11, a12, a13, a14, a15, a16, a17, a18, pg_ci f, a20, a21, a22, a23)) : wpX_step post (cc, lc, lv, me, sA, pA, lA, rA, eA, qA, tA, cA, gA, hA, zA, oA, cp, ce, mA, dA, nA, nI p, od, cd, nc, ta, zh, pc, a1, a2, a3, a4, a5, a6, a7, a8, a9, a10, a11, a12, a13, a14, a15, a16, a17, a18, pg_ci f, a20, a21, a22, a23) := by
  refine ⟨vp_in_nI hp (by omega), nm_r (e' := nI (f p)) (by rw [nI_clamp (by omega)]; rfl) <| nm_r (nI_1 p) <| nm_r (e' := nI 9) (by rw [rq_op hw, ew]) <| nm_r (e' := nI a) (by rw [rq_a hw, ea]) <| nm_r (e' := nI b) (by rw [rq_b hw, eb]) ?_⟩
  refine br_f (by decide) <| br_f (by decide) <| br_f (by decide) <|  br_f (by decide) <| br_f (by decide) <| br_f (by decide) <| br_f (by decide) <|  br_t rfl ⟨pk_in a 4 ha, nm_r (e' := a22 a) (by rw [nI_clamp (by omega)]) ?_⟩
  exact br_c h0 h1
theorem st_10 {post : St2 → Prop} {f : Nat → Nat} (p a b : Nat) (hp : p < 420) (hw : f p < 2147483648) (ew : f p / 1048576 = 10) (ea : f p / 1024 % 1024 = a) (eb : f p % 1024 = b) (ha : a < 4) (h0 : a22 a = 0 → post (cc, lc, lv, me, sA, pA, lA, rA, eA, qA, tA, cA, gA, hA, zA, oA, cp, ce, mA, dA, nA, nI b, od, cd, nc, ta, zh, pc, a1, a2, a3, a4, a5, a6, a7, a8, a9, a10, a11, a12, a13, a14, a15, a16, a17, a18, pg_ci f, a20, a21, a22, a23)) (h1 : ¬ a22 a = 0 → post (cc, lc, lv, me, sA, pA, lA, rA, eA, qA, tA, cA, gA, hA, zA, oA, cp, ce, mA, dA, nA, nI (p + 1), od, cd, nc, ta, zh, pc, a1, a2, a3, a4, a5, a6, a7, a8, a9, a10, a11, a12, a13, a14, a15, a16, a17, a18, pg_ci f, a20, a21, a22, a23)) : wpX_step post (cc, lc, lv, me, sA, pA, lA, rA, eA, qA, tA, cA, gA, hA, zA, oA, cp, ce, mA, dA, nA, nI p, od, cd, nc, ta, zh, pc, a1, a2, a3, a4, a5, a6, a7, a8, a9, a10, a11, a12, a13, a14, a15, a16, a17, a18, pg_ci f, a20, a21, a22, a23) := by
  refine ⟨vp_in_nI hp (by omega), nm_r (e' := nI (f p)) (by rw [nI_clamp (by omega)]; rfl) <| nm_r (nI_1 p) <| nm_r (e' := nI 10) (by rw [rq_op hw, ew]) <| nm_r (e' := nI a) (by rw [rq_a hw, ea]) <| nm_r (e' := nI b) (by rw [rq_b hw, eb]) ?_⟩
  refine br_f (by decide) <| br_f (by decide) <| br_f (by decide) <|  br_f (by decide) <| br_f (by decide) <| br_f (by decide) <| br_f (by decide) <| br_f (by decide) <|  br_t rfl ⟨pk_in a 4 ha, ?_⟩
  rw [nI_clamp (show a < 2 ^ 31 by omega)]
  exact br_c (fun z => br_f (by decide) (h0 z)) (fun z => br_t rfl (h1 z))
theorem st_11 {post : St2 → Prop} {f : Nat → Nat} (p a b : Nat) (hp : p < 420) (hw : f p < 2147483648) (ew : f p / 1048576 = 11) (ea : f p / 1024 % 1024 = a) (eb : f p % 1024 = b) (ha : a < 4) (h : post (cc, lc, lv, me, sA, pA, lA, rA, eA, qA, tA, cA, gA, hA, zA, oA, cp, ce, mA, dA, nA, nI (p + 1), od, cd, nc, ta, zh, pc, a1, a2, a3, a4, a5, a6, a7, a8, a9, a10, a11, a12, a13, a14, a15, a16, a17, a18, pg_ci f, a20, a21, upd a22 a 1, a23)) : wpX_step post (cc, lc, lv, me, sA, pA, lA, rA, eA, qA, tA, cA, gA, hA, zA, oA, cp, ce, mA, dA, nA, nI p, od, cd, nc, ta, zh, pc, a1, a2, a3, a4, a5, a6, a7, a8, a9, a10, a11, a12, a13, a14, a15, a16, a17, a18, pg_ci f, a20, a21, a22, a23) := by
  refine ⟨vp_in_nI hp (by omega), nm_r (e' := nI (f p)) (by rw [nI_clamp (by omega)]; rfl) <| nm_r (nI_1 p) <| nm_r (e' := nI 11) (by rw [rq_op hw, ew]) <| nm_r (e' := nI a) (by rw [rq_a hw, ea]) <| nm_r (e' := nI b) (by rw [rq_b hw, eb]) ?_⟩
  refine br_f (by decide) <| br_f (by decide) <|  br_t (by decide) ?_
  exact br_f (by decide) <| br_f (by decide) <| br_f (by decide) <| br_f (by decide) <| br_f (by decide) <|  br_t rfl ⟨pk_in a 4 ha, nm_r (e' := upd a22 a 1) (by rw [nI_clamp (by omega)]) h⟩
theorem st_12 {post : St2 → Prop} {f : Nat → Nat} (p a b : Nat) (hp : p < 420) (hw : f p < 2147483648) (ew : f p / 1048576 = 12) (ea : f p / 1024 % 1024 = a) (eb : f p % 1024 = b) (ha : a < 4) (h : post (cc, lc, lv, me, sA, pA, lA, rA, eA, qA, tA, cA, gA, hA, zA, oA, cp, ce, mA, dA, nA, nI (p + 1), od, cd, nc, ta, zh, pc, a1, a2, a3, a4, a5, a6, a7, a8, a9, a10, a11, a12, a13, a14, a15, a16, a17, a18, pg_ci f, a20, a21, upd a22 a 0, a23)) : wpX_step post (cc, lc, lv, me, sA, pA, lA, rA, eA, qA, tA, cA, gA, hA, zA, oA, cp, ce, mA, dA, nA, nI p, od, cd, nc, ta, zh, pc, a1, a2, a3, a4, a5, a6, a7, a8, a9, a10, a11, a12, a13, a14, a15, a16, a17, a18, pg_ci f, a20, a21, a22, a23) := by
  refine ⟨vp_in_nI hp (by omega), nm_r (e' := nI (f p)) (by rw [nI_clamp (by omega)]; rfl) <| nm_r (nI_1 p) <| nm_r (e' := nI 12) (by rw [rq_op hw, ew]) <| nm_r (e' := nI a) (by rw [rq_a hw, ea]) <| nm_r (e' := nI b) (by rw [rq_b hw, eb]) ?_⟩
  refine br_f (by decide) <| br_f (by decide) <|  br_t (by decide) ?_
  exact br_f (by decide) <| br_f (by decide) <| br_f (by decide) <| br_f (by decide) <| br_f (by decide) <| br_f (by decide) <|  ⟨pk_in a 4 ha, nm_r (e' := upd a22 a 0) (by rw [nI_clamp (by omega)]) h⟩
theorem st_13a {post : St2 → Prop} {f : Nat → Nat} (p a b : Nat) (hp : p < 420) (hw : f p < 2147483648) (ew : f p / 1048576 = 13) (ea : f p / 1024 % 1024 = a) (eb : f p % 1024 = b) (h : post (cc, lc, lv, me, sA, pA, lA, rA, eA, qA, tA, cA, gA, hA, zA, oA, cp, ce, mA, dA, nA, nI b, od, cd, cc, ta, zh, pc, a1, a2, a3, a4, a5, a6, a7, a8, a9, a10, a11, a12, a13, a14, a15, a16, a17, a18, pg_ci f, a20, a21, a22, a23)) : wpX_step post (cc, lc, lv, me, sA, pA, lA, rA, eA, qA, tA, cA, gA, hA, zA, oA, cp, ce, mA, dA, nA, nI p, od, cd, cc, ta, zh, pc, a1, a2, a3, a4, a5, a6, a7, a8, a9, a10, a11, a12, a13, a14, a15, a16, a17, a18, pg_ci f, a20, a21, a22, a23) := by
  refine ⟨vp_in_nI hp (by omega), nm_r (e' := nI (f p)) (by rw [nI_clamp (by omega)]; rfl) <| nm_r (nI_1 p) <| nm_r (e' := nI 13) (by rw [rq_op hw, ew]) <| nm_r (e' := nI a) (by rw [rq_a hw, ea]) <| nm_r (e' := nI b) (by rw [rq_b hw, eb]) ?_⟩
  refine br_f (by decide) <| br_f (by decide) <|  br_t (by decide) ?_
  refine br_f (by decide) <| br_f (by decide) <| br_f (by decide) <| br_f (by decide) <|  br_t (by decide) <| br_t rfl ?_
  exact br_t rfl h
theorem st_13b {post : St2 → Prop} {f : Nat → Nat} (p a b : Nat) (hp : p < 420) (hw : f p < 2147483648) (ew : f p / 1048576 = 13) (ea : f p / 1024 % 1024 = a) (eb : f p % 1024 = b) {hv : Bool} (k : Nat) (hk : k < 16) (hne : ¬ nI k = cc) (hf : wk_cf a16 a17) (hD : zi_D hv a12) (hM : zi_M a14) (h : ∀ d m, zi_D hv d → zi_M m → post (cc, lc, lv, me, sA, pA, lA, rA, eA, qA, tA, cA, gA, hA, zA, oA, cp, ce, mA, dA, nA, nI (p + 1), od, cd, nI (k + 1), ta, zh, pc, a1, a2, a3, a4, a5, a6, a7, a8, a9, a10, a11, d, lo_M lo_L, m, a15, a16, a17, a18, pg_ci f, a20, a21, a22, a23)) : wpX_step post (cc, lc, lv, me, sA, pA, lA, rA, eA, qA, tA, cA, gA, hA, zA, oA, cp, ce, mA, dA, nA, nI p, od, cd, nI k, ta, zh, pc, a1, a2, a3, a4, a5, a6, a7, a8, a9, a10, a11, a12, lo_M lo_L, a14, a15, a16, a17, a18, pg_ci f, a20, a21, a22, a23) := by
  refine ⟨vp_in_nI hp (by omega), nm_r (e' := nI (f p)) (by rw [nI_clamp (by omega)]; rfl) <| nm_r (nI_1 p) <| nm_r (e' := nI 13) (by rw [rq_op hw, ew]) <| nm_r (e' := nI a) (by rw [rq_a hw, ea]) <| nm_r (e' := nI b) (by rw [rq_b hw, eb]) ?_⟩
  obtain ⟨_, _, _, _, f0, f1, f2, f3⟩ := hf
  have hin : vp_in (nI k) 16 := vp_in_nI hk (by omega)
  refine br_f (by decide) <| br_f (by decide) <|  br_t (by decide) ?_
  refine br_f (by decide) <| br_f (by decide) <| br_f (by decide) <| br_f (by decide) <|  br_t (by decide) <| br_t rfl ?_
  refine br_f hne ⟨hin, ?_⟩
  refine zl_set 39 f0 (Or.inl rfl) hD hM (fun d m hd hm => ⟨hin, ?_⟩)
  refine zl_set 43 f1 (Or.inl rfl) hd hm (fun d m hd hm => ⟨hin, ?_⟩)
  refine zl_set 49 f2 (Or.inl rfl) hd hm (fun d m hd hm => ⟨hin, ?_⟩)
  refine zl_set 55 f3 (Or.inl rfl) hd hm (fun d m hd hm => nm_r (nI_1 k) ?_)
  exact h d m hd hm
theorem st_14 {post : St2 → Prop} {f : Nat → Nat} (p a b : Nat) (hp : p < 420) (hw : f p < 2147483648) (ew : f p / 1048576 = 14) (ea : f p / 1024 % 1024 = a) (eb : f p % 1024 = b) {hv : Bool} (za : ar_zf a = true) (zb : ar_zf b = true) (hD : zi_D hv a12) (hM : zi_M a14) (h : ∀ d m, zi_D hv d → zi_M m → post (cc, lc, lv, me, sA, pA, lA, rA, eA, qA, tA, cA, gA, hA, zA, oA, cp, ce, mA, dA, nA, nI (p + 1), od, cd, nc, ta, zh, pc, a1, a2, a3, a4, a5, a6, a7, a8, a9, a10, a11, d, lo_M lo_L, m, a15, a16, a17, a18, pg_ci f, a20, a21, a22, a23)) : wpX_step post (cc, lc, lv, me, sA, pA, lA, rA, eA, qA, tA, cA, gA, hA, zA, oA, cp, ce, mA, dA, nA, nI p, od, cd, nc, ta, zh, pc, a1, a2, a3, a4, a5, a6, a7, a8, a9, a10, a11, a12, lo_M lo_L, a14, a15, a16, a17, a18, pg_ci f, a20, a21, a22, a23) := by
  refine ⟨vp_in_nI hp (by omega), nm_r (e' := nI (f p)) (by rw [nI_clamp (by omega)]; rfl) <| nm_r (nI_1 p) <| nm_r (e' := nI 14) (by rw [rq_op hw, ew]) <| nm_r (e' := nI a) (by rw [rq_a hw, ea]) <| nm_r (e' := nI b) (by rw [rq_b hw, eb]) ?_⟩
  have hb := zi_zf153 zb
  refine br_f (by decide) <| br_f (by decide) <|  br_t (by decide) ?_
  refine br_f (by decide) <| br_f (by decide) <| br_f (by decide) <| br_f (by decide) <|  br_t (by decide) <| br_f (by decide) <| br_f (by decide) <|  ?_
  exact br_t rfl ⟨pk_in b 240 (by omega), zl_shift (by rw [nI_clamp (by omega)]; exact hD.1 b zb) a za hD hM h⟩
theorem st_15 {post : St2 → Prop} {f : Nat → Nat} (p a b : Nat) (hp : p < 420) (hw : f p < 2147483648) (ew : f p / 1048576 = 15) (ea : f p / 1024 % 1024 = a) (eb : f p % 1024 = b) {hv : Bool} (za : ar_zf a = true) (hD : zi_D hv a12) (h : post (cc, lc, lv, me, sA, pA, lA, rA, eA, qA, tA, cA, gA, hA, zA, oA, cp, ce, mA, dA, nA, nI b, od, cd, nc, ta, zh, pc, a1, a2, a3, a4, a5, a6, a7, a8, a9, a10, a11, a12, a13, a14, a15, a16, a17, a18, pg_ci f, a20, a21, a22, a23)) : wpX_step post (cc, lc, lv, me, sA, pA, lA, rA, eA, qA, tA, cA, gA, hA, zA, oA, cp, ce, mA, dA, nA, nI p, od, cd, nc, ta, zh, pc, a1, a2, a3, a4, a5, a6, a7, a8, a9, a10, a11, a12, a13, a14, a15, a16, a17, a18, pg_ci f, a20, a21, a22, a23) := by
  refine ⟨vp_in_nI hp (by omega), nm_r (e' := nI (f p)) (by rw [nI_clamp (by omega)]; rfl) <| nm_r (nI_1 p) <| nm_r (e' := nI 15) (by rw [rq_op hw, ew]) <| nm_r (e' := nI a) (by rw [rq_a hw, ea]) <| nm_r (e' := nI b) (by rw [rq_b hw, eb]) ?_⟩
  have ha := zi_zf153 za
  refine br_f (by decide) <| br_f (by decide) <|  br_t (by decide) ?_
  refine br_f (by decide) <| br_f (by decide) <| br_f (by decide) <| br_f (by decide) <|  br_t (by decide) <| br_f (by decide) <| br_f (by decide) <|  ?_
  exact br_f (by decide) <|  br_t rfl ⟨pk_in a 240 (by omega), br_t (by rw [nI_clamp (by omega)]; exact hD.1 a za) h⟩
theorem st_18 {post : St2 → Prop} {f : Nat → Nat} (p a b : Nat) (hp : p < 420) (hw : f p < 2147483648) (ew : f p / 1048576 = 18) (ea : f p / 1024 % 1024 = a) (eb : f p % 1024 = b) (ha : a < 240) (hb : b < 240) (h : post (cc, lc, lv, me, sA, pA, lA, rA, eA, qA, tA, cA, gA, hA, zA, oA, cp, ce, mA, dA, nA, nI (p + 1), od, cd, nc, ta, zh, pc, a1, a2, a3, a4, a5, a6, a7, a8, a9, a10, a11, upd a12 b (a12 a).toInt8.toInt32, a13, a14, a15, a16, a17, a18, pg_ci f, a20, a21, a22, a23)) : wpX_step post (cc, lc, lv, me, sA, pA, lA, rA, eA, qA, tA, cA, gA, hA, zA, oA, cp, ce, mA, dA, nA, nI p, od, cd, nc, ta, zh, pc, a1, a2, a3, a4, a5, a6, a7, a8, a9, a10, a11, a12, a13, a14, a15, a16, a17, a18, pg_ci f, a20, a21, a22, a23) := by
  refine ⟨vp_in_nI hp (by omega), nm_r (e' := nI (f p)) (by rw [nI_clamp (by omega)]; rfl) <| nm_r (nI_1 p) <| nm_r (e' := nI 18) (by rw [rq_op hw, ew]) <| nm_r (e' := nI a) (by rw [rq_a hw, ea]) <| nm_r (e' := nI b) (by rw [rq_b hw, eb]) ?_⟩
  refine br_f (by decide) <| br_f (by decide) <|  br_t (by decide) ?_
  refine br_f (by decide) <| br_f (by decide) <| br_f (by decide) <| br_f (by decide) <|  br_t (by decide) <| br_f (by decide) <| br_f (by decide) <|  ?_
  exact br_f (by decide) <| br_f (by decide) <| br_f (by decide) <| br_f (by decide) <|  ⟨pk_in a 240 (by omega), pk_in b 240 (by omega), nm_r (e' := upd a12 b (a12 a).toInt8.toInt32) (by rw [nI_clamp (show b < 2 ^ 31 by omega), nI_clamp (show a < 2 ^ 31 by omega), vp_nar_byte]) h⟩
theorem st_19 {post : St2 → Prop} {f : Nat → Nat} (p a b : Nat) (hp : p < 420) (hw : f p < 2147483648) (ew : f p / 1048576 = 19) (ea : f p / 1024 % 1024 = a) (eb : f p % 1024 = b) (l : Nat) (hl' : l < 4) (h : post (cc, lc, lv, me, sA, pA, lA, rA, eA, qA, tA, cA, gA, hA, zA, oA, cp, ce, mA, dA, nA, nI b, od, nI (l + 1), nc, ta, zh, pc, a1, a2, a3, a4, a5, a6, a7, a8, a9, a10, a11, a12, a13, a14, a15, a16, a17, a18, pg_ci f, a20, upd a21 l (nI (p + 1)), a22, a23)) : wpX_step post (cc, lc, lv, me, sA, pA, lA, rA, eA, qA, tA, cA, gA, hA, zA, oA, cp, ce, mA, dA, nA, nI p, od, nI l, nc, ta, zh, pc, a1, a2, a3, a4, a5, a6, a7, a8, a9, a10, a11, a12, a13, a14, a15, a16, a17, a18, pg_ci f, a20, a21, a22, a23) := by
  refine ⟨vp_in_nI hp (by omega), nm_r (e' := nI (f p)) (by rw [nI_clamp (by omega)]; rfl) <| nm_r (nI_1 p) <| nm_r (e' := nI 19) (by rw [rq_op hw, ew]) <| nm_r (e' := nI a) (by rw [rq_a hw, ea]) <| nm_r (e' := nI b) (by rw [rq_b hw, eb]) ?_⟩
  refine br_f (by decide) <| br_f (by decide) <|  br_t (by decide) ?_
  refine br_f (by decide) <| br_f (by decide) <| br_f (by decide) <| br_f (by decide) <|  br_t (by decide) <| br_f (by decide) <|  br_t (by decide) ?_
  exact br_t rfl ⟨pk_in l 4 hl', nm_r (lo_st a21 l (p + 1) (by omega) (by omega)) (nm_r (nI_1 l) h)⟩
theorem st_20 {post : St2 → Prop} {f : Nat → Nat} (p a b : Nat) (hp : p < 420) (hw : f p < 2147483648) (ew : f p / 1048576 = 20) (ea : f p / 1024 % 1024 = a) (eb : f p % 1024 = b) (l x : Nat) (hl' : l < 4) (hx : a21 l = nI x) (h : post (cc, lc, lv, me, sA, pA, lA, rA, eA, qA, tA, cA, gA, hA, zA, oA, cp, ce, mA, dA, nA, nI x, od, nI l, nc, ta, zh, pc, a1, a2, a3, a4, a5, a6, a7, a8, a9, a10, a11, a12, a13, a14, a15, a16, a17, a18, pg_ci f, a20, a21, a22, a23)) : wpX_step post (cc, lc, lv, me, sA, pA, lA, rA, eA, qA, tA, cA, gA, hA, zA, oA, cp, ce, mA, dA, nA, nI p, od, nI (l + 1), nc, ta, zh, pc, a1, a2, a3, a4, a5, a6, a7, a8, a9, a10, a11, a12, a13, a14, a15, a16, a17, a18, pg_ci f, a20, a21, a22, a23) := by
  refine ⟨vp_in_nI hp (by omega), nm_r (e' := nI (f p)) (by rw [nI_clamp (by omega)]; rfl) <| nm_r (nI_1 p) <| nm_r (e' := nI 20) (by rw [rq_op hw, ew]) <| nm_r (e' := nI a) (by rw [rq_a hw, ea]) <| nm_r (e' := nI b) (by rw [rq_b hw, eb]) ?_⟩
  refine br_f (by decide) <| br_f (by decide) <|  br_t (by decide) ?_
  refine br_f (by decide) <| br_f (by decide) <| br_f (by decide) <| br_f (by decide) <|  br_t (by decide) <| br_f (by decide) <|  br_t (by decide) ?_
  exact br_f (by decide) <|  br_t rfl (nm_r (nI_pred l) ⟨pk_in l 4 hl', nm_r (e' := nI x) (by rw [nI_clamp (by omega)]; exact hx) h⟩)
theorem st_pr {q : St2 → Prop} {v : Int32} (k : Nat) (hk : k < 80) (h : ∀ t, q (cc, lc, lv, me, sA, pA, lA, rA, eA, qA, tA, cA, gA, hA, zA, oA, cp, ce, mA, dA, nA, ia, od, cd, nc, ta, zh, nI (k + 1), a1, a2, a3, a4, a5, a6, a7, a8, a9, a10, a11, a12, a13, a14, a15, a16, a17, a18, a19, a20, a21, a22, t)) : wpX_print q (cc, lc, lv, me, sA, pA, lA, rA, eA, qA, tA, cA, gA, hA, zA, oA, cp, ce, mA, dA, nA, ia, od, cd, nc, ta, zh, nI k, a1, a2, a3, a4, a5, a6, a7, a8, a9, a10, a11, a12, a13, a14, a15, a16, a17, a18, a19, a20, a21, a22, a23) v :=
  br_f (nI_ge (b := 80) hk (by decide)) ⟨vp_in_nI hk (by omega), nm_e (nm_r (nI_1 k) (h _))⟩
theorem st_21 {post : St2 → Prop} {f : Nat → Nat} (p a b : Nat) (hp : p < 420) (hw : f p < 2147483648) (ew : f p / 1048576 = 21) (ea : f p / 1024 % 1024 = a) (eb : f p % 1024 = b) (k : Nat) (ha : a < 240) (hk : k < 80) (h : ∀ t, post (cc, lc, lv, me, sA, pA, lA, rA, eA, qA, tA, cA, gA, hA, zA, oA, cp, ce, mA, dA, nA, nI (p + 1), od, cd, nc, ta, zh, nI (k + 1), a1, a2, a3, a4, a5, a6, a7, a8, a9, a10, a11, a12, a13, a14, a15, a16, a17, a18, pg_ci f, a20, a21, a22, t)) : wpX_step post (cc, lc, lv, me, sA, pA, lA, rA, eA, qA, tA, cA, gA, hA, zA, oA, cp, ce, mA, dA, nA, nI p, od, cd, nc, ta, zh, nI k, a1, a2, a3, a4, a5, a6, a7, a8, a9, a10, a11, a12, a13, a14, a15, a16, a17, a18, pg_ci f, a20, a21, a22, a23) := by
  refine ⟨vp_in_nI hp (by omega), nm_r (e' := nI (f p)) (by rw [nI_clamp (by omega)]; rfl) <| nm_r (nI_1 p) <| nm_r (e' := nI 21) (by rw [rq_op hw, ew]) <| nm_r (e' := nI a) (by rw [rq_a hw, ea]) <| nm_r (e' := nI b) (by rw [rq_b hw, eb]) ?_⟩
  refine br_f (by decide) <| br_f (by decide) <|  br_t (by decide) ?_
  refine br_f (by decide) <| br_f (by decide) <| br_f (by decide) <| br_f (by decide) <|  br_t (by decide) <| br_f (by decide) <|  br_t (by decide) ?_
  exact br_f (by decide) <| br_f (by decide) <|  br_t rfl ⟨pk_in a 240 ha, st_pr k hk h⟩
theorem st_22 {post : St2 → Prop} {f : Nat → Nat} (p a b : Nat) (hp : p < 420) (hw : f p < 2147483648) (ew : f p / 1048576 = 22) (ea : f p / 1024 % 1024 = a) (eb : f p % 1024 = b) (k : Nat) (hk : k < 80) (h : ∀ t, post (cc, lc, lv, me, sA, pA, lA, rA, eA, qA, tA, cA, gA, hA, zA, oA, cp, ce, mA, dA, nA, nI (p + 1), od, cd, nc, ta, zh, nI (k + 1), a1, a2, a3, a4, a5, a6, a7, a8, a9, a10, a11, a12, a13, a14, a15, a16, a17, a18, pg_ci f, a20, a21, a22, t)) : wpX_step post (cc, lc, lv, me, sA, pA, lA, rA, eA, qA, tA, cA, gA, hA, zA, oA, cp, ce, mA, dA, nA, nI p, od, cd, nc, ta, zh, nI k, a1, a2, a3, a4, a5, a6, a7, a8, a9, a10, a11, a12, a13, a14, a15, a16, a17, a18, pg_ci f, a20, a21, a22, a23) := by
  refine ⟨vp_in_nI hp (by omega), nm_r (e' := nI (f p)) (by rw [nI_clamp (by omega)]; rfl) <| nm_r (nI_1 p) <| nm_r (e' := nI 22) (by rw [rq_op hw, ew]) <| nm_r (e' := nI a) (by rw [rq_a hw, ea]) <| nm_r (e' := nI b) (by rw [rq_b hw, eb]) ?_⟩
  refine br_f (by decide) <| br_f (by decide) <|  br_t (by decide) ?_
  refine br_f (by decide) <| br_f (by decide) <| br_f (by decide) <| br_f (by decide) <|  br_t (by decide) <| br_f (by decide) <|  br_t (by decide) ?_
  exact br_f (by decide) <| br_f (by decide) <| br_f (by decide) <|  br_t rfl (st_pr k hk h)
theorem st_23 {post : St2 → Prop} {f : Nat → Nat} (p a b : Nat) (hp : p < 420) (hw : f p < 2147483648) (ew : f p / 1048576 = 23) (ea : f p / 1024 % 1024 = a) (eb : f p % 1024 = b) (za : ar_zf a = true) (hM : zi_M a14) (h : post (cc, lc, lv, me, sA, pA, lA, rA, eA, qA, tA, cA, gA, hA, zA, oA, cp, ce, mA, dA, nA, nI (p + 1), od, cd, nc, ta, zh, pc, a1, a2, a3, a4, a5, a6, a7, a8, a9, a10, a11, a12, a13, a14, a15, a16, a17, a18, pg_ci f, a20, a21, a22, a23)) : wpX_step post (cc, lc, lv, me, sA, pA, lA, rA, eA, qA, tA, cA, gA, hA, zA, oA, cp, ce, mA, dA, nA, nI p, od, cd, nc, ta, zh, pc, a1, a2, a3, a4, a5, a6, a7, a8, a9, a10, a11, a12, a13, a14, a15, a16, a17, a18, pg_ci f, a20, a21, a22, a23) := by
  refine ⟨vp_in_nI hp (by omega), nm_r (e' := nI (f p)) (by rw [nI_clamp (by omega)]; rfl) <| nm_r (nI_1 p) <| nm_r (e' := nI 23) (by rw [rq_op hw, ew]) <| nm_r (e' := nI a) (by rw [rq_a hw, ea]) <| nm_r (e' := nI b) (by rw [rq_b hw, eb]) ?_⟩
  have ha := zi_zf153 za
  refine br_f (by decide) <| br_f (by decide) <|  br_t (by decide) ?_
  refine br_f (by decide) <| br_f (by decide) <| br_f (by decide) <| br_f (by decide) <|  br_t (by decide) <| br_f (by decide) <|  br_t (by decide) ?_
  exact br_f (by decide) <| br_f (by decide) <| br_f (by decide) <| br_f (by decide) <|  br_t rfl ⟨pk_in a 240 (by omega), br_t (by rw [nI_clamp (by omega)]; exact hM a za) h⟩
theorem st_24 {post : St2 → Prop} {f : Nat → Nat} (p a b : Nat) (hp : p < 420) (hw : f p < 2147483648) (ew : f p / 1048576 = 24) (ea : f p / 1024 % 1024 = a) (eb : f p % 1024 = b) (ha : a < 240) (h0 : a12 a = 0 → post (cc, lc, lv, me, sA, pA, lA, rA, eA, qA, tA, cA, gA, hA, zA, oA, cp, ce, mA, dA, nA, nI b, od, cd, nc, ta, zh, pc, a1, a2, a3, a4, a5, a6, a7, a8, a9, a10, a11, a12, a13, a14, a15, a16, a17, a18, pg_ci f, a20, a21, a22, a23)) (h1 : ¬ a12 a = 0 → post (cc, lc, lv, me, sA, pA, lA, rA, eA, qA, tA, cA, gA, hA, zA, oA, cp, ce, mA, dA, nA, nI (p + 1), od, cd, nc, ta, zh, pc, a1, a2, a3, a4, a5, a6, a7, a8, a9, a10, a11, a12, a13, a14, a15, a16, a17, a18, pg_ci f, a20, a21, a22, a23)) : wpX_step post (cc, lc, lv, me, sA, pA, lA, rA, eA, qA, tA, cA, gA, hA, zA, oA, cp, ce, mA, dA, nA, nI p, od, cd, nc, ta, zh, pc, a1, a2, a3, a4, a5, a6, a7, a8, a9, a10, a11, a12, a13, a14, a15, a16, a17, a18, pg_ci f, a20, a21, a22, a23) := by
  refine ⟨vp_in_nI hp (by omega), nm_r (e' := nI (f p)) (by rw [nI_clamp (by omega)]; rfl) <| nm_r (nI_1 p) <| nm_r (e' := nI 24) (by rw [rq_op hw, ew]) <| nm_r (e' := nI a) (by rw [rq_a hw, ea]) <| nm_r (e' := nI b) (by rw [rq_b hw, eb]) ?_⟩
  refine br_f (by decide) <| br_f (by decide) <|  br_t (by decide) ?_
  refine br_f (by decide) <| br_f (by decide) <| br_f (by decide) <| br_f (by decide) <|  br_t (by decide) <| br_f (by decide) <|  br_t (by decide) ?_
  refine br_f (by decide) <| br_f (by decide) <| br_f (by decide) <| br_f (by decide) <| br_f (by decide) <|  br_t rfl ⟨pk_in a 240 (by omega), ?_⟩
  rw [nI_clamp (show a < 2 ^ 31 by omega)]
  exact br_c h0 h1
theorem st_26 {post : St2 → Prop} {f : Nat → Nat} (p a b : Nat) (hp : p < 420) (hw : f p < 2147483648) (ew : f p / 1048576 = 26) (ea : f p / 1024 % 1024 = a) (eb : f p % 1024 = b) (k : Nat) (h : post (cc, lc, lv, me, sA, pA, lA, rA, eA, qA, tA, cA, gA, hA, zA, oA, cp, ce, mA, dA, nA, nI (p + 1), od, cd, nc, nI (k + 1), zh, pc, a1, a2, a3, a4, a5, a6, a7, a8, a9, a10, a11, a12, a13, a14, a15, a16, a17, a18, pg_ci f, a20, a21, a22, a23)) : wpX_step post (cc, lc, lv, me, sA, pA, lA, rA, eA, qA, tA, cA, gA, hA, zA, oA, cp, ce, mA, dA, nA, nI p, od, cd, nc, nI k, zh, pc, a1, a2, a3, a4, a5, a6, a7, a8, a9, a10, a11, a12, a13, a14, a15, a16, a17, a18, pg_ci f, a20, a21, a22, a23) := by
  refine ⟨vp_in_nI hp (by omega), nm_r (e' := nI (f p)) (by rw [nI_clamp (by omega)]; rfl) <| nm_r (nI_1 p) <| nm_r (e' := nI 26) (by rw [rq_op hw, ew]) <| nm_r (e' := nI a) (by rw [rq_a hw, ea]) <| nm_r (e' := nI b) (by rw [rq_b hw, eb]) ?_⟩
  refine br_f (by decide) <| br_f (by decide) <|  br_t (by decide) ?_
  refine br_f (by decide) <| br_f (by decide) <| br_f (by decide) <| br_f (by decide) <|  br_t (by decide) <| br_f (by decide) <|  br_t (by decide) ?_
  exact br_f (by decide) <| br_f (by decide) <| br_f (by decide) <| br_f (by decide) <| br_f (by decide) <| br_f (by decide) <| br_f (by decide) <|  br_t rfl (nm_r (nI_1 k) h)
end
end
section
/-! a step of the machine is a step of the abstract one; a run -/
section
variable {cc lc lv me sA pA lA rA eA qA tA cA gA hA zA oA cp ce mA dA nA ia od cd nc ta zh pc : Int32} {a1 a2 a3 a4 a5 a6 a7 a8 a9 a10 a11 a12 a13 a14 a15 a16 a17 a18 a19 a20 a21 a22 a23 : Nat → Int32}
theorem st_step {post : St2 → Prop} {n : Nat} {f : Nat → Nat} (p : Nat) (sk : List Nat) (ind : Nat → Bool) (k tl pr : Nat) (hv : Bool) (t : AR_S) (hs : ar_step n f (p, sk, ind, k, tl, pr, hv, false) = some t) (hn : n < 16) (hf : wk_cf a16 a17)
    (hD : zi_D hv a12) (hM : zi_M a14) (hK : st_K sk a21) (hI : st_I ind a22)
    (h : ∀ d m ks io pt, zi_D t.2.2.2.2.2.2.1 d → zi_M m → st_K t.2.1 ks → st_I t.2.2.1 io → post (nI n, lc, lv, me, sA, pA, lA, rA, eA, qA, tA, cA, gA, hA, zA, oA, cp, ce, mA, dA, nA, nI t.1, 0, nI t.2.1.length, nI t.2.2.2.1, nI t.2.2.2.2.1, (if t.2.2.2.2.2.2.2 = true then 1 else 0), nI t.2.2.2.2.2.1, a1, a2, a3, a4, a5, a6, a7, a8, a9, a10, a11, d, lo_M lo_L, m, a15, a16, a17, a18, pg_ci f, a20, ks, io, pt)) :
    wpX_step post (nI n, lc, lv, me, sA, pA, lA, rA, eA, qA, tA, cA, gA, hA, zA, oA, cp, ce, mA, dA, nA, nI p, 0, nI sk.length, nI k, nI tl, 0, nI pr, a1, a2, a3, a4, a5, a6, a7, a8, a9, a10, a11, a12, lo_M lo_L, a14, a15, a16, a17, a18, pg_ci f, a20, a21, a22, a23) := by
  unfold ar_step at hs
  by_cases hc : p < 420 ∧ f p < 2147483648
  case neg => rw [if_neg hc] at hs; exact absurd hs (by simp)
  rw [if_pos hc] at hs
  obtain ⟨hp, hw⟩ := hc
  dsimp only at hs
  generalize ea : f p / 1024 % 1024 = a at hs
  generalize eb : f p % 1024 = b at hs
  generalize ew : f p / 1048576 = w at hs
  unfold ar_exec at hs
  dsimp only at hs
  by_cases e0 : w = 0
  · rw [if_pos e0] at hs
    obtain rfl := Option.some.inj hs
    exact st_0 p a b hp hw (by omega) ea eb (h _ _ _ _ _ hD hM hK hI)
  rw [if_neg e0] at hs
  by_cases e1 : w = 1
  · rw [if_pos e1] at hs
    by_cases g : ((ar_zf a && ar_zf b) || (ar_fr a && ar_fr b)) = true
    · rw [if_pos g] at hs
      obtain rfl := Option.some.inj hs
      have g' : (ar_zf a = true ∧ ar_zf b = true) ∨ (ar_fr a = true ∧ ar_fr b = true) := by
        simp only [Bool.or_eq_true, Bool.and_eq_true] at g
        exact g
      exact st_1 p a b hp hw (by omega) ea eb g' hD hM (fun d m hd hm => h _ _ _ _ _ hd hm hK hI)
    · rw [if_neg g] at hs
      exact absurd hs (by simp)
  rw [if_neg e1] at hs
  by_cases e2 : w = 2 ∨ w = 3 ∨ w = 4 ∨ w = 14
  · rw [if_pos e2] at hs
    by_cases g : (ar_zf a && ar_zf b) = true
    · rw [if_pos g] at hs
      obtain rfl := Option.some.inj hs
      obtain ⟨za, zb⟩ := (Bool.and_eq_true _ _).mp g
      rcases e2 with e | e | e | e
      · exact st_2 p a b hp hw (by omega) ea eb za zb hD hM (fun d m hd hm => h _ _ _ _ _ hd hm hK hI)
      · exact st_3 p a b hp hw (by omega) ea eb za zb hD hM (fun d m hd hm => h _ _ _ _ _ hd hm hK hI)
      · exact st_4 p a b hp hw (by omega) ea eb za zb hD hM (h _ _ _ _ _ hD hM hK hI)
      · exact st_14 p a b hp hw (by omega) ea eb za zb hD hM (fun d m hd hm => h _ _ _ _ _ hd hm hK hI)
    · rw [if_neg g] at hs
      exact absurd hs (by simp)
  rw [if_neg e2] at hs
  by_cases e5 : w = 5
  · rw [if_pos e5] at hs
    obtain rfl := Option.some.inj hs
    exact st_5 p a b hp hw (by omega) ea eb (h _ _ _ _ _ hD hM hK hI)
  rw [if_neg e5] at hs
  by_cases e6 : w = 6 ∨ w = 7
  · rw [if_pos e6] at hs
    obtain rfl := Option.some.inj hs
    rcases e6 with e | e
    · exact st_6 p a b hp hw (by omega) ea eb (h _ _ _ _ _ hD hM hK hI)
    · exact st_7 p a b hp hw (by omega) ea eb (h _ _ _ _ _ hD hM hK hI)
  rw [if_neg e6] at hs
  by_cases e9 : w = 9
  · rw [if_pos e9] at hs
    by_cases g : a < 4
    · rw [if_pos g] at hs
      obtain rfl := Option.some.inj hs
      have hia := hI a g
      refine st_9 p a b hp hw (by omega) ea eb g (fun z => ?_) (fun z => ?_)
      · by_cases y : ind a = true
        · rw [if_pos y] at hia
          exact absurd (hia.symm.trans z) (by decide)
        · have := h _ _ _ _ a23 hD hM hK hI
          rw [if_neg y] at this
          exact this
      · by_cases y : ind a = true
        · have := h _ _ _ _ a23 hD hM hK hI
          rw [if_pos y] at this
          exact this
        · rw [if_neg y] at hia
          exact absurd hia z
    · rw [if_neg g] at hs
      exact absurd hs (by simp)
  rw [if_neg e9] at hs
  by_cases e10 : w = 10
  · rw [if_pos e10] at hs
    by_cases g : a < 4
    · rw [if_pos g] at hs
      obtain rfl := Option.some.inj hs
      have hia := hI a g
      refine st_10 p a b hp hw (by omega) ea eb g (fun z => ?_) (fun z => ?_)
      · by_cases y : ind a = true
        · rw [if_pos y] at hia
          exact absurd (hia.symm.trans z) (by decide)
        · have := h _ _ _ _ a23 hD hM hK hI
          rw [if_neg y] at this
          exact this
      · by_cases y : ind a = true
        · have := h _ _ _ _ a23 hD hM hK hI
          rw [if_pos y] at this
          exact this
        · rw [if_neg y] at hia
          exact absurd hia z
    · rw [if_neg g] at hs
      exact absurd hs (by simp)
  rw [if_neg e10] at hs
  by_cases e11 : w = 11 ∨ w = 12
  · rw [if_pos e11] at hs
    by_cases g : a < 4
    · rw [if_pos g] at hs
      obtain rfl := Option.some.inj hs
      rcases e11 with e | e
      · refine st_11 p a b hp hw (by omega) ea eb g (h _ _ _ _ _ hD hM hK (fun j hj => ?_))
        subst e
        by_cases y : j = a
        · subst y
          rw [pk_us]
          simp
        · rw [pk_un y]
          show a22 j = if (if j = a then Nat.beq 11 11 else ind j) = true then 1 else 0
          rw [if_neg y]
          exact hI j hj
      · refine st_12 p a b hp hw (by omega) ea eb g (h _ _ _ _ _ hD hM hK (fun j hj => ?_))
        subst e
        by_cases y : j = a
        · subst y
          rw [pk_us]
          simp
        · rw [pk_un y]
          show a22 j = if (if j = a then Nat.beq 12 11 else ind j) = true then 1 else 0
          rw [if_neg y]
          exact hI j hj
    · rw [if_neg g] at hs
      exact absurd hs (by simp)
  rw [if_neg e11] at hs
  by_cases e13 : w = 13
  · rw [if_pos e13] at hs
    by_cases g : k = n
    · rw [if_pos g] at hs
      obtain rfl := Option.some.inj hs
      subst g
      exact st_13a p a b hp hw (by omega) ea eb (h _ _ _ _ _ hD hM hK hI)
    · rw [if_neg g] at hs
      by_cases g2 : k < 16
      · rw [if_pos g2] at hs
        obtain rfl := Option.some.inj hs
        exact st_13b p a b hp hw (by omega) ea eb k g2 (fun z => g ((nI_eq (by omega) (by omega)).mp z)) hf hD hM (fun d m hd hm => h _ _ _ _ _ hd hm hK hI)
      · rw [if_neg g2] at hs
        exact absurd hs (by simp)
  rw [if_neg e13] at hs
  by_cases e15 : w = 15
  · rw [if_pos e15] at hs
    by_cases g : ar_zf a = true
    · rw [if_pos g] at hs
      obtain rfl := Option.some.inj hs
      exact st_15 p a b hp hw (by omega) ea eb g hD (h _ _ _ _ _ hD hM hK hI)
    · rw [if_neg g] at hs
      exact absurd hs (by simp)
  rw [if_neg e15] at hs
  by_cases e18 : w = 18
  · rw [if_pos e18] at hs
    by_cases g : (ar_zf a && ar_zf b) = true
    · rw [if_pos g] at hs
      obtain rfl := Option.some.inj hs
      obtain ⟨za, zb⟩ := (Bool.and_eq_true _ _).mp g
      have ha := zi_zf153 za
      have hb := zi_zf153 zb
      have hne := zi_z150 (Or.inl zb)
      refine st_18 p a b hp hw (by omega) ea eb (by omega) (by omega) (h _ _ _ _ _ (zi_D_upd hD b _ (fun _ => ?_) hne.1 hne.2) hM hK hI)
      rw [hD.1 a za]
      rfl
    · rw [if_neg g] at hs
      by_cases g2 : a = 152 ∧ b = 150
      · rw [if_pos g2] at hs
        obtain rfl := Option.some.inj hs
        obtain ⟨ga, gb⟩ := g2
        subst ga gb
        refine st_18 p 152 150 hp hw (by omega) ea eb (by omega) (by omega) (h _ _ _ _ _ ⟨fun i hi => ?_, ?_, ?_⟩ hM hK hI)
        · rw [pk_un (zi_z150 (Or.inl hi)).1]
          exact hD.1 i hi
        · rw [pk_us, hD.2.2]
          rfl
        · rw [pk_un (by decide)]
          exact hD.2.2
      · rw [if_neg g2] at hs
        exact absurd hs (by simp)
  rw [if_neg e18] at hs
  by_cases e19 : w = 19
  · rw [if_pos e19] at hs
    by_cases g : sk.length < 4
    · rw [if_pos g] at hs
      obtain rfl := Option.some.inj hs
      exact st_19 p a b hp hw (by omega) ea eb sk.length g (h _ _ _ _ _ hD hM ⟨pk_us, st_K_upd sk a21 _ _ (by omega) hK⟩ hI)
    · rw [if_neg g] at hs
      exact absurd hs (by simp)
  rw [if_neg e19] at hs
  by_cases e20 : w = 20
  · rw [if_pos e20] at hs
    cases sk with
    | nil => exact absurd hs (by simp)
    | cons x r =>
      dsimp only at hs
      by_cases g : r.length < 4
      · rw [if_pos g] at hs
        obtain rfl := Option.some.inj hs
        exact st_20 p a b hp hw (by omega) ea eb r.length x g hK.1 (h _ _ _ _ _ hD hM hK.2 hI)
      · rw [if_neg g] at hs
        exact absurd hs (by simp)
  rw [if_neg e20] at hs
  by_cases e21 : w = 21 ∨ w = 22
  · rw [if_pos e21] at hs
    by_cases g : (w = 22 ∨ ar_zf a = true) ∧ pr < 80
    · rw [if_pos g] at hs
      obtain rfl := Option.some.inj hs
      by_cases e : w = 22
      · exact st_22 p a b hp hw (by omega) ea eb pr g.2 (fun t => h _ _ _ _ _ hD hM hK hI)
      · have ha : a < 153 := by
          rcases g.1 with z | z
          · exact absurd z e
          · exact zi_zf153 z
        exact st_21 p a b hp hw (by omega) ea eb pr (by omega) g.2 (fun t => h _ _ _ _ _ hD hM hK hI)
    · rw [if_neg g] at hs
      exact absurd hs (by simp)
  rw [if_neg e21] at hs
  by_cases e23 : w = 23
  · rw [if_pos e23] at hs
    by_cases g : ar_zf a = true
    · rw [if_pos g] at hs
      obtain rfl := Option.some.inj hs
      exact st_23 p a b hp hw (by omega) ea eb g hM (h _ _ _ _ _ hD hM hK hI)
    · rw [if_neg g] at hs
      exact absurd hs (by simp)
  rw [if_neg e23] at hs
  by_cases e24 : w = 24
  · rw [if_pos e24] at hs
    by_cases g : ar_zf a = true
    · rw [if_pos g] at hs
      obtain rfl := Option.some.inj hs
      have ha := zi_zf153 g
      exact st_24 p a b hp hw (by omega) ea eb (by omega) (fun _ => h _ _ _ _ _ hD hM hK hI) (fun z => absurd (hD.1 a g) z)
    · rw [if_neg g] at hs
      by_cases g2 : a = 150
      · rw [if_pos g2] at hs
        obtain rfl := Option.some.inj hs
        subst g2
        have h150 := hD.2.1
        refine st_24 p 150 b hp hw (by omega) ea eb (by omega) (fun z => ?_) (fun z => ?_)
        · by_cases y : hv = true
          · rw [if_pos y] at h150
            exact absurd (h150.symm.trans z) (by decide)
          · have := h _ _ _ _ a23 hD hM hK hI
            rw [if_neg y] at this
            exact this
        · by_cases y : hv = true
          · have := h _ _ _ _ a23 hD hM hK hI
            rw [if_pos y] at this
            exact this
          · rw [if_neg y] at h150
            exact absurd h150 z
      · rw [if_neg g2] at hs
        exact absurd hs (by simp)
  rw [if_neg e24] at hs
  by_cases e26 : w = 26
  · rw [if_pos e26] at hs
    obtain rfl := Option.some.inj hs
    exact st_26 p a b hp hw (by omega) ea eb tl (h _ _ _ _ _ hD hM hK hI)
  rw [if_neg e26] at hs
  exact absurd hs (by simp)
theorem st_run {post : Int32 → St2 → Prop} {n : Nat} {f : Nat → Nat} (hn : n < 16) (hf : wk_cf a16 a17) : ∀ (fu : Nat) (s t : AR_S) (d m ks io pt : Nat → Int32), ar_run n f fu s = some t →
    zi_D s.2.2.2.2.2.2.1 d → zi_M m → st_K s.2.1 ks → st_I s.2.2.1 io →
    (∀ d m ks io pt, zi_D t.2.2.2.2.2.2.1 d → zi_M m → st_I t.2.2.1 io → post (nI t.2.2.2.2.1) (nI n, lc, lv, me, sA, pA, lA, rA, eA, qA, tA, cA, gA, hA, zA, oA, cp, ce, mA, dA, nA, nI t.1, 0, nI t.2.1.length, nI t.2.2.2.1, nI t.2.2.2.2.1, (if t.2.2.2.2.2.2.2 = true then 1 else 0), nI t.2.2.2.2.2.1, a1, a2, a3, a4, a5, a6, a7, a8, a9, a10, a11, d, lo_M lo_L, m, a15, a16, a17, a18, pg_ci f, a20, ks, io, pt)) →
    wX_run_139 post fu (nI n) lc lv me sA pA lA rA eA qA tA cA gA hA zA oA cp ce mA dA nA (nI s.1) 0 (nI s.2.1.length) (nI s.2.2.2.1) (nI s.2.2.2.2.1) (if s.2.2.2.2.2.2.2 = true then 1 else 0) (nI s.2.2.2.2.2.1) a1 a2 a3 a4 a5 a6 a7 a8 a9 a10 a11 d (lo_M lo_L) m a15 a16 a17 a18 (pg_ci f) a20 ks io pt := by
  intro fu
  induction fu with
  | zero => intro s t d m ks io pt hs; exact absurd hs (by simp [ar_run])
  | succ fu ih =>
    intro s t d m ks io pt hs hD hM hK hI h
    obtain ⟨p, sk, ind, k, tl, pr, hv, hl'⟩ := s
    unfold ar_run at hs
    cases hl' with
    | true =>
      rw [if_pos rfl] at hs
      obtain rfl := Option.some.inj hs
      exact br_f (show ¬ (1 : Int32) = 0 by decide) (h d m ks io pt hD hM hI)
    | false =>
      rw [if_neg (show ¬ false = true by decide)] at hs
      cases hst : ar_step n f (p, sk, ind, k, tl, pr, hv, false) with
      | none => rw [hst] at hs; exact absurd hs (by simp)
      | some s' =>
        rw [hst] at hs
        exact br_t rfl (st_step p sk ind k tl pr hv s' hst hn hf hD hM hK hI (fun d m ks io pt hd hm hk hi => ih s' t d m ks io pt hs hd hm hk hi h))
end
end
section
/-! run(): the fields are set, then the machine runs -/
theorem rn_zw : ∀ i, i < 6 → ar_zf (6 * i + 5) = true := by decide +kernel
theorem rn_zc : ∀ i, i < 14 → ar_zf (3 * i + 58) = true := by decide +kernel
def rn_c (i : Nat) : Nat := if i = 0 then 37 else if i = 1 then 41 else if i = 2 then 46 else 52
theorem rn_fc : ∀ i, i < 4 → ar_fr (rn_c i) = true := by decide +kernel
theorem rn_ca {a16 a17 : Nat → Int32} (h : wk_cf a16 a17) : ∀ i, i < 4 → a16 i = nI (rn_c i) := by
  obtain ⟨e0, e1, e2, e3, _⟩ := h
  intro i hi
  have hc : i = 0 ∨ i = 1 ∨ i = 2 ∨ i = 3 := by omega
  rcases hc with rfl | rfl | rfl | rfl
  · exact e0
  · exact e1
  · exact e2
  · exact e3
section
variable {cc lc lv me sA pA lA rA eA qA tA cA gA hA zA oA cp ce mA dA nA ia od cd nc ta zh pc : Int32} {a1 a2 a3 a4 a5 a6 a7 a8 a9 a10 a11 a12 a13 a14 a15 a16 a17 a18 a19 a20 a21 a22 a23 : Nat → Int32}
theorem rn_69 {post : Int32 → St2 → Prop} {k n : Nat} {f : Nat → Nat} {hv : Bool} (t : AR_S) (hk : k < 16) (hn : n ≤ 14) (hf : wk_cf a16 a17) (h18 : ∀ i, i < n → a18 i = nI (3 * i + 58)) (h11 : ∀ i, i < n → a11 i = 0)
    (ht : ar_run k f 60 ar_init = some t) (hD : zi_D hv a12) (hM : zi_M a14) (hI : ∀ j, j < 4 → a22 j = 0)
    (h : ∀ d m ks io pt, zi_D t.2.2.2.2.2.2.1 d → zi_M m → st_I t.2.2.1 io → post (nI t.2.2.2.2.1) (nI k, nI n, lv, me, sA, pA, lA, rA, eA, qA, tA, cA, gA, nI 150, zA, oA, cp, ce, mA, dA, nA, nI t.1, 0, nI t.2.1.length, nI t.2.2.2.1, nI t.2.2.2.2.1, (if t.2.2.2.2.2.2.2 = true then 1 else 0), nI t.2.2.2.2.2.1, a1, a2, a3, a4, a5, a6, a7, a8, a9, a10, a11, d, lo_M lo_L, m, a15, a16, a17, a18, pg_ci f, a20, ks, io, pt)) :
    ∃ fu, wX_run_69 post fu 0 (nI k) (nI n) lv me sA pA lA rA eA qA tA cA gA (nI 150) zA oA cp ce mA dA nA ia 0 cd nc ta zh pc a1 a2 a3 a4 a5 a6 a7 a8 a9 a10 a11 a12 (lo_M lo_L) a14 a15 a16 a17 a18 (pg_ci f) a20 a21 a22 a23 := by
  refine pk_loop (σ := (Nat → Int32) × (Nat → Int32)) (fun fu i s => wX_run_69 post fu (nI i) (nI k) (nI n) lv me sA pA lA rA eA qA tA cA gA (nI 150) zA oA cp ce mA dA nA ia 0 cd nc ta zh pc a1 a2 a3 a4 a5 a6 a7 a8 a9 a10 a11 s.1 (lo_M lo_L) s.2 a15 a16 a17 a18 (pg_ci f) a20 a21 a22 a23) (fun _ s => zi_D hv s.1 ∧ zi_M s.2) n 0 (a12, a14) (by omega) ⟨hD, hM⟩ ?_ ?_
  · intro fu s hs
    obtain ⟨d, m⟩ := s
    obtain ⟨hd, hm⟩ := hs
    refine pk_le n n (fun _ => ⟨pk_in 150 240 (by decide), nm_r (e' := upd d 150 0) (by rw [nI_clamp (by decide)]) ⟨60, ?_⟩⟩) (fun z => absurd z (by omega))
    refine st_run hk hf 60 ar_init t (upd d 150 0) m a21 a22 a23 ht ⟨fun i hi => ?_, pk_us, ?_⟩ hm trivial (fun j hj => hI j hj) h
    · rw [pk_un (zi_z150 (Or.inl hi)).1]
      exact hd.1 i hi
    · rw [pk_un (by decide)]
      exact hd.2.2
  · intro fu i s hi hs hw
    obtain ⟨d, m⟩ := s
    obtain ⟨hd, hm⟩ := hs
    have hin : vp_in (nI i) 14 := pk_in i 14 (by omega)
    refine pk_le n i (fun z => absurd z (by omega)) (fun _ => ⟨hin, hin, ?_⟩)
    refine zl_set (3 * i + 58) (by rw [nI_clamp (by omega)]; exact h18 i hi) (Or.inr ⟨rn_zc i (by omega), by rw [nI_clamp (by omega)]; exact h11 i hi⟩) hd hm (fun d m hd hm => nm_r (nI_1 i) ?_)
    exact hw (d, m) ⟨hd, hm⟩
theorem rn_38 {post : Int32 → St2 → Prop} {k n : Nat} {f : Nat → Nat} {hv : Bool} (t : AR_S) (hk : k < 16) (hn : n ≤ 14) (hf : wk_cf a16 a17) (h18 : ∀ i, i < n → a18 i = nI (3 * i + 58)) (h11 : ∀ i, i < n → a11 i = 0)
    (ht : ar_run k f 60 ar_init = some t) (hD : zi_D hv a12) (hM : zi_M a14)
    (h : ∀ d m ks io pt, zi_D t.2.2.2.2.2.2.1 d → zi_M m → st_I t.2.2.1 io → post (nI t.2.2.2.2.1) (nI k, nI n, lv, me, sA, pA, lA, rA, eA, qA, tA, cA, gA, nI 150, zA, oA, cp, ce, mA, dA, nA, nI t.1, 0, nI t.2.1.length, nI t.2.2.2.1, nI t.2.2.2.2.1, (if t.2.2.2.2.2.2.2 = true then 1 else 0), nI t.2.2.2.2.2.1, a1, a2, a3, a4, a5, a6, a7, a8, a9, a10, a11, d, lo_M lo_L, m, a15, a16, a17, a18, pg_ci f, a20, ks, io, pt)) :
    ∃ fu, wX_run_38 post fu 0 (nI k) (nI n) lv me sA pA lA rA eA qA tA cA gA (nI 150) zA oA cp ce mA dA nA ia 0 cd nc ta zh pc a1 a2 a3 a4 a5 a6 a7 a8 a9 a10 a11 a12 (lo_M lo_L) a14 a15 a16 a17 a18 (pg_ci f) a20 a21 a22 a23 := by
  refine pk_loop (σ := (Nat → Int32) × (Nat → Int32) × (Nat → Int32)) (fun fu i s => wX_run_38 post fu (nI i) (nI k) (nI n) lv me sA pA lA rA eA qA tA cA gA (nI 150) zA oA cp ce mA dA nA ia 0 cd nc ta zh pc a1 a2 a3 a4 a5 a6 a7 a8 a9 a10 a11 s.1 (lo_M lo_L) s.2.1 a15 a16 a17 a18 (pg_ci f) a20 a21 s.2.2 a23) (fun i s => zi_D hv s.1 ∧ zi_M s.2.1 ∧ ∀ j, j < i → s.2.2 j = 0) 4 0 (a12, a14, a22) (by omega) ⟨hD, hM, fun j hj => absurd hj (by omega)⟩ ?_ ?_
  · intro fu s hs
    obtain ⟨d, m, io⟩ := s
    obtain ⟨hd, hm, hi⟩ := hs
    exact pk_le 4 4 (fun _ => rn_69 t hk hn hf h18 h11 ht hd hm hi h) (fun z => absurd z (by omega))
  · intro fu i s hi hs hw
    obtain ⟨d, m, io⟩ := s
    obtain ⟨hd, hm, hj⟩ := hs
    have hin : vp_in (nI i) 4 := pk_in i 4 (by omega)
    refine pk_le 4 i (fun z => absurd z (by omega)) (fun _ => ⟨hin, ?_⟩)
    refine zl_set (rn_c i) (by rw [nI_clamp (by omega)]; exact rn_ca hf i hi) (Or.inl (rn_fc i hi)) hd hm (fun d m hd hm => ⟨hin, nm_r (e' := upd io i 0) (by rw [nI_clamp (by omega)]) (nm_r (nI_1 i) ?_)⟩)
    refine hw (d, m, upd io i 0) ⟨hd, hm, fun j hj' => ?_⟩
    by_cases e : j = i
    · rw [e]
      exact pk_us
    · exact (pk_un e).trans (hj j (by omega))
theorem rn_13 {post : Int32 → St2 → Prop} {k n : Nat} {f : Nat → Nat} {hv : Bool} (t : AR_S) (hk : k < 16) (hn : n ≤ 14) (hf : wk_cf a16 a17) (h15 : ∀ i, i < 6 → a15 i = nI (6 * i + 5)) (h18 : ∀ i, i < n → a18 i = nI (3 * i + 58)) (h11 : ∀ i, i < n → a11 i = 0)
    (ht : ar_run k f 60 ar_init = some t) (hD : zi_D hv a12) (hM : zi_M a14)
    (h : ∀ d m ks io pt, zi_D t.2.2.2.2.2.2.1 d → zi_M m → st_I t.2.2.1 io → post (nI t.2.2.2.2.1) (nI k, nI n, lv, me, sA, pA, lA, rA, eA, qA, tA, cA, gA, nI 150, zA, oA, cp, ce, mA, dA, nA, nI t.1, 0, nI t.2.1.length, nI t.2.2.2.1, nI t.2.2.2.2.1, (if t.2.2.2.2.2.2.2 = true then 1 else 0), nI t.2.2.2.2.2.1, a1, a2, a3, a4, a5, a6, a7, a8, a9, a10, a11, d, lo_M lo_L, m, a15, a16, a17, a18, pg_ci f, a20, ks, io, pt)) :
    ∃ fu, wX_run_13 post fu 0 (nI k) (nI n) lv me sA pA lA rA eA qA tA cA gA (nI 150) zA oA cp ce mA dA nA ia 0 cd nc ta zh pc a1 a2 a3 a4 a5 a6 a7 a8 a9 a10 a11 a12 (lo_M lo_L) a14 a15 a16 a17 a18 (pg_ci f) a20 a21 a22 a23 := by
  refine pk_loop (σ := (Nat → Int32) × (Nat → Int32)) (fun fu i s => wX_run_13 post fu (nI i) (nI k) (nI n) lv me sA pA lA rA eA qA tA cA gA (nI 150) zA oA cp ce mA dA nA ia 0 cd nc ta zh pc a1 a2 a3 a4 a5 a6 a7 a8 a9 a10 a11 s.1 (lo_M lo_L) s.2 a15 a16 a17 a18 (pg_ci f) a20 a21 a22 a23) (fun _ s => zi_D hv s.1 ∧ zi_M s.2) 6 0 (a12, a14) (by omega) ⟨hD, hM⟩ ?_ ?_
  · intro fu s hs
    obtain ⟨d, m⟩ := s
    obtain ⟨hd, hm⟩ := hs
    exact pk_le 6 6 (fun _ => rn_38 t hk hn hf h18 h11 ht hd hm h) (fun z => absurd z (by omega))
  · intro fu i s hi hs hw
    obtain ⟨d, m⟩ := s
    obtain ⟨hd, hm⟩ := hs
    refine pk_le 6 i (fun z => absurd z (by omega)) (fun _ => ⟨pk_in i 6 (by omega), ?_⟩)
    refine zl_set (6 * i + 5) (by rw [nI_clamp (by omega)]; exact h15 i hi) (Or.inr ⟨rn_zw i hi, rfl⟩) hd hm (fun d m hd hm => nm_r (nI_1 i) ?_)
    exact hw (d, m) ⟨hd, hm⟩
theorem rn_D0 : zi_D false (upd (fun _ => 0) 152 1) := by
  refine ⟨fun i hi => ?_, rfl, rfl⟩
  rw [pk_un (zi_z150 (Or.inl hi)).2]
theorem rn_run {post : Int32 → St2 → Prop} (k n wh cn op w : Nat) (t : AR_S) (hk : k < 16) (hnl : n = 0 ∨ n = 1 ∧ wk_ln a5 a6 a7 a8 a9 a10 lo_15 wh cn op w) (h11 : n = 1 → a11 0 = 0)
    (ht : ar_run k (pg_all n wh cn op w).2 60 ar_init = some t)
    (h : ∀ (ia cd nc ta zh pc ce : Int32) (d m ks io pt g f : Nat → Int32), pc = nI t.2.2.2.2.2.1 → zi_D t.2.2.2.2.2.2.1 d → zi_M m → st_I t.2.2.1 io → post (nI t.2.2.2.2.1) (nI k, nI n, 1, nI 153, nI 104, nI 116, nI 122, nI 128, nI 135, nI 141, nI 147, nI 148, nI 149, nI 150, nI 151, nI 152, 1, ce, nI 1, nI 46, nI 114, ia, 0, cd, nc, ta, zh, pc, a1, a2, a3, a4, a5, a6, a7, a8, a9, a10, a11, d, lo_M lo_L, m, lo_15, lo_16, lo_17, lo_18, f, g, ks, io, pt)) :
    wpX_run post (nI k, nI n, 1, nI 153, nI 104, nI 116, nI 122, nI 128, nI 135, nI 141, nI 147, nI 148, nI 149, nI 150, nI 151, nI 152, 0, ce, mA, dA, nA, ia, 0, cd, nc, ta, zh, pc, a1, a2, a3, a4, a5, a6, a7, a8, a9, a10, a11, upd (fun _ => 0) 152 1, lo_M lo_L, (fun _ => 0), lo_15, lo_16, lo_17, lo_18, (fun _ => 0), a20, a21, a22, a23) := by
  refine br_t rfl ?_
  refine wk_compile n wh cn op w lo_cf hnl (fun g => ?_)
  have hn : n ≤ 1 := by rcases hnl with z | z; omega; omega
  refine rn_13 (f := (pg_all n wh cn op w).2) t hk (by omega) lo_cf lo_15v (fun i hi => lo_18v i (by omega)) (fun i hi => ?_) ht rn_D0 (fun i hi => rfl) (fun d m ks io pt hd hm hi => ?_)
  · have : i = 0 := by omega
    subst this
    exact h11 (by omega)
  · exact h _ _ _ _ _ _ _ d m ks io pt g _ rfl hd hm hi
end
end
section
/-! the law's own steps -/
def lw_C (x0 x1 : Int32) : Prop := ¬ x0 < 0 ∧ ¬ 99 < x0 ∧ ¬ x1 < (-999) ∧ ¬ 999 < x1
def lw_most (x4 : Int32) : Int32 := if x4 = 6 ∨ x4 = 7 then 3 else 5
def lw_L (x2 x3 x4 x5 : Int32) : Prop := ¬ x2 < 0 ∧ ¬ 3 < x2 ∧ ¬ x3 < 0 ∧ ¬ 8 < x3 ∧ ¬ x4 < 0 ∧ ¬ 9 < x4 ∧ ¬ x5 < 0 ∧ ¬ lw_most x4 < x5
theorem lw_nat {x2 x3 x4 x5 : Int32} (h : lw_L x2 x3 x4 x5) : ∃ wh cn op w : Nat, wh < 4 ∧ cn < 9 ∧ op < 10 ∧ w < 6 ∧ (op = 6 ∨ op = 7 → w < 4) ∧ x2 = nI wh ∧ x3 = nI cn ∧ x4 = nI op ∧ x5 = nI w := by
  obtain ⟨c1, c2, c3, c4, c5, c6, c7, c8⟩ := h
  obtain ⟨wh, h1, rfl⟩ := nI_of2 (M := 3) (n := 3) (by decide) c1 (Int32.not_lt.mp c2)
  obtain ⟨cn, h2, rfl⟩ := nI_of2 (M := 8) (n := 8) (by decide) c3 (Int32.not_lt.mp c4)
  obtain ⟨op, h3, rfl⟩ := nI_of2 (M := 9) (n := 9) (by decide) c5 (Int32.not_lt.mp c6)
  by_cases e : op = 6 ∨ op = 7
  · have e' : nI op = 6 ∨ nI op = 7 := by
      rcases e with e | e
      · exact Or.inl (by rw [e]; rfl)
      · exact Or.inr (by rw [e]; rfl)
    unfold lw_most at c8
    rw [if_pos e'] at c8
    obtain ⟨w, h4, rfl⟩ := nI_of2 (M := 3) (n := 3) (by decide) c7 (Int32.not_lt.mp c8)
    exact ⟨wh, cn, op, w, by omega, by omega, by omega, by omega, fun _ => by omega, rfl, rfl, rfl, rfl⟩
  · have e' : ¬ (nI op = 6 ∨ nI op = 7) := by
      intro z
      rcases z with z | z
      · exact e (Or.inl ((nI_eq (b := 6) (by omega) (by omega)).mp z))
      · exact e (Or.inr ((nI_eq (b := 7) (by omega) (by omega)).mp z))
    unfold lw_most at c8
    rw [if_neg e'] at c8
    obtain ⟨w, h4, rfl⟩ := nI_of2 (M := 5) (n := 5) (by decide) c7 (Int32.not_lt.mp c8)
    exact ⟨wh, cn, op, w, by omega, by omega, by omega, by omega, fun z => absurd z e, rfl, rfl, rfl, rfl⟩
theorem lw_ok {k n wh cn op w : Nat} (h : ar_ok k n wh cn op w = true) : ∃ t, ar_run k (pg_all n wh cn op w).2 60 ar_init = some t ∧ t.2.2.2.2.1 = (ar_runs k n wh cn).toNat ∧ t.2.2.2.2.2.1 = ar_size (ar_runs k n wh cn) op ∧ t.2.2.1 2 = ar_shown (ar_runs k n wh cn) op w := by
  unfold ar_ok at h
  cases hr : ar_run k (pg_all n wh cn op w).2 60 ar_init with
  | none => rw [hr] at h; exact absurd h (by simp)
  | some t =>
    rw [hr] at h
    dsimp only at h
    obtain ⟨h1, h3⟩ := (Bool.and_eq_true _ _).mp h
    obtain ⟨h1, h2⟩ := (Bool.and_eq_true _ _).mp h1
    exact ⟨t, rfl, Nat.eq_of_beq_eq_true h1, Nat.eq_of_beq_eq_true h2, eq_of_beq h3⟩
section
variable {cc lc lv me sA pA lA rA eA qA tA cA gA hA zA oA cp ce mA dA nA ia od cd nc ta zh pc : Int32} {a1 a2 a3 a4 a5 a6 a7 a8 a9 a10 a11 a12 a13 a14 a15 a16 a17 a18 a19 a20 a21 a22 a23 : Nat → Int32}
theorem lw_card {post : Int32 → St2 → Prop} {x0 x1 : Int32} (hC : lw_C x0 x1) (h : ∀ b1 b2 b3 b4, post (nI 1) (nI 1, lc, lv, me, sA, pA, lA, rA, eA, qA, tA, cA, gA, hA, zA, oA, cp, ce, mA, dA, nA, ia, od, cd, nc, ta, zh, pc, b1, b2, b3, b4, a5, a6, a7, a8, a9, a10, a11, a12, a13, a14, a15, a16, a17, a18, a19, a20, a21, a22, a23)) : wpX_card post (0, lc, lv, me, sA, pA, lA, rA, eA, qA, tA, cA, gA, hA, zA, oA, cp, ce, mA, dA, nA, ia, od, cd, nc, ta, zh, pc, a1, a2, a3, a4, a5, a6, a7, a8, a9, a10, a11, a12, a13, a14, a15, a16, a17, a18, a19, a20, a21, a22, a23) x0 5 x1 0 := by
  obtain ⟨c1, c2, c3, c4⟩ := hC
  have hin : vp_in 0 16 := pk_in 0 16 (by decide)
  refine br_t (by decide) <| br_f c1 <| br_f c2 <| br_f (by decide) <| br_f (by decide) <|  ?_
  refine br_f c3 <| br_f c4 <| br_f (by decide) ?_
  refine br_f (by decide) <| br_f (by decide) <|  br_f (by decide) ?_
  exact ⟨hin, nm_e ⟨hin, nm_e ⟨hin, nm_e ⟨hin, nm_e (nm_r (nI_add 0 1) (h _ _ _ _))⟩⟩⟩⟩
theorem lw_cardN {post : Int32 → St2 → Prop} {x0 x1 : Int32} (hC : ¬ lw_C x0 x1) (h : post (-10000000) (0, lc, lv, me, sA, pA, lA, rA, eA, qA, tA, cA, gA, hA, zA, oA, cp, ce, mA, dA, nA, ia, od, cd, nc, ta, zh, pc, a1, a2, a3, a4, a5, a6, a7, a8, a9, a10, a11, a12, a13, a14, a15, a16, a17, a18, a19, a20, a21, a22, a23)) : wpX_card post (0, lc, lv, me, sA, pA, lA, rA, eA, qA, tA, cA, gA, hA, zA, oA, cp, ce, mA, dA, nA, ia, od, cd, nc, ta, zh, pc, a1, a2, a3, a4, a5, a6, a7, a8, a9, a10, a11, a12, a13, a14, a15, a16, a17, a18, a19, a20, a21, a22, a23) x0 5 x1 0 := by
  refine br_t (by decide) <| br_c (fun _ => h) (fun c1 => br_c (fun _ => h) (fun c2 => ?_))
  refine br_f (by decide) <| br_f (by decide) <|  ?_
  exact br_c (fun _ => br_t rfl h) (fun c3 => br_c (fun _ => br_t rfl h) (fun c4 => absurd ⟨c1, c2, c3, c4⟩ hC))
theorem lw_61N {post : Int32 → St2 → Prop} {x1 x2 x3 x4 z : Int32} (hL : ¬ x4 < 0 → ¬ z < x4 → False) (h : post (-10000000) (cc, lc, lv, me, sA, pA, lA, rA, eA, qA, tA, cA, gA, hA, zA, oA, cp, ce, mA, dA, nA, ia, od, cd, nc, ta, zh, pc, a1, a2, a3, a4, a5, a6, a7, a8, a9, a10, a11, a12, a13, a14, a15, a16, a17, a18, a19, a20, a21, a22, a23)) : wX_line_61 post x1 x2 x3 x4 z cc lc lv me sA pA lA rA eA qA tA cA gA hA zA oA cp ce mA dA nA ia od cd nc ta zh pc a1 a2 a3 a4 a5 a6 a7 a8 a9 a10 a11 a12 a13 a14 a15 a16 a17 a18 a19 a20 a21 a22 a23 :=
  br_c (fun _ => h) (fun c => br_c (fun c2 => False.elim (hL c (Int32.not_lt.mpr c2))) (fun _ => h))
theorem lw_lineN {post : Int32 → St2 → Prop} {x2 x3 x4 x5 : Int32} (hL : ¬ lw_L x2 x3 x4 x5) (h : post (-10000000) (cc, 0, lv, me, sA, pA, lA, rA, eA, qA, tA, cA, gA, hA, zA, oA, cp, ce, mA, dA, nA, ia, od, cd, nc, ta, zh, pc, a1, a2, a3, a4, a5, a6, a7, a8, a9, a10, a11, a12, a13, a14, a15, a16, a17, a18, a19, a20, a21, a22, a23)) : wpX_line post (cc, 0, lv, me, sA, pA, lA, rA, eA, qA, tA, cA, gA, hA, zA, oA, cp, ce, mA, dA, nA, ia, od, cd, nc, ta, zh, pc, a1, a2, a3, a4, a5, a6, a7, a8, a9, a10, a11, a12, a13, a14, a15, a16, a17, a18, a19, a20, a21, a22, a23) x2 x3 x4 x5 := by
  refine br_t (by decide) <| br_c (fun _ => h) (fun c1 => br_c (fun _ => h) (fun c2 => br_c (fun _ => h) (fun c3 => br_c (fun _ => h) (fun c4 => br_c (fun _ => h) (fun c5 => br_c (fun c6 => ?_) (fun _ => h))))))
  have g : ∀ z, lw_most x4 = z → ¬ x5 < 0 → ¬ z < x5 → False := fun z hz c7 c8 => hL ⟨c1, c2, c3, c4, c5, Int32.not_lt.mpr c6, c7, by rw [hz]; exact c8⟩
  exact br_c (fun e => lw_61N (g 3 (if_pos (Or.inl e))) h) (fun e => br_c (fun e2 => lw_61N (g 3 (if_pos (Or.inr e2))) h) (fun e2 => lw_61N (g 5 (if_neg (fun z => z.elim e e2))) h))
theorem lw_61Y {post : Int32 → St2 → Prop} {z : Int32} (wh cn op w : Nat) (hwh : wh < 4) (hcn : cn < 9) (hop : op < 10) (hw : w < 6) (hz : nI w ≤ z)
    (h : post (nI 1) (cc, nI 1, lv, me, sA, pA, lA, rA, eA, qA, tA, cA, gA, hA, zA, oA, 0, ce, mA, dA, nA, ia, od, cd, nc, ta, zh, pc, a1, a2, a3, a4, upd a5 0 (nI wh), upd a6 0 (nI cn), upd a7 0 (nI op), upd a8 0 (nI w), upd a9 0 0, upd a10 0 0, upd a11 0 0, a12, a13, a14, a15, a16, a17, a18, a19, a20, a21, a22, a23)) :
    wX_line_61 post (nI wh) (nI cn) (nI op) (nI w) z cc 0 lv me sA pA lA rA eA qA tA cA gA hA zA oA cp ce mA dA nA ia od cd nc ta zh pc a1 a2 a3 a4 a5 a6 a7 a8 a9 a10 a11 a12 a13 a14 a15 a16 a17 a18 a19 a20 a21 a22 a23 := by
  have hin : vp_in 0 14 := pk_in 0 14 (by decide)
  have e0 : (0 : Int32).toNatClampNeg = 0 := rfl
  refine br_f (nI_pos (by omega)) <| br_t hz ⟨hin, nm_r (e' := upd a5 0 (nI wh)) (by rw [e0, rq_byte wh (by omega)]) ⟨hin, nm_r (e' := upd a6 0 (nI cn)) (by rw [e0, rq_byte cn (by omega)]) ⟨hin, nm_r (e' := upd a7 0 (nI op)) (by rw [e0, rq_byte op (by omega)]) ⟨hin, nm_r (e' := upd a8 0 (nI w)) (by rw [e0, rq_byte w (by omega)]) ⟨hin, nm_r (e' := upd a9 0 0) (by rw [e0]) ⟨hin, nm_r (e' := upd a10 0 0) (by rw [e0]) ⟨hin, nm_r (e' := upd a11 0 0) (by rw [e0]) (nm_r (nI_add 0 1) h)⟩⟩⟩⟩⟩⟩⟩
theorem lw_lineY {post : Int32 → St2 → Prop} (wh cn op w : Nat) (hwh : wh < 4) (hcn : cn < 9) (hop : op < 10) (hw : w < 6) (h67 : op = 6 ∨ op = 7 → w < 4)
    (h : post (nI 1) (cc, nI 1, lv, me, sA, pA, lA, rA, eA, qA, tA, cA, gA, hA, zA, oA, 0, ce, mA, dA, nA, ia, od, cd, nc, ta, zh, pc, a1, a2, a3, a4, upd a5 0 (nI wh), upd a6 0 (nI cn), upd a7 0 (nI op), upd a8 0 (nI w), upd a9 0 0, upd a10 0 0, upd a11 0 0, a12, a13, a14, a15, a16, a17, a18, a19, a20, a21, a22, a23)) :
    wpX_line post (cc, 0, lv, me, sA, pA, lA, rA, eA, qA, tA, cA, gA, hA, zA, oA, cp, ce, mA, dA, nA, ia, od, cd, nc, ta, zh, pc, a1, a2, a3, a4, a5, a6, a7, a8, a9, a10, a11, a12, a13, a14, a15, a16, a17, a18, a19, a20, a21, a22, a23) (nI wh) (nI cn) (nI op) (nI w) := by
  refine br_t (by decide) <| br_f (nI_pos (by omega)) <| br_f (nI_nlt (a := 3) (b := wh) (by omega) (by omega)) <| br_f (nI_pos (by omega)) <| br_f (nI_nlt (a := 8) (b := cn) (by omega) (by omega)) <| br_f (nI_pos (by omega)) <| br_t (nI_le (b := 9) (by omega) (by omega)) ?_
  refine pk_eq op 6 (fun e => ?_) (fun e => pk_eq op 7 (fun e2 => ?_) (fun e2 => ?_))
  · exact lw_61Y wh cn op w hwh hcn hop hw (nI_le (b := 3) (by have := h67 (Or.inl e); omega) (by omega)) h
  · exact lw_61Y wh cn op w hwh hcn hop hw (nI_le (b := 3) (by have := h67 (Or.inr e2); omega) (by omega)) h
  · exact lw_61Y wh cn op w hwh hcn hop hw (nI_le (b := 5) (by omega) (by omega)) h
theorem lw_work {mc ms kc ks : Nat} {x5 : Int32} {hv : Bool} (h15 : ∀ i, i < 6 → a15 i = nI (6 * i + 5)) (hD : zi_D hv a12) (hM : zi_M a14) :
    wpX_work (fun r => wpL_in (fun q => (q = 0 → wL_lawOf_332 (fun r _ => r = 1) mc ms (-10000000) r kc ks) ∧ (¬ q = 0 → wL_lawOf_332 (fun r _ => r = 1) mc ms 0 r kc ks)) () x5 0 5) (cc, lc, lv, me, sA, pA, lA, rA, eA, qA, tA, cA, gA, hA, zA, oA, cp, ce, mA, dA, nA, ia, od, cd, nc, ta, zh, pc, a1, a2, a3, a4, a5, a6, a7, a8, a9, a10, a11, a12, lo_M lo_L, a14, a15, a16, a17, a18, a19, a20, a21, a22, a23) x5 := by
  refine br_c (fun c => br_t c (br_t rfl (br_t rfl rfl))) (fun c => br_c (fun c2 => ?_) (fun c2 => ?_))
  · obtain ⟨j, hj, rfl⟩ := nI_of2 (M := 5) (n := 5) (by decide) c c2
    refine ⟨pk_in j 6 (by omega), zl_val (6 * j + 5) (by rw [nI_clamp (by omega)]; exact h15 j (by omega)) (rn_zw j (by omega)) hD hM ?_⟩
    exact br_f c (br_f (Int32.not_lt.mpr c2) (br_f (by decide) (br_t rfl rfl)))
  · exact br_f c (br_t (Int32.not_le.mp c2) (br_t rfl (br_t rfl rfl)))
theorem lw_279 {mc ms kc ks : Nat} {x5 x10 x11 z0 z1 : Int32} {hv : Bool} (e1 : z1 = z0) (e2 : pc = x10) (e3 : a22 2 = x11) (e4 : x11 = 0 ∨ x11 = 1) (h15 : ∀ i, i < 6 → a15 i = nI (6 * i + 5)) (hD : zi_D hv a12) (hM : zi_M a14) :
    wL_lawOf_279 (fun r _ => r = 1) mc ms x5 x10 x11 z0 z1 kc ks cc lc lv me sA pA lA rA eA qA tA cA gA hA zA oA cp ce mA dA nA ia od cd nc ta zh pc a1 a2 a3 a4 a5 a6 a7 a8 a9 a10 a11 a12 (lo_M lo_L) a14 a15 a16 a17 a18 a19 a20 a21 a22 a23 := by
  refine br_t e1 <| br_t e2 <| br_f (by decide) <| br_f (by decide) <|  ⟨pk_in 2 4 (by decide), ?_⟩
  rcases e4 with e | e
  · subst e
    exact br_t e3 (br_t rfl (lw_work h15 hD hM))
  · subst e
    exact br_f (by intro z; exact absurd (e3.symm.trans z) (by decide)) (br_t rfl (lw_work h15 hD hM))
theorem lw_259 {mc ms kc ks : Nat} {x5 x9 x10 x11 z0 z1 : Int32} (k n wh cn op w : Nat) (hk : k < 16) (hnl : n = 0 ∨ n = 1 ∧ wk_ln a5 a6 a7 a8 a9 a10 lo_15 wh cn op w) (h11 : n = 1 → a11 0 = 0) (e : z1 = z0)
    (hok : ar_ok k n wh cn op w = true) (h9 : x9 = if ar_runs k n wh cn = true then 1 else 0) (h10 : x10 = nI (ar_size (ar_runs k n wh cn) op)) (h11' : x11 = if ar_shown (ar_runs k n wh cn) op w = true then 1 else 0) :
    wL_lawOf_259 (fun r _ => r = 1) mc ms x5 x9 x10 x11 z0 z1 kc ks (nI k) (nI n) 1 (nI 153) (nI 104) (nI 116) (nI 122) (nI 128) (nI 135) (nI 141) (nI 147) (nI 148) (nI 149) (nI 150) (nI 151) (nI 152) 0 ce mA dA nA ia 0 cd nc ta zh pc a1 a2 a3 a4 a5 a6 a7 a8 a9 a10 a11 (upd (fun _ => 0) 152 1) (lo_M lo_L) (fun _ => 0) lo_15 lo_16 lo_17 lo_18 (fun _ => 0) a20 a21 a22 a23 := by
  obtain ⟨t, ht, t1, t2, t3⟩ := lw_ok hok
  refine br_t e (rn_run k n wh cn op w t hk hnl h11 ht (fun ia cd nc ta zh pc ce d m ks io pt g f hpc hd hm hi => ?_))
  have e2 : pc = x10 := by rw [hpc, t2, h10]
  have e3 : io 2 = x11 := by rw [hi 2 (by decide), t3, h11']
  have e4 : x11 = 0 ∨ x11 = 1 := by
    rw [h11']
    split
    · exact Or.inr rfl
    · exact Or.inl rfl
  cases hr : ar_runs k n wh cn with
  | true =>
    rw [hr] at h9 t1
    exact br_f (by rw [h9]; decide) (lw_279 (by rw [t1]; rfl) e2 e3 e4 lo_15v hd hm)
  | false =>
    rw [hr] at h9 t1
    exact br_t (by rw [h9]; rfl) (lw_279 (by rw [t1]; rfl) e2 e3 e4 lo_15v hd hm)
end
/-- the card's flag, and the number of cards -/
def lw_hC (x0 x1 x6 : Int32) (k : Nat) : Prop := (k = 1 ∧ x6 = 1 ∧ lw_C x0 x1) ∨ (k = 0 ∧ x6 = 0 ∧ ¬ lw_C x0 x1)
/-- the line's flag, and the line -/
def lw_hL (x2 x3 x4 x5 x7 : Int32) (n wh cn op w : Nat) : Prop := (n = 1 ∧ x7 = 1 ∧ wh < 4 ∧ cn < 9 ∧ op < 10 ∧ w < 6 ∧ (op = 6 ∨ op = 7 → w < 4) ∧ x2 = nI wh ∧ x3 = nI cn ∧ x4 = nI op ∧ x5 = nI w) ∨ (n = 0 ∧ x7 = 0 ∧ ¬ lw_L x2 x3 x4 x5)
section
variable {cc lc lv me sA pA lA rA eA qA tA cA gA hA zA oA cp ce mA dA nA ia od cd nc ta zh pc : Int32} {a1 a2 a3 a4 a5 a6 a7 a8 a9 a10 a11 a12 a13 a14 a15 a16 a17 a18 a19 a20 a21 a22 a23 : Nat → Int32}
theorem lw_232 {mc ms kc ks : Nat} {x2 x3 x4 x5 x7 x9 x10 x11 z0 z1 : Int32} (k n wh cn op w : Nat) (hk : k < 16) (hL : lw_hL x2 x3 x4 x5 x7 n wh cn op w) (e : z1 = z0)
    (hok : ar_ok k n wh cn op w = true) (h9 : x9 = if ar_runs k n wh cn = true then 1 else 0) (h10 : x10 = nI (ar_size (ar_runs k n wh cn) op)) (h11' : x11 = if ar_shown (ar_runs k n wh cn) op w = true then 1 else 0) :
    wL_lawOf_232 (fun r _ => r = 1) mc ms x2 x3 x4 x5 x7 x9 x10 x11 z0 z1 kc ks (nI k) 0 1 (nI 153) (nI 104) (nI 116) (nI 122) (nI 128) (nI 135) (nI 141) (nI 147) (nI 148) (nI 149) (nI 150) (nI 151) (nI 152) 0 ce mA dA nA ia 0 cd nc ta zh pc a1 a2 a3 a4 a5 a6 a7 a8 a9 a10 a11 (upd (fun _ => 0) 152 1) (lo_M lo_L) (fun _ => 0) lo_15 lo_16 lo_17 lo_18 (fun _ => 0) a20 a21 a22 a23 := by
  refine br_t e ?_
  rcases hL with ⟨rfl, rfl, hwh, hcn, hop, hw, h67, rfl, rfl, rfl, rfl⟩ | ⟨rfl, rfl, hN⟩
  · refine lw_lineY wh cn op w hwh hcn hop hw h67 (br_f (by decide) ?_)
    exact lw_259 k 1 wh cn op w hk (Or.inr ⟨rfl, hwh, hcn, hop, hw, rfl, rfl, rfl, rfl, rfl, rfl, lo_15v⟩) (fun _ => rfl) rfl hok h9 h10 h11'
  · refine lw_lineN hN (br_t rfl ?_)
    exact lw_259 k 0 wh cn op w hk (Or.inl rfl) (fun z => absurd z (by decide)) rfl hok h9 h10 h11'
end
theorem lw_201 {mc ms : Nat} {x0 x1 x2 x3 x4 x5 x6 x7 x9 x10 x11 : Int32} (hc : 24 ≤ mc) (hs : 1473 ≤ ms) (k n wh cn op w : Nat) (hC : lw_hC x0 x1 x6 k) (hL : lw_hL x2 x3 x4 x5 x7 n wh cn op w)
    (hok : ar_ok k n wh cn op w = true) (h9 : x9 = if ar_runs k n wh cn = true then 1 else 0) (h10 : x10 = nI (ar_size (ar_runs k n wh cn) op)) (h11 : x11 = if ar_shown (ar_runs k n wh cn) op w = true then 1 else 0) :
    wL_lawOf_201 (fun r _ => r = 1) mc ms x0 x1 x2 x3 x4 x5 x6 x7 x9 x10 x11 0 0 := by
  refine ⟨by omega, by omega, 23, 1422, by omega, by omega, lo_init (by omega) (by omega) ?_⟩
  rcases hC with ⟨rfl, rfl, hY⟩ | ⟨rfl, rfl, hN⟩
  · refine lw_card hY (fun b1 b2 b3 b4 => br_f (by decide) ?_)
    exact lw_232 1 n wh cn op w (by decide) hL rfl hok h9 h10 h11
  · refine lw_cardN hN (br_t rfl ?_)
    exact lw_232 0 n wh cn op w (by decide) hL rfl hok h9 h10 h11
/-- size and shown -/
theorem lw_136 {mc ms : Nat} {x0 x1 x2 x3 x6 x7 : Int32} (op w : Nat) (hop : op < 10) (hw : w < 6) (rs : Bool)
    (h : ∀ x10 x11, x10 = nI (ar_size rs op) → x11 = (if ar_shown rs op w = true then 1 else 0) → wL_lawOf_201 (fun r _ => r = 1) mc ms x0 x1 x2 x3 (nI op) (nI w) x6 x7 (if rs = true then 1 else 0) x10 x11 0 0) :
    wL_lawOf_136 (fun r _ => r = 1) mc ms x0 x1 x2 x3 (nI op) (nI w) x6 x7 (if rs = true then 1 else 0) 0 0 := by
  cases rs with
  | false => exact br_t rfl (br_t rfl (h 0 0 rfl rfl))
  | true =>
    have g : ∀ x10, x10 = nI (ar_size true op) → wL_lawOf_170 (fun r _ => r = 1) mc ms x0 x1 x2 x3 (nI op) (nI w) x6 x7 1 x10 0 0 := fun x10 e10 => by
      have g0 : ¬ op = 5 → ¬ (op = 6 ∧ w = 2) → wL_lawOf_201 (fun r _ => r = 1) mc ms x0 x1 x2 x3 (nI op) (nI w) x6 x7 1 x10 0 0 0 := fun y z => h x10 0 e10 (by
        rw [if_neg]
        simp [ar_shown]
        omega)
      have g1 : (op = 5 ∨ (op = 6 ∧ w = 2)) → wL_lawOf_201 (fun r _ => r = 1) mc ms x0 x1 x2 x3 (nI op) (nI w) x6 x7 1 x10 1 0 0 := fun y => h x10 1 e10 (by
        rw [if_pos]
        simp [ar_shown]
        omega)
      have g190 : ¬ (op = 6 ∧ w = 2) → wL_lawOf_190 (fun r _ => r = 1) mc ms x0 x1 x2 x3 (nI op) (nI w) x6 x7 1 x10 0 0 := fun z => pk_eq op 5 (fun y => g1 (Or.inl y)) (fun y => g0 y z)
      exact br_f (by decide) (pk_eq op 6 (fun y => pk_eq w 2 (fun z => g1 (Or.inr ⟨y, z⟩)) (fun z => g190 (fun q => z q.2))) (fun y => g190 (fun q => y q.1)))
    refine br_f (by decide) (pk_eq op 8 (fun y => g 2 ?_) (fun y => pk_eq op 9 (fun z => g 1 ?_) (fun z => g 0 ?_)))
    · simp [ar_size, y]
      rfl
    · simp [ar_size, z]
      rfl
    · simp [ar_size, y, z]
      rfl
theorem lw_109 {mc ms : Nat} {x0 x1 x3 x6 : Int32} (k wh op w : Nat) (met : Bool) (hC : lw_hC x0 x1 x6 k) (hwh : wh < 4) (hop : op < 10) (hw : w < 6)
    (h : ∀ x10 x11 rs, rs = (met && (Nat.beq k 1 || Nat.beq wh 3)) → x10 = nI (ar_size rs op) → x11 = (if ar_shown rs op w = true then 1 else 0) → wL_lawOf_201 (fun r _ => r = 1) mc ms x0 x1 (nI wh) x3 (nI op) (nI w) x6 1 (if rs = true then 1 else 0) x10 x11 0 0) :
    wL_lawOf_109 (fun r _ => r = 1) mc ms x0 x1 (nI wh) x3 (nI op) (nI w) x6 1 (if met = true then 1 else 0) 0 0 := by
  have g : ∀ rs, rs = (met && (Nat.beq k 1 || Nat.beq wh 3)) → wL_lawOf_136 (fun r _ => r = 1) mc ms x0 x1 (nI wh) x3 (nI op) (nI w) x6 1 (if rs = true then 1 else 0) 0 0 := fun rs e => lw_136 op w hop hw rs (fun x10 x11 e10 e11 => h x10 x11 rs e e10 e11)
  refine br_f (by decide) ?_
  cases met with
  | false => exact br_t rfl (g false rfl)
  | true =>
    refine br_f (by decide) ?_
    rcases hC with ⟨rfl, rfl, _⟩ | ⟨rfl, rfl, _⟩
    · exact br_f (by decide) (g true rfl)
    · refine br_t rfl (pk_eq wh 3 (fun y => g true ?_) (fun y => g false ?_))
      · rw [y]
        rfl
      · have q : Nat.beq wh 3 = false := Bool.eq_false_iff.mpr (fun e => y (Nat.eq_of_beq_eq_true e))
        rw [q]
        rfl
theorem lw_93 {mc ms : Nat} {x0 x1 x2 x3 x4 x5 x6 x7 : Int32} (hc : 24 ≤ mc) (hs : 1473 ≤ ms) (k n wh cn op w : Nat) (hC : lw_hC x0 x1 x6 k) (hL : lw_hL x2 x3 x4 x5 x7 n wh cn op w) (h0 : n = 0 → wh = 0 ∧ cn = 0 ∧ op = 0 ∧ w = 0) :
    wL_lawOf_93 (fun r _ => r = 1) mc ms x0 x1 x2 x3 x4 x5 x6 x7 0 0 := by
  have hk : k < 2 := by rcases hC with z | z; omega; omega
  have hL' := hL
  rcases hL with ⟨rfl, rfl, hwh, hcn, hop, hw, h67, rfl, rfl, rfl, rfl⟩ | ⟨rfl, rfl, hN⟩
  · have hok := ar_all k hk wh hwh cn hcn op hop w hw h67
    have g : ∀ met : Bool, met = (Nat.beq cn 0 || Nat.blt 4 cn) → wL_lawOf_109 (fun r _ => r = 1) mc ms x0 x1 (nI wh) (nI cn) (nI op) (nI w) x6 1 (if met = true then 1 else 0) 0 0 := fun met em =>
      lw_109 k wh op w met hC hwh hop hw (fun x10 x11 rs ers e10 e11 => by
        have er : ar_runs k 1 wh cn = rs := by
          rw [ers, em]
          unfold ar_runs
          simp
        exact lw_201 hc hs k 1 wh cn op w hC hL' hok (by rw [er]) (by rw [er]; exact e10) (by rw [er]; exact e11))
    refine pk_eq cn 0 (fun y => g true ?_) (fun y => pk_le cn 4 (fun z => g false ?_) (fun z => g true ?_))
    · rw [y]
      rfl
    · have q : Nat.beq cn 0 = false := Bool.eq_false_iff.mpr (fun e => y (Nat.eq_of_beq_eq_true e))
      have q2 : Nat.blt 4 cn = false := Bool.eq_false_iff.mpr (fun e => absurd (Nat.le_of_ble_eq_true e) (by omega))
      rw [q, q2]
      rfl
    · have q2 : Nat.blt 4 cn = true := Nat.ble_eq_true_of_le (by omega)
      rw [q2]
      simp
  · obtain ⟨rfl, rfl, rfl, rfl⟩ := h0 rfl
    have hok := ar_none k hk
    have er : ar_runs k 0 0 0 = false := rfl
    have g : ∀ z0, wL_lawOf_109 (fun r _ => r = 1) mc ms x0 x1 x2 x3 x4 x5 x6 0 z0 0 0 := fun z0 => br_t rfl (br_t rfl (br_t rfl (lw_201 hc hs k 0 0 0 0 0 hC hL' hok rfl rfl rfl)))
    exact br_c (fun _ => g 1) (fun _ => br_c (fun _ => g 0) (fun _ => g 1))
theorem lw_28 {mc ms : Nat} {x0 x1 x2 x3 x4 x5 x6 : Int32} (hc : 24 ≤ mc) (hs : 1473 ≤ ms) (k : Nat) (hC : lw_hC x0 x1 x6 k) : wL_lawOf_28 (fun r _ => r = 1) mc ms x0 x1 x2 x3 x4 x5 x6 0 0 := by
  have no : ¬ lw_L x2 x3 x4 x5 → wL_lawOf_92 (fun r _ => r = 1) mc ms x0 x1 x2 x3 x4 x5 x6 0 0 := fun hN => lw_93 hc hs k 0 0 0 0 0 hC (Or.inr ⟨rfl, rfl, hN⟩) (fun _ => ⟨rfl, rfl, rfl, rfl⟩)
  have yes : lw_L x2 x3 x4 x5 → wL_lawOf_93 (fun r _ => r = 1) mc ms x0 x1 x2 x3 x4 x5 x6 1 0 0 := fun hY => by
    obtain ⟨wh, cn, op, w, q⟩ := lw_nat hY
    exact lw_93 hc hs k 1 wh cn op w hC (Or.inl ⟨rfl, rfl, q⟩) (fun z => absurd z (by decide))
  refine br_c (fun c => br_t rfl (no (fun q => q.1 c))) (fun c1 => br_c (fun c => br_t rfl (no (fun q => q.2.1 c))) (fun c2 => br_f (by decide) ?_))
  refine br_c (fun c => br_t rfl (no (fun q => q.2.2.1 c))) (fun c3 => br_c (fun c => br_t rfl (no (fun q => q.2.2.2.1 c))) (fun c4 => br_f (by decide) ?_))
  refine br_c (fun c => br_t rfl (no (fun q => q.2.2.2.2.1 c))) (fun c5 => br_c (fun c => br_t rfl (no (fun q => q.2.2.2.2.2.1 c))) (fun c6 => br_f (by decide) ?_))
  have g : ∀ z, lw_most x4 = z → wL_lawOf_82 (fun r _ => r = 1) mc ms x0 x1 x2 x3 x4 x5 x6 z 0 x5 0 0 := fun z hz =>
    br_c (fun c => br_t rfl (no (fun q => q.2.2.2.2.2.2.1 c))) (fun c7 => br_c (fun c => br_t rfl (no (fun q => q.2.2.2.2.2.2.2 (by rw [hz]; exact c)))) (fun c8 => br_f (by decide) (yes ⟨c1, c2, c3, c4, c5, c6, c7, by rw [hz]; exact c8⟩)))
  exact br_c (fun e => g 3 (if_pos (Or.inl e))) (fun e => br_c (fun e2 => g 3 (if_pos (Or.inr e2))) (fun e2 => g 5 (if_neg (fun z => z.elim e e2))))
theorem lw_of {x0 x1 x2 x3 x4 x5 : Int32} : wpL_lawOf (fun r _ => r = 1) 24 1473 () x0 x1 x2 x3 x4 x5 := by
  have no : ¬ lw_C x0 x1 → wL_lawOf_27 (fun r _ => r = 1) 24 1473 x0 x1 x2 x3 x4 x5 0 0 := fun hN => lw_28 (by decide) (by decide) 0 (Or.inr ⟨rfl, rfl, hN⟩)
  refine br_c (fun c => br_t rfl (no (fun q => q.1 c))) (fun c1 => br_c (fun c => br_t rfl (no (fun q => q.2.1 c))) (fun c2 => br_f (by decide) ?_))
  refine br_c (fun c => br_t rfl (no (fun q => q.2.2.1 c))) (fun c3 => br_c (fun c => br_t rfl (no (fun q => q.2.2.2 c))) (fun c4 => br_f (by decide) ?_))
  exact lw_28 (by decide) (by decide) 1 (Or.inl ⟨rfl, rfl, c1, c2, c3, c4⟩)
theorem lw_cell {post : Int32 → Prop} {L : Nat} {xs : Nat → Int32} (hL : L ≤ 6) (k : Nat) (hk : k < 6) {p : Int32} (hp : p = nI k) (h : ∀ r, post r) : wpL_cellAt post L xs () p := by
  subst hp
  exact pk_le L k (fun _ => h 0) (fun z => ⟨vp_in_nI z (by omega), h _⟩)
theorem i_vc (xs : Nat → Int32) (L : Nat) (hL : L ≤ 6) : wpL_law (fun r => r = 1) L xs := by
  refine lw_cell hL 0 (by decide) rfl (fun _ => lw_cell hL 1 (by decide) rfl (fun _ => lw_cell hL 2 (by decide) rfl (fun _ => lw_cell hL 3 (by decide) rfl (fun _ => lw_cell hL 4 (by decide) rfl (fun _ => lw_cell hL 5 (by decide) rfl (fun _ => ?_))))))
  exact ⟨24, 1473, by decide, by decide, lw_of⟩
end
