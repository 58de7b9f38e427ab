section
/-- digit r (from the left) of a code of N digits -/
def yd_dg (N c r : Nat) : Nat := c / 10 ^ (N - 1 - r) % 10
def yd_sum (f : Nat → Nat) : Nat → Nat
  | 0 => 0
  | k + 1 => yd_sum f k + f k
/-- the size of a shape: the sum of its digits -/
def yd_sz (N c : Nat) : Nat := yd_sum (yd_dg N c) N
/-- a shape: N digits that don't grow, at most nine boxes -/
def yd_Sh (N c : Nat) : Prop := c < 10 ^ N ∧ yd_sz N c ≤ 9 ∧ ∀ r, r < N - 1 → yd_dg N c (r + 1) ≤ yd_dg N c r
def yd_ds (N c : Nat) : Nat → Bool
  | 0 => true
  | k + 1 => Nat.ble (yd_dg N c (k + 1)) (yd_dg N c k) && yd_ds N c k
def yd_shB (N c : Nat) : Bool := Nat.blt c (10 ^ N) && (yd_ds N c (N - 1) && Nat.ble (yd_sz N c) 9)
/-- the dimension: numerator and denominator -/
def yd_tj (N c i : Nat) : Nat → Nat
  | 0 => 1
  | k + 1 => yd_tj N c i k * (yd_dg N c i - yd_dg N c (i + 1 + k) + (k + 1))
def yd_bj : Nat → Nat
  | 0 => 1
  | k + 1 => yd_bj k * (k + 1)
def yd_ti (N c : Nat) : Nat → Nat
  | 0 => 1
  | i + 1 => yd_ti N c i * yd_tj N c i (N - (i + 1))
def yd_bi (N : Nat) : Nat → Nat
  | 0 => 1
  | i + 1 => yd_bi N i * yd_bj (N - (i + 1))
def yd_dim (N c : Nat) : Nat := yd_ti N c N / yd_bi N N
/-- hooks -/
def yd_bl (N c col s : Nat) : Nat → Nat
  | 0 => 0
  | k + 1 => yd_bl N c col s k + (bif Nat.ble (yd_dg N c (s + k)) col then 0 else 1)
def yd_hk (N c row col : Nat) : Nat := yd_dg N c row - col + yd_bl N c col (row + 1) (N - (row + 1))
def yd_hr (N c row : Nat) : Nat → Nat
  | 0 => 1
  | k + 1 => yd_hr N c row k * yd_hk N c row k
def yd_hp (N c : Nat) : Nat → Nat
  | 0 => 1
  | r + 1 => yd_hp N c r * yd_hr N c r (yd_dg N c r)
def yd_fac : Nat → Nat
  | 0 => 1
  | k + 1 => yd_fac k * (k + 1)
/-- the flipped shape: for each column its height -/
def yd_ht (N c col : Nat) : Nat → Nat → Nat
  | 0, h => h
  | k + 1, h => bif Nat.ble (yd_dg N c h) col then h else yd_ht N c col k (h + 1)
def yd_fl (N c : Nat) : Nat → Nat
  | 0 => 0
  | k + 1 => 10 * yd_fl N c k + yd_ht N c k N 0
/-- two neighbour digits put in each other's place -/
def yd_fr (k i : Nat) : Nat := bif Nat.beq i k then k + 1 else bif Nat.beq i (k + 1) then k else i
def yd_sw (N w k : Nat) : Nat → Nat
  | 0 => 0
  | i + 1 => yd_sw N w k i * 10 + yd_dg N w (yd_fr k i)
/-- the boxes of v that are not in a: row by row, from the right -/
def yd_row (r lo : Nat) : Nat → List (Nat × Nat)
  | 0 => []
  | k + 1 => (r, lo + k) :: yd_row r lo k
def yd_bx (N a v : Nat) : Nat → Nat → Option (List (Nat × Nat))
  | 0, _ => some []
  | k + 1, r => bif Nat.ble (yd_dg N a r) (yd_dg N v r) then
      (match yd_bx N a v k (r + 1) with
        | none => none
        | some l => some (yd_row r (yd_dg N a r) (yd_dg N v r - yd_dg N a r) ++ l))
    else none
/-- the search: at each box the letters 1 .. N -/
def yd_up (f : Nat → Nat) (k x : Nat) : Nat → Nat := fun j => bif Nat.beq j k then x else f j
def yd_ok (B U : Nat → Nat) (rt ab x : Nat) : Bool :=
  (Nat.beq rt 0 || Nat.ble x rt) && (Nat.blt ab x && (Nat.blt (U x) (B (x - 1)) && (Nat.beq x 1 || Nat.blt (U x) (U (x - 1)))))
def yd_sx (p : Nat → Bool) (F : Nat → Nat) : Nat → Nat → Nat
  | 0, _ => 0
  | k + 1, x => (bif p x then F x else 0) + yd_sx p F k (x + 1)
def yd_nx (p : Nat → Bool) : Nat → Nat → Nat
  | 0, _ => 0
  | k + 1, x => bif p x then x else yd_nx p k (x + 1)
def yd_rt (G : Nat → Nat) (r c : Nat) : Nat := G (10 * r + c + 1)
def yd_ab (G : Nat → Nat) (r c : Nat) : Nat := bif Nat.beq r 0 then 0 else G (10 * (r - 1) + c)
def yd_cnt (N : Nat) (B : Nat → Nat) : List (Nat × Nat) → (Nat → Nat) → (Nat → Nat) → Nat
  | [], _, _ => 1
  | (r, c) :: bs, U, G => yd_sx (yd_ok B U (yd_rt G r c) (yd_ab G r c)) (fun x => yd_cnt N B bs (yd_up U x (U x + 1)) (yd_up G (10 * r + c) x)) N 1
def yd_lr (N a b v : Nat) : Nat :=
  bif Nat.beq (yd_sz N a + yd_sz N b) (yd_sz N v) then
    (match yd_bx N a v N 0 with
      | none => 0
      | some l => yd_cnt N (yd_dg N b) l (fun _ => 0) (fun _ => 0))
  else 0
/-- multiplicities: the mirror of countFor -/
def yd_enl (c k : Nat) : List (Nat × Nat) → List (Nat × Nat)
  | [] => [(c, k)]
  | (d, j) :: l => bif Nat.beq d c then (d, j + k) :: l else (d, j) :: yd_enl c k l
def yd_cd (N t0 t1 t2 t3 : Nat) : Nat := bif Nat.beq N 2 then 10 * (10 * 0 + t0) + t1 else bif Nat.beq N 3 then 10 * (10 * (10 * 0 + t0) + t1) + t2 else 10 * (10 * (10 * (10 * 0 + t0) + t1) + t2) + t3
def yd_pick (t0 t1 t2 t3 k : Nat) : Nat := bif Nat.beq k 0 then t0 else bif Nat.beq k 1 then t1 else bif Nat.beq k 2 then t2 else t3
/-- one more choice of a strip: the state of the list behind it -/
def yd_put (N t0 t1 t2 t3 goal lt cnt : Nat) (nl : List (Nat × Nat)) : List (Nat × Nat) :=
  bif Nat.beq (t0 + t1 + t2 + t3) goal && Nat.beq (yd_pick t0 t1 t2 t3 lt) 0 then yd_enl (yd_cd N t0 t1 t2 t3) cnt nl else nl
def yd_ts (N r0 r1 r2 r3 goal lt cnt : Nat) : Nat → Nat → Nat → Nat → Nat → List (Nat × Nat) → Option (List (Nat × Nat))
  | 0, _, _, _, _, _ => none
  | f + 1, t0, t1, t2, t3, nl =>
    bif Nat.blt nl.length 700 then
      (bif Nat.beq t0 r1 then
        (bif Nat.beq t1 r2 then
          (bif Nat.beq t2 r3 then
            (bif Nat.beq t3 0 then some (yd_put N t0 t1 t2 t3 goal lt cnt nl)
             else yd_ts N r0 r1 r2 r3 goal lt cnt f r0 r1 r2 (t3 - 1) (yd_put N t0 t1 t2 t3 goal lt cnt nl))
           else yd_ts N r0 r1 r2 r3 goal lt cnt f r0 r1 (t2 - 1) t3 (yd_put N t0 t1 t2 t3 goal lt cnt nl))
         else yd_ts N r0 r1 r2 r3 goal lt cnt f r0 (t1 - 1) t2 t3 (yd_put N t0 t1 t2 t3 goal lt cnt nl))
       else yd_ts N r0 r1 r2 r3 goal lt cnt f (t0 - 1) t1 t2 t3 (yd_put N t0 t1 t2 t3 goal lt cnt nl))
    else none
def yd_rr (N c i : Nat) : Nat := bif Nat.blt i N then yd_dg N c i else 0
def yd_take (N c cnt many lt : Nat) (nl : List (Nat × Nat)) : Option (List (Nat × Nat)) :=
  bif Nat.ble (yd_rr N c 1) (yd_rr N c 0) && (Nat.ble (yd_rr N c 2) (yd_rr N c 1) && Nat.ble (yd_rr N c 3) (yd_rr N c 2)) then
    (bif Nat.blt (yd_sz N c) many then some nl
     else yd_ts N (yd_rr N c 0) (yd_rr N c 1) (yd_rr N c 2) (yd_rr N c 3) (yd_sz N c - many) lt cnt 2000 (yd_rr N c 0) (yd_rr N c 1) (yd_rr N c 2) (yd_rr N c 3) nl)
  else none
def yd_all (N many lt : Nat) : List (Nat × Nat) → List (Nat × Nat) → Option (List (Nat × Nat))
  | [], nl => some nl
  | (c, k) :: l, nl => match yd_take N c k many lt nl with
    | none => none
    | some nl' => yd_all N many lt l nl'
def yd_cf (N w : Nat) : Nat → List (Nat × Nat) → Option (List (Nat × Nat))
  | 0, l => some l
  | k + 1, l => match yd_all N (yd_dg N w k) k l [] with
    | none => none
    | some nl => bif Nat.blt nl.length 700 then yd_cf N w k nl else none
def yd_hd : List (Nat × Nat) → Nat
  | [] => 0
  | (_, k) :: _ => k
def yd_mu (N a w : Nat) : Option Nat := (yd_cf N w N [(a, 1)]).map yd_hd
end
section
/-- the shapes of at most nine boxes, 2 rows, in order -/
def yd_A2 : List Nat := [0, 10, 11, 20, 21, 22, 30, 31, 32, 33, 40, 41, 42, 43, 44, 50, 51, 52, 53, 54, 60, 61, 62, 63, 70, 71, 72, 80, 81, 90]
/-- the shapes of at most nine boxes, 3 rows, in order -/
def yd_A3 : List Nat := [0, 100, 110, 111, 200, 210, 211, 220, 221, 222, 300, 310, 311, 320, 321, 322, 330, 331, 332, 333, 400, 410, 411, 420, 421, 422, 430, 431, 432, 440, 441, 500, 510, 511, 520, 521, 522, 530, 531, 540, 600, 610, 611, 620, 621, 630, 700, 710, 711, 720, 800, 810, 900]
/-- the shapes of at most nine boxes, 4 rows, in order -/
def yd_A4 : List Nat := [0, 1000, 1100, 1110, 1111, 2000, 2100, 2110, 2111, 2200, 2210, 2211, 2220, 2221, 2222, 3000, 3100, 3110, 3111, 3200, 3210, 3211, 3220, 3221, 3222, 3300, 3310, 3311, 3320, 3321, 3330, 4000, 4100, 4110, 4111, 4200, 4210, 4211, 4220, 4221, 4300, 4310, 4311, 4320, 4400, 4410, 5000, 5100, 5110, 5111, 5200, 5210, 5211, 5220, 5300, 5310, 5400, 6000, 6100, 6110, 6111, 6200, 6210, 6300, 7000, 7100, 7110, 7200, 8000, 8100, 9000]
def yd_A (N : Nat) : List Nat := bif Nat.beq N 2 then yd_A2 else bif Nat.beq N 3 then yd_A3 else yd_A4
def yd_in (c : Nat) : List Nat → Bool
  | [] => false
  | d :: l => Nat.beq d c || yd_in c l
def yd_tot (N a b : Nat) : List Nat → Nat
  | [] => 0
  | v :: l => yd_lr N a b v * yd_dim N v + yd_tot N a b l
/-- the check of one pair of shapes -/
def yd_prT (N a b : Nat) : Bool :=
  ((yd_A N).all fun v => !(Nat.beq (yd_sz N a + yd_sz N b) (yd_sz N v)) || (Nat.beq (yd_lr N a b v) (yd_lr N b a v) && Nat.ble (yd_lr N a b v) 1000))
  && Nat.beq (yd_tot N a b (yd_A N)) (yd_dim N a * yd_dim N b)
def yd_prA (N a : Nat) : Bool := !(Nat.ble (yd_sz N a) 6) || (yd_A N).all fun b => !(Nat.ble (yd_sz N a + yd_sz N b) 9) || yd_prT N a b
def yd_oe : Option Nat → Option Nat → Bool
  | some x, some y => Nat.beq x y
  | _, _ => false
def yd_mus (N a w : Nat) : Nat → Bool
  | 0 => true
  | k + 1 => (Nat.blt (yd_sw N w k N) (10 ^ N) && yd_oe (yd_mu N a w) (yd_mu N a (yd_sw N w k N))) && yd_mus N a w k
/-- the check of one shape's multiplicities -/
def yd_muT (N a : Nat) : Bool :=
  !(Nat.ble (yd_sz N a) 6) ||
    (yd_oe (yd_mu N a a) (some 1) && (yd_A N).all fun w => !(Nat.ble (yd_sz N w) (yd_sz N a)) || (Nat.blt (w + (yd_sz N a - yd_sz N w)) (10 ^ N) && yd_mus N a (w + (yd_sz N a - yd_sz N w)) (N - 1)))
/-- the check of one shape's hooks and of its flip -/
def yd_hfT (N a : Nat) : Bool :=
  !(Nat.ble (yd_sz N a) 6) ||
    ((Nat.blt 0 (yd_hp N a N) && (Nat.ble (yd_hp N a N) 1000000 && Nat.beq (yd_fac (yd_sz N a) / yd_hp N a N * yd_hp N a N) (yd_fac (yd_sz N a))))
     && (!(Nat.ble (yd_dg N a 0) N) || (yd_shB N (yd_fl N a N) && (Nat.ble (yd_dg N (yd_fl N a N) 0) N && Nat.beq (yd_fl N (yd_fl N a N) N) a))))
def yd_shT (N v : Nat) : Bool := yd_shB N v && Nat.ble (yd_ti N v N) 100000000
theorem yd_mem4 : ∀ q, q < 100 → ∀ m, m < 100 → (!(yd_shB 4 (100 * q + m)) || yd_in (100 * q + m) yd_A4) = true := by decide +kernel
theorem yd_mem3 : ∀ q, q < 100 → ∀ m, m < 10 → (!(yd_shB 3 (10 * q + m)) || yd_in (10 * q + m) yd_A3) = true := by decide +kernel
theorem yd_mem2 : ∀ q, q < 10 → ∀ m, m < 10 → (!(yd_shB 2 (10 * q + m)) || yd_in (10 * q + m) yd_A2) = true := by decide +kernel
theorem yd_shT_2 : ((yd_A 2).all fun a => yd_shT 2 a) = true := by decide +kernel
theorem yd_hfT_2 : ((yd_A 2).all fun a => yd_hfT 2 a) = true := by decide +kernel
theorem yd_muT_2 : ((yd_A 2).all fun a => yd_muT 2 a) = true := by decide +kernel
theorem yd_prA_2 : ((yd_A 2).all fun a => yd_prA 2 a) = true := by decide +kernel
theorem yd_shT_3 : ((yd_A 3).all fun a => yd_shT 3 a) = true := by decide +kernel
theorem yd_hfT_3 : ((yd_A 3).all fun a => yd_hfT 3 a) = true := by decide +kernel
theorem yd_muT_3 : ((yd_A 3).all fun a => yd_muT 3 a) = true := by decide +kernel
theorem yd_prA_3 : ((yd_A 3).all fun a => yd_prA 3 a) = true := by decide +kernel
theorem yd_shT_4 : ((yd_A 4).all fun a => yd_shT 4 a) = true := by decide +kernel
theorem yd_hfT_4 : ((yd_A 4).all fun a => yd_hfT 4 a) = true := by decide +kernel
theorem yd_muT_4 : ((yd_A 4).all fun a => yd_muT 4 a) = true := by decide +kernel
theorem yd_prA_4 : ((yd_A 4).all fun a => yd_prA 4 a) = true := by decide +kernel
end
section
theorem yd_p10 {k : Nat} (h : k ≤ 9) : 0 < 10 ^ k ∧ 10 ^ k < 2 ^ 31 :=
  ⟨Nat.pow_pos (by decide), Nat.lt_of_le_of_lt (Nat.pow_le_pow_right (by decide) h) (by decide)⟩
theorem yd_dg_lt (N c r : Nat) : yd_dg N c r < 10 := Nat.mod_lt _ (by decide)
theorem yd_sum_le (f : Nat → Nat) (hf : ∀ r, f r < 10) : ∀ k, yd_sum f k ≤ 9 * k
  | 0 => Nat.le_refl 0
  | k + 1 => by
    have h := yd_sum_le f hf k
    have h2 := hf k
    show yd_sum f k + f k ≤ 9 * (k + 1)
    omega
theorem yd_sz_le {N c : Nat} (hN : N ≤ 4) : yd_sz N c ≤ 36 := by
  have h := yd_sum_le (yd_dg N c) (yd_dg_lt N c) N
  have e : yd_sz N c = yd_sum (yd_dg N c) N := rfl
  omega
theorem yd_sum_mono (f : Nat → Nat) {j k : Nat} (h : j ≤ k) : yd_sum f j ≤ yd_sum f k := by
  induction h with
  | refl => exact Nat.le_refl _
  | step h ih => exact Nat.le_trans ih (Nat.le_add_right _ _)
theorem yd_ds_iff {N c : Nat} : ∀ k, yd_ds N c k = true ↔ ∀ r, r < k → yd_dg N c (r + 1) ≤ yd_dg N c r
  | 0 => ⟨fun _ r hr => absurd hr (Nat.not_lt_zero r), fun _ => rfl⟩
  | k + 1 => by
    have ih := @yd_ds_iff N c k
    have e : yd_ds N c (k + 1) = (Nat.ble (yd_dg N c (k + 1)) (yd_dg N c k) && yd_ds N c k) := rfl
    rw [e, Bool.and_eq_true, ih, Nat.ble_eq]
    constructor
    · intro h r hr
      rcases Nat.lt_or_ge r k with z | z
      · exact h.2 r z
      · have : r = k := by omega
        rw [this]
        exact h.1
    · exact fun h => ⟨h k (Nat.lt_succ_self k), fun r hr => h r (by omega)⟩
theorem yd_sh_iff {N c : Nat} : yd_shB N c = true ↔ yd_Sh N c := by
  unfold yd_shB yd_Sh
  rw [Bool.and_eq_true, Bool.and_eq_true, Nat.blt_eq, Nat.ble_eq, yd_ds_iff]
  constructor
  · exact fun h => ⟨h.1, h.2.2, h.2.1⟩
  · exact fun h => ⟨h.1, h.2.2, h.2.1⟩
theorem yd_in_mem {c : Nat} : ∀ {l : List Nat}, yd_in c l = true → c ∈ l
  | [], h => (Bool.false_ne_true h).elim
  | d :: l, h => by
    have e : yd_in c (d :: l) = (Nat.beq d c || yd_in c l) := rfl
    rw [e, Bool.or_eq_true] at h
    rcases h with h | h
    · have := Nat.eq_of_beq_eq_true h
      rw [this]
      exact List.mem_cons_self
    · exact List.mem_cons_of_mem _ (yd_in_mem h)
theorem yd_not_or {x y : Bool} (h : (!x || y) = true) (hx : x = true) : y = true := by
  rw [hx] at h
  exact h
/-- the numbers of letters -/
def yd_N (N : Nat) : Prop := N = 2 ∨ N = 3 ∨ N = 4
theorem yd_N_le {N : Nat} (h : yd_N N) : 2 ≤ N ∧ N ≤ 4 := by
  rcases h with h | h | h <;> omega
theorem yd_Sh_lt {N c : Nat} (hN : N ≤ 4) (h : yd_Sh N c) : c < 2 ^ 31 :=
  Nat.lt_of_lt_of_le h.1 (Nat.le_of_lt (yd_p10 (k := N) (by omega)).2)
theorem yd_mem {N c : Nat} (hN : yd_N N) (h : yd_Sh N c) : c ∈ yd_A N := by
  have hb := yd_sh_iff.mpr h
  have hc := h.1
  rcases hN with e | e | e
  · subst e
    have hc : c < 100 := hc
    have e : 10 * (c / 10) + c % 10 = c := by omega
    have t := yd_mem2 (c / 10) (by omega) (c % 10) (by omega)
    rw [e] at t
    exact yd_in_mem (yd_not_or t hb)
  · subst e
    have hc : c < 1000 := hc
    have e : 10 * (c / 10) + c % 10 = c := by omega
    have t := yd_mem3 (c / 10) (by omega) (c % 10) (by omega)
    rw [e] at t
    exact yd_in_mem (yd_not_or t hb)
  · subst e
    have hc : c < 10000 := hc
    have e : 100 * (c / 100) + c % 100 = c := by omega
    have t := yd_mem4 (c / 100) (by omega) (c % 100) (by omega)
    rw [e] at t
    exact yd_in_mem (yd_not_or t hb)
theorem yd_shA {N : Nat} (hN : yd_N N) : ∀ a, a ∈ yd_A N → yd_shT N a = true := by
  rcases hN with e | e | e
  · subst e; exact List.all_eq_true.mp yd_shT_2
  · subst e; exact List.all_eq_true.mp yd_shT_3
  · subst e; exact List.all_eq_true.mp yd_shT_4
theorem yd_hfA {N : Nat} (hN : yd_N N) : ∀ a, a ∈ yd_A N → yd_hfT N a = true := by
  rcases hN with e | e | e
  · subst e; exact List.all_eq_true.mp yd_hfT_2
  · subst e; exact List.all_eq_true.mp yd_hfT_3
  · subst e; exact List.all_eq_true.mp yd_hfT_4
theorem yd_muA {N : Nat} (hN : yd_N N) : ∀ a, a ∈ yd_A N → yd_muT N a = true := by
  rcases hN with e | e | e
  · subst e; exact List.all_eq_true.mp yd_muT_2
  · subst e; exact List.all_eq_true.mp yd_muT_3
  · subst e; exact List.all_eq_true.mp yd_muT_4
theorem yd_prAA {N : Nat} (hN : yd_N N) : ∀ a, a ∈ yd_A N → yd_prA N a = true := by
  rcases hN with e | e | e
  · subst e; exact List.all_eq_true.mp yd_prA_2
  · subst e; exact List.all_eq_true.mp yd_prA_3
  · subst e; exact List.all_eq_true.mp yd_prA_4
/-- a shape out of the list -/
theorem yd_A_Sh {N a : Nat} (hN : yd_N N) (h : a ∈ yd_A N) : yd_Sh N a := by
  have t := yd_shA hN a h
  unfold yd_shT at t
  rw [Bool.and_eq_true] at t
  exact yd_sh_iff.mp t.1
theorem yd_Sh_ti {N a : Nat} (hN : yd_N N) (h : yd_Sh N a) : yd_ti N a N ≤ 100000000 := by
  have t := yd_shA hN a (yd_mem hN h)
  unfold yd_shT at t
  rw [Bool.and_eq_true, Nat.ble_eq] at t
  exact t.2
theorem yd_bi_b {N : Nat} (hN : yd_N N) : 0 < yd_bi N N ∧ yd_bi N N ≤ 100 := by
  rcases hN with e | e | e
  · subst e; decide
  · subst e; decide
  · subst e; decide
/-- one shape: hooks and flip -/
theorem yd_hook {N a : Nat} (hN : yd_N N) (h : yd_Sh N a) (h6 : yd_sz N a ≤ 6) : 0 < yd_hp N a N ∧ yd_hp N a N ≤ 1000000 ∧ yd_fac (yd_sz N a) / yd_hp N a N * yd_hp N a N = yd_fac (yd_sz N a) := by
  have t := yd_hfA hN a (yd_mem hN h)
  unfold yd_hfT at t
  have t := yd_not_or t (Nat.ble_eq.mpr h6)
  rw [Bool.and_eq_true, Bool.and_eq_true, Bool.and_eq_true, Nat.blt_eq, Nat.ble_eq] at t
  exact ⟨t.1.1, t.1.2.1, Nat.eq_of_beq_eq_true t.1.2.2⟩
theorem yd_flip {N a : Nat} (hN : yd_N N) (h : yd_Sh N a) (h6 : yd_sz N a ≤ 6) (h0 : yd_dg N a 0 ≤ N) : yd_Sh N (yd_fl N a N) ∧ yd_dg N (yd_fl N a N) 0 ≤ N ∧ yd_fl N (yd_fl N a N) N = a := by
  have t := yd_hfA hN a (yd_mem hN h)
  unfold yd_hfT at t
  have t := yd_not_or t (Nat.ble_eq.mpr h6)
  rw [Bool.and_eq_true] at t
  have t := yd_not_or t.2 (Nat.ble_eq.mpr h0)
  rw [Bool.and_eq_true, Bool.and_eq_true, Nat.ble_eq] at t
  exact ⟨yd_sh_iff.mp t.1, t.2.1, Nat.eq_of_beq_eq_true t.2.2⟩
theorem yd_oe_some {x y : Option Nat} (h : yd_oe x y = true) : ∃ n, x = some n ∧ y = some n := by
  cases x with
  | none => exact (Bool.false_ne_true h).elim
  | some a =>
    cases y with
    | none => exact (Bool.false_ne_true h).elim
    | some b => exact ⟨a, rfl, by rw [Nat.eq_of_beq_eq_true (show Nat.beq a b = true from h)]⟩
theorem yd_mus_k {N a w : Nat} : ∀ {n : Nat}, yd_mus N a w n = true → ∀ k, k < n → yd_sw N w k N < 10 ^ N ∧ ∃ m, yd_mu N a w = some m ∧ yd_mu N a (yd_sw N w k N) = some m
  | 0, _, k, hk => absurd hk (Nat.not_lt_zero k)
  | n + 1, h, k, hk => by
    have e : yd_mus N a w (n + 1) = ((Nat.blt (yd_sw N w n N) (10 ^ N) && yd_oe (yd_mu N a w) (yd_mu N a (yd_sw N w n N))) && yd_mus N a w n) := rfl
    rw [e, Bool.and_eq_true, Bool.and_eq_true, Nat.blt_eq] at h
    rcases Nat.lt_or_ge k n with z | z
    · exact yd_mus_k h.2 k z
    · have : k = n := by omega
      rw [this]
      exact ⟨h.1.1, yd_oe_some h.1.2⟩
theorem yd_one {N a : Nat} (hN : yd_N N) (h : yd_Sh N a) (h6 : yd_sz N a ≤ 6) : yd_mu N a a = some 1 := by
  have t := yd_muA hN a (yd_mem hN h)
  unfold yd_muT at t
  have t := yd_not_or t (Nat.ble_eq.mpr h6)
  rw [Bool.and_eq_true] at t
  obtain ⟨n, h1, h2⟩ := yd_oe_some t.1
  rw [h1, h2]
theorem yd_swap {N a w k : Nat} (hN : yd_N N) (h : yd_Sh N a) (h6 : yd_sz N a ≤ 6) (hw : yd_Sh N w) (hs : yd_sz N w ≤ yd_sz N a) (hk : k < N - 1) :
    w + (yd_sz N a - yd_sz N w) < 10 ^ N ∧ yd_sw N (w + (yd_sz N a - yd_sz N w)) k N < 10 ^ N ∧ ∃ m, yd_mu N a (w + (yd_sz N a - yd_sz N w)) = some m ∧ yd_mu N a (yd_sw N (w + (yd_sz N a - yd_sz N w)) k N) = some m := by
  have t := yd_muA hN a (yd_mem hN h)
  unfold yd_muT at t
  have t := yd_not_or t (Nat.ble_eq.mpr h6)
  rw [Bool.and_eq_true] at t
  have t := yd_not_or (List.all_eq_true.mp t.2 w (yd_mem hN hw)) (Nat.ble_eq.mpr hs)
  rw [Bool.and_eq_true, Nat.blt_eq] at t
  exact ⟨t.1, yd_mus_k t.2 k hk⟩
theorem yd_pair {N a b : Nat} (hN : yd_N N) (ha : yd_Sh N a) (h6 : yd_sz N a ≤ 6) (hb : yd_Sh N b) (h9 : yd_sz N a + yd_sz N b ≤ 9) :
    (∀ v, yd_Sh N v → yd_lr N a b v = yd_lr N b a v ∧ yd_lr N a b v ≤ 1000) ∧ yd_tot N a b (yd_A N) = yd_dim N a * yd_dim N b := by
  have t := yd_prAA hN a (yd_mem hN ha)
  unfold yd_prA at t
  have t := yd_not_or t (Nat.ble_eq.mpr h6)
  have t := yd_not_or (List.all_eq_true.mp t b (yd_mem hN hb)) (Nat.ble_eq.mpr h9)
  unfold yd_prT at t
  rw [Bool.and_eq_true] at t
  refine ⟨fun v hv => ?_, Nat.eq_of_beq_eq_true t.2⟩
  by_cases e : yd_sz N a + yd_sz N b = yd_sz N v
  · have t := yd_not_or (List.all_eq_true.mp t.1 v (yd_mem hN hv)) (by rw [e]; exact Nat.beq_refl _)
    rw [Bool.and_eq_true, Nat.ble_eq] at t
    exact ⟨Nat.eq_of_beq_eq_true t.1, t.2⟩
  · have e1 : Nat.beq (yd_sz N a + yd_sz N b) (yd_sz N v) = false := by
      cases hq : Nat.beq (yd_sz N a + yd_sz N b) (yd_sz N v) with
      | false => rfl
      | true => exact absurd (Nat.eq_of_beq_eq_true hq) e
    have e2 : Nat.beq (yd_sz N b + yd_sz N a) (yd_sz N v) = false := by
      rw [Nat.add_comm]
      exact e1
    unfold yd_lr
    rw [e1, e2]
    exact ⟨rfl, Nat.zero_le _⟩
end
section
theorem yw_pow {post : Int32 → Prop} {k : Nat} {p : Int32} (hk : k ≤ 9) (h : post (nI (10 ^ k))) (hp : p = nI k := by rfl) : wpX_power post () p := by
  subst hp
  exact pk_loop (σ := Int32) (fun n i s => wX_power_4 post (nI k) n s (nI i)) (fun i s => s = nI (10 ^ i)) k 0 1 (Nat.zero_le k) rfl
    (fun n s hI => pk_le k k (fun _ => by rw [hI]; exact h) (fun z => absurd z (by omega)))
    (fun n i s hi hI hw => pk_le k i (fun z => absurd z (by omega)) (fun _ => nm_e (nm_r (nI_1 i) (hw _ (by rw [hI, show (10 : Int32) = nI 10 from rfl, pk_mul, Nat.pow_succ])))))
theorem yw_dig {post : Int32 → Prop} {N c r : Nat} {p q : Int32} {fl fn fb : Int32} {a1 a2 a3 a4 a5 a6 a7 a8 a9 a10 a11 a12 : Nat → Int32} (hN : N ≤ 4) (hr : r < N) (hc : c < 2 ^ 31) (h : post (nI (yd_dg N c r))) (hp : p = nI c := by rfl) (hq : q = nI r := by rfl) : wpX_digit post (nI N, fl, fn, fb, a1, a2, a3, a4, a5, a6, a7, a8, a9, a10, a11, a12) p q := by
  subst hp
  subst hq
  have hk : N - 1 - r ≤ 9 := by omega
  have e : nI N - 1 - nI r = nI (N - 1 - r) := by
    rw [show (1 : Int32) = nI 1 from rfl, pk_sub (by omega), pk_sub (by omega)]
  refine yw_pow (k := N - 1 - r) hk ⟨nI_ne0 (yd_p10 hk).1 (yd_p10 hk).2, by decide, ?_⟩ e
  rw [pk_div hc (yd_p10 hk).1 (yd_p10 hk).2, show (10 : Int32) = nI 10 from rfl, pk_rem (Nat.lt_of_le_of_lt (Nat.div_le_self _ _) hc) (by decide) (by decide)]
  exact h
theorem yw_siz {post : Int32 → Prop} {N c : Nat} {p : Int32} {fl fn fb : Int32} {a1 a2 a3 a4 a5 a6 a7 a8 a9 a10 a11 a12 : Nat → Int32} (hN : N ≤ 4) (hc : c < 2 ^ 31) (h : post (nI (yd_sz N c))) (hp : p = nI c := by rfl) : wpX_sizeOf post (nI N, fl, fn, fb, a1, a2, a3, a4, a5, a6, a7, a8, a9, a10, a11, a12) p := by
  subst hp
  exact pk_loop (σ := Int32) (fun n i s => wX_sizeOf_4 post (nI c) (nI N) fl fn fb a1 a2 a3 a4 a5 a6 a7 a8 a9 a10 a11 a12 n s (nI i)) (fun i s => s = nI (yd_sum (yd_dg N c) i)) N 0 0 (Nat.zero_le N) rfl
    (fun n s hI => pk_le N N (fun _ => by rw [hI]; exact h) (fun z => absurd z (by omega)))
    (fun n i s hi hI hw => pk_le N i (fun z => absurd z (by omega)) (fun _ => yw_dig hN hi hc (nm_e (nm_r (nI_1 i) (hw _ (by rw [hI, nI_add]; rfl))))))
theorem yw_shp {post : Int32 → Prop} {N c : Nat} {p : Int32} {fl fn fb : Int32} {a1 a2 a3 a4 a5 a6 a7 a8 a9 a10 a11 a12 : Nat → Int32} (hN : yd_N N) (hc : c < 2 ^ 31) (h1 : yd_Sh N c → post 1) (h0 : ¬ yd_Sh N c → post 0) (hp : p = nI c := by rfl) : wpX_isShape post (nI N, fl, fn, fb, a1, a2, a3, a4, a5, a6, a7, a8, a9, a10, a11, a12) p := by
  subst hp
  have ⟨h2, h4⟩ := yd_N_le hN
  have hp := yd_p10 (k := N) (by omega)
  refine br_f (nI_pos hc) (yw_pow (k := N) (by omega) ?_)
  refine pk_le (10 ^ N) c (fun z => h0 (fun t => absurd t.1 (by omega))) (fun z => yw_siz h4 hc ?_) rfl rfl hp.2 hc
  have hs := yd_sz_le (c := c) h4
  refine pk_le (yd_sz N c) 9 (fun z9 => ?_) (fun z9 => h0 (fun t => absurd t.2.1 (by omega)))
  exact pk_loop (σ := Unit) (fun n i _ => wX_isShape_29 post (nI c) (nI N) fl fn fb a1 a2 a3 a4 a5 a6 a7 a8 a9 a10 a11 a12 n (nI i)) (fun i _ => 1 ≤ i ∧ ∀ r, r + 1 < i → yd_dg N c (r + 1) ≤ yd_dg N c r) N 1 () (by omega) ⟨by omega, fun r hr => absurd hr (by omega)⟩
    (fun n _ hI => pk_le N N (fun _ => h1 ⟨z, z9, fun r hr => hI.2 r (by omega)⟩) (fun z => absurd z (by omega)))
    (fun n i _ hi hI hw => pk_le N i (fun z => absurd z (by omega)) (fun _ => by
      have d1 := yd_dg_lt N c i
      have d2 := yd_dg_lt N c (i - 1)
      have e : i - 1 + 1 = i := by omega
      refine yw_dig h4 hi hc (yw_dig (r := i - 1) h4 (by omega) hc (pk_le (yd_dg N c i) (yd_dg N c (i - 1)) (fun z => nm_r (nI_1 i) (hw () ⟨by omega, fun r hr => ?_⟩)) (fun z => h0 (fun t => ?_))) rfl ?_)
      · rcases Nat.lt_or_ge (r + 1) i with y | y
        · exact hI.2 r y
        · have e2 : r = i - 1 := by omega
          rw [e2, e]
          exact z
      · have t := t.2.2 (i - 1) (by omega)
        rw [e] at t
        omega
      · rw [show (1 : Int32) = nI 1 from rfl, pk_sub hI.1]))
/-- a shape is known: the answer is 1 -/
theorem yw_shY {post : Int32 → Prop} {N c : Nat} {p : Int32} {fl fn fb : Int32} {a1 a2 a3 a4 a5 a6 a7 a8 a9 a10 a11 a12 : Nat → Int32} (hN : yd_N N) (hs : yd_Sh N c) (h1 : post 1) (hp : p = nI c := by rfl) : wpX_isShape post (nI N, fl, fn, fb, a1, a2, a3, a4, a5, a6, a7, a8, a9, a10, a11, a12) p :=
  yw_shp hN (yd_Sh_lt (yd_N_le hN).2 hs) (fun _ => h1) (fun z => absurd hs z) hp
theorem yd_mono {N c : Nat} (hs : yd_Sh N c) {i : Nat} : ∀ k, i + k < N → yd_dg N c (i + k) ≤ yd_dg N c i
  | 0, _ => Nat.le_refl _
  | k + 1, h => Nat.le_trans (hs.2.2 (i + k) (by omega)) (yd_mono hs k (by omega))
theorem yw_dim {post : Int32 → Prop} {N c : Nat} {p : Int32} {fl fn fb : Int32} {a1 a2 a3 a4 a5 a6 a7 a8 a9 a10 a11 a12 : Nat → Int32} (hN : yd_N N) (hs : yd_Sh N c) (h : post (nI (yd_dim N c))) (hp : p = nI c := by rfl) : wpX_dimension post (nI N, fl, fn, fb, a1, a2, a3, a4, a5, a6, a7, a8, a9, a10, a11, a12) p := by
  subst hp
  have ⟨h2, h4⟩ := yd_N_le hN
  have hc := yd_Sh_lt h4 hs
  have ht := yd_Sh_ti hN hs
  have hb := yd_bi_b hN
  refine pk_loop (σ := Int64 × Int64) (fun n i s => wX_dimension_8 post (nI c) (nI N) fl fn fb a1 a2 a3 a4 a5 a6 a7 a8 a9 a10 a11 a12 n s.1 s.2 (nI i)) (fun i s => s.1 = lN (yd_ti N c i) ∧ s.2 = lN (yd_bi N i)) N 0 (1, 1) (by omega) ⟨rfl, rfl⟩
    (fun n s hI => pk_le N N (fun _ => ?_) (fun z => absurd z (by omega)))
    (fun n i s hi hI hw => pk_le N i (fun z => absurd z (by omega)) (fun _ => nm_r (nI_1 i) ?_))
  · rw [hI.1, hI.2]
    refine br_f (fun z => ?_) ⟨fun z => ?_, ?_⟩
    · have z := (pk_lLE (a := yd_bi N N) (b := 0) (by omega) (by omega)).mp z
      omega
    · have z := (pk_lEQ (a := yd_bi N N) (b := 0) (by omega) (by omega)).mp z
      omega
    · rw [pk_lDiv (by omega) hb.1 (by omega), lN_i]
      exact h
  · refine pk_loop (σ := Int64 × Int64) (fun m k s => wX_dimension_23 post (wX_dimension_8 post (nI c) (nI N) fl fn fb a1 a2 a3 a4 a5 a6 a7 a8 a9 a10 a11 a12 n) (nI c) (nI i) (nI N) fl fn fb a1 a2 a3 a4 a5 a6 a7 a8 a9 a10 a11 a12 m s.1 s.2 (nI (i + 1 + k))) (fun k s => s.1 = lN (yd_ti N c i * yd_tj N c i k) ∧ s.2 = lN (yd_bi N i * yd_bj k)) (N - (i + 1)) 0 s (by omega) ⟨?_, ?_⟩
      (fun m s hI => pk_le N (i + 1 + (N - (i + 1))) (fun _ => nm_r (nI_1 i) (hw s ⟨hI.1, hI.2⟩)) (fun z => absurd z (by omega)))
      (fun m k s hk hI hw => pk_le N (i + 1 + k) (fun z => absurd z (by omega)) (fun _ => yw_dig h4 hi hc (yw_dig (r := i + 1 + k) h4 (by omega) hc (nm_e (nm_e (nm_r (nI_1 _) (hw (_, _) ⟨?_, ?_⟩)))))))
    · rw [hI.1]
      exact congrArg lN (Nat.mul_one _).symm
    · rw [hI.2]
      exact congrArg lN (Nat.mul_one _).symm
    · have hd := yd_mono hs (i := i) (1 + k) (by omega)
      rw [show i + (1 + k) = i + 1 + k by omega] at hd
      have hd1 := yd_dg_lt N c i
      show s.1 * ((nI (yd_dg N c i) - nI (yd_dg N c (i + 1 + k))) + nI (i + 1 + k) - nI i).toInt64 = _
      rw [hI.1, pk_sub hd, nI_add, pk_sub (by omega), nI_l (by omega), lN_mul, Nat.mul_assoc]
      refine congrArg (fun x => lN (yd_ti N c i * (yd_tj N c i k * x))) ?_
      omega
    · show s.2 * (nI (i + 1 + k) - nI i).toInt64 = _
      rw [hI.2, pk_sub (by omega), nI_l (by omega), lN_mul, Nat.mul_assoc]
      refine congrArg (fun x => lN (yd_bi N i * (yd_bj k * x))) ?_
      omega
theorem yw_fil {post : Int32 → Prop} {N c : Nat} {p : Int32} {fl fn fb : Int32} {a1 a2 a3 a4 a5 a6 a7 a8 a9 a10 a11 a12 : Nat → Int32} (hN : yd_N N) (hs : yd_Sh N c) (h : post (nI (yd_dim N c))) (hp : p = nI c := by rfl) : wpX_fillings post (nI N, fl, fn, fb, a1, a2, a3, a4, a5, a6, a7, a8, a9, a10, a11, a12) p := by
  unfold wpX_fillings
  refine yw_shY hN hs ?_ hp
  exact br_f (by decide) (yw_dim hN hs h hp)
theorem yw_ref {post : Int32 → Prop} {N a b : Nat} {p q : Int32} {fl fn fb : Int32} {a1 a2 a3 a4 a5 a6 a7 a8 a9 a10 a11 a12 : Nat → Int32} (hN : yd_N N) (ha : yd_Sh N a) (hb : yd_Sh N b) (h9 : yd_sz N a + yd_sz N b ≤ 9) (h : post 0) (hp : p = nI a := by rfl) (hq : q = nI b := by rfl) : wpX_refused post (nI N, fl, fn, fb, a1, a2, a3, a4, a5, a6, a7, a8, a9, a10, a11, a12) p q := by
  have ⟨h2, h4⟩ := yd_N_le hN
  unfold wpX_refused
  refine yw_shY hN ha ?_ hp
  refine br_f (by decide) (yw_shY hN hb ?_ hq)
  refine br_f (by decide) (yw_siz h4 (yd_Sh_lt h4 ha) (yw_siz h4 (yd_Sh_lt h4 hb) ?_ hq) hp)
  exact br_t (by rw [nI_add]; exact nI_le h9 (by decide)) h
end
section
theorem yw_hkA {post : Int32 → Prop} {N c row col : Nat} {p q r : Int32} {fl fn fb : Int32} {a1 a2 a3 a4 a5 a6 a7 a8 a9 a10 a11 a12 : Nat → Int32} (hN : N ≤ 4) (hr : row < N) (hc : c < 2 ^ 31) (hl : col ≤ yd_dg N c row) (h : post (nI (yd_hk N c row col))) (hp : p = nI c := by rfl) (hq : q = nI row := by rfl) (hr' : r = nI col := by rfl) : wpX_hookAt post (nI N, fl, fn, fb, a1, a2, a3, a4, a5, a6, a7, a8, a9, a10, a11, a12) p q r := by
  subst hp
  subst hq
  subst hr'
  have hcol : col < 10 := Nat.lt_of_le_of_lt hl (yd_dg_lt N c row)
  refine nm_r (nI_1 row) ?_
  refine pk_loop (σ := Int32) (fun n i s => wX_hookAt_8 post (nI c) (nI row) (nI col) (nI N) fl fn fb a1 a2 a3 a4 a5 a6 a7 a8 a9 a10 a11 a12 n s (nI i)) (fun i s => row + 1 ≤ i ∧ s = nI (yd_bl N c col (row + 1) (i - (row + 1)))) N (row + 1) 0 (by omega) ⟨by omega, by rw [Nat.sub_self]; rfl⟩
    (fun n s hI => pk_le N N (fun _ => yw_dig hN hr hc ?_) (fun z => absurd z (by omega)))
    (fun n i s hi hI hw => pk_le N i (fun z => absurd z (by omega)) (fun _ => yw_dig hN hi hc ?_))
  · rw [hI.2, pk_sub hl, nI_add]
    exact h
  · have hd := yd_dg_lt N c i
    have e : i + 1 - (row + 1) = i - (row + 1) + 1 := by omega
    have e2 : row + 1 + (i - (row + 1)) = i := by omega
    have e3 : yd_bl N c col (row + 1) (i - (row + 1) + 1) = yd_bl N c col (row + 1) (i - (row + 1)) + (bif Nat.ble (yd_dg N c (row + 1 + (i - (row + 1)))) col then 0 else 1) := rfl
    refine pk_le (yd_dg N c i) col (fun z => nm_e (nm_r (nI_1 i) (hw _ ⟨by omega, ?_⟩))) (fun z => nm_e (nm_r (nI_1 i) (hw _ ⟨by omega, ?_⟩)))
    · rw [hI.2, e, e3, e2, Nat.ble_eq.mpr z, show (0 : Int32) = nI 0 from rfl, nI_add]
      rfl
    · have hf : Nat.ble (yd_dg N c i) col = false := by
        cases hq : Nat.ble (yd_dg N c i) col with
        | false => rfl
        | true => exact absurd (Nat.ble_eq.mp hq) (by omega)
      rw [hI.2, e, e3, e2, hf, nI_1]
      rfl
theorem yw_hpr {post : Int32 → Prop} {N c : Nat} {p : Int32} {fl fn fb : Int32} {a1 a2 a3 a4 a5 a6 a7 a8 a9 a10 a11 a12 : Nat → Int32} (hN : N ≤ 4) (hc : c < 2 ^ 31) (h : post (nI (yd_hp N c N))) (hp : p = nI c := by rfl) : wpX_hookProduct post (nI N, fl, fn, fb, a1, a2, a3, a4, a5, a6, a7, a8, a9, a10, a11, a12) p := by
  subst hp
  refine pk_loop (σ := Int32) (fun n i s => wX_hookProduct_4 post (nI c) (nI N) fl fn fb a1 a2 a3 a4 a5 a6 a7 a8 a9 a10 a11 a12 n s (nI i)) (fun i s => s = nI (yd_hp N c i)) N 0 1 (by omega) rfl
    (fun n s hI => pk_le N N (fun _ => by rw [hI]; exact h) (fun z => absurd z (by omega)))
    (fun n i s hi hI hw => pk_le N i (fun z => absurd z (by omega)) (fun _ => ?_))
  have hd := yd_dg_lt N c i
  refine pk_loop (σ := Int32) (fun m k s => wX_hookProduct_15 post (wX_hookProduct_4 post (nI c) (nI N) fl fn fb a1 a2 a3 a4 a5 a6 a7 a8 a9 a10 a11 a12 n) (nI c) (nI i) (nI N) fl fn fb a1 a2 a3 a4 a5 a6 a7 a8 a9 a10 a11 a12 m s (nI k)) (fun k s => s = nI (yd_hp N c i * yd_hr N c i k)) (yd_dg N c i) 0 s (by omega) ?_
    (fun m s hI => ?_)
    (fun m k s hk hI hw => ?_)
  · rw [hI]
    exact congrArg nI (Nat.mul_one _).symm
  · unfold wX_hookProduct_15
    refine yw_dig hN hi hc ?_
    exact pk_le (yd_dg N c i) (yd_dg N c i) (fun _ => nm_r (nI_1 i) (hw s hI)) (fun z => absurd z (by omega))
  · unfold wX_hookProduct_15
    refine yw_dig hN hi hc ?_
    refine pk_le (yd_dg N c i) k (fun z => absurd z (by omega)) (fun _ => yw_hkA (row := i) (col := k) hN hi hc (by omega) (nm_e (nm_r (nI_1 k) (hw _ ?_))))
    rw [hI, pk_mul, Nat.mul_assoc]
    rfl
theorem yd_fac_pos : ∀ k, 0 < yd_fac k
  | 0 => by decide
  | k + 1 => Nat.mul_pos (yd_fac_pos k) (Nat.succ_pos k)
theorem yd_fac_b {k : Nat} (h : k ≤ 9) : yd_fac k < 2 ^ 31 := by
  have : k = 0 ∨ k = 1 ∨ k = 2 ∨ k = 3 ∨ k = 4 ∨ k = 5 ∨ k = 6 ∨ k = 7 ∨ k = 8 ∨ k = 9 := by omega
  rcases this with e | e | e | e | e | e | e | e | e | e <;> subst e <;> decide
theorem yw_ord {post : Int32 → Prop} {N c : Nat} {p : Int32} {fl fn fb : Int32} {a1 a2 a3 a4 a5 a6 a7 a8 a9 a10 a11 a12 : Nat → Int32} (hN : yd_N N) (hs : yd_Sh N c) (h0 : 0 < yd_hp N c N) (h6 : yd_hp N c N ≤ 1000000) (h : post (nI (yd_fac (yd_sz N c) / yd_hp N c N))) (hp : p = nI c := by rfl) : wpX_orders post (nI N, fl, fn, fb, a1, a2, a3, a4, a5, a6, a7, a8, a9, a10, a11, a12) p := by
  subst hp
  have ⟨h2, h4⟩ := yd_N_le hN
  have hc := yd_Sh_lt h4 hs
  have h9 := hs.2.1
  unfold wpX_orders
  refine yw_shY hN hs ?_
  refine br_f (by decide) (yw_siz h4 hc ?_)
  refine pk_loop (σ := Int32) (fun n i s => wX_orders_21 post (nI c) (nI (yd_sz N c)) (nI N) fl fn fb a1 a2 a3 a4 a5 a6 a7 a8 a9 a10 a11 a12 n s (nI i)) (fun i s => 2 ≤ i ∧ s = nI (yd_fac (i - 1))) (max (yd_sz N c + 1) 2) 2 1 (by omega) ⟨by omega, rfl⟩
    (fun n s hI => pk_lt (yd_sz N c) (max (yd_sz N c + 1) 2) (fun _ => yw_hpr h4 hc ?_) (fun z => absurd z (by omega)))
    (fun n i s hi hI hw => pk_lt (yd_sz N c) i (fun z => absurd z (by omega)) (fun _ => nm_e (nm_r (nI_1 i) (hw _ ⟨by omega, ?_⟩))))
  · have e : yd_fac (max (yd_sz N c + 1) 2 - 1) = yd_fac (yd_sz N c) := by
      rcases Nat.lt_or_ge (yd_sz N c) 1 with z | z
      · have z : yd_sz N c = 0 := by omega
        rw [z]
        rfl
      · rw [show max (yd_sz N c + 1) 2 - 1 = yd_sz N c by omega]
    rw [hI.2, e]
    refine br_f (nI_nle h0 (by omega)) ⟨nI_ne0 h0 (by omega), ?_⟩
    rw [pk_div (yd_fac_b h9) h0 (by omega)]
    exact h
  · rw [hI.2, pk_mul, show i + 1 - 1 = i - 1 + 1 by omega]
    refine congrArg (fun x => nI (yd_fac (i - 1) * x)) ?_
    omega
theorem yw_hks {post : Int32 → Prop} {N c : Nat} {p : Int32} {fl fn fb : Int32} {a1 a2 a3 a4 a5 a6 a7 a8 a9 a10 a11 a12 : Nat → Int32} (hN : yd_N N) (hs : yd_Sh N c) (h : post (nI (yd_hp N c N))) (hp : p = nI c := by rfl) : wpX_hooks post (nI N, fl, fn, fb, a1, a2, a3, a4, a5, a6, a7, a8, a9, a10, a11, a12) p := by
  unfold wpX_hooks
  refine yw_shY hN hs ?_ hp
  exact br_f (by decide) (yw_hpr (yd_N_le hN).2 (yd_Sh_lt (yd_N_le hN).2 hs) h hp)
theorem yw_htL {post : Int32 → Prop} {J : Int32 → Int32 → Prop} {N c col : Nat} {x2 : Int32} {fl fn fb : Int32} {a1 a2 a3 a4 a5 a6 a7 a8 a9 a10 a11 a12 : Nat → Int32} (hN : N ≤ 4) (hc : c < 2 ^ 31) (hl : col < 10) : ∀ k h, h + k = N → wX_flip_67 post J (nI c) x2 (nI col) (nI (yd_ht N c col k h)) (nI N) fl fn fb a1 a2 a3 a4 a5 a6 a7 a8 a9 a10 a11 a12 → wX_flip_41 post J (nI c) x2 (nI col) (nI N) fl fn fb a1 a2 a3 a4 a5 a6 a7 a8 a9 a10 a11 a12 (k + 1) (nI h)
  | 0, h, e, H => pk_le N h (fun _ => H) (fun z => absurd z (by omega))
  | k + 1, h, e, H => pk_le N h (fun z => absurd z (by omega)) (fun z => by
      have hd := yd_dg_lt N c h
      have e1 : yd_ht N c col (k + 1) h = (bif Nat.ble (yd_dg N c h) col then h else yd_ht N c col k (h + 1)) := rfl
      refine yw_dig hN z hc (pk_le (yd_dg N c h) col (fun y => ?_) (fun y => nm_r (nI_1 h) (yw_htL hN hc hl k (h + 1) (by omega) ?_)))
      · rw [e1, Nat.ble_eq.mpr y] at H
        exact H
      · have hf : Nat.ble (yd_dg N c h) col = false := by
          cases hq : Nat.ble (yd_dg N c h) col with
          | false => rfl
          | true => exact absurd (Nat.ble_eq.mp hq) (by omega)
        rw [e1, hf] at H
        exact H)
theorem yw_flp {post : Int32 → Prop} {N c : Nat} {p : Int32} {fl fn fb : Int32} {a1 a2 a3 a4 a5 a6 a7 a8 a9 a10 a11 a12 : Nat → Int32} (hN : yd_N N) (hs : yd_Sh N c) (h1 : yd_dg N c 0 ≤ N → post (nI (yd_fl N c N))) (h0 : N < yd_dg N c 0 → post (-2)) (hp : p = nI c := by rfl) : wpX_flip post (nI N, fl, fn, fb, a1, a2, a3, a4, a5, a6, a7, a8, a9, a10, a11, a12) p := by
  subst hp
  have ⟨h2, h4⟩ := yd_N_le hN
  have hc := yd_Sh_lt h4 hs
  have hd := yd_dg_lt N c 0
  unfold wpX_flip
  refine yw_shY hN hs ?_
  refine br_f (by decide) (yw_dig (r := 0) h4 (by omega) hc (pk_le (yd_dg N c 0) N (fun z => ?_) h0))
  exact pk_loop (σ := Int32) (fun n i s => wX_flip_30 post (nI c) (nI N) fl fn fb a1 a2 a3 a4 a5 a6 a7 a8 a9 a10 a11 a12 n s (nI i)) (fun i s => s = nI (yd_fl N c i)) N 0 0 (by omega) rfl
    (fun n s hI => pk_le N N (fun _ => by rw [hI]; exact h1 z) (fun z => absurd z (by omega)))
    (fun n i s hi hI hw => pk_le N i (fun z => absurd z (by omega)) (fun _ => ⟨N + 1, yw_htL h4 hc (by omega) N 0 (by omega) (nm_e (nm_r (nI_1 i) (hw _ (by rw [hI, show (10 : Int32) = nI 10 from rfl, pk_mul, nI_add]; rfl))))⟩))
end
section
theorem yw_s36 {post : Int32 → Prop} {J : Int32 → Int32 → Int32 → Int32 → Prop} {x0 x1 : Int32} {left code k m : Nat} (hm : m ≤ left) (h9 : m ≤ 9) (h : ∀ r, r ≤ m → J (nI (left - r)) (nI r) (nI (code * 10 + r)) (nI (k + 1))) : wL_shape_36 post J x0 x1 (nI left) (nI code) (nI k) (nI m) := by
  unfold wL_shape_36
  obtain ⟨j, hj, e⟩ := pk_andE (x0 >>> ((4 * nI k) &&& 31)) (m := 15) 4 (by decide)
  rw [e, nI_1]
  refine ⟨nI_ne0 (by omega) (by omega), nm_r (pk_rem (by omega) (by omega) (by omega)) ?_⟩
  have hr : j % (m + 1) ≤ m := by
    exact Nat.le_of_lt_succ (Nat.mod_lt j (Nat.succ_pos m))
  refine nm_r (by rw [show (10 : Int32) = nI 10 from rfl, pk_mul, nI_add]) (nm_r (pk_sub (by omega)) (nm_r (nI_1 k) (h _ hr)))
theorem yw_shS {post : Int32 → Prop} {x0 : Int32} {N left most code k n : Nat} (hk : k < N) (hN : N ≤ 4) (hl : left ≤ 9) (hm : most ≤ 9) (h : ∀ r, r ≤ most → r ≤ left → wL_shape_12 post x0 (nI N) n (nI (left - r)) (nI r) (nI (code * 10 + r)) (nI (k + 1))) : wL_shape_12 post x0 (nI N) (n + 1) (nI left) (nI most) (nI code) (nI k) :=
  pk_le 4 k (fun z => absurd z (by omega)) (fun _ => pk_le N k (fun z => absurd z (by omega)) (fun _ => pk_le left most
    (fun z => yw_s36 (Nat.le_refl _) hl (fun r hr => h r (by omega) hr))
    (fun z => yw_s36 (by omega) hm (fun r hr => h r hr (by omega)))))
theorem yw_shP {post : Int32 → Prop} {x0 x3 x4 x5 : Int32} {N k n : Nat} (hk : N ≤ k) (h4 : k < 4) (h : wL_shape_12 post x0 (nI N) n x3 x4 x5 (nI (k + 1))) : wL_shape_12 post x0 (nI N) (n + 1) x3 x4 x5 (nI k) :=
  pk_le 4 k (fun z => absurd z (by omega)) (fun _ => pk_le N k (fun _ => nm_r (nI_1 k) h) (fun z => absurd z (by omega)))
theorem yw_shE {post : Int32 → Prop} {x0 x1 x3 x4 x5 : Int32} {n : Nat} (h : post x5) : wL_shape_12 post x0 x1 (n + 1) x3 x4 x5 (nI 4) :=
  pk_le 4 4 (fun _ => h) (fun z => absurd z (by omega))
theorem yd_mk4 {r0 r1 r2 r3 : Nat} (h1 : r1 ≤ r0) (h2 : r2 ≤ r1) (h3 : r3 ≤ r2) (hs : r0 + r1 + r2 + r3 ≤ 9) : yd_Sh 4 ((((0 * 10 + r0) * 10 + r1) * 10 + r2) * 10 + r3) ∧ yd_sz 4 ((((0 * 10 + r0) * 10 + r1) * 10 + r2) * 10 + r3) = r0 + r1 + r2 + r3 := by
  generalize ec : (((0 * 10 + r0) * 10 + r1) * 10 + r2) * 10 + r3 = c
  have ec : c = 1000 * r0 + 100 * r1 + 10 * r2 + r3 := by omega
  have b0 : r0 ≤ 9 := by omega
  have b1 : r1 ≤ 9 := by omega
  have b2 : r2 ≤ 9 := by omega
  have b3 : r3 ≤ 9 := by omega
  have d0 : yd_dg 4 c 0 = r0 := by
    show c / 1000 % 10 = r0
    rw [show c / 1000 = r0 by omega]
    omega
  have d1 : yd_dg 4 c 1 = r1 := by
    show c / 100 % 10 = r1
    rw [show c / 100 = 10 * r0 + r1 by omega]
    omega
  have d2 : yd_dg 4 c 2 = r2 := by
    show c / 10 % 10 = r2
    rw [show c / 10 = 100 * r0 + 10 * r1 + r2 by omega]
    omega
  have d3 : yd_dg 4 c 3 = r3 := by
    show c / 1 % 10 = r3
    rw [show c / 1 = 1000 * r0 + 100 * r1 + 10 * r2 + r3 by omega]
    omega
  have sz : yd_sz 4 c = r0 + r1 + r2 + r3 := by
    show 0 + yd_dg 4 c 0 + yd_dg 4 c 1 + yd_dg 4 c 2 + yd_dg 4 c 3 = _
    omega
  refine ⟨⟨?_, by omega, fun r hr => ?_⟩, sz⟩
  · show c < 10000
    omega
  · have : r = 0 ∨ r = 1 ∨ r = 2 := by omega
    rcases this with e | e | e
    · subst e
      show yd_dg 4 c 1 ≤ yd_dg 4 c 0
      omega
    · subst e
      show yd_dg 4 c 2 ≤ yd_dg 4 c 1
      omega
    · subst e
      show yd_dg 4 c 3 ≤ yd_dg 4 c 2
      omega
theorem yd_mk3 {r0 r1 r2 : Nat} (h1 : r1 ≤ r0) (h2 : r2 ≤ r1) (hs : r0 + r1 + r2 ≤ 9) : yd_Sh 3 (((0 * 10 + r0) * 10 + r1) * 10 + r2) ∧ yd_sz 3 (((0 * 10 + r0) * 10 + r1) * 10 + r2) = r0 + r1 + r2 := by
  generalize ec : ((0 * 10 + r0) * 10 + r1) * 10 + r2 = c
  have ec : c = 100 * r0 + 10 * r1 + r2 := by omega
  have b0 : r0 ≤ 9 := by omega
  have b1 : r1 ≤ 9 := by omega
  have b2 : r2 ≤ 9 := by omega
  have d0 : yd_dg 3 c 0 = r0 := by
    show c / 100 % 10 = r0
    rw [show c / 100 = r0 by omega]
    omega
  have d1 : yd_dg 3 c 1 = r1 := by
    show c / 10 % 10 = r1
    rw [show c / 10 = 10 * r0 + r1 by omega]
    omega
  have d2 : yd_dg 3 c 2 = r2 := by
    show c / 1 % 10 = r2
    rw [show c / 1 = 100 * r0 + 10 * r1 + r2 by omega]
    omega
  have sz : yd_sz 3 c = r0 + r1 + r2 := by
    show 0 + yd_dg 3 c 0 + yd_dg 3 c 1 + yd_dg 3 c 2 = _
    omega
  refine ⟨⟨?_, by omega, fun r hr => ?_⟩, sz⟩
  · show c < 1000
    omega
  · have : r = 0 ∨ r = 1 := by omega
    rcases this with e | e
    · subst e
      show yd_dg 3 c 1 ≤ yd_dg 3 c 0
      omega
    · subst e
      show yd_dg 3 c 2 ≤ yd_dg 3 c 1
      omega
theorem yd_mk2 {r0 r1 : Nat} (h1 : r1 ≤ r0) (hs : r0 + r1 ≤ 9) : yd_Sh 2 ((0 * 10 + r0) * 10 + r1) ∧ yd_sz 2 ((0 * 10 + r0) * 10 + r1) = r0 + r1 := by
  generalize ec : (0 * 10 + r0) * 10 + r1 = c
  have ec : c = 10 * r0 + r1 := by omega
  have b0 : r0 ≤ 9 := by omega
  have b1 : r1 ≤ 9 := by omega
  have d0 : yd_dg 2 c 0 = r0 := by
    show c / 10 % 10 = r0
    rw [show c / 10 = r0 by omega]
    omega
  have d1 : yd_dg 2 c 1 = r1 := by
    show c / 1 % 10 = r1
    rw [show c / 1 = 10 * r0 + r1 by omega]
    omega
  have sz : yd_sz 2 c = r0 + r1 := by
    show 0 + yd_dg 2 c 0 + yd_dg 2 c 1 = _
    omega
  refine ⟨⟨?_, by omega, fun r hr => ?_⟩, sz⟩
  · show c < 100
    omega
  · have e : r = 0 := by omega
    subst e
    show yd_dg 2 c 1 ≤ yd_dg 2 c 0
    omega
theorem yw_Lsh {post : Int32 → Prop} {x p q : Int32} {N room : Nat} (hN : yd_N N) (hr : room ≤ 9) (h : ∀ c, yd_Sh N c → yd_sz N c ≤ room → post (nI c)) (hp : p = nI N := by rfl) (hq : q = nI room := by rfl) : wpL_shape post () x p q := by
  subst hp
  subst hq
  refine ⟨5, ?_⟩
  show wL_shape_12 post x (nI N) 5 (nI room) (nI 9) (nI 0) (nI 0)
  rcases hN with e | e | e
  · subst e
    refine yw_shS (by decide) (by decide) hr (by decide) (fun r0 a0 b0 => ?_)
    refine yw_shS (by decide) (by decide) (by omega) (by omega) (fun r1 a1 b1 => ?_)
    refine yw_shP (by decide) (by decide) (yw_shP (by decide) (by decide) (yw_shE ?_))
    have t := yd_mk2 (r0 := r0) (r1 := r1) a1 (by omega)
    exact h _ t.1 (by rw [t.2]; omega)
  · subst e
    refine yw_shS (by decide) (by decide) hr (by decide) (fun r0 a0 b0 => ?_)
    refine yw_shS (by decide) (by decide) (by omega) (by omega) (fun r1 a1 b1 => ?_)
    refine yw_shS (by decide) (by decide) (by omega) (by omega) (fun r2 a2 b2 => ?_)
    refine yw_shP (by decide) (by decide) (yw_shE ?_)
    have t := yd_mk3 (r0 := r0) (r1 := r1) (r2 := r2) a1 a2 (by omega)
    exact h _ t.1 (by rw [t.2]; omega)
  · subst e
    refine yw_shS (by decide) (by decide) hr (by decide) (fun r0 a0 b0 => ?_)
    refine yw_shS (by decide) (by decide) (by omega) (by omega) (fun r1 a1 b1 => ?_)
    refine yw_shS (by decide) (by decide) (by omega) (by omega) (fun r2 a2 b2 => ?_)
    refine yw_shS (by decide) (by decide) (by omega) (by omega) (fun r3 a3 b3 => ?_)
    refine yw_shE ?_
    have t := yd_mk4 (r0 := r0) (r1 := r1) (r2 := r2) (r3 := r3) a1 a2 a3 (by omega)
    exact h _ t.1 (by rw [t.2]; omega)
theorem yd_szL {N c : Nat} (hN : yd_N N) (hc : c < 10 ^ N) : c / 1000 + c / 100 % 10 + c / 10 % 10 + c % 10 = yd_sz N c := by
  rcases hN with e | e | e
  · subst e
    have hc : c < 100 := hc
    show _ = 0 + c / 10 % 10 + c / 1 % 10
    omega
  · subst e
    have hc : c < 1000 := hc
    show _ = 0 + c / 100 % 10 + c / 10 % 10 + c / 1 % 10
    omega
  · subst e
    have hc : c < 10000 := hc
    show _ = 0 + c / 1000 % 10 + c / 100 % 10 + c / 10 % 10 + c / 1 % 10
    omega
theorem yw_Lsz {post : Int32 → Prop} {p : Int32} {N c : Nat} (hN : yd_N N) (hc : c < 10 ^ N) (h : post (nI (yd_sz N c))) (hp : p = nI c := by rfl) : wpL_sizeOf post () p := by
  subst hp
  have h4 := (yd_N_le hN).2
  have hb : c < 2 ^ 31 := Nat.lt_trans hc (yd_p10 (k := N) (by omega)).2
  have hb1 : c / 100 < 2 ^ 31 := Nat.lt_of_le_of_lt (Nat.div_le_self _ _) hb
  have hb2 : c / 10 < 2 ^ 31 := Nat.lt_of_le_of_lt (Nat.div_le_self _ _) hb
  refine ⟨by decide, by decide, by decide, by decide, by decide, by decide, ?_⟩
  rw [show (1000 : Int32) = nI 1000 from rfl, show (100 : Int32) = nI 100 from rfl, show (10 : Int32) = nI 10 from rfl,
    pk_div hb (by decide) (by decide), pk_div hb (d := 100) (by decide) (by decide), pk_rem hb1 (by decide) (by decide), pk_rem hb (by decide) (by decide), pk_div hb (d := 10) (by decide) (by decide), pk_rem hb2 (by decide) (by decide),
    nI_add, nI_add, nI_add, yd_szL hN hc]
  exact h
theorem yw_Ldg {post : Int32 → Prop} {p q r : Int32} {N c k : Nat} (hN : N ≤ 4) (hk : k < N) (hc : c < 2 ^ 31) (h : post (nI (yd_dg N c k))) (hp : p = nI c := by rfl) (hq : q = nI k := by rfl) (hr : r = nI N := by rfl) : wpL_digit post () p q r := by
  subst hp
  subst hq
  subst hr
  have e : nI N - 1 - nI k = nI (N - 1 - k) := by
    rw [show (1 : Int32) = nI 1 from rfl, pk_sub (by omega), pk_sub (by omega)]
  refine pk_loop (σ := Int32) (fun n i s => wL_digit_5 post (nI k) (nI N) n s (nI i)) (fun i s => s = nI (c / 10 ^ (min i (N - 1 - k)))) 4 0 (nI c) (by decide) ?_
    (fun n s hI => pk_le 4 4 (fun _ => ⟨by decide, ?_⟩) (fun z => absurd z (by omega)))
    (fun n i s hi hI hw => pk_le 4 i (fun z => absurd z (by omega)) (fun _ => pk_le (N - 1 - k) i (fun z => nm_r (nI_1 i) (hw _ ?_)) (fun z => ⟨by decide, nm_e (nm_r (nI_1 i) (hw _ ?_))⟩) e))
  · rw [Nat.zero_min, Nat.pow_zero, Nat.div_one]
  · rw [hI, show min 4 (N - 1 - k) = N - 1 - k by omega, show (10 : Int32) = nI 10 from rfl, pk_rem (Nat.lt_of_le_of_lt (Nat.div_le_self _ _) hc) (by decide) (by decide)]
    exact h
  · rw [hI, show min i (N - 1 - k) = min (i + 1) (N - 1 - k) by omega]
  · rw [hI, show min (i + 1) (N - 1 - k) = i + 1 by omega, show min i (N - 1 - k) = i by omega, show (10 : Int32) = nI 10 from rfl, pk_div (Nat.lt_of_le_of_lt (Nat.div_le_self _ _) hc) (by decide) (by decide), Nat.div_div_eq_div_mul, Nat.pow_succ]
theorem yw_Lsw {post : Int32 → Prop} {p q r : Int32} {N w k : Nat} (hN : N ≤ 4) (hk : k + 1 < N) (hw : w < 2 ^ 31) (h : post (nI (yd_sw N w k N))) (hp : p = nI w := by rfl) (hq : q = nI k := by rfl) (hr : r = nI N := by rfl) : wpL_swapped post () p q r := by
  subst hp
  subst hq
  subst hr
  refine pk_loop (σ := Int32) (fun n i s => wL_swapped_5 post (nI w) (nI k) (nI N) n s (nI i)) (fun i s => s = nI (yd_sw N w k (min i N))) 4 0 0 (by decide) ?_
    (fun n s hI => pk_le 4 4 (fun _ => ?_) (fun z => absurd z (by omega)))
    (fun n i s hi hI hw' => pk_le 4 i (fun z => absurd z (by omega)) (fun _ => pk_le N i (fun z => nm_r (nI_1 i) (hw' _ ?_)) (fun z => ?_)))
  · rw [Nat.zero_min]
    rfl
  · rw [hI, show min 4 N = N by omega]
    exact h
  · rw [hI, show min i N = min (i + 1) N by omega]
  · have e1 : min (i + 1) N = i + 1 := by omega
    have e2 : min i N = i := by omega
    have go : ∀ (f : Nat) (z0 : Int32), f < N → z0 = nI f → yd_fr k i = f → wL_swapped_43 post (wL_swapped_5 post (nI w) (nI k) (nI N) n) (nI w) (nI k) (nI N) s (nI i) z0 := by
      intro f z0 hf hz hfr
      refine yw_Ldg hN hf hw (nm_e (nm_r (nI_1 i) (hw' _ ?_))) rfl hz rfl
      rw [hI, e1, e2, show (10 : Int32) = nI 10 from rfl, pk_mul, nI_add, ← hfr]
      rfl
    have fb : ∀ {a b : Nat}, a ≠ b → Nat.beq a b = false := by
      intro a b hab
      cases hq : Nat.beq a b with
      | false => rfl
      | true => exact absurd (Nat.eq_of_beq_eq_true hq) hab
    refine pk_eq i k (fun y => go (k + 1) _ hk (nI_1 k) ?_) (fun y => pk_eq i (k + 1) (fun y2 => go k _ (by omega) rfl ?_) (fun y2 => go i _ z rfl ?_) rfl (nI_1 k))
    · unfold yd_fr
      rw [y, Nat.beq_refl]
      rfl
    · unfold yd_fr
      rw [fb y, y2, Nat.beq_refl]
      rfl
    · unfold yd_fr
      rw [fb y, fb y2]
      rfl
theorem yw_Lfa {post : Int32 → Prop} {p : Int32} {m : Nat} (hm : m ≤ 9) (h : post (nI (yd_fac m))) (hp : p = nI m := by rfl) : wpL_factorial post () p := by
  subst hp
  refine pk_loop (σ := Int32) (fun n i s => wL_factorial_4 post (nI m) n s (nI i)) (fun i s => 2 ≤ i ∧ s = nI (yd_fac (min (i - 1) m))) 10 2 1 (by decide) ⟨by decide, ?_⟩
    (fun n s hI => pk_le 10 10 (fun _ => ?_) (fun z => absurd z (by omega)))
    (fun n i s hi hI hw => pk_le 10 i (fun z => absurd z (by omega)) (fun _ => pk_lt m i (fun z => nm_r (nI_1 i) (hw _ ⟨by omega, ?_⟩)) (fun z => nm_e (nm_r (nI_1 i) (hw _ ⟨by omega, ?_⟩)))))
  · have : min (2 - 1) m = 0 ∨ min (2 - 1) m = 1 := by omega
    rcases this with e | e <;> rw [e] <;> rfl
  · rw [hI.2, show min (10 - 1) m = m by omega]
    exact h
  · rw [hI.2, show min (i + 1 - 1) m = min (i - 1) m by omega]
  · rw [hI.2, pk_mul, show min (i + 1 - 1) m = i - 1 + 1 by omega, show min (i - 1) m = i - 1 by omega]
    refine congrArg (fun x => nI (yd_fac (i - 1) * x)) ?_
    omega
end
section
theorem yd_fb {a b : Nat} (h : a ≠ b) : Nat.beq a b = false := by
  cases hq : Nat.beq a b with
  | false => rfl
  | true => exact absurd (Nat.eq_of_beq_eq_true hq) h
theorem yd_tb {a b : Nat} (h : a = b) : Nat.beq a b = true := by
  rw [h, Nat.beq_refl]
theorem yd_flt {a b : Nat} (h : b ≤ a) : Nat.blt a b = false := by
  cases hq : Nat.blt a b with
  | false => rfl
  | true => exact absurd (Nat.blt_eq.mp hq) (by omega)
/-- four places of an array -/
def yw_Q (a : Nat → Int32) (t0 t1 t2 t3 : Nat) : Prop := a 0 = nI t0 ∧ a 1 = nI t1 ∧ a 2 = nI t2 ∧ a 3 = nI t3
theorem yw_sdS {post : Int32 → St2 → Prop} {N i t o r n : Nat} {fl fn fb : Int32} {a1 a2 a3 a4 a5 a6 a7 a8 a9 a10 a11 a12 : Nat → Int32} (hi : i < 4) (hr : a1 i = nI r) (ho : a2 i = nI o) (ht : a3 i = nI t) (b : t < 10) (hto : o ≤ t)
    (h1 : t = o → wX_stepDown_2 post (nI N) fl fn fb n (nI (i + 1)) a1 a2 (upd a3 i (nI r)) a4 a5 a6 a7 a8 a9 a10 a11 a12) (h0 : t ≠ o → post 1 (nI N, fl, fn, fb, a1, a2, upd a3 i (nI (t - 1)), a4, a5, a6, a7, a8, a9, a10, a11, a12)) : wX_stepDown_2 post (nI N) fl fn fb (n + 1) (nI i) a1 a2 a3 a4 a5 a6 a7 a8 a9 a10 a11 a12 := by
  have hc := nI_clamp (n := i) (by omega)
  refine pk_le 4 i (fun z => absurd z (by omega)) (fun _ => ⟨pk_in i 4 hi, pk_in i 4 hi, ?_⟩)
  refine pk_eq t o (fun z => ⟨pk_in i 4 hi, pk_in i 4 hi, nm_r (by rw [hc, hr]) (nm_r (nI_1 i) (h1 z))⟩) (fun z => ?_) (by rw [hc, ht]) (by rw [hc, ho])
  exact pk_eq i 4 (fun y => absurd y (by omega)) (fun _ => ⟨pk_in i 4 hi, pk_in i 4 hi, nm_r (by rw [hc, ht, show (1 : Int32) = nI 1 from rfl, pk_sub (by omega)]) (h0 z)⟩)
theorem yw_sd {post : Int32 → St2 → Prop} {N r0 r1 r2 r3 o0 o1 o2 o3 t0 t1 t2 t3 : Nat} {fl fn fb : Int32} {a1 a2 a3 a4 a5 a6 a7 a8 a9 a10 a11 a12 : Nat → Int32} (h1 : yw_Q a1 r0 r1 r2 r3) (h2 : yw_Q a2 o0 o1 o2 o3) (h3 : yw_Q a3 t0 t1 t2 t3) (b0 : t0 < 10) (b1 : t1 < 10) (b2 : t2 < 10) (b3 : t3 < 10) (g0 : o0 ≤ t0) (g1 : o1 ≤ t1) (g2 : o2 ≤ t2) (g3 : o3 ≤ t3)
    (c0 : t0 ≠ o0 → ∀ x, yw_Q x (t0 - 1) t1 t2 t3 → post 1 (nI N, fl, fn, fb, a1, a2, x, a4, a5, a6, a7, a8, a9, a10, a11, a12))
    (c1 : t0 = o0 → t1 ≠ o1 → ∀ x, yw_Q x r0 (t1 - 1) t2 t3 → post 1 (nI N, fl, fn, fb, a1, a2, x, a4, a5, a6, a7, a8, a9, a10, a11, a12))
    (c2 : t0 = o0 → t1 = o1 → t2 ≠ o2 → ∀ x, yw_Q x r0 r1 (t2 - 1) t3 → post 1 (nI N, fl, fn, fb, a1, a2, x, a4, a5, a6, a7, a8, a9, a10, a11, a12))
    (c3 : t0 = o0 → t1 = o1 → t2 = o2 → t3 ≠ o3 → ∀ x, yw_Q x r0 r1 r2 (t3 - 1) → post 1 (nI N, fl, fn, fb, a1, a2, x, a4, a5, a6, a7, a8, a9, a10, a11, a12))
    (c4 : t0 = o0 → t1 = o1 → t2 = o2 → t3 = o3 → ∀ x, post 0 (nI N, fl, fn, fb, a1, a2, x, a4, a5, a6, a7, a8, a9, a10, a11, a12)) : wpX_stepDown post (nI N, fl, fn, fb, a1, a2, a3, a4, a5, a6, a7, a8, a9, a10, a11, a12) := by
  refine ⟨5, ?_⟩
  refine yw_sdS (i := 0) (by decide) h1.1 h2.1 h3.1 b0 g0 (fun z0 => ?_) (fun z0 => c0 z0 _ ⟨rfl, h3.2.1, h3.2.2.1, h3.2.2.2⟩)
  refine yw_sdS (i := 1) (t := t1) (by decide) h1.2.1 h2.2.1 h3.2.1 b1 g1 (fun z1 => ?_) (fun z1 => c1 z0 z1 _ ⟨rfl, rfl, h3.2.2.1, h3.2.2.2⟩)
  refine yw_sdS (i := 2) (t := t2) (by decide) h1.2.2.1 h2.2.2.1 h3.2.2.1 b2 g2 (fun z2 => ?_) (fun z2 => c2 z0 z1 z2 _ ⟨rfl, rfl, rfl, h3.2.2.2⟩)
  refine yw_sdS (i := 3) (t := t3) (by decide) h1.2.2.2 h2.2.2.2 h3.2.2.2 b3 g3 (fun z3 => ?_) (fun z3 => c3 z0 z1 z2 z3 _ ⟨rfl, rfl, rfl, rfl⟩)
  exact pk_le 4 4 (fun _ => pk_eq 4 4 (fun _ => c4 z0 z1 z2 z3 _) (fun y => absurd rfl y)) (fun y => absurd y (by omega))
/-- two arrays hold a list of shapes with counts -/
def yw_M (a b : Nat → Int32) (l : List (Nat × Nat)) : Prop := ∀ i p, l[i]? = some p → a i = nI p.1 ∧ b i = nI p.2 ∧ p.1 < 10000
theorem yd_enl_app {c k : Nat} : ∀ {pre rest : List (Nat × Nat)}, (∀ p, p ∈ pre → p.1 ≠ c) → yd_enl c k (pre ++ rest) = pre ++ yd_enl c k rest
  | [], rest, _ => rfl
  | (d, j) :: pre, rest, h => by
    have e : yd_enl c k ((d, j) :: pre ++ rest) = (bif Nat.beq d c then (d, j + k) :: (pre ++ rest) else (d, j) :: yd_enl c k (pre ++ rest)) := rfl
    rw [e, yd_fb (h (d, j) List.mem_cons_self), yd_enl_app (fun p hp => h p (List.mem_cons_of_mem _ hp))]
    rfl
theorem yd_mid {α : Type} {x y : α} : ∀ {pre rest : List α} {i : Nat}, i ≠ pre.length → (pre ++ x :: rest)[i]? = (pre ++ y :: rest)[i]?
  | [], rest, 0, h => absurd rfl h
  | [], rest, i + 1, _ => rfl
  | p :: pre, rest, 0, _ => rfl
  | p :: pre, rest, i + 1, h => by
    show (pre ++ x :: rest)[i]? = (pre ++ y :: rest)[i]?
    exact yd_mid (fun z => h (by rw [z]; rfl))
theorem yd_at {α : Type} {x : α} : ∀ {pre rest : List α}, (pre ++ x :: rest)[pre.length]? = some x
  | [], rest => rfl
  | p :: pre, rest => by
    show (pre ++ x :: rest)[pre.length]? = some x
    exact yd_at
theorem yw_M_mod {a b : Nat → Int32} {pre rest : List (Nat × Nat)} {d j k : Nat} (h : yw_M a b (pre ++ (d, j) :: rest)) : yw_M a (upd b pre.length (nI (j + k))) (pre ++ (d, j + k) :: rest) := by
  intro i p hp
  by_cases e : i = pre.length
  · subst e
    rw [yd_at] at hp
    have hp := (Option.some.inj hp).symm
    subst hp
    have t := h pre.length (d, j) yd_at
    exact ⟨t.1, pk_us, t.2.2⟩
  · rw [yd_mid (y := (d, j)) e] at hp
    have t := h i p hp
    exact ⟨t.1, by rw [pk_un e]; exact t.2.1, t.2.2⟩
theorem yw_M_add {a b : Nat → Int32} {l : List (Nat × Nat)} {c k : Nat} (hc : c < 10000) (h : yw_M a b l) : yw_M (upd a l.length (nI c)) (upd b l.length (nI k)) (l ++ [(c, k)]) := by
  intro i p hp
  by_cases e : i = l.length
  · subst e
    rw [yd_at] at hp
    have hp := (Option.some.inj hp).symm
    subst hp
    exact ⟨pk_us, pk_us, hc⟩
  · have hl : i < l.length := by
      have hi := (List.getElem?_eq_some_iff.mp hp).1
      rw [List.length_append] at hi
      have : [(c, k)].length = 1 := rfl
      omega
    rw [List.getElem?_append_left hl] at hp
    have t := h i p hp
    exact ⟨by rw [pk_un e]; exact t.1, by rw [pk_un e]; exact t.2.1, t.2.2⟩
theorem yw_enlL {post : St2 → Prop} {N c k : Nat} {nl : List (Nat × Nat)} {fl fb : Int32} {a1 a2 a3 a4 a5 a6 a7 a8 a9 a10 a11 a12 : Nat → Int32} (hM : yw_M a6 a7 nl) (hl : nl.length < 700) (hc : c < 10000)
    (H : ∀ x y, yw_M x y (yd_enl c k nl) → post (nI N, fl, nI (yd_enl c k nl).length, fb, a1, a2, a3, a4, a5, x, y, a8, a9, a10, a11, a12)) :
    ∀ (rest pre : List (Nat × Nat)), nl = pre ++ rest → (∀ p, p ∈ pre → p.1 ≠ c) → wX_enlist_2 post (nI c) (nI k) (nI N) fl (nI nl.length) fb a1 a2 a3 a4 a5 a6 a7 a8 a9 a10 a11 a12 (rest.length + 1) (nI pre.length)
  | [], pre, e, hp => by
    rw [List.append_nil] at e
    subst e
    have e2 : yd_enl c k nl = nl ++ [(c, k)] := by
      have t := yd_enl_app (c := c) (k := k) (pre := nl) (rest := []) hp
      rw [List.append_nil] at t
      exact t
    rw [e2] at H
    have hcl := nI_clamp (n := nl.length) (by omega)
    refine pk_le nl.length nl.length (fun _ => ⟨pk_in nl.length 720 (by omega), nm_r (by rw [hcl]) ⟨pk_in nl.length 720 (by omega), nm_r (by rw [hcl]) (nm_r ?_ (H _ _ (yw_M_add hc hM)))⟩⟩) (fun z => absurd z (by omega))
    rw [nI_1, List.length_append]
    rfl
  | (d, j) :: rest, pre, e, hp => by
    have hlen : pre.length < nl.length := by
      rw [e, List.length_append]
      have : ((d, j) :: rest).length = rest.length + 1 := rfl
      omega
    have hcl := nI_clamp (n := pre.length) (by omega)
    have t := hM pre.length (d, j) (by rw [e]; exact yd_at)
    have td : d < 10000 := t.2.2
    refine pk_le nl.length pre.length (fun z => absurd z (by omega)) (fun _ => ⟨pk_in pre.length 720 (by omega), ?_⟩)
    refine pk_eq d c (fun z => ⟨pk_in pre.length 720 (by omega), pk_in pre.length 720 (by omega), nm_r (e' := upd a7 pre.length (nI (j + k))) (by rw [hcl, t.2.1, nI_add]) ?_⟩) (fun z => nm_r (nI_1 _) ?_) (by rw [hcl]; exact t.1) rfl
    · have e2 : yd_enl c k nl = pre ++ (d, j + k) :: rest := by
        rw [e, yd_enl_app hp]
        have e3 : yd_enl c k ((d, j) :: rest) = (bif Nat.beq d c then (d, j + k) :: rest else (d, j) :: yd_enl c k rest) := rfl
        rw [e3, yd_tb z]
        rfl
      have e4 : nl.length = (yd_enl c k nl).length := by
        rw [e2, e, List.length_append, List.length_append]
        rfl
      have hM2 := hM
      rw [e] at hM2
      have q := H a6 (upd a7 pre.length (nI (j + k))) (by rw [e2]; exact yw_M_mod hM2)
      rw [← e4] at q
      exact q
    · have q := yw_enlL hM hl hc H rest (pre ++ [(d, j)]) (by rw [e, List.append_assoc]; rfl) (fun p hp' => by
        rcases List.mem_append.mp hp' with y | y
        · exact hp p y
        · rw [List.mem_singleton.mp y]
          exact z)
      rw [List.length_append] at q
      exact q
theorem yw_enl {post : St2 → Prop} {N c k : Nat} {nl : List (Nat × Nat)} {fl fb : Int32} {a1 a2 a3 a4 a5 a6 a7 a8 a9 a10 a11 a12 : Nat → Int32} (hM : yw_M a6 a7 nl) (hl : nl.length < 700) (hc : c < 10000)
    (H : ∀ x y, yw_M x y (yd_enl c k nl) → post (nI N, fl, nI (yd_enl c k nl).length, fb, a1, a2, a3, a4, a5, x, y, a8, a9, a10, a11, a12)) : wpX_enlist post (nI N, fl, nI nl.length, fb, a1, a2, a3, a4, a5, a6, a7, a8, a9, a10, a11, a12) (nI c) (nI k) :=
  ⟨nl.length + 1, yw_enlL hM hl hc H nl [] rfl (fun p hp => absurd hp List.not_mem_nil)⟩
end
section
theorem yw_t66 {post : St2 → Prop} {J : Int32 → (Nat → Int32) → (Nat → Int32) → (Nat → Int32) → (Nat → Int32) → (Nat → Int32) → (Nat → Int32) → (Nat → Int32) → (Nat → Int32) → (Nat → Int32) → (Nat → Int32) → (Nat → Int32) → (Nat → Int32) → Prop} {x1 x2 x3 x4 z0 : Int32} {N i : Nat} {fl fn fb : Int32} {a1 a2 a3 a4 a5 a6 a7 a8 a9 a10 a11 a12 : Nat → Int32} (hi : i < 4)
    (h : J (nI (i + 1)) a1 (upd a2 i z0) (upd a3 i (a1 i)) a4 a5 a6 a7 a8 a9 a10 a11 a12) : wX_takeStrips_66 post J x1 x2 x3 x4 (nI i) z0 (nI i) (nI N) fl fn fb a1 a2 a3 a4 a5 a6 a7 a8 a9 a10 a11 a12 := by
  have hc := nI_clamp (n := i) (by omega)
  exact ⟨pk_in i 4 hi, nm_r (by rw [hc]) ⟨pk_in i 4 hi, pk_in i 4 hi, nm_r (by rw [hc]) (nm_r (nI_1 i) h)⟩⟩
theorem yw_t35 {post : St2 → Prop} {J : Int32 → (Nat → Int32) → (Nat → Int32) → (Nat → Int32) → (Nat → Int32) → (Nat → Int32) → (Nat → Int32) → (Nat → Int32) → (Nat → Int32) → (Nat → Int32) → (Nat → Int32) → (Nat → Int32) → (Nat → Int32) → Prop} {x2 x3 x4 z0 : Int32} {N c i : Nat} {fl fn fb : Int32} {a1 a2 a3 a4 a5 a6 a7 a8 a9 a10 a11 a12 : Nat → Int32} (hN : N ≤ 4) (hc : c < 2 ^ 31) (hi : i < 4)
    (h : J (nI (i + 1)) (upd a1 i z0) (upd a2 i (nI (yd_rr N c (i + 1)))) (upd a3 i z0) a4 a5 a6 a7 a8 a9 a10 a11 a12) : wX_takeStrips_35 post J (nI c) x2 x3 x4 (nI i) z0 (nI i) (nI N) fl fn fb a1 a2 a3 a4 a5 a6 a7 a8 a9 a10 a11 a12 := by
  have hcl := nI_clamp (n := i) (by omega)
  refine ⟨pk_in i 4 hi, nm_r (e' := upd a1 i z0) (by rw [hcl]) (pk_le N (i + 1) (fun z => yw_t66 hi ?_) (fun z => yw_dig hN z hc (yw_t66 hi ?_) rfl (nI_1 i)) rfl (nI_1 i))⟩
  · have e : yd_rr N c (i + 1) = 0 := by
      unfold yd_rr
      rw [yd_flt z]
      rfl
    rw [e] at h
    rw [pk_us]
    exact h
  · have e : yd_rr N c (i + 1) = yd_dg N c (i + 1) := by
      unfold yd_rr
      rw [Nat.blt_eq.mpr z]
      rfl
    rw [e] at h
    rw [pk_us]
    exact h
theorem yw_t3S {post : St2 → Prop} {x2 x3 x4 : Int32} {N c i n : Nat} {fl fn fb : Int32} {a1 a2 a3 a4 a5 a6 a7 a8 a9 a10 a11 a12 : Nat → Int32} (hN : N ≤ 4) (hc : c < 2 ^ 31) (hi : i < 4)
    (h : wX_takeStrips_3 post (nI c) x2 x3 x4 (nI N) fl fn fb n (nI (i + 1)) (upd a1 i (nI (yd_rr N c i))) (upd a2 i (nI (yd_rr N c (i + 1)))) (upd a3 i (nI (yd_rr N c i))) a4 a5 a6 a7 a8 a9 a10 a11 a12) : wX_takeStrips_3 post (nI c) x2 x3 x4 (nI N) fl fn fb (n + 1) (nI i) a1 a2 a3 a4 a5 a6 a7 a8 a9 a10 a11 a12 := by
  refine pk_le 4 i (fun z => absurd z (by omega)) (fun _ => pk_le N i (fun z => yw_t35 hN hc hi ?_) (fun z => yw_dig hN z hc (yw_t35 hN hc hi ?_)))
  · have e : yd_rr N c i = 0 := by
      unfold yd_rr
      rw [yd_flt z]
      rfl
    rw [e] at h
    exact h
  · have e : yd_rr N c i = yd_dg N c i := by
      unfold yd_rr
      rw [Nat.blt_eq.mpr z]
      rfl
    rw [e] at h
    exact h
theorem yw_167S {post : St2 → Prop} {J : Int32 → Int32 → Int32 → Int32 → Int32 → (Nat → Int32) → (Nat → Int32) → (Nat → Int32) → (Nat → Int32) → (Nat → Int32) → (Nat → Int32) → (Nat → Int32) → (Nat → Int32) → (Nat → Int32) → (Nat → Int32) → (Nat → Int32) → (Nat → Int32) → Prop} {x2 x4 x5 : Int32} {N s t i n : Nat} {fl fn fb : Int32} {a1 a2 a3 a4 a5 a6 a7 a8 a9 a10 a11 a12 : Nat → Int32} (hN : N ≤ 4) (hi : i < N) (ht : a3 i = nI t)
    (h : wX_takeStrips_167 post J x2 x4 x5 (nI N) fl fn fb a1 a2 a3 a4 a5 a6 a7 a8 a9 a10 a11 a12 n (nI (10 * s + t)) (nI (i + 1))) : wX_takeStrips_167 post J x2 x4 x5 (nI N) fl fn fb a1 a2 a3 a4 a5 a6 a7 a8 a9 a10 a11 a12 (n + 1) (nI s) (nI i) :=
  pk_le N i (fun z => absurd z (by omega)) (fun _ => ⟨pk_in i 4 (by omega), nm_r (by rw [nI_clamp (by omega), ht, show (10 : Int32) = nI 10 from rfl, pk_mul, nI_add]) (nm_r (nI_1 i) h)⟩)
theorem yw_167E {post : St2 → Prop} {J : Int32 → Int32 → Int32 → Int32 → Int32 → (Nat → Int32) → (Nat → Int32) → (Nat → Int32) → (Nat → Int32) → (Nat → Int32) → (Nat → Int32) → (Nat → Int32) → (Nat → Int32) → (Nat → Int32) → (Nat → Int32) → (Nat → Int32) → (Nat → Int32) → Prop} {x4 x5 : Int32} {N c k n : Nat} {nl : List (Nat × Nat)} {fl fb : Int32} {a1 a2 a3 a4 a5 a6 a7 a8 a9 a10 a11 a12 : Nat → Int32} (hN : N ≤ 4) (hM : yw_M a6 a7 nl) (hl : nl.length < 700) (hc : c < 10000)
    (H : ∀ x y, yw_M x y (yd_enl c k nl) → wX_takeStrips_204 post J (nI k) x4 x5 (nI N) fl (nI (yd_enl c k nl).length) fb a1 a2 a3 a4 a5 x y a8 a9 a10 a11 a12) : wX_takeStrips_167 post J (nI k) x4 x5 (nI N) fl (nI nl.length) fb a1 a2 a3 a4 a5 a6 a7 a8 a9 a10 a11 a12 (n + 1) (nI c) (nI N) :=
  pk_le N N (fun _ => yw_enl hM hl hc H) (fun z => absurd z (by omega))
theorem yw_167 {post : St2 → Prop} {J : Int32 → Int32 → Int32 → Int32 → Int32 → (Nat → Int32) → (Nat → Int32) → (Nat → Int32) → (Nat → Int32) → (Nat → Int32) → (Nat → Int32) → (Nat → Int32) → (Nat → Int32) → (Nat → Int32) → (Nat → Int32) → (Nat → Int32) → (Nat → Int32) → Prop} {x4 x5 : Int32} {N k t0 t1 t2 t3 : Nat} {nl : List (Nat × Nat)} {fl fb : Int32} {a1 a2 a3 a4 a5 a6 a7 a8 a9 a10 a11 a12 : Nat → Int32} (hN : yd_N N) (hQ : yw_Q a3 t0 t1 t2 t3) (b0 : t0 < 10) (b1 : t1 < 10) (b2 : t2 < 10) (b3 : t3 < 10) (hM : yw_M a6 a7 nl) (hl : nl.length < 700)
    (H : ∀ x y, yw_M x y (yd_enl (yd_cd N t0 t1 t2 t3) k nl) → wX_takeStrips_204 post J (nI k) x4 x5 (nI N) fl (nI (yd_enl (yd_cd N t0 t1 t2 t3) k nl).length) fb a1 a2 a3 a4 a5 x y a8 a9 a10 a11 a12) : ∃ n, wX_takeStrips_167 post J (nI k) x4 x5 (nI N) fl (nI nl.length) fb a1 a2 a3 a4 a5 a6 a7 a8 a9 a10 a11 a12 n 0 0 := by
  have h4 := (yd_N_le hN).2
  refine ⟨N + 1, ?_⟩
  show wX_takeStrips_167 post J (nI k) x4 x5 (nI N) fl (nI nl.length) fb a1 a2 a3 a4 a5 a6 a7 a8 a9 a10 a11 a12 (N + 1) (nI 0) (nI 0)
  rcases hN with e | e | e
  · subst e
    exact yw_167S h4 (by decide) hQ.1 (yw_167S h4 (by decide) hQ.2.1 (yw_167E h4 hM hl (by omega) H))
  · subst e
    exact yw_167S h4 (by decide) hQ.1 (yw_167S h4 (by decide) hQ.2.1 (yw_167S h4 (by decide) hQ.2.2.1 (yw_167E h4 hM hl (by omega) H)))
  · subst e
    exact yw_167S h4 (by decide) hQ.1 (yw_167S h4 (by decide) hQ.2.1 (yw_167S h4 (by decide) hQ.2.2.1 (yw_167S h4 (by decide) hQ.2.2.2 (yw_167E h4 hM hl (by omega) H))))
theorem yw_pick {a : Nat → Int32} {t0 t1 t2 t3 k : Nat} (hQ : yw_Q a t0 t1 t2 t3) (hk : k < 4) : a k = nI (yd_pick t0 t1 t2 t3 k) := by
  have : k = 0 ∨ k = 1 ∨ k = 2 ∨ k = 3 := by omega
  rcases this with e | e | e | e
  · subst e; exact hQ.1
  · subst e; exact hQ.2.1
  · subst e; exact hQ.2.2.1
  · subst e; exact hQ.2.2.2
theorem yd_pick_lt {t0 t1 t2 t3 k : Nat} (b0 : t0 < 10) (b1 : t1 < 10) (b2 : t2 < 10) (b3 : t3 < 10) : yd_pick t0 t1 t2 t3 k < 10 := by
  unfold yd_pick
  cases Nat.beq k 0 <;> cases Nat.beq k 1 <;> cases Nat.beq k 2 <;> assumption
theorem yd_no {α : Type} {x : α} {P : Prop} (h : none = some x) : P := by cases h
theorem yw_108 {post : St2 → Prop} {N r0 r1 r2 r3 goal lt cnt : Nat} {fl fb : Int32} {a4 a5 a8 a9 a10 a11 a12 : Nat → Int32} {res : List (Nat × Nat)} (hN : yd_N N) (hlt : lt < 4) (hg : goal < 2 ^ 31) (q0 : r0 < 10) (q1 : r1 < 10) (q2 : r2 < 10) (q3 : r3 < 10) (d1 : r1 ≤ r0) (d2 : r2 ≤ r1) (d3 : r3 ≤ r2)
    (H : ∀ a1 a2 a3 a6 a7, yw_M a6 a7 res → post (nI N, fl, nI res.length, fb, a1, a2, a3, a4, a5, a6, a7, a8, a9, a10, a11, a12)) :
    ∀ (f t0 t1 t2 t3 : Nat) (nl : List (Nat × Nat)) (a1 a2 a3 a6 a7 : Nat → Int32), yd_ts N r0 r1 r2 r3 goal lt cnt f t0 t1 t2 t3 nl = some res → t0 < 10 → t1 < 10 → t2 < 10 → t3 < 10 → r1 ≤ t0 → r2 ≤ t1 → r3 ≤ t2 → yw_Q a1 r0 r1 r2 r3 → yw_Q a2 r1 r2 r3 0 → yw_Q a3 t0 t1 t2 t3 → yw_M a6 a7 nl →
      wX_takeStrips_108 post (nI cnt) (nI (lt + 1)) (nI goal) (f + 1) 1 (nI N) fl (nI nl.length) fb a1 a2 a3 a4 a5 a6 a7 a8 a9 a10 a11 a12
  | 0, t0, t1, t2, t3, nl, a1, a2, a3, a6, a7, hts, _, _, _, _, _, _, _, _, _, _, _ => yd_no hts
  | f + 1, t0, t1, t2, t3, nl, a1, a2, a3, a6, a7, hts, b0, b1, b2, b3, g0, g1, g2, Q1, Q2, Q3, hM => by
    have ih := yw_108 (cnt := cnt) hN hlt hg q0 q1 q2 q3 d1 d2 d3 H f
    have ets : yd_ts N r0 r1 r2 r3 goal lt cnt (f + 1) t0 t1 t2 t3 nl =
      (bif Nat.blt nl.length 700 then
      (bif Nat.beq t0 r1 then
        (bif Nat.beq t1 r2 then
          (bif Nat.beq t2 r3 then
            (bif Nat.beq t3 0 then some (yd_put N t0 t1 t2 t3 goal lt cnt nl)
             else yd_ts N r0 r1 r2 r3 goal lt cnt f r0 r1 r2 (t3 - 1) (yd_put N t0 t1 t2 t3 goal lt cnt nl))
           else yd_ts N r0 r1 r2 r3 goal lt cnt f r0 r1 (t2 - 1) t3 (yd_put N t0 t1 t2 t3 goal lt cnt nl))
         else yd_ts N r0 r1 r2 r3 goal lt cnt f r0 (t1 - 1) t2 t3 (yd_put N t0 t1 t2 t3 goal lt cnt nl))
       else yd_ts N r0 r1 r2 r3 goal lt cnt f (t0 - 1) t1 t2 t3 (yd_put N t0 t1 t2 t3 goal lt cnt nl))
    else none) := rfl
    rw [ets] at hts
    have hl : nl.length < 700 := by
      rcases Nat.lt_or_ge nl.length 700 with z | z
      · exact z
      · rw [yd_flt z] at hts
        exact yd_no hts
    rw [Nat.blt_eq.mpr hl] at hts
    have key : ∀ x y, yw_M x y (yd_put N t0 t1 t2 t3 goal lt cnt nl) → wX_takeStrips_204 post (wX_takeStrips_108 post (nI cnt) (nI (lt + 1)) (nI goal) (f + 1)) (nI cnt) (nI (lt + 1)) (nI goal) (nI N) fl (nI (yd_put N t0 t1 t2 t3 goal lt cnt nl).length) fb a1 a2 a3 a4 a5 x y a8 a9 a10 a11 a12 := by
      intro x y hxy
      refine yw_sd Q1 Q2 Q3 b0 b1 b2 b3 g0 g1 g2 (Nat.zero_le _) (fun z0 w hw => ?_) (fun z0 z1 w hw => ?_) (fun z0 z1 z2 w hw => ?_) (fun z0 z1 z2 z3 w hw => ?_) (fun z0 z1 z2 z3 w => ?_)
      · rw [yd_fb z0] at hts
        exact ih _ _ _ _ _ a1 a2 w x y hts (by omega) b1 b2 b3 (by omega) g1 g2 Q1 Q2 hw hxy
      · rw [yd_tb z0, yd_fb z1] at hts
        exact ih _ _ _ _ _ a1 a2 w x y hts q0 (by omega) b2 b3 d1 (by omega) g2 Q1 Q2 hw hxy
      · rw [yd_tb z0, yd_tb z1, yd_fb z2] at hts
        exact ih _ _ _ _ _ a1 a2 w x y hts q0 q1 (by omega) b3 d1 d2 (by omega) Q1 Q2 hw hxy
      · rw [yd_tb z0, yd_tb z1, yd_tb z2, yd_fb z3] at hts
        exact ih _ _ _ _ _ a1 a2 w x y hts q0 q1 q2 (by omega) d1 d2 d3 Q1 Q2 hw hxy
      · rw [yd_tb z0, yd_tb z1, yd_tb z2, yd_tb z3] at hts
        have e : yd_put N t0 t1 t2 t3 goal lt cnt nl = res := Option.some.inj hts
        rw [e] at hxy ⊢
        exact br_t rfl (H a1 a2 w x y hxy)
    have hp := yd_pick_lt (k := lt) b0 b1 b2 b3
    have epred : nI (lt + 1) - 1 = nI lt := nI_pred lt
    refine br_f (by decide) (nm_r (e' := nI (t0 + t1 + t2 + t3)) (by rw [Q3.1, Q3.2.1, Q3.2.2.1, Q3.2.2.2, nI_add, nI_add, nI_add]) ?_)
    refine pk_eq (t0 + t1 + t2 + t3) goal (fun z => ⟨pk_in lt 4 hlt epred, ?_⟩) (fun z => ?_)
    · refine pk_eq (yd_pick t0 t1 t2 t3 lt) 0 (fun y => ?_) (fun y => ?_) (by rw [epred, nI_clamp (by omega)]; exact yw_pick Q3 hlt) rfl
      · have e : yd_put N t0 t1 t2 t3 goal lt cnt nl = yd_enl (yd_cd N t0 t1 t2 t3) cnt nl := by
          unfold yd_put
          rw [yd_tb z, yd_tb y]
          rfl
        rw [e] at key
        exact yw_167 hN Q3 b0 b1 b2 b3 hM hl key
      · have e : yd_put N t0 t1 t2 t3 goal lt cnt nl = nl := by
          unfold yd_put
          rw [yd_tb z, yd_fb y]
          rfl
        rw [e] at key
        exact key a6 a7 hM
    · have e : yd_put N t0 t1 t2 t3 goal lt cnt nl = nl := by
        unfold yd_put
        rw [yd_fb z]
        rfl
      rw [e] at key
      exact key a6 a7 hM
theorem yd_rr_lt (N c i : Nat) : yd_rr N c i < 10 := by
  unfold yd_rr
  cases Nat.blt i N
  · exact (by decide : 0 < 10)
  · exact yd_dg_lt N c i
theorem yd_rr_4 {N c : Nat} (hN : N ≤ 4) : yd_rr N c 4 = 0 := by
  unfold yd_rr
  rw [yd_flt hN]
  rfl
theorem yd_take_eq (N c cnt many lt : Nat) (nl : List (Nat × Nat)) : ∃ f, yd_take N c cnt many lt nl =
  (bif Nat.ble (yd_rr N c 1) (yd_rr N c 0) && (Nat.ble (yd_rr N c 2) (yd_rr N c 1) && Nat.ble (yd_rr N c 3) (yd_rr N c 2)) then
    (bif Nat.blt (yd_sz N c) many then some nl
     else yd_ts N (yd_rr N c 0) (yd_rr N c 1) (yd_rr N c 2) (yd_rr N c 3) (yd_sz N c - many) lt cnt f (yd_rr N c 0) (yd_rr N c 1) (yd_rr N c 2) (yd_rr N c 3) nl)
  else none) := ⟨2000, by unfold yd_take; rfl⟩
theorem yw_tak {post : St2 → Prop} {N c cnt many lt : Nat} {nl res : List (Nat × Nat)} {p q r s : Int32} {fl fb : Int32} {a1 a2 a3 a4 a5 a6 a7 a8 a9 a10 a11 a12 : Nat → Int32} (hN : yd_N N) (hc : c < 10000) (hm : many < 10) (hlt : lt < 4) (ht : yd_take N c cnt many lt nl = some res) (hM : yw_M a6 a7 nl)
    (H : ∀ a1 a2 a3 a6 a7, yw_M a6 a7 res → post (nI N, fl, nI res.length, fb, a1, a2, a3, a4, a5, a6, a7, a8, a9, a10, a11, a12)) (hp : p = nI c := by rfl) (hq : q = nI cnt := by rfl) (hr : r = nI many := by rfl) (hs : s = nI (lt + 1) := by rfl) : wpX_takeStrips post (nI N, fl, nI nl.length, fb, a1, a2, a3, a4, a5, a6, a7, a8, a9, a10, a11, a12) p q r s := by
  subst hp
  subst hq
  subst hr
  subst hs
  have h4 := (yd_N_le hN).2
  have hc2 : c < 2 ^ 31 := by omega
  have h36 := yd_sz_le (c := c) h4
  refine ⟨5, ?_⟩
  refine yw_t3S (i := 0) h4 hc2 (by decide) ?_
  refine yw_t3S (i := 1) h4 hc2 (by decide) ?_
  refine yw_t3S (i := 2) h4 hc2 (by decide) ?_
  refine yw_t3S (i := 3) h4 hc2 (by decide) ?_
  refine pk_le 4 4 (fun _ => yw_siz h4 hc2 ?_) (fun z => absurd z (by omega))
  obtain ⟨f, ef⟩ := yd_take_eq N c cnt many lt nl
  rw [ef] at ht
  cases hg : (Nat.ble (yd_rr N c 1) (yd_rr N c 0) && (Nat.ble (yd_rr N c 2) (yd_rr N c 1) && Nat.ble (yd_rr N c 3) (yd_rr N c 2))) with
  | false =>
    rw [hg] at ht
    exact yd_no ht
  | true =>
    rw [hg] at ht
    rw [Bool.and_eq_true, Bool.and_eq_true, Nat.ble_eq, Nat.ble_eq, Nat.ble_eq] at hg
    rcases Nat.lt_or_ge (yd_sz N c) many with z | z
    · rw [Nat.blt_eq.mpr z] at ht
      have e : nl = res := Option.some.inj ht
      rw [← e] at H
      refine nm_e (br_t (pk_sneg (by omega) z) ⟨1, br_t rfl (H _ _ _ _ _ hM)⟩)
    · rw [yd_flt z] at ht
      refine nm_r (pk_sub z) (br_f (nI_pos (by omega)) ⟨f + 1, ?_⟩)
      exact yw_108 hN hlt (by omega) (yd_rr_lt N c 0) (yd_rr_lt N c 1) (yd_rr_lt N c 2) (yd_rr_lt N c 3) hg.1 hg.2.1 hg.2.2 H f _ _ _ _ nl _ _ _ _ _ ht (yd_rr_lt N c 0) (yd_rr_lt N c 1) (yd_rr_lt N c 2) (yd_rr_lt N c 3) hg.1 hg.2.1 hg.2.2 ⟨rfl, rfl, rfl, rfl⟩ ⟨rfl, rfl, rfl, congrArg nI (yd_rr_4 h4)⟩ ⟨rfl, rfl, rfl, rfl⟩ hM
end
section
theorem yw_cp {post : Int32 → St2 → Prop} {J : Int32 → Int32 → Int32 → Int32 → Int32 → (Nat → Int32) → (Nat → Int32) → (Nat → Int32) → (Nat → Int32) → (Nat → Int32) → (Nat → Int32) → (Nat → Int32) → (Nat → Int32) → (Nat → Int32) → (Nat → Int32) → (Nat → Int32) → (Nat → Int32) → Prop} {x2 : Int32} {N k : Nat} {l : List (Nat × Nat)} {fn fb : Int32} {a1 a2 a3 a4 a5 a6 a7 a8 a9 a10 a11 a12 : Nat → Int32} (hM : yw_M a6 a7 l) (hl : l.length < 700)
    (H : ∀ x y, yw_M x y l → J (nI k) (nI N) (nI l.length) fn fb a1 a2 a3 x y a6 a7 a8 a9 a10 a11 a12) : ∃ n, wX_countFor_94 post J x2 (nI (k + 1)) (nI N) (nI l.length) fn fb n 0 a1 a2 a3 a4 a5 a6 a7 a8 a9 a10 a11 a12 :=
  pk_loop (σ := (Nat → Int32) × (Nat → Int32)) (fun n i s => wX_countFor_94 post J x2 (nI (k + 1)) (nI N) (nI l.length) fn fb n (nI i) a1 a2 a3 s.1 s.2 a6 a7 a8 a9 a10 a11 a12) (fun i s => ∀ j, j < i → s.1 j = a6 j ∧ s.2 j = a7 j) l.length 0 (a4, a5) (Nat.zero_le _) (fun j hj => absurd hj (Nat.not_lt_zero j))
    (fun n s hI => pk_le l.length l.length (fun _ => nm_r (pk_m1 k) (H s.1 s.2 (fun i p hp => by
      have hi := hI i (List.getElem?_eq_some_iff.mp hp).1
      rw [hi.1, hi.2]
      exact hM i p hp))) (fun z => absurd z (by omega)))
    (fun n i s hi hI hw => pk_le l.length i (fun z => absurd z (by omega)) (fun _ => by
      have hc := nI_clamp (n := i) (by omega)
      refine ⟨pk_in i 720 (by omega), pk_in i 720 (by omega), nm_r (e' := upd s.1 i (a6 i)) (by rw [hc]) ⟨pk_in i 720 (by omega), pk_in i 720 (by omega), nm_r (e' := upd s.2 i (a7 i)) (by rw [hc]) (nm_r (nI_1 i) (hw (_, _) (fun j hj => ?_)))⟩⟩
      by_cases e : j = i
      · subst e
        exact ⟨pk_us, pk_us⟩
      · have t := hI j (by omega)
        exact ⟨(pk_un e).trans t.1, (pk_un e).trans t.2⟩))
theorem yw_47 {post : Int32 → St2 → Prop} {J : Int32 → Int32 → Int32 → Int32 → Int32 → (Nat → Int32) → (Nat → Int32) → (Nat → Int32) → (Nat → Int32) → (Nat → Int32) → (Nat → Int32) → (Nat → Int32) → (Nat → Int32) → (Nat → Int32) → (Nat → Int32) → (Nat → Int32) → (Nat → Int32) → Prop} {x2 fb : Int32} {a4 a5 a8 a9 a10 a11 a12 : Nat → Int32} {N k many : Nat} {l res : List (Nat × Nat)} (hN : yd_N N) (hk : k < 4) (hm : many < 10) (hM : yw_M a4 a5 l) (hl : l.length < 700) (hres : res.length < 700)
    (H : ∀ a1 a2 a3 a4 a5 a6 a7, yw_M a4 a5 res → J (nI k) (nI N) (nI res.length) (nI res.length) fb a1 a2 a3 a4 a5 a6 a7 a8 a9 a10 a11 a12) :
    ∀ (rest pre nl : List (Nat × Nat)) (a1 a2 a3 a6 a7 : Nat → Int32), yd_all N many k rest nl = some res → l = pre ++ rest → yw_M a6 a7 nl → wX_countFor_47 post J x2 (nI (k + 1)) (nI many) (rest.length + 1) (nI pre.length) (nI N) (nI l.length) (nI nl.length) fb a1 a2 a3 a4 a5 a6 a7 a8 a9 a10 a11 a12
  | [], pre, nl, a1, a2, a3, a6, a7, ha, e, hM' => by
    rw [List.append_nil] at e
    have e2 : nl = res := Option.some.inj ha
    subst e
    subst e2
    exact pk_le l.length l.length (fun _ => yw_cp hM' hres (fun x y hxy => H a1 a2 a3 x y a6 a7 hxy)) (fun z => absurd z (by omega))
  | (c, ct) :: rest, pre, nl, a1, a2, a3, a6, a7, ha, e, hM' => by
    have hlen : pre.length < l.length := by
      rw [e, List.length_append]
      have : ((c, ct) :: rest).length = rest.length + 1 := rfl
      omega
    have hcl := nI_clamp (n := pre.length) (by omega)
    have t := hM pre.length (c, ct) (by rw [e]; exact yd_at)
    have ea : yd_all N many k ((c, ct) :: rest) nl = (match yd_take N c ct many k nl with
      | none => none
      | some nl' => yd_all N many k rest nl') := rfl
    cases htk : yd_take N c ct many k nl with
    | none =>
      rw [ea, htk] at ha
      exact yd_no ha
    | some nl' =>
      rw [ea, htk] at ha
      refine pk_le l.length pre.length (fun z => absurd z (by omega)) (fun _ => ⟨pk_in pre.length 720 (by omega), pk_in pre.length 720 (by omega), yw_tak hN t.2.2 hm hk htk hM' (fun b1 b2 b3 b6 b7 hb => nm_r (nI_1 _) ?_) (by rw [hcl]; exact t.1) (by rw [hcl]; exact t.2.1)⟩)
      have q := yw_47 (post := post) (x2 := x2) hN hk hm hM hl hres H rest (pre ++ [(c, ct)]) nl' b1 b2 b3 b6 b7 ha (by rw [e, List.append_assoc]; rfl) hb
      rw [List.length_append] at q
      exact q
theorem yw_24 {post : Int32 → St2 → Prop} {N w : Nat} {res : List (Nat × Nat)} (hN : yd_N N) (hw : w < 2 ^ 31) (H : ∀ (fl fn fb : Int32) (a1 a2 a3 a4 a5 a6 a7 a8 a9 a10 a11 a12 : Nat → Int32), post (nI (yd_hd res)) (nI N, fl, fn, fb, a1, a2, a3, a4, a5, a6, a7, a8, a9, a10, a11, a12)) :
    ∀ (k : Nat) (l : List (Nat × Nat)) (fn fb : Int32) (a1 a2 a3 a4 a5 a6 a7 a8 a9 a10 a11 a12 : Nat → Int32), k ≤ N → yd_cf N w k l = some res → l.length < 700 → yw_M a4 a5 l → wX_countFor_24 post (nI w) (k + 1) (nI k) (nI N) (nI l.length) fn fb a1 a2 a3 a4 a5 a6 a7 a8 a9 a10 a11 a12
  | 0, l, fn, fb, a1, a2, a3, a4, a5, a6, a7, a8, a9, a10, a11, a12, _, hcf, hl, hM => by
    have e : l = res := Option.some.inj hcf
    subst e
    refine br_t (by decide) ?_
    cases l with
    | nil => exact br_t rfl (H _ _ _ _ _ _ _ _ _ _ _ _ _ _ _)
    | cons p l =>
      have t := hM 0 p rfl
      refine br_f (nI_ne0 (Nat.succ_pos _) (by omega)) ?_
      rw [t.2.1]
      exact H _ _ _ _ _ _ _ _ _ _ _ _ _ _ _
  | k + 1, l, fn, fb, a1, a2, a3, a4, a5, a6, a7, a8, a9, a10, a11, a12, hk, hcf, hl, hM => by
    have h4 := (yd_N_le hN).2
    have ec : yd_cf N w (k + 1) l = (match yd_all N (yd_dg N w k) k l [] with
      | none => none
      | some nl => bif Nat.blt nl.length 700 then yd_cf N w k nl else none) := rfl
    cases hall : yd_all N (yd_dg N w k) k l [] with
    | none =>
      rw [ec, hall] at hcf
      exact yd_no hcf
    | some nl =>
      rw [ec, hall] at hcf
      have hl2 : nl.length < 700 := by
        rcases Nat.lt_or_ge nl.length 700 with z | z
        · exact z
        · have hcf : (bif Nat.blt nl.length 700 then yd_cf N w k nl else none) = some res := hcf
          rw [yd_flt z] at hcf
          exact yd_no hcf
      have hcf : (bif Nat.blt nl.length 700 then yd_cf N w k nl else none) = some res := hcf
      rw [Nat.blt_eq.mpr hl2] at hcf
      refine br_f (nI_nlt (b := 1) (by omega) (by omega)) (yw_dig (r := k) h4 (by omega) hw ⟨l.length + 1, ?_⟩ rfl (nI_pred k))
      exact yw_47 hN (by omega) (yd_dg_lt N w k) hM hl hl2 (fun b1 b2 b3 b4 b5 b6 b7 hb => yw_24 hN hw H k nl _ _ _ _ _ _ _ _ _ _ _ _ _ _ (by omega) hcf hl2 hb) l [] [] a1 a2 a3 a6 a7 hall rfl (fun i p hp => absurd hp (by simp))
theorem yw_cnt {post : Int32 → St2 → Prop} {N a w m : Nat} {p q : Int32} {fl fn fb : Int32} {a1 a2 a3 a4 a5 a6 a7 a8 a9 a10 a11 a12 : Nat → Int32} (hN : yd_N N) (ha : a < 10000) (hw : w < 2 ^ 31) (hm : yd_mu N a w = some m) (H : ∀ (fl fn fb : Int32) (a1 a2 a3 a4 a5 a6 a7 a8 a9 a10 a11 a12 : Nat → Int32), post (nI m) (nI N, fl, fn, fb, a1, a2, a3, a4, a5, a6, a7, a8, a9, a10, a11, a12)) (hp : p = nI a := by rfl) (hq : q = nI w := by rfl) : wpX_countFor post (nI N, fl, fn, fb, a1, a2, a3, a4, a5, a6, a7, a8, a9, a10, a11, a12) p q := by
  subst hp
  subst hq
  unfold yd_mu at hm
  cases hcf : yd_cf N w N [(a, 1)] with
  | none =>
    rw [hcf] at hm
    exact yd_no hm
  | some res =>
    rw [hcf] at hm
    have e : yd_hd res = m := Option.some.inj hm
    subst e
    refine nm_e (nm_e ⟨N + 1, ?_⟩)
    refine yw_24 hN hw H N [(a, 1)] _ _ _ _ _ _ _ _ _ _ _ _ _ _ (Nat.le_refl N) hcf (show 1 < 700 by decide) (fun i p hp => ?_)
    cases i with
    | zero =>
      have hp := (Option.some.inj hp).symm
      subst hp
      exact ⟨rfl, rfl, ha⟩
    | succ i => exact absurd hp (by simp)
theorem yw_mul {post : Int32 → St2 → Prop} {N a w m : Nat} {p q : Int32} {fl fn fb : Int32} {a1 a2 a3 a4 a5 a6 a7 a8 a9 a10 a11 a12 : Nat → Int32} (hN : yd_N N) (ha : yd_Sh N a) (hw : w < 10 ^ N) (hm : yd_mu N a w = some m) (H : ∀ (fl fn fb : Int32) (a1 a2 a3 a4 a5 a6 a7 a8 a9 a10 a11 a12 : Nat → Int32), post (nI m) (nI N, fl, fn, fb, a1, a2, a3, a4, a5, a6, a7, a8, a9, a10, a11, a12)) (hp : p = nI a := by rfl) (hq : q = nI w := by rfl) : wpX_multiplicity post (nI N, fl, fn, fb, a1, a2, a3, a4, a5, a6, a7, a8, a9, a10, a11, a12) p q := by
  subst hp
  subst hq
  have h4 := (yd_N_le hN).2
  have h10 := (yd_p10 (k := N) (by omega)).2
  have h4' : 10 ^ N ≤ 10 ^ 4 := Nat.pow_le_pow_right (by decide) h4
  have ha' : a < 10000 := Nat.lt_of_lt_of_le ha.1 h4'
  unfold wpX_multiplicity
  refine yw_shY hN ha ?_
  refine br_f (by decide) (br_f (nI_pos (by omega)) (yw_pow (k := N) (by omega) ?_))
  exact pk_lt w (10 ^ N) (fun _ => yw_cnt hN ha' (by omega) hm H) (fun z => absurd z (by omega))
end
section
theorem yw_sub1 (x : Int32) : x + (-1) = x - 1 := (Int32.sub_eq_add_neg x 1).symm
theorem yw_prlt {k : Nat} (h : k < 2 ^ 30) : nI k - 1 < nI k := by
  rw [Int32.lt_iff_toInt_lt, show (1 : Int32) = nI 1 from rfl, pk_sub_toInt h (by decide), nI_toInt (by omega)]
  omega
/-- two arrays hold a list of boxes -/
def yw_P (a b : Nat → Int32) (l : List (Nat × Nat)) : Prop := ∀ i p, l[i]? = some p → a i = nI p.1 ∧ b i = nI p.2
theorem yw_P_add {a b : Nat → Int32} {l : List (Nat × Nat)} {c k : Nat} (h : yw_P a b l) : yw_P (upd a l.length (nI c)) (upd b l.length (nI k)) (l ++ [(c, k)]) := by
  intro i p hp
  by_cases e : i = l.length
  · subst e
    rw [yd_at] at hp
    have hp := (Option.some.inj hp).symm
    subst hp
    exact ⟨pk_us, pk_us⟩
  · have hl : i < l.length := by
      have hi := (List.getElem?_eq_some_iff.mp hp).1
      rw [List.length_append] at hi
      have : [(c, k)].length = 1 := rfl
      omega
    rw [List.getElem?_append_left hl] at hp
    have t := h i p hp
    exact ⟨by rw [pk_un e]; exact t.1, by rw [pk_un e]; exact t.2⟩
theorem yd_row_len (r lo : Nat) : ∀ k, (yd_row r lo k).length = k
  | 0 => rfl
  | k + 1 => by
    show (yd_row r lo k).length + 1 = k + 1
    rw [yd_row_len r lo k]
theorem yw_b72 {post : Int32 → St2 → Prop} {J : Int32 → Int32 → (Nat → Int32) → (Nat → Int32) → (Nat → Int32) → (Nat → Int32) → (Nat → Int32) → (Nat → Int32) → (Nat → Int32) → (Nat → Int32) → (Nat → Int32) → (Nat → Int32) → (Nat → Int32) → (Nat → Int32) → Prop} {x1 x3 fl fn : Int32} {a1 a2 a3 a4 a5 a6 a7 a10 a11 a12 : Nat → Int32} {N r lo : Nat} (hlo : lo < 10) :
    ∀ (k : Nat) (pre : List (Nat × Nat)) (a8 a9 : Nat → Int32), yw_P a8 a9 pre → pre.length + k ≤ 9 → (∀ a8 a9, yw_P a8 a9 (pre ++ yd_row r lo k) → J (nI (r + 1)) (nI (pre ++ yd_row r lo k).length) a1 a2 a3 a4 a5 a6 a7 a8 a9 a10 a11 a12) → wX_listBoxes_72 post J x1 x3 (nI r) (nI lo) (nI N) fl fn (k + 1) (nI (lo + k) - 1) (nI pre.length) a1 a2 a3 a4 a5 a6 a7 a8 a9 a10 a11 a12
  | 0, pre, a8, a9, hP, hl, H => by
    have H := H a8 a9 (by rw [show yd_row r lo 0 = [] from rfl, List.append_nil]; exact hP)
    rw [show yd_row r lo 0 = [] from rfl, List.append_nil] at H
    exact br_t (yw_prlt (by omega)) (nm_r (nI_1 r) H)
  | k + 1, pre, a8, a9, hP, hl, H => by
    have hc := nI_clamp (n := pre.length) (by omega)
    have e : nI (lo + (k + 1)) - 1 = nI (lo + k) := nI_pred (lo + k)
    rw [e]
    refine br_f (nI_nlt (by omega) (by omega)) ⟨pk_in pre.length 10 (by omega), nm_r (by rw [hc]) ⟨pk_in pre.length 10 (by omega), nm_r (by rw [hc]) (nm_r (nI_1 _) (nm_r (yw_sub1 _) ?_))⟩⟩
    have q := yw_b72 (post := post) (J := J) (x1 := x1) (x3 := x3) (fl := fl) (fn := fn) (a1 := a1) (a2 := a2) (a3 := a3) (a4 := a4) (a5 := a5) (a6 := a6) (a7 := a7) (a10 := a10) (a11 := a11) (a12 := a12) (N := N) (r := r) hlo k (pre ++ [(r, lo + k)]) _ _ (yw_P_add hP) (by rw [List.length_append]; show pre.length + 1 + k ≤ 9; omega) (fun a8 a9 h => by
      have e2 : pre ++ [(r, lo + k)] ++ yd_row r lo k = pre ++ yd_row r lo (k + 1) := by
        rw [List.append_assoc]
        rfl
      rw [e2] at h ⊢
      exact H a8 a9 h)
    rw [List.length_append] at q
    exact q
theorem yw_b29 {post : Int32 → St2 → Prop} {fl fn : Int32} {a1 a2 a3 a4 a5 a6 a7 a10 a11 a12 : Nat → Int32} {N a v : Nat} (hN : N ≤ 4) (ha : a < 2 ^ 31) (hv : v < 2 ^ 31) (h9 : yd_sz N v ≤ 9) :
    ∀ (k r : Nat) (pre : List (Nat × Nat)) (a8 a9 : Nat → Int32), r + k = N → yw_P a8 a9 pre → pre.length ≤ yd_sum (yd_dg N v) r →
      (yd_bx N a v k r = none → ∀ fb a8 a9, post 0 (nI N, fl, fn, fb, a1, a2, a3, a4, a5, a6, a7, a8, a9, a10, a11, a12)) → (∀ l, yd_bx N a v k r = some l → ∀ a8 a9, (pre ++ l).length ≤ 9 → yw_P a8 a9 (pre ++ l) → post 1 (nI N, fl, fn, nI (pre ++ l).length, a1, a2, a3, a4, a5, a6, a7, a8, a9, a10, a11, a12)) → wX_listBoxes_29 post (nI a) (nI v) (nI N) fl fn (k + 1) (nI r) (nI pre.length) a1 a2 a3 a4 a5 a6 a7 a8 a9 a10 a11 a12
  | 0, r, pre, a8, a9, e, hP, hl, Hn, Hs => by
    have hm := yd_sum_mono (yd_dg N v) (j := r) (k := N) (by omega)
    have e1 : yd_sum (yd_dg N v) N = yd_sz N v := rfl
    have H := Hs [] rfl a8 a9 (by rw [List.append_nil]; omega) (by rw [List.append_nil]; exact hP)
    rw [List.append_nil] at H
    exact pk_le N r (fun _ => H) (fun z => absurd z (by omega))
  | k + 1, r, pre, a8, a9, e, hP, hl, Hn, Hs => by
    have hr : r < N := by omega
    have d1 := yd_dg_lt N a r
    have d2 := yd_dg_lt N v r
    have hm := yd_sum_mono (yd_dg N v) (j := r + 1) (k := N) (by omega)
    have e1 : yd_sum (yd_dg N v) N = yd_sz N v := rfl
    have e2 : yd_sum (yd_dg N v) (r + 1) = yd_sum (yd_dg N v) r + yd_dg N v r := rfl
    have eb : yd_bx N a v (k + 1) r = (bif Nat.ble (yd_dg N a r) (yd_dg N v r) then
      (match yd_bx N a v k (r + 1) with
        | none => none
        | some l => some (yd_row r (yd_dg N a r) (yd_dg N v r - yd_dg N a r) ++ l))
    else none) := rfl
    refine pk_le N r (fun z => absurd z (by omega)) (fun _ => yw_dig hN hr ha (yw_dig hN hr hv (pk_le (yd_dg N a r) (yd_dg N v r) (fun z => yw_dig hN hr hv (nm_e ⟨yd_dg N v r - yd_dg N a r + 1, ?_⟩)) (fun z => Hn ?_ _ _ _))))
    · have e3 : yd_dg N a r + (yd_dg N v r - yd_dg N a r) = yd_dg N v r := by omega
      have q := yw_b72 (post := post) (J := wX_listBoxes_29 post (nI a) (nI v) (nI N) fl fn (k + 1)) (x1 := nI a) (x3 := nI v) (fl := fl) (fn := fn) (a1 := a1) (a2 := a2) (a3 := a3) (a4 := a4) (a5 := a5) (a6 := a6) (a7 := a7) (a10 := a10) (a11 := a11) (a12 := a12) (N := N) (r := r) (lo := yd_dg N a r) d1 (yd_dg N v r - yd_dg N a r) pre a8 a9 hP (by omega) (fun b8 b9 hb => ?_)
      · rw [e3] at q
        exact q
      · refine yw_b29 hN ha hv h9 k (r + 1) _ b8 b9 (by omega) hb (by rw [List.length_append, yd_row_len]; omega) (fun hn => Hn ?_) (fun l hs => ?_)
        · rw [eb, Nat.ble_eq.mpr z, hn]
          rfl
        · have t := Hs (yd_row r (yd_dg N a r) (yd_dg N v r - yd_dg N a r) ++ l) (by rw [eb, Nat.ble_eq.mpr z, hs]; rfl)
          rw [← List.append_assoc] at t
          exact t
    · have hf : Nat.ble (yd_dg N a r) (yd_dg N v r) = false := by
        cases hq : Nat.ble (yd_dg N a r) (yd_dg N v r) with
        | false => rfl
        | true => exact absurd (Nat.ble_eq.mp hq) (by omega)
      rw [eb, hf]
      rfl
theorem yw_lb {post : Int32 → St2 → Prop} {N a b v : Nat} {p q r : Int32} {fl fn fb : Int32} {a1 a2 a3 a4 a5 a6 a7 a8 a9 a10 a11 a12 : Nat → Int32} (hN : N ≤ 4) (ha : a < 2 ^ 31) (hb : b < 2 ^ 31) (hv : v < 2 ^ 31) (h9 : yd_sz N v ≤ 9)
    (Hm : yd_sz N a + yd_sz N b ≠ yd_sz N v → post 0 (nI N, fl, fn, fb, a1, a2, a3, a4, a5, a6, a7, a8, a9, a10, a11, a12))
    (Hn : yd_sz N a + yd_sz N b = yd_sz N v → yd_bx N a v N 0 = none → ∀ fb a8 a9, post 0 (nI N, fl, fn, fb, a1, a2, a3, a4, a5, a6, a7, a8, a9, a10, a11, a12))
    (Hs : ∀ l, yd_sz N a + yd_sz N b = yd_sz N v → yd_bx N a v N 0 = some l → ∀ a8 a9, l.length ≤ 9 → yw_P a8 a9 l → post 1 (nI N, fl, fn, nI l.length, a1, a2, a3, a4, a5, a6, a7, a8, a9, a10, a11, a12)) (hp : p = nI a := by rfl) (hq : q = nI b := by rfl) (hr : r = nI v := by rfl) : wpX_listBoxes post (nI N, fl, fn, fb, a1, a2, a3, a4, a5, a6, a7, a8, a9, a10, a11, a12) p q r := by
  subst hp
  subst hq
  subst hr
  have s1 := yd_sz_le (c := a) hN
  have s2 := yd_sz_le (c := b) hN
  unfold wpX_listBoxes
  refine yw_siz hN ha (yw_siz hN hb (yw_siz hN hv (pk_eq (yd_sz N a + yd_sz N b) (yd_sz N v) (fun z => ⟨N + 1, ?_⟩) (fun z => Hm z) (nI_add _ _))))
  exact yw_b29 hN ha hv h9 N 0 [] a8 a9 (by omega) (fun i p hp => absurd hp (by simp)) (Nat.zero_le _) (Hn z) (fun l hl => Hs l z hl)
theorem yd_row_in {r lo : Nat} : ∀ {k : Nat} {p : Nat × Nat}, p ∈ yd_row r lo k → p.1 = r ∧ p.2 < lo + k
  | 0, p, h => absurd h List.not_mem_nil
  | k + 1, p, h => by
    have h : p ∈ (r, lo + k) :: yd_row r lo k := h
    rcases List.mem_cons.mp h with e | e
    · subst e
      exact ⟨rfl, by show lo + k < lo + (k + 1); omega⟩
    · have t := yd_row_in e
      exact ⟨t.1, by omega⟩
/-- no two boxes at one place -/
def yd_df (l : List (Nat × Nat)) : Prop := l.Pairwise (fun p q => 10 * p.1 + p.2 ≠ 10 * q.1 + q.2)
theorem yd_row_df (r lo : Nat) : ∀ k, yd_df (yd_row r lo k)
  | 0 => List.Pairwise.nil
  | k + 1 => List.Pairwise.cons (fun q hq => by
      have t := yd_row_in hq
      show 10 * r + (lo + k) ≠ 10 * q.1 + q.2
      omega) (yd_row_df r lo k)
theorem yd_bx_ok {N a v : Nat} : ∀ {k r : Nat} {l : List (Nat × Nat)}, yd_bx N a v k r = some l → (∀ p, p ∈ l → r ≤ p.1 ∧ p.1 < r + k ∧ p.2 < 9) ∧ yd_df l
  | 0, r, l, h => by
    have e : [] = l := Option.some.inj h
    subst e
    exact ⟨fun p hp => absurd hp List.not_mem_nil, List.Pairwise.nil⟩
  | k + 1, r, l, h => by
    have eb : yd_bx N a v (k + 1) r = (bif Nat.ble (yd_dg N a r) (yd_dg N v r) then
      (match yd_bx N a v k (r + 1) with
        | none => none
        | some l => some (yd_row r (yd_dg N a r) (yd_dg N v r - yd_dg N a r) ++ l))
    else none) := rfl
    rw [eb] at h
    cases hb : Nat.ble (yd_dg N a r) (yd_dg N v r) with
    | false =>
      rw [hb] at h
      exact yd_no h
    | true =>
      rw [hb] at h
      have hle := Nat.ble_eq.mp hb
      cases hk : yd_bx N a v k (r + 1) with
      | none =>
        rw [hk] at h
        exact yd_no h
      | some l' =>
        rw [hk] at h
        have e : yd_row r (yd_dg N a r) (yd_dg N v r - yd_dg N a r) ++ l' = l := Option.some.inj h
        subst e
        have ih := yd_bx_ok hk
        have d := yd_dg_lt N v r
        constructor
        · intro p hp
          rcases List.mem_append.mp hp with y | y
          · have t := yd_row_in y
            exact ⟨by omega, by omega, by omega⟩
          · have t := ih.1 p y
            exact ⟨by omega, by omega, t.2.2⟩
        · refine List.pairwise_append.mpr ⟨yd_row_df _ _ _, ih.2, fun p hp q hq => ?_⟩
          have t1 := yd_row_in hp
          have t2 := ih.1 q hq
          omega
end
section
def yw_b (b : Bool) : Int32 := bif b then 1 else 0
/-- the counts of the letters used, and the grid -/
def yw_U (u : Nat → Int32) (U : Nat → Nat) : Prop := ∀ i, i < 5 → u i = nI (U i)
def yw_G (g : Nat → Int32) (G : Nat → Nat) : Prop := ∀ i, i < 40 → g i = nI (G i)
theorem yw_160 {post : Int32 → Prop} {J : Int32 → Prop} {x2 x5 : Int32} {N ab y : Nat} {i ro o : Bool} {fl fn fb : Int32} {a1 a2 a3 a4 a5 a6 a7 a8 a9 a10 a11 a12 : Nat → Int32} (hy : y < 2 ^ 30) (hab : ab < 2 ^ 30) (hT : (i && (Nat.blt ab y && (ro && o))) = true → post (nI y)) (hF : (i && (Nat.blt ab y && (ro && o))) = false → J (nI (y + 1))) : wX_nextLetter_160 post J x2 x5 (nI ab) (nI y) (yw_b i) (yw_b ro) (yw_b o) (nI N) fl fn fb a1 a2 a3 a4 a5 a6 a7 a8 a9 a10 a11 a12 := by
  cases i
  · exact br_t rfl (nm_r (nI_1 y) (hF rfl))
  · refine br_f (by decide) (pk_le y ab (fun z => nm_r (nI_1 y) (hF (by rw [yd_flt z]; rfl))) (fun z => ?_))
    rw [Nat.blt_eq.mpr z] at hT hF
    cases ro
    · exact br_t rfl (nm_r (nI_1 y) (hF rfl))
    · refine br_f (by decide) ?_
      cases o
      · exact br_t rfl (nm_r (nI_1 y) (hF rfl))
      · exact br_f (by decide) (hT rfl)
theorem yw_128 {post : Int32 → Prop} {J : Int32 → Prop} {x2 x5 : Int32} {N ab y : Nat} {i ro : Bool} {U : Nat → Nat} {fl fn fb : Int32} {a1 a2 a3 a4 a5 a6 a7 a8 a9 a10 a11 a12 : Nat → Int32} (hy0 : 1 ≤ y) (hy : y < 5) (hab : ab < 2 ^ 30) (hU : yw_U a11 U) (hb : ∀ j, U j < 2 ^ 30)
    (hT : (i && (Nat.blt ab y && (ro && (Nat.beq y 1 || Nat.blt (U y) (U (y - 1)))))) = true → post (nI y)) (hF : (i && (Nat.blt ab y && (ro && (Nat.beq y 1 || Nat.blt (U y) (U (y - 1)))))) = false → J (nI (y + 1))) : wX_nextLetter_128 post J x2 x5 (nI ab) (nI y) (yw_b i) (yw_b ro) (nI N) fl fn fb a1 a2 a3 a4 a5 a6 a7 a8 a9 a10 a11 a12 := by
  have e1 : nI y - 1 = nI (y - 1) := by
    rw [show (1 : Int32) = nI 1 from rfl, pk_sub hy0]
  have c1 := nI_clamp (n := y) (by omega)
  have c2 := nI_clamp (n := y - 1) (by omega)
  have b1 := hb y
  have b2 := hb (y - 1)
  refine pk_eq y 1 (fun z => ?_) (fun z => ⟨pk_in y 5 hy, pk_in (y - 1) 5 (by omega) e1, ?_⟩)
  · rw [yd_tb z] at hT hF
    exact yw_160 (o := true) (by omega) hab hT hF
  · rw [yd_fb z] at hT hF
    refine pk_le (U (y - 1)) (U y) (fun w => ?_) (fun w => ?_) (by rw [e1, c2]; exact hU _ (by omega)) (by rw [c1]; exact hU _ hy)
    · rw [yd_flt w] at hT hF
      exact yw_160 (o := false) (by omega) hab hT hF
    · rw [Nat.blt_eq.mpr w] at hT hF
      exact yw_160 (o := true) (by omega) hab hT hF
theorem yw_102 {post : Int32 → Prop} {J : Int32 → Prop} {x5 : Int32} {N b ab y : Nat} {i : Bool} {U : Nat → Nat} {fl fn fb : Int32} {a1 a2 a3 a4 a5 a6 a7 a8 a9 a10 a11 a12 : Nat → Int32} (hN : N ≤ 4) (hbb : b < 2 ^ 31) (hy0 : 1 ≤ y) (hy : y ≤ N) (hab : ab < 2 ^ 30) (hU : yw_U a11 U) (hb : ∀ j, U j < 2 ^ 30)
    (hT : (i && (Nat.blt ab y && (Nat.blt (U y) (yd_dg N b (y - 1)) && (Nat.beq y 1 || Nat.blt (U y) (U (y - 1)))))) = true → post (nI y)) (hF : (i && (Nat.blt ab y && (Nat.blt (U y) (yd_dg N b (y - 1)) && (Nat.beq y 1 || Nat.blt (U y) (U (y - 1)))))) = false → J (nI (y + 1))) : wX_nextLetter_102 post J (nI b) x5 (nI ab) (nI y) (yw_b i) (nI N) fl fn fb a1 a2 a3 a4 a5 a6 a7 a8 a9 a10 a11 a12 := by
  have e1 : nI y - 1 = nI (y - 1) := by
    rw [show (1 : Int32) = nI 1 from rfl, pk_sub hy0]
  have c1 := nI_clamp (n := y) (by omega)
  have b1 := hb y
  have d1 := yd_dg_lt N b (y - 1)
  refine ⟨pk_in y 5 (by omega), yw_dig (r := y - 1) hN (by omega) hbb (pk_le (yd_dg N b (y - 1)) (U y) (fun w => ?_) (fun w => ?_) rfl (by rw [c1]; exact hU _ (by omega))) rfl e1⟩
  · rw [yd_flt w] at hT hF
    exact yw_128 (ro := false) hy0 (by omega) hab hU hb hT hF
  · rw [Nat.blt_eq.mpr w] at hT hF
    exact yw_128 (ro := true) hy0 (by omega) hab hU hb hT hF
theorem yw_76S {post : Int32 → Prop} {N b rt ab y n : Nat} {U : Nat → Nat} {fl fn fb : Int32} {a1 a2 a3 a4 a5 a6 a7 a8 a9 a10 a11 a12 : Nat → Int32} (hN : N ≤ 4) (hbb : b < 2 ^ 31) (hy0 : 1 ≤ y) (hy : y ≤ N) (hrt : rt < 2 ^ 30) (hab : ab < 2 ^ 30) (hU : yw_U a11 U) (hb : ∀ j, U j < 2 ^ 30)
    (hT : yd_ok (yd_dg N b) U rt ab y = true → post (nI y)) (hF : yd_ok (yd_dg N b) U rt ab y = false → wX_nextLetter_76 post (nI b) (nI rt) (nI ab) (nI N) fl fn fb a1 a2 a3 a4 a5 a6 a7 a8 a9 a10 a11 a12 n (nI (y + 1))) : wX_nextLetter_76 post (nI b) (nI rt) (nI ab) (nI N) fl fn fb a1 a2 a3 a4 a5 a6 a7 a8 a9 a10 a11 a12 (n + 1) (nI y) := by
  unfold yd_ok at hT hF
  refine pk_lt N y (fun z => absurd z (by omega)) (fun _ => pk_eq rt 0 (fun z => ?_) (fun z => pk_lt rt y (fun w => ?_) (fun w => ?_)))
  · rw [yd_tb z] at hT hF
    exact yw_102 (i := true) hN hbb hy0 hy hab hU hb hT hF
  · have e : Nat.ble y rt = false := by
      cases hq : Nat.ble y rt with
      | false => rfl
      | true => exact absurd (Nat.ble_eq.mp hq) (by omega)
    rw [yd_fb z, e] at hT hF
    exact yw_102 (i := false) hN hbb hy0 hy hab hU hb hT hF
  · rw [yd_fb z, Nat.ble_eq.mpr w] at hT hF
    exact yw_102 (i := true) hN hbb hy0 hy hab hU hb hT hF
theorem yw_76 {post : Int32 → Prop} {N b rt ab : Nat} {U : Nat → Nat} {fl fn fb : Int32} {a1 a2 a3 a4 a5 a6 a7 a8 a9 a10 a11 a12 : Nat → Int32} (hN : N ≤ 4) (hbb : b < 2 ^ 31) (hrt : rt < 2 ^ 30) (hab : ab < 2 ^ 30) (hU : yw_U a11 U) (hb : ∀ j, U j < 2 ^ 30) :
    ∀ k y, y + k = N + 1 → 1 ≤ y → post (nI (yd_nx (yd_ok (yd_dg N b) U rt ab) k y)) → wX_nextLetter_76 post (nI b) (nI rt) (nI ab) (nI N) fl fn fb a1 a2 a3 a4 a5 a6 a7 a8 a9 a10 a11 a12 (k + 1) (nI y)
  | 0, y, e, hy, h => pk_lt N y (fun _ => h) (fun z => absurd z (by omega))
  | k + 1, y, e, hy, h => by
    have e1 : yd_nx (yd_ok (yd_dg N b) U rt ab) (k + 1) y = (bif yd_ok (yd_dg N b) U rt ab y then y else yd_nx (yd_ok (yd_dg N b) U rt ab) k (y + 1)) := rfl
    rw [e1] at h
    refine yw_76S hN hbb hy (by omega) hrt hab hU hb (fun z => ?_) (fun z => yw_76 hN hbb hrt hab hU hb k (y + 1) (by omega) (by omega) ?_)
    · rw [z] at h
      exact h
    · rw [z] at h
      exact h
theorem yw_64 {post : Int32 → Prop} {N b rt ab x k : Nat} {U : Nat → Nat} {fl fn fb : Int32} {a1 a2 a3 a4 a5 a6 a7 a8 a9 a10 a11 a12 : Nat → Int32} (hN : N ≤ 4) (hbb : b < 2 ^ 31) (hrt : rt < 2 ^ 30) (hab : ab < 2 ^ 30) (hU : yw_U a11 U) (hb : ∀ j, U j < 2 ^ 30) (hk : k < 10) (hx : x ≤ N) (hl : a10 k = nI x)
    (h : post (nI (yd_nx (yd_ok (yd_dg N b) U rt ab) (N - x) (x + 1)))) : wX_nextLetter_64 post (nI k) (nI b) (nI rt) (nI ab) (nI N) fl fn fb a1 a2 a3 a4 a5 a6 a7 a8 a9 a10 a11 a12 :=
  ⟨pk_in k 10 hk, nm_r (by rw [nI_clamp (by omega), hl, nI_1]) ⟨N - x + 1, yw_76 hN hbb hrt hab hU hb (N - x) (x + 1) (by omega) (by omega) h⟩⟩
theorem yw_nl {post : Int32 → Prop} {N b r c x k : Nat} {U G : Nat → Nat} {p q : Int32} {fl fn fb : Int32} {a1 a2 a3 a4 a5 a6 a7 a8 a9 a10 a11 a12 : Nat → Int32} (hN : N ≤ 4) (hbb : b < 2 ^ 31) (hU : yw_U a11 U) (hG : yw_G a12 G) (hb : ∀ j, U j < 2 ^ 30) (hg : ∀ j, G j < 2 ^ 30) (hk : k < 10) (hx : x ≤ N) (hl : a10 k = nI x) (h8 : a8 k = nI r) (h9 : a9 k = nI c) (hr : r < 4) (hc : c < 9)
    (h : post (nI (yd_nx (yd_ok (yd_dg N b) U (yd_rt G r c) (yd_ab G r c)) (N - x) (x + 1)))) (hp : p = nI k := by rfl) (hq : q = nI b := by rfl) : wpX_nextLetter post (nI N, fl, fn, fb, a1, a2, a3, a4, a5, a6, a7, a8, a9, a10, a11, a12) p q := by
  subst hp
  subst hq
  have ck := nI_clamp (n := k) (by omega)
  refine ⟨pk_in k 10 hk, nm_r (e' := nI r) (by rw [ck, h8]) ⟨pk_in k 10 hk, nm_r (e' := nI c) (by rw [ck, h9]) (pk_le 9 c (fun z => absurd z (by omega)) (fun _ => ?_))⟩⟩
  have e1 : 10 * nI r + nI c + 1 = nI (10 * r + c + 1) := by
    rw [show (10 : Int32) = nI 10 from rfl, pk_mul, nI_add, nI_1]
  have hrt := hg (10 * r + c + 1)
  refine ⟨pk_in (10 * r + c + 1) 40 (by omega) e1, ?_⟩
  have e2 : a12 (10 * nI r + nI c + 1).toNatClampNeg = nI (yd_rt G r c) := by
    rw [e1, nI_clamp (by omega)]
    exact hG _ (by omega)
  rw [e2]
  refine pk_le r 0 (fun z => ?_) (fun z => ?_)
  · have e3 : yd_ab G r c = 0 := by
      unfold yd_ab
      rw [yd_tb (show r = 0 by omega)]
      rfl
    rw [e3] at h
    exact yw_64 hN hbb hrt (by decide) hU hb hk hx hl h
  · have e3 : yd_ab G r c = G (10 * (r - 1) + c) := by
      unfold yd_ab
      rw [yd_fb (show r ≠ 0 by omega)]
      rfl
    have e4 : 10 * (nI r - 1) + nI c = nI (10 * (r - 1) + c) := by
      rw [show (10 : Int32) = nI 10 from rfl, show (1 : Int32) = nI 1 from rfl, pk_sub (by omega), pk_mul, nI_add]
    refine ⟨pk_in (10 * (r - 1) + c) 40 (by omega) e4, ?_⟩
    rw [e3] at h
    rw [e4, nI_clamp (by omega), hG _ (show 10 * (r - 1) + c < 40 by omega)]
    exact yw_64 hN hbb hrt (hg _) hU hb hk hx hl h
end
section
theorem yd_nx_0 {p : Nat → Bool} {F : Nat → Nat} : ∀ k x, 1 ≤ x → yd_nx p k x = 0 → yd_sx p F k x = 0
  | 0, x, _, _ => rfl
  | k + 1, x, hx, h => by
    have e1 : yd_nx p (k + 1) x = (bif p x then x else yd_nx p k (x + 1)) := rfl
    have e2 : yd_sx p F (k + 1) x = (bif p x then F x else 0) + yd_sx p F k (x + 1) := rfl
    rw [e1] at h
    rw [e2]
    cases hp : p x with
    | true =>
      rw [hp] at h
      have h : x = 0 := h
      omega
    | false =>
      rw [hp] at h
      rw [yd_nx_0 k (x + 1) (by omega) h]
      rfl
theorem yd_nx_s {p : Nat → Bool} {F : Nat → Nat} : ∀ k x, 1 ≤ x → yd_nx p k x ≠ 0 → x ≤ yd_nx p k x ∧ yd_nx p k x < x + k ∧ yd_sx p F k x = F (yd_nx p k x) + yd_sx p F (x + k - 1 - yd_nx p k x) (yd_nx p k x + 1)
  | 0, x, _, h => absurd rfl h
  | k + 1, x, hx, h => by
    have e1 : yd_nx p (k + 1) x = (bif p x then x else yd_nx p k (x + 1)) := rfl
    have e2 : yd_sx p F (k + 1) x = (bif p x then F x else 0) + yd_sx p F k (x + 1) := rfl
    cases hp : p x with
    | true =>
      have e3 : yd_nx p (k + 1) x = x := by
        rw [e1, hp]
        rfl
      rw [e3, e2, hp, show x + (k + 1) - 1 - x = k by omega]
      exact ⟨Nat.le_refl x, by omega, rfl⟩
    | false =>
      have e3 : yd_nx p (k + 1) x = yd_nx p k (x + 1) := by
        rw [e1, hp]
        rfl
      rw [e3] at h ⊢
      have t := yd_nx_s (F := F) k (x + 1) (by omega) h
      rw [e2, hp]
      refine ⟨by omega, by omega, ?_⟩
      have e4 : x + 1 + k - 1 - yd_nx p k (x + 1) = x + (k + 1) - 1 - yd_nx p k (x + 1) := by omega
      rw [← e4, ← t.2.2]
      exact Nat.zero_add _
theorem yd_up_s {f : Nat → Nat} {k x : Nat} : yd_up f k x k = x := by
  unfold yd_up
  rw [Nat.beq_refl]
  rfl
theorem yd_up_n {f : Nat → Nat} {k x j : Nat} (h : j ≠ k) : yd_up f k x j = f j := by
  unfold yd_up
  rw [yd_fb h]
  rfl
theorem yd_up_b {f : Nat → Nat} {k x B : Nat} (hf : ∀ j, f j ≤ B) (hx : x ≤ B) : ∀ j, yd_up f k x j ≤ B := by
  intro j
  by_cases e : j = k
  · rw [e, yd_up_s]
    exact hx
  · rw [yd_up_n e]
    exact hf j
/-- a letter is put: counts and grid -/
theorem yw_U_add {u : Nat → Int32} {U : Nat → Nat} {y : Nat} (hy : y < 5) (h : yw_U u U) : yw_U (upd u y (u y + 1)) (yd_up U y (U y + 1)) := by
  intro i hi
  by_cases e : i = y
  · rw [e, pk_us, yd_up_s, h y hy, nI_1]
  · rw [pk_un e, yd_up_n e]
    exact h i hi
theorem yw_U_rem {u : Nat → Int32} {U : Nat → Nat} {y : Nat} (hy : y < 5) (h : yw_U u (yd_up U y (U y + 1))) : yw_U (upd u y (u y - 1)) U := by
  intro i hi
  by_cases e : i = y
  · rw [e, pk_us, h y hy, yd_up_s, nI_pred]
  · rw [pk_un e, h i hi, yd_up_n e]
theorem yw_G_add {g : Nat → Int32} {G : Nat → Nat} {p y : Nat} (h : yw_G g G) : yw_G (upd g p (nI y)) (yd_up G p y) := by
  intro i hi
  by_cases e : i = p
  · rw [e, pk_us, yd_up_s]
  · rw [pk_un e, yd_up_n e]
    exact h i hi
theorem yw_G_rem {g : Nat → Int32} {G : Nat → Nat} {p y : Nat} (h0 : G p = 0) (h : yw_G g (yd_up G p y)) : yw_G (upd g p 0) G := by
  intro i hi
  by_cases e : i = p
  · rw [e, pk_us, h0]
    rfl
  · rw [pk_un e, h i hi, yd_up_n e]
/-- one turn of the search behind the removal of the last letter -/
theorem yw_149 {post : Int32 → St2 → Prop} {J : Int32 → Int32 → (Nat → Int32) → (Nat → Int32) → (Nat → Int32) → (Nat → Int32) → (Nat → Int32) → (Nat → Int32) → (Nat → Int32) → (Nat → Int32) → (Nat → Int32) → (Nat → Int32) → (Nat → Int32) → (Nat → Int32) → Prop} {N b r c x k : Nat} {U G : Nat → Nat} {x4 x6 : Int32} {fl fn fb : Int32} {a1 a2 a3 a4 a5 a6 a7 a8 a9 a10 a11 a12 : Nat → Int32} (hN : N ≤ 4) (hbb : b < 2 ^ 31) (hU : yw_U a11 U) (hG : yw_G a12 G) (hb : ∀ j, U j < 2 ^ 30) (hg : ∀ j, G j < 2 ^ 30) (hk : k < 9) (hx : x ≤ N) (hl : a10 k = nI x) (h8 : a8 k = nI r) (h9 : a9 k = nI c) (hr : r < 4) (hc : c < 9) (h6 : x6 = nI (10 * r + c))
    (h0 : yd_nx (yd_ok (yd_dg N b) U (yd_rt G r c) (yd_ab G r c)) (N - x) (x + 1) = 0 → J x4 (nI k + (-1)) a1 a2 a3 a4 a5 a6 a7 a8 a9 (upd a10 k 0) a11 a12)
    (h1 : ∀ y, yd_nx (yd_ok (yd_dg N b) U (yd_rt G r c) (yd_ab G r c)) (N - x) (x + 1) = y → y ≠ 0 → J x4 (nI (k + 1)) a1 a2 a3 a4 a5 a6 a7 a8 a9 (upd (upd a10 k (nI y)) (k + 1) 0) (upd a11 y (a11 y + 1)) (upd a12 (10 * r + c) (nI y))) : wX_shareOf_149 post J (nI b) x4 (nI k) x6 (nI N) fl fn fb a1 a2 a3 a4 a5 a6 a7 a8 a9 a10 a11 a12 := by
  subst h6
  have ck := nI_clamp (n := k) (by omega)
  unfold wX_shareOf_149
  refine yw_nl hN hbb hU hG hb hg (show k < 10 by omega) hx hl h8 h9 hr hc ?_
  generalize hy : yd_nx (yd_ok (yd_dg N b) U (yd_rt G r c) (yd_ab G r c)) (N - x) (x + 1) = y
  by_cases e : y = 0
  · subst e
    exact ⟨pk_in k 10 (by omega), nm_r (e' := upd a10 k 0) (by rw [ck]; rfl) (br_t rfl (nm_e (h0 hy)))⟩
  · have hs := (yd_nx_s (F := fun _ => 0) (N - x) (x + 1) (by omega) (by rw [hy]; exact e))
    rw [hy] at hs
    have hy5 : y < 5 := by omega
    have cy := nI_clamp (n := y) (by omega)
    have cp := nI_clamp (n := 10 * r + c) (by omega)
    have ck1 := nI_clamp (n := k + 1) (by omega)
    refine ⟨pk_in k 10 (by omega), nm_r (e' := upd a10 k (nI y)) (by rw [ck]) (br_f (nI_ne0 (by omega) (by omega)) ⟨pk_in y 5 hy5, pk_in y 5 hy5, nm_r (e' := upd a11 y (a11 y + 1)) (by rw [cy]) ⟨pk_in (10 * r + c) 40 (by omega), nm_r (e' := upd a12 (10 * r + c) (nI y)) (by rw [cp]) (nm_r (nI_1 k) (br_f (nI_ge (b := 10) (by omega) (by decide)) ⟨pk_in (k + 1) 10 (by omega), nm_r (by rw [ck1]) (h1 y hy e)⟩))⟩⟩)⟩
/-- the search from one box on -/
theorem yw_S {post : Int32 → St2 → Prop} {N b : Nat} {fl fn : Int32} {a1 a2 a3 a4 a5 a6 a7 a8 a9 : Nat → Int32} {all : List (Nat × Nat)} (hN : N ≤ 4) (hbb : b < 2 ^ 31) (hP : yw_P a8 a9 all) (h9 : all.length ≤ 9) :
    ∀ (rest pre : List (Nat × Nat)) (U G : Nat → Nat) (x4 : Int32) (a10 a11 a12 : Nat → Int32), all = pre ++ rest → (∀ p, p ∈ rest → p.1 < 4 ∧ p.2 < 9) → yd_df rest → a10 pre.length = 0 → yw_U a11 U → yw_G a12 G → (∀ j, U j ≤ pre.length) → (∀ j, G j ≤ 4) → (∀ p, p ∈ rest → G (10 * p.1 + p.2) = 0) →
      (∀ l u g, (∀ j, j < pre.length → l j = a10 j) → yw_U u U → yw_G g G → ∃ n, wX_shareOf_72 post (nI b) (nI N) fl fn (nI all.length) n (x4 + nI (yd_cnt N (yd_dg N b) rest U G)) (nI pre.length + (-1)) a1 a2 a3 a4 a5 a6 a7 a8 a9 l u g) →
      ∃ n, wX_shareOf_72 post (nI b) (nI N) fl fn (nI all.length) n x4 (nI pre.length) a1 a2 a3 a4 a5 a6 a7 a8 a9 a10 a11 a12
  | [], pre, U, G, x4, a10, a11, a12, e, _, _, hl0, hU, hG, _, _, _, K => by
    rw [List.append_nil] at e
    obtain ⟨n, hn⟩ := K a10 a11 a12 (fun _ _ => rfl) hU hG
    exact ⟨n + 1, br_f (nI_pos (by rw [← e]; omega)) (br_t (by rw [e]) (nm_e (nm_e hn)))⟩
  | (r, c) :: bs, pre, U, G, x4, a10, a11, a12, e, hbx, hdf, hl0, hU, hG, hUb, hGb, hG0, K => by
    have hlen : pre.length < all.length := by
      rw [e, List.length_append]
      have : ((r, c) :: bs).length = bs.length + 1 := rfl
      omega
    have hP1 := hP pre.length (r, c) (by rw [e]; exact yd_at)
    have hrc := hbx (r, c) List.mem_cons_self
    have hr : r < 4 := hrc.1
    have hc : c < 9 := hrc.2
    have hp0 : G (10 * r + c) = 0 := hG0 (r, c) List.mem_cons_self
    have hdf1 := List.pairwise_cons.mp hdf
    have ck := nI_clamp (n := pre.length) (by omega)
    have cp := nI_clamp (n := 10 * r + c) (by omega)
    have ep : 10 * nI r + nI c = nI (10 * r + c) := by
      rw [show (10 : Int32) = nI 10 from rfl, pk_mul, nI_add]
    have hUb' : ∀ j, U j < 2 ^ 30 := fun j => by have := hUb j; omega
    have hGb' : ∀ j, G j < 2 ^ 30 := fun j => by have := hGb j; omega
    have ecnt : yd_cnt N (yd_dg N b) ((r, c) :: bs) U G = yd_sx (yd_ok (yd_dg N b) U (yd_rt G r c) (yd_ab G r c)) (fun x => yd_cnt N (yd_dg N b) bs (yd_up U x (U x + 1)) (yd_up G (10 * r + c) x)) N 1 := rfl
    rw [ecnt] at K
    generalize hp : yd_ok (yd_dg N b) U (yd_rt G r c) (yd_ab G r c) = p at K
    generalize hF : (fun x => yd_cnt N (yd_dg N b) bs (yd_up U x (U x + 1)) (yd_up G (10 * r + c) x)) = F at K
    have inner : ∀ (j x : Nat) (x4 : Int32) (l u g : Nat → Int32), x + j = N → l pre.length = nI x → (∀ i, i < pre.length → l i = a10 i) →
        ((x = 0 ∧ yw_U u U ∧ yw_G g G) ∨ (0 < x ∧ yw_U u (yd_up U x (U x + 1)) ∧ yw_G g (yd_up G (10 * r + c) x))) →
        (∀ l' u' g', (∀ i, i < pre.length → l' i = a10 i) → yw_U u' U → yw_G g' G → ∃ n, wX_shareOf_72 post (nI b) (nI N) fl fn (nI all.length) n (x4 + nI (yd_sx p F j (x + 1))) (nI pre.length + (-1)) a1 a2 a3 a4 a5 a6 a7 a8 a9 l' u' g') →
        ∃ n, wX_shareOf_72 post (nI b) (nI N) fl fn (nI all.length) n x4 (nI pre.length) a1 a2 a3 a4 a5 a6 a7 a8 a9 l u g := by
      intro j
      induction j using Nat.strongRecOn with
      | _ j ih =>
        intro x x4 l u g hxj hlx hli hst K'
        -- behind the removal
        have go : ∀ u1 g1, yw_U u1 U → yw_G g1 G → ∃ n, wX_shareOf_149 post (wX_shareOf_72 post (nI b) (nI N) fl fn (nI all.length) n) (nI b) x4 (nI pre.length) (10 * nI r + nI c) (nI N) fl fn (nI all.length) a1 a2 a3 a4 a5 a6 a7 a8 a9 l u1 g1 := by
          intro u1 g1 hu1 hg1
          have hNx : N - x = j := by omega
          by_cases ey : yd_nx p j (x + 1) = 0
          · obtain ⟨n, hn⟩ := K' (upd l pre.length 0) u1 g1 (fun i hi => by rw [pk_un (by omega)]; exact hli i hi) hu1 hg1
            rw [yd_nx_0 j (x + 1) (by omega) ey] at hn
            have ez : x4 + nI 0 = x4 := by
              rw [nI_0]
              exact Int32.add_zero x4
            rw [ez] at hn
            refine ⟨n, yw_149 hN hbb hu1 hg1 hUb' hGb' (by omega) (by omega) hlx hP1.1 hP1.2 hr hc ep (fun _ => hn) (fun y hy hy0 => ?_)⟩
            rw [hp, hNx, ey] at hy
            exact absurd hy.symm hy0
          · have t := yd_nx_s (p := p) (F := F) j (x + 1) (by omega) ey
            generalize hyy : yd_nx p j (x + 1) = y at t ey
            have hy5 : y < 5 := by omega
            have q := yw_S hN hbb hP h9 bs (pre ++ [(r, c)]) (yd_up U y (U y + 1)) (yd_up G (10 * r + c) y) x4 (upd (upd l pre.length (nI y)) (pre.length + 1) 0) (upd u1 y (u1 y + 1)) (upd g1 (10 * r + c) (nI y)) (by rw [e, List.append_assoc]; rfl) (fun p hp => hbx p (List.mem_cons_of_mem _ hp)) hdf1.2 (by rw [List.length_append]; exact pk_us) (yw_U_add hy5 hu1) (yw_G_add hg1)
              (yd_up_b (fun j => by have := hUb j; rw [List.length_append]; omega) (by have := hUb y; rw [List.length_append]; show U y + 1 ≤ pre.length + 1; omega)) (yd_up_b hGb (by omega))
              (fun z hz => by
                rw [yd_up_n (fun h => hdf1.1 z hz h.symm)]
                exact hG0 z (List.mem_cons_of_mem _ hz))
              (fun l' u' g' hl' hu' hg' => by
                rw [List.length_append] at hl' ⊢
                have em : nI (pre.length + [(r, c)].length) + (-1) = nI pre.length := pk_m1 pre.length
                rw [em]
                have eF : yd_cnt N (yd_dg N b) bs (yd_up U y (U y + 1)) (yd_up G (10 * r + c) y) = F y := by
                  rw [← hF]
                rw [eF]
                refine ih (N - y) (by omega) y _ l' u' g' (by omega) ?_ ?_ (Or.inr ⟨by omega, hu', hg'⟩) ?_
                · rw [hl' pre.length (Nat.lt_succ_self _), pk_un (by omega), pk_us]
                · intro i hi
                  rw [hl' i (Nat.lt_succ_of_lt hi), pk_un (by omega), pk_un (by omega)]
                  exact hli i hi
                · intro l2 u2 g2 h1 h2 h3
                  obtain ⟨n, hn⟩ := K' l2 u2 g2 h1 h2 h3
                  rw [t.2.2, show x + 1 + j - 1 - y = N - y by omega, ← nI_add, ← Int32.add_assoc] at hn
                  exact ⟨n, hn⟩)
            obtain ⟨n, hn⟩ := q
            rw [List.length_append] at hn
            refine ⟨n, yw_149 hN hbb hu1 hg1 hUb' hGb' (by omega) (by omega) hlx hP1.1 hP1.2 hr hc ep (fun h0 => ?_) (fun y' hy' hy0 => ?_)⟩
            · rw [hp, hNx, hyy] at h0
              exact absurd h0 ey
            · rw [hp, hNx, hyy] at hy'
              subst hy'
              exact hn
        have hne : pre.length ≠ all.length := by omega
        rcases hst with ⟨hx0, hu, hg⟩ | ⟨hx0, hu, hg⟩
        · obtain ⟨n, hn⟩ := go u g hu hg
          refine ⟨n + 1, br_f (nI_pos (by omega)) (pk_eq pre.length all.length (fun z => absurd z hne) (fun _ => ⟨pk_in pre.length 10 (by omega), pk_in pre.length 10 (by omega), nm_r (e' := 10 * nI r + nI c) (by rw [ck, hP1.1, hP1.2]) ⟨pk_in pre.length 10 (by omega), br_t ?_ hn⟩⟩))⟩
          rw [ck, hlx, hx0]
          exact nI_le (Nat.le_refl 0) (by decide)
        · have hx5 : x < 5 := by omega
          have cx := nI_clamp (n := x) (by omega)
          obtain ⟨n, hn⟩ := go (upd u x (u x - 1)) (upd g (10 * r + c) 0) (yw_U_rem hx5 hu) (yw_G_rem hp0 hg)
          refine ⟨n + 1, br_f (nI_pos (by omega)) (pk_eq pre.length all.length (fun z => absurd z hne) (fun _ => ⟨pk_in pre.length 10 (by omega), pk_in pre.length 10 (by omega), nm_r (e' := 10 * nI r + nI c) (by rw [ck, hP1.1, hP1.2]) ⟨pk_in pre.length 10 (by omega), br_f ?_ ⟨pk_in pre.length 10 (by omega), pk_in x 5 hx5 (by rw [ck, hlx]), pk_in x 5 hx5 (by rw [ck, hlx]), nm_r (e' := upd u x (u x - 1)) (by rw [ck, hlx, cx]) ⟨pk_in (10 * r + c) 40 (by omega) ep, nm_r (by rw [ep, cp]) hn⟩⟩⟩⟩))⟩
          rw [ck, hlx]
          exact nI_nle hx0 (by omega)
    exact inner N 0 x4 a10 a11 a12 (by omega) hl0 (fun _ _ => rfl) (Or.inl ⟨rfl, hU, hG⟩) K
end
section
theorem yw_sha {post : Int32 → St2 → Prop} {N a b v : Nat} {p q r : Int32} {fl fn fb : Int32} {a1 a2 a3 a4 a5 a6 a7 a8 a9 a10 a11 a12 : Nat → Int32} (hN : N ≤ 4) (ha : a < 2 ^ 31) (hb : b < 2 ^ 31) (hv : v < 2 ^ 31) (h9 : yd_sz N v ≤ 9) (H : ∀ (fl fn fb : Int32) (a1 a2 a3 a4 a5 a6 a7 a8 a9 a10 a11 a12 : Nat → Int32), post (nI (yd_lr N a b v)) (nI N, fl, fn, fb, a1, a2, a3, a4, a5, a6, a7, a8, a9, a10, a11, a12)) (hp : p = nI a := by rfl) (hq : q = nI b := by rfl) (hr : r = nI v := by rfl) : wpX_shareOf post (nI N, fl, fn, fb, a1, a2, a3, a4, a5, a6, a7, a8, a9, a10, a11, a12) p q r := by
  subst hp
  subst hq
  subst hr
  unfold wpX_shareOf
  refine yw_lb hN ha hb hv h9 (fun z => ?_) (fun z hn fb a8 a9 => ?_) (fun l z hs a8 a9 hl hP => ?_)
  · have e : yd_lr N a b v = 0 := by
      unfold yd_lr
      rw [yd_fb z]
      rfl
    rw [e] at H
    exact br_t rfl (H _ _ _ _ _ _ _ _ _ _ _ _ _ _ _)
  · have e : yd_lr N a b v = 0 := by
      unfold yd_lr
      rw [yd_tb z, hn]
      rfl
    rw [e] at H
    exact br_t rfl (H _ _ _ _ _ _ _ _ _ _ _ _ _ _ _)
  · have e : yd_lr N a b v = yd_cnt N (yd_dg N b) l (fun _ => 0) (fun _ => 0) := by
      unfold yd_lr
      rw [yd_tb z, hs]
      rfl
    rw [e] at H
    have hbx := yd_bx_ok hs
    refine br_f (by decide) ?_
    refine pk_loop (σ := Nat → Int32) (fun n i s => wX_shareOf_15 post (nI b) (nI N) fl fn (nI l.length) n (nI i) a1 a2 a3 a4 a5 a6 a7 a8 a9 a10 s a12) (fun i s => ∀ j, j < i → s j = 0) 5 0 a11 (by decide) (fun j hj => absurd hj (Nat.not_lt_zero j))
      (fun n s hI => pk_le 5 5 (fun _ => ?_) (fun y => absurd y (by omega)))
      (fun n i s hi hI hw => pk_le 5 i (fun y => absurd y (by omega)) (fun _ => ⟨pk_in i 5 hi, nm_r (e' := upd s i 0) (by rw [nI_clamp (by omega)]) (nm_r (nI_1 i) (hw _ (fun j hj => ?_)))⟩))
    · refine pk_loop (σ := Nat → Int32) (fun n i t => wX_shareOf_38 post (nI b) (nI N) fl fn (nI l.length) n (nI i) a1 a2 a3 a4 a5 a6 a7 a8 a9 a10 s t) (fun i t => ∀ j, j < i → t j = 0) 40 0 a12 (by decide) (fun j hj => absurd hj (Nat.not_lt_zero j))
        (fun n t hI2 => pk_le 40 40 (fun _ => nm_e ?_) (fun y => absurd y (by omega)))
        (fun n i t hi hI hw => pk_le 40 i (fun y => absurd y (by omega)) (fun _ => ⟨pk_in i 40 hi, nm_r (e' := upd t i 0) (by rw [nI_clamp (by omega)]) (nm_r (nI_1 i) (hw _ (fun j hj => ?_)))⟩))
      · refine yw_S hN hb hP hl l [] (fun _ => 0) (fun _ => 0) 0 _ _ _ rfl (fun p hp => ?_) hbx.2 pk_us hI hI2 (fun _ => Nat.zero_le _) (fun _ => Nat.zero_le _) (fun _ _ => rfl) (fun l' u' g' _ _ _ => ⟨1, br_t (by decide) ?_⟩)
        · have t := hbx.1 p hp
          exact ⟨by omega, t.2.2⟩
        · rw [Int32.zero_add]
          exact H _ _ _ _ _ _ _ _ _ _ _ _ _ _ _
      · by_cases ej : j = i
        · rw [ej, pk_us]
        · rw [pk_un ej]
          exact hI j (by omega)
    · by_cases ej : j = i
      · rw [ej, pk_us]
      · rw [pk_un ej]
        exact hI j (by omega)
theorem yw_shr {post : Int32 → St2 → Prop} {N a b v : Nat} {p q r : Int32} {fl fn fb : Int32} {a1 a2 a3 a4 a5 a6 a7 a8 a9 a10 a11 a12 : Nat → Int32} (hN : yd_N N) (ha : yd_Sh N a) (hb : yd_Sh N b) (hv : yd_Sh N v) (h9 : yd_sz N a + yd_sz N b ≤ 9) (H : ∀ (fl fn fb : Int32) (a1 a2 a3 a4 a5 a6 a7 a8 a9 a10 a11 a12 : Nat → Int32), post (nI (yd_lr N a b v)) (nI N, fl, fn, fb, a1, a2, a3, a4, a5, a6, a7, a8, a9, a10, a11, a12)) (hp : p = nI a := by rfl) (hq : q = nI b := by rfl) (hr : r = nI v := by rfl) : wpX_share post (nI N, fl, fn, fb, a1, a2, a3, a4, a5, a6, a7, a8, a9, a10, a11, a12) p q r := by
  subst hp
  subst hq
  subst hr
  have h4 := (yd_N_le hN).2
  have la := yd_Sh_lt h4 ha
  have lb := yd_Sh_lt h4 hb
  have lv := yd_Sh_lt h4 hv
  unfold wpX_share
  refine yw_shY hN ha ?_
  refine br_f (by decide) (yw_shY hN hb ?_)
  refine br_f (by decide) (yw_shY hN hv ?_)
  refine br_f (by decide) (yw_siz h4 la (yw_siz h4 lb ?_))
  exact br_t (by rw [nI_add]; exact nI_le h9 (by decide)) (yw_sha h4 la lb lv hv.2.1 H)
/-- v is a term of the product -/
def yd_T (N a b v : Nat) : Prop := yd_Sh N v ∧ 0 < yd_lr N a b v
theorem yw_31 {post : Int32 → St2 → Prop} {N a b lo : Nat} {x5 : Int32} (hN : yd_N N) (ha : a < 2 ^ 31) (hb : b < 2 ^ 31) (hlr : ∀ v, yd_Sh N v → yd_lr N a b v ≤ 1000) (hx : ∀ v, v < 10 ^ N → (nI v ≤ x5 ↔ v < lo))
    (Hs : ∀ v, lo ≤ v → v < 10 ^ N → yd_T N a b v → (∀ u, lo ≤ u → u < v → ¬ yd_T N a b u) → ∀ (fl fn fb : Int32) (a1 a2 a3 a4 a5 a6 a7 a8 a9 a10 a11 a12 : Nat → Int32), post (nI v) (nI N, fl, fn, fb, a1, a2, a3, a4, a5, a6, a7, a8, a9, a10, a11, a12)) (Hn : (∀ u, lo ≤ u → u < 10 ^ N → ¬ yd_T N a b u) → ∀ (fl fn fb : Int32) (a1 a2 a3 a4 a5 a6 a7 a8 a9 a10 a11 a12 : Nat → Int32), post (-3) (nI N, fl, fn, fb, a1, a2, a3, a4, a5, a6, a7, a8, a9, a10, a11, a12)) :
    ∀ (k v : Nat) (fl fn fb : Int32) (a1 a2 a3 a4 a5 a6 a7 a8 a9 a10 a11 a12 : Nat → Int32), v + k = 10 ^ N → (∀ u, lo ≤ u → u < v → ¬ yd_T N a b u) → wX_nextTerm_31 post (nI a) (nI b) x5 (k + 1) (nI v) (nI N) fl fn fb a1 a2 a3 a4 a5 a6 a7 a8 a9 a10 a11 a12
  | 0, v, fl, fn, fb, a1, a2, a3, a4, a5, a6, a7, a8, a9, a10, a11, a12, e, hno => by
    have h4 := (yd_N_le hN).2
    have h10 := (yd_p10 (k := N) (by omega)).2
    unfold wX_nextTerm_31
    refine yw_pow (k := N) (by omega) ?_
    exact pk_le (10 ^ N) v (fun _ => Hn (fun u h1 h2 => hno u h1 (by omega)) _ _ _ _ _ _ _ _ _ _ _ _ _ _ _) (fun z => absurd z (by omega))
  | k + 1, v, fl, fn, fb, a1, a2, a3, a4, a5, a6, a7, a8, a9, a10, a11, a12, e, hno => by
    have h4 := (yd_N_le hN).2
    have h10 := (yd_p10 (k := N) (by omega)).2
    have hv : v < 10 ^ N := by omega
    have hv2 : v < 2 ^ 31 := by omega
    have ih := yw_31 hN ha hb hlr hx Hs Hn k (v + 1)
    have nx : ¬ yd_T N a b v ∨ v < lo → ∀ u, lo ≤ u → u < v + 1 → ¬ yd_T N a b u := by
      intro h u h1 h2
      rcases Nat.lt_or_ge u v with z | z
      · exact hno u h1 z
      · have e : u = v := by omega
        rw [e]
        rcases h with h | h
        · exact h
        · omega
    unfold wX_nextTerm_31
    refine yw_pow (k := N) (by omega) ?_
    refine pk_le (10 ^ N) v (fun z => absurd z (by omega)) (fun _ => br_c (fun h => nm_r (nI_1 v) (ih _ _ _ _ _ _ _ _ _ _ _ _ _ _ _ (by omega) (nx (Or.inr ((hx v hv).mp h))))) (fun h => ?_))
    have hlo : lo ≤ v := by
      rcases Nat.lt_or_ge v lo with z | z
      · exact absurd ((hx v hv).mpr z) h
      · exact z
    refine yw_shp hN hv2 (fun hs => ?_) (fun hs => ?_)
    · refine br_f (by decide) (yw_sha h4 ha hb hv2 hs.2.1 (fun fl fn fb a1 a2 a3 a4 a5 a6 a7 a8 a9 a10 a11 a12 => ?_))
      have hle := hlr v hs
      exact pk_le (yd_lr N a b v) 0 (fun z => nm_r (nI_1 v) (ih _ _ _ _ _ _ _ _ _ _ _ _ _ _ _ (by omega) (nx (Or.inl (fun t => absurd t.2 (by omega)))))) (fun z => Hs v hlo hv ⟨hs, z⟩ hno _ _ _ _ _ _ _ _ _ _ _ _ _ _ _)
    · exact br_t rfl (nm_r (nI_1 v) (ih _ _ _ _ _ _ _ _ _ _ _ _ _ _ _ (by omega) (nx (Or.inl (fun t => hs t.1)))))
/-- the terms from lo on, in order -/
def yd_Rel (N a b lo : Nat) (R : List Nat) : Prop := R.Pairwise (fun x y => x < y) ∧ (∀ u, lo ≤ u → u < 10 ^ N → (yd_T N a b u ↔ u ∈ R)) ∧ ∀ u, u ∈ R → lo ≤ u ∧ u < 10 ^ N
theorem yd_Rel_n {N a b lo v : Nat} {R : List Nat} (h : yd_Rel N a b lo (v :: R)) : yd_Rel N a b (v + 1) R := by
  obtain ⟨h1, h2, h3⟩ := h
  have p := List.pairwise_cons.mp h1
  have hv := h3 v List.mem_cons_self
  refine ⟨p.2, fun u hu1 hu2 => ?_, fun u hu => ⟨p.1 u hu, (h3 u (List.mem_cons_of_mem _ hu)).2⟩⟩
  rw [h2 u (by omega) hu2]
  constructor
  · intro h
    rcases List.mem_cons.mp h with e | e
    · omega
    · exact e
  · exact fun h => List.mem_cons_of_mem _ h
theorem yw_nt {post : Int32 → St2 → Prop} {N a b lo : Nat} {R : List Nat} {p q r : Int32} {fl fn fb : Int32} {a1 a2 a3 a4 a5 a6 a7 a8 a9 a10 a11 a12 : Nat → Int32} (hN : yd_N N) (ha : yd_Sh N a) (hb : yd_Sh N b) (h9 : yd_sz N a + yd_sz N b ≤ 9) (hlr : ∀ v, yd_Sh N v → yd_lr N a b v ≤ 1000) (hr1 : -1 ≤ r) (hx : ∀ v, v < 10 ^ N → (nI v ≤ r ↔ v < lo)) (hR : yd_Rel N a b lo R)
    (H0 : R = [] → ∀ (fl fn fb : Int32) (a1 a2 a3 a4 a5 a6 a7 a8 a9 a10 a11 a12 : Nat → Int32), post (-3) (nI N, fl, fn, fb, a1, a2, a3, a4, a5, a6, a7, a8, a9, a10, a11, a12)) (H1 : ∀ v R', R = v :: R' → ∀ (fl fn fb : Int32) (a1 a2 a3 a4 a5 a6 a7 a8 a9 a10 a11 a12 : Nat → Int32), post (nI v) (nI N, fl, fn, fb, a1, a2, a3, a4, a5, a6, a7, a8, a9, a10, a11, a12)) (hp : p = nI a := by rfl) (hq : q = nI b := by rfl) : wpX_nextTerm post (nI N, fl, fn, fb, a1, a2, a3, a4, a5, a6, a7, a8, a9, a10, a11, a12) p q r := by
  subst hp
  subst hq
  have h4 := (yd_N_le hN).2
  unfold wpX_nextTerm
  refine yw_ref hN ha hb h9 ?_
  refine br_t (by decide) (br_t hr1 ⟨10 ^ N + 1, ?_⟩)
  refine yw_31 (lo := lo) hN (yd_Sh_lt h4 ha) (yd_Sh_lt h4 hb) hlr hx (fun v hv1 hv2 hT hmin => ?_) (fun hno => H0 ?_) (10 ^ N) 0 _ _ _ _ _ _ _ _ _ _ _ _ _ _ _ (by omega) (fun u _ h => absurd h (Nat.not_lt_zero u))
  · have hm := (hR.2.1 v hv1 hv2).mp hT
    cases R with
    | nil => exact absurd hm List.not_mem_nil
    | cons w R' =>
      have hw := hR.2.2 w List.mem_cons_self
      rcases List.mem_cons.mp hm with e | e
      · subst e
        exact H1 v R' rfl
      · have lt := (List.pairwise_cons.mp hR.1).1 v e
        exact absurd ((hR.2.1 w hw.1 hw.2).mpr List.mem_cons_self) (hmin w hw.1 lt)
  · cases R with
    | nil => rfl
    | cons w R' =>
      have hw := hR.2.2 w List.mem_cons_self
      exact absurd ((hR.2.1 w hw.1 hw.2).mpr List.mem_cons_self) (hno w hw.1 hw.2)
theorem yw_p15 {post : Int32 → St2 → Prop} {N a b dp dq : Nat} (hN : yd_N N) (ha : yd_Sh N a) (hb : yd_Sh N b) (h9 : yd_sz N a + yd_sz N b ≤ 9) (hlr : ∀ v, yd_Sh N v → yd_lr N a b v = yd_lr N b a v ∧ yd_lr N a b v ≤ 1000) (H : ∀ (fl fn fb : Int32) (a1 a2 a3 a4 a5 a6 a7 a8 a9 a10 a11 a12 : Nat → Int32), post 1 (nI N, fl, fn, fb, a1, a2, a3, a4, a5, a6, a7, a8, a9, a10, a11, a12)) :
    ∀ (m k lo s : Nat) (R : List Nat) (x6 : Int32) (fl fn fb : Int32) (a1 a2 a3 a4 a5 a6 a7 a8 a9 a10 a11 a12 : Nat → Int32), k + m = 32 → yd_Rel N a b lo R → R.length ≤ m → ((R = [] ∧ x6 = -3) ∨ ∃ v R', R = v :: R' ∧ x6 = nI v) → s + yd_tot N a b R = dp * dq → wL_parts_15 post (nI a) (nI b) (nI dp) (nI dq) (m + 1) (nI s) x6 (nI k) (nI N) fl fn fb a1 a2 a3 a4 a5 a6 a7 a8 a9 a10 a11 a12
  | 0, k, lo, s, R, x6, fl, fn, fb, a1, a2, a3, a4, a5, a6, a7, a8, a9, a10, a11, a12, e, hR, hl, h6, hs => by
    have eR : R = [] := List.eq_nil_of_length_eq_zero (by omega)
    subst eR
    have hs : s + 0 = dp * dq := hs
    rcases h6 with h6 | ⟨v, R', h6, _⟩
    · refine pk_le 32 k (fun _ => br_t h6.2 (br_t ?_ (H _ _ _ _ _ _ _ _ _ _ _ _ _ _ _))) (fun z => absurd z (by omega))
      rw [pk_mul, ← hs]
      rfl
    · exact absurd h6.symm (List.cons_ne_nil v R')
  | m + 1, k, lo, s, R, x6, fl, fn, fb, a1, a2, a3, a4, a5, a6, a7, a8, a9, a10, a11, a12, e, hR, hl, h6, hs => by
    have h4 := (yd_N_le hN).2
    have h10 := (yd_p10 (k := N) (by omega)).2
    have ih := yw_p15 (dp := dp) (dq := dq) hN ha hb h9 hlr H m (k + 1)
    refine pk_le 32 k (fun z => absurd z (by omega)) (fun _ => ?_)
    rcases h6 with ⟨eR, h6⟩ | ⟨v, R', eR, h6⟩
    · subst h6
      refine br_t (by decide) (nm_r (nI_1 k) (ih lo s R (-3) _ _ _ _ _ _ _ _ _ _ _ _ _ _ _ (by omega) hR (by rw [eR]; exact Nat.zero_le _) (Or.inl ⟨eR, rfl⟩) hs))
    · subst h6
      subst eR
      have hv := hR.2.2 v List.mem_cons_self
      have hT := (hR.2.1 v hv.1 hv.2).mpr List.mem_cons_self
      have hl2 := hlr v hT.1
      have hl' : R'.length ≤ m := Nat.le_of_succ_le_succ hl
      have et : yd_tot N a b (v :: R') = yd_lr N a b v * yd_dim N v + yd_tot N a b R' := rfl
      have hR' := yd_Rel_n hR
      refine br_f (nI_pos (by omega)) (yw_shr hN ha hb hT.1 h9 (fun fl fn fb a1 a2 a3 a4 a5 a6 a7 a8 a9 a10 a11 a12 => yw_shr hN hb ha hT.1 (by omega) (fun fl fn fb a1 a2 a3 a4 a5 a6 a7 a8 a9 a10 a11 a12 => yw_fil hN hT.1 ?_)))
      refine br_t (by rw [hl2.1]) (br_t (nI_le hT.2 (by omega)) (nm_r (e' := nI (s + yd_lr N a b v * yd_dim N v)) (by rw [pk_mul, nI_add]) ?_))
      refine yw_nt (lo := v + 1) (R := R') hN ha hb h9 (fun w hw => (hlr w hw).2) ?_ (fun u hu => ?_) hR' (fun e0 fl fn fb a1 a2 a3 a4 a5 a6 a7 a8 a9 a10 a11 a12 => ?_) (fun w R2 e2 fl fn fb a1 a2 a3 a4 a5 a6 a7 a8 a9 a10 a11 a12 => ?_)
      · rw [Int32.le_iff_toInt_le, nI_toInt (by omega)]
        have : (-1 : Int32).toInt = -1 := by decide
        omega
      · rw [nI_leI (by omega) (by omega)]
        omega
      · exact nm_r (nI_1 k) (ih (v + 1) _ R' (-3) _ _ _ _ _ _ _ _ _ _ _ _ _ _ _ (by omega) hR' hl' (Or.inl ⟨e0, rfl⟩) (by rw [et] at hs; omega))
      · exact nm_r (nI_1 k) (ih (v + 1) _ R' (nI w) _ _ _ _ _ _ _ _ _ _ _ _ _ _ _ (by omega) hR' hl' (Or.inr ⟨w, R2, e2, rfl⟩) (by rw [et] at hs; omega))
/-- the terms of a product: out of the list of all shapes -/
def yd_R (N a b : Nat) : List Nat := (yd_A N).filter (fun v => Nat.blt 0 (yd_lr N a b v))
theorem yd_A2s : yd_A2.Pairwise (fun x y => x < y) := by decide +kernel
theorem yd_A3s : yd_A3.Pairwise (fun x y => x < y) := by decide +kernel
theorem yd_A4s : yd_A4.Pairwise (fun x y => x < y) := by decide +kernel
theorem yd_As {N : Nat} (hN : yd_N N) : (yd_A N).Pairwise (fun x y => x < y) := by
  rcases hN with e | e | e
  · subst e; exact yd_A2s
  · subst e; exact yd_A3s
  · subst e; exact yd_A4s
theorem yd_A2c : ∀ s, s < 10 → yd_A2.countP (fun v => Nat.beq s (yd_sz 2 v)) ≤ 32 := by decide +kernel
theorem yd_A3c : ∀ s, s < 10 → yd_A3.countP (fun v => Nat.beq s (yd_sz 3 v)) ≤ 32 := by decide +kernel
theorem yd_A4c : ∀ s, s < 10 → yd_A4.countP (fun v => Nat.beq s (yd_sz 4 v)) ≤ 32 := by decide +kernel
theorem yd_Ac {N s : Nat} (hN : yd_N N) (hs : s < 10) : (yd_A N).countP (fun v => Nat.beq s (yd_sz N v)) ≤ 32 := by
  rcases hN with e | e | e
  · subst e; exact yd_A2c s hs
  · subst e; exact yd_A3c s hs
  · subst e; exact yd_A4c s hs
theorem yd_R_len {N a b : Nat} (hN : yd_N N) (h9 : yd_sz N a + yd_sz N b ≤ 9) : (yd_R N a b).length ≤ 32 := by
  unfold yd_R
  rw [← List.countP_eq_length_filter]
  refine Nat.le_trans (List.countP_mono_left (fun v _ h => ?_)) (yd_Ac (s := yd_sz N a + yd_sz N b) hN (by omega))
  have h := Nat.blt_eq.mp h
  cases hq : Nat.beq (yd_sz N a + yd_sz N b) (yd_sz N v) with
  | true => rfl
  | false =>
    unfold yd_lr at h
    rw [hq] at h
    exact absurd h (Nat.lt_irrefl 0)
theorem yd_R_tot {N a b : Nat} : ∀ l : List Nat, yd_tot N a b (l.filter (fun v => Nat.blt 0 (yd_lr N a b v))) = yd_tot N a b l
  | [] => rfl
  | v :: l => by
    have ih := @yd_R_tot N a b l
    have e : yd_tot N a b (v :: l) = yd_lr N a b v * yd_dim N v + yd_tot N a b l := rfl
    cases hq : Nat.blt 0 (yd_lr N a b v) with
    | true =>
      rw [List.filter_cons_of_pos (p := fun v => Nat.blt 0 (yd_lr N a b v)) hq, e, ← ih]
      rfl
    | false =>
      have h0 : yd_lr N a b v = 0 := by
        rcases Nat.eq_zero_or_pos (yd_lr N a b v) with z | z
        · exact z
        · rw [Nat.blt_eq.mpr z] at hq
          exact absurd hq (by decide)
      rw [List.filter_cons_of_neg (p := fun v => Nat.blt 0 (yd_lr N a b v)) (by rw [hq]; decide), e, ih, h0, Nat.zero_mul, Nat.zero_add]
theorem yd_R_Rel {N a b : Nat} (hN : yd_N N) : yd_Rel N a b 0 (yd_R N a b) := by
  refine ⟨List.Pairwise.filter _ (yd_As hN), fun u _ hu => ?_, fun u hu => ⟨Nat.zero_le u, (yd_A_Sh hN (List.mem_filter.mp hu).1).1⟩⟩
  constructor
  · exact fun h => List.mem_filter.mpr ⟨yd_mem hN h.1, Nat.blt_eq.mpr h.2⟩
  · intro h
    have t := List.mem_filter.mp h
    exact ⟨yd_A_Sh hN t.1, Nat.blt_eq.mp t.2⟩
theorem yw_par {post : Int32 → St2 → Prop} {N a b : Nat} {p q r s : Int32} {fl fn fb : Int32} {a1 a2 a3 a4 a5 a6 a7 a8 a9 a10 a11 a12 : Nat → Int32} (hN : yd_N N) (ha : yd_Sh N a) (h6 : yd_sz N a ≤ 6) (hb : yd_Sh N b) (h9 : yd_sz N a + yd_sz N b ≤ 9) (H : ∀ (fl fn fb : Int32) (a1 a2 a3 a4 a5 a6 a7 a8 a9 a10 a11 a12 : Nat → Int32), post 1 (nI N, fl, fn, fb, a1, a2, a3, a4, a5, a6, a7, a8, a9, a10, a11, a12)) (hp : p = nI a := by rfl) (hq : q = nI b := by rfl) (hr : r = nI (yd_dim N a) := by rfl) (hs : s = nI (yd_dim N b) := by rfl) : wpL_parts post (nI N, fl, fn, fb, a1, a2, a3, a4, a5, a6, a7, a8, a9, a10, a11, a12) p q r s := by
  subst hp
  subst hq
  subst hr
  subst hs
  have h4 := (yd_N_le hN).2
  have h10 := (yd_p10 (k := N) (by omega)).2
  have t := yd_pair hN ha h6 hb h9
  have htot : 0 + yd_tot N a b (yd_R N a b) = yd_dim N a * yd_dim N b := by
    rw [← t.2, Nat.zero_add]
    exact yd_R_tot _
  unfold wpL_parts
  refine yw_nt (lo := 0) (R := yd_R N a b) hN ha hb h9 (fun v hv => (t.1 v hv).2) (by decide) (fun u hu => ?_) (yd_R_Rel hN) (fun e0 fl fn fb a1 a2 a3 a4 a5 a6 a7 a8 a9 a10 a11 a12 => ?_) (fun w R2 e2 fl fn fb a1 a2 a3 a4 a5 a6 a7 a8 a9 a10 a11 a12 => ?_)
  · rw [Int32.le_iff_toInt_le, nI_toInt (by omega)]
    have : (-1 : Int32).toInt = -1 := by decide
    omega
  · exact ⟨33, yw_p15 hN ha hb h9 t.1 H 32 0 0 0 (yd_R N a b) (-3) _ _ _ _ _ _ _ _ _ _ _ _ _ _ _ rfl (yd_R_Rel hN) (yd_R_len hN h9) (Or.inl ⟨e0, rfl⟩) htot⟩
  · exact ⟨33, yw_p15 hN ha hb h9 t.1 H 32 0 0 0 (yd_R N a b) (nI w) _ _ _ _ _ _ _ _ _ _ _ _ _ _ _ rfl (yd_R_Rel hN) (yd_R_len hN h9) (Or.inr ⟨w, R2, e2, rfl⟩) htot⟩
end
section
theorem yw_229 {post : Int32 → Prop} {J : Int32 → Int32 → Int32 → Int32 → Int32 → (Nat → Int32) → (Nat → Int32) → (Nat → Int32) → (Nat → Int32) → (Nat → Int32) → (Nat → Int32) → (Nat → Int32) → (Nat → Int32) → (Nat → Int32) → (Nat → Int32) → (Nat → Int32) → (Nat → Int32) → Prop} {L N a t : Nat} {xs : Nat → Int32} {z0 : Int32} {kc ks : Nat} {fl fn fb : Int32} {a1 a2 a3 a4 a5 a6 a7 a8 a9 a10 a11 a12 : Nat → Int32} (hN : yd_N N) (hL : L ≤ 260) (ht : t + 2 < L) (ha : yd_Sh N a) (h6 : yd_sz N a ≤ 6) (hz : z0 = nI a) (H : ∀ (fl fn fb : Int32) (a1 a2 a3 a4 a5 a6 a7 a8 a9 a10 a11 a12 : Nat → Int32), J (nI (t + 3)) (nI N) fl fn fb a1 a2 a3 a4 a5 a6 a7 a8 a9 a10 a11 a12) : wL_law_229 post L xs J (nI N) (nI t) (nI a) (nI (yd_sz N a)) z0 kc ks (nI N) fl fn fb a1 a2 a3 a4 a5 a6 a7 a8 a9 a10 a11 a12 := by
  have ⟨h2, h4⟩ := yd_N_le hN
  have h10 := (yd_p10 (k := N) (by omega)).2
  have e2 : nI t + 2 = nI (t + 2) := by
    rw [show (2 : Int32) = nI 2 from rfl, nI_add]
  have e3 : nI t + 3 = nI (t + 3) := by
    rw [show (3 : Int32) = nI 3 from rfl, nI_add]
  have eN : nI N - 1 = nI (N - 1) := by
    rw [show (1 : Int32) = nI 1 from rfl, pk_sub (by omega)]
  unfold wL_law_229
  refine br_t hz ⟨pk_in (t + 2) L ht e2, yw_Lsh (room := yd_sz N a) hN (by omega) (fun w hw hws => yw_Lsz hN hw.1 (nm_r (e' := nI (w + (yd_sz N a - yd_sz N w))) ?_ ⟨pk_in (t + 2) L ht e2, ?_, ?_⟩))⟩
  · rw [nI_add, pk_sub (by omega)]
    exact congrArg nI (by omega)
  · rw [eN]
    exact nI_ne0 (by omega) (by omega)
  · obtain ⟨j, hj, ej⟩ := pk_andE (xs (nI t + 2).toNatClampNeg) (m := 255) 8 (by decide)
    rw [ej, eN, pk_rem (by omega) (by omega) (by omega)]
    have hk : j % (N - 1) < N - 1 := Nat.mod_lt _ (by omega)
    obtain ⟨s1, s2, m, m1, m2⟩ := yd_swap hN ha h6 hw hws hk
    refine yw_Lsw (w := w + (yd_sz N a - yd_sz N w)) (k := j % (N - 1)) h4 (by omega) (by omega) (yw_mul hN ha s1 m1 (fun fl fn fb a1 a2 a3 a4 a5 a6 a7 a8 a9 a10 a11 a12 => yw_mul hN ha s2 m2 (fun fl fn fb a1 a2 a3 a4 a5 a6 a7 a8 a9 a10 a11 a12 => ?_)))
    exact br_t rfl (nm_r e3 (H _ _ _ _ _ _ _ _ _ _ _ _ _ _ _))
theorem yw_25 {L N : Nat} {xs : Nat → Int32} {kc ks : Nat} (hN : yd_N N) (hL : L ≤ 260) : ∀ (n t : Nat) (fl fn fb : Int32) (a1 a2 a3 a4 a5 a6 a7 a8 a9 a10 a11 a12 : Nat → Int32), 60 ≤ t + 3 * n → t ≤ 100 → wL_law_25 (fun r => r = 1) L xs (nI N) kc ks (n + 1) (nI t) (nI N) fl fn fb a1 a2 a3 a4 a5 a6 a7 a8 a9 a10 a11 a12
  | 0, t, fl, fn, fb, a1, a2, a3, a4, a5, a6, a7, a8, a9, a10, a11, a12, h, ht => by
    have e2 : nI t + 2 = nI (t + 2) := by
      rw [show (2 : Int32) = nI 2 from rfl, nI_add]
    exact pk_le L (t + 2) (fun _ => rfl) (fun _ => pk_le 60 t (fun _ => rfl) (fun z => absurd z (by omega))) rfl e2
  | n + 1, t, fl, fn, fb, a1, a2, a3, a4, a5, a6, a7, a8, a9, a10, a11, a12, h, ht => by
    have e2 : nI t + 2 = nI (t + 2) := by
      rw [show (2 : Int32) = nI 2 from rfl, nI_add]
    have h4 := (yd_N_le hN).2
    have h10 := (yd_p10 (k := N) (by omega)).2
    refine pk_le L (t + 2) (fun _ => rfl) (fun hL2 => pk_le 60 t (fun _ => rfl) (fun h60 => ?_)) rfl e2
    have ih := yw_25 (xs := xs) (kc := kc) (ks := ks) hN hL n (t + 3)
    have J : ∀ (fl fn fb : Int32) (a1 a2 a3 a4 a5 a6 a7 a8 a9 a10 a11 a12 : Nat → Int32), wL_law_25 (fun r => r = 1) L xs (nI N) kc ks (n + 1) (nI (t + 3)) (nI N) fl fn fb a1 a2 a3 a4 a5 a6 a7 a8 a9 a10 a11 a12 := fun fl fn fb a1 a2 a3 a4 a5 a6 a7 a8 a9 a10 a11 a12 => ih _ _ _ _ _ _ _ _ _ _ _ _ _ _ _ (by omega) (by omega)
    refine ⟨pk_in t L (by omega), yw_Lsh (room := 6) hN (by decide) (fun a ha h6 => yw_Lsz hN ha.1 ⟨pk_in (t + 1) L (by omega) (nI_1 t), yw_Lsh (room := 9 - yd_sz N a) hN (by omega) (fun b hb hbs => ?_) rfl ?_⟩)⟩
    · have h9 : yd_sz N a + yd_sz N b ≤ 9 := by omega
      have hp := yd_pair hN ha h6 hb h9
      have hh := yd_hook hN ha h6
      refine yw_mul hN ha ha.1 (yd_one hN ha h6) (fun fl fn fb a1 a2 a3 a4 a5 a6 a7 a8 a9 a10 a11 a12 => br_t rfl (yw_fil hN ha (yw_fil hN hb (yw_par hN ha h6 hb h9 (fun fl fn fb a1 a2 a3 a4 a5 a6 a7 a8 a9 a10 a11 a12 => br_f (by decide) ⟨pk_in (t + 2) L hL2 e2, yw_Lsh (room := 9) hN (by decide) (fun o ho _ => ?_)⟩)))))
      refine yw_shr hN ha hb ho h9 (fun fl fn fb a1 a2 a3 a4 a5 a6 a7 a8 a9 a10 a11 a12 => yw_shr hN hb ha ho (by omega) (fun fl fn fb a1 a2 a3 a4 a5 a6 a7 a8 a9 a10 a11 a12 => br_t (by rw [(hp.1 o ho).1]) ?_))
      refine yw_ord hN ha hh.1 hh.2.1 (yw_hks hN ha (yw_Lfa (m := yd_sz N a) (by omega) (br_t (by rw [pk_mul, hh.2.2]) ?_)))
      refine yw_flp hN ha (fun h0 => ?_) (fun h0 => ?_)
      · have hf := yd_flip hN ha h6 h0
        refine br_t (nI_pos' (yd_Sh_lt h4 hf.1)) (yw_flp hN hf.1 (fun _ => yw_229 hN hL hL2 ha h6 (congrArg nI hf.2.2) J) (fun z => absurd z (by omega)))
      · exact br_f (by decide) (yw_229 hN hL hL2 ha h6 rfl J)
    · rw [show (9 : Int32) = nI 9 from rfl, pk_sub (by omega)]
theorem i_vc (xs : Nat → Int32) (L : Nat) (hL : L ≤ 260) : wpL_law (fun r => r = 1) L xs := by
  have body : ∀ r : Int32, ¬ (3 : Int32) = 0 ∧ (∀ x1_3 : Int32, x1_3 = 2 + ((r &&& 255) - (r &&& 255) / 3 * 3) → (∃ mc_46 ms_47 : Nat, 1 + mc_46 ≤ 13 ∧ 16 + ms_47 ≤ 2983 ∧ (wpX_init (fun u => match u with | (fm14_n_6, fm14_listed_7, fm14_nextListed_8, fm14_boxes_9, am191_12, am192_15, am193_18, am194_21, am195_24, am196_27, am197_30, am198_33, am199_36, am1910_39, am1911_42, am1912_45) => (∃ fu25 : Nat, wL_law_25 (fun r => r = 1) L xs x1_3 (1 + mc_46) (16 + ms_47) fu25 1 fm14_n_6 fm14_listed_7 fm14_nextListed_8 fm14_boxes_9 am191_12 am192_15 am193_18 am194_21 am195_24 am196_27 am197_30 am198_33 am199_36 am1910_39 am1911_42 am1912_45)) mc_46 ms_47 (0, 0, 0, 0) x1_3))) := by
    intro r
    refine ⟨by decide, ?_⟩
    obtain ⟨j, hj, ej⟩ := pk_andE r (m := 255) 8 (by decide)
    have e : 2 + ((r &&& 255) - (r &&& 255) / 3 * 3) = nI (2 + j % 3) := by
      rw [ej, show (3 : Int32) = nI 3 from rfl, pk_rem (by omega) (by decide) (by decide), show (2 : Int32) = nI 2 from rfl, nI_add]
    refine nm_r e ?_
    have hN : yd_N (2 + j % 3) := by
      have h3 : j % 3 = 0 ∨ j % 3 = 1 ∨ j % 3 = 2 := by omega
      rcases h3 with h | h | h
      · exact Or.inl (by omega)
      · exact Or.inr (Or.inl (by omega))
      · exact Or.inr (Or.inr (by omega))
    generalize 2 + j % 3 = N at hN
    have hb := yd_N_le hN
    refine ⟨12, 2967, by decide, by decide, ?_⟩
    refine ⟨by decide, by decide, by decide, by decide, by decide, by decide, by decide, by decide, by decide, by decide, by decide, by decide, by decide, by decide, by decide, by decide, by decide, by decide, by decide, by decide, by decide, by decide, by decide, by decide, ?_⟩
    refine pk_le 2 N (fun _ => pk_le N 4 (fun _ => ⟨21, ?_⟩) (fun z => absurd z (by omega))) (fun z => absurd z (by omega))
    exact yw_25 hN hL 20 1 _ _ _ _ _ _ _ _ _ _ _ _ _ _ _ (by decide) (by decide)
  exact pk_le L 0 (fun _ => body 0) (fun z => ⟨pk_in 0 L z, body _⟩)
end
