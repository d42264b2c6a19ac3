section
/-! the pure picture: lines mod 4 with two unknowns, a basis of two rows, the questions -/
/-- a line: its two coefficients and its right side -/
abbrev cg_L : Type := Nat × Nat × Nat
/-- a built basis: bad, row 0, its power, row 1, its power -/
abbrev cg_S : Type := Nat × cg_L × Nat × cg_L × Nat
/-- binary zeros at the end of c, of two bits -/
def cg_z (c : Nat) : Nat := bif Nat.beq (c % 2) 1 then 0 else bif Nat.beq (c / 2 % 2) 1 then 1 else 2
def cg_sub (f : Nat) (b w : cg_L) : cg_L := ((w.1 + 3 * (f * b.1)) % 4, (w.2.1 + 3 * (f * b.2.1)) % 4, (w.2.2 + 3 * (f * b.2.2)) % 4)
def cg_scl (f : Nat) (w : cg_L) : cg_L := ((w.1 * f) % 4, (w.2.1 * f) % 4, (w.2.2 * f) % 4)
def cg_un (c : Nat) : Nat := c / 2 ^ cg_z c
def cg_f3 (c : Nat) : Nat := cg_un c * cg_un c * cg_un c
/-- one turn of join: the row, its power, the work line; c is the work line's entry -/
def cg_st (b : cg_L) (p : Nat) (w : cg_L) (c : Nat) : cg_L × Nat × cg_L :=
  bif Nat.beq c 0 then (b, p, w)
  else bif Nat.ble p (cg_z c) then (b, p, cg_sub (c / 2 ^ p) b w)
  else (cg_scl (cg_f3 c) w, cg_z c, cg_sub (2 ^ (p - cg_z c)) (cg_scl (cg_f3 c) w) b)
def cg_j2 (S : cg_S) (s0 : cg_L × Nat × cg_L) (s1 : cg_L × Nat × cg_L) : cg_S :=
  (bif Nat.beq s1.2.2.2.2 0 then S.1 else 1, s0.1, s0.2.1, s1.1, s1.2.1)
def cg_j1 (S : cg_S) (s0 : cg_L × Nat × cg_L) : cg_S := cg_j2 S s0 (cg_st S.2.2.2.1 S.2.2.2.2 s0.2.2 s0.2.2.2.1)
def cg_join (S : cg_S) (w : cg_L) : cg_S := cg_j1 S (cg_st S.2.1 S.2.2.1 w w.1)
def cg_S0 : cg_S := (0, (0, 0, 0), 2, (0, 0, 0), 2)
def cg_bld (l1 l2 : cg_L) : cg_S := cg_join (cg_join cg_S0 l1) l2
def cg_tot (S : cg_S) : Nat := bif Nat.beq S.1 0 then 2 ^ (S.2.2.1 + S.2.2.2.2) else 0
/-- the least value of unknown 1; of unknown 0 with unknown 1 at x -/
def cg_l1 (S : cg_S) : Nat := S.2.2.2.1.2.2 / 2 ^ S.2.2.2.2
def cg_l0 (S : cg_S) (x : Nat) : Nat := (S.2.1.2.2 + 3 * (S.2.1.2.1 * x)) % 4 / 2 ^ S.2.2.1
/-- nth(0), 2 added, 0 for -2 -/
def cg_nth (S : cg_S) : Nat := bif Nat.beq S.1 0 then cg_l1 S * 4 + cg_l0 S (cg_l1 S) + 2 else 0
def cg_cnt (cnt d l p cb : Nat) : Nat := bif Nat.ble d l then cnt else cnt + ((d - l - 1) / 2 ^ (2 - p) + 1) * 2 ^ cb
def cg_go (d l p : Nat) : Bool := Nat.ble l d && Nat.beq ((d - l) % 2 ^ (2 - p)) 0
/-- below(b), not bad -/
def cg_blw (S : cg_S) (b : Nat) : Nat :=
  bif Nat.beq b 0 then 0
  else bif Nat.ble 16 b then cg_tot S
  else bif cg_go (b / 4 % 4) (cg_l1 S) S.2.2.2.2 then cg_cnt (cg_cnt 0 (b / 4 % 4) (cg_l1 S) S.2.2.2.2 S.2.2.1) (b % 4) (cg_l0 S (b / 4 % 4)) S.2.2.1 0
  else cg_cnt 0 (b / 4 % 4) (cg_l1 S) S.2.2.2.2 S.2.2.1
def cg_min (a b : Nat) : Nat := bif Nat.ble a b then a else b
/-- withoutUnknown -/
def cg_wo (S : cg_S) (p u : Nat) : Nat := cg_tot S / 2 ^ cg_min (cg_min 2 (cg_z p)) (cg_z u)
/-- 0: does not vanish; 1 + r: it does, the right side left is r -/
def cg_van2 (S : cg_S) (w : cg_L) : Nat := bif Nat.ble S.2.2.2.2 (cg_z w.2.1) then 1 + (cg_sub (w.2.1 / 2 ^ S.2.2.2.2) S.2.2.2.1 w).2.2 else 0
def cg_van (S : cg_S) (w : cg_L) : Nat := bif Nat.ble S.2.2.1 (cg_z w.1) then cg_van2 S (cg_sub (w.1 / 2 ^ S.2.2.1) S.2.1 w) else 0
def cg_spr (S : cg_S) : Nat := bif Nat.beq (cg_van S (1, 1, 0)) 0 then bif Nat.beq (cg_van S (2, 2, 0)) 0 then 2 else 1 else 0
def cg_val (S : cg_S) : Nat := bif Nat.beq S.1 0 then 2 ^ cg_spr S else 0
/-- leastValue, 2 added, 0 for -2 -/
def cg_lv (S : cg_S) : Nat := bif Nat.beq S.1 0 then (cg_l1 S + cg_l0 S (cg_l1 S)) % 2 ^ (2 - cg_spr S) + 2 else 0
def cg_ent (S : cg_S) : Nat := bif Nat.beq S.1 0 then bif Nat.beq (cg_van S (1, 1, 2)) 1 then 1 else 0 else 1
/-! the law's own count: (count, least + 2, seen, any or ways) -/
abbrev cg_M : Type := Nat × Nat × Nat × Nat
def cg_e (l : cg_L) (x y : Nat) : Nat := (l.1 * x + l.2.1 * y + 3 * l.2.2) % 4
def cg_hit (y x : Nat) (s : cg_M) : cg_M := (s.1 + 1, bif Nat.beq s.1 0 then x + 4 * y + 2 else s.2.1, s.2.2.1 ||| 2 ^ ((x + y) % 4), 1)
def cg_cell (l1 l2 : cg_L) (y x : Nat) (s : cg_M) : cg_M := bif Nat.beq (cg_e l1 x y) 0 && Nat.beq (cg_e l2 x y) 0 then cg_hit y x s else s
def cg_r0 (s : cg_M) : cg_M := (s.1, s.2.1, s.2.2.1, 0)
def cg_r4 (l1 l2 : cg_L) (y : Nat) (s : cg_M) : cg_M := cg_cell l1 l2 y 3 (cg_cell l1 l2 y 2 (cg_cell l1 l2 y 1 (cg_cell l1 l2 y 0 (cg_r0 s))))
def cg_r5 (s r : cg_M) : cg_M := (r.1, r.2.1, r.2.2.1, s.2.2.2 + r.2.2.2)
def cg_row (l1 l2 : cg_L) (y : Nat) (s : cg_M) : cg_M := cg_r5 s (cg_r4 l1 l2 y s)
def cg_law (l1 l2 : cg_L) : cg_M := cg_row l1 l2 3 (cg_row l1 l2 2 (cg_row l1 l2 1 (cg_row l1 l2 0 (0, 0, 0, 0))))
def cg_pop (s : Nat) : Nat := s % 2 + s / 2 % 2 + s / 4 % 2 + s / 8 % 2
/-- the least value seen, 2 added, 0 for none -/
def cg_low (s : Nat) : Nat := bif Nat.beq (s % 2) 1 then 2 else bif Nat.beq (s / 2 % 2) 1 then 3 else bif Nat.beq (s / 4 % 2) 1 then 4 else bif Nat.beq s 0 then 0 else 5
def cg_se (s : Nat) : Nat := bif Nat.beq s 0 || Nat.beq s 4 then 1 else 0
/-- what the law asks, over the pure pictures -/
def cg_chk (p u : Nat) (S : cg_S) (M : cg_M) : Bool :=
  Nat.beq (cg_tot S) M.1 && Nat.beq (cg_nth S) M.2.1 && Nat.ble M.2.1 17
  && (bif Nat.beq S.1 0 then Nat.beq (cg_blw S (M.2.1 - 2)) 0 && Nat.beq (cg_blw S (M.2.1 - 1)) 1 else true)
  && Nat.beq (cg_wo S p u) M.2.2.2 && Nat.beq (cg_val S) (cg_pop M.2.2.1) && Nat.beq (cg_lv S) (cg_low M.2.2.1) && Nat.beq (cg_ent S) (cg_se M.2.2.1)
def cg_ok (l1 l2 : cg_L) : Bool := cg_chk l1.1 l2.1 (cg_bld l1 l2) (cg_law l1 l2)
def cg_all4 (f : Nat → Bool) : Bool := f 0 && f 1 && f 2 && f 3
theorem cg_all4_of {f : Nat → Bool} (h : cg_all4 f = true) : ∀ i, i < 4 → f i = true := by
  unfold cg_all4 at h
  rw [Bool.and_eq_true, Bool.and_eq_true, Bool.and_eq_true] at h
  intro i hi
  match i, hi with
  | 0, _ => exact h.1.1.1
  | 1, _ => exact h.1.1.2
  | 2, _ => exact h.1.2
  | 3, _ => exact h.2
theorem cg_all : cg_all4 (fun p => cg_all4 (fun q => cg_all4 (fun r => cg_all4 (fun u => cg_all4 (fun w => cg_all4 (fun t => cg_ok (p, q, r) (u, w, t))))))) = true := by decide +kernel
theorem cg_okAll {p q r u w t : Nat} (hp : p < 4) (hq : q < 4) (hr : r < 4) (hu : u < 4) (hw : w < 4) (ht : t < 4) : cg_ok (p, q, r) (u, w, t) = true :=
  cg_all4_of (cg_all4_of (cg_all4_of (cg_all4_of (cg_all4_of (cg_all4_of cg_all p hp) q hq) r hr) u hu) w hw) t ht
end
section
/-! small facts of naturals, and of ints by finite look -/
theorem cg_bt {a b : Nat} (h : a = b) : Nat.beq a b = true := by
  rw [h]
  exact Nat.beq_refl b
theorem cg_bf {a b : Nat} (h : a ≠ b) : Nat.beq a b = false := by
  cases e : Nat.beq a b with
  | false => rfl
  | true => exact absurd (Nat.eq_of_beq_eq_true e) h
theorem cg_lt {a b : Nat} (h : a ≤ b) : Nat.ble a b = true := Nat.ble_eq_true_of_le h
theorem cg_lf {a b : Nat} (h : b < a) : Nat.ble a b = false := by
  cases e : Nat.ble a b with
  | false => rfl
  | true => exact absurd (Nat.le_of_ble_eq_true e) (by omega)
theorem cg_5 {P : Nat → Prop} (h0 : P 0) (h1 : P 1) (h2 : P 2) (h3 : P 3) (h4 : P 4) : ∀ k, k < 5 → P k
  | 0, _ => h0
  | 1, _ => h1
  | 2, _ => h2
  | 3, _ => h3
  | 4, _ => h4
  | k + 5, h => absurd h (by omega)
theorem cg_z_le (c : Nat) : cg_z c ≤ 2 := by
  unfold cg_z
  cases Nat.beq (c % 2) 1 with
  | true => exact Nat.zero_le 2
  | false =>
    cases Nat.beq (c / 2 % 2) 1 with
    | true => exact Nat.le_succ 1
    | false => exact Nat.le_refl 2
theorem cg_un_lt {c : Nat} (h : c < 4) : cg_un c < 4 := Nat.lt_of_le_of_lt (Nat.div_le_self c _) h
theorem cg_fsub : ∀ a, a < 4 → ∀ f, f < 8 → ∀ b, b < 4 → (nI a - nI f * nI b) &&& (4 - 1) = nI ((a + 3 * (f * b)) % 4) := by decide +kernel
theorem cg_fscl : ∀ a, a < 4 → ∀ u, u < 4 → (nI a * ((nI u * nI u) * nI u)) &&& (4 - 1) = nI ((a * (u * u * u)) % 4) := by decide +kernel
theorem cg_fshr : ∀ c, c < 20 → ∀ z, z < 5 → nI c >>> (nI z &&& 31) = nI (c / 2 ^ z) := by decide +kernel
theorem cg_fshl : ∀ c, c < 8 → ∀ z, z < 5 → nI c <<< (nI z &&& 31) = nI (c * 2 ^ z) := by decide +kernel
theorem cg_f1 : ∀ p, p < 3 → ∀ z, z < 3 → z ≤ p → (1 : Int32) <<< ((nI p - nI z) &&& 31) = nI (2 ^ (p - z)) := by decide +kernel
theorem cg_f1l : ∀ z, z < 5 → (1 : Int32) <<< (nI z &&& 31) = nI (2 ^ z) := by decide +kernel
theorem cg_f0r : ∀ z, z < 5 → (0 : Int32) >>> (nI z &&& 31) = 0 := by decide +kernel
theorem cg_f0s : ∀ z, z < 5 → (0 : Int32) - (0 <<< (nI z &&& 31)) = 0 := by decide +kernel
theorem cg_fv : ∀ l, l < 4 → ∀ p, p < 3 → nI l + (0 <<< ((2 - nI p) &&& 31)) = nI l := by decide +kernel
theorem cg_f7 : ∀ d, d < 4 → ∀ l, l < 4 → ∀ g, g < 3 → l ≤ d → (nI d - nI l) &&& (((1 : Int32) <<< (nI g &&& 31)) - 1) = nI ((d - l) % 2 ^ g) := by decide +kernel
theorem cg_f8 : ∀ d, d < 4 → ∀ l, l < 4 → ∀ g, g < 3 → l < d → (((nI d - nI l) - 1) >>> (nI g &&& 31)) + 1 = nI ((d - l - 1) / 2 ^ g + 1) := by decide +kernel
theorem cg_fd1 : ∀ b, b < 16 → (nI b >>> (((1 : Int32) * 2) &&& 31)) &&& (4 - 1) = nI (b / 4 % 4) := by decide +kernel
theorem cg_fd0 : ∀ b, b < 16 → (nI b >>> (((0 : Int32) * 2) &&& 31)) &&& (4 - 1) = nI (b % 4) := by decide +kernel
theorem cg_fred : ∀ a, a < 4 → nI a &&& (4 - 1) = nI a := by decide +kernel
theorem cg_fmask : ∀ a, a < 8 → ∀ s, s < 3 → nI a &&& (((1 : Int32) <<< (((2 : Int32) - nI s) &&& 31)) - 1) = nI (a % 2 ^ (2 - s)) := by decide +kernel
theorem cg_fdr : ∀ c, c < 2 → ∀ f, f < 4 → (nI c * nI f) &&& (4 - 1) = nI (c * f) := by decide +kernel
theorem cg_fseen : ∀ s, s < 16 → ∀ x, x < 4 → ∀ y, y < 4 → nI s ||| ((1 : Int32) <<< (((nI x + nI y) &&& 3) &&& 31)) = nI (s ||| 2 ^ ((x + y) % 4)) ∧ s ||| 2 ^ ((x + y) % 4) < 16 := by decide +kernel
theorem cg_fpop : ∀ s, s < 16 → (((nI s &&& 1) + ((nI s >>> ((1 : Int32) &&& 31)) &&& 1)) + ((nI s >>> ((2 : Int32) &&& 31)) &&& 1)) + ((nI s >>> ((3 : Int32) &&& 31)) &&& 1) = nI (cg_pop s) := by decide +kernel
theorem cg_c0 : (0 : Int32).toNatClampNeg = 0 := by decide
theorem cg_c1 : (1 : Int32).toNatClampNeg = 1 := by decide
theorem cg_21 : (2 : Int32) - 1 = 1 := by decide
theorem cg_m11 : (1 : Int32) + (-1) = 0 := by decide
theorem cg_m10 : (0 : Int32) + (-1) = -1 := by decide
theorem cg_ix (j i : Nat) : nI j * 5 + nI i = nI (j * 5 + i) := by
  show nI j * nI 5 + nI i = _
  rw [pk_mul, nI_add]
theorem cg_li (i : Nat) : ((0 : Int32) * 10 + nI i) * 5 = nI (i * 5) := by
  show (nI 0 * nI 10 + nI i) * nI 5 = _
  rw [pk_mul, nI_add, pk_mul, Nat.zero_mul, Nat.zero_add]
/-- an int less 2 -/
def cg_m (n : Nat) : Int32 := nI n - 2
theorem cg_m0 : cg_m 0 = -2 := by decide
theorem cg_m2 (n : Nat) : cg_m (n + 2) = nI n := by
  show nI (n + 2) - nI 2 = _
  rw [pk_sub (by omega), Nat.add_sub_cancel]
/-- the law's test of a cell depends on the ints mod 4 alone -/
theorem cg_lin (p q r : Int32) (x y : Nat) (hx : x < 4) (hy : y < 4) :
    (((p * nI x) + (q * nI y)) - r) &&& 3 = nI (cg_e (p.toBitVec.toNat % 4, q.toBitVec.toNat % 4, r.toBitVec.toNat % 4) x y) := by
  rw [pk_and _ 2 (by decide)]
  show _ = nI ((p.toBitVec.toNat % 4 * x + q.toBitVec.toNat % 4 * y + 3 * (r.toBitVec.toNat % 4)) % 4)
  rw [Int32.toBitVec_sub, Int32.toBitVec_add, Int32.toBitVec_mul, Int32.toBitVec_mul, BitVec.toNat_sub, BitVec.toNat_add, BitVec.toNat_mul, BitVec.toNat_mul, pk_tn (by omega), pk_tn (by omega)]
  have hr := r.toBitVec.isLt
  have e1 : p.toBitVec.toNat * x % 4 = p.toBitVec.toNat % 4 * x % 4 := by rw [Nat.mod_mul_mod]
  have e2 : q.toBitVec.toNat * y % 4 = q.toBitVec.toNat % 4 * y % 4 := by rw [Nat.mod_mul_mod]
  generalize p.toBitVec.toNat * x = A at *
  generalize q.toBitVec.toNat * y = B at *
  generalize p.toBitVec.toNat % 4 * x = A' at *
  generalize q.toBitVec.toNat % 4 * y = B' at *
  generalize r.toBitVec.toNat = R at *
  congr 1
  omega
end
section
/-! the plain loops, each with what it leaves -/
theorem cg_red {post : Int32 → Prop} {bad x : Int32} {a1 a2 a3 a4 a5 a6 a7 : Nat → Int32} (h : post (x &&& (4 - 1))) :
    wpX_reduced post (2, 2, 4, bad, a1, a2, a3, a4, a5, a6, a7) x := h
theorem cg_sys0 {post : Int32 → Prop} (h : post 1) : wpX_isSystem post () 0 := br_t rfl h
theorem cg_sys1 {post : Int32 → Prop} (h : post 1) : wpX_isSystem post () 1 := br_f (by decide) (br_t rfl h)
theorem cg_fill {f g s : Nat → Int32} {i k : Nat} {x : Int32} (hk : k = i) (h : (∀ j, j < i → s j = f j) ∧ (∀ j, i ≤ j → s j = g j)) (hx : x = f i) :
    (∀ j, j < i + 1 → upd s k x j = f j) ∧ (∀ j, i + 1 ≤ j → upd s k x j = g j) := by
  rw [hk]
  refine ⟨fun j hj => ?_, fun j hj => ?_⟩
  · by_cases e : j = i
    · rw [e, pk_us, hx]
    · rw [pk_un e]
      exact h.1 j (by omega)
  · rw [pk_un (by omega)]
    exact h.2 j (by omega)
theorem cg_fil0 {f g : Nat → Int32} : (∀ j, j < 0 → g j = f j) ∧ (∀ j, 0 ≤ j → g j = g j) := ⟨fun j hj => absurd hj (by omega), fun _ _ => rfl⟩
theorem cg_subtract {post : St2 → Prop} {bad f : Int32} {a1 a2 a3 a4 a5 a6 a7 : Nat → Int32} (j : Nat) (hj : j < 4)
    (H : ∀ a : Nat → Int32, (∀ k, k < 5 → a k = (a6 k - f * a4 (j * 5 + k)) &&& (4 - 1)) → post (2, 2, 4, bad, a1, a2, a3, a4, a5, a, a7)) :
    wpX_subtract post (2, 2, 4, bad, a1, a2, a3, a4, a5, a6, a7) (nI j) f :=
  pk_loop (fun n i s => wX_subtract_2 post (nI j) f 2 2 4 bad n (nI i) a1 a2 a3 a4 a5 s a7)
    (fun i s => (∀ k, k < i → s k = (a6 k - f * a4 (j * 5 + k)) &&& (4 - 1)) ∧ (∀ k, i ≤ k → s k = a6 k)) 5 0 a6 (by omega) cg_fil0
    (fun n s h => pk_le 5 5 (fun _ => H s h.1) (fun z => absurd z (by omega)))
    (fun n i s hi h hw => pk_le 5 i (fun z => absurd z (by omega)) (fun _ => ⟨pk_in i 5 hi, pk_in (j * 5 + i) 20 (by omega) (cg_ix j i), cg_red ⟨pk_in i 5 hi,
      nm_e (nm_r (nI_1 i) (hw _ (cg_fill (pk_cl i) h (by rw [pk_cl i, pk_cl (j * 5 + i) (cg_ix j i), h.2 i (Nat.le_refl i)]))))⟩⟩))
theorem cg_scaleWork {post : St2 → Prop} {bad f : Int32} {a1 a2 a3 a4 a5 a6 a7 : Nat → Int32}
    (H : ∀ a : Nat → Int32, (∀ k, k < 5 → a k = (a6 k * f) &&& (4 - 1)) → post (2, 2, 4, bad, a1, a2, a3, a4, a5, a, a7)) :
    wpX_scaleWork post (2, 2, 4, bad, a1, a2, a3, a4, a5, a6, a7) f :=
  pk_loop (fun n i s => wX_scaleWork_2 post f 2 2 4 bad n (nI i) a1 a2 a3 a4 a5 s a7)
    (fun i s => (∀ k, k < i → s k = (a6 k * f) &&& (4 - 1)) ∧ (∀ k, i ≤ k → s k = a6 k)) 5 0 a6 (by omega) cg_fil0
    (fun n s h => pk_le 5 5 (fun _ => H s h.1) (fun z => absurd z (by omega)))
    (fun n i s hi h hw => pk_le 5 i (fun z => absurd z (by omega)) (fun _ => ⟨pk_in i 5 hi, cg_red ⟨pk_in i 5 hi,
      nm_e (nm_r (nI_1 i) (hw _ (cg_fill (pk_cl i) h (by rw [pk_cl i, h.2 i (Nat.le_refl i)]))))⟩⟩))
/-- the loop of exchange at turn i -/
def cg_E (a4 a6 : Nat → Int32) (j i : Nat) (s : (Nat → Int32) × (Nat → Int32)) : Prop :=
  (∀ k, k < i → s.1 (j * 5 + k) = a6 k) ∧ (∀ m, (m < j * 5 ∨ j * 5 + i ≤ m) → s.1 m = a4 m) ∧ (∀ k, k < i → s.2 k = a4 (j * 5 + k)) ∧ (∀ k, i ≤ k → s.2 k = a6 k)
theorem cg_Es {a4 a6 s1 s2 : Nat → Int32} {j i m k : Nat} {x y : Int32} (h : cg_E a4 a6 j i (s1, s2)) (hm : m = j * 5 + i) (hk : k = i) (hx : x = a6 i) (hy : y = a4 (j * 5 + i)) :
    cg_E a4 a6 j (i + 1) (upd s1 m x, upd s2 k y) := by
  obtain ⟨h1, h2, h3, h4⟩ := h
  rw [hm, hk]
  refine ⟨fun q hq => ?_, fun q hq => ?_, fun q hq => ?_, fun q hq => ?_⟩
  · show upd s1 (j * 5 + i) x (j * 5 + q) = a6 q
    by_cases e : q = i
    · rw [e, pk_us, hx]
    · rw [pk_un (by omega)]
      exact h1 q (by omega)
  · show upd s1 (j * 5 + i) x q = a4 q
    rw [pk_un (by omega)]
    exact h2 q (by omega)
  · show upd s2 i y q = a4 (j * 5 + q)
    by_cases e : q = i
    · rw [e, pk_us, hy]
    · rw [pk_un e]
      exact h3 q (by omega)
  · show upd s2 i y q = a6 q
    rw [pk_un (by omega)]
    exact h4 q (by omega)
theorem cg_exchange {post : St2 → Prop} {bad : Int32} {a1 a2 a3 a4 a5 a6 a7 : Nat → Int32} (j : Nat) (hj : j < 4)
    (H : ∀ b a : Nat → Int32, (∀ k, k < 5 → b (j * 5 + k) = a6 k) → (∀ m, (m < j * 5 ∨ j * 5 + 5 ≤ m) → b m = a4 m) → (∀ k, k < 5 → a k = a4 (j * 5 + k)) → post (2, 2, 4, bad, a1, a2, a3, b, a5, a, a7)) :
    wpX_exchange post (2, 2, 4, bad, a1, a2, a3, a4, a5, a6, a7) (nI j) :=
  pk_loop (σ := (Nat → Int32) × (Nat → Int32)) (fun n i s => wX_exchange_2 post (nI j) 2 2 4 bad n (nI i) a1 a2 a3 s.1 a5 s.2 a7)
    (fun i s => cg_E a4 a6 j i s) 5 0 (a4, a6) (by omega) ⟨fun k hk => absurd hk (by omega), fun _ _ => rfl, fun k hk => absurd hk (by omega), fun _ _ => rfl⟩
    (fun n s h => pk_le 5 5 (fun _ => H s.1 s.2 h.1 h.2.1 h.2.2.1) (fun z => absurd z (by omega)))
    (fun n i s hi h hw => pk_le 5 i (fun z => absurd z (by omega)) (fun _ => ⟨pk_in (j * 5 + i) 20 (by omega) (cg_ix j i), nm_e ⟨pk_in i 5 hi, pk_in (j * 5 + i) 20 (by omega) (cg_ix j i),
      nm_e ⟨pk_in i 5 hi, nm_e (nm_r (nI_1 i) (hw (_, _) (cg_Es h (pk_cl (j * 5 + i) (cg_ix j i)) (pk_cl i) (by rw [pk_cl i]; exact h.2.2.2 i (Nat.le_refl i))
        (by rw [pk_cl (j * 5 + i) (cg_ix j i)]; exact h.2.1 _ (Or.inr (Nat.le_refl _))))))⟩⟩⟩))
theorem cg_startBasis {post : St2 → Prop} {bad : Int32} {a1 a2 a3 a4 a5 a6 a7 : Nat → Int32}
    (H : ∀ b p : Nat → Int32, (∀ k, k < 20 → b k = 0) → (∀ k, k < 4 → p k = 2) → post (2, 2, 4, 0, a1, a2, a3, b, p, a6, a7)) :
    wpX_startBasis post (2, 2, 4, bad, a1, a2, a3, a4, a5, a6, a7) :=
  pk_loop (fun n i s => wX_startBasis_7 post 2 2 4 0 n (nI i) a1 a2 a3 s a5 a6 a7)
    (fun i s => (∀ k, k < i → s k = 0) ∧ (∀ k, i ≤ k → s k = a4 k)) 20 0 a4 (by omega) (cg_fil0 (f := fun _ => 0))
    (fun n b hb => pk_le 20 20 (fun _ =>
      pk_loop (fun n i s => wX_startBasis_28 post 2 2 4 0 n (nI i) a1 a2 a3 b s a6 a7)
        (fun i s => (∀ k, k < i → s k = 2) ∧ (∀ k, i ≤ k → s k = a5 k)) 4 0 a5 (by omega) (cg_fil0 (f := fun _ => 2))
        (fun n p hp => pk_le 4 4 (fun _ => H b p hb.1 hp.1) (fun z => absurd z (by omega)))
        (fun n i s hi h hw => pk_le 4 i (fun z => absurd z (by omega)) (fun _ => ⟨pk_in i 4 hi, nm_e (nm_r (nI_1 i) (hw _ (cg_fill (f := fun _ => 2) (pk_cl i) h rfl)))⟩)))
      (fun z => absurd z (by omega)))
    (fun n i s hi h hw => pk_le 20 i (fun z => absurd z (by omega)) (fun _ => ⟨pk_in i 20 hi, nm_e (nm_r (nI_1 i) (hw _ (cg_fill (f := fun _ => 0) (pk_cl i) h rfl)))⟩))
theorem cg_loadLine {post : St2 → Prop} {bad : Int32} {a1 a2 a3 a4 a5 a6 a7 : Nat → Int32} (l : Nat) (hl : l < 4)
    (H : ∀ a : Nat → Int32, (∀ k, k < 5 → a k = a1 (l * 5 + k)) → post (2, 2, 4, bad, a1, a2, a3, a4, a5, a, a7)) :
    wpX_loadLine post (2, 2, 4, bad, a1, a2, a3, a4, a5, a6, a7) 0 (nI l) :=
  nm_r (cg_li l) (pk_loop (fun n i s => wX_loadLine_12 post (nI (l * 5)) 2 2 4 bad n (nI i) a1 a2 a3 a4 a5 s a7)
    (fun i s => (∀ k, k < i → s k = a1 (l * 5 + k)) ∧ (∀ k, i ≤ k → s k = a6 k)) 5 0 a6 (by omega) cg_fil0
    (fun n s h => pk_le 5 5 (fun _ => H s h.1) (fun z => absurd z (by omega)))
    (fun n i s hi h hw => pk_le 5 i (fun z => absurd z (by omega)) (fun _ => ⟨pk_in (l * 5 + i) 100 (by omega) (nI_add _ _), pk_in i 5 hi,
      nm_e (nm_r (nI_1 i) (hw _ (cg_fill (pk_cl i) h (by rw [pk_cl (l * 5 + i) (nI_add _ _)]))))⟩)))
theorem cg_loadDraft {post : St2 → Prop} {bad f : Int32} {a1 a2 a3 a4 a5 a6 a7 : Nat → Int32}
    (H : ∀ a : Nat → Int32, (∀ k, k < 5 → a k = (a3 k * f) &&& (4 - 1)) → post (2, 2, 4, bad, a1, a2, a3, a4, a5, upd a 4 0, a7)) :
    wpX_loadDraft post (2, 2, 4, bad, a1, a2, a3, a4, a5, a6, a7) f :=
  pk_loop (fun n i s => wX_loadDraft_2 post f 2 2 4 bad n (nI i) a1 a2 a3 a4 a5 s a7)
    (fun i s => (∀ k, k < i → s k = (a3 k * f) &&& (4 - 1)) ∧ (∀ k, i ≤ k → s k = a6 k)) 5 0 a6 (by omega) cg_fil0
    (fun n s h => pk_le 5 5 (fun _ => nm_e (H s h.1)) (fun z => absurd z (by omega)))
    (fun n i s hi h hw => pk_le 5 i (fun z => absurd z (by omega)) (fun _ => ⟨pk_in i 5 hi, cg_red ⟨pk_in i 5 hi,
      nm_e (nm_r (nI_1 i) (hw _ (cg_fill (pk_cl i) h (by rw [pk_cl i]))))⟩⟩))
theorem cg_zeros {post : Int32 → Prop} {bad : Int32} {a1 a2 a3 a4 a5 a6 a7 : Nat → Int32} (c : Nat) (hc : c < 4) (H : post (nI (cg_z c))) :
    wpX_zeros post (2, 2, 4, bad, a1, a2, a3, a4, a5, a6, a7) (nI c) := by
  match c, hc with
  | 0, _ => exact ⟨3, br_f (by decide) (br_f (by decide +kernel) (nm_e (br_f (by decide) (br_f (by decide +kernel) (nm_e (br_t (by decide) H))))))⟩
  | 1, _ => exact ⟨3, br_f (by decide) (br_t (by decide +kernel) H)⟩
  | 2, _ => exact ⟨3, br_f (by decide) (br_f (by decide +kernel) (nm_e (br_f (by decide) (br_t (by decide +kernel) H))))⟩
  | 3, _ => exact ⟨3, br_f (by decide) (br_t (by decide +kernel) H)⟩
end
section
/-! lines and the basis against the pure picture; join, build, total -/
def cg_l (w : cg_L) (k : Nat) : Nat := match k with
  | 0 => w.1
  | 1 => w.2.1
  | 4 => w.2.2
  | _ => 0
/-- the five places hold the line -/
def cg_W (a : Nat → Int32) (w : cg_L) : Prop := ∀ k, k < 5 → a k = nI (cg_l w k) ∧ cg_l w k < 4
theorem cg_Wc {a c : Nat → Int32} {w : cg_L} (hw : cg_W c w) (h : ∀ k, k < 5 → a k = c k) : cg_W a w := fun k hk => ⟨(h k hk).trans (hw k hk).1, (hw k hk).2⟩
theorem cg_Wsub {a c d : Nat → Int32} {w b : cg_L} {f : Nat} (hf : f < 8) (hw : cg_W c w) (hb : cg_W d b) (h : ∀ k, k < 5 → a k = (c k - nI f * d k) &&& (4 - 1)) : cg_W a (cg_sub f b w) := by
  have e : ∀ k, k < 5 → cg_l (cg_sub f b w) k = (cg_l w k + 3 * (f * cg_l b k)) % 4 :=
    cg_5 rfl rfl (by simp [cg_l]) (by simp [cg_l]) rfl
  intro k hk
  rw [h k hk, (hw k hk).1, (hb k hk).1, cg_fsub _ (hw k hk).2 f hf _ (hb k hk).2, e k hk]
  exact ⟨rfl, Nat.mod_lt _ (by omega)⟩
theorem cg_Wscl {a c : Nat → Int32} {w : cg_L} {u : Nat} (hu : u < 4) (hw : cg_W c w) (h : ∀ k, k < 5 → a k = (c k * ((nI u * nI u) * nI u)) &&& (4 - 1)) : cg_W a (cg_scl (u * u * u) w) := by
  have e : ∀ k, k < 5 → cg_l (cg_scl (u * u * u) w) k = (cg_l w k * (u * u * u)) % 4 :=
    cg_5 rfl rfl (by simp [cg_l]) (by simp [cg_l]) rfl
  intro k hk
  rw [h k hk, (hw k hk).1, cg_fscl _ (hw k hk).2 u hu, e k hk]
  exact ⟨rfl, Nat.mod_lt _ (by omega)⟩
theorem cg_st0 (b : cg_L) (p : Nat) (w : cg_L) : cg_st b p w 0 = (b, p, w) := rfl
theorem cg_st1 {b : cg_L} {p : Nat} {w : cg_L} {c : Nat} (h0 : c ≠ 0) (h : p ≤ cg_z c) : cg_st b p w c = (b, p, cg_sub (c / 2 ^ p) b w) := by
  unfold cg_st
  rw [cg_bf h0, cg_lt h]
  rfl
theorem cg_st2 {b : cg_L} {p : Nat} {w : cg_L} {c : Nat} (h0 : c ≠ 0) (h : cg_z c < p) : cg_st b p w c = (cg_scl (cg_f3 c) w, cg_z c, cg_sub (2 ^ (p - cg_z c)) (cg_scl (cg_f3 c) w) b) := by
  unfold cg_st
  rw [cg_bf h0, cg_lf h]
  rfl
theorem cg_p8 {p z : Nat} (h : p ≤ 2) : 2 ^ (p - z) < 8 := by
  have h2 : 2 ^ (p - z) ≤ 2 ^ 2 := Nat.pow_le_pow_right (by omega) (by omega)
  omega
theorem cg_joinS {post : St2 → Prop} {n : Nat} {bad : Int32} {a1 a2 a3 a4 a5 a6 a7 : Nat → Int32} {b w : cg_L} {p : Nat} (j : Nat) (hj : j < 2)
    (hb : cg_W (fun k => a4 (j * 5 + k)) b) (hp : a5 j = nI p) (hp2 : p ≤ 2) (hw : cg_W a6 w)
    (H : ∀ a4' a5' a6' : Nat → Int32, cg_W (fun k => a4' (j * 5 + k)) (cg_st b p w (cg_l w j)).1 → (∀ m, (m < j * 5 ∨ j * 5 + 5 ≤ m) → a4' m = a4 m) →
      a5' j = nI (cg_st b p w (cg_l w j)).2.1 → (∀ m, m ≠ j → a5' m = a5 m) → (cg_st b p w (cg_l w j)).2.1 ≤ 2 → cg_W a6' (cg_st b p w (cg_l w j)).2.2 →
      wX_join_2 post n (nI (j + 1)) 2 2 4 bad a1 a2 a3 a4' a5' a6' a7) :
    wX_join_2 post (n + 1) (nI j) 2 2 4 bad a1 a2 a3 a4 a5 a6 a7 := by
  obtain ⟨hc1, hc2⟩ := hw j (by omega)
  generalize cg_l w j = c at hc1 hc2 H
  have hz := cg_z_le c
  refine pk_le 2 j (fun z => absurd z (by omega)) (fun _ => ⟨pk_in j 5 (by omega), ?_⟩)
  rw [nI_clamp (show j < 2 ^ 31 by omega), hc1]
  refine pk_eq c 0 (fun z => ?_) (fun z => ⟨pk_in j 5 (by omega), cg_zeros c hc2 ⟨pk_in j 4 (by omega), nm_r hp (pk_le p (cg_z c) (fun z2 => ⟨pk_in j 5 (by omega), ?_⟩) (fun z2 => ⟨pk_in j 5 (by omega), nm_r (cg_fshr c (by omega) (cg_z c) (by omega)) ?_⟩))⟩⟩)
  · rw [z, cg_st0] at H
    exact nm_r (nI_1 j) (H a4 a5 a6 hb (fun _ _ => rfl) hp (fun _ _ => rfl) hp2 hw)
  · rw [cg_st1 z z2] at H
    rw [cg_fshr c (by omega) p (by omega)]
    exact cg_subtract j (by omega) (fun a ha => nm_r (nI_1 j) (H a4 a5 a hb (fun _ _ => rfl) hp (fun _ _ => rfl) hp2 (cg_Wsub (Nat.lt_of_le_of_lt (Nat.div_le_self c _) (by omega)) hw hb ha)))
  · rw [cg_st2 z z2] at H
    refine cg_scaleWork (fun a ha => cg_exchange j (by omega) (fun b' a' e1 e2 e3 => ⟨pk_in j 4 (by omega), nm_e ?_⟩))
    rw [cg_f1 p (by omega) (cg_z c) (by omega) (by omega)]
    have hs : cg_W (fun k => b' (j * 5 + k)) (cg_scl (cg_f3 c) w) := cg_Wscl (cg_un_lt hc2) hw (fun k hk => (e1 k hk).trans (ha k hk))
    refine cg_subtract j (by omega) (fun a2' h2 => nm_r (nI_1 j) (H b' _ a2' hs e2 pk_us (fun m hm => pk_un hm) hz (cg_Wsub (cg_p8 hp2) (cg_Wc hb e3) hs h2)))
/-- the object's basis is that of the picture -/
def cg_B (bad : Int32) (a4 a5 : Nat → Int32) (S : cg_S) : Prop :=
  bad = nI S.1 ∧ S.1 ≤ 1 ∧ cg_W (fun k => a4 (0 * 5 + k)) S.2.1 ∧ a5 0 = nI S.2.2.1 ∧ S.2.2.1 ≤ 2 ∧ cg_W (fun k => a4 (1 * 5 + k)) S.2.2.2.1 ∧ a5 1 = nI S.2.2.2.2 ∧ S.2.2.2.2 ≤ 2
theorem cg_joinL {post : St2 → Prop} {bad : Int32} {a1 a2 a3 a4 a5 a6 a7 : Nat → Int32} {S : cg_S} {w : cg_L} (hB : cg_B bad a4 a5 S) (hw : cg_W a6 w)
    (H : ∀ (bad' : Int32) (a4' a5' a6' : Nat → Int32), cg_B bad' a4' a5' (cg_join S w) → post (2, 2, 4, bad', a1, a2, a3, a4', a5', a6', a7)) :
    wpX_join post (2, 2, 4, bad, a1, a2, a3, a4, a5, a6, a7) := by
  obtain ⟨h1, h2, h3, h4, h5, h6, h7, h8⟩ := hB
  refine ⟨3, cg_joinS 0 (by omega) h3 h4 h5 hw (fun a4' a5' a6' g1 g2 g3 g4 g5 g6 => cg_joinS 1 (by omega) (cg_Wc h6 (fun k hk => g2 _ (by omega))) ((g4 1 (by omega)).trans h7) h8 g6 (fun a4q a5q a6q k1 k2 k3 k4 k5 k6 => ?_))⟩
  have t3 : cg_W (fun k => a4q (0 * 5 + k)) (cg_st S.2.1 S.2.2.1 w w.1).1 := cg_Wc g1 (fun k hk => k2 _ (by omega))
  have t4 : a5q 0 = nI (cg_st S.2.1 S.2.2.1 w w.1).2.1 := (k4 0 (by omega)).trans g3
  have t8 := k6 4 (by omega)
  have t9 := t8.2
  refine pk_le 2 2 (fun _ => pk_eq _ 0 (fun z => H _ a4q a5q a6q ⟨?_, ?_, t3, t4, g5, k1, k3, k5⟩) (fun z => H 1 a4q a5q a6q ⟨?_, ?_, t3, t4, g5, k1, k3, k5⟩) t8.1) (fun z => absurd z (by omega))
  · exact h1.trans (congrArg (fun b => nI (bif b then S.1 else 1)) (cg_bt z)).symm
  · exact Nat.le_trans (Nat.le_of_eq (congrArg (fun b => (bif b then S.1 else 1)) (cg_bt z))) h2
  · exact (congrArg (fun b => nI (bif b then S.1 else 1)) (cg_bf z)).symm
  · exact Nat.le_of_eq (congrArg (fun b => (bif b then S.1 else 1)) (cg_bf z))
/-- the law's two lines, the sizes, the draft: what no question changes -/
def cg_K (a1 a2 a3 : Nat → Int32) (l1 l2 : cg_L) : Prop :=
  cg_W (fun k => a1 (0 * 5 + k)) l1 ∧ cg_W (fun k => a1 (1 * 5 + k)) l2 ∧ a2 0 = nI 2 ∧ a2 1 = nI 0 ∧ cg_W a3 (1, 1, 0)
theorem cg_jaS {post : St2 → Prop} {n : Nat} {bad : Int32} {a1 a2 a3 a4 a5 a6 a7 : Nat → Int32} {S : cg_S} {l : cg_L} (i : Nat) (hi : i < 2) (h2 : a2 0 = nI 2)
    (hl : cg_W (fun k => a1 (i * 5 + k)) l) (hB : cg_B bad a4 a5 S)
    (H : ∀ (bad' : Int32) (a4' a5' a6' : Nat → Int32), cg_B bad' a4' a5' (cg_join S l) → wX_joinAll_2 post 0 n (nI (i + 1)) 2 2 4 bad' a1 a2 a3 a4' a5' a6' a7) :
    wX_joinAll_2 post 0 (n + 1) (nI i) 2 2 4 bad a1 a2 a3 a4 a5 a6 a7 := by
  refine And.intro (pk_in 0 2 (by omega)) ?_
  rw [cg_c0]
  exact pk_le 2 i (fun z => absurd z (by omega)) (fun _ => cg_loadLine i (by omega) (fun a ha => cg_joinL hB (cg_Wc hl ha) (fun bad' a4' a5' a6' h => nm_r (nI_1 i) (H bad' a4' a5' a6' h)))) h2
theorem cg_joinAll0 {post : St2 → Prop} {bad : Int32} {a1 a2 a3 a4 a5 a6 a7 : Nat → Int32} {S : cg_S} {l1 l2 : cg_L} (hK : cg_K a1 a2 a3 l1 l2) (hB : cg_B bad a4 a5 S)
    (H : ∀ (bad' : Int32) (a4' a5' a6' : Nat → Int32), cg_B bad' a4' a5' (cg_join (cg_join S l1) l2) → post (2, 2, 4, bad', a1, a2, a3, a4', a5', a6', a7)) :
    wpX_joinAll post (2, 2, 4, bad, a1, a2, a3, a4, a5, a6, a7) 0 := by
  obtain ⟨k1, k2, k3, k4, k5⟩ := hK
  refine ⟨3, cg_jaS 0 (by omega) k3 k1 hB (fun _ _ _ _ h => cg_jaS 1 (by omega) k3 k2 h (fun bad' a4' a5' a6' h' => And.intro (pk_in 0 2 (by omega)) ?_))⟩
  rw [cg_c0]
  exact pk_le 2 2 (fun _ => H bad' a4' a5' a6' h') (fun z => absurd z (by omega)) k3
theorem cg_joinAll1 {post : St2 → Prop} {bad : Int32} {a1 a2 a3 a4 a5 a6 a7 : Nat → Int32} (h : a2 1 = nI 0)
    (H : post (2, 2, 4, bad, a1, a2, a3, a4, a5, a6, a7)) :
    wpX_joinAll post (2, 2, 4, bad, a1, a2, a3, a4, a5, a6, a7) 1 := by
  refine ⟨1, And.intro (pk_in 1 2 (by omega)) ?_⟩
  rw [cg_c1]
  exact pk_le 0 0 (fun _ => H) (fun z => absurd z (by omega)) h
theorem cg_B0 {b p : Nat → Int32} (hb : ∀ k, k < 20 → b k = 0) (hp : ∀ k, k < 4 → p k = 2) : cg_B 0 b p cg_S0 := by
  have e : ∀ k, k < 5 → cg_l (0, 0, 0) k = 0 := cg_5 rfl rfl rfl rfl rfl
  have z : ∀ j, j < 2 → cg_W (fun k => b (j * 5 + k)) (0, 0, 0) := fun j hj k hk => by
    rw [e k hk]
    exact ⟨hb _ (by omega), by omega⟩
  exact ⟨rfl, by decide, z 0 (by omega), hp 0 (by omega), by decide, z 1 (by omega), hp 1 (by omega), by decide⟩
theorem cg_build0 {post : St2 → Prop} {bad : Int32} {a1 a2 a3 a4 a5 a6 a7 : Nat → Int32} {l1 l2 : cg_L} (hK : cg_K a1 a2 a3 l1 l2)
    (H : ∀ (bad' : Int32) (a4' a5' a6' : Nat → Int32), cg_B bad' a4' a5' (cg_bld l1 l2) → post (2, 2, 4, bad', a1, a2, a3, a4', a5', a6', a7)) :
    wpX_build post (2, 2, 4, bad, a1, a2, a3, a4, a5, a6, a7) 0 := by
  unfold wpX_build
  exact cg_startBasis (fun b p hb hp => cg_joinAll0 hK (cg_B0 hb hp) H)
theorem cg_build1 {post : St2 → Prop} {bad : Int32} {a1 a2 a3 a4 a5 a6 a7 : Nat → Int32} {l1 l2 : cg_L} (hK : cg_K a1 a2 a3 l1 l2)
    (H : ∀ (bad' : Int32) (a4' a5' a6' : Nat → Int32), cg_B bad' a4' a5' cg_S0 → post (2, 2, 4, bad', a1, a2, a3, a4', a5', a6', a7)) :
    wpX_build post (2, 2, 4, bad, a1, a2, a3, a4, a5, a6, a7) 1 := by
  unfold wpX_build
  exact cg_startBasis (fun b p hb hp => cg_joinAll1 hK.2.2.2.1 (H _ _ _ _ (cg_B0 hb hp)))
/-! choiceBits, total, least -/
theorem cg_cb0 {post : Int32 → Prop} {bad : Int32} {a1 a2 a3 a4 a5 a6 a7 : Nat → Int32} (H : post (nI 0)) :
    wpX_choiceBits post (2, 2, 4, bad, a1, a2, a3, a4, a5, a6, a7) (nI 0) := ⟨1, br_t (by decide) H⟩
theorem cg_cb1 {post : Int32 → Prop} {bad : Int32} {a1 a2 a3 a4 a5 a6 a7 : Nat → Int32} {p : Nat} (h : a5 0 = nI p) (H : post (nI p)) :
    wpX_choiceBits post (2, 2, 4, bad, a1, a2, a3, a4, a5, a6, a7) (nI 1) :=
  ⟨2, br_f (by decide) ⟨pk_in 0 4 (by omega), nm_r (by rw [cg_c0, h, Int32.zero_add]) (nm_e (br_t (by decide) H))⟩⟩
theorem cg_cb2 {post : Int32 → Prop} {bad : Int32} {a1 a2 a3 a4 a5 a6 a7 : Nat → Int32} {p q : Nat} (h : a5 0 = nI p) (h' : a5 1 = nI q) (H : post (nI (p + q))) :
    wpX_choiceBits post (2, 2, 4, bad, a1, a2, a3, a4, a5, a6, a7) 2 :=
  ⟨3, br_f (by decide) ⟨pk_in 0 4 (by omega), nm_r (by rw [cg_c0, h, Int32.zero_add]) (nm_r (show (0 : Int32) + 1 = 1 by decide) (br_f (by decide) ⟨pk_in 1 4 (by omega), nm_r (by rw [cg_c1, h', nI_add]) (nm_e (br_t (by decide) H))⟩))⟩⟩
theorem cg_total {post : Int32 → Prop} {bad : Int32} {a1 a2 a3 a4 a5 a6 a7 : Nat → Int32} {S : cg_S} (hB : cg_B bad a4 a5 S) (H : post (nI (cg_tot S))) :
    wpX_total post (2, 2, 4, bad, a1, a2, a3, a4, a5, a6, a7) := by
  obtain ⟨h1, h2, h3, h4, h5, h6, h7, h8⟩ := hB
  refine pk_eq S.1 0 (fun z => cg_cb2 h4 h7 ?_) (fun z => ?_) h1
  · rw [cg_f1l _ (by omega)]
    unfold cg_tot at H
    rw [cg_bt z] at H
    exact H
  · unfold cg_tot at H
    rw [cg_bf z] at H
    exact H
theorem cg_least1 {post : Int32 → Prop} {bad : Int32} {a1 a2 a3 a4 a5 a6 a7 : Nat → Int32} {S : cg_S} (hB : cg_B bad a4 a5 S) (H : post (nI (cg_l1 S))) :
    wpX_least post (2, 2, 4, bad, a1, a2, a3, a4, a5, a6, a7) (nI 1) := by
  obtain ⟨h1, h2, h3, h4, h5, h6, h7, h8⟩ := hB
  have t := h6 4 (by omega)
  have t2 : S.2.2.2.1.2.2 < 4 := t.2
  refine And.intro (pk_in 9 20 (by omega)) (nm_r (e' := nI S.2.2.2.1.2.2) ?_ (nm_r (e' := nI 2) rfl ⟨1, pk_le 2 2 (fun _ => cg_red ⟨pk_in 1 4 (by omega), ?_⟩) (fun z => absurd z (by omega))⟩))
  · exact t.1
  · rw [nI_clamp (by omega), h7, cg_fred _ t2, cg_fshr _ (Nat.lt_of_lt_of_le t2 (by omega)) _ (by omega)]
    exact H
theorem cg_least0 {post : Int32 → Prop} {bad : Int32} {a1 a2 a3 a4 a5 a6 a7 : Nat → Int32} {S : cg_S} {x : Nat} (hB : cg_B bad a4 a5 S) (hx : a7 1 = nI x) (hx4 : x < 4) (H : post (nI (cg_l0 S x))) :
    wpX_least post (2, 2, 4, bad, a1, a2, a3, a4, a5, a6, a7) (nI 0) := by
  obtain ⟨h1, h2, h3, h4, h5, h6, h7, h8⟩ := hB
  have t := h3 4 (by omega)
  have t2 : S.2.1.2.2 < 4 := t.2
  have s := h3 1 (by omega)
  have s2 : S.2.1.2.1 < 4 := s.2
  have s1 : a4 1 = nI (cg_l S.2.1 1) := s.1
  refine And.intro (pk_in 4 20 (by omega)) (nm_r (e' := nI S.2.1.2.2) ?_ (nm_r (e' := nI 1) rfl ⟨2, pk_le 2 1 (fun z => absurd z (by omega)) (fun _ => ⟨pk_in 1 20 (by omega), pk_in 1 4 (by omega),
    nm_r (e' := nI S.2.1.2.2 - nI S.2.1.2.1 * nI x) ?_ (nm_r (e' := nI 2) rfl (pk_le 2 2 (fun _ => cg_red ⟨pk_in 0 4 (by omega), ?_⟩) (fun z => absurd z (by omega))))⟩)⟩))
  · exact t.1
  · rw [nI_clamp (by omega), hx]
    rw [show ((nI 0 * 5) + nI 1).toNatClampNeg = 1 by decide, s1]
    rfl
  · rw [nI_clamp (by omega), h4, cg_fsub _ t2 _ (Nat.lt_of_lt_of_le s2 (by omega)) _ hx4, cg_fshr _ (Nat.lt_of_lt_of_le (Nat.mod_lt _ (by omega)) (by omega)) _ (by omega)]
    exact H
end
section
/-! the questions, each over the built basis -/
theorem cg_bad0 {bad : Int32} {a4 a5 : Nat → Int32} {S : cg_S} (hB : cg_B bad a4 a5 S) (z : S.1 = 0) : bad = 0 := by
  rw [hB.1, z]
  rfl
theorem cg_badn {bad : Int32} {a4 a5 : Nat → Int32} {S : cg_S} (hB : cg_B bad a4 a5 S) (z : S.1 ≠ 0) : ¬ bad = 0 := by
  have h := hB.2.1
  rw [hB.1]
  exact nI_ne0 (by omega) (by omega)
theorem cg_tot0 {S : cg_S} (z : S.1 ≠ 0) : cg_tot S = 0 := by
  unfold cg_tot
  rw [cg_bf z]
  rfl
theorem cg_totp {S : cg_S} (z : S.1 = 0) : 0 < cg_tot S := by
  unfold cg_tot
  rw [cg_bt z]
  exact Nat.two_pow_pos _
theorem cg_tot16 {bad : Int32} {a4 a5 : Nat → Int32} {S : cg_S} (hB : cg_B bad a4 a5 S) : cg_tot S ≤ 16 := by
  obtain ⟨h1, h2, h3, h4, h5, h6, h7, h8⟩ := hB
  unfold cg_tot
  cases Nat.beq S.1 0 with
  | false => exact Nat.zero_le _
  | true => exact Nat.pow_le_pow_right (n := 2) (j := 4) (by omega) (by omega)
theorem cg_l1_lt {bad : Int32} {a4 a5 : Nat → Int32} {S : cg_S} (hB : cg_B bad a4 a5 S) : cg_l1 S < 4 :=
  Nat.lt_of_le_of_lt (Nat.div_le_self _ _) (hB.2.2.2.2.2.1 4 (by omega)).2
theorem cg_l0_lt (S : cg_S) (x : Nat) : cg_l0 S x < 4 := Nat.lt_of_le_of_lt (Nat.div_le_self _ _) (Nat.mod_lt _ (by omega))
theorem cg_sol0 {post : Int32 → St2 → Prop} {bad : Int32} {a1 a2 a3 a4 a5 a6 a7 : Nat → Int32} {l1 l2 : cg_L} (hK : cg_K a1 a2 a3 l1 l2)
    (H : ∀ (bad' : Int32) (a4' a5' a6' a7' : Nat → Int32), post (nI (cg_tot (cg_bld l1 l2))) (2, 2, 4, bad', a1, a2, a3, a4', a5', a6', a7')) :
    wpX_solutions post (2, 2, 4, bad, a1, a2, a3, a4, a5, a6, a7) 0 := by
  unfold wpX_solutions
  exact cg_sys0 (br_f (by decide) (cg_build0 hK (fun bad' a4' a5' a6' hB => cg_total hB (H bad' a4' a5' a6' a7))))
theorem cg_sol1 {post : Int32 → St2 → Prop} {bad : Int32} {a1 a2 a3 a4 a5 a6 a7 : Nat → Int32} {l1 l2 : cg_L} (hK : cg_K a1 a2 a3 l1 l2)
    (H : ∀ (bad' : Int32) (a4' a5' a6' a7' : Nat → Int32), post (nI 16) (2, 2, 4, bad', a1, a2, a3, a4', a5', a6', a7')) :
    wpX_solutions post (2, 2, 4, bad, a1, a2, a3, a4, a5, a6, a7) 1 := by
  unfold wpX_solutions
  exact cg_sys1 (br_f (by decide) (cg_build1 hK (fun bad' a4' a5' a6' hB => cg_total hB (H bad' a4' a5' a6' a7))))
theorem cg_com {post : Int32 → St2 → Prop} {bad : Int32} {a1 a2 a3 a4 a5 a6 a7 : Nat → Int32} {l1 l2 : cg_L} (hK : cg_K a1 a2 a3 l1 l2)
    (H : ∀ (bad' : Int32) (a4' a5' a6' a7' : Nat → Int32), post (nI (cg_tot (cg_bld l1 l2))) (2, 2, 4, bad', a1, a2, a3, a4', a5', a6', a7')) :
    wpX_common post (2, 2, 4, bad, a1, a2, a3, a4, a5, a6, a7) := by
  unfold wpX_common
  exact cg_build0 hK (fun bad' a4' a5' a6' hB => cg_joinAll1 hK.2.2.2.1 (cg_total hB (H bad' a4' a5' a6' a7)))
theorem cg_nth0 {post : Int32 → St2 → Prop} {bad : Int32} {a1 a2 a3 a4 a5 a6 a7 : Nat → Int32} {l1 l2 : cg_L} (hK : cg_K a1 a2 a3 l1 l2)
    (H : ∀ (bad' : Int32) (a4' a5' a6' a7' : Nat → Int32), post (cg_m (cg_nth (cg_bld l1 l2))) (2, 2, 4, bad', a1, a2, a3, a4', a5', a6', a7')) :
    wpX_nth post (2, 2, 4, bad, a1, a2, a3, a4, a5, a6, a7) 0 0 := by
  unfold wpX_nth
  refine cg_sys0 (br_f (by decide) (cg_build0 hK (fun bad' a4' a5' a6' hB => br_f (by decide) (cg_total hB ?_))))
  generalize cg_bld l1 l2 = S at H hB
  have ht := cg_tot16 hB
  by_cases z : S.1 = 0
  · have hp := cg_totp z
    have hl1 := cg_l1_lt hB
    have hl0 := cg_l0_lt S (cg_l1 S)
    have hn : cg_nth S = cg_l1 S * 4 + cg_l0 S (cg_l1 S) + 2 := by
      unfold cg_nth
      rw [cg_bt z]
      rfl
    rw [hn, cg_m2] at H
    have hB' := hB
    obtain ⟨h1, h2, h3, h4, h5, h6, h7, h8⟩ := hB'
    refine pk_lt 0 (cg_tot S) (fun _ => nm_r cg_21 ⟨3, br_f (by decide) (cg_cb1 h4 (nm_r (cg_f0r _ (by omega)) (nm_r (cg_f0s _ (by omega)) (cg_least1 hB ⟨pk_in 1 4 (by omega), pk_in 1 4 (by omega),
      nm_r (e' := upd a7 1 (nI (cg_l1 S))) ?_ ⟨pk_in 1 4 (by omega), nm_r (e' := nI (cg_l1 S)) ?_ (nm_r cg_m11 (br_f (by decide) (cg_cb0 (nm_r (cg_f0r 0 (by omega)) (nm_r (cg_f0s 0 (by omega)) (cg_least0 hB pk_us hl1 ⟨pk_in 0 4 (by omega), pk_in 0 4 (by omega),
        nm_r (e' := upd (upd a7 1 (nI (cg_l1 S))) 0 (nI (cg_l0 S (cg_l1 S)))) ?_ ⟨pk_in 0 4 (by omega), nm_r (e' := nI (cg_l1 S * 4 + cg_l0 S (cg_l1 S))) ?_ (nm_r cg_m10 (br_t (by decide) (H _ _ _ _ _)))⟩⟩))))))⟩⟩))))⟩) (fun y => absurd y (by omega))
    · rw [cg_c1, h7, cg_fv _ hl1 _ (by omega)]
    · rw [cg_c1, pk_us, Int32.zero_mul, Int32.zero_add]
    · rw [cg_c0, h4, cg_fv _ hl0 _ (by omega)]
    · rw [cg_c0, pk_us]
      show nI (cg_l1 S) * nI 4 + nI (cg_l0 S (cg_l1 S)) = _
      rw [pk_mul, nI_add]
  · have hn : cg_nth S = 0 := by
      unfold cg_nth
      rw [cg_bf z]
      rfl
    rw [hn, cg_m0] at H
    rw [cg_tot0 z]
    exact br_f (by decide) (H _ _ _ _ _)
/-! below -/
theorem cg_dig {post : Int32 → St2 → Prop} {n : Nat} {bad x2 : Int32} {a1 a2 a3 a4 a5 a6 a7 : Nat → Int32} {cnt d l p cb : Nat} (j : Nat) (hj : j < 2)
    (hd : d < 4) (hl : l < 4) (hp : p ≤ 2) (hcb : cb ≤ 2) (h5 : a5 j = nI p)
    (hx : (x2 >>> ((nI j * 2) &&& 31)) &&& (4 - 1) = nI d)
    (hle : ∀ ψ : Int32 → Prop, ψ (nI l) → wpX_least ψ (2, 2, 4, bad, a1, a2, a3, a4, a5, a6, a7) (nI j))
    (hch : ∀ ψ : Int32 → Prop, ψ (nI cb) → wpX_choiceBits ψ (2, 2, 4, bad, a1, a2, a3, a4, a5, a6, a7) (nI j))
    (H0 : cg_go d l p = false → post (nI (cg_cnt cnt d l p cb)) (2, 2, 4, bad, a1, a2, a3, a4, a5, a6, a7))
    (H1 : cg_go d l p = true → wX_below_57 post x2 2 2 4 bad n (nI (cg_cnt cnt d l p cb)) (nI j + (-1)) a1 a2 a3 a4 a5 a6 (upd a7 j (nI d))) :
    wX_below_57 post x2 2 2 4 bad (n + 1) (nI cnt) (nI j) a1 a2 a3 a4 a5 a6 a7 := by
  have T : ∀ c : Nat, c = cg_cnt cnt d l p cb → wX_below_139 post (wX_below_57 post x2 2 2 4 bad n) x2 (nI c) (nI j) (nI d) (nI l) (nI (2 - p)) 2 2 4 bad a1 a2 a3 a4 a5 a6 a7 := by
    intro c ec
    rw [← ec] at H0 H1
    refine pk_lt d l (fun z => H0 ?_) (fun z => ?_)
    · unfold cg_go
      rw [cg_lf z]
      rfl
    · have hm : (d - l) % 2 ^ (2 - p) ≤ d - l := Nat.mod_le _ _
      rw [cg_f7 d hd l hl (2 - p) (by omega) z]
      refine pk_eq ((d - l) % 2 ^ (2 - p)) 0 (fun y => ⟨pk_in j 4 (by omega), nm_r (e' := upd a7 j (nI d)) (by rw [nI_clamp (by omega)]) (nm_e (H1 ?_))⟩) (fun y => H0 ?_) rfl rfl (Nat.lt_of_le_of_lt hm (by omega)) (by omega)
      · unfold cg_go
        rw [cg_lt z, cg_bt y]
        rfl
      · unfold cg_go
        rw [cg_lt z, cg_bf y]
        rfl
  refine br_f (nI_pos (by omega)) (nm_r hx (hle _ ⟨pk_in j 4 (by omega), nm_r (e' := nI (2 - p)) ?_ (pk_le d l (fun z => T cnt ?_) (fun z => nm_r (cg_f8 d hd l hl (2 - p) (by omega) z) (hch _ (nm_r (e' := nI (cg_cnt cnt d l p cb)) ?_ (T _ rfl)))))⟩))
  · rw [nI_clamp (by omega), h5]
    exact pk_sub (a := 2) hp
  · unfold cg_cnt
    rw [cg_lt z]
    rfl
  · have hq : (d - l - 1) / 2 ^ (2 - p) ≤ d - l - 1 := Nat.div_le_self _ _
    unfold cg_cnt
    rw [cg_lf z, cg_fshl _ (by omega) _ (by omega), nI_add]
    rfl
theorem cg_below {post : Int32 → St2 → Prop} {bad : Int32} {a1 a2 a3 a4 a5 a6 a7 : Nat → Int32} {l1 l2 : cg_L} (hK : cg_K a1 a2 a3 l1 l2) (z : (cg_bld l1 l2).1 = 0) (b : Nat) (hb : b ≤ 16)
    (H : ∀ (bad' : Int32) (a4' a5' a6' a7' : Nat → Int32), post (nI (cg_blw (cg_bld l1 l2) b)) (2, 2, 4, bad', a1, a2, a3, a4', a5', a6', a7')) :
    wpX_below post (2, 2, 4, bad, a1, a2, a3, a4, a5, a6, a7) 0 (nI b) := by
  unfold wpX_below
  refine cg_sys0 (br_f (by decide) (cg_build0 hK (fun bad' a4' a5' a6' hB => br_t (cg_bad0 hB z) ?_)))
  generalize cg_bld l1 l2 = S at H hB z
  have hl1 := cg_l1_lt hB
  have hl0 := cg_l0_lt S (b / 4 % 4)
  have hB' := hB
  obtain ⟨h1, h2, h3, h4, h5, h6, h7, h8⟩ := hB'
  unfold cg_blw at H
  refine pk_lt 0 b (fun y => pk_lt b 16 (fun y2 => nm_r cg_21 ⟨3, ?_⟩) (fun y2 => cg_total hB ?_) rfl (by decide)) (fun y => ?_)
  · rw [cg_bf (show b ≠ 0 by omega), cg_lf y2] at H
    refine cg_dig 1 (by omega) (Nat.mod_lt _ (by omega)) hl1 h8 h5 h7 (cg_fd1 b y2) (fun ψ hψ => cg_least1 hB hψ) (fun ψ hψ => cg_cb1 h4 hψ) (fun g => ?_) (fun g => ?_)
    · rw [g] at H
      exact H _ _ _ _ _
    · rw [g] at H
      rw [show nI 1 + (-1) = nI 0 by decide]
      refine cg_dig 0 (by omega) (Nat.mod_lt b (by omega)) hl0 h5 (Nat.zero_le 2) h4 (cg_fd0 b y2) (fun ψ hψ => cg_least0 hB pk_us (Nat.mod_lt _ (by omega)) hψ) (fun ψ hψ => cg_cb0 hψ) (fun g2 => H _ _ _ _ _) (fun g2 => br_t (by decide) (H _ _ _ _ _))
  · rw [cg_bf (show b ≠ 0 by omega), cg_lt y2] at H
    exact H _ _ _ _ _
  · rw [cg_bt (show b = 0 by omega)] at H
    exact H _ _ _ _ _
theorem cg_belowB {post : Int32 → St2 → Prop} {bad x : Int32} {a1 a2 a3 a4 a5 a6 a7 : Nat → Int32} {l1 l2 : cg_L} (hK : cg_K a1 a2 a3 l1 l2) (z : (cg_bld l1 l2).1 ≠ 0)
    (H : ∀ (bad' : Int32) (a4' a5' a6' a7' : Nat → Int32), post 0 (2, 2, 4, bad', a1, a2, a3, a4', a5', a6', a7')) :
    wpX_below post (2, 2, 4, bad, a1, a2, a3, a4, a5, a6, a7) 0 x := by
  unfold wpX_below
  exact cg_sys0 (br_f (by decide) (cg_build0 hK (fun bad' a4' a5' a6' hB => br_f (cg_badn hB z) (H _ _ _ _ _))))
/-! withoutUnknown -/
theorem cg_woS {post : Int32 → St2 → Prop} {n : Nat} {bad : Int32} {a1 a2 a3 a4 a5 a6 a7 : Nat → Int32} {fr c : Nat} (i : Nat) (hi : i < 2) (hf : fr ≤ 2) (h2 : a2 0 = nI 2) (hc : a1 (i * 5) = nI c) (hc4 : c < 4)
    (H : cg_min fr (cg_z c) ≤ 2 → wX_withoutUnknown_37 post 0 0 2 2 4 bad a1 a2 a3 a4 a5 a6 a7 n (nI (cg_min fr (cg_z c))) (nI (i + 1))) :
    wX_withoutUnknown_37 post 0 0 2 2 4 bad a1 a2 a3 a4 a5 a6 a7 (n + 1) (nI fr) (nI i) := by
  have hz := cg_z_le c
  have ei : (((0 : Int32) * 10 + nI i) * 5) + 0 = nI (i * 5) := by rw [cg_li, Int32.add_zero]
  refine And.intro (pk_in 0 2 (by omega)) ?_
  rw [cg_c0]
  refine pk_le 2 i (fun z => absurd z (by omega)) (fun _ => ⟨pk_in (i * 5) 100 (by omega) ei, ?_⟩) h2
  rw [pk_cl (i * 5) ei, hc]
  refine cg_zeros c hc4 (pk_le fr (cg_z c) (fun z => nm_r (nI_1 i) ?_) (fun z => nm_r (nI_1 i) ?_))
  · have e : cg_min fr (cg_z c) = fr := by
      unfold cg_min
      rw [cg_lt z]
      rfl
    rw [e] at H
    exact H hf
  · have e : cg_min fr (cg_z c) = cg_z c := by
      unfold cg_min
      rw [cg_lf z]
      rfl
    rw [e] at H
    exact H hz
theorem cg_without {post : Int32 → St2 → Prop} {bad : Int32} {a1 a2 a3 a4 a5 a6 a7 : Nat → Int32} {l1 l2 : cg_L} (hK : cg_K a1 a2 a3 l1 l2)
    (H : ∀ (bad' : Int32) (a4' a5' a6' a7' : Nat → Int32), post (nI (cg_wo (cg_bld l1 l2) l1.1 l2.1)) (2, 2, 4, bad', a1, a2, a3, a4', a5', a6', a7')) :
    wpX_withoutUnknown post (2, 2, 4, bad, a1, a2, a3, a4, a5, a6, a7) 0 0 := by
  unfold wpX_withoutUnknown
  refine cg_sys0 (br_f (by decide) (br_f (by decide) (br_t (by decide) (cg_build0 hK (fun bad' a4' a5' a6' hB => ?_)))))
  obtain ⟨k1, k2, k3, k4, k5⟩ := hK
  have q1 := k1 0 (by omega)
  have q2 := k2 0 (by omega)
  have ht := cg_tot16 hB
  refine ⟨3, cg_woS (fr := 2) 0 (by omega) (by omega) k3 q1.1 q1.2 (fun g1 => cg_woS 1 (by omega) g1 k3 q2.1 q2.2 (fun g2 => And.intro (pk_in 0 2 (by omega)) ?_))⟩
  rw [cg_c0]
  refine pk_le 2 2 (fun _ => cg_total hB ?_) (fun z => absurd z (by omega)) k3
  rw [cg_fshr _ (by omega) _ (by omega)]
  exact H _ _ _ _ _
end
section
/-! vanishes, spread, values, leastValue, entails -/
theorem cg_vanS {post : Int32 → St2 → Prop} {n : Nat} {bad : Int32} {a1 a2 a3 a4 a5 a6 a7 : Nat → Int32} {b w : cg_L} {p : Nat} (j : Nat) (hj : j < 2)
    (hb : cg_W (fun k => a4 (j * 5 + k)) b) (hp : a5 j = nI p) (hp2 : p ≤ 2) (hw : cg_W a6 w)
    (H0 : cg_z (cg_l w j) < p → post 0 (2, 2, 4, bad, a1, a2, a3, a4, a5, a6, a7))
    (H1 : p ≤ cg_z (cg_l w j) → ∀ a : Nat → Int32, cg_W a (cg_sub (cg_l w j / 2 ^ p) b w) → wX_vanishes_2 post n (nI (j + 1)) 2 2 4 bad a1 a2 a3 a4 a5 a a7) :
    wX_vanishes_2 post (n + 1) (nI j) 2 2 4 bad a1 a2 a3 a4 a5 a6 a7 := by
  obtain ⟨hc1, hc2⟩ := hw j (by omega)
  generalize cg_l w j = c at hc1 hc2 H0 H1
  have hz := cg_z_le c
  refine pk_le 2 j (fun z => absurd z (by omega)) (fun _ => ⟨pk_in j 5 (by omega), ?_⟩)
  rw [nI_clamp (show j < 2 ^ 31 by omega), hc1, hp]
  refine cg_zeros c hc2 ⟨pk_in j 4 (by omega), pk_le p (cg_z c) (fun z2 => ⟨pk_in j 5 (by omega), pk_in j 4 (by omega), ?_⟩) (fun z2 => H0 z2)⟩
  rw [cg_fshr c (by omega) p (by omega)]
  exact cg_subtract j (by omega) (fun a ha => nm_r (nI_1 j) (H1 z2 a (cg_Wsub (Nat.lt_of_le_of_lt (Nat.div_le_self c _) (by omega)) hw hb ha)))
theorem cg_vanL {post : Int32 → St2 → Prop} {bad : Int32} {a1 a2 a3 a4 a5 a6 a7 : Nat → Int32} {S : cg_S} {w : cg_L} (hB : cg_B bad a4 a5 S) (hw : cg_W a6 w)
    (H0 : cg_van S w = 0 → ∀ a : Nat → Int32, post 0 (2, 2, 4, bad, a1, a2, a3, a4, a5, a, a7))
    (H1 : ∀ r : Nat, cg_van S w = 1 + r → r < 4 → ∀ a : Nat → Int32, a 4 = nI r → post 1 (2, 2, 4, bad, a1, a2, a3, a4, a5, a, a7)) :
    wpX_vanishes post (2, 2, 4, bad, a1, a2, a3, a4, a5, a6, a7) := by
  obtain ⟨h1, h2, h3, h4, h5, h6, h7, h8⟩ := hB
  refine ⟨3, cg_vanS 0 (by omega) h3 h4 h5 hw (fun z => H0 ?_ a6) (fun z a ha => cg_vanS 1 (by omega) h6 h7 h8 ha (fun z1 => H0 ?_ a) (fun z1 a' ha' => pk_le 2 2 (fun _ => H1 _ ?_ (ha' 4 (by omega)).2 a' (ha' 4 (by omega)).1) (fun y => absurd y (by omega))))⟩
  · unfold cg_van
    rw [cg_lf (show cg_z w.1 < S.2.2.1 from z)]
    rfl
  · unfold cg_van
    rw [cg_lt (show S.2.2.1 ≤ cg_z w.1 from z)]
    show cg_van2 S (cg_sub (w.1 / 2 ^ S.2.2.1) S.2.1 w) = 0
    unfold cg_van2
    rw [cg_lf (show cg_z (cg_sub (w.1 / 2 ^ S.2.2.1) S.2.1 w).2.1 < S.2.2.2.2 from z1)]
    rfl
  · unfold cg_van
    rw [cg_lt (show S.2.2.1 ≤ cg_z w.1 from z)]
    show cg_van2 S (cg_sub (w.1 / 2 ^ S.2.2.1) S.2.1 w) = _
    unfold cg_van2
    rw [cg_lt (show S.2.2.2.2 ≤ cg_z (cg_sub (w.1 / 2 ^ S.2.2.1) S.2.1 w).2.1 from z1)]
    rfl
theorem cg_Wdr {a3 a : Nat → Int32} {F : Nat} (hF : F < 4) (h3 : cg_W a3 (1, 1, 0)) (h : ∀ k, k < 5 → a k = (a3 k * nI F) &&& (4 - 1)) : cg_W (upd a 4 0) (F, F, 0) := by
  refine cg_5 ⟨?_, hF⟩ ⟨?_, hF⟩ ⟨?_, Nat.zero_lt_succ 3⟩ ⟨?_, Nat.zero_lt_succ 3⟩ ⟨pk_us, Nat.zero_lt_succ 3⟩
  · rw [pk_un (by decide), h 0 (by omega), (h3 0 (by omega)).1]
    show (nI 1 * nI F) &&& (4 - 1) = nI F
    rw [cg_fdr 1 (by omega) F hF, Nat.one_mul]
  · rw [pk_un (by decide), h 1 (by omega), (h3 1 (by omega)).1]
    show (nI 1 * nI F) &&& (4 - 1) = nI F
    rw [cg_fdr 1 (by omega) F hF, Nat.one_mul]
  · rw [pk_un (by decide), h 2 (by omega), (h3 2 (by omega)).1]
    show (nI 0 * nI F) &&& (4 - 1) = nI 0
    rw [cg_fdr 0 (by omega) F hF, Nat.zero_mul]
  · rw [pk_un (by decide), h 3 (by omega), (h3 3 (by omega)).1]
    show (nI 0 * nI F) &&& (4 - 1) = nI 0
    rw [cg_fdr 0 (by omega) F hF, Nat.zero_mul]
theorem cg_Wr {a : Nat → Int32} {x y r : Nat} (hr : r < 4) (h : cg_W a (x, y, 0)) : cg_W (upd a 4 (nI r)) (x, y, r) := by
  refine cg_5 ⟨?_, (h 0 (by omega)).2⟩ ⟨?_, (h 1 (by omega)).2⟩ ⟨?_, Nat.zero_lt_succ 3⟩ ⟨?_, Nat.zero_lt_succ 3⟩ ⟨pk_us, hr⟩
  · rw [pk_un (by decide)]
    exact (h 0 (by omega)).1
  · rw [pk_un (by decide)]
    exact (h 1 (by omega)).1
  · rw [pk_un (by decide)]
    exact (h 2 (by omega)).1
  · rw [pk_un (by decide)]
    exact (h 3 (by omega)).1
theorem cg_sprS {post : Int32 → St2 → Prop} {n : Nat} {bad : Int32} {a1 a2 a3 a4 a5 a6 a7 : Nat → Int32} {S : cg_S} (k F : Nat) (hk : k < 2) (hF : F = 2 ^ k) (hF4 : F < 4) (hB : cg_B bad a4 a5 S) (hd : cg_W a3 (1, 1, 0))
    (H0 : cg_van S (F, F, 0) = 0 → ∀ a : Nat → Int32, wX_spread_2 post n (nI (k + 1)) 2 2 4 bad a1 a2 a3 a4 a5 a a7)
    (H1 : cg_van S (F, F, 0) ≠ 0 → ∀ a : Nat → Int32, post (nI k) (2, 2, 4, bad, a1, a2, a3, a4, a5, a, a7)) :
    wX_spread_2 post (n + 1) (nI k) 2 2 4 bad a1 a2 a3 a4 a5 a6 a7 := by
  refine pk_le 2 k (fun z => absurd z (by omega)) (fun _ => ?_)
  rw [cg_f1l k (by omega), ← hF]
  exact cg_loadDraft (fun a ha => cg_vanL hB (cg_Wdr hF4 hd ha) (fun e a' => br_t rfl (nm_r (nI_1 k) (H0 e a'))) (fun r e hr a' _ => br_f (by decide) (H1 (by omega) a')))
theorem cg_spread {post : Int32 → St2 → Prop} {bad : Int32} {a1 a2 a3 a4 a5 a6 a7 : Nat → Int32} {S : cg_S} (hB : cg_B bad a4 a5 S) (hd : cg_W a3 (1, 1, 0))
    (H : ∀ a : Nat → Int32, post (nI (cg_spr S)) (2, 2, 4, bad, a1, a2, a3, a4, a5, a, a7)) :
    wpX_spread post (2, 2, 4, bad, a1, a2, a3, a4, a5, a6, a7) := by
  unfold cg_spr at H
  refine ⟨3, cg_sprS 0 1 (by omega) rfl (by omega) hB hd (fun e a => cg_sprS 1 2 (by omega) rfl (by omega) hB hd (fun e2 a2 => pk_le 2 2 (fun _ => ?_) (fun y => absurd y (by omega))) (fun e2 a2 => ?_)) (fun e a => ?_)⟩
  · rw [cg_bt e, cg_bt e2] at H
    exact H a2
  · rw [cg_bt e, cg_bf e2] at H
    exact H a2
  · rw [cg_bf e] at H
    exact H a
theorem cg_spr_le (S : cg_S) : cg_spr S ≤ 2 := by
  unfold cg_spr
  cases Nat.beq (cg_van S (1, 1, 0)) 0 with
  | false => exact Nat.zero_le 2
  | true =>
    cases Nat.beq (cg_van S (2, 2, 0)) 0 with
    | false => exact Nat.le_succ 1
    | true => exact Nat.le_refl 2
theorem cg_values {post : Int32 → St2 → Prop} {bad : Int32} {a1 a2 a3 a4 a5 a6 a7 : Nat → Int32} {l1 l2 : cg_L} (hK : cg_K a1 a2 a3 l1 l2)
    (H : ∀ (bad' : Int32) (a4' a5' a6' a7' : Nat → Int32), post (nI (cg_val (cg_bld l1 l2))) (2, 2, 4, bad', a1, a2, a3, a4', a5', a6', a7')) :
    wpX_values post (2, 2, 4, bad, a1, a2, a3, a4, a5, a6, a7) 0 := by
  unfold wpX_values
  refine cg_sys0 (br_f (by decide) (cg_build0 hK (fun bad' a4' a5' a6' hB => ?_)))
  generalize cg_bld l1 l2 = S at H hB
  have hs := cg_spr_le S
  unfold cg_val at H
  by_cases z : S.1 = 0
  · rw [cg_bt z] at H
    refine br_t (cg_bad0 hB z) (cg_spread hB hK.2.2.2.2 (fun a => ?_))
    show post ((1 : Int32) <<< (nI (cg_spr S) &&& 31)) _
    rw [cg_f1l _ (by omega)]
    exact H _ _ _ _ _
  · rw [cg_bf z] at H
    exact br_f (cg_badn hB z) (H _ _ _ _ _)
theorem cg_leastValue {post : Int32 → St2 → Prop} {bad : Int32} {a1 a2 a3 a4 a5 a6 a7 : Nat → Int32} {l1 l2 : cg_L} (hK : cg_K a1 a2 a3 l1 l2)
    (H : ∀ (bad' : Int32) (a4' a5' a6' a7' : Nat → Int32), post (cg_m (cg_lv (cg_bld l1 l2))) (2, 2, 4, bad', a1, a2, a3, a4', a5', a6', a7')) :
    wpX_leastValue post (2, 2, 4, bad, a1, a2, a3, a4, a5, a6, a7) 0 := by
  unfold wpX_leastValue
  refine cg_sys0 (br_f (by decide) (cg_build0 hK (fun bad' a4' a5' a6' hB => ?_)))
  generalize cg_bld l1 l2 = S at H hB
  have hs := cg_spr_le S
  have hl1 := cg_l1_lt hB
  have hl0 := cg_l0_lt S (cg_l1 S)
  have d0 : a3 0 = nI 1 := (hK.2.2.2.2 0 (by omega)).1
  have d1 : a3 1 = nI 1 := (hK.2.2.2.2 1 (by omega)).1
  by_cases z : S.1 = 0
  · have hn : cg_lv S = (cg_l1 S + cg_l0 S (cg_l1 S)) % 2 ^ (2 - cg_spr S) + 2 := by
      unfold cg_lv
      rw [cg_bt z]
      rfl
    rw [hn, cg_m2] at H
    refine br_t (cg_bad0 hB z) (nm_r cg_21 ⟨3, br_f (by decide) (cg_least1 hB ⟨pk_in 1 4 (by omega), nm_r (e' := upd a7 1 (nI (cg_l1 S))) ?_ ⟨pk_in 1 5 (by omega), pk_in 1 4 (by omega), nm_r (e' := nI (cg_l1 S)) ?_ (nm_r cg_m11
      (br_f (by decide) (cg_least0 hB pk_us hl1 ⟨pk_in 0 4 (by omega), nm_r (e' := upd (upd a7 1 (nI (cg_l1 S))) 0 (nI (cg_l0 S (cg_l1 S)))) ?_ ⟨pk_in 0 5 (by omega), pk_in 0 4 (by omega), nm_r (e' := nI (cg_l1 S + cg_l0 S (cg_l1 S))) ?_ (nm_r cg_m10
        (br_t (by decide) (cg_spread hB hK.2.2.2.2 (fun a => nm_e ?_))))⟩⟩)))⟩⟩)⟩)
    · rw [cg_c1]
    · rw [cg_c1, pk_us, d1, pk_mul, Nat.one_mul, Int32.zero_add]
    · rw [cg_c0]
    · rw [cg_c0, pk_us, d0, pk_mul, Nat.one_mul, nI_add]
    · rw [cg_fmask _ (by omega) _ (by omega)]
      exact H _ _ _ _ _
  · have hn : cg_lv S = 0 := by
      unfold cg_lv
      rw [cg_bf z]
      rfl
    rw [hn, cg_m0] at H
    exact br_f (cg_badn hB z) (H _ _ _ _ _)
theorem cg_entails {post : Int32 → St2 → Prop} {bad : Int32} {a1 a2 a3 a4 a5 a6 a7 : Nat → Int32} {l1 l2 : cg_L} (hK : cg_K a1 a2 a3 l1 l2)
    (H : ∀ (bad' : Int32) (a4' a5' a6' a7' : Nat → Int32), post (nI (cg_ent (cg_bld l1 l2))) (2, 2, 4, bad', a1, a2, a3, a4', a5', a6', a7')) :
    wpX_entails post (2, 2, 4, bad, a1, a2, a3, a4, a5, a6, a7) 0 2 := by
  unfold wpX_entails
  refine cg_sys0 (br_f (by decide) (cg_build0 hK (fun bad' a4' a5' a6' hB => cg_loadDraft (fun a ha => cg_red (nm_r (e' := upd (upd a 4 0) 4 (nI 2)) ?_ ?_)))))
  · rw [show (2 : Int32) &&& (4 - 1) = nI 2 by decide]
  · generalize cg_bld l1 l2 = S at H hB
    have hw : cg_W (upd (upd a 4 0) 4 (nI 2)) (1, 1, 2) := cg_Wr (by omega) (cg_Wdr (F := 1) (by omega) hK.2.2.2.2 ha)
    unfold cg_ent at H
    by_cases z : S.1 = 0
    · rw [cg_bt z] at H
      refine br_t (cg_bad0 hB z) (cg_vanL hB hw (fun e a' => br_t rfl (br_t rfl ?_)) (fun r e hr a' h4 => br_f (by decide) (pk_eq r 0 (fun y => br_f (by decide) ?_) (fun y => br_t rfl ?_) h4)))
      · rw [e] at H
        exact H _ _ _ _ _
      · rw [e, y] at H
        exact H _ _ _ _ _
      · rw [cg_bf (show cg_van S (1, 1, 2) ≠ 1 by omega)] at H
        exact H _ _ _ _ _
    · rw [cg_bf z] at H
      exact br_f (cg_badn hB z) (br_f (by decide) (H _ _ _ _ _))
end
section
/-! the law's own two loops, and its chain of questions -/
def cg_of (p q r : Int32) : cg_L := (p.toBitVec.toNat % 4, q.toBitVec.toNat % 4, r.toBitVec.toNat % 4)
theorem cg_lin' (p q r : Int32) (x y : Nat) (hx : x < 4) (hy : y < 4) : (((p * nI x) + (q * nI y)) - r) &&& 3 = nI (cg_e (cg_of p q r) x y) := cg_lin p q r x y hx hy
theorem cg_e_lt (l : cg_L) (x y : Nat) : cg_e l x y < 2 ^ 31 := Nat.lt_of_lt_of_le (Nat.mod_lt _ (by omega)) (by omega)
def cg_I (k : Nat) (s : cg_M) : Prop := s.1 ≤ k ∧ s.2.2.1 < 16 ∧ s.2.2.2 ≤ 1
theorem cg_115 {post : Int32 → St0 → Prop} {mc ms : Nat} {J : Int32 → Int32 → Int32 → Int32 → Int32 → Prop} {p q r u w t x9 : Int32} {kc ks : Nat} {f1 f2 f3 f4 : Int32} {a1 a2 a3 a4 a5 a6 a7 : Nat → Int32} {n : Nat}
    (y x k : Nat) (hy : y < 4) (hx : x < 4) (hk : k < 100) (s : cg_M) (hs : cg_I k s)
    (H : cg_I (k + 1) (cg_cell (cg_of p q r) (cg_of u w t) y x s) →
      wL_lawOf_115 post mc ms J p q r u w t x9 (nI y) kc ks f1 f2 f3 f4 a1 a2 a3 a4 a5 a6 a7 n (nI (cg_cell (cg_of p q r) (cg_of u w t) y x s).1) (cg_m (cg_cell (cg_of p q r) (cg_of u w t) y x s).2.1)
        (nI (cg_cell (cg_of p q r) (cg_of u w t) y x s).2.2.1) (nI (cg_cell (cg_of p q r) (cg_of u w t) y x s).2.2.2) (nI (x + 1))) :
    wL_lawOf_115 post mc ms J p q r u w t x9 (nI y) kc ks f1 f2 f3 f4 a1 a2 a3 a4 a5 a6 a7 (n + 1) (nI s.1) (cg_m s.2.1) (nI s.2.2.1) (nI s.2.2.2) (nI x) := by
  obtain ⟨s1, s2, s3⟩ := hs
  have hse := cg_fseen s.2.2.1 s2 x hx y hy
  have hmiss : (cg_cell (cg_of p q r) (cg_of u w t) y x s = s) → wL_lawOf_115 post mc ms J p q r u w t x9 (nI y) kc ks f1 f2 f3 f4 a1 a2 a3 a4 a5 a6 a7 n (nI s.1) (cg_m s.2.1) (nI s.2.2.1) (nI s.2.2.2) (nI (x + 1)) := by
    intro e
    rw [e] at H
    exact H ⟨by omega, s2, s3⟩
  refine pk_le 4 x (fun z => absurd z (by omega)) (fun _ => pk_eq (cg_e (cg_of p q r) x y) 0 (fun z1 => ?_) (fun z1 => ?_) (cg_lin' p q r x y hx hy) rfl (cg_e_lt _ _ _))
  · refine pk_eq (cg_e (cg_of u w t) x y) 0 (fun z2 => br_f (by decide) (br_f (by decide) ?_)) (fun z2 => br_f (by decide) (br_t rfl (nm_r (nI_1 x) (hmiss ?_)))) (cg_lin' u w t x y hx hy) rfl (cg_e_lt _ _ _)
    · have hc : cg_cell (cg_of p q r) (cg_of u w t) y x s = cg_hit y x s := by
        unfold cg_cell
        rw [cg_bt z1, cg_bt z2]
        rfl
      rw [hc] at H
      have H' := H ⟨Nat.succ_le_succ s1, hse.2, Nat.le_refl 1⟩
      refine pk_eq s.1 0 (fun e => nm_r (e' := cg_m (x + 4 * y + 2)) ?_ (nm_r (nI_1 _) (nm_r hse.1 (nm_r (nI_1 x) ?_)))) (fun e => nm_r (nI_1 _) (nm_r hse.1 (nm_r (nI_1 x) ?_)))
      · rw [cg_m2]
        show nI x + nI 4 * nI y = _
        rw [pk_mul, nI_add]
      · have h2 : (cg_hit y x s).2.1 = x + 4 * y + 2 := by
          show (bif Nat.beq s.1 0 then x + 4 * y + 2 else s.2.1) = _
          rw [cg_bt e]
          rfl
        rw [h2] at H'
        exact H'
      · have h2 : (cg_hit y x s).2.1 = s.2.1 := by
          show (bif Nat.beq s.1 0 then x + 4 * y + 2 else s.2.1) = _
          rw [cg_bf e]
          rfl
        rw [h2] at H'
        exact H'
    · unfold cg_cell
      rw [cg_bt z1, cg_bf z2]
      rfl
  · have e : cg_cell (cg_of p q r) (cg_of u w t) y x s = s := by
      unfold cg_cell
      rw [cg_bf z1]
      rfl
    exact br_c (fun _ => br_t rfl (nm_r (nI_1 x) (hmiss e))) (fun _ => br_t rfl (nm_r (nI_1 x) (hmiss e)))
theorem cg_rowL {post : Int32 → St0 → Prop} {mc ms : Nat} {J : Int32 → Int32 → Int32 → Int32 → Int32 → Prop} {p q r u w t : Int32} {kc ks : Nat} {f1 f2 f3 f4 : Int32} {a1 a2 a3 a4 a5 a6 a7 : Nat → Int32}
    (y k : Nat) (hy : y < 4) (hk : k < 90) (s : cg_M) (h1 : s.1 ≤ k) (h2 : s.2.2.1 < 16)
    (H : (cg_row (cg_of p q r) (cg_of u w t) y s).1 ≤ k + 4 → (cg_row (cg_of p q r) (cg_of u w t) y s).2.2.1 < 16 →
      J (nI (cg_row (cg_of p q r) (cg_of u w t) y s).1) (cg_m (cg_row (cg_of p q r) (cg_of u w t) y s).2.1) (nI (cg_row (cg_of p q r) (cg_of u w t) y s).2.2.2) (nI (cg_row (cg_of p q r) (cg_of u w t) y s).2.2.1) (nI (y + 1))) :
    ∃ fu, wL_lawOf_115 post mc ms J p q r u w t (nI s.2.2.2) (nI y) kc ks f1 f2 f3 f4 a1 a2 a3 a4 a5 a6 a7 fu (nI s.1) (cg_m s.2.1) (nI s.2.2.1) 0 0 := by
  unfold cg_row cg_r4 at H
  refine ⟨5, cg_115 y 0 k hy (by omega) (by omega) (cg_r0 s) ⟨h1, h2, Nat.zero_le 1⟩ (fun i1 => cg_115 y 1 (k + 1) hy (by omega) (by omega) _ i1 (fun i2 => cg_115 y 2 (k + 2) hy (by omega) (by omega) _ i2 (fun i3 => cg_115 y 3 (k + 3) hy (by omega) (by omega) _ i3 (fun i4 => ?_))))⟩
  generalize cg_cell (cg_of p q r) (cg_of u w t) y 3 (cg_cell (cg_of p q r) (cg_of u w t) y 2 (cg_cell (cg_of p q r) (cg_of u w t) y 1 (cg_cell (cg_of p q r) (cg_of u w t) y 0 (cg_r0 s)))) = R at H i4
  obtain ⟨g1, g2, g3⟩ := i4
  have H' : J (nI R.1) (cg_m R.2.1) (nI (s.2.2.2 + R.2.2.2)) (nI R.2.2.1) (nI (y + 1)) := H g1 g2
  refine pk_le 4 4 (fun _ => pk_eq R.2.2.2 0 (fun z => nm_r (nI_1 y) ?_) (fun z => nm_r (nI_1 _) (nm_r (nI_1 y) ?_))) (fun z => absurd z (by omega))
  · rw [z] at H'
    exact H'
  · rw [show R.2.2.2 = 1 by omega] at H'
    exact H'
theorem cg_103 {post : Int32 → St0 → Prop} {mc ms : Nat} {p q r u w t : Int32} {kc ks : Nat} {f1 f2 f3 f4 : Int32} {a1 a2 a3 a4 a5 a6 a7 : Nat → Int32} {n : Nat}
    (y k : Nat) (hy : y < 4) (hk : k < 90) (s : cg_M) (h1 : s.1 ≤ k) (h2 : s.2.2.1 < 16)
    (H : (cg_row (cg_of p q r) (cg_of u w t) y s).1 ≤ k + 4 → (cg_row (cg_of p q r) (cg_of u w t) y s).2.2.1 < 16 →
      wL_lawOf_103 post mc ms p q r u w t kc ks f1 f2 f3 f4 a1 a2 a3 a4 a5 a6 a7 n (nI (cg_row (cg_of p q r) (cg_of u w t) y s).1) (cg_m (cg_row (cg_of p q r) (cg_of u w t) y s).2.1) (nI (cg_row (cg_of p q r) (cg_of u w t) y s).2.2.2) (nI (cg_row (cg_of p q r) (cg_of u w t) y s).2.2.1) (nI (y + 1))) :
    wL_lawOf_103 post mc ms p q r u w t kc ks f1 f2 f3 f4 a1 a2 a3 a4 a5 a6 a7 (n + 1) (nI s.1) (cg_m s.2.1) (nI s.2.2.2) (nI s.2.2.1) (nI y) :=
  pk_le 4 y (fun z => absurd z (by omega)) (fun _ => cg_rowL y k hy hk s h1 h2 H)
theorem cg_low1 : ∀ s, s < 16 → ¬ nI s &&& 1 = 0 → cg_m (cg_low s) = 0 := by decide +kernel
theorem cg_low2 : ∀ s, s < 16 → nI s &&& 1 = 0 → ¬ nI s &&& 2 = 0 → cg_m (cg_low s) = 1 := by decide +kernel
theorem cg_low3 : ∀ s, s < 16 → nI s &&& 1 = 0 → nI s &&& 2 = 0 → ¬ nI s &&& 4 = 0 → cg_m (cg_low s) = 2 := by decide +kernel
theorem cg_low4 : ∀ s, s < 16 → nI s &&& 1 = 0 → nI s &&& 2 = 0 → nI s &&& 4 = 0 → ¬ nI s = 0 → cg_m (cg_low s) = 3 := by decide +kernel
theorem cg_low5 : ∀ s, s < 16 → nI s = 0 → cg_m (cg_low s) = -2 := by decide +kernel
theorem cg_103x {post : Int32 → St0 → Prop} {mc ms : Nat} {p q r u w t x7 x8 x9 : Int32} {kc ks : Nat} {f1 f2 f3 f4 : Int32} {a1 a2 a3 a4 a5 a6 a7 : Nat → Int32} {n : Nat} (s : Nat) (hs : s < 16)
    (H : wL_lawOf_304 post mc ms x7 x8 x9 (nI s) (nI (cg_pop s)) (cg_m (cg_low s)) kc ks f1 f2 f3 f4 a1 a2 a3 a4 a5 a6 a7) :
    wL_lawOf_103 post mc ms p q r u w t kc ks f1 f2 f3 f4 a1 a2 a3 a4 a5 a6 a7 (n + 1) x7 x8 x9 (nI s) (nI 4) := by
  refine pk_le 4 4 (fun _ => nm_r (cg_fpop s hs) (br_c (fun c1 => br_c (fun c2 => br_c (fun c3 => br_c (fun c4 => ?_) (fun c4 => ?_)) (fun c3 => ?_)) (fun c2 => ?_)) (fun c1 => ?_))) (fun z => absurd z (by omega))
  · rw [cg_low5 s hs c4] at H
    exact H
  · rw [cg_low4 s hs c1 c2 c3 c4] at H
    exact H
  · rw [cg_low3 s hs c1 c2 c3] at H
    exact H
  · rw [cg_low2 s hs c1 c2] at H
    exact H
  · rw [cg_low1 s hs c1] at H
    exact H
/-- what the kernel's look gives, as equations -/
def cg_Q (p u : Nat) (S : cg_S) (M : cg_M) : Prop :=
  cg_tot S = M.1 ∧ cg_nth S = M.2.1 ∧ M.2.1 ≤ 17 ∧ (S.1 = 0 → cg_blw S (M.2.1 - 2) = 0 ∧ cg_blw S (M.2.1 - 1) = 1) ∧ cg_wo S p u = M.2.2.2 ∧ cg_val S = cg_pop M.2.2.1 ∧ cg_lv S = cg_low M.2.2.1 ∧ cg_ent S = cg_se M.2.2.1
theorem cg_chk_of {p u : Nat} {S : cg_S} {M : cg_M} (h : cg_chk p u S M = true) : cg_Q p u S M := by
  unfold cg_chk at h
  simp only [Bool.and_eq_true] at h
  obtain ⟨⟨⟨⟨⟨⟨⟨e1, e2⟩, e3⟩, e4⟩, e5⟩, e6⟩, e7⟩, e8⟩ := h
  refine ⟨Nat.eq_of_beq_eq_true e1, Nat.eq_of_beq_eq_true e2, Nat.le_of_ble_eq_true e3, fun z => ?_, Nat.eq_of_beq_eq_true e5, Nat.eq_of_beq_eq_true e6, Nat.eq_of_beq_eq_true e7, Nat.eq_of_beq_eq_true e8⟩
  rw [cg_bt z] at e4
  have e4' : (Nat.beq (cg_blw S (M.2.1 - 2)) 0 && Nat.beq (cg_blw S (M.2.1 - 1)) 1) = true := e4
  rw [Bool.and_eq_true] at e4'
  exact ⟨Nat.eq_of_beq_eq_true e4'.1, Nat.eq_of_beq_eq_true e4'.2⟩
theorem cg_428 {post : Int32 → St0 → Prop} {mc ms kc ks : Nat} {z bad : Int32} {a1 a2 a3 a4 a5 a6 a7 : Nat → Int32} {l1 l2 : cg_L} {c : Nat} (hP : post 1 ()) (hK : cg_K a1 a2 a3 l1 l2) (h : cg_tot (cg_bld l1 l2) = c) :
    wL_lawOf_428 post mc ms (nI c) z z kc ks 2 2 4 bad a1 a2 a3 a4 a5 a6 a7 :=
  br_t rfl (cg_com hK (fun _ _ _ _ _ => br_t (congrArg nI h) (cg_sol1 hK (fun _ _ _ _ _ => br_t rfl hP))))
theorem cg_362 {post : Int32 → St0 → Prop} {mc ms kc ks : Nat} {z bad : Int32} {a1 a2 a3 a4 a5 a6 a7 : Nat → Int32} {l1 l2 : cg_L} {M : cg_M} (hP : post 1 ()) (hK : cg_K a1 a2 a3 l1 l2) (hQ : cg_Q l1.1 l2.1 (cg_bld l1 l2) M) (hs : M.2.2.1 < 16) :
    wL_lawOf_362 post mc ms (nI M.1) (nI M.2.2.2) (nI M.2.2.1) (nI (cg_pop M.2.2.1)) (cg_m (cg_low M.2.2.1)) z z kc ks 2 2 4 bad a1 a2 a3 a4 a5 a6 a7 := by
  obtain ⟨e1, e2, e3, e4, e5, e6, e7, e8⟩ := hQ
  refine br_t rfl (cg_without hK (fun _ _ _ _ _ => br_t (congrArg nI e5) (cg_values hK (fun _ _ _ _ _ => br_t (congrArg nI e6) (cg_leastValue hK (fun _ _ _ _ _ => br_t (congrArg cg_m e7) (cg_entails hK (fun _ _ _ _ _ => ?_))))))))
  rw [e8]
  refine pk_eq M.2.2.1 0 (fun y => ?_) (fun y => pk_eq M.2.2.1 4 (fun y2 => ?_) (fun y2 => ?_))
  · rw [y]
    exact cg_428 hP hK e1
  · rw [y2]
    exact cg_428 hP hK e1
  · have e : cg_se M.2.2.1 = 0 := by
      unfold cg_se
      rw [cg_bf y, cg_bf y2]
      rfl
    rw [e]
    exact cg_428 hP hK e1
theorem cg_304 {post : Int32 → St0 → Prop} {mc ms kc ks : Nat} {bad : Int32} {a1 a2 a3 a4 a5 a6 a7 : Nat → Int32} {l1 l2 : cg_L} {M : cg_M} (hP : post 1 ()) (hK : cg_K a1 a2 a3 l1 l2) (hQ : cg_Q l1.1 l2.1 (cg_bld l1 l2) M) (hs : M.2.2.1 < 16) (hc : M.1 ≤ 16) :
    wL_lawOf_304 post mc ms (nI M.1) (cg_m M.2.1) (nI M.2.2.2) (nI M.2.2.1) (nI (cg_pop M.2.2.1)) (cg_m (cg_low M.2.2.1)) kc ks 2 2 4 bad a1 a2 a3 a4 a5 a6 a7 := by
  have hQ' := hQ
  obtain ⟨e1, e2, e3, e4, e5, e6, e7, e8⟩ := hQ'
  unfold wL_lawOf_304
  refine cg_sol0 hK (fun _ _ _ _ _ => br_t (congrArg nI e1) (cg_nth0 hK (fun _ _ _ _ _ => br_t (congrArg cg_m e2) ?_)))
  by_cases z : (cg_bld l1 l2).1 = 0
  · obtain ⟨b1, b2⟩ := e4 z
    have hp := cg_totp z
    have hn : 2 ≤ M.2.1 := by
      rw [← e2]
      unfold cg_nth
      rw [cg_bt z]
      exact Nat.le_add_left 2 _
    have em : cg_m M.2.1 = nI (M.2.1 - 2) := by
      have t := cg_m2 (M.2.1 - 2)
      rw [Nat.sub_add_cancel hn] at t
      exact t
    have em1 : cg_m M.2.1 + 1 = nI (M.2.1 - 1) := by
      rw [em, nI_1]
      congr 1
      omega
    rw [em1, em]
    refine cg_below hK z _ (by omega) (fun _ _ _ _ _ => ?_)
    rw [b1]
    refine br_t rfl (cg_below hK z _ (by omega) (fun _ _ _ _ _ => ?_))
    rw [b2]
    exact br_f (nI_nle (by omega) (by omega)) (cg_362 hP hK hQ hs)
  · have ht := cg_tot0 z
    have hM : M.1 = 0 := by omega
    refine cg_belowB hK z (fun _ _ _ _ _ => br_t rfl (cg_belowB hK z (fun _ _ _ _ _ => br_t ?_ (cg_362 hP hK hQ hs))))
    rw [hM]
    decide
end
section
/-! the object's making, the drafts, the two lines; the owed statement -/
theorem cg_init {post : St2 → Prop} (H : post (2, 2, 4, 0, fun _ => 0, fun _ => 0, fun _ => 0, fun _ => 0, fun _ => 0, fun _ => 0, fun _ => 0)) :
    wpX_init post 7 140 (0, 0, 0, 0) 2 2 := by
  unfold wpX_init
  refine ⟨by omega, by omega, by omega, by omega, by omega, by omega, by omega, by omega, by omega, by omega, by omega, by omega, by omega, by omega, br_t (by decide) ?_⟩
  exact br_t (by decide) (br_f (by decide) (br_t (by decide) (br_t (by decide) (nm_r (show (1 : Int32) <<< (2 &&& 31) = 4 by decide) H))))
theorem cg_draft {post : Int32 → St2 → Prop} {bad c : Int32} {a1 a2 a3 a4 a5 a6 a7 : Nat → Int32} (v : Nat) (hv : v < 2)
    (H : ∀ (r : Int32) (a : Nat → Int32), a v = c &&& (4 - 1) → (∀ k, k ≠ v → a k = a3 k) → post r (2, 2, 4, bad, a1, a2, a, a4, a5, a6, a7)) :
    wpX_draft post (2, 2, 4, bad, a1, a2, a3, a4, a5, a6, a7) (nI v) c :=
  br_f (nI_pos (by omega)) (pk_lt v 2 (fun _ => cg_red ⟨pk_in v 5 (by omega), nm_r (e' := upd a3 v (c &&& (4 - 1))) (by rw [nI_clamp (by omega)]) ⟨pk_in v 5 (by omega), H _ _ pk_us (fun k hk => pk_un hk)⟩⟩) (fun z => absurd z (by omega)))
theorem cg_add {post : Int32 → St2 → Prop} {bad c : Int32} {a1 a2 a3 a4 a5 a6 a7 : Nat → Int32} (m : Nat) (hm : m < 2) (h2 : a2 0 = nI m)
    (H : ∀ a b : Nat → Int32, a (m * 5) = a3 0 → a (m * 5 + 1) = a3 1 → a (m * 5 + 4) = c &&& (4 - 1) → (∀ k, k ≠ m * 5 → k ≠ m * 5 + 1 → k ≠ m * 5 + 4 → a k = a1 k) → b 0 = nI (m + 1) → b 1 = a2 1 →
      post (nI (m + 1)) (2, 2, 4, bad, a, b, a3, a4, a5, a6, a7)) :
    wpX_add post (2, 2, 4, bad, a1, a2, a3, a4, a5, a6, a7) 0 c := by
  unfold wpX_add
  refine cg_sys0 (br_f (by decide) ⟨pk_in 0 2 (by omega), ?_⟩)
  rw [cg_c0, h2]
  refine pk_eq m 10 (fun z => absurd z (by omega)) (fun _ => ⟨pk_in 0 2 (by omega), nm_r (cg_li m) ⟨3, pk_le 2 0 (fun z => absurd z (by omega)) (fun _ => ⟨pk_in 0 5 (by omega), pk_in (m * 5) 100 (by omega) (by rw [Int32.add_zero]),
    nm_r (e' := upd a1 (m * 5) (a3 0)) ?_ (nm_r (e' := nI 1) rfl (pk_le 2 1 (fun z => absurd z (by omega)) (fun _ => ⟨pk_in 1 5 (by omega), pk_in (m * 5 + 1) 100 (by omega) (nI_add _ _),
      nm_r (e' := upd (upd a1 (m * 5) (a3 0)) (m * 5 + 1) (a3 1)) ?_ (nm_r (e' := nI 2) rfl (pk_le 2 2 (fun _ => cg_red ⟨pk_in (m * 5 + 4) 100 (by omega) (nI_add _ 4),
        nm_r (e' := upd (upd (upd a1 (m * 5) (a3 0)) (m * 5 + 1) (a3 1)) (m * 5 + 4) (c &&& (4 - 1))) ?_ ⟨pk_in 0 2 (by omega), pk_in 0 2 (by omega), nm_r (e' := upd a2 0 (nI (m + 1))) ?_ ⟨pk_in 0 2 (by omega), ?_⟩⟩⟩) (fun z => absurd z (by omega))))⟩)))⟩)⟩⟩)
  · rw [Int32.add_zero, nI_clamp (by omega), cg_c0]
  · rw [nI_add, nI_clamp (by omega), nI_clamp (by omega)]
  · rw [show (nI (m * 5) + 4).toNatClampNeg = m * 5 + 4 from pk_cl (m * 5 + 4) (nI_add _ 4)]
  · rw [cg_c0, h2, nI_1]
  · rw [cg_c0, pk_us]
    refine H _ _ ?_ ?_ pk_us ?_ pk_us (pk_un (by decide))
    · rw [pk_un (by omega), pk_un (by omega), pk_us]
    · rw [pk_un (by omega), pk_us]
    · intro k k1 k2 k3
      rw [pk_un k3, pk_un k2, pk_un k1]
theorem cg_mod (p : Int32) : p &&& (4 - 1) = nI (p.toBitVec.toNat % 4) := pk_and p 2 (by decide)
theorem cg_Wmk {a : Nat → Int32} {p q r : Int32} (h0 : a 0 = p &&& (4 - 1)) (h1 : a 1 = q &&& (4 - 1)) (h2 : a 2 = 0) (h3 : a 3 = 0) (h4 : a 4 = r &&& (4 - 1)) : cg_W a (cg_of p q r) :=
  cg_5 ⟨h0.trans (cg_mod p), Nat.mod_lt _ (by omega)⟩ ⟨h1.trans (cg_mod q), Nat.mod_lt _ (by omega)⟩ ⟨h2, Nat.zero_lt_succ 3⟩ ⟨h3, Nat.zero_lt_succ 3⟩ ⟨h4.trans (cg_mod r), Nat.mod_lt _ (by omega)⟩
theorem cg_lawOf {post : Int32 → St0 → Prop} (hP : post 1 ()) (p q r u w t : Int32) : wpL_lawOf post 8 151 () p q r u w t := by
  have hok : cg_ok (cg_of p q r) (cg_of u w t) = true := cg_okAll (Nat.mod_lt _ (by omega)) (Nat.mod_lt _ (by omega)) (Nat.mod_lt _ (by omega)) (Nat.mod_lt _ (by omega)) (Nat.mod_lt _ (by omega)) (Nat.mod_lt _ (by omega))
  have hQ := cg_chk_of hok
  unfold wpL_lawOf
  refine ⟨by omega, by omega, 7, 140, by omega, by omega, cg_init ?_⟩
  refine cg_draft 0 (by omega) (fun _ d1 d10 d11 => ?_)
  refine cg_draft 1 (by omega) (fun _ d2 d20 d21 => ?_)
  refine cg_add 0 (by omega) rfl (fun b1 c1 b10 b11 b12 b13 c10 c11 => br_t rfl ?_)
  refine cg_draft 0 (by omega) (fun _ d3 d30 d31 => ?_)
  refine cg_draft 1 (by omega) (fun _ d4 d40 d41 => ?_)
  refine cg_add 1 (by omega) c10 (fun b2 c2 b20 b21 b22 b23 c20 c21 => br_t rfl ?_)
  refine cg_draft 0 (by omega) (fun _ d5 d50 d51 => ?_)
  refine cg_draft 1 (by omega) (fun _ d6 d60 d61 => ?_)
  have hK : cg_K b2 c2 d6 (cg_of p q r) (cg_of u w t) := by
    refine ⟨cg_Wmk ?_ ?_ ?_ ?_ ?_, cg_Wmk ?_ ?_ ?_ ?_ ?_, c20, c21.trans c11, ?_⟩
    · exact (b23 0 (by decide) (by decide) (by decide)).trans (b10.trans ((d21 0 (by decide)).trans d10))
    · exact (b23 1 (by decide) (by decide) (by decide)).trans (b11.trans d20)
    · exact (b23 2 (by decide) (by decide) (by decide)).trans (b13 2 (by decide) (by decide) (by decide))
    · exact (b23 3 (by decide) (by decide) (by decide)).trans (b13 3 (by decide) (by decide) (by decide))
    · exact (b23 4 (by decide) (by decide) (by decide)).trans b12
    · exact b20.trans ((d41 0 (by decide)).trans d30)
    · exact b21.trans d40
    · exact (b23 7 (by decide) (by decide) (by decide)).trans (b13 7 (by decide) (by decide) (by decide))
    · exact (b23 8 (by decide) (by decide) (by decide)).trans (b13 8 (by decide) (by decide) (by decide))
    · exact b22
    · have z2 : ∀ k, k ≠ 0 → k ≠ 1 → d6 k = 0 := fun k k0 k1 => (d61 k k1).trans ((d51 k k0).trans ((d41 k k1).trans ((d31 k k0).trans ((d21 k k1).trans (d11 k k0)))))
      exact cg_5 ⟨(d61 0 (by decide)).trans d50, by decide⟩ ⟨d60, by decide⟩ ⟨z2 2 (by decide) (by decide), by decide⟩ ⟨z2 3 (by decide) (by decide), by decide⟩ ⟨z2 4 (by decide) (by decide), by decide⟩
  refine ⟨5, cg_103 0 0 (by omega) (by omega) (0, 0, 0, 0) (Nat.le_refl 0) (by decide) (fun m1 n1 => cg_103 1 4 (by omega) (by omega) _ m1 n1 (fun m2 n2 => cg_103 2 8 (by omega) (by omega) _ m2 n2 (fun m3 n3 => cg_103 3 12 (by omega) (by omega) _ m3 n3 (fun m4 n4 => cg_103x _ n4 (cg_304 hP hK hQ n4 m4)))))⟩
theorem cg_cellAt {post : Int32 → Prop} {L : Nat} {xs : Nat → Int32} (hL : L ≤ 6) (i : Nat) (hi : i < 6) (h : ∀ x, post x) : wpL_cellAt post L xs () (nI i) :=
  pk_le L i (fun _ => h 0) (fun z => ⟨pk_in i L z, h _⟩)
theorem i_vc (xs : Nat → Int32) (L : Nat) (hL : L ≤ 6) : wpL_law (fun r => r = 1) L xs := by
  unfold wpL_law
  exact cg_cellAt hL 0 (by omega) (fun p => cg_cellAt hL 1 (by omega) (fun q => cg_cellAt hL 2 (by omega) (fun r => cg_cellAt hL 3 (by omega) (fun u => cg_cellAt hL 4 (by omega) (fun w => cg_cellAt hL 5 (by omega) (fun t =>
    ⟨8, 151, by omega, by omega, cg_lawOf rfl p q r u w t⟩))))))
end
