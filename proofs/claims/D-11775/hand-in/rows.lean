section
/-! tables: one natural holds cells of ten bits -/
def ct_g (T j : Nat) : Nat := Nat.mod (Nat.shiftRight T (Nat.mul 10 j)) 1024
def ct_s (T j v : Nat) : Nat := Nat.xor T (Nat.shiftLeft (Nat.xor (ct_g T j) v) (Nat.mul 10 j))
def ct_f (T : Nat) : Nat → Int32 := fun j => nI (ct_g T j)
theorem ct_g_eq (T j : Nat) : ct_g T j = (T >>> (10 * j)) % 2 ^ 10 := rfl
theorem ct_s_eq (T j v : Nat) : ct_s T j v = T ^^^ ((ct_g T j ^^^ v) <<< (10 * j)) := rfl
theorem ct_g_lt (T j : Nat) : ct_g T j < 1024 := Nat.mod_lt _ (by decide)
theorem ct_gb (T j b : Nat) : (ct_g T j).testBit b = (decide (b < 10) && T.testBit (10 * j + b)) := by
  rw [ct_g_eq, Nat.testBit_mod_two_pow, Nat.testBit_shiftRight]
theorem ct_hi {v b : Nat} (hv : v < 1024) (hb : 10 ≤ b) : v.testBit b = false :=
  Nat.testBit_lt_two_pow (Nat.lt_of_lt_of_le (show v < 2 ^ 10 from hv) (Nat.pow_le_pow_right (by decide) hb))
theorem ct_gs {T j v i : Nat} (hv : v < 1024) : ct_g (ct_s T j v) i = if i = j then v else ct_g T i := by
  have hd : ct_g T j ^^^ v < 1024 := Nat.xor_lt_two_pow (n := 10) (ct_g_lt T j) hv
  apply Nat.eq_of_testBit_eq
  intro b
  rw [ct_gb, ct_s_eq, Nat.testBit_xor, Nat.testBit_shiftLeft]
  by_cases e : i = j
  · subst e
    rw [if_pos rfl, Nat.add_sub_cancel_left, Nat.testBit_xor, ct_gb]
    by_cases h : b < 10
    · cases T.testBit (10 * i + b) <;> cases v.testBit b <;> simp [h]
    · rw [ct_hi hv (by omega)]
      simp [h]
  · rw [if_neg e, ct_gb]
    by_cases h : b < 10
    · by_cases h2 : 10 * j ≤ 10 * i + b
      · rw [ct_hi hd (by omega)]
        simp
      · simp [h2]
    · simp [h]
theorem ct_0 (j : Nat) : ct_g 0 j = 0 := by
  rw [ct_g_eq, Nat.zero_shiftRight]
theorem ct_f0 : ct_f 0 = fun _ => 0 := by
  funext j
  show nI (ct_g 0 j) = 0
  rw [ct_0]
  rfl
theorem ct_rd {T p : Nat} (hp : p < 2 ^ 31) : ct_f T (nI p).toNatClampNeg = nI (ct_g T p) := by
  rw [nI_clamp hp]
  rfl
theorem ct_up {T p v : Nat} {z : Int32} (hp : p < 2 ^ 31) (hv : v < 1024) (hz : z = nI v) : upd (ct_f T) (nI p).toNatClampNeg z = ct_f (ct_s T p v) := by
  rw [nI_clamp hp]
  funext i
  show (if i = p then z else nI (ct_g T i)) = nI (ct_g (ct_s T p v) i)
  rw [ct_gs hv]
  by_cases e : i = p
  · rw [if_pos e, if_pos e, hz]
  · rw [if_neg e, if_neg e]
theorem ct_gp {T p v : Nat} (hv : v < 1024) : ct_g (ct_s T p v) p = v := by
  rw [ct_gs hv, if_pos rfl]
/-! ints -/
theorem ct_i16 : ∀ n, n < 1024 → (nI n).toInt16.toInt32 = nI n := by decide +kernel
theorem ct_i8 : ∀ n, n < 128 → (nI n).toInt8.toInt32 = nI n := by decide +kernel
theorem ct_a {p : Nat} (h : p < 432) : nI p / 72 = nI (p / 72) := pk_div (d := 72) (by omega) (by decide) (by decide)
theorem ct_b {p : Nat} (h : p < 432) : nI p / 12 - nI p / 12 / 6 * 6 = nI (p / 12 % 6) := by
  rw [show nI p / 12 = nI (p / 12) from pk_div (d := 12) (by omega) (by decide) (by decide)]
  exact pk_rem (d := 6) (by omega) (by decide) (by decide)
theorem ct_t {p : Nat} (h : p < 432) : nI p / 2 - nI p / 2 / 6 * 6 = nI (p / 2 % 6) := by
  rw [show nI p / 2 = nI (p / 2) from pk_div (d := 2) (by omega) (by decide) (by decide)]
  exact pk_rem (d := 6) (by omega) (by decide) (by decide)
theorem ct_m {p : Nat} (h : p < 432) : nI p - nI p / 2 * 2 = nI (p % 2) := pk_rem (d := 2) (by omega) (by decide) (by decide)
theorem ct_sub1 {p : Nat} (h : 1 ≤ p) : nI p - 1 = nI (p - 1) := pk_sub (b := 1) h
/-! booleans -/
theorem ct_bt {a b : Nat} (h : a = b) : Nat.beq a b = true := by
  subst h
  exact Nat.beq_refl a
theorem ct_bf {a b : Nat} (h : a ≠ b) : Nat.beq a b = false := by
  cases e : Nat.beq a b with
  | false => rfl
  | true => exact absurd (Nat.eq_of_beq_eq_true e) h
theorem ct_bn {a b : Nat} (h : Nat.beq a b = false) : a ≠ b := fun e => by
  rw [ct_bt e] at h
  exact absurd h (by decide)
theorem ct_lt {a b : Nat} (h : a ≤ b) : Nat.ble a b = true := Nat.ble_eq.mpr h
theorem ct_lf {a b : Nat} (h : ¬ a ≤ b) : Nat.ble a b = false := by
  cases e : Nat.ble a b with
  | false => rfl
  | true => exact absurd (Nat.le_of_ble_eq_true e) h
theorem ct_ln {a b : Nat} (h : Nat.ble a b = false) : b < a := by
  rcases Nat.lt_or_ge b a with z | z
  · exact z
  · rw [ct_lt z] at h
    exact absurd h (by decide)
theorem ct_ct {α : Type} (A B : α) : cond true A B = A := rfl
theorem ct_cf {α : Type} (A B : α) : cond false A B = B := rfl
theorem ct_nt {b : Bool} (h : ¬ b = true) : b = false := by
  cases b
  · rfl
  · exact absurd rfl h
theorem ct_cT {b A : Bool} (h : cond b A false = true) : b = true ∧ A = true := by
  cases b
  · exact absurd (show false = true from h) (by decide)
  · exact ⟨rfl, h⟩
/-- a natural is worked out before it is handed on -/
noncomputable def ct_k (n : Nat) (c : Nat → Bool) : Bool := Nat.rec (motive := fun _ => Bool) (c 0) (fun m _ => c (Nat.succ m)) n
theorem ct_k_eq (n : Nat) (c : Nat → Bool) : ct_k n c = c n := by
  cases n <;> rfl
/-! the map: a row of doors 0 → 1 → .. → k -/
def ct_o (k j : Nat) : Nat := cond (Nat.ble (j + 1) k) (2 ^ (j + 1)) 0
def ct_n (k j : Nat) : Nat := cond (Nat.ble j k) (cond (Nat.ble 1 j) (2 ^ (j - 1)) 0) 0
def ct_out (k : Nat) : Nat → Int32 := fun j => nI (ct_o k j)
def ct_in (k : Nat) : Nat → Int32 := fun j => nI (ct_n k j)
/-- a door from y leads to a -/
def ct_ed (k y a : Nat) : Bool := cond (Nat.beq (Nat.succ y) a) (Nat.ble a k) false
/-- the number of doors from j -/
def ct_c (k j : Nat) : Nat := cond (Nat.ble (Nat.succ j) k) 1 0
theorem ct_out0 : ct_out 0 = fun _ => 0 := by
  funext j
  rfl
theorem ct_in0 : ct_in 0 = fun _ => 0 := by
  funext j
  cases j <;> rfl
theorem ct_ib0 : ∀ k, k < 5 → ∀ t, t < 6 → ∀ y, y < 6 → (((ct_in k t >>> (nI y &&& 31)) &&& 1) = 1 ↔ ct_ed k y t = true) := by decide +kernel
theorem ct_ob0 : ∀ k, k < 5 → ∀ j, j < 6 → ∀ y, y < 6 → (((ct_out k j >>> (nI y &&& 31)) &&& 1) = 0 ↔ ¬ ct_ed k j y = true) := by decide +kernel
theorem ct_ib {k t y : Nat} (hk : k < 5) (ht : t < 6) (hy : y < 6) : ((ct_in k (nI t).toNatClampNeg >>> (nI y &&& 31)) &&& 1) = 1 ↔ ct_ed k y t = true := by
  rw [nI_clamp (by omega)]
  exact ct_ib0 k hk t ht y hy
theorem ct_ob {k j y : Nat} (hk : k < 5) (hj : j < 6) (hy : y < 6) : ((ct_out k (nI j).toNatClampNeg >>> (nI y &&& 31)) &&& 1) = 0 ↔ ¬ ct_ed k j y = true := by
  rw [nI_clamp (by omega)]
  exact ct_ob0 k hk j hj y hy
theorem ct_edE {k y a : Nat} (h : ct_ed k y a = true) : a = y + 1 ∧ a ≤ k := by
  obtain ⟨h1, h2⟩ := ct_cT h
  exact ⟨(Nat.eq_of_beq_eq_true h1).symm, Nat.le_of_ble_eq_true h2⟩
def ct_bs (z : Int32) : Int32 := 0 + ((z >>> ((0 : Int32) &&& 31)) &&& 1) + ((z >>> ((1 : Int32) &&& 31)) &&& 1) + ((z >>> ((2 : Int32) &&& 31)) &&& 1) + ((z >>> ((3 : Int32) &&& 31)) &&& 1) + ((z >>> ((4 : Int32) &&& 31)) &&& 1) + ((z >>> ((5 : Int32) &&& 31)) &&& 1)
theorem ct_bc : ∀ k, k < 5 → ∀ j, j < 6 → ct_bs (ct_out k j) = nI (ct_c k j) := by decide +kernel
theorem ct_exb : ∀ x, x < 64 → ∀ t, t < 6 → (((nI x >>> (nI t &&& 31)) &&& 1) = 1 ↔ Nat.mod (Nat.shiftRight x t) 2 = 1) := by decide +kernel
theorem ct_c_le (k j : Nat) : ct_c k j ≤ 1 := by
  unfold ct_c
  cases Nat.ble (Nat.succ j) k <;> decide
end
section
/-! the picture: what the class computes, over tables; c takes the state behind it; 'false' where the picture stops -/
def ct_mv (k g w p : Nat) : Nat := cond (Nat.beq (Nat.mod p 2) 1) (Nat.add (ct_c k (Nat.mod (Nat.div p 2) 6)) w) (Nat.add (Nat.add (ct_c k (Nat.div p 72)) (ct_c k (Nat.mod (Nat.div p 12) 6))) g)
def ct_ov (x p : Nat) : Nat := cond (Nat.beq (Nat.mod (Nat.div p 2) 6) (Nat.div p 72)) 1 (cond (Nat.beq (Nat.mod (Nat.div p 2) 6) (Nat.mod (Nat.div p 12) 6)) 1 (cond (Nat.beq (Nat.mod (Nat.shiftRight x (Nat.mod (Nat.div p 2) 6)) 2) 1) 2 0))
/-- who has won at the start, m moves being there -/
def ct_wh (x m p : Nat) : Nat := cond (Nat.beq (ct_ov x p) 0) (cond (Nat.beq m 0) (cond (Nat.beq (Nat.mod p 2) 1) 1 2) 0) (ct_ov x p)
noncomputable def ct_se (q W F O Q p a l : Nat) (c : Nat → Nat → Nat → Nat → Nat → Bool) : Bool :=
  cond (Nat.ble q 431) (ct_k (Nat.succ q) fun q1 => ct_k (ct_s W p a) fun W1 => ct_k (ct_s F p l) fun F1 => ct_k (ct_s Q q p) fun Q1 => c q1 W1 F1 O Q1) false
noncomputable def ct_22 (q W F O Q p a l o m : Nat) (c : Nat → Nat → Nat → Nat → Nat → Bool) : Bool :=
  cond (Nat.ble 1 o) (cond (Nat.ble o 100) (ct_k (ct_s O p (Nat.sub o 1)) fun O1 =>
    cond (Nat.beq m a) (ct_se q W F O1 Q p a l c) (cond (Nat.beq o 1) (ct_se q W F O1 Q p a l c) (c q W F O1 Q))) false) false
noncomputable def ct_an (q W F O Q p a l : Nat) (c : Nat → Nat → Nat → Nat → Nat → Bool) : Bool :=
  cond (Nat.beq (ct_g W p) 0) (ct_k (ct_g O p) fun o => ct_22 q W F O Q p a l o (cond (Nat.beq (Nat.mod p 2) 1) 2 1) c) (c q W F O Q)
noncomputable def ct_48 (k w p t a l : Nat) (c : Nat → Nat → Nat → Nat → Nat → Bool) (n : Nat) : Nat → Nat → Nat → Nat → Nat → Nat → Bool :=
  Nat.rec (motive := fun _ => Nat → Nat → Nat → Nat → Nat → Nat → Bool)
    (fun _ q W F O Q => cond (Nat.beq w 0) (c q W F O Q) (ct_an q W F O Q (Nat.succ p) a l c))
    (fun _ ih y q W F O Q => cond (ct_ed k y t) (ct_an q W F O Q (Nat.sub p 1) a l (ih (Nat.succ y))) (ih (Nat.succ y) q W F O Q)) n
noncomputable def ct_159 (k p b a l y : Nat) (J : Nat → Nat → Nat → Nat → Nat → Nat → Bool) (q W F O Q : Nat) : Bool :=
  cond (ct_ed k y b) (ct_an q W F O Q (Nat.sub p 13) a l (J (Nat.succ y))) (J (Nat.succ y) q W F O Q)
noncomputable def ct_118 (k g p d b a l : Nat) (c : Nat → Nat → Nat → Nat → Nat → Bool) (n : Nat) : Nat → Nat → Nat → Nat → Nat → Nat → Bool :=
  Nat.rec (motive := fun _ => Nat → Nat → Nat → Nat → Nat → Nat → Bool)
    (fun _ q W F O Q => cond (Nat.beq g 0) (c q W F O Q) (ct_an q W F O Q (Nat.sub p 1) a l c))
    (fun _ ih y q W F O Q => cond (ct_ed k y d) (ct_an q W F O Q (Nat.sub p 73) a l (ct_159 k p b a l y ih)) (ct_159 k p b a l y ih q W F O Q)) n
noncomputable def ct_sp (k g w p q W F O Q : Nat) (c : Nat → Nat → Nat → Nat → Nat → Bool) : Bool :=
  cond (Nat.ble p 431) (ct_k (ct_g W p) fun a => cond (Nat.ble a 2) (ct_k (Nat.succ (ct_g F p)) fun l => cond (Nat.ble l 1000)
    (cond (Nat.beq (Nat.mod p 2) 0)
      (ct_k (Nat.mod (Nat.div p 2) 6) fun t => ct_48 k w p t a l c 6 0 q W F O Q)
      (ct_k (Nat.div p 72) fun d => ct_k (Nat.mod (Nat.div p 12) 6) fun b => ct_118 k g p d b a l c 6 0 q W F O Q)) false) false) false
noncomputable def ct_96 (k g w : Nat) (c : Nat → Nat → Nat → Nat → Nat → Bool) (n : Nat) : Nat → Nat → Nat → Nat → Nat → Nat → Bool :=
  Nat.rec (motive := fun _ => Nat → Nat → Nat → Nat → Nat → Nat → Bool)
    (fun i q W F O Q => cond (Nat.ble q 432) (cond (Nat.ble q i) (c q W F O Q) false) false)
    (fun _ ih i q W F O Q => cond (Nat.ble q 432) (cond (Nat.ble q i) (c q W F O Q) (ct_k (ct_g Q i) fun p => ct_k (Nat.succ i) fun i1 => ct_sp k g w p q W F O Q (ih i1))) false) n
noncomputable def ct_15 (k g w x : Nat) (c : Nat → Nat → Nat → Nat → Nat → Bool) (n : Nat) : Nat → Nat → Nat → Nat → Nat → Nat → Bool :=
  Nat.rec (motive := fun _ => Nat → Nat → Nat → Nat → Nat → Nat → Bool)
    (fun _ q W F O Q => c q W F O Q)
    (fun _ ih p q W F O Q => ct_k (ct_s W p 0) fun W1 => ct_k (ct_s F p 0) fun F1 => ct_k (ct_mv k g w p) fun m => ct_k (ct_s O p m) fun O1 =>
      ct_k (ct_wh x m p) fun a => ct_k (Nat.succ p) fun p1 => cond (Nat.beq a 0) (ih p1 q W1 F1 O1 Q) (ct_se q W1 F1 O1 Q p a 0 (ih p1))) n
/-- the whole of prepare, over a table that is empty -/
noncomputable def ct_run (k g w x : Nat) (c : Nat → Nat → Nat → Nat → Nat → Bool) : Bool := ct_15 k g w x (ct_96 k g w c 432 0) 432 0 0 0 0 0 0
/-! the questions: 0 stands for 'none', n + 1 for n -/
def ct_af (k g w x p y : Nat) : Nat :=
  cond (Nat.beq (ct_ov x p) 0)
    (cond (Nat.beq (Nat.mod p 2) 1)
      (cond (Nat.beq y 12) (cond (Nat.beq w 0) 0 p) (cond (ct_ed k (Nat.mod (Nat.div p 2) 6) y) (Nat.add p 2) 0))
      (cond (Nat.beq y 12) (cond (Nat.beq g 0) 0 (Nat.add p 2))
        (cond (Nat.ble 6 y) (cond (ct_ed k (Nat.mod (Nat.div p 12) 6) (Nat.sub y 6)) (Nat.add p 14) 0) (cond (ct_ed k (Nat.div p 72) y) (Nat.add p 74) 0)))) 0
noncomputable def ct_be (k g w x W F p n : Nat) : Nat → Nat :=
  Nat.rec (motive := fun _ => Nat → Nat) (fun _ => 0)
    (fun _ ih y => cond (Nat.beq (ct_af k g w x p y) 0) (ih (Nat.succ y))
      (cond (Nat.ble (ct_af k g w x p y) 432)
        (cond (Nat.beq (ct_g W (Nat.sub (ct_af k g w x p y) 1)) (ct_g W p))
          (cond (Nat.beq (ct_g W p) 0) (Nat.succ y) (cond (Nat.beq (Nat.succ (ct_g F (Nat.sub (ct_af k g w x p y) 1))) (ct_g F p)) (Nat.succ y) (ih (Nat.succ y))))
          (ih (Nat.succ y))) 99)) n
def ct_nu (k i s : Nat) : Nat := ((i * 6 + 5) * 6 + k) * 2 + s
noncomputable def ct_lw (k g w x W F n : Nat) : Nat → Bool :=
  Nat.rec (motive := fun _ => Nat → Bool) (fun _ => false)
    (fun _ ih i => cond (Nat.beq (ct_be k g w x W F (ct_nu k i 0) 13 0) (i + 2)) (cond (Nat.beq (ct_af k g w x (ct_nu k i 0) (i + 1)) (ct_nu k (i + 1) 1 + 1))
      (cond (Nat.ble 1 (ct_g W (ct_nu k (i + 1) 1)))
        (cond (cond (Nat.beq (i + 1) k) true (Nat.beq w 0))
          (cond (Nat.beq (ct_be k g w x W F (ct_nu k (i + 1) 1) 13 0) 0) (Nat.beq (ct_g F (ct_nu k (i + 1) 1)) 0) false)
          (cond (Nat.beq (ct_g F (ct_nu k (i + 1) 1)) (2 * (k - i - 1))) (cond (Nat.beq (ct_be k g w x W F (ct_nu k (i + 1) 1) 13 0) 13)
            (cond (Nat.beq (ct_af k g w x (ct_nu k (i + 1) 1) 12) (ct_nu k (i + 1) 0 + 1)) (ih (i + 1)) false) false) false)) false) false) false) n
/-- what the law asks of the table -/
noncomputable def ct_fin (k g w x W F : Nat) : Bool :=
  cond (Nat.beq x (2 ^ k)) (cond (Nat.beq (ct_g W (ct_nu k 0 0)) 2) (Nat.beq (ct_be k g w x W F (ct_nu k 0 0) 13 0) 0) false)
    (cond (Nat.beq (ct_g W (ct_nu k 0 0)) 1) (cond (Nat.beq (ct_g F (ct_nu k 0 0)) (cond (Nat.beq w 0) 1 (2 * k - 1))) (ct_lw k g w x W F 4 0) false) false)
noncomputable def ct_ok (k g w x : Nat) : Bool := ct_run k g w x (fun _ W F _ _ => ct_fin k g w x W F)
def ct_x (e : Nat) : Nat := cond (Nat.ble 6 e) 0 (2 ^ e)
end
section
/-! every map, every rule, every exit: worked out by the kernel -/
set_option maxHeartbeats 0 in
theorem ct_run_1_0_0 : ∀ e, e < 7 → ct_ok 1 0 0 (ct_x e) = true := by decide +kernel
set_option maxHeartbeats 0 in
theorem ct_run_1_0_1 : ∀ e, e < 7 → ct_ok 1 0 1 (ct_x e) = true := by decide +kernel
set_option maxHeartbeats 0 in
theorem ct_run_1_1_0 : ∀ e, e < 7 → ct_ok 1 1 0 (ct_x e) = true := by decide +kernel
set_option maxHeartbeats 0 in
theorem ct_run_1_1_1 : ∀ e, e < 7 → ct_ok 1 1 1 (ct_x e) = true := by decide +kernel
set_option maxHeartbeats 0 in
theorem ct_run_2_0_0 : ∀ e, e < 7 → ct_ok 2 0 0 (ct_x e) = true := by decide +kernel
set_option maxHeartbeats 0 in
theorem ct_run_2_0_1 : ∀ e, e < 7 → ct_ok 2 0 1 (ct_x e) = true := by decide +kernel
set_option maxHeartbeats 0 in
theorem ct_run_2_1_0 : ∀ e, e < 7 → ct_ok 2 1 0 (ct_x e) = true := by decide +kernel
set_option maxHeartbeats 0 in
theorem ct_run_2_1_1 : ∀ e, e < 7 → ct_ok 2 1 1 (ct_x e) = true := by decide +kernel
set_option maxHeartbeats 0 in
theorem ct_run_3_0_0 : ∀ e, e < 7 → ct_ok 3 0 0 (ct_x e) = true := by decide +kernel
set_option maxHeartbeats 0 in
theorem ct_run_3_0_1 : ∀ e, e < 7 → ct_ok 3 0 1 (ct_x e) = true := by decide +kernel
set_option maxHeartbeats 0 in
theorem ct_run_3_1_0 : ∀ e, e < 7 → ct_ok 3 1 0 (ct_x e) = true := by decide +kernel
set_option maxHeartbeats 0 in
theorem ct_run_3_1_1 : ∀ e, e < 7 → ct_ok 3 1 1 (ct_x e) = true := by decide +kernel
set_option maxHeartbeats 0 in
theorem ct_run_4_0_0 : ∀ e, e < 7 → ct_ok 4 0 0 (ct_x e) = true := by decide +kernel
set_option maxHeartbeats 0 in
theorem ct_run_4_0_1 : ∀ e, e < 7 → ct_ok 4 0 1 (ct_x e) = true := by decide +kernel
set_option maxHeartbeats 0 in
theorem ct_run_4_1_0 : ∀ e, e < 7 → ct_ok 4 1 0 (ct_x e) = true := by decide +kernel
set_option maxHeartbeats 0 in
theorem ct_run_4_1_1 : ∀ e, e < 7 → ct_ok 4 1 1 (ct_x e) = true := by decide +kernel
theorem ct_all {k g w e : Nat} (hk : 1 ≤ k) (hk4 : k ≤ 4) (hg : g < 2) (hw : w < 2) (he : e < 7) : ct_ok k g w (ct_x e) = true := by
  rcases (show k = 1 ∨ k = 2 ∨ k = 3 ∨ k = 4 by omega) with rfl | rfl | rfl | rfl <;> rcases (show g = 0 ∨ g = 1 by omega) with rfl | rfl <;> rcases (show w = 0 ∨ w = 1 by omega) with rfl | rfl
  · exact ct_run_1_0_0 e he
  · exact ct_run_1_0_1 e he
  · exact ct_run_1_1_0 e he
  · exact ct_run_1_1_1 e he
  · exact ct_run_2_0_0 e he
  · exact ct_run_2_0_1 e he
  · exact ct_run_2_1_0 e he
  · exact ct_run_2_1_1 e he
  · exact ct_run_3_0_0 e he
  · exact ct_run_3_0_1 e he
  · exact ct_run_3_1_0 e he
  · exact ct_run_3_1_1 e he
  · exact ct_run_4_0_0 e he
  · exact ct_run_4_0_1 e he
  · exact ct_run_4_1_0 e he
  · exact ct_run_4_1_1 e he
end
section
/-! the walks that change nothing: bits, moveCount, over -/
theorem ct_bits {post : Int32 → Prop} {z : Int32} (h : post (ct_bs z)) : wpX_bits post () z :=
  ⟨7, br_f (by decide) (nm_e (nm_r (e' := 1) rfl (br_f (by decide) (nm_e (nm_r (e' := 2) rfl (br_f (by decide) (nm_e (nm_r (e' := 3) rfl (br_f (by decide) (nm_e (nm_r (e' := 4) rfl (br_f (by decide) (nm_e (nm_r (e' := 5) rfl (br_f (by decide) (nm_e (nm_r (e' := 6) rfl (br_t (by decide) h))))))))))))))))))⟩
theorem ct_bitsO {post : Int32 → Prop} {k j : Nat} (hk : k < 5) (hj : j < 6) (h : post (nI (ct_c k j))) : wpX_bits post () (ct_out k (nI j).toNatClampNeg) := by
  refine ct_bits ?_
  rw [nI_clamp (by omega), ct_bc k hk j hj]
  exact h
theorem ct_mv1 {k g w p : Nat} (h : p % 2 = 1) : ct_mv k g w p = ct_c k (p / 2 % 6) + w := by
  unfold ct_mv
  rw [ct_bt (show Nat.mod p 2 = 1 from h)]
  rfl
theorem ct_mv0 {k g w p : Nat} (h : p % 2 ≠ 1) : ct_mv k g w p = ct_c k (p / 72) + ct_c k (p / 12 % 6) + g := by
  unfold ct_mv
  rw [ct_bf (show Nat.mod p 2 ≠ 1 from h)]
  rfl
theorem ct_mv_lt {k g w p : Nat} (hg : g < 2) (hw : w < 2) : ct_mv k g w p < 4 := by
  have h1 := ct_c_le k (p / 72)
  have h2 := ct_c_le k (p / 12 % 6)
  have h3 := ct_c_le k (p / 2 % 6)
  by_cases h : p % 2 = 1
  · rw [ct_mv1 h]
    omega
  · rw [ct_mv0 h]
    omega
theorem ct_move {post : Int32 → Prop} {k g w p : Nat} {ex bA bB bT bS rd qd : Int32} {ai a3 a4 a5 a6 : Nat → Int32} (hk : k < 5) (hg : g < 2) (hw : w < 2) (hp : p < 432) (h : post (nI (ct_mv k g w p))) : wpX_moveCount post (nI g, nI w, ex, bA, bB, bT, bS, rd, qd, ct_out k, ai, a3, a4, a5, a6) (nI p) := by
  unfold wpX_moveCount
  rw [ct_a hp, ct_b hp, ct_t hp, ct_m hp]
  refine ⟨by decide, pk_in (p / 72) 6 (by omega), nm_e ⟨by decide, by decide, pk_in (p / 12 % 6) 6 (by omega), nm_e ⟨by decide, by decide, pk_in (p / 2 % 6) 6 (by omega), nm_e ⟨by decide, ?_⟩⟩⟩⟩
  refine pk_eq (p % 2) 1 (fun z => ?_) (fun z => ?_)
  · rw [ct_mv1 z] at h
    refine ct_bitsO hk (by omega) (pk_eq w 0 (fun e => ?_) (fun e => ?_))
    · rw [e] at h
      exact h
    · rw [show w = 1 by omega] at h
      rw [nI_1]
      exact h
  · rw [ct_mv0 z] at h
    refine ct_bitsO hk (by omega) (ct_bitsO hk (by omega) ?_)
    rw [nI_add]
    refine pk_eq g 0 (fun e => ?_) (fun e => ?_)
    · rw [e] at h
      exact h
    · rw [show g = 1 by omega] at h
      rw [nI_1]
      exact h
theorem ct_over {post : Int32 → Prop} {x p : Nat} {gw tw bA bB bT bS rd qd : Int32} {a1 a2 a3 a4 a5 a6 : Nat → Int32} (hx : x < 64) (hp : p < 432) (h : post (nI (ct_ov x p))) : wpX_over post (gw, tw, nI x, bA, bB, bT, bS, rd, qd, a1, a2, a3, a4, a5, a6) (nI p) := by
  unfold wpX_over
  rw [ct_a hp, ct_b hp, ct_t hp]
  unfold ct_ov at h
  refine ⟨by decide, nm_e ⟨by decide, by decide, nm_e ⟨by decide, by decide, nm_e ?_⟩⟩⟩
  refine pk_eq (p / 2 % 6) (p / 72) (fun z => ?_) (fun z => pk_eq (p / 2 % 6) (p / 12 % 6) (fun z2 => ?_) (fun z2 => ek_if (ct_exb x hx (p / 2 % 6) (by omega)) (fun z3 => ?_) (fun z3 => ?_)))
  · rw [ct_bt (show Nat.mod (Nat.div p 2) 6 = Nat.div p 72 from z)] at h
    exact h
  · rw [ct_bf (show Nat.mod (Nat.div p 2) 6 ≠ Nat.div p 72 from z), ct_bt (show Nat.mod (Nat.div p 2) 6 = Nat.mod (Nat.div p 12) 6 from z2)] at h
    exact h
  · rw [ct_bf (show Nat.mod (Nat.div p 2) 6 ≠ Nat.div p 72 from z), ct_bf (show Nat.mod (Nat.div p 2) 6 ≠ Nat.mod (Nat.div p 12) 6 from z2), ct_bt (show Nat.mod (Nat.shiftRight x (Nat.mod (Nat.div p 2) 6)) 2 = 1 from z3)] at h
    exact h
  · rw [ct_bf (show Nat.mod (Nat.div p 2) 6 ≠ Nat.div p 72 from z), ct_bf (show Nat.mod (Nat.div p 2) 6 ≠ Nat.mod (Nat.div p 12) 6 from z2), ct_bf (show Nat.mod (Nat.shiftRight x (Nat.mod (Nat.div p 2) 6)) 2 ≠ 1 from z3)] at h
    exact h
theorem ct_ov_lt (x p : Nat) : ct_ov x p < 3 := by
  unfold ct_ov
  cases Nat.beq (Nat.mod (Nat.div p 2) 6) (Nat.div p 72) <;> cases Nat.beq (Nat.mod (Nat.div p 2) 6) (Nat.mod (Nat.div p 12) 6) <;> cases Nat.beq (Nat.mod (Nat.shiftRight x (Nat.mod (Nat.div p 2) 6)) 2) 1 <;> decide
end
section
/-! settle, answer: a state that is the picture's becomes the picture's next -/
section
variable {g w x k : Nat} {bA bB bT bS rd : Int32}
theorem ct_settle {post : St2 → Prop} {p a l q W F O Q : Nat} (hq : q < 432) (hp : p < 432) (ha : a < 3) (hl : l < 1024) (h : post (nI g, nI w, nI x, bA, bB, bT, bS, rd, nI (q + 1), ct_out k, ct_in k, ct_f (ct_s W p a), ct_f (ct_s F p l), ct_f O, ct_f (ct_s Q q p))) : wpX_settle post (nI g, nI w, nI x, bA, bB, bT, bS, rd, nI q, ct_out k, ct_in k, ct_f W, ct_f F, ct_f O, ct_f Q) (nI p) (nI a) (nI l) :=
  br_t (show nI q < nI 432 from nI_lt hq (by decide)) ⟨vp_in_nI hp (by decide), nm_r (ct_up (by omega) (by omega) (ct_i8 a (by omega))) ⟨vp_in_nI hp (by decide), nm_r (ct_up (by omega) hl (ct_i16 l hl)) ⟨vp_in_nI hq (by decide), nm_r (ct_up (by omega) (by omega) (ct_i16 p (by omega))) (nm_r (nI_1 q) h)⟩⟩⟩
theorem ct_se_ok {c : Nat → Nat → Nat → Nat → Nat → Bool} {p a l q W F O Q : Nat} (hp : p < 432) (ha : a < 3) (hl : l < 1024) (h : ct_se q W F O Q p a l c = true) :
    ∃ q1 W1 F1 O1 Q1, c q1 W1 F1 O1 Q1 = true ∧ ∀ post : St2 → Prop, post (nI g, nI w, nI x, bA, bB, bT, bS, rd, nI q1, ct_out k, ct_in k, ct_f W1, ct_f F1, ct_f O1, ct_f Q1) → wpX_settle post (nI g, nI w, nI x, bA, bB, bT, bS, rd, nI q, ct_out k, ct_in k, ct_f W, ct_f F, ct_f O, ct_f Q) (nI p) (nI a) (nI l) := by
  obtain ⟨h1, h⟩ := ct_cT h
  simp only [ct_k_eq] at h
  have hq := Nat.le_of_ble_eq_true h1
  exact ⟨_, _, _, _, _, h, fun post hpost => ct_settle (by omega) hp ha hl hpost⟩
theorem ct_22_ok {c : Nat → Nat → Nat → Nat → Nat → Bool} {p a l m q W F O Q : Nat} (hp : p < 432) (ha : a < 3) (hm : m < 3) (hl : l < 1024) (h : ct_22 q W F O Q p a l (ct_g O p) m c = true) :
    ∃ q1 W1 F1 O1 Q1, c q1 W1 F1 O1 Q1 = true ∧ ∀ post : St2 → Prop, post (nI g, nI w, nI x, bA, bB, bT, bS, rd, nI q1, ct_out k, ct_in k, ct_f W1, ct_f F1, ct_f O1, ct_f Q1) → wX_answer_22 post (nI p) (nI a) (nI l) (nI m) (nI g) (nI w) (nI x) bA bB bT bS rd (nI q) (ct_out k) (ct_in k) (ct_f W) (ct_f F) (ct_f O) (ct_f Q) := by
  obtain ⟨h1, h⟩ := ct_cT h
  obtain ⟨h2, h⟩ := ct_cT h
  simp only [ct_k_eq] at h
  have o1 := Nat.le_of_ble_eq_true h1
  have o2 := Nat.le_of_ble_eq_true h2
  have eu : upd (ct_f O) (nI p).toNatClampNeg ((ct_f O (nI p).toNatClampNeg - 1).toInt8.toInt32) = ct_f (ct_s O p (ct_g O p - 1)) := by
    refine ct_up (by omega) (by omega) ?_
    rw [ct_rd (by omega), ct_sub1 o1]
    exact ct_i8 _ (by omega)
  have er : ct_f (ct_s O p (ct_g O p - 1)) (nI p).toNatClampNeg = nI (ct_g O p - 1) := by
    rw [ct_rd (by omega), ct_gp (by omega)]
  have hv := vp_in_nI hp (show 432 < 2 ^ 31 by decide)
  by_cases e : m = a
  · rw [ct_bt e, ct_ct] at h
    obtain ⟨q1, W1, F1, O1, Q1, hc, s⟩ := ct_se_ok (g := g) (w := w) (x := x) (k := k) (bA := bA) (bB := bB) (bT := bT) (bS := bS) (rd := rd) hp ha hl h
    refine ⟨q1, W1, F1, O1, Q1, hc, fun post hpost => ⟨hv, hv, nm_r eu (pk_eq m a (fun _ => ?_) (fun z => absurd e z))⟩⟩
    unfold wX_answer_50
    exact s _ hpost
  · rw [ct_bf e, ct_cf] at h
    by_cases e1 : ct_g O p = 1
    · rw [ct_bt e1, ct_ct] at h
      obtain ⟨q1, W1, F1, O1, Q1, hc, s⟩ := ct_se_ok (g := g) (w := w) (x := x) (k := k) (bA := bA) (bB := bB) (bT := bT) (bS := bS) (rd := rd) hp ha hl h
      refine ⟨q1, W1, F1, O1, Q1, hc, fun post hpost => ⟨hv, hv, nm_r eu (pk_eq m a (fun z => absurd z e) (fun _ => ⟨hv, pk_eq (ct_g O p - 1) 0 (fun _ => ?_) (fun z => absurd (by omega) z) er⟩))⟩⟩
      unfold wX_answer_50
      exact s _ hpost
    · rw [ct_bf e1, ct_cf] at h
      exact ⟨q, W, F, _, Q, h, fun post hpost => ⟨hv, hv, nm_r eu (pk_eq m a (fun z => absurd z e) (fun _ => ⟨hv, pk_eq (ct_g O p - 1) 0 (fun z => absurd z (by omega)) (fun _ => hpost) er⟩))⟩⟩
theorem ct_an_ok {c : Nat → Nat → Nat → Nat → Nat → Bool} {p a l q W F O Q : Nat} {z : Int32} (hz : z = nI p) (hp : p < 432) (ha : a < 3) (hl : l < 1024) (h : ct_an q W F O Q p a l c = true) :
    ∃ q1 W1 F1 O1 Q1, c q1 W1 F1 O1 Q1 = true ∧ ∀ post : St2 → Prop, post (nI g, nI w, nI x, bA, bB, bT, bS, rd, nI q1, ct_out k, ct_in k, ct_f W1, ct_f F1, ct_f O1, ct_f Q1) → wpX_answer post (nI g, nI w, nI x, bA, bB, bT, bS, rd, nI q, ct_out k, ct_in k, ct_f W, ct_f F, ct_f O, ct_f Q) z (nI a) (nI l) := by
  subst hz
  have hg := ct_g_lt W p
  have hv := vp_in_nI hp (show 432 < 2 ^ 31 by decide)
  unfold ct_an at h
  by_cases e : ct_g W p = 0
  · rw [ct_bt e, ct_ct, ct_k_eq] at h
    by_cases e2 : p % 2 = 1
    · rw [ct_bt (show Nat.mod p 2 = 1 from e2), ct_ct] at h
      obtain ⟨q1, W1, F1, O1, Q1, hc, s⟩ := ct_22_ok (g := g) (w := w) (x := x) (k := k) (bA := bA) (bB := bB) (bT := bT) (bS := bS) (rd := rd) hp ha (m := 2) (by decide) hl h
      exact ⟨q1, W1, F1, O1, Q1, hc, fun post hpost => ⟨hv, pk_eq (ct_g W p) 0 (fun _ => ⟨by decide, pk_eq (p % 2) 1 (fun _ => s post hpost) (fun z => absurd e2 z) (ct_m hp)⟩) (fun z => absurd e z) (ct_rd (by omega))⟩⟩
    · rw [ct_bf (show Nat.mod p 2 ≠ 1 from e2), ct_cf] at h
      obtain ⟨q1, W1, F1, O1, Q1, hc, s⟩ := ct_22_ok (g := g) (w := w) (x := x) (k := k) (bA := bA) (bB := bB) (bT := bT) (bS := bS) (rd := rd) hp ha (m := 1) (by decide) hl h
      exact ⟨q1, W1, F1, O1, Q1, hc, fun post hpost => ⟨hv, pk_eq (ct_g W p) 0 (fun _ => ⟨by decide, pk_eq (p % 2) 1 (fun z => absurd z e2) (fun _ => s post hpost) (ct_m hp)⟩) (fun z => absurd e z) (ct_rd (by omega))⟩⟩
  · rw [ct_bf e, ct_cf] at h
    exact ⟨q, W, F, O, Q, h, fun post hpost => ⟨hv, pk_eq (ct_g W p) 0 (fun z => absurd z e) (fun _ => hpost) (ct_rd (by omega))⟩⟩
end
end
section
/-! spread and prepare -/
theorem ct_p48 {p y t : Nat} (h : t = y + 1) (hp : 1 ≤ p) : nI p + 1 + 2 * (nI y - nI t) = nI (p - 1) := by
  obtain ⟨r, rfl⟩ : ∃ r, p = r + 1 := ⟨p - 1, by omega⟩
  subst h
  rw [← nI_1 r, ← nI_1 y, Nat.add_sub_cancel]
  generalize nI r = u
  generalize nI y = v
  grind
theorem ct_p118 {p y t : Nat} (h : t = y + 1) (hp : 73 ≤ p) : nI p - 1 + 72 * (nI y - nI t) = nI (p - 73) := by
  obtain ⟨r, rfl⟩ : ∃ r, p = r + 73 := ⟨p - 73, by omega⟩
  subst h
  rw [← nI_add r, ← nI_1 y, Nat.add_sub_cancel, show nI 73 = 73 from rfl]
  generalize nI r = u
  generalize nI y = v
  grind
theorem ct_p159 {p y t : Nat} (h : t = y + 1) (hp : 13 ≤ p) : nI p - 1 + 12 * (nI y - nI t) = nI (p - 13) := by
  obtain ⟨r, rfl⟩ : ∃ r, p = r + 13 := ⟨p - 13, by omega⟩
  subst h
  rw [← nI_add r, ← nI_1 y, Nat.add_sub_cancel, show nI 13 = 13 from rfl]
  generalize nI r = u
  generalize nI y = v
  grind
theorem ct_48_0 {k w p t a l y q W F O Q : Nat} {c : Nat → Nat → Nat → Nat → Nat → Bool} : ct_48 k w p t a l c 0 y q W F O Q = cond (Nat.beq w 0) (c q W F O Q) (ct_an q W F O Q (p + 1) a l c) := rfl
theorem ct_48_s {k w p t a l y q W F O Q n : Nat} {c : Nat → Nat → Nat → Nat → Nat → Bool} : ct_48 k w p t a l c (n + 1) y q W F O Q = cond (ct_ed k y t) (ct_an q W F O Q (p - 1) a l (ct_48 k w p t a l c n (y + 1))) (ct_48 k w p t a l c n (y + 1) q W F O Q) := rfl
theorem ct_118_0 {k g p d b a l y q W F O Q : Nat} {c : Nat → Nat → Nat → Nat → Nat → Bool} : ct_118 k g p d b a l c 0 y q W F O Q = cond (Nat.beq g 0) (c q W F O Q) (ct_an q W F O Q (p - 1) a l c) := rfl
theorem ct_118_s {k g p d b a l y q W F O Q n : Nat} {c : Nat → Nat → Nat → Nat → Nat → Bool} : ct_118 k g p d b a l c (n + 1) y q W F O Q = cond (ct_ed k y d) (ct_an q W F O Q (p - 73) a l (ct_159 k p b a l y (ct_118 k g p d b a l c n))) (ct_159 k p b a l y (ct_118 k g p d b a l c n) q W F O Q) := rfl
theorem ct_159_e {k p b a l y q W F O Q : Nat} {J : Nat → Nat → Nat → Nat → Nat → Nat → Bool} : ct_159 k p b a l y J q W F O Q = cond (ct_ed k y b) (ct_an q W F O Q (p - 13) a l (J (y + 1))) (J (y + 1) q W F O Q) := rfl
theorem ct_96_0 {k g w i q W F O Q : Nat} {c : Nat → Nat → Nat → Nat → Nat → Bool} : ct_96 k g w c 0 i q W F O Q = cond (Nat.ble q 432) (cond (Nat.ble q i) (c q W F O Q) false) false := rfl
theorem ct_96_s {k g w i q W F O Q n : Nat} {c : Nat → Nat → Nat → Nat → Nat → Bool} : ct_96 k g w c (n + 1) i q W F O Q = cond (Nat.ble q 432) (cond (Nat.ble q i) (c q W F O Q) (ct_k (ct_g Q i) fun p => ct_k (i + 1) fun i1 => ct_sp k g w p q W F O Q (ct_96 k g w c n i1))) false := rfl
theorem ct_15_0 {k g w x p q W F O Q : Nat} {c : Nat → Nat → Nat → Nat → Nat → Bool} : ct_15 k g w x c 0 p q W F O Q = c q W F O Q := rfl
theorem ct_15_s {k g w x p q W F O Q n : Nat} {c : Nat → Nat → Nat → Nat → Nat → Bool} : ct_15 k g w x c (n + 1) p q W F O Q = ct_k (ct_s W p 0) fun W1 => ct_k (ct_s F p 0) fun F1 => ct_k (ct_mv k g w p) fun m => ct_k (ct_s O p m) fun O1 => ct_k (ct_wh x m p) fun a => ct_k (p + 1) fun p1 => cond (Nat.beq a 0) (ct_15 k g w x c n p1 q W1 F1 O1 Q) (ct_se q W1 F1 O1 Q p a 0 (ct_15 k g w x c n p1)) := rfl
theorem ct_wh_ov {x m p : Nat} (h : ct_ov x p ≠ 0) : ct_wh x m p = ct_ov x p := by
  unfold ct_wh
  rw [ct_bf h, ct_cf]
theorem ct_wh_0 {x m p : Nat} (h : ct_ov x p = 0) (hm : m ≠ 0) : ct_wh x m p = ct_ov x p := by
  unfold ct_wh
  rw [ct_bt h, ct_ct, ct_bf hm, ct_cf, h]
theorem ct_wh_1 {x m p : Nat} (h : ct_ov x p = 0) (hm : m = 0) (hp : p % 2 = 1) : ct_wh x m p = 1 := by
  unfold ct_wh
  rw [ct_bt h, ct_ct, ct_bt hm, ct_ct, ct_bt (show Nat.mod p 2 = 1 from hp), ct_ct]
theorem ct_wh_2 {x m p : Nat} (h : ct_ov x p = 0) (hm : m = 0) (hp : p % 2 ≠ 1) : ct_wh x m p = 2 := by
  unfold ct_wh
  rw [ct_bt h, ct_ct, ct_bt hm, ct_ct, ct_bf (show Nat.mod p 2 ≠ 1 from hp), ct_cf]
theorem ct_wh_lt (x m p : Nat) : ct_wh x m p < 3 := by
  by_cases h : ct_ov x p = 0
  · by_cases hm : m = 0
    · by_cases hp : p % 2 = 1
      · rw [ct_wh_1 h hm hp]
        decide
      · rw [ct_wh_2 h hm hp]
        decide
    · rw [ct_wh_0 h hm]
      exact ct_ov_lt x p
  · rw [ct_wh_ov h]
    exact ct_ov_lt x p
section
variable {g w x k : Nat} {bA bB bT bS rd : Int32}
theorem ct_48_ok {c : Nat → Nat → Nat → Nat → Nat → Bool} {p t a l : Nat} (hk : k < 5) (hw : w < 2) (hp : p < 432) (hev : p % 2 = 0) (ht : t = p / 2 % 6) (ha : a < 3) (hl : l < 1024) :
    ∀ n y q W F O Q : Nat, y + n = 6 → ct_48 k w p t a l c n y q W F O Q = true → ∃ q1 W1 F1 O1 Q1, c q1 W1 F1 O1 Q1 = true ∧ ∀ post : St2 → Prop, post (nI g, nI w, nI x, bA, bB, bT, bS, rd, nI q1, ct_out k, ct_in k, ct_f W1, ct_f F1, ct_f O1, ct_f Q1) → wX_spread_48 post (nI p) (nI t) (nI a) (nI l) (n + 1) (nI y) (nI g) (nI w) (nI x) bA bB bT bS rd (nI q) (ct_out k) (ct_in k) (ct_f W) (ct_f F) (ct_f O) (ct_f Q)
  | 0, y, q, W, F, O, Q, hy, h => by
    have hy6 : y = 6 := by omega
    subst hy6
    rw [ct_48_0] at h
    by_cases e : w = 0
    · rw [ct_bt e, ct_ct] at h
      exact ⟨q, W, F, O, Q, h, fun post hpost => br_t (by decide) (pk_eq w 0 (fun _ => hpost) (fun z => absurd e z))⟩
    · rw [ct_bf e, ct_cf] at h
      obtain ⟨q1, W1, F1, O1, Q1, h1, s1⟩ := ct_an_ok (g := g) (w := w) (x := x) (k := k) (bA := bA) (bB := bB) (bT := bT) (bS := bS) (rd := rd) (nI_1 p) (by omega) ha hl h
      exact ⟨q1, W1, F1, O1, Q1, h1, fun post hpost => br_t (by decide) (pk_eq w 0 (fun z => absurd z e) (fun _ => s1 _ hpost))⟩
  | n + 1, y, q, W, F, O, Q, hy, h => by
    have hy6 : y < 6 := by omega
    have ht6 : t < 6 := by omega
    rw [ct_48_s] at h
    by_cases e : ct_ed k y t = true
    · rw [e, ct_ct] at h
      have ee := ct_edE e
      obtain ⟨q1, W1, F1, O1, Q1, h1, s1⟩ := ct_an_ok (g := g) (w := w) (x := x) (k := k) (bA := bA) (bB := bB) (bT := bT) (bS := bS) (rd := rd) (ct_p48 (y := y) (t := t) ee.1 (by omega)) (by omega) ha hl h
      obtain ⟨q2, W2, F2, O2, Q2, h2, s2⟩ := ct_48_ok hk hw hp hev ht ha hl n (y + 1) q1 W1 F1 O1 Q1 (by omega) h1
      exact ⟨q2, W2, F2, O2, Q2, h2, fun post hpost => br_f (nI_ge (b := 6) hy6 (by decide)) ⟨vp_in_nI ht6 (by decide), ek_if (ct_ib hk ht6 hy6) (fun _ => s1 _ (nm_r (nI_1 y) (s2 post hpost))) (fun z => absurd e z)⟩⟩
    · rw [ct_nt e, ct_cf] at h
      obtain ⟨q2, W2, F2, O2, Q2, h2, s2⟩ := ct_48_ok hk hw hp hev ht ha hl n (y + 1) q W F O Q (by omega) h
      exact ⟨q2, W2, F2, O2, Q2, h2, fun post hpost => br_f (nI_ge (b := 6) hy6 (by decide)) ⟨vp_in_nI ht6 (by decide), ek_if (ct_ib hk ht6 hy6) (fun z => absurd z e) (fun _ => nm_r (nI_1 y) (s2 post hpost))⟩⟩
theorem ct_159_ok {J : Nat → Nat → Nat → Nat → Nat → Nat → Bool} {p d b a l y q W F O Q : Nat} (hk : k < 5) (hp : p < 432) (hod : p % 2 = 1) (hb : b = p / 12 % 6) (hy6 : y < 6) (ha : a < 3) (hl : l < 1024) (h : ct_159 k p b a l y J q W F O Q = true) :
    ∃ q1 W1 F1 O1 Q1, J (y + 1) q1 W1 F1 O1 Q1 = true ∧ ∀ (post : St2 → Prop) (P : Int32 → Int32 → Int32 → Int32 → Int32 → Int32 → Int32 → Int32 → Int32 → Int32 → (Nat → Int32) → (Nat → Int32) → (Nat → Int32) → (Nat → Int32) → (Nat → Int32) → (Nat → Int32) → Prop), P (nI (y + 1)) (nI g) (nI w) (nI x) bA bB bT bS rd (nI q1) (ct_out k) (ct_in k) (ct_f W1) (ct_f F1) (ct_f O1) (ct_f Q1) → wX_spread_159 post P (nI p) (nI d) (nI b) (nI a) (nI l) (nI y) (nI g) (nI w) (nI x) bA bB bT bS rd (nI q) (ct_out k) (ct_in k) (ct_f W) (ct_f F) (ct_f O) (ct_f Q) := by
  have hb6 : b < 6 := by omega
  rw [ct_159_e] at h
  by_cases e : ct_ed k y b = true
  · rw [e, ct_ct] at h
    have ee := ct_edE e
    obtain ⟨q1, W1, F1, O1, Q1, h1, s1⟩ := ct_an_ok (g := g) (w := w) (x := x) (k := k) (bA := bA) (bB := bB) (bT := bT) (bS := bS) (rd := rd) (ct_p159 (y := y) (t := b) ee.1 (by omega)) (by omega) ha hl h
    exact ⟨q1, W1, F1, O1, Q1, h1, fun post P hP => ⟨vp_in_nI hb6 (by decide), ek_if (ct_ib hk hb6 hy6) (fun _ => s1 _ (nm_r (nI_1 y) hP)) (fun z => absurd e z)⟩⟩
  · rw [ct_nt e, ct_cf] at h
    exact ⟨q, W, F, O, Q, h, fun post P hP => ⟨vp_in_nI hb6 (by decide), ek_if (ct_ib hk hb6 hy6) (fun z => absurd z e) (fun _ => nm_r (nI_1 y) hP)⟩⟩
theorem ct_118_ok {c : Nat → Nat → Nat → Nat → Nat → Bool} {p d b a l : Nat} (hk : k < 5) (hg : g < 2) (hp : p < 432) (hod : p % 2 = 1) (hd : d = p / 72) (hb : b = p / 12 % 6) (ha : a < 3) (hl : l < 1024) :
    ∀ n y q W F O Q : Nat, y + n = 6 → ct_118 k g p d b a l c n y q W F O Q = true → ∃ q1 W1 F1 O1 Q1, c q1 W1 F1 O1 Q1 = true ∧ ∀ post : St2 → Prop, post (nI g, nI w, nI x, bA, bB, bT, bS, rd, nI q1, ct_out k, ct_in k, ct_f W1, ct_f F1, ct_f O1, ct_f Q1) → wX_spread_118 post (nI p) (nI d) (nI b) (nI a) (nI l) (n + 1) (nI y) (nI g) (nI w) (nI x) bA bB bT bS rd (nI q) (ct_out k) (ct_in k) (ct_f W) (ct_f F) (ct_f O) (ct_f Q)
  | 0, y, q, W, F, O, Q, hy, h => by
    have hy6 : y = 6 := by omega
    subst hy6
    rw [ct_118_0] at h
    by_cases e : g = 0
    · rw [ct_bt e, ct_ct] at h
      exact ⟨q, W, F, O, Q, h, fun post hpost => br_t (by decide) (pk_eq g 0 (fun _ => hpost) (fun z => absurd e z))⟩
    · rw [ct_bf e, ct_cf] at h
      obtain ⟨q1, W1, F1, O1, Q1, h1, s1⟩ := ct_an_ok (g := g) (w := w) (x := x) (k := k) (bA := bA) (bB := bB) (bT := bT) (bS := bS) (rd := rd) (ct_sub1 (p := p) (by omega)) (by omega) ha hl h
      exact ⟨q1, W1, F1, O1, Q1, h1, fun post hpost => br_t (by decide) (pk_eq g 0 (fun z => absurd z e) (fun _ => s1 _ hpost))⟩
  | n + 1, y, q, W, F, O, Q, hy, h => by
    have hy6 : y < 6 := by omega
    have hd6 : d < 6 := by omega
    rw [ct_118_s] at h
    by_cases e : ct_ed k y d = true
    · rw [e, ct_ct] at h
      have ee := ct_edE e
      obtain ⟨q1, W1, F1, O1, Q1, h1, s1⟩ := ct_an_ok (g := g) (w := w) (x := x) (k := k) (bA := bA) (bB := bB) (bT := bT) (bS := bS) (rd := rd) (ct_p118 (y := y) (t := d) ee.1 (by omega)) (by omega) ha hl h
      obtain ⟨q2, W2, F2, O2, Q2, h2, s2⟩ := ct_159_ok (g := g) (w := w) (x := x) (k := k) (bA := bA) (bB := bB) (bT := bT) (bS := bS) (rd := rd) (d := d) hk hp hod hb hy6 ha hl h1
      obtain ⟨q3, W3, F3, O3, Q3, h3, s3⟩ := ct_118_ok hk hg hp hod hd hb ha hl n (y + 1) q2 W2 F2 O2 Q2 (by omega) h2
      exact ⟨q3, W3, F3, O3, Q3, h3, fun post hpost => br_f (nI_ge (b := 6) hy6 (by decide)) ⟨vp_in_nI hd6 (by decide), ek_if (ct_ib hk hd6 hy6) (fun _ => s1 _ (s2 post _ (s3 post hpost))) (fun z => absurd e z)⟩⟩
    · rw [ct_nt e, ct_cf] at h
      obtain ⟨q2, W2, F2, O2, Q2, h2, s2⟩ := ct_159_ok (g := g) (w := w) (x := x) (k := k) (bA := bA) (bB := bB) (bT := bT) (bS := bS) (rd := rd) (d := d) hk hp hod hb hy6 ha hl h
      obtain ⟨q3, W3, F3, O3, Q3, h3, s3⟩ := ct_118_ok hk hg hp hod hd hb ha hl n (y + 1) q2 W2 F2 O2 Q2 (by omega) h2
      exact ⟨q3, W3, F3, O3, Q3, h3, fun post hpost => br_f (nI_ge (b := 6) hy6 (by decide)) ⟨vp_in_nI hd6 (by decide), ek_if (ct_ib hk hd6 hy6) (fun z => absurd z e) (fun _ => s2 post _ (s3 post hpost))⟩⟩
theorem ct_sp_ok {c : Nat → Nat → Nat → Nat → Nat → Bool} {p q W F O Q : Nat} {z : Int32} (hz : z = nI p) (hk : k < 5) (hg : g < 2) (hw : w < 2) (h : ct_sp k g w p q W F O Q c = true) :
    ∃ q1 W1 F1 O1 Q1, c q1 W1 F1 O1 Q1 = true ∧ ∀ post : St2 → Prop, post (nI g, nI w, nI x, bA, bB, bT, bS, rd, nI q1, ct_out k, ct_in k, ct_f W1, ct_f F1, ct_f O1, ct_f Q1) → wpX_spread post (nI g, nI w, nI x, bA, bB, bT, bS, rd, nI q, ct_out k, ct_in k, ct_f W, ct_f F, ct_f O, ct_f Q) z := by
  subst hz
  unfold ct_sp at h
  simp only [ct_k_eq] at h
  obtain ⟨hp, h⟩ := ct_cT h
  obtain ⟨ha, h⟩ := ct_cT h
  obtain ⟨hl, h⟩ := ct_cT h
  have hp := Nat.lt_succ_of_le (Nat.le_of_ble_eq_true hp)
  have ha := Nat.lt_succ_of_le (Nat.le_of_ble_eq_true ha)
  have hl : ct_g F p + 1 < 1024 := Nat.lt_of_le_of_lt (Nat.le_of_ble_eq_true hl) (by decide)
  have hv := vp_in_nI hp (show 432 < 2 ^ 31 by decide)
  have e6 : ct_f F (nI p).toNatClampNeg + 1 = nI (ct_g F p + 1) := by
    rw [ct_rd (by omega)]
    exact nI_1 _
  by_cases e : p % 2 = 0
  · rw [ct_bt (show Nat.mod p 2 = 0 from e), ct_ct] at h
    obtain ⟨q1, W1, F1, O1, Q1, h1, s1⟩ := ct_48_ok (g := g) (x := x) (bA := bA) (bB := bB) (bT := bT) (bS := bS) (rd := rd) hk hw hp e rfl ha hl 6 0 q W F O Q rfl h
    refine ⟨q1, W1, F1, O1, Q1, h1, fun post hpost => ?_⟩
    exact ⟨by decide, nm_e ⟨by decide, by decide, nm_e ⟨by decide, by decide, nm_r (ct_t hp) ⟨hv, nm_r (ct_rd (by omega)) ⟨hv, nm_r e6 ⟨by decide, pk_eq (p % 2) 0 (fun _ => ⟨7, s1 post hpost⟩) (fun z => absurd e z) (ct_m hp)⟩⟩⟩⟩⟩⟩
  · rw [ct_bf (show Nat.mod p 2 ≠ 0 from e), ct_cf] at h
    obtain ⟨q1, W1, F1, O1, Q1, h1, s1⟩ := ct_118_ok (w := w) (x := x) (bA := bA) (bB := bB) (bT := bT) (bS := bS) (rd := rd) hk hg hp (show p % 2 = 1 by omega) rfl rfl ha hl 6 0 q W F O Q rfl h
    refine ⟨q1, W1, F1, O1, Q1, h1, fun post hpost => ?_⟩
    exact ⟨by decide, nm_r (ct_a hp) ⟨by decide, by decide, nm_r (ct_b hp) ⟨by decide, by decide, nm_e ⟨hv, nm_r (ct_rd (by omega)) ⟨hv, nm_r e6 ⟨by decide, pk_eq (p % 2) 0 (fun z => absurd z e) (fun _ => ⟨7, s1 post hpost⟩) (ct_m hp)⟩⟩⟩⟩⟩⟩
theorem ct_96_ok {c : Nat → Nat → Nat → Nat → Nat → Bool} (hk : k < 5) (hg : g < 2) (hw : w < 2) :
    ∀ n i q W F O Q : Nat, i + n = 432 → ct_96 k g w c n i q W F O Q = true → ∃ q1 W1 F1 O1 Q1, c q1 W1 F1 O1 Q1 = true ∧ ∀ post : St2 → Prop, post (nI g, nI w, nI x, bA, bB, bT, bS, 1, nI q1, ct_out k, ct_in k, ct_f W1, ct_f F1, ct_f O1, ct_f Q1) → wX_prepare_96 post (n + 1) (nI i) (nI g) (nI w) (nI x) bA bB bT bS rd (nI q) (ct_out k) (ct_in k) (ct_f W) (ct_f F) (ct_f O) (ct_f Q)
  | 0, i, q, W, F, O, Q, hi, h => by
    rw [ct_96_0] at h
    obtain ⟨hq, h⟩ := ct_cT h
    obtain ⟨hqi, h⟩ := ct_cT h
    have hq := Nat.le_of_ble_eq_true hq
    have hqi := Nat.le_of_ble_eq_true hqi
    exact ⟨q, W, F, O, Q, h, fun post hpost => pk_le q i (fun _ => hpost) (fun z => absurd z (by omega))⟩
  | n + 1, i, q, W, F, O, Q, hi, h => by
    rw [ct_96_s] at h
    obtain ⟨hq, h⟩ := ct_cT h
    have hq := Nat.le_of_ble_eq_true hq
    by_cases e : q ≤ i
    · rw [ct_lt e, ct_ct] at h
      exact ⟨q, W, F, O, Q, h, fun post hpost => pk_le q i (fun _ => hpost) (fun z => absurd z (by omega))⟩
    · rw [ct_lf e, ct_cf] at h
      simp only [ct_k_eq] at h
      obtain ⟨q1, W1, F1, O1, Q1, h1, s1⟩ := ct_sp_ok (x := x) (bA := bA) (bB := bB) (bT := bT) (bS := bS) (rd := rd) (ct_rd (T := Q) (p := i) (by omega)) hk hg hw h
      obtain ⟨q2, W2, F2, O2, Q2, h2, s2⟩ := ct_96_ok hk hg hw n (i + 1) q1 W1 F1 O1 Q1 (by omega) h1
      exact ⟨q2, W2, F2, O2, Q2, h2, fun post hpost => pk_le q i (fun z => absurd z e) (fun _ => pk_le 432 i (fun z => absurd z (by omega)) (fun _ => ⟨vp_in_nI (by omega) (by decide), s1 _ (nm_r (nI_1 i) (s2 post hpost))⟩))⟩
theorem ct_15_ok {c : Nat → Nat → Nat → Nat → Nat → Bool} (hk : k < 5) (hg : g < 2) (hw : w < 2) (hx : x < 64) :
    ∀ n p q W F O Q : Nat, p + n = 432 → ct_15 k g w x c n p q W F O Q = true → ∃ q1 W1 F1 O1 Q1, c q1 W1 F1 O1 Q1 = true ∧ ∀ post : St2 → Prop, (∃ fu : Nat, wX_prepare_96 post fu 0 (nI g) (nI w) (nI x) bA bB bT bS rd (nI q1) (ct_out k) (ct_in k) (ct_f W1) (ct_f F1) (ct_f O1) (ct_f Q1)) → wX_prepare_15 post (n + 1) (nI p) (nI g) (nI w) (nI x) bA bB bT bS rd (nI q) (ct_out k) (ct_in k) (ct_f W) (ct_f F) (ct_f O) (ct_f Q)
  | 0, p, q, W, F, O, Q, hp, h => by
    have hp : p = 432 := by omega
    subst hp
    exact ⟨q, W, F, O, Q, h, fun post hpost => br_t (by decide) hpost⟩
  | n + 1, p, q, W, F, O, Q, hpn, h => by
    have hp : p < 432 := by omega
    have hv := vp_in_nI hp (show 432 < 2 ^ 31 by decide)
    have hm : ct_mv k g w p < 4 := ct_mv_lt hg hw
    have ho := ct_ov_lt x p
    have hwl := ct_wh_lt x (ct_mv k g w p) p
    rw [ct_15_s] at h
    simp only [ct_k_eq] at h
    have K : ∃ q1 W1 F1 O1 Q1, c q1 W1 F1 O1 Q1 = true ∧ ∀ post : St2 → Prop, (∃ fu : Nat, wX_prepare_96 post fu 0 (nI g) (nI w) (nI x) bA bB bT bS rd (nI q1) (ct_out k) (ct_in k) (ct_f W1) (ct_f F1) (ct_f O1) (ct_f Q1)) → wX_prepare_77 post (wX_prepare_15 post (n + 1)) (nI p) (nI (ct_wh x (ct_mv k g w p) p)) (nI g) (nI w) (nI x) bA bB bT bS rd (nI q) (ct_out k) (ct_in k) (ct_f (ct_s W p 0)) (ct_f (ct_s F p 0)) (ct_f (ct_s O p (ct_mv k g w p))) (ct_f Q) := by
      by_cases e : ct_wh x (ct_mv k g w p) p = 0
      · rw [ct_bt e, ct_ct] at h
        obtain ⟨q1, W1, F1, O1, Q1, h1, s1⟩ := ct_15_ok hk hg hw hx n (p + 1) q _ _ _ Q (by omega) h
        exact ⟨q1, W1, F1, O1, Q1, h1, fun post hpost => pk_eq (ct_wh x (ct_mv k g w p) p) 0 (fun _ => nm_r (nI_1 p) (s1 post hpost)) (fun z => absurd e z)⟩
      · rw [ct_bf e, ct_cf] at h
        obtain ⟨q1, W1, F1, O1, Q1, h1, s1⟩ := ct_se_ok (g := g) (w := w) (x := x) (k := k) (bA := bA) (bB := bB) (bT := bT) (bS := bS) (rd := rd) hp hwl (by decide) h
        obtain ⟨q2, W2, F2, O2, Q2, h2, s2⟩ := ct_15_ok hk hg hw hx n (p + 1) q1 W1 F1 O1 Q1 (by omega) h1
        exact ⟨q2, W2, F2, O2, Q2, h2, fun post hpost => pk_eq (ct_wh x (ct_mv k g w p) p) 0 (fun z => absurd z e) (fun _ => s1 _ (nm_r (nI_1 p) (s2 post hpost)))⟩
    obtain ⟨q1, W1, F1, O1, Q1, h1, s1⟩ := K
    refine ⟨q1, W1, F1, O1, Q1, h1, fun post hpost => ?_⟩
    have R := s1 post hpost
    refine br_f (nI_ge (b := 432) hp (by decide)) ⟨hv, nm_r (ct_up (v := 0) (by omega) (by decide) rfl) ⟨hv, nm_r (ct_up (v := 0) (by omega) (by decide) rfl) (ct_move hk hg hw hp ⟨hv, nm_r (ct_up (by omega) (by omega) (ct_i8 _ (by omega))) (ct_over hx hp (pk_eq (ct_ov x p) 0 (fun z => pk_eq (ct_mv k g w p) 0 (fun z2 => ⟨by decide, pk_eq (p % 2) 1 (fun z3 => ?_) (fun z3 => ?_) (ct_m hp)⟩) (fun z2 => ?_)) (fun z => ?_)))⟩)⟩⟩
    · rw [ct_wh_1 z z2 z3] at R
      exact R
    · rw [ct_wh_2 z z2 z3] at R
      exact R
    · rw [ct_wh_0 z z2] at R
      exact R
    · rw [ct_wh_ov z] at R
      exact R
theorem ct_prep {c : Nat → Nat → Nat → Nat → Nat → Bool} (hk : k < 5) (hg : g < 2) (hw : w < 2) (hx : x < 64) (h : ct_run k g w x c = true) :
    ∃ q1 W1 F1 O1 Q1, c q1 W1 F1 O1 Q1 = true ∧ ∀ (post : St2 → Prop) (q : Nat), post (nI g, nI w, nI x, bA, bB, bT, bS, 1, nI q1, ct_out k, ct_in k, ct_f W1, ct_f F1, ct_f O1, ct_f Q1) → wpX_prepare post (nI g, nI w, nI x, bA, bB, bT, bS, 0, nI q, ct_out k, ct_in k, ct_f 0, ct_f 0, ct_f 0, ct_f 0) := by
  obtain ⟨q1, W1, F1, O1, Q1, h1, s1⟩ := ct_15_ok (bA := bA) (bB := bB) (bT := bT) (bS := bS) (rd := 0) hk hg hw hx 432 0 0 0 0 0 0 rfl h
  obtain ⟨q2, W2, F2, O2, Q2, h2, s2⟩ := ct_96_ok (x := x) (bA := bA) (bB := bB) (bT := bT) (bS := bS) (rd := 0) hk hg hw 432 0 q1 W1 F1 O1 Q1 rfl h1
  exact ⟨q2, W2, F2, O2, Q2, h2, fun post q hpost => br_t rfl ⟨433, s1 post ⟨433, s2 post hpost⟩⟩⟩
end
end
section
/-! the questions and the board -/
theorem ct_q2 {p y t : Nat} (h : y = t + 1) : nI p - 1 + 2 * (nI y - nI t) = nI (p + 1) := by
  subst h
  rw [← nI_1 t, ← nI_1 p]
  generalize nI p = u
  generalize nI t = v
  grind
theorem ct_q14 {p y t : Nat} (h : y = t + 1) : nI p + 1 + 12 * (nI y - nI t) = nI (p + 13) := by
  subst h
  rw [← nI_1 t, ← nI_add p, show nI 13 = 13 from rfl]
  generalize nI p = u
  generalize nI t = v
  grind
theorem ct_q74 {p y t : Nat} (h : y = t + 1) : nI p + 1 + 72 * (nI y - nI t) = nI (p + 73) := by
  subst h
  rw [← nI_1 t, ← nI_add p, show nI 73 = 73 from rfl]
  generalize nI p = u
  generalize nI t = v
  grind
theorem ct_af_ov {k g w x p y : Nat} (h : ct_ov x p ≠ 0) : ct_af k g w x p y = 0 := by
  unfold ct_af
  rw [ct_bf h, ct_cf]
theorem ct_af_1 {k g w x p y : Nat} (h : ct_ov x p = 0) (h2 : p % 2 = 1) : ct_af k g w x p y = cond (Nat.beq y 12) (cond (Nat.beq w 0) 0 p) (cond (ct_ed k (p / 2 % 6) y) (p + 2) 0) := by
  unfold ct_af
  rw [ct_bt h, ct_ct, ct_bt (show Nat.mod p 2 = 1 from h2), ct_ct]
  rfl
theorem ct_af_0 {k g w x p y : Nat} (h : ct_ov x p = 0) (h2 : p % 2 ≠ 1) : ct_af k g w x p y = cond (Nat.beq y 12) (cond (Nat.beq g 0) 0 (p + 2)) (cond (Nat.ble 6 y) (cond (ct_ed k (p / 12 % 6) (y - 6)) (p + 14) 0) (cond (ct_ed k (p / 72) y) (p + 74) 0)) := by
  unfold ct_af
  rw [ct_bt h, ct_ct, ct_bf (show Nat.mod p 2 ≠ 1 from h2), ct_cf]
  rfl
theorem ct_nn {b : Bool} (h : ¬ ¬ b = true) : b = true := by
  cases b
  · exact absurd (by decide) h
  · rfl
section
variable {g w x k : Nat} {bA bB bT bS rd : Int32}
theorem ct_after {post : Int32 → Prop} {p y : Nat} {qd : Int32} {a2 a3 a4 a5 a6 : Nat → Int32} (hk : k < 5) (hg : g < 2) (hw : w < 2) (hx : x < 64) (hp : p < 432) (hy : y ≤ 12) (h0 : ct_af k g w x p y = 0 → post (-1)) (h1 : ∀ n, ct_af k g w x p y = n + 1 → post (nI n)) :
    wpX_after post (nI g, nI w, nI x, bA, bB, bT, bS, rd, qd, ct_out k, a2, a3, a4, a5, a6) (nI p) (nI y) := by
  refine br_f (nI_pos (by omega)) (br_t (show nI y ≤ nI 12 from nI_le hy (by decide)) (ct_over hx hp (pk_eq (ct_ov x p) 0 (fun z => ?_) (fun z => h0 (ct_af_ov z)) (ha := Nat.lt_trans (ct_ov_lt x p) (by decide)))))
  refine ⟨by decide, nm_r (ct_a hp) ⟨by decide, by decide, nm_r (ct_b hp) ⟨by decide, by decide, nm_r (ct_t hp) ⟨by decide, pk_eq (p % 2) 1 (fun z2 => ?_) (fun z2 => ?_) (ct_m hp)⟩⟩⟩⟩
  · rw [ct_af_1 z z2] at h0 h1
    refine pk_eq y 12 (fun z3 => ?_) (fun z3 => ?_)
    · rw [ct_bt z3, ct_ct] at h0 h1
      refine pk_eq w 0 (fun z4 => ?_) (fun z4 => ?_)
      · rw [ct_bt z4, ct_ct] at h0
        exact h0 rfl
      · rw [ct_bf z4, ct_cf] at h1
        rw [ct_sub1 (by omega)]
        exact h1 (p - 1) (by omega)
    · rw [ct_bf z3, ct_cf] at h0 h1
      refine pk_lt 5 y (fun z4 => ?_) (fun z4 => ⟨vp_in_nI (by omega) (by decide), ek_if (ct_ob hk (by omega) (by omega)) (fun z5 => ?_) (fun z5 => ?_)⟩)
      · have e : ¬ ct_ed k (p / 2 % 6) y = true := fun e => by
          have := ct_edE e
          omega
        rw [ct_nt e, ct_cf] at h0
        exact h0 rfl
      · rw [ct_nt z5, ct_cf] at h0
        exact h0 rfl
      · have e := ct_nn z5
        rw [e, ct_ct] at h1
        rw [ct_q2 (ct_edE e).1]
        exact h1 (p + 1) rfl
  · rw [ct_af_0 z z2] at h0 h1
    refine pk_eq y 12 (fun z3 => ?_) (fun z3 => ?_)
    · rw [ct_bt z3, ct_ct] at h0 h1
      refine pk_eq g 0 (fun z4 => ?_) (fun z4 => ?_)
      · rw [ct_bt z4, ct_ct] at h0
        exact h0 rfl
      · rw [ct_bf z4, ct_cf] at h1
        rw [nI_1]
        exact h1 (p + 1) rfl
    · rw [ct_bf z3, ct_cf] at h0 h1
      refine pk_le 6 y (fun z4 => ?_) (fun z4 => ?_)
      · rw [ct_lt z4, ct_ct] at h0 h1
        refine nm_r (pk_sub (b := 6) z4) ⟨vp_in_nI (by omega) (by decide), ek_if (ct_ob hk (by omega) (by omega)) (fun z5 => ?_) (fun z5 => ?_)⟩
        · rw [ct_nt z5, ct_cf] at h0
          exact h0 rfl
        · have e := ct_nn z5
          rw [e, ct_ct] at h1
          rw [ct_q14 (ct_edE e).1]
          exact h1 (p + 13) rfl
      · rw [ct_lf (show ¬ 6 ≤ y by omega), ct_cf] at h0 h1
        refine ⟨vp_in_nI (by omega) (by decide), ek_if (ct_ob hk (by omega) (by omega)) (fun z5 => ?_) (fun z5 => ?_)⟩
        · rw [ct_nt z5, ct_cf] at h0
          exact h0 rfl
        · have e := ct_nn z5
          rw [e, ct_ct] at h1
          rw [ct_q74 (ct_edE e).1]
          exact h1 (p + 73) rfl
theorem ct_be_s {k g w x W F p n y : Nat} : ct_be k g w x W F p (n + 1) y = cond (Nat.beq (ct_af k g w x p y) 0) (ct_be k g w x W F p n (y + 1))
      (cond (Nat.ble (ct_af k g w x p y) 432)
        (cond (Nat.beq (ct_g W (ct_af k g w x p y - 1)) (ct_g W p))
          (cond (Nat.beq (ct_g W p) 0) (y + 1) (cond (Nat.beq (ct_g F (ct_af k g w x p y - 1) + 1) (ct_g F p)) (y + 1) (ct_be k g w x W F p n (y + 1))))
          (ct_be k g w x W F p n (y + 1))) 99) := rfl
theorem ct_f1 {F m p : Nat} (hm : m < 432) (hp : p < 432) : ct_f F (nI m).toNatClampNeg = ct_f F (nI p).toNatClampNeg - 1 ↔ ct_g F m + 1 = ct_g F p := by
  have h1 := ct_g_lt F m
  have h2 := ct_g_lt F p
  rw [ct_rd (by omega), ct_rd (by omega)]
  constructor
  · intro h
    have e : nI (ct_g F m) + 1 = nI (ct_g F p) := by
      rw [h]
      exact Int32.sub_add_cancel _ _
    rw [nI_1] at e
    exact (nI_eq (by omega) (by omega)).mp e
  · intro h
    rw [← h]
    exact (nI_pred _).symm
theorem ct_best26 {post : Int32 → St2 → Prop} {p q W F O Q : Nat} (hk : k < 5) (hg : g < 2) (hw : w < 2) (hx : x < 64) (hp : p < 432) :
    ∀ n y : Nat, y + n = 13 → ct_be k g w x W F p n y ≤ 13 → (ct_be k g w x W F p n y = 0 → post (-2) (nI g, nI w, nI x, bA, bB, bT, bS, rd, nI q, ct_out k, ct_in k, ct_f W, ct_f F, ct_f O, ct_f Q)) → (∀ d, ct_be k g w x W F p n y = d + 1 → post (nI d) (nI g, nI w, nI x, bA, bB, bT, bS, rd, nI q, ct_out k, ct_in k, ct_f W, ct_f F, ct_f O, ct_f Q)) → wX_best_26 post (nI p) (nI g) (nI w) (nI x) bA bB bT bS rd (nI q) (ct_out k) (ct_in k) (ct_f W) (ct_f F) (ct_f O) (ct_f Q) (n + 1) (nI y)
  | 0, y, hy, hb, h0, h1 => by
    have hy : y = 13 := by omega
    subst hy
    exact br_t (by decide) (h0 rfl)
  | n + 1, y, hy, hb, h0, h1 => by
    have hy12 : y ≤ 12 := by omega
    have hv := vp_in_nI hp (show 432 < 2 ^ 31 by decide)
    have hWp := ct_g_lt W p
    rw [ct_be_s] at hb h0 h1
    refine br_f (show ¬ nI 12 < nI y from nI_nlt hy12 (by decide)) (ct_after hk hg hw hx hp hy12 (fun z => ?_) (fun m z => ?_))
    · rw [ct_bt z, ct_ct] at hb h0 h1
      exact br_t (by decide) (nm_r (nI_1 y) (ct_best26 hk hg hw hx hp n (y + 1) (by omega) hb h0 h1))
    · rw [ct_bf (show ct_af k g w x p y ≠ 0 by omega), ct_cf] at hb h0 h1
      by_cases hm : ct_af k g w x p y ≤ 432
      · have em : ct_af k g w x p y - 1 = m := by omega
        have hm2 : m < 432 := by omega
        have vm := vp_in_nI hm2 (show 432 < 2 ^ 31 by decide)
        have hWm := ct_g_lt W m
        rw [ct_lt hm, ct_ct, em] at hb h0 h1
        refine br_f (nI_pos (by omega)) ⟨vm, hv, pk_eq (ct_g W m) (ct_g W p) (fun e => ⟨hv, pk_eq (ct_g W p) 0 (fun e2 => ?_) (fun e2 => ⟨vm, hv, ek_if (ct_f1 hm2 hp) (fun e3 => ?_) (fun e3 => ?_)⟩) (ct_rd (by omega))⟩) (fun e => ?_) (ct_rd (by omega)) (ct_rd (by omega))⟩
        · rw [ct_bt e, ct_ct, ct_bt e2, ct_ct] at h1
          exact h1 y rfl
        · rw [ct_bt e, ct_ct, ct_bf e2, ct_cf, ct_bt e3, ct_ct] at h1
          exact h1 y rfl
        · rw [ct_bt e, ct_ct, ct_bf e2, ct_cf, ct_bf e3, ct_cf] at hb h0 h1
          exact nm_r (nI_1 y) (ct_best26 hk hg hw hx hp n (y + 1) (by omega) hb h0 h1)
        · rw [ct_bf e, ct_cf] at hb h0 h1
          exact nm_r (nI_1 y) (ct_best26 hk hg hw hx hp n (y + 1) (by omega) hb h0 h1)
      · rw [ct_lf hm, ct_cf] at hb
        exact absurd hb (by decide)
theorem ct_off {post : Int32 → Prop} {a : Nat} {z : Int32} (hz : z = nI a) (ha : a ≤ 5) (h : post 0) : wpX_off post () z := by
  subst hz
  exact br_f (nI_pos (by omega)) (br_t (show nI a ≤ nI 5 from nI_le ha (by decide)) h)
theorem ct_nuI (k i : Nat) : ((((nI i * 6) + 5) * 6) + nI k) * 2 = nI (((i * 6 + 5) * 6 + k) * 2) := by
  show ((((nI i * nI 6) + nI 5) * nI 6) + nI k) * nI 2 = _
  rw [pk_mul, nI_add, pk_mul, nI_add, pk_mul]
theorem ct_num {post : Int32 → Prop} {i s : Nat} {z zs : Int32} (hz : z = nI i) (hzs : zs = nI s) (hs : s < 2) (h : post (nI (ct_nu k i s))) : wpX_number post () z 5 (nI k) zs := by
  subst hz hzs
  unfold wpX_number
  rw [ct_nuI]
  refine pk_eq s 0 (fun e => ?_) (fun e => ?_)
  · rw [Int32.add_zero]
    rw [e] at h
    exact h
  · rw [nI_1]
    rw [show s = 1 by omega] at h
    exact h
theorem ct_nu_lt {k i s : Nat} (hk : k < 5) (hi : i < 6) (hs : s < 2) : ct_nu k i s < 432 := by
  unfold ct_nu
  omega
theorem ct_rdy {post : St2 → Prop} {q W F O Q : Nat} (h : post (nI g, nI w, nI x, bA, bB, bT, bS, 1, nI q, ct_out k, ct_in k, ct_f W, ct_f F, ct_f O, ct_f Q)) : wpX_prepare post (nI g, nI w, nI x, bA, bB, bT, bS, 1, nI q, ct_out k, ct_in k, ct_f W, ct_f F, ct_f O, ct_f Q) := br_f (by decide) h
theorem ct_best {post : Int32 → St2 → Prop} {i s q W F O Q : Nat} {zs : Int32} (hzs : zs = nI s) (hk : k < 5) (hg : g < 2) (hw : w < 2) (hx : x < 64) (hi : i < 6) (hs : s < 2) (hb : ct_be k g w x W F (ct_nu k i s) 13 0 ≤ 13) (h0 : ct_be k g w x W F (ct_nu k i s) 13 0 = 0 → post (-2) (nI g, nI w, nI x, nI i, 5, nI k, zs, 1, nI q, ct_out k, ct_in k, ct_f W, ct_f F, ct_f O, ct_f Q)) (h1 : ∀ d, ct_be k g w x W F (ct_nu k i s) 13 0 = d + 1 → post (nI d) (nI g, nI w, nI x, nI i, 5, nI k, zs, 1, nI q, ct_out k, ct_in k, ct_f W, ct_f F, ct_f O, ct_f Q)) : wpX_best post (nI g, nI w, nI x, nI i, 5, nI k, zs, 1, nI q, ct_out k, ct_in k, ct_f W, ct_f F, ct_f O, ct_f Q) := by
  unfold wpX_best
  exact ct_rdy (ct_num rfl hzs hs ⟨14, ct_best26 hk hg hw hx (ct_nu_lt hk hi hs) 13 0 rfl hb h0 h1⟩)
theorem ct_outcome {post : Int32 → St2 → Prop} {i s q W F O Q : Nat} {z zs c1 c2 c3 c4 c5 c6 c7 c8 c9 : Int32} {y1 y2 y3 y4 y5 y6 : Nat → Int32} (hz : z = nI i) (hzs : zs = nI s) (hk : k < 5) (hi : i < 6) (hs : s < 2)
    (hp : ∀ po : St2 → Prop, po (nI g, nI w, nI x, bA, bB, bT, bS, rd, nI q, ct_out k, ct_in k, ct_f W, ct_f F, ct_f O, ct_f Q) → wpX_prepare po (c1, c2, c3, c4, c5, c6, c7, c8, c9, y1, y2, y3, y4, y5, y6))
    (h : post (nI (ct_g W (ct_nu k i s))) (nI g, nI w, nI x, bA, bB, bT, bS, rd, nI q, ct_out k, ct_in k, ct_f W, ct_f F, ct_f O, ct_f Q)) : wpX_outcome post (c1, c2, c3, c4, c5, c6, c7, c8, c9, y1, y2, y3, y4, y5, y6) z 5 (nI k) zs := by
  have hn := ct_nu_lt hk hi hs
  unfold wpX_outcome
  refine ct_off hz (by omega) (br_t rfl (ct_off (a := 5) rfl (by decide) (br_t rfl (ct_off (a := k) rfl (by omega) (br_t rfl (hp _ (ct_num hz hzs hs ⟨vp_in_nI hn (by decide), ?_⟩)))))))
  rw [ct_rd (by omega)]
  exact h
theorem ct_length {post : Int32 → St2 → Prop} {i s q W F O Q : Nat} {z zs c1 c2 c3 c4 c5 c6 c7 c8 c9 : Int32} {y1 y2 y3 y4 y5 y6 : Nat → Int32} (hz : z = nI i) (hzs : zs = nI s) (hk : k < 5) (hi : i < 6) (hs : s < 2)
    (hp : ∀ po : St2 → Prop, po (nI g, nI w, nI x, bA, bB, bT, bS, rd, nI q, ct_out k, ct_in k, ct_f W, ct_f F, ct_f O, ct_f Q) → wpX_prepare po (c1, c2, c3, c4, c5, c6, c7, c8, c9, y1, y2, y3, y4, y5, y6)) (hW : ct_g W (ct_nu k i s) ≠ 0)
    (h : post (nI (ct_g F (ct_nu k i s))) (nI g, nI w, nI x, bA, bB, bT, bS, rd, nI q, ct_out k, ct_in k, ct_f W, ct_f F, ct_f O, ct_f Q)) : wpX_length post (c1, c2, c3, c4, c5, c6, c7, c8, c9, y1, y2, y3, y4, y5, y6) z 5 (nI k) zs := by
  have hn := ct_nu_lt hk hi hs
  have hl := ct_g_lt W (ct_nu k i s)
  unfold wpX_length
  refine ct_off hz (by omega) (br_t rfl (ct_off (a := 5) rfl (by decide) (br_t rfl (ct_off (a := k) rfl (by omega) (br_t rfl (hp _ (ct_num hz hzs hs ⟨vp_in_nI hn (by decide), pk_eq (ct_g W (ct_nu k i s)) 0 (fun e => absurd e hW) (fun _ => ⟨vp_in_nI hn (by decide), ?_⟩) (ct_rd (by omega))⟩)))))))
  rw [ct_rd (by omega)]
  exact h
theorem ct_play13 {post : Int32 → St2 → Prop} {i s q W F O Q : Nat} {zs : Int32} (hzs : zs = nI s) (hs : s < 2) (h : post (-2) (nI g, nI w, nI x, nI i, 5, nI k, zs, 1, nI q, ct_out k, ct_in k, ct_f W, ct_f F, ct_f O, ct_f Q)) : wpX_play post (nI g, nI w, nI x, nI i, 5, nI k, zs, 1, nI q, ct_out k, ct_in k, ct_f W, ct_f F, ct_f O, ct_f Q) 13 := by
  unfold wpX_play
  exact ct_num rfl hzs hs (br_f (by decide) (br_f (by decide) (br_f (by decide) h)))
theorem ct_play {post : Int32 → St2 → Prop} {i s y i2 s2 q W F O Q : Nat} {zs zy z2 : Int32} (hzs : zs = nI s) (hzy : zy = nI y) (hz2 : z2 = nI s2) (hk : k < 5) (hg : g < 2) (hw : w < 2) (hx : x < 64) (hi : i < 6) (hs : s < 2) (hi2 : i2 < 6) (hs2 : s2 < 2) (hy : y ≤ 12) (ha : ct_af k g w x (ct_nu k i s) y = ct_nu k i2 s2 + 1) (h : post 0 (nI g, nI w, nI x, nI i2, 5, nI k, z2, 1, nI q, ct_out k, ct_in k, ct_f W, ct_f F, ct_f O, ct_f Q)) : wpX_play post (nI g, nI w, nI x, nI i, 5, nI k, zs, 1, nI q, ct_out k, ct_in k, ct_f W, ct_f F, ct_f O, ct_f Q) zy := by
  subst hzy hz2
  have hn := ct_nu_lt hk hi hs
  have hn2 := ct_nu_lt hk hi2 hs2
  unfold wpX_play
  refine ct_num rfl hzs hs (ct_after hk hg hw hx hn hy (fun z => absurd (ha.symm.trans z) (by omega)) (fun m z => ?_))
  have em : m = ct_nu k i2 s2 := by omega
  have e1 : m / 72 = i2 := by
    rw [em]
    unfold ct_nu
    omega
  have e2 : m / 12 % 6 = 5 := by
    rw [em]
    unfold ct_nu
    omega
  have e3 : m / 2 % 6 = k := by
    rw [em]
    unfold ct_nu
    omega
  have e4 : m % 2 = s2 := by
    rw [em]
    unfold ct_nu
    omega
  have hm : m < 432 := by omega
  have f1 := ct_a hm
  have f2 := ct_b hm
  have f3 := ct_t hm
  have f4 := ct_m hm
  rw [e1] at f1
  rw [e2] at f2
  rw [e3] at f3
  rw [e4] at f4
  refine br_t (nI_pos' (by omega)) ⟨by decide, nm_r f1 ⟨by decide, by decide, nm_r f2 ⟨by decide, by decide, nm_r f3 ⟨by decide, pk_eq s2 1 (fun e => ?_) (fun e => ?_) f4⟩⟩⟩⟩
  · rw [e] at h
    exact h
  · rw [show s2 = 0 by omega] at h
    exact h
end
end
section
/-! the law -/
theorem ct_dr {f f1 : Nat → Int32} {i : Nat} {m b : Int32} (hv : (f i &&& m) ||| b = f1 i) (ho : ∀ j, j ≠ i → f j = f1 j) : upd (upd f i (f i &&& m)) i ((upd f i (f i &&& m)) i ||| b) = f1 := by
  funext j
  by_cases e : j = i
  · subst e
    rw [pk_us, pk_us]
    exact hv
  · rw [pk_un e, pk_un e]
    exact ho j e
theorem ct_d1 : ∀ i, i < 4 → (ct_out i i &&& (((1 : Int32) <<< (nI (i + 1) &&& 31)) ^^^ (-1))) ||| ((1 : Int32) <<< (nI (i + 1) &&& 31)) = ct_out (i + 1) i := by decide +kernel
theorem ct_d2 : ∀ i, i < 4 → (ct_in i (i + 1) &&& (((1 : Int32) <<< (nI i &&& 31)) ^^^ (-1))) ||| ((1 : Int32) <<< (nI i &&& 31)) = ct_in (i + 1) (i + 1) := by decide +kernel
theorem ct_d3 : ∀ i, i < 4 → (ct_out i i >>> (nI (i + 1) &&& 31)) &&& 1 = 0 := by decide +kernel
theorem ct_d4 {i j : Nat} (h : j ≠ i) : ct_out i j = ct_out (i + 1) j := by
  unfold ct_out ct_o
  by_cases e : j + 1 ≤ i
  · rw [ct_lt e, ct_lt (show j + 1 ≤ i + 1 by omega)]
  · rw [ct_lf e, ct_lf (show ¬ j + 1 ≤ i + 1 by omega)]
theorem ct_d5 {i j : Nat} (h : j ≠ i + 1) : ct_in i j = ct_in (i + 1) j := by
  unfold ct_in ct_n
  by_cases e : j ≤ i
  · rw [ct_lt e, ct_lt (show j ≤ i + 1 by omega)]
  · rw [ct_lf e, ct_lf (show ¬ j ≤ i + 1 by omega)]
theorem ct_x_lt : ∀ e, e < 7 → ct_x e < 64 := by decide +kernel
theorem ct_x_k : ∀ k, k < 5 → ∀ e, e < 7 → (ct_x e = 2 ^ k ↔ e = k) := by decide +kernel
theorem ct_xe : ∀ e, e < 6 → ((0 : Int32) &&& (((1 : Int32) <<< (nI e &&& 31)) ^^^ (-1))) ||| ((1 : Int32) <<< (nI e &&& 31)) = nI (ct_x e) := by decide +kernel
section
variable {g w x k : Nat} {bA bB bT bS rd : Int32}
theorem ct_door {post : Int32 → St2 → Prop} {i q W F O Q : Nat} {ex : Int32} (hi : i < 4) (h : post 0 (nI g, nI w, ex, bA, bB, bT, bS, 0, nI q, ct_out (i + 1), ct_in (i + 1), ct_f W, ct_f F, ct_f O, ct_f Q)) : wpX_door post (nI g, nI w, ex, bA, bB, bT, bS, rd, nI q, ct_out i, ct_in i, ct_f W, ct_f F, ct_f O, ct_f Q) (nI i) (nI i + 1) 1 := by
  rw [nI_1]
  have vi := vp_in_nI (show i < 6 by omega) (by decide)
  have vj := vp_in_nI (show i + 1 < 6 by omega) (by decide)
  unfold wpX_door
  rw [nI_clamp (show i < 2 ^ 31 by omega), nI_clamp (show i + 1 < 2 ^ 31 by omega)]
  refine ct_off rfl (by omega) (br_t rfl (ct_off rfl (by omega) (br_t rfl (pk_eq i (i + 1) (fun z => absurd z (by omega)) (fun _ => ⟨vi, nm_r (ct_d3 i hi) ⟨vi, vi, nm_e ⟨vj, vj, nm_e (br_f (by decide) ⟨vi, vi, nm_r (ct_dr (ct_d1 i hi) (fun j hj => ct_d4 hj)) ⟨vj, vj, nm_r (ct_dr (ct_d2 i hi) (fun j hj => ct_d5 hj)) h⟩⟩)⟩⟩⟩)))))
theorem ct_exit {post : Int32 → St2 → Prop} {z : Int32} {q W F O Q : Nat} {a1 a2 : Nat → Int32} (hk1 : 1 ≤ k) (hk : k < 5) (H : ∀ e, e < 7 → (z = nI k ↔ e = k) → ∀ r : Int32, post r (nI g, nI w, nI (ct_x e), bA, bB, bT, bS, 0, nI q, a1, a2, ct_f W, ct_f F, ct_f O, ct_f Q)) : wpX_exit post (nI g, nI w, 0, bA, bB, bT, bS, 0, nI q, a1, a2, ct_f W, ct_f F, ct_f O, ct_f Q) z 1 := by
  unfold wpX_exit
  by_cases h : z < 0
  · refine br_t h (br_f (by decide) (H 6 (by decide) ⟨fun e => ?_, fun e => absurd e (by omega)⟩ (-1)))
    rw [e] at h
    exact absurd h (nI_pos (by omega))
  · by_cases h5 : z ≤ 5
    · obtain ⟨e, he, rfl⟩ := nI_of2 (M := 5) (n := 5) (by decide) h h5
      exact br_f h (br_t h5 (br_t rfl (nm_e (nm_e (br_f (by decide) (nm_r (ct_xe e (by omega)) (H e (by omega) (nI_eq (by omega) (by omega)) _)))))))
    · refine br_f h (br_f h5 (br_f (by decide) (H 6 (by decide) ⟨fun e => ?_, fun e => absurd e (by omega)⟩ (-1))))
      rw [e] at h5
      exact absurd (show nI k ≤ nI 5 from nI_le (by omega) (by decide)) h5
theorem ct_set {post : Int32 → St2 → Prop} {q W F O Q : Nat} {a1 a2 : Nat → Int32} (hk : k < 5) (h : post 0 (nI g, nI w, nI x, 0, 5, nI k, 0, rd, nI q, a1, a2, ct_f W, ct_f F, ct_f O, ct_f Q)) : wpX_set post (nI g, nI w, nI x, bA, bB, bT, bS, rd, nI q, a1, a2, ct_f W, ct_f F, ct_f O, ct_f Q) 0 5 (nI k) 0 := by
  unfold wpX_set
  exact ct_off (a := 0) rfl (by decide) (br_t rfl (ct_off (a := 5) rfl (by decide) (br_t rfl (ct_off rfl (by omega) (br_t rfl ⟨rfl, rfl, h⟩)))))
/-- the law's last row: the thief is caught, or can't move -/
theorem ct_231 {post : Int32 → St0 → Prop} {mc ms kc ks i q W F O Q : Nat} (hk : k < 5) (hg : g < 2) (hw : w < 2) (hx : x < 64) (hi : i + 1 < 6) (hb : ct_be k g w x W F (ct_nu k (i + 1) 1) 13 0 = 0) (hW : ct_g W (ct_nu k (i + 1) 1) ≠ 0) (hF : ct_g F (ct_nu k (i + 1) 1) = 0) (h : post 1 ()) :
    wL_lawOf_231 post mc ms (nI k) (nI i) kc ks (nI g) (nI w) (nI x) (nI (i + 1)) 5 (nI k) 1 1 (nI q) (ct_out k) (ct_in k) (ct_f W) (ct_f F) (ct_f O) (ct_f Q) := by
  unfold wL_lawOf_231
  refine ct_best (s := 1) rfl hk hg hw hx hi (by decide) (by omega) (fun _ => br_t rfl ?_) (fun d hd => absurd (hb.symm.trans hd) (by omega))
  refine ct_length (s := 1) (nI_1 i) rfl hk hi (by decide) (fun po hpo => ct_rdy hpo) hW (br_t (by rw [hF]; rfl) ?_)
  refine br_f (by decide) (br_t ?_ h)
  rw [← nI_1 i]
  rfl
theorem ct_lw_s {W F n i : Nat} : ct_lw k g w x W F (n + 1) i = cond (Nat.beq (ct_be k g w x W F (ct_nu k i 0) 13 0) (i + 2)) (cond (Nat.beq (ct_af k g w x (ct_nu k i 0) (i + 1)) (ct_nu k (i + 1) 1 + 1))
      (cond (Nat.ble 1 (ct_g W (ct_nu k (i + 1) 1)))
        (cond (cond (Nat.beq (i + 1) k) true (Nat.beq w 0))
          (cond (Nat.beq (ct_be k g w x W F (ct_nu k (i + 1) 1) 13 0) 0) (Nat.beq (ct_g F (ct_nu k (i + 1) 1)) 0) false)
          (cond (Nat.beq (ct_g F (ct_nu k (i + 1) 1)) (2 * (k - i - 1))) (cond (Nat.beq (ct_be k g w x W F (ct_nu k (i + 1) 1) 13 0) 13)
            (cond (Nat.beq (ct_af k g w x (ct_nu k (i + 1) 1) 12) (ct_nu k (i + 1) 0 + 1)) (ct_lw k g w x W F n (i + 1)) false) false) false)) false) false) false := rfl
theorem ct_due {i : Nat} (h : i < k) : 2 * (nI k - nI i - 1) = nI (2 * (k - i - 1)) := by
  rw [pk_sub (by omega), ct_sub1 (by omega)]
  exact pk_mul 2 _
theorem ct_169 {post : Int32 → St0 → Prop} {mc ms kc ks q W F O Q : Nat} (hk : k < 5) (hg : g < 2) (hw : w < 2) (hx : x < 64) (h : post 1 ()) :
    ∀ n i : Nat, i < k → ct_lw k g w x W F n i = true → wL_lawOf_169 post mc ms (nI k) (nI w) kc ks (n + 1) (nI i) (nI g) (nI w) (nI x) (nI i) 5 (nI k) 0 1 (nI q) (ct_out k) (ct_in k) (ct_f W) (ct_f F) (ct_f O) (ct_f Q)
  | 0, i, hi, hl => absurd (show false = true from hl) (by decide)
  | n + 1, i, hi, hl => by
    rw [ct_lw_s] at hl
    obtain ⟨l1, hl⟩ := ct_cT hl
    obtain ⟨l2, hl⟩ := ct_cT hl
    obtain ⟨l3, hl⟩ := ct_cT hl
    have l1 := Nat.eq_of_beq_eq_true l1
    have l2 := Nat.eq_of_beq_eq_true l2
    have l3 : ct_g W (ct_nu k (i + 1) 1) ≠ 0 := by
      have := Nat.le_of_ble_eq_true l3
      omega
    refine pk_le 4 i (fun z => absurd z (by omega)) (fun _ => pk_le k i (fun z => absurd z (by omega)) (fun _ => ?_))
    refine ct_best (s := 0) rfl hk hg hw hx (by omega) (by decide) (by omega) (fun z => absurd (l1.symm.trans z) (by omega)) (fun d hd => ?_)
    have ed : d = i + 1 := by omega
    subst ed
    refine br_t (nI_1 i).symm (ct_play13 (s := 0) rfl (by decide) (br_t rfl (ct_play (s := 0) (s2 := 1) (i2 := i + 1) rfl (nI_1 i) rfl hk hg hw hx (by omega) (by decide) (by omega) (by decide) (by omega) l2 (br_t rfl ?_))))
    have B : cond (Nat.beq (i + 1) k) true (Nat.beq w 0) = true → wL_lawOf_231 post mc ms (nI k) (nI i) kc ks (nI g) (nI w) (nI x) (nI (i + 1)) 5 (nI k) 1 1 (nI q) (ct_out k) (ct_in k) (ct_f W) (ct_f F) (ct_f O) (ct_f Q) := fun b => by
      rw [b, ct_ct] at hl
      obtain ⟨m1, m2⟩ := ct_cT hl
      exact ct_231 hk hg hw hx (by omega) (Nat.eq_of_beq_eq_true m1) l3 (Nat.eq_of_beq_eq_true m2) h
    refine pk_eq (i + 1) k (fun e => B (by rw [ct_bt e, ct_ct])) (fun e => pk_eq w 0 (fun e2 => B (by rw [ct_bf e, ct_cf]; exact ct_bt e2)) (fun e2 => ?_)) (nI_1 i)
    rw [ct_bf e, ct_cf, ct_bf e2, ct_cf] at hl
    obtain ⟨m1, hl⟩ := ct_cT hl
    obtain ⟨m2, hl⟩ := ct_cT hl
    obtain ⟨m3, hl⟩ := ct_cT hl
    have m1 := Nat.eq_of_beq_eq_true m1
    have m2 := Nat.eq_of_beq_eq_true m2
    have m3 := Nat.eq_of_beq_eq_true m3
    refine ct_length (s := 1) (nI_1 i) rfl hk (by omega) (by decide) (fun po hpo => ct_rdy hpo) l3 (br_t (by rw [m1, ct_due hi]) ?_)
    refine ct_best (s := 1) rfl hk hg hw hx (by omega) (by decide) (by omega) (fun z => absurd (m2.symm.trans z) (by omega)) (fun d hd => ?_)
    have ed : d = 12 := by omega
    subst ed
    refine br_t rfl (ct_play (s := 1) (y := 12) (s2 := 0) (i2 := i + 1) rfl rfl rfl hk hg hw hx (by omega) (by decide) (by omega) (by decide) (by omega) m3 (br_t rfl (nm_r (nI_1 i) ?_)))
    exact ct_169 hk hg hw hx h n (i + 1) (by omega) hl
theorem ct_133 {post : Int32 → St0 → Prop} {mc ms kc ks q W F O Q due : Nat} {z0 : Int32} (hz : z0 = nI due) (hk1 : 1 ≤ k) (hk : k < 5) (hg : g < 2) (hw : w < 2) (hx : x < 64) (h : post 1 ())
    (hp : ∀ po : St2 → Prop, po (nI g, nI w, nI x, 0, 5, nI k, 0, 1, nI q, ct_out k, ct_in k, ct_f W, ct_f F, ct_f O, ct_f Q) → wpX_prepare po (nI g, nI w, nI x, 0, 5, nI k, 0, 0, nI 0, ct_out k, ct_in k, ct_f 0, ct_f 0, ct_f 0, ct_f 0))
    (h1 : ct_g W (ct_nu k 0 0) = 1) (h2 : ct_g F (ct_nu k 0 0) = due) (h3 : ct_lw k g w x W F 4 0 = true) :
    wL_lawOf_133 post mc ms (nI k) (nI w) z0 kc ks (nI g) (nI w) (nI x) 0 5 (nI k) 0 0 (nI 0) (ct_out k) (ct_in k) (ct_f 0) (ct_f 0) (ct_f 0) (ct_f 0) := by
  unfold wL_lawOf_133
  refine ct_outcome (i := 0) (s := 0) rfl rfl hk (by decide) (by decide) hp (br_t (by rw [h1]; rfl) ?_)
  refine ct_length (i := 0) (s := 0) rfl rfl hk (by decide) (by decide) (fun po hpo => ct_rdy hpo) (by omega) (br_t (by rw [h2, hz]) ⟨5, ?_⟩)
  exact ct_169 hk hg hw hx h 4 0 (by omega) h3
theorem ct_19e {post : Int32 → St0 → Prop} {mc ms kc ks : Nat} {x1 x2 : Int32} (hk1 : 1 ≤ k) (hk : k < 5) (hg : g < 2) (hw : w < 2) (hw2 : x1 &&& 2 = 0 ↔ w = 0) (h : post 1 ()) :
    wL_lawOf_19 post mc ms x1 x2 (nI k) kc ks 1 (nI 4) (nI g) (nI w) 0 0 1 5 0 0 (nI 0) (ct_out k) (ct_in k) (ct_f 0) (ct_f 0) (ct_f 0) (ct_f 0) := by
  refine br_t (by decide) (ct_exit hk1 hk (fun e he hek r => ct_set hk ?_))
  have hx := ct_x_lt e he
  obtain ⟨q, W, F, O, Q, hf, s⟩ := ct_prep (bA := 0) (bB := 5) (bT := nI k) (bS := 0) hk hg hw hx (ct_all hk1 (by omega) hg hw he)
  have hp : ∀ po : St2 → Prop, po (nI g, nI w, nI (ct_x e), 0, 5, nI k, 0, 1, nI q, ct_out k, ct_in k, ct_f W, ct_f F, ct_f O, ct_f Q) → wpX_prepare po (nI g, nI w, nI (ct_x e), 0, 5, nI k, 0, 0, nI 0, ct_out k, ct_in k, ct_f 0, ct_f 0, ct_f 0, ct_f 0) := fun po hpo => s po 0 hpo
  unfold ct_fin at hf
  refine br_c (fun z => ?_) (fun z => ?_)
  · rw [ct_bt ((ct_x_k k hk e he).mpr (hek.mp z)), ct_ct] at hf
    obtain ⟨h1, h2⟩ := ct_cT hf
    have h1 := Nat.eq_of_beq_eq_true h1
    have h2 := Nat.eq_of_beq_eq_true h2
    refine ct_outcome (i := 0) (s := 0) rfl rfl hk (by decide) (by decide) hp (br_t (by rw [h1]; rfl) ?_)
    exact ct_best (i := 0) (s := 0) rfl hk hg hw hx (by decide) (by decide) (by omega) (fun _ => br_t rfl h) (fun d hd => absurd (h2.symm.trans hd) (by omega))
  · rw [ct_bf (fun y => z (hek.mpr ((ct_x_k k hk e he).mp y))), ct_cf] at hf
    obtain ⟨h1, hf⟩ := ct_cT hf
    obtain ⟨h2, h3⟩ := ct_cT hf
    have h1 := Nat.eq_of_beq_eq_true h1
    have h2 := Nat.eq_of_beq_eq_true h2
    refine br_c (fun y => ?_) (fun y => ?_)
    · have hw0 := hw2.mp y
      subst hw0
      refine br_t rfl (ct_133 (due := 1) rfl hk1 hk hg hw hx h hp h1 h2 h3)
    · have hw1 : w = 1 := by
        rcases (show w = 0 ∨ w = 1 by omega) with q | q
        · exact absurd (hw2.mpr q) y
        · exact q
      subst hw1
      refine br_f (by decide) (ct_133 (due := 2 * k - 1) ?_ hk1 hk hg hw hx h hp h1 h2 h3)
      rw [show 2 * nI k = nI (2 * k) from pk_mul 2 k, ct_sub1 (by omega)]
theorem ct_19 {post : Int32 → St0 → Prop} {mc ms kc ks : Nat} {x1 x2 : Int32} (hk1 : 1 ≤ k) (hk : k < 5) (hg : g < 2) (hw : w < 2) (hw2 : x1 &&& 2 = 0 ↔ w = 0) (h : post 1 ()) :
    ∀ n i : Nat, i + n = 4 → wL_lawOf_19 post mc ms x1 x2 (nI k) kc ks (n + 1) (nI i) (nI g) (nI w) 0 0 1 5 0 0 (nI 0) (ct_out (min i k)) (ct_in (min i k)) (ct_f 0) (ct_f 0) (ct_f 0) (ct_f 0)
  | 0, i, hi => by
    have hi : i = 4 := by omega
    subst hi
    rw [show min 4 k = k by omega]
    exact ct_19e hk1 hk hg hw hw2 h
  | n + 1, i, hi => by
    have t := ct_19 (mc := mc) (ms := ms) (kc := kc) (ks := ks) (x2 := x2) hk1 hk hg hw hw2 h n (i + 1) (by omega)
    refine pk_le 4 i (fun z => absurd z (by omega)) (fun _ => pk_le k i (fun z => nm_r (nI_1 i) ?_) (fun z => ?_))
    · rw [show min (i + 1) k = k by omega] at t
      rw [show min i k = k by omega]
      exact t
    · rw [show min (i + 1) k = i + 1 by omega] at t
      rw [show min i k = i by omega]
      exact ct_door (by omega) (br_t rfl (nm_r (nI_1 i) t))
end
theorem ct_lawOf {post : Int32 → St0 → Prop} {y1 y2 y3 : Int32} (h : post 1 ()) : wpL_lawOf post 350 5600 () y1 y2 y3 := by
  obtain ⟨j, hj, ej⟩ := pk_andE y1 (m := 3) 2 (by decide)
  have K : ∀ g w : Nat, g < 2 → w < 2 → (y2 &&& 2 = 0 ↔ w = 0) → ∀ mc ms kc ks : Nat, ∀ x4 : Int32, x4 = 1 + (y1 &&& 3) → ∃ fu : Nat, wL_lawOf_19 post mc ms y2 y3 x4 kc ks fu 0 (nI g) (nI w) 0 0 1 5 0 0 0 (fun _ => 0) (fun _ => 0) (fun _ => 0) (fun _ => 0) (fun _ => 0) (fun _ => 0) := by
    intro g w hg hw hw2 mc ms kc ks x4 e4
    have e5 : x4 = nI (1 + j) := by
      rw [e4, ej]
      exact nI_add 1 j
    subst e5
    have t := ct_19 (mc := mc) (ms := ms) (kc := kc) (ks := ks) (x2 := y3) (k := 1 + j) (by omega) (by omega) hg hw hw2 h 4 0 rfl
    rw [Nat.zero_min, ct_out0, ct_in0, ct_f0] at t
    exact ⟨5, t⟩
  refine ⟨by decide, by decide, 6, 1740, by decide, by decide, ?_⟩
  refine ⟨by decide, by decide, by decide, by decide, by decide, by decide, by decide, by decide, by decide, by decide, by decide, by decide, br_c (fun a => ?_) (fun a => ?_)⟩
  · exact ⟨rfl, rfl, br_c (fun b => ⟨rfl, rfl, K 0 0 (by decide) (by decide) ⟨fun _ => rfl, fun _ => b⟩ _ _ _ _⟩) (fun b => ⟨rfl, rfl, K 0 1 (by decide) (by decide) ⟨fun q => absurd q b, fun q => absurd q (by decide)⟩ _ _ _ _⟩)⟩
  · exact ⟨rfl, rfl, br_c (fun b => ⟨rfl, rfl, K 1 0 (by decide) (by decide) ⟨fun _ => rfl, fun _ => b⟩ _ _ _ _⟩) (fun b => ⟨rfl, rfl, K 1 1 (by decide) (by decide) ⟨fun q => absurd q b, fun q => absurd q (by decide)⟩ _ _ _ _⟩)⟩
theorem ct_cell {post : Int32 → Prop} {L : Nat} {xs : Nat → Int32} {i : Nat} {z : Int32} (hz : z = nI i) (hL : L ≤ 3) (hi : i < 3) (h : ∀ r, post r) : wpL_cellAt post L xs () z := by
  subst hz
  exact pk_le L i (fun _ => h _) (fun z => ⟨vp_in_nI z (by omega), h _⟩)
end
section
theorem i_vc (xs : Nat → Int32) (L : Nat) (hL : L ≤ 3) : wpL_law (fun r => r = 1) L xs := by
  unfold wpL_law
  exact ct_cell (i := 0) rfl hL (by decide) (fun r1 => ct_cell (i := 1) rfl hL (by decide) (fun r2 => ct_cell (i := 2) rfl hL (by decide) (fun r3 => ⟨350, 5600, by decide, by decide, ct_lawOf rfl⟩)))
end
