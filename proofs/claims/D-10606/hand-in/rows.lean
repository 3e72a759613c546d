section
/-! pure mirrors of the methods, over Nat -/
def pg_d (g x : Nat) : Nat := Nat.land (Nat.shiftRight g (Nat.mul 3 x)) 7
def pg_s (g h x : Nat) : Nat := Nat.shiftLeft (pg_d h (Nat.land (Nat.shiftRight g x) 7)) x
def pg_tr (g h : Nat) : Nat → Nat → Nat → Nat
  | 0, out, _ => out
  | n + 1, out, x => pg_tr g h n (Nat.lor out (pg_s g h x)) (x + 3)
def pg_t (g h : Nat) : Nat := Nat.lor (Nat.lor (Nat.lor (Nat.lor (Nat.lor (Nat.lor 0 (pg_s g h 0)) (pg_s g h 3)) (pg_s g h 6)) (pg_s g h 9)) (pg_s g h 12)) (pg_s g h 15)
theorem pg_t_eq (g h : Nat) : pg_tr g h 6 0 0 = pg_t g h := rfl
def pg_is (g x : Nat) : Nat := Nat.shiftLeft x (Nat.mul 3 (pg_d g x))
def pg_ir (g : Nat) : Nat → Nat → Nat → Nat
  | 0, out, _ => out
  | n + 1, out, x => pg_ir g n (Nat.lor out (pg_is g x)) (x + 1)
def pg_i (g : Nat) : Nat := Nat.lor (Nat.lor (Nat.lor (Nat.lor (Nat.lor (Nat.lor 0 (pg_is g 0)) (pg_is g 1)) (pg_is g 2)) (pg_is g 3)) (pg_is g 4)) (pg_is g 5)
theorem pg_i_eq (g : Nat) : pg_ir g 6 0 0 = pg_i g := rfl
/-- fromOutside: steps left, out, rest, x -/
def pg_fr : Nat → Nat → Nat → Nat → Nat
  | 0, out, _, _ => out
  | n + 1, out, rest, x => pg_fr n (Nat.lor out (Nat.shiftLeft (rest % 6) (3 * x))) (rest / 6) (x + 1)
def pg_f (g : Nat) : Nat := pg_fr 6 0 g 0
/-- toOutside -/
def pg_or (g : Nat) : Nat → Nat → Nat
  | 0, out => out
  | m + 1, out => pg_or g m (out * 6 + pg_d g m)
def pg_o (g : Nat) : Nat := pg_or g 6 0
/-- bad's mask -/
def pg_br : Nat → Nat → Nat → Nat
  | 0, seen, _ => seen
  | n + 1, seen, rest => pg_br n (Nat.lor seen (Nat.shiftLeft 1 (rest % 6))) (rest / 6)
def pg_b (g : Nat) : Nat := pg_br 6 0 g
/-- imageOf -/
def pg_mr (set g : Nat) : Nat → Nat → Nat → Nat
  | 0, out, _ => out
  | n + 1, out, x => if Nat.land (Nat.shiftRight set x) 1 = 1 then pg_mr set g n (Nat.lor out (Nat.shiftLeft 1 (pg_d g x))) (x + 1) else pg_mr set g n out (x + 1)
def pg_m (set g : Nat) : Nat := pg_mr set g 6 0 0
/-- orbit, of one generator -/
def pg_xr (g : Nat) : Nat → Nat → Nat
  | 0, set => set
  | n + 1, set => pg_xr g n (Nat.lor set (pg_m set g))
def pg_x (g x : Nat) : Nat := pg_xr g 6 (Nat.shiftLeft 1 x)
/-- orbits: steps left, count, seen, x -/
def pg_yr (g : Nat) : Nat → Nat → Nat → Nat → Nat
  | 0, cnt, _, _ => cnt
  | n + 1, cnt, seen, x => if Nat.land (Nat.shiftRight seen x) 1 = 0 then pg_yr g n (cnt + 1) (Nat.lor seen (pg_x g x)) (x + 1) else pg_yr g n cnt seen (x + 1)
def pg_y (g : Nat) : Nat := pg_yr g 6 0 0 0
/-- the carriers of the group of g: the identity on the diagonal, g at place q; 0 stands for NONE -/
def pg_T (q g k : Nat) : Nat := if k % 7 = 0 then 181896 else if k = q then g else 0
/-- sift: steps left, rest, level -/
def pg_sf (q g : Nat) : Nat → Nat → Nat → Option Nat
  | 0, r, _ => some r
  | n + 1, r, l => if l * 6 + pg_d r l < 36 then (if pg_T q g (l * 6 + pg_d r l) = 0 then some r else pg_sf q g n (pg_t r (pg_T q g (l * 6 + pg_d r l))) (l + 1)) else none
/-- firstMoved -/
def pg_fm (g : Nat) : Nat → Nat → Nat
  | 0, _ => 6
  | n + 1, x => if pg_d g x = x then pg_fm g n (x + 1) else x
/-- nthPermutation's inner loop: steps left, which + 6, y, k -/
def pg_qr (L : Nat) : Nat → Nat → Nat → Nat → Nat
  | 0, _, y, _ => y
  | n + 1, w, y, k => if Nat.land (Nat.shiftRight L k) 1 = 1 then (if w = 6 then pg_qr L n (w - 1) k (k + 1) else pg_qr L n (w - 1) y (k + 1)) else pg_qr L n w y (k + 1)
def pg_cl (L y : Nat) : Nat := Nat.land L (Nat.xor 63 (Nat.shiftLeft 1 y))
/-- nthPermutation: steps left, out, left, rest, x -/
def pg_pr : Nat → Nat → Nat → Nat → Nat → Nat
  | 0, out, _, _, _ => out
  | n + 1, out, L, rest, x => pg_pr n (Nat.lor out (Nat.shiftLeft (pg_qr L 6 (rest % (6 - x) + 6) 0 0) (3 * x))) (pg_cl L (pg_qr L 6 (rest % (6 - x) + 6) 0 0)) (rest / (6 - x)) (x + 1)
def pg_np (k : Nat) : Nat := pg_pr 6 0 63 k 0
def pg_c (g h : Nat) : Nat := pg_t (pg_t (pg_i h) g) h
/-- normaliser: the permutations left, the count -/
def pg_cr (q g : Nat) : List Nat → Nat → Option Nat
  | [], acc => some acc
  | h :: t, acc => match pg_sf q g 6 (pg_c g h) 0 with
    | none => none
    | some r => if r = 181896 then pg_cr q g t (acc + 1) else pg_cr q g t acc
/-- orbitSize -/
def pg_zr (q g l : Nat) : Nat → Nat → Nat → Nat
  | 0, cnt, _ => cnt
  | n + 1, cnt, y => if pg_T q g (l * 6 + y) = 0 then pg_zr q g l n cnt (y + 1) else pg_zr q g l n (cnt + 1) (y + 1)
def pg_z (q g l : Nat) : Nat := pg_zr q g l 6 0 0
/-- order -/
def pg_wr (q g : Nat) : Nat → Nat → Nat → Nat
  | 0, s, _ => s
  | n + 1, s, l => pg_wr q g n (s * pg_z q g l) (l + 1)
def pg_w (q g : Nat) : Nat := pg_wr q g 6 1 0
/-- nthCarrier -/
def pg_kr (q g l : Nat) : Nat → Nat → Nat → Nat
  | 0, _, _ => 181896
  | n + 1, left, y => if pg_T q g (l * 6 + y) = 0 then pg_kr q g l n left (y + 1) else if left = 0 then pg_T q g (l * 6 + y) else pg_kr q g l n (left - 1) (y + 1)
/-- element -/
def pg_er (q g : Nat) : Nat → Nat → Nat → Nat → Nat
  | 0, e, _, _ => e
  | n + 1, e, rest, l => pg_er q g n (pg_t (pg_kr q g l 6 (rest % pg_z q g l) 0) e) (rest / pg_z q g l) (l + 1)
def pg_el (q g k : Nat) : Nat := pg_er q g 6 181896 k 0
/-- the law's permutation, outside and inside, and the place of its carrier -/
def pg_N (i j : Nat) : Nat := 44790 + j * 6 ^ i + i * 6 ^ j - (i * 6 ^ i + j * 6 ^ j)
def pg_g (i j : Nat) : Nat := pg_f (pg_N i j)
def pg_q (i j : Nat) : Nat := if i = j then 0 else min i j * 6 + max i j
/-- the table while findCarriers is on level l -/
def pg_R (q g l : Nat) (f : Bool) (k : Nat) : Nat := if k < l * 6 ∨ (f = true ∧ k < l * 6 + 6) then pg_T q g k else if k = l * 7 then 181896 else 0
/-! bounds -/
theorem pg_d_lt (g x : Nat) : pg_d g x < 8 := by
  have h : pg_d g x ≤ 7 := Nat.and_le_right
  omega
theorem pg_shl_lt {d x : Nat} (hd : d < 8) (hx : x ≤ 15) : Nat.shiftLeft d x < 2 ^ 18 := by
  have e : Nat.shiftLeft d x = d * 2 ^ x := Nat.shiftLeft_eq d x
  rw [e]
  have h1 : 2 ^ x ≤ 2 ^ 15 := Nat.pow_le_pow_right (by omega) hx
  have h2 : d * 2 ^ x ≤ 7 * 2 ^ 15 := Nat.mul_le_mul (by omega) h1
  omega
theorem pg_tr_lt (g h : Nat) : ∀ n out x, x + 3 * n = 18 → out < 2 ^ 18 → pg_tr g h n out x < 2 ^ 18
  | 0, out, x, _, ho => ho
  | n + 1, out, x, hx, ho => pg_tr_lt g h n _ (x + 3) (by omega) (Nat.or_lt_two_pow ho (pg_shl_lt (pg_d_lt _ _) (by omega)))
theorem pg_t_lt (g h : Nat) : pg_t g h < 2 ^ 18 := by
  rw [← pg_t_eq]
  exact pg_tr_lt g h 6 0 0 (by omega) (by omega)
theorem pg_is_lt (g : Nat) {x : Nat} (hx : x < 8) : pg_is g x < 2 ^ 24 := by
  have e : pg_is g x = x * 2 ^ (3 * pg_d g x) := Nat.shiftLeft_eq x _
  have hd := pg_d_lt g x
  rw [e]
  have h1 : 2 ^ (3 * pg_d g x) ≤ 2 ^ 21 := Nat.pow_le_pow_right (by omega) (by omega)
  have h2 : x * 2 ^ (3 * pg_d g x) ≤ 7 * 2 ^ 21 := Nat.mul_le_mul (by omega) h1
  omega
theorem pg_ir_lt (g : Nat) : ∀ n out x, x + n = 6 → out < 2 ^ 24 → pg_ir g n out x < 2 ^ 24
  | 0, out, x, _, ho => ho
  | n + 1, out, x, hx, ho => pg_ir_lt g n _ (x + 1) (by omega) (Nat.or_lt_two_pow ho (pg_is_lt g (by omega)))
theorem pg_i_lt (g : Nat) : pg_i g < 2 ^ 24 := by
  rw [← pg_i_eq]
  exact pg_ir_lt g 6 0 0 (by omega) (by omega)
theorem pg_fr_lt : ∀ n out rest x, x + n = 6 → out < 2 ^ 18 → pg_fr n out rest x < 2 ^ 18
  | 0, out, rest, x, _, ho => ho
  | n + 1, out, rest, x, hx, ho => pg_fr_lt n _ (rest / 6) (x + 1) (by omega) (Nat.or_lt_two_pow ho (pg_shl_lt (by omega) (by omega)))
theorem pg_f_lt (g : Nat) : pg_f g < 2 ^ 18 := pg_fr_lt 6 0 g 0 (by omega) (by omega)
theorem pg_qr_lt (L : Nat) : ∀ n w y k, k + n = 6 → y < 6 → pg_qr L n w y k < 6
  | 0, w, y, k, _, hy => hy
  | n + 1, w, y, k, hk, hy => by
    rw [pg_qr]
    split
    · split
      · exact pg_qr_lt L n _ _ _ (by omega) (by omega)
      · exact pg_qr_lt L n _ _ _ (by omega) hy
    · exact pg_qr_lt L n _ _ _ (by omega) hy
theorem pg_pr_lt : ∀ n out L rest x, x + n = 6 → out < 2 ^ 18 → pg_pr n out L rest x < 2 ^ 18
  | 0, out, L, rest, x, _, ho => ho
  | n + 1, out, L, rest, x, hx, ho => pg_pr_lt n _ _ _ (x + 1) (by omega) (Nat.or_lt_two_pow ho (pg_shl_lt (Nat.lt_of_lt_of_le (pg_qr_lt L 6 _ 0 0 (by omega) (by omega)) (by omega)) (by omega)))
theorem pg_np_lt (k : Nat) : pg_np k < 2 ^ 18 := pg_pr_lt 6 0 63 k 0 (by omega) (by omega)
theorem pg_shl1_lt {d : Nat} (hd : d < 8) : Nat.shiftLeft 1 d < 2 ^ 8 := by
  have e : Nat.shiftLeft 1 d = 1 * 2 ^ d := Nat.shiftLeft_eq 1 d
  rw [e]
  have h1 : 2 ^ d ≤ 2 ^ 7 := Nat.pow_le_pow_right (by omega) (by omega)
  omega
theorem pg_mr_lt (set g : Nat) : ∀ n out x, out < 2 ^ 8 → pg_mr set g n out x < 2 ^ 8
  | 0, out, x, ho => ho
  | n + 1, out, x, ho => by
    rw [pg_mr]
    split
    · exact pg_mr_lt set g n _ _ (Nat.or_lt_two_pow ho (pg_shl1_lt (pg_d_lt _ _)))
    · exact pg_mr_lt set g n _ _ ho
theorem pg_m_lt (set g : Nat) : pg_m set g < 2 ^ 8 := pg_mr_lt set g 6 0 0 (by omega)
theorem pg_xr_lt (g : Nat) : ∀ n set, set < 2 ^ 8 → pg_xr g n set < 2 ^ 8
  | 0, set, hs => hs
  | n + 1, set, hs => pg_xr_lt g n _ (Nat.or_lt_two_pow hs (pg_m_lt set g))
theorem pg_x_lt (g : Nat) {x : Nat} (hx : x < 8) : pg_x g x < 2 ^ 8 := pg_xr_lt g 6 _ (pg_shl1_lt hx)
theorem pg_T_lt {q g k : Nat} (hg : g < 2 ^ 18) : pg_T q g k < 2 ^ 18 := by
  unfold pg_T
  split
  · omega
  · split <;> omega
theorem pg_zr_le (q g l : Nat) : ∀ n cnt y, pg_zr q g l n cnt y ≤ cnt + n
  | 0, cnt, y => Nat.le_refl _
  | n + 1, cnt, y => by
    rw [pg_zr]
    split
    · exact Nat.le_trans (pg_zr_le q g l n cnt (y + 1)) (by omega)
    · exact Nat.le_trans (pg_zr_le q g l n (cnt + 1) (y + 1)) (by omega)
theorem pg_z_le (q g l : Nat) : pg_z q g l ≤ 6 := by
  have h := pg_zr_le q g l 6 0 0
  unfold pg_z
  omega
theorem pg_kr_lt {q g : Nat} (l : Nat) (hg : g < 2 ^ 18) : ∀ n left y, pg_kr q g l n left y < 2 ^ 18
  | 0, left, y => by rw [pg_kr]; omega
  | n + 1, left, y => by
    rw [pg_kr]
    split
    · exact pg_kr_lt l hg n _ _
    · split
      · exact pg_T_lt hg
      · exact pg_kr_lt l hg n _ _
/-! closed facts -/
theorem pg_F1 : ∀ i, i < 6 → ∀ j, j < 6 → pg_N i j ≤ 46655 ∧ pg_b (pg_N i j) = 63 ∧ pg_o (pg_t (pg_g i j) (pg_g i j)) = 44790 ∧ pg_o (pg_i (pg_g i j)) = pg_N i j ∧ pg_sf (pg_q i j) (pg_g i j) 6 (pg_g i j) 0 = some 181896 := by decide +kernel
theorem pg_F2 : ∀ i, i < 6 → ∀ j, j < 6 → pg_w (pg_q i j) (pg_g i j) = (if i = j then 1 else 2) ∧ pg_y (pg_g i j) = (if i = j then 6 else 5) ∧ ∀ l, l < 6 → 0 < pg_z (pg_q i j) (pg_g i j) l := by decide +kernel
theorem pg_F3 : ∀ i, i < 6 → ∀ j, j < 6 → ∀ x, x < 6 → pg_x (pg_g i j) x = (if x = i ∨ x = j then Nat.lor (Nat.shiftLeft 1 i) (Nat.shiftLeft 1 j) else Nat.shiftLeft 1 x) := by decide +kernel
theorem pg_F4 : ∀ i, i < 6 → pg_g i i = 181896 ∧ pg_sf 0 0 6 (pg_g i i) 0 = some 181896 ∧ pg_d (pg_el (pg_q i i) (pg_g i i) 0) i = i ∧ pg_o (pg_el (pg_q i i) (pg_g i i) 0) = pg_N i i := by decide +kernel
theorem pg_F5a : ∀ i, i < 6 → ∀ j, j < 6 → (i = j ∨ pg_sf 0 0 6 (pg_g i j) 0 = some (pg_g i j)) := by decide +kernel
theorem pg_F5b : ∀ i, i < 6 → ∀ j, j < 6 → (i = j ∨ (pg_g i j ≠ 181896 ∧ pg_fm (pg_g i j) 6 0 = min i j)) := by decide +kernel
theorem pg_F5c : ∀ i, i < 6 → ∀ j, j < 6 → (i = j ∨ (¬ pg_d (pg_el (pg_q i j) (pg_g i j) 0) i = j ∧ pg_d (pg_el (pg_q i j) (pg_g i j) 1) i = j ∧ pg_o (pg_el (pg_q i j) (pg_g i j) 1) = pg_N i j)) := by decide +kernel
/-- closedAt: what is sifted vanishes -/
theorem pg_F6a : ∀ i, i < 6 → ∀ j, j < 6 → ∀ y, y < 6 → pg_d (pg_g i j) y < 6 := by decide +kernel
def pg_p6 (i j l y : Nat) : Bool := decide (i = j) || (decide (¬ l ≤ min i j) || decide (pg_T (pg_q i j) (pg_g i j) (l * 6 + y) = 0))
theorem pg_F6b : ∀ i, i < 6 → ∀ j, j < 6 → ∀ l, l < 6 → ∀ y, y < 6 → (pg_p6 i j l y = true ∨ ¬ pg_T (pg_q i j) (pg_g i j) (l * 6 + pg_d (pg_g i j) y) = 0) := by decide +kernel
theorem pg_F6c : ∀ i, i < 6 → ∀ j, j < 6 → ∀ l, l < 6 → ∀ y, y < 6 → (pg_p6 i j l y = true ∨ pg_sf (pg_q i j) (pg_g i j) 6 (pg_t (pg_t (pg_T (pg_q i j) (pg_g i j) (l * 6 + y)) (pg_g i j)) (pg_T (pg_q i j) (pg_g i j) (l * 6 + pg_d (pg_g i j) y))) 0 = some 181896) := by decide +kernel
theorem pg_p6f {i j l y : Nat} (h : i ≠ j) (hm : l ≤ min i j) (hT : pg_T (pg_q i j) (pg_g i j) (l * 6 + y) ≠ 0) : ¬ pg_p6 i j l y = true := by
  unfold pg_p6
  rw [decide_eq_false h, decide_eq_false (fun z => z hm), decide_eq_false hT]
  decide
theorem pg_F6 (i : Nat) (hi : i < 6) (j : Nat) (hj : j < 6) (h : i ≠ j) (l : Nat) (hl : l < 6) (hm : l ≤ min i j) (y : Nat) (hy : y < 6) (hT : pg_T (pg_q i j) (pg_g i j) (l * 6 + y) ≠ 0) : pg_d (pg_g i j) y < 6 ∧ pg_T (pg_q i j) (pg_g i j) (l * 6 + pg_d (pg_g i j) y) ≠ 0 ∧ pg_sf (pg_q i j) (pg_g i j) 6 (pg_t (pg_t (pg_T (pg_q i j) (pg_g i j) (l * 6 + y)) (pg_g i j)) (pg_T (pg_q i j) (pg_g i j) (l * 6 + pg_d (pg_g i j) y))) 0 = some 181896 :=
  ⟨pg_F6a i hi j hj y hy, (pg_F6b i hi j hj l hl y hy).resolve_left (pg_p6f h hm hT), (pg_F6c i hi j hj l hl y hy).resolve_left (pg_p6f h hm hT)⟩
/-- extend: whether the step at level l, point y, stores nothing (f: the row was full before) -/
def pg_Fl (i y : Nat) (f : Bool) : Bool := f || decide (i < y)
def pg_skb (i q g l y : Nat) (f : Bool) : Bool := decide (i < l) || (decide (pg_R q g l (pg_Fl i y f) (l * 6 + y) = 0) || decide (¬ pg_R q g l (pg_Fl i y f) (l * 6 + pg_d g y) = 0))
def pg_tn (i q g l y : Nat) (f : Bool) : Nat := pg_t (pg_R q g l (pg_Fl i y f) (l * 6 + y)) g
theorem pg_F7b : ∀ i, i < 6 → ∀ j, j < 6 → (i = j ∨ ∀ l, l < 6 → ∀ y, y < 6 → ∀ f : Bool, (pg_skb (min i j) (pg_q i j) (pg_g i j) l y f = false ∨ ∀ k, k < 36 → pg_R (pg_q i j) (pg_g i j) l (pg_Fl (min i j) (y + 1) f) k = pg_R (pg_q i j) (pg_g i j) l (pg_Fl (min i j) y f) k)) := by decide +kernel
theorem pg_F7c : ∀ i, i < 6 → ∀ j, j < 6 → (i = j ∨ ∀ l, l < 6 → ∀ y, y < 6 → ∀ f : Bool, (pg_skb (min i j) (pg_q i j) (pg_g i j) l y f = true ∨ pg_i (pg_tn (min i j) (pg_q i j) (pg_g i j) l y f) = pg_tn (min i j) (pg_q i j) (pg_g i j) l y f)) := by decide +kernel
theorem pg_F7e : ∀ i, i < 6 → ∀ j, j < 6 → (i = j ∨ ∀ l, l < 6 → ∀ y, y < 6 → ∀ f : Bool, (pg_skb (min i j) (pg_q i j) (pg_g i j) l y f = true ∨ ¬ pg_tn (min i j) (pg_q i j) (pg_g i j) l y f = 0)) := by decide +kernel
theorem pg_F7d : ∀ i, i < 6 → ∀ j, j < 6 → (i = j ∨ ∀ l, l < 6 → ∀ y, y < 6 → ∀ f : Bool, (pg_skb (min i j) (pg_q i j) (pg_g i j) l y f = true ∨ ∀ k, k < 36 → pg_R (pg_q i j) (pg_g i j) l (pg_Fl (min i j) (y + 1) f) k = if k = l * 6 + pg_d (pg_g i j) y then pg_tn (min i j) (pg_q i j) (pg_g i j) l y f else pg_R (pg_q i j) (pg_g i j) l (pg_Fl (min i j) y f) k)) := by decide +kernel
/-- the same, of one group -/
def pg_St (i q g : Nat) : Prop := ∀ l, l < 6 → ∀ y, y < 6 → ∀ f : Bool, pg_d g y < 6
    ∧ (pg_skb i q g l y f = true → ∀ k, k < 36 → pg_R q g l (pg_Fl i (y + 1) f) k = pg_R q g l (pg_Fl i y f) k)
    ∧ (pg_skb i q g l y f = false → pg_i (pg_tn i q g l y f) = pg_tn i q g l y f ∧ pg_tn i q g l y f ≠ 0
        ∧ ∀ k, k < 36 → pg_R q g l (pg_Fl i (y + 1) f) k = if k = l * 6 + pg_d g y then pg_tn i q g l y f else pg_R q g l (pg_Fl i y f) k)
theorem pg_tf {x : Bool} (h : x = true) (h' : x = false) : False := by
  rw [h] at h'
  exact absurd h' (by decide)
theorem pg_F7 (i : Nat) (hi : i < 6) (j : Nat) (hj : j < 6) (h : i ≠ j) : pg_St (min i j) (pg_q i j) (pg_g i j) := by
  intro l hl y hy f
  have B := ((pg_F7b i hi j hj).resolve_left h) l hl y hy f
  have C := ((pg_F7c i hi j hj).resolve_left h) l hl y hy f
  have D := ((pg_F7d i hi j hj).resolve_left h) l hl y hy f
  refine ⟨pg_F6a i hi j hj y hy, fun s => B.resolve_left (fun z => pg_tf s z), fun s => ?_⟩
  have E := ((pg_F7e i hi j hj).resolve_left h) l hl y hy f
  exact ⟨C.resolve_left (fun z => pg_tf z s), E.resolve_left (fun z => pg_tf z s), D.resolve_left (fun z => pg_tf z s)⟩
end
section
/-! printed by gen_heavy.py: the 720 permutations, and the normaliser's count for each group -/
def pg_P0 : List Nat := [181896, 181889, 181826, 181315, 177220, 144453, 181840, 181777, 181770, 181259, 177164, 144397, 181336, 181273, 180762, 180755, 176660, 143893, 177248, 177185, 176674, 172579, 172572, 139805, 144488, 144425, 143914, 139819, 107052, 107045, 181448, 181441, 180930, 180867, 176772, 144005, 180944, 180433, 180426, 180363, 176268, 143501, 180888, 180377, 180314, 180307, 176212, 143445, 176800, 176289, 176226, 172131, 172124, 139357, 144040, 143529, 143466, 139371, 106604, 106597, 177416, 177409, 176898, 172803, 172740, 139973, 176912, 176401, 176394, 172299, 172236, 139469, 172824, 172313, 168218, 168211, 168148, 135381, 172768, 172257, 168162, 168099, 168092, 135325, 140008, 139497, 135402, 135339, 102572, 102565, 144712, 144705, 144194, 140099, 107332, 107269, 144208, 143697, 143690, 139595, 106828, 106765, 140120, 139609, 135514, 135507, 102740, 102677, 107360, 106849, 102754, 69987, 69980, 69917, 107304, 106793, 102698, 69931, 69868, 69861]
def pg_P1 : List Nat := [178312, 178305, 178242, 174147, 173636, 140869, 178256, 178193, 178186, 174091, 173580, 140813, 174168, 174105, 170010, 170003, 169492, 136725, 173664, 173601, 169506, 168995, 168988, 136221, 140904, 140841, 136746, 136235, 103468, 103461, 174280, 174273, 170178, 170115, 169604, 136837, 170192, 166097, 166090, 166027, 165516, 132749, 170136, 166041, 165978, 165971, 165460, 132693, 169632, 165537, 165474, 164963, 164956, 132189, 136872, 132777, 132714, 132203, 99436, 99429, 173832, 173825, 169730, 169219, 169156, 136389, 169744, 165649, 165642, 165131, 165068, 132301, 169240, 165145, 164634, 164627, 164564, 131797, 169184, 165089, 164578, 164515, 164508, 131741, 136424, 132329, 131818, 131755, 98988, 98981, 141128, 141121, 137026, 136515, 103748, 103685, 137040, 132945, 132938, 132427, 99660, 99597, 136536, 132441, 131930, 131923, 99156, 99093, 103776, 99681, 99170, 66403, 66396, 66333, 103720, 99625, 99114, 66347, 66284, 66277]
def pg_P2 : List Nat := [146056, 146049, 145986, 141891, 109124, 108613, 146000, 145937, 145930, 141835, 109068, 108557, 141912, 141849, 137754, 137747, 104980, 104469, 109152, 109089, 104994, 72227, 72220, 71709, 108648, 108585, 104490, 71723, 71212, 71205, 142024, 142017, 137922, 137859, 105092, 104581, 137936, 133841, 133834, 133771, 101004, 100493, 137880, 133785, 133722, 133715, 100948, 100437, 105120, 101025, 100962, 68195, 68188, 67677, 104616, 100521, 100458, 67691, 67180, 67173, 109320, 109313, 105218, 72451, 72388, 71877, 105232, 101137, 101130, 68363, 68300, 67789, 72472, 68377, 35610, 35603, 35540, 35029, 72416, 68321, 35554, 35491, 35484, 34973, 71912, 67817, 35050, 34987, 34476, 34469, 108872, 108865, 104770, 72003, 71492, 71429, 104784, 100689, 100682, 67915, 67404, 67341, 72024, 67929, 35162, 35155, 34644, 34581, 71520, 67425, 34658, 34147, 34140, 34077, 71464, 67369, 34602, 34091, 34028, 34021]
def pg_P3 : List Nat := [153224, 153217, 153154, 152643, 119876, 115781, 153168, 153105, 153098, 152587, 119820, 115725, 152664, 152601, 152090, 152083, 119316, 115221, 119904, 119841, 119330, 86563, 86556, 82461, 115816, 115753, 115242, 82475, 78380, 78373, 152776, 152769, 152258, 152195, 119428, 115333, 152272, 151761, 151754, 151691, 118924, 114829, 152216, 151705, 151642, 151635, 118868, 114773, 119456, 118945, 118882, 86115, 86108, 82013, 115368, 114857, 114794, 82027, 77932, 77925, 120072, 120065, 119554, 86787, 86724, 82629, 119568, 119057, 119050, 86283, 86220, 82125, 86808, 86297, 53530, 53523, 53460, 49365, 86752, 86241, 53474, 53411, 53404, 49309, 82664, 82153, 49386, 49323, 45228, 45221, 116040, 116033, 115522, 82755, 78660, 78597, 115536, 115025, 115018, 82251, 78156, 78093, 82776, 82265, 49498, 49491, 45396, 45333, 78688, 78177, 45410, 41315, 41308, 41245, 78632, 78121, 45354, 41259, 41196, 41189]
def pg_P4 : List Nat := [120968, 120961, 120898, 88131, 87620, 83525, 120912, 120849, 120842, 88075, 87564, 83469, 88152, 88089, 55322, 55315, 54804, 50709, 87648, 87585, 54818, 54307, 54300, 50205, 83560, 83497, 50730, 50219, 46124, 46117, 88264, 88257, 55490, 55427, 54916, 50821, 55504, 22737, 22730, 22667, 22156, 18061, 55448, 22681, 22618, 22611, 22100, 18005, 54944, 22177, 22114, 21603, 21596, 17501, 50856, 18089, 18026, 17515, 13420, 13413, 87816, 87809, 55042, 54531, 54468, 50373, 55056, 22289, 22282, 21771, 21708, 17613, 54552, 21785, 21274, 21267, 21204, 17109, 54496, 21729, 21218, 21155, 21148, 17053, 50408, 17641, 17130, 17067, 12972, 12965, 83784, 83777, 51010, 50499, 46404, 46341, 51024, 18257, 18250, 17739, 13644, 13581, 50520, 17753, 17242, 17235, 13140, 13077, 46432, 13665, 13154, 9059, 9052, 8989, 46376, 13609, 13098, 9003, 8940, 8933]
def pg_P5 : List Nat := [117384, 117377, 117314, 84547, 80452, 79941, 117328, 117265, 117258, 84491, 80396, 79885, 84568, 84505, 51738, 51731, 47636, 47125, 80480, 80417, 47650, 43555, 43548, 43037, 79976, 79913, 47146, 43051, 42540, 42533, 84680, 84673, 51906, 51843, 47748, 47237, 51920, 19153, 19146, 19083, 14988, 14477, 51864, 19097, 19034, 19027, 14932, 14421, 47776, 15009, 14946, 10851, 10844, 10333, 47272, 14505, 14442, 10347, 9836, 9829, 80648, 80641, 47874, 43779, 43716, 43205, 47888, 15121, 15114, 11019, 10956, 10445, 43800, 11033, 6938, 6931, 6868, 6357, 43744, 10977, 6882, 6819, 6812, 6301, 43240, 10473, 6378, 6315, 5804, 5797, 80200, 80193, 47426, 43331, 42820, 42757, 47440, 14673, 14666, 10571, 10060, 9997, 43352, 10585, 6490, 6483, 5972, 5909, 42848, 10081, 5986, 5475, 5468, 5405, 42792, 10025, 5930, 5419, 5356, 5349]
def pg_PT : List Nat := pg_P0 ++ (pg_P1 ++ (pg_P2 ++ (pg_P3 ++ (pg_P4 ++ pg_P5))))
theorem pg_np_tab : (List.range' 0 720).map pg_np = pg_PT := by decide +kernel
theorem pg_H0 : pg_cr 0 181896 pg_PT 0 = some 720 := by decide +kernel
theorem pg_H01 : pg_cr 1 181889 pg_PT 0 = some 48 := by decide +kernel
theorem pg_H02 : pg_cr 2 181770 pg_PT 0 = some 48 := by decide +kernel
theorem pg_H03 : pg_cr 3 180363 pg_PT 0 = some 48 := by decide +kernel
theorem pg_H04 : pg_cr 4 165516 pg_PT 0 = some 48 := by decide +kernel
theorem pg_H05 : pg_cr 5 18061 pg_PT 0 = some 48 := by decide +kernel
theorem pg_H12 : pg_cr 8 181840 pg_PT 0 = some 48 := by decide +kernel
theorem pg_H13 : pg_cr 9 180888 pg_PT 0 = some 48 := by decide +kernel
theorem pg_H14 : pg_cr 10 169632 pg_PT 0 = some 48 := by decide +kernel
theorem pg_H15 : pg_cr 11 50856 pg_PT 0 = some 48 := by decide +kernel
theorem pg_H23 : pg_cr 15 181448 pg_PT 0 = some 48 := by decide +kernel
theorem pg_H24 : pg_cr 16 173832 pg_PT 0 = some 48 := by decide +kernel
theorem pg_H25 : pg_cr 17 83784 pg_PT 0 = some 48 := by decide +kernel
theorem pg_H34 : pg_cr 22 178312 pg_PT 0 = some 48 := by decide +kernel
theorem pg_H35 : pg_cr 23 117384 pg_PT 0 = some 48 := by decide +kernel
theorem pg_H45 : pg_cr 29 153224 pg_PT 0 = some 48 := by decide +kernel
theorem pg_Hn : ∀ i, i < 6 → ∀ j, j < 6 → pg_cr (pg_q i j) (pg_g i j) pg_PT 0 = some (if i = j then 720 else 48)
  | 0, _, 0, _ => by rw [show pg_q 0 0 = 0 by decide +kernel, show pg_g 0 0 = 181896 by decide +kernel]; exact pg_H0
  | 0, _, 1, _ => by rw [show pg_q 0 1 = 1 by decide +kernel, show pg_g 0 1 = 181889 by decide +kernel]; exact pg_H01
  | 0, _, 2, _ => by rw [show pg_q 0 2 = 2 by decide +kernel, show pg_g 0 2 = 181770 by decide +kernel]; exact pg_H02
  | 0, _, 3, _ => by rw [show pg_q 0 3 = 3 by decide +kernel, show pg_g 0 3 = 180363 by decide +kernel]; exact pg_H03
  | 0, _, 4, _ => by rw [show pg_q 0 4 = 4 by decide +kernel, show pg_g 0 4 = 165516 by decide +kernel]; exact pg_H04
  | 0, _, 5, _ => by rw [show pg_q 0 5 = 5 by decide +kernel, show pg_g 0 5 = 18061 by decide +kernel]; exact pg_H05
  | 1, _, 0, _ => by rw [show pg_q 1 0 = 1 by decide +kernel, show pg_g 1 0 = 181889 by decide +kernel]; exact pg_H01
  | 1, _, 1, _ => by rw [show pg_q 1 1 = 0 by decide +kernel, show pg_g 1 1 = 181896 by decide +kernel]; exact pg_H0
  | 1, _, 2, _ => by rw [show pg_q 1 2 = 8 by decide +kernel, show pg_g 1 2 = 181840 by decide +kernel]; exact pg_H12
  | 1, _, 3, _ => by rw [show pg_q 1 3 = 9 by decide +kernel, show pg_g 1 3 = 180888 by decide +kernel]; exact pg_H13
  | 1, _, 4, _ => by rw [show pg_q 1 4 = 10 by decide +kernel, show pg_g 1 4 = 169632 by decide +kernel]; exact pg_H14
  | 1, _, 5, _ => by rw [show pg_q 1 5 = 11 by decide +kernel, show pg_g 1 5 = 50856 by decide +kernel]; exact pg_H15
  | 2, _, 0, _ => by rw [show pg_q 2 0 = 2 by decide +kernel, show pg_g 2 0 = 181770 by decide +kernel]; exact pg_H02
  | 2, _, 1, _ => by rw [show pg_q 2 1 = 8 by decide +kernel, show pg_g 2 1 = 181840 by decide +kernel]; exact pg_H12
  | 2, _, 2, _ => by rw [show pg_q 2 2 = 0 by decide +kernel, show pg_g 2 2 = 181896 by decide +kernel]; exact pg_H0
  | 2, _, 3, _ => by rw [show pg_q 2 3 = 15 by decide +kernel, show pg_g 2 3 = 181448 by decide +kernel]; exact pg_H23
  | 2, _, 4, _ => by rw [show pg_q 2 4 = 16 by decide +kernel, show pg_g 2 4 = 173832 by decide +kernel]; exact pg_H24
  | 2, _, 5, _ => by rw [show pg_q 2 5 = 17 by decide +kernel, show pg_g 2 5 = 83784 by decide +kernel]; exact pg_H25
  | 3, _, 0, _ => by rw [show pg_q 3 0 = 3 by decide +kernel, show pg_g 3 0 = 180363 by decide +kernel]; exact pg_H03
  | 3, _, 1, _ => by rw [show pg_q 3 1 = 9 by decide +kernel, show pg_g 3 1 = 180888 by decide +kernel]; exact pg_H13
  | 3, _, 2, _ => by rw [show pg_q 3 2 = 15 by decide +kernel, show pg_g 3 2 = 181448 by decide +kernel]; exact pg_H23
  | 3, _, 3, _ => by rw [show pg_q 3 3 = 0 by decide +kernel, show pg_g 3 3 = 181896 by decide +kernel]; exact pg_H0
  | 3, _, 4, _ => by rw [show pg_q 3 4 = 22 by decide +kernel, show pg_g 3 4 = 178312 by decide +kernel]; exact pg_H34
  | 3, _, 5, _ => by rw [show pg_q 3 5 = 23 by decide +kernel, show pg_g 3 5 = 117384 by decide +kernel]; exact pg_H35
  | 4, _, 0, _ => by rw [show pg_q 4 0 = 4 by decide +kernel, show pg_g 4 0 = 165516 by decide +kernel]; exact pg_H04
  | 4, _, 1, _ => by rw [show pg_q 4 1 = 10 by decide +kernel, show pg_g 4 1 = 169632 by decide +kernel]; exact pg_H14
  | 4, _, 2, _ => by rw [show pg_q 4 2 = 16 by decide +kernel, show pg_g 4 2 = 173832 by decide +kernel]; exact pg_H24
  | 4, _, 3, _ => by rw [show pg_q 4 3 = 22 by decide +kernel, show pg_g 4 3 = 178312 by decide +kernel]; exact pg_H34
  | 4, _, 4, _ => by rw [show pg_q 4 4 = 0 by decide +kernel, show pg_g 4 4 = 181896 by decide +kernel]; exact pg_H0
  | 4, _, 5, _ => by rw [show pg_q 4 5 = 29 by decide +kernel, show pg_g 4 5 = 153224 by decide +kernel]; exact pg_H45
  | 5, _, 0, _ => by rw [show pg_q 5 0 = 5 by decide +kernel, show pg_g 5 0 = 18061 by decide +kernel]; exact pg_H05
  | 5, _, 1, _ => by rw [show pg_q 5 1 = 11 by decide +kernel, show pg_g 5 1 = 50856 by decide +kernel]; exact pg_H15
  | 5, _, 2, _ => by rw [show pg_q 5 2 = 17 by decide +kernel, show pg_g 5 2 = 83784 by decide +kernel]; exact pg_H25
  | 5, _, 3, _ => by rw [show pg_q 5 3 = 23 by decide +kernel, show pg_g 5 3 = 117384 by decide +kernel]; exact pg_H35
  | 5, _, 4, _ => by rw [show pg_q 5 4 = 29 by decide +kernel, show pg_g 5 4 = 153224 by decide +kernel]; exact pg_H45
  | 5, _, 5, _ => by rw [show pg_q 5 5 = 0 by decide +kernel, show pg_g 5 5 = 181896 by decide +kernel]; exact pg_H0
  | i + 6, hi, _, _ => absurd hi (by omega)
  | 0, _, j + 6, hj => absurd hj (by omega)
  | 1, _, j + 6, hj => absurd hj (by omega)
  | 2, _, j + 6, hj => absurd hj (by omega)
  | 3, _, j + 6, hj => absurd hj (by omega)
  | 4, _, j + 6, hj => absurd hj (by omega)
  | 5, _, j + 6, hj => absurd hj (by omega)
end
section
/-! nI under the operations of the code -/
theorem pg_sl : ∀ s, s < 32 → ((nI s &&& 31).toBitVec.smod 32).toNat = s := by decide +kernel
theorem pg_shr {a s : Nat} (ha : a < 2 ^ 31) (hs : s < 32) : nI a >>> (nI s &&& 31) = nI (Nat.shiftRight a s) := by
  rw [pk_shrN ha _ s (pg_sl s hs), ← Nat.shiftRight_eq_div_pow]
  rfl
theorem pg_shl {a s : Nat} (hs : s < 32) (h : a * 2 ^ s < 2 ^ 32) : nI a <<< (nI s &&& 31) = nI (Nat.shiftLeft a s) := by
  rw [pk_shlN _ s (pg_sl s hs) h, ← Nat.shiftLeft_eq]
  rfl
theorem pg_lor (a b : Nat) : nI a ||| nI b = nI (Nat.lor a b) := by
  apply Int32.toBitVec_inj.1
  show BitVec.ofNat 32 a ||| BitVec.ofNat 32 b = BitVec.ofNat 32 (a ||| b)
  apply BitVec.eq_of_getLsbD_eq
  intro i hi
  simp [hi]
theorem pg_land (a b : Nat) : nI a &&& nI b = nI (Nat.land a b) := by
  apply Int32.toBitVec_inj.1
  show BitVec.ofNat 32 a &&& BitVec.ofNat 32 b = BitVec.ofNat 32 (a &&& b)
  apply BitVec.eq_of_getLsbD_eq
  intro i hi
  simp [hi]
theorem pg_and7 (a : Nat) : nI a &&& 7 = nI (Nat.land a 7) := pg_land a 7
theorem pg_m3 (y : Nat) : (3 : Int32) * nI y = nI (Nat.mul 3 y) := pk_mul 3 y
theorem pg_sh1 {s : Nat} (hs : s < 31) : (1 : Int32) <<< (nI s &&& 31) = nI (Nat.shiftLeft 1 s) := by
  refine pg_shl (a := 1) (by omega) ?_
  have h1 : 2 ^ s ≤ 2 ^ 30 := Nat.pow_le_pow_right (by omega) (by omega)
  omega
theorem pg_dsh {d x : Nat} (hd : d < 8) (hx : x ≤ 21) : d * 2 ^ x < 2 ^ 32 := by
  have h1 : 2 ^ x ≤ 2 ^ 21 := Nat.pow_le_pow_right (by omega) hx
  have h2 : d * 2 ^ x ≤ 7 * 2 ^ 21 := Nat.mul_le_mul (by omega) h1
  omega
theorem pg_digE {g x : Nat} (hg : g < 2 ^ 31) (hx : x ≤ 7) : (nI g >>> ((3 * nI x) &&& 31)) &&& 7 = nI (pg_d g x) := by
  rw [pg_m3, pg_shr hg (show Nat.mul 3 x < 32 from (by have e : Nat.mul 3 x = 3 * x := rfl; omega)), pg_and7]
  rfl
theorem pg_r6 {a : Nat} (ha : a < 2 ^ 31) : nI a - nI a / 6 * 6 = nI (a % 6) := pk_rem (d := 6) ha (by omega) (by omega)
theorem pg_d6 {a : Nat} (ha : a < 2 ^ 31) : nI a / 6 = nI (a / 6) := pk_div (d := 6) ha (by omega) (by omega)
theorem pg_bit {a x : Nat} (ha : a < 2 ^ 31) (hx : x < 32) : (nI a >>> (nI x &&& 31)) &&& 1 = nI (Nat.land (Nat.shiftRight a x) 1) := by
  rw [pg_shr ha hx]
  exact pg_land _ 1
theorem pg_ifb {A B : Prop} {a x : Nat} (v : Nat) (hv : v < 2) (ha : a < 2 ^ 31) (hx : x < 32) (f : Nat.land (Nat.shiftRight a x) 1 = v → A) (g : ¬ Nat.land (Nat.shiftRight a x) 1 = v → B) :
    ((nI a >>> (nI x &&& 31)) &&& 1 = nI v → A) ∧ (¬ (nI a >>> (nI x &&& 31)) &&& 1 = nI v → B) := by
  have h1 : Nat.land (Nat.shiftRight a x) 1 ≤ 1 := Nat.and_le_right
  rw [pg_bit ha hx, nI_eq (by omega) (by omega)]
  exact ⟨f, g⟩
theorem pg_ix (l y : Nat) : nI l * 6 + nI y = nI (l * 6 + y) := by
  rw [show nI l * 6 = nI (l * 6) from pk_mul l 6, nI_add]
theorem pg_ixc {l y : Nat} (hl : l < 6) (hy : y < 8) : (nI l * 6 + nI y).toNatClampNeg = l * 6 + y := by
  rw [pg_ix, nI_clamp (by omega)]
theorem pg_ixi {l y : Nat} (h : l * 6 + y < 36) : vp_in (nI l * 6 + nI y) 36 := by
  rw [pg_ix]
  exact vp_in_nI h (by omega)
/-- a cell of the carrier arrays -/
def pg_v (v : Nat) : Int32 := if v = 0 then -4 else nI v
theorem pg_v0 : pg_v 0 = -4 := rfl
theorem pg_vn {v : Nat} (h : v ≠ 0) : pg_v v = nI v := if_neg h
theorem pg_n4 {v : Nat} (hv : v < 2 ^ 31) : ¬ nI v = -4 := by
  intro e
  have h := congrArg Int32.toInt e
  rw [nI_toInt hv] at h
  have h4 : (-4 : Int32).toInt = -4 := by decide
  omega
theorem pg_ifv {A B : Prop} {x : Int32} (v : Nat) (hx : x = pg_v v) (hv : v < 2 ^ 31) (f : v = 0 → A) (g : v ≠ 0 → B) : (x = -4 → A) ∧ (¬ x = -4 → B) := by
  subst hx
  by_cases e : v = 0
  · subst e
    exact br_t pg_v0 (f rfl)
  · rw [pg_vn e]
    exact br_f (pg_n4 hv) (g e)
/-- the arrays carrier and carrierBack hold the table A -/
def pg_M (A : Nat → Nat) (a2 a3 : Nat → Int32) : Prop := (∀ k, k < 36 → a2 k = pg_v (A k)) ∧ (∀ k, k < 36 → A k ≠ 0 → a3 k = nI (A k))
theorem pg_M_c {A B : Nat → Nat} {a2 a3 : Nat → Int32} (h : pg_M A a2 a3) (e : ∀ k, k < 36 → B k = A k) : pg_M B a2 a3 :=
  ⟨fun k hk => by rw [e k hk]; exact h.1 k hk, fun k hk hn => by rw [e k hk] at hn ⊢; exact h.2 k hk hn⟩
section
variable {c b sc w o ws : Int32} {a1 a2 a3 a4 a5 a6 a7 : Nat → Int32}
theorem pg_digit {post : Int32 → Prop} {u : St2} {g x : Nat} (hg : g < 2 ^ 31) (hx : x ≤ 7) (hp : post (nI (pg_d g x))) : wpX_digit post u (nI g) (nI x) := by
  obtain ⟨c, b, sc, w, o, ws, a1, a2, a3, a4, a5, a6, a7⟩ := u
  have e : wpX_digit post (c, b, sc, w, o, ws, a1, a2, a3, a4, a5, a6, a7) (nI g) (nI x) = post ((nI g >>> ((3 * nI x) &&& 31)) &&& 7) := rfl
  rw [e, pg_digE hg hx]
  exact hp
theorem pg_tst {g h x : Nat} (out : Nat) (hg : g < 2 ^ 31) (hh : h < 2 ^ 31) (hx : x ≤ 15) : nI out ||| (((nI h >>> ((3 * ((nI g >>> (nI x &&& 31)) &&& 7)) &&& 31)) &&& 7) <<< (nI x &&& 31)) = nI (Nat.lor out (pg_s g h x)) := by
  rw [pg_shr hg (by omega), pg_and7, pg_digE (x := Nat.land (Nat.shiftRight g x) 7) hh Nat.and_le_right, pg_shl (by omega) (pg_dsh (pg_d_lt _ _) (by omega)), pg_lor]
  rfl
theorem pg_tw {post : Int32 → Prop} {g h : Nat} (hg : g < 2 ^ 31) (hh : h < 2 ^ 31) : ∀ n out x, x + 3 * n = 18 → post (nI (pg_tr g h n out x)) → wX_times_5 post (nI g) (nI h) c b sc w o ws a1 a2 a3 a4 a5 a6 a7 (n + 1) (nI out) (nI x)
  | 0, out, x, hx, hp => pk_le 18 x (fun _ => hp) (fun z => absurd z (by omega))
  | n + 1, out, x, hx, hp => pk_le 18 x (fun z => absurd z (by omega)) (fun _ => nm_r (pg_tst out hg hh (by omega)) (nm_r (nI_add x 3) (pg_tw hg hh n _ _ (by omega) hp)))
theorem pg_times {post : Int32 → Prop} {u : St2} {g h : Nat} (hg : g < 2 ^ 31) (hh : h < 2 ^ 31) (hp : post (nI (pg_t g h))) : wpX_times post u (nI g) (nI h) := by
  obtain ⟨c, b, sc, w, o, ws, a1, a2, a3, a4, a5, a6, a7⟩ := u
  exact ⟨7, pg_tw hg hh 6 0 0 (by omega) (by rw [pg_t_eq]; exact hp)⟩
theorem pg_ist {g x : Nat} (out : Nat) (hg : g < 2 ^ 31) (hx : x < 8) : nI out ||| (nI x <<< ((3 * ((nI g >>> ((3 * nI x) &&& 31)) &&& 7)) &&& 31)) = nI (Nat.lor out (pg_is g x)) := by
  have hd := pg_d_lt g x
  have e3 : Nat.mul 3 (pg_d g x) = 3 * pg_d g x := rfl
  rw [pg_digE hg (by omega), pg_m3, pg_shl (by omega) (pg_dsh hx (by omega)), pg_lor]
  rfl
theorem pg_iw {post : Int32 → Prop} {g : Nat} (hg : g < 2 ^ 31) : ∀ n out x, x + n = 6 → post (nI (pg_ir g n out x)) → wX_inverted_4 post (nI g) c b sc w o ws a1 a2 a3 a4 a5 a6 a7 (n + 1) (nI out) (nI x)
  | 0, out, x, hx, hp => pk_le 6 x (fun _ => hp) (fun z => absurd z (by omega))
  | n + 1, out, x, hx, hp => pk_le 6 x (fun z => absurd z (by omega)) (fun _ => nm_r (pg_ist out hg (by omega)) (nm_r (nI_1 x) (pg_iw hg n _ _ (by omega) hp)))
theorem pg_inverted {post : Int32 → Prop} {u : St2} {g : Nat} (hg : g < 2 ^ 31) (hp : post (nI (pg_i g))) : wpX_inverted post u (nI g) := by
  obtain ⟨c, b, sc, w, o, ws, a1, a2, a3, a4, a5, a6, a7⟩ := u
  exact ⟨7, pg_iw hg 6 0 0 (by omega) (by rw [pg_i_eq]; exact hp)⟩
theorem pg_fst {rest x : Nat} (out : Nat) (hr : rest < 2 ^ 31) (hx : x < 6) : nI out ||| ((nI rest - nI rest / 6 * 6) <<< ((3 * nI x) &&& 31)) = nI (Nat.lor out (Nat.shiftLeft (rest % 6) (3 * x))) := by
  have e3 : Nat.mul 3 x = 3 * x := rfl
  rw [pg_r6 hr, pg_m3, pg_shl (by omega) (pg_dsh (by omega) (by omega)), pg_lor, e3]
theorem pg_fw {post : Int32 → Prop} : ∀ n out rest x, x + n = 6 → rest < 2 ^ 31 → post (nI (pg_fr n out rest x)) → wX_fromOutside_7 post c b sc w o ws a1 a2 a3 a4 a5 a6 a7 (n + 1) (nI out) (nI rest) (nI x)
  | 0, out, rest, x, hx, hr, hp => pk_le 6 x (fun _ => hp) (fun z => absurd z (by omega))
  | n + 1, out, rest, x, hx, hr, hp => pk_le 6 x (fun z => absurd z (by omega)) (fun _ => ⟨by decide, nm_r (pg_fst out hr (by omega)) ⟨by decide, nm_r (pg_d6 hr) (nm_r (nI_1 x) (pg_fw n _ _ _ (by omega) (by omega) hp))⟩⟩)
theorem pg_from {post : Int32 → Prop} {u : St2} {g : Nat} (hg : g < 2 ^ 31) (hp : post (nI (pg_f g))) : wpX_fromOutside post u (nI g) := by
  obtain ⟨c, b, sc, w, o, ws, a1, a2, a3, a4, a5, a6, a7⟩ := u
  exact ⟨7, pg_fw 6 0 g 0 (by omega) hg hp⟩
theorem pg_bw {post : Int32 → Prop} : ∀ n seen rest x, x + n = 6 → rest < 2 ^ 31 → pg_br n seen rest = 63 → post 0 → wX_bad_19 post c b sc w o ws a1 a2 a3 a4 a5 a6 a7 (n + 1) (nI seen) (nI rest) (nI x)
  | 0, seen, rest, x, hx, hr, hs, hp => pk_le 6 x (fun _ => br_t (congrArg nI (show seen = 63 from hs)) hp) (fun z => absurd z (by omega))
  | n + 1, seen, rest, x, hx, hr, hs, hp => pk_le 6 x (fun z => absurd z (by omega)) (fun _ => ⟨by decide, nm_r (by rw [pg_r6 hr, pg_sh1 (by omega), pg_lor]) ⟨by decide, nm_r (pg_d6 hr) (nm_r (nI_1 x) (pg_bw n _ _ _ (by omega) (by omega) hs hp))⟩⟩)
theorem pg_bad {post : Int32 → Prop} {u : St2} {g : Nat} (hg : g ≤ 46655) (hb : pg_b g = 63) (hp : post 0) : wpX_bad post u (nI g) := by
  obtain ⟨c, b, sc, w, o, ws, a1, a2, a3, a4, a5, a6, a7⟩ := u
  exact br_f (nI_pos (by omega)) (br_t (nI_le (b := 46655) hg (by decide)) ⟨7, pg_bw 6 0 g 0 (by omega) (by omega) hb hp⟩)
theorem pg_ow {post : Int32 → Prop} {g : Nat} (hg : g < 2 ^ 31) : ∀ n out, n ≤ 6 → post (nI (pg_or g n out)) → wX_toOutside_4 post (nI g) c b sc w o ws a1 a2 a3 a4 a5 a6 a7 (n + 1) (nI out) (nI n + (-1))
  | 0, out, hn, hp => br_t (by decide) hp
  | n + 1, out, hn, hp => by
    rw [pk_m1]
    exact br_f (nI_pos (by omega)) (nm_r (by rw [pg_digE hg (by omega), show nI out * 6 = nI (out * 6) from pk_mul out 6, nI_add]) (nm_e (pg_ow hg n _ (by omega) hp)))
theorem pg_to {post : Int32 → Prop} {u : St2} {g : Nat} (hg : g < 2 ^ 31) (hp : post (nI (pg_o g))) : wpX_toOutside post u (nI g) := by
  obtain ⟨c, b, sc, w, o, ws, a1, a2, a3, a4, a5, a6, a7⟩ := u
  refine ⟨7, ?_⟩
  have h : wX_toOutside_4 post (nI g) c b sc w o ws a1 a2 a3 a4 a5 a6 a7 (6 + 1) (nI 0) (nI 6 + (-1)) := pg_ow hg 6 0 (by omega) hp
  rw [show nI 6 + (-1) = 5 by decide] at h
  exact h
theorem pg_mw {post : Int32 → Prop} {set g : Nat} (hs : set < 2 ^ 31) (hg : g < 2 ^ 31) : ∀ n out x, x + n = 6 → post (nI (pg_mr set g n out x)) → wX_imageOf_5 post (nI set) (nI g) c b sc w o ws a1 a2 a3 a4 a5 a6 a7 (n + 1) (nI out) (nI x)
  | 0, out, x, hx, hp => pk_le 6 x (fun _ => hp) (fun z => absurd z (by omega))
  | n + 1, out, x, hx, hp => by
    rw [pg_mr] at hp
    refine pk_le 6 x (fun z => absurd z (by omega)) (fun _ => pg_ifb 1 (by omega) hs (by omega) (fun e => ?_) (fun e => ?_))
    · rw [if_pos e] at hp
      have hd := pg_d_lt g x
      exact pg_digit hg (by omega) (nm_r (by rw [pg_sh1 (by omega), pg_lor]) (nm_r (nI_1 x) (pg_mw hs hg n _ _ (by omega) hp)))
    · rw [if_neg e] at hp
      exact nm_r (nI_1 x) (pg_mw hs hg n _ _ (by omega) hp)
theorem pg_image {post : Int32 → Prop} {u : St2} {set g : Nat} (hs : set < 2 ^ 31) (hg : g < 2 ^ 31) (hp : post (nI (pg_m set g))) : wpX_imageOf post u (nI set) (nI g) := by
  obtain ⟨c, b, sc, w, o, ws, a1, a2, a3, a4, a5, a6, a7⟩ := u
  exact ⟨7, pg_mw hs hg 6 0 0 (by omega) hp⟩
theorem pg_x27 {post : Int32 → Prop} {J : Int32 → Int32 → Prop} {set g r : Nat} (hs : set < 2 ^ 31) (hg : g < 2 ^ 31) (ha : a1 0 = nI g) (hJ : J (nI (Nat.lor set (pg_m set g))) (nI (r + 1))) :
    ∃ fu, wX_orbit_27 post J (nI r) 1 b sc w o ws a1 a2 a3 a4 a5 a6 a7 fu (nI set) 0 := by
  refine ⟨2, br_f (by decide) ⟨pk_in 0 5 (by omega), ?_⟩⟩
  rw [sb_cl0, ha]
  exact pg_image hs hg (nm_r (pg_lor _ _) (nm_e (br_t (by decide) (nm_r (nI_1 r) hJ))))
theorem pg_x18 {post : Int32 → Prop} {g : Nat} (hg : g < 2 ^ 31) (ha : a1 0 = nI g) : ∀ n set r, r + n = 6 → set < 2 ^ 8 → post (nI (pg_xr g n set)) → wX_orbit_18 post 1 b sc w o ws a1 a2 a3 a4 a5 a6 a7 (n + 1) (nI set) (nI r)
  | 0, set, r, hr, hs, hp => pk_le 6 r (fun _ => hp) (fun z => absurd z (by omega))
  | n + 1, set, r, hr, hs, hp => pk_le 6 r (fun z => absurd z (by omega)) (fun _ => pg_x27 (by omega) hg ha (pg_x18 hg ha n _ _ (by omega) (Nat.or_lt_two_pow hs (pg_m_lt set g)) hp))
theorem pg_orbit {post : Int32 → Prop} {g x : Nat} (hg : g < 2 ^ 31) (ha : a1 0 = nI g) (hx : x < 6) (hp : post (nI (pg_x g x))) : wpX_orbit post (1, b, sc, w, o, ws, a1, a2, a3, a4, a5, a6, a7) (nI x) :=
  br_f (nI_pos (by omega)) (br_t (nI_lt (b := 6) hx (by decide)) (nm_r (pg_sh1 (by omega)) ⟨7, pg_x18 hg ha 6 _ 0 (by omega) (pg_shl1_lt (by omega)) hp⟩))
theorem pg_orbitN {post : Int32 → Prop} {u : St2} {x : Int32} (hx : x < 0 ∨ ¬ x < 6) (hp : post (-1)) : wpX_orbit post u x := by
  obtain ⟨c, b, sc, w, o, ws, a1, a2, a3, a4, a5, a6, a7⟩ := u
  refine br_c (fun _ => hp) (fun h0 => ?_)
  rcases hx with hx | hx
  · exact absurd hx h0
  · exact br_f hx hp
theorem pg_yw {post : Int32 → Prop} {g : Nat} (hg : g < 2 ^ 31) (ha : a1 0 = nI g) : ∀ n cnt seen x, x + n = 6 → seen < 2 ^ 8 → post (nI (pg_yr g n cnt seen x)) → wX_orbits_6 post 1 b sc w o ws a1 a2 a3 a4 a5 a6 a7 (n + 1) (nI cnt) (nI seen) (nI x)
  | 0, cnt, seen, x, hx, hs, hp => pk_le 6 x (fun _ => hp) (fun z => absurd z (by omega))
  | n + 1, cnt, seen, x, hx, hs, hp => by
    rw [pg_yr] at hp
    refine pk_le 6 x (fun z => absurd z (by omega)) (fun _ => pg_ifb 0 (by omega) (by omega) (by omega) (fun e => ?_) (fun e => ?_))
    · rw [if_pos e] at hp
      exact pg_orbit hg ha (by omega) (nm_r (pg_lor _ _) (nm_r (nI_1 cnt) (nm_r (nI_1 x) (pg_yw hg ha n _ _ _ (by omega) (Nat.or_lt_two_pow hs (pg_x_lt g (by omega))) hp))))
    · rw [if_neg e] at hp
      exact nm_r (nI_1 x) (pg_yw hg ha n _ _ _ (by omega) hs hp)
theorem pg_orbits {post : Int32 → Prop} {g : Nat} (hg : g < 2 ^ 31) (ha : a1 0 = nI g) (hp : post (nI (pg_y g))) : wpX_orbits post (1, b, sc, w, o, ws, a1, a2, a3, a4, a5, a6, a7) :=
  ⟨7, pg_yw hg ha 6 0 0 0 (by omega) (by omega) hp⟩
theorem pg_product {post : Int32 → Prop} {u : St2} {g h : Nat} (hg : g ≤ 46655) (hh : h ≤ 46655) (bg : pg_b g = 63) (bh : pg_b h = 63) (hp : post (nI (pg_o (pg_t (pg_f g) (pg_f h))))) : wpX_product post u (nI g) (nI h) := by
  obtain ⟨c, b, sc, w, o, ws, a1, a2, a3, a4, a5, a6, a7⟩ := u
  have f1 := pg_f_lt g
  have f2 := pg_f_lt h
  have f3 := pg_t_lt (pg_f g) (pg_f h)
  unfold wpX_product
  refine pg_bad hg bg (br_t rfl ?_)
  refine pg_bad hh bh (br_t rfl ?_)
  refine pg_from (by omega) ?_
  refine pg_from (by omega) ?_
  refine pg_times (by omega) (by omega) ?_
  exact pg_to (by omega) hp
theorem pg_inverse {post : Int32 → Prop} {u : St2} {g : Nat} (hg : g ≤ 46655) (bg : pg_b g = 63) (hp : post (nI (pg_o (pg_i (pg_f g))))) : wpX_inverse post u (nI g) := by
  obtain ⟨c, b, sc, w, o, ws, a1, a2, a3, a4, a5, a6, a7⟩ := u
  have f1 := pg_f_lt g
  have f3 := pg_i_lt (pg_f g)
  unfold wpX_inverse
  refine pg_bad hg bg (br_t rfl ?_)
  refine pg_from (by omega) ?_
  refine pg_inverted (by omega) ?_
  exact pg_to (by omega) hp
theorem pg_sw {post : Int32 → Prop} {q g : Nat} (hM : pg_M (pg_T q g) a2 a3) (hg : g < 2 ^ 18) : ∀ n r l s, l + n = 6 → r < 2 ^ 31 → pg_sf q g n r l = some s → post (nI s) → wX_sift_4 post c b sc w o ws a1 a2 a3 a4 a5 a6 a7 (n + 1) (nI r) (nI l)
  | 0, r, l, s, hl, hr, hs, hp => pk_le 6 l (fun _ => by
      have e : r = s := Option.some.inj hs
      rw [e]
      exact hp) (fun z => absurd z (by omega))
  | n + 1, r, l, s, hl, hr, hs, hp => by
    rw [pg_sf] at hs
    have hd := pg_d_lt r l
    by_cases h36 : l * 6 + pg_d r l < 36
    · rw [if_pos h36] at hs
      have hT := pg_T_lt (q := q) (k := l * 6 + pg_d r l) hg
      refine pk_le 6 l (fun z => absurd z (by omega)) (fun _ => pg_digit hr (by omega) ⟨pg_ixi h36, nm_e ?_⟩)
      rw [pg_ixc (by omega) hd]
      refine pg_ifv (pg_T q g (l * 6 + pg_d r l)) (hM.1 _ h36) (by omega) (fun e => ?_) (fun e => ⟨pg_ixi h36, ?_⟩)
      · rw [if_pos e] at hs
        rw [Option.some.inj hs]
        exact hp
      · rw [if_neg e] at hs
        rw [hM.2 _ h36 e]
        have ht := pg_t_lt r (pg_T q g (l * 6 + pg_d r l))
        exact pg_times hr (by omega) (nm_r (nI_1 l) (pg_sw hM hg n _ _ s (by omega) (by omega) hs hp))
    · rw [if_neg h36] at hs
      exact absurd hs (by simp)
theorem pg_sift {post : Int32 → Prop} {q g r s : Nat} (hM : pg_M (pg_T q g) a2 a3) (hg : g < 2 ^ 18) (hr : r < 2 ^ 31) (hs : pg_sf q g 6 r 0 = some s) (hp : post (nI s)) : wpX_sift post (c, b, sc, w, o, ws, a1, a2, a3, a4, a5, a6, a7) (nI r) :=
  ⟨7, pg_sw hM hg 6 r 0 s (by omega) hr hs hp⟩
theorem pg_fmw {post : Int32 → Prop} {g : Nat} (hg : g < 2 ^ 31) : ∀ n x, x + n = 6 → post (nI (pg_fm g n x)) → wX_firstMoved_2 post (nI g) c b sc w o ws a1 a2 a3 a4 a5 a6 a7 (n + 1) (nI x)
  | 0, x, hx, hp => pk_le 6 x (fun _ => hp) (fun z => absurd z (by omega))
  | n + 1, x, hx, hp => by
    rw [pg_fm] at hp
    have hd := pg_d_lt g x
    refine pk_le 6 x (fun z => absurd z (by omega)) (fun _ => pg_digit hg (by omega) (pk_eq (pg_d g x) x (fun e => ?_) (fun e => ?_)))
    · rw [if_pos e] at hp
      exact nm_r (nI_1 x) (pg_fmw hg n _ (by omega) hp)
    · rw [if_neg e] at hp
      exact hp
theorem pg_first {post : Int32 → Prop} {u : St2} {g : Nat} (hg : g < 2 ^ 31) (hp : post (nI (pg_fm g 6 0))) : wpX_firstMoved post u (nI g) := by
  obtain ⟨c, b, sc, w, o, ws, a1, a2, a3, a4, a5, a6, a7⟩ := u
  exact ⟨7, pg_fmw hg 6 0 (by omega) hp⟩
end
end
section
/-! nthPermutation, the normaliser, the elements -/
theorem pg_w0 : ∀ w, w < 13 → (nI w + (-6) = 0 ↔ w = 6) := by decide +kernel
theorem pg_wm : ∀ w, w < 13 → 0 < w → (nI w + (-6)) + (-1) = nI (w - 1) + (-6) := by decide +kernel
theorem pg_w6 : ∀ m, m < 6 → nI m = nI (m + 6) + (-6) := by decide +kernel
theorem pg_clE : ∀ L, L < 64 → ∀ y, y < 6 → nI L &&& (((1 : Int32) <<< (nI y &&& 31)) ^^^ (-1)) = nI (pg_cl L y) := by decide +kernel
theorem pg_cl_lt {L y : Nat} (h : L < 64) : pg_cl L y < 64 := by
  have h1 : pg_cl L y ≤ L := Nat.and_le_left
  omega
section
variable {c b sc w o ws : Int32} {a1 a2 a3 a4 a5 a6 a7 : Nat → Int32}
theorem pg_q44 {post : Int32 → Prop} {J : Int32 → Int32 → Int32 → Int32 → Prop} {out L x : Nat} {x4 : Int32} (hL : L < 64) (hx : x < 6) : ∀ n w' y k, k + n = 6 → n ≤ w' → w' ≤ 12 → y < 6 →
    J (nI (Nat.lor out (Nat.shiftLeft (pg_qr L n w' y k) (3 * x)))) (nI (pg_cl L (pg_qr L n w' y k))) x4 (nI (x + 1)) →
    wX_nthPermutation_44 post J (nI out) (nI L) x4 (nI x) c b sc w o ws a1 a2 a3 a4 a5 a6 a7 (n + 1) (nI w' + (-6)) (nI y) (nI k)
  | 0, w', y, k, hk, hn, hw, hy, hJ => by
    have e3 : Nat.mul 3 x = 3 * x := rfl
    exact pk_le 6 k (fun _ => nm_r (pg_clE L hL y hy) (nm_r (by rw [pg_m3, pg_shl (by omega) (pg_dsh (by omega) (by omega)), pg_lor]; rfl) (nm_r (nI_1 x) hJ))) (fun z => absurd z (by omega))
  | n + 1, w', y, k, hk, hn, hw, hy, hJ => by
    rw [pg_qr] at hJ
    refine pk_le 6 k (fun z => absurd z (by omega)) (fun _ => pg_ifb 1 (by omega) (by omega) (by omega) (fun e => ?_) (fun e => ?_))
    · rw [if_pos e] at hJ
      refine ek_if (pg_w0 w' (by omega)) (fun e6 => ?_) (fun e6 => ?_)
      · rw [if_pos e6] at hJ
        exact nm_r (pg_wm w' (by omega) (by omega)) (nm_r (nI_1 k) (pg_q44 hL hx n _ _ _ (by omega) (by omega) (by omega) (by omega) hJ))
      · rw [if_neg e6] at hJ
        exact nm_r (pg_wm w' (by omega) (by omega)) (nm_r (nI_1 k) (pg_q44 hL hx n _ _ _ (by omega) (by omega) (by omega) hy hJ))
    · rw [if_neg e] at hJ
      exact nm_r (nI_1 k) (pg_q44 hL hx n _ _ _ (by omega) (by omega) hw hy hJ)
theorem pg_pw {post : Int32 → Prop} : ∀ n out L rest x, x + n = 6 → L < 64 → rest < 2 ^ 31 → post (nI (pg_pr n out L rest x)) →
    wX_nthPermutation_11 post c b sc w o ws a1 a2 a3 a4 a5 a6 a7 (n + 1) (nI out) (nI L) (nI rest) (nI x)
  | 0, out, L, rest, x, hx, hL, hr, hp => pk_le 6 x (fun _ => hp) (fun z => absurd z (by omega))
  | n + 1, out, L, rest, x, hx, hL, hr, hp => by
    refine pk_le 6 x (fun z => absurd z (by omega)) (fun _ => ?_)
    have hm : rest % (6 - x) < 6 := Nat.lt_of_lt_of_le (Nat.mod_lt _ (by omega)) (by omega)
    have hd : rest / (6 - x) < 2 ^ 31 := Nat.lt_of_le_of_lt (Nat.div_le_self _ _) hr
    rw [show (6 : Int32) - nI x = nI (6 - x) from pk_sub (a := 6) (by omega)]
    exact ⟨nI_ne0 (by omega) (by omega), nm_r ((pk_rem hr (by omega) (by omega)).trans (pg_w6 _ hm)) ⟨nI_ne0 (by omega) (by omega), nm_r (pk_div hr (by omega) (by omega))
      ⟨7, pg_q44 hL (by omega) 6 _ 0 0 (by omega) (by omega) (by omega) (by omega) (pg_pw n _ _ _ _ (by omega) (pg_cl_lt hL) hd hp)⟩⟩⟩
theorem pg_perm {post : Int32 → Prop} {u : St2} {k : Nat} (hk : k < 2 ^ 31) (hp : post (nI (pg_np k))) : wpX_nthPermutation post u (nI k) := by
  obtain ⟨c, b, sc, w, o, ws, a1, a2, a3, a4, a5, a6, a7⟩ := u
  exact ⟨7, pg_pw 6 0 63 k 0 (by omega) (by omega) hk hp⟩
theorem pg_conj {post : Int32 → Prop} {u : St2} {g h : Nat} (hg : g < 2 ^ 31) (hh : h < 2 ^ 31) (hp : post (nI (pg_c g h))) : wpX_conjugated post u (nI g) (nI h) := by
  obtain ⟨c, b, sc, w, o, ws, a1, a2, a3, a4, a5, a6, a7⟩ := u
  have f1 := pg_i_lt h
  have f2 := pg_t_lt (pg_i h) g
  unfold wpX_conjugated
  refine pg_inverted hh ?_
  refine pg_times (by omega) hg ?_
  exact pg_times (by omega) hh hp
theorem pg_cg {post : Int32 → Prop} {q g h r : Nat} (hM : pg_M (pg_T q g) a2 a3) (hg : g < 2 ^ 18) (ha : a1 0 = nI g) (hh : h < 2 ^ 31) (hr : r < 2 ^ 31) (hs : pg_sf q g 6 (pg_c g h) 0 = some r) (h1 : r = 181896 → post 1) (h0 : r ≠ 181896 → post 0) :
    wpX_carriesGroup post (1, b, sc, w, o, ws, a1, a2, a3, a4, a5, a6, a7) (nI h) := by
  refine ⟨2, br_f (by decide) ⟨pk_in 0 5 (by omega), ?_⟩⟩
  rw [sb_cl0, ha]
  have f3 : pg_c g h < 2 ^ 18 := pg_t_lt _ h
  exact pg_conj (by omega) hh (pg_sift hM hg (by omega) hs (pk_eq r 181896 (fun e => nm_e (br_t (by decide) (h1 e))) h0))
theorem pg_sf_lt {q g : Nat} : ∀ n r l s, r < 2 ^ 18 → pg_sf q g n r l = some s → s < 2 ^ 18
  | 0, r, l, s, hr, hs => by
    have e : r = s := Option.some.inj hs
    omega
  | n + 1, r, l, s, hr, hs => by
    rw [pg_sf] at hs
    split at hs
    · split at hs
      · have e : r = s := Option.some.inj hs
        omega
      · exact pg_sf_lt n _ _ s (pg_t_lt _ _) hs
    · exact absurd hs (by simp)
theorem pg_nw {post : Int32 → St2 → Prop} {q g t : Nat} (hM : pg_M (pg_T q g) a2 a3) (hg : g < 2 ^ 18) (ha : a1 0 = nI g) (hp : post (nI t) (1, b, sc, w, o, ws, a1, a2, a3, a4, a5, a6, a7)) : ∀ n acc k, k + n = 720 → pg_cr q g ((List.range' k n).map pg_np) acc = some t →
    wX_normaliser_8 post 1 b sc w o ws a1 a2 a3 a4 a5 a6 a7 (n + 1) (nI acc) (nI k)
  | 0, acc, k, hk, hs => pk_le 720 k (fun _ => by
      have e : acc = t := Option.some.inj hs
      rw [e]
      exact hp) (fun z => absurd z (by omega))
  | n + 1, acc, k, hk, hs => by
    have hs' : pg_cr q g (pg_np k :: (List.range' (k + 1) n).map pg_np) acc = some t := hs
    rw [pg_cr] at hs'
    have hn := pg_np_lt k
    refine pk_le 720 k (fun z => absurd z (by omega)) (fun _ => pg_perm (by omega) ?_)
    cases e : pg_sf q g 6 (pg_c g (pg_np k)) 0 with
    | none =>
      rw [e] at hs'
      exact absurd hs' (by simp)
    | some r =>
      rw [e] at hs'
      have hr : r < 2 ^ 18 := pg_sf_lt 6 _ 0 r (pg_t_lt _ _) e
      refine pg_cg hM hg ha (by omega) (by omega) e (fun z => br_f (by decide) ?_) (fun z => br_t rfl ?_)
      · exact nm_r (nI_1 acc) (nm_r (nI_1 k) (pg_nw hM hg ha hp n _ _ (by omega) ((if_pos z).symm.trans hs')))
      · exact nm_r (nI_1 k) (pg_nw hM hg ha hp n _ _ (by omega) ((if_neg z).symm.trans hs'))
theorem pg_zw {post : Int32 → Prop} {q g l : Nat} (hM : pg_M (pg_T q g) a2 a3) (hg : g < 2 ^ 18) (hl : l < 6) : ∀ n cnt y, y + n = 6 → post (nI (pg_zr q g l n cnt y)) → wX_orbitSize_4 post (nI l) c b sc w o ws a1 a2 a3 a4 a5 a6 a7 (n + 1) (nI cnt) (nI y)
  | 0, cnt, y, hy, hp => pk_le 6 y (fun _ => hp) (fun z => absurd z (by omega))
  | n + 1, cnt, y, hy, hp => by
    rw [pg_zr] at hp
    have hT := pg_T_lt (q := q) (k := l * 6 + y) hg
    refine pk_le 6 y (fun z => absurd z (by omega)) (fun _ => ⟨pg_ixi (by omega), ?_⟩)
    rw [pg_ixc hl (by omega)]
    refine pg_ifv (pg_T q g (l * 6 + y)) (hM.1 _ (by omega)) (by omega) (fun e => ?_) (fun e => ?_)
    · rw [if_pos e] at hp
      exact nm_r (nI_1 y) (pg_zw hM hg hl n _ _ (by omega) hp)
    · rw [if_neg e] at hp
      exact nm_r (nI_1 cnt) (nm_r (nI_1 y) (pg_zw hM hg hl n _ _ (by omega) hp))
theorem pg_size {post : Int32 → Prop} {q g l : Nat} (hM : pg_M (pg_T q g) a2 a3) (hg : g < 2 ^ 18) (hl : l < 6) (hp : post (nI (pg_z q g l))) : wpX_orbitSize post (c, b, sc, w, o, ws, a1, a2, a3, a4, a5, a6, a7) (nI l) :=
  ⟨7, pg_zw hM hg hl 6 0 0 (by omega) hp⟩
theorem pg_ww {post : Int32 → St2 → Prop} {q g : Nat} (hM : pg_M (pg_T q g) a2 a3) (hg : g < 2 ^ 18) : ∀ n s l, l + n = 6 → post (nI (pg_wr q g n s l)) (c, b, sc, w, o, ws, a1, a2, a3, a4, a5, a6, a7) → wX_order_8 post c b sc w o ws a1 a2 a3 a4 a5 a6 a7 (n + 1) (nI s) (nI l)
  | 0, s, l, hl, hp => pk_le 6 l (fun _ => hp) (fun z => absurd z (by omega))
  | n + 1, s, l, hl, hp => pk_le 6 l (fun z => absurd z (by omega)) (fun _ => pg_size hM hg (by omega) (nm_r (pk_mul _ _) (nm_r (nI_1 l) (pg_ww hM hg n _ _ (by omega) hp))))
theorem pg_kw {post : Int32 → Prop} {q g l : Nat} (hM : pg_M (pg_T q g) a2 a3) (hg : g < 2 ^ 18) (hl : l < 6) : ∀ n left y, y + n = 6 → left < 2 ^ 31 → post (nI (pg_kr q g l n left y)) → wX_nthCarrier_5 post (nI l) c b sc w o ws a1 a2 a3 a4 a5 a6 a7 (n + 1) (nI left) (nI y)
  | 0, left, y, hy, hf, hp => pk_le 6 y (fun _ => hp) (fun z => absurd z (by omega))
  | n + 1, left, y, hy, hf, hp => by
    rw [pg_kr] at hp
    have hT := pg_T_lt (q := q) (k := l * 6 + y) hg
    refine pk_le 6 y (fun z => absurd z (by omega)) (fun _ => ⟨pg_ixi (by omega), ?_⟩)
    rw [pg_ixc hl (by omega)]
    refine pg_ifv (pg_T q g (l * 6 + y)) (hM.1 _ (by omega)) (by omega) (fun e => ?_) (fun e => ?_)
    · rw [if_pos e] at hp
      exact nm_r (nI_1 y) (pg_kw hM hg hl n _ _ (by omega) hf hp)
    · rw [if_neg e] at hp
      refine pk_eq left 0 (fun z => ⟨pg_ixi (by omega), ?_⟩) (fun z => ?_)
      · rw [if_pos z] at hp
        rw [hM.1 _ (by omega), pg_vn e]
        exact hp
      · rw [if_neg z] at hp
        exact nm_r (sb_m1 (by omega)) (nm_r (nI_1 y) (pg_kw hM hg hl n _ _ (by omega) (by omega) hp))
theorem pg_nth {post : Int32 → Prop} {q g l left : Nat} (hM : pg_M (pg_T q g) a2 a3) (hg : g < 2 ^ 18) (hl : l < 6) (hf : left < 2 ^ 31) (hp : post (nI (pg_kr q g l 6 left 0))) : wpX_nthCarrier post (c, b, sc, w, o, ws, a1, a2, a3, a4, a5, a6, a7) (nI l) (nI left) :=
  ⟨7, pg_kw hM hg hl 6 left 0 (by omega) hf hp⟩
theorem pg_ew {post : Int32 → Prop} {q g : Nat} (hM : pg_M (pg_T q g) a2 a3) (hg : g < 2 ^ 18) (hz : ∀ l, l < 6 → 0 < pg_z q g l) : ∀ n e rest l, l + n = 6 → e < 2 ^ 31 → rest < 2 ^ 31 → post (nI (pg_er q g n e rest l)) → wX_element_8 post c b sc w o ws a1 a2 a3 a4 a5 a6 a7 (n + 1) (nI e) (nI rest) (nI l)
  | 0, e, rest, l, hl, he, hr, hp => pk_le 6 l (fun _ => hp) (fun z => absurd z (by omega))
  | n + 1, e, rest, l, hl, he, hr, hp => by
    have h0 := hz l (by omega)
    have h6 := pg_z_le q g l
    have hm : rest % pg_z q g l < 2 ^ 31 := Nat.lt_of_le_of_lt (Nat.mod_le _ _) hr
    have hd : rest / pg_z q g l < 2 ^ 31 := Nat.lt_of_le_of_lt (Nat.div_le_self _ _) hr
    have hk := pg_kr_lt (q := q) l hg 6 (rest % pg_z q g l) 0
    have ht := pg_t_lt (pg_kr q g l 6 (rest % pg_z q g l) 0) e
    refine pk_le 6 l (fun z => absurd z (by omega)) (fun _ => pg_size hM hg (by omega) (br_f (nI_nle h0 (by omega)) ⟨nI_ne0 h0 (by omega), ?_⟩))
    rw [pk_rem hr h0 (by omega)]
    refine br_f (nI_nle h0 (by omega)) ⟨nI_ne0 h0 (by omega), ?_⟩
    rw [pk_div hr h0 (by omega)]
    exact pg_nth hM hg (by omega) hm (pg_times (by omega) he (nm_r (nI_1 l) (pg_ew hM hg hz n _ _ _ (by omega) (by omega) hd hp)))
theorem pg_elem {post : Int32 → Prop} {q g k : Nat} (hM : pg_M (pg_T q g) a2 a3) (hg : g < 2 ^ 18) (hz : ∀ l, l < 6 → 0 < pg_z q g l) (hk : k < 2 ^ 31) (hp : post (nI (pg_el q g k))) : wpX_element post (c, b, sc, w, o, ws, a1, a2, a3, a4, a5, a6, a7) (nI k) :=
  ⟨7, pg_ew hM hg hz 6 181896 k 0 (by omega) (by omega) hk hp⟩
end
end
section
/-! extend, findCarriers, learn, closedAt, closed, build -/
theorem pg_R_lt {q g l k : Nat} {f : Bool} (hg : g < 2 ^ 18) : pg_R q g l f k < 2 ^ 18 := by
  unfold pg_R
  split
  · exact pg_T_lt hg
  · split <;> omega
theorem pg_T0 (g k : Nat) : pg_T 0 g k = pg_T 0 0 k := by
  unfold pg_T
  by_cases h : k % 7 = 0
  · rw [if_pos h, if_pos h]
  · have h0 : ¬ k = 0 := by
      intro e
      apply h
      rw [e]
    rw [if_neg h, if_neg h, if_neg h0, if_neg h0]
theorem pg_R0 : ∀ l, l < 6 → ∀ f : Bool, ∀ k, k < 36 → pg_R 0 0 l true k = pg_R 0 0 l f k := by decide +kernel
/-- the arrays after a store at one place of both -/
theorem pg_M_u {A B : Nat → Nat} {a2 a3 : Nat → Int32} {p t : Nat} (h : pg_M A a2 a3) (ht : t ≠ 0) (e : ∀ k, k < 36 → B k = if k = p then t else A k) : pg_M B (upd a2 p (nI t)) (upd a3 p (nI t)) := by
  refine ⟨fun k hk => ?_, fun k hk hn => ?_⟩
  · rw [e k hk]
    by_cases z : k = p
    · rw [if_pos z, z, pk_us, pg_vn ht]
    · rw [if_neg z, pk_un z]
      exact h.1 k hk
  · rw [e k hk] at hn ⊢
    by_cases z : k = p
    · rw [if_pos z, z, pk_us]
    · rw [if_neg z] at hn ⊢
      rw [pk_un z]
      exact h.2 k hk hn
section
variable {c b sc w o ws : Int32} {a1 a4 a5 a6 a7 : Nat → Int32}
theorem pg_e10 {post : St2 → Prop} {J : Int32 → (Nat → Int32) → (Nat → Int32) → (Nat → Int32) → (Nat → Int32) → (Nat → Int32) → (Nat → Int32) → (Nat → Int32) → Prop} {a2 a3 : Nat → Int32} {A B : Nat → Nat} {i g l y : Nat}
    (hM : pg_M A a2 a3) (h4 : a4 0 = nI g) (h5 : a5 0 = nI i) (hg : g < 2 ^ 18) (hA : ∀ k, A k < 2 ^ 18) (hi : i < 6) (hl : l < 6) (hy : y < 6) (hd : pg_d g y < 6)
    (hk : (i < l ∨ A (l * 6 + y) = 0 ∨ A (l * 6 + pg_d g y) ≠ 0) → ∀ k, k < 36 → B k = A k)
    (hs : ¬ (i < l ∨ A (l * 6 + y) = 0 ∨ A (l * 6 + pg_d g y) ≠ 0) → pg_i (pg_t (A (l * 6 + y)) g) = pg_t (A (l * 6 + y)) g ∧ pg_t (A (l * 6 + y)) g ≠ 0 ∧ ∀ k, k < 36 → B k = if k = l * 6 + pg_d g y then pg_t (A (l * 6 + y)) g else A k)
    (hJ : ∀ a2 a3, pg_M B a2 a3 → J (nI (y + 1)) a1 a2 a3 a4 a5 a6 a7) :
    ∃ fu, wX_extend_10 post J (nI l) (nI y) c b 1 w o ws fu 0 a1 a2 a3 a4 a5 a6 a7 := by
  have fin : ∀ a2 a3, pg_M B a2 a3 → wX_extend_10 post J (nI l) (nI y) c b 1 w o ws 1 (0 + 1) a1 a2 a3 a4 a5 a6 a7 := fun a2 a3 h => br_t (by decide) (nm_r (nI_1 y) (hJ a2 a3 h))
  refine ⟨2, br_f (by decide) ⟨pk_in 0 40 (by omega), ?_⟩⟩
  rw [sb_cl0, h5]
  refine pk_lt i l (fun z => nm_e (fin _ _ (pg_M_c hM (hk (Or.inl z))))) (fun z => ⟨pg_ixi (by omega), ?_⟩)
  rw [pg_ixc (y := y) hl (by omega)]
  have hA1 := hA (l * 6 + y)
  have hA2 := hA (l * 6 + pg_d g y)
  refine pg_ifv (A (l * 6 + y)) (hM.1 _ (by omega)) (by omega) (fun e => nm_e (fin _ _ (pg_M_c hM (hk (Or.inr (Or.inl e)))))) (fun e => ⟨pk_in 0 40 (by omega), ?_⟩)
  rw [h4]
  refine pg_digit (by omega) (by omega) ⟨pg_ixi (by omega), ?_⟩
  rw [pg_ixc (y := pg_d g y) hl (by omega)]
  refine pg_ifv (A (l * 6 + pg_d g y)) (hM.1 _ (by omega)) (by omega) (fun e2 => ⟨pg_ixi (by omega), pk_in 0 40 (by omega), ?_⟩) (fun e2 => nm_e (fin _ _ (pg_M_c hM (hk (Or.inr (Or.inr e2))))))
  rw [hM.1 (l * 6 + y) (by omega), pg_vn e]
  have hn : ¬ (i < l ∨ A (l * 6 + y) = 0 ∨ A (l * 6 + pg_d g y) ≠ 0) := by
    intro h
    rcases h with h | h | h
    · omega
    · exact e h
    · exact h e2
  obtain ⟨s1, s2, s3⟩ := hs hn
  have ht := pg_t_lt (A (l * 6 + y)) g
  refine pg_times (by omega) (by omega) ⟨pg_ixi (by omega), nm_e ⟨pg_ixi (by omega), ?_⟩⟩
  rw [pk_us]
  refine pg_inverted (by omega) ⟨pg_ixi (by omega), nm_e (nm_e (fin _ _ ?_))⟩
  rw [s1]
  exact pg_M_u hM s2 s3
theorem pg_sk_t {i q g l y : Nat} {f : Bool} (h : i < l ∨ pg_R q g l (pg_Fl i y f) (l * 6 + y) = 0 ∨ pg_R q g l (pg_Fl i y f) (l * 6 + pg_d g y) ≠ 0) : pg_skb i q g l y f = true := by
  unfold pg_skb
  rcases h with h | h | h
  · rw [decide_eq_true h, Bool.true_or]
  · rw [decide_eq_true h, Bool.true_or, Bool.or_true]
  · rw [decide_eq_true h, Bool.or_true, Bool.or_true]
theorem pg_sk_f {i q g l y : Nat} {f : Bool} (h : ¬ (i < l ∨ pg_R q g l (pg_Fl i y f) (l * 6 + y) = 0 ∨ pg_R q g l (pg_Fl i y f) (l * 6 + pg_d g y) ≠ 0)) : pg_skb i q g l y f = false := by
  unfold pg_skb
  rw [decide_eq_false (fun z => h (Or.inl z)), decide_eq_false (fun z => h (Or.inr (Or.inl z))), decide_eq_false (fun z => h (Or.inr (Or.inr z)))]
  rfl
theorem pg_e2 {post : St2 → Prop} {i q g l : Nat} {f : Bool} (hS : pg_St i q g) (h4 : a4 0 = nI g) (h5 : a5 0 = nI i) (hg : g < 2 ^ 18) (hi : i < 6) (hl : l < 6)
    (hp : ∀ a2 a3, pg_M (pg_R q g l true) a2 a3 → post (c, b, 1, w, o, ws, a1, a2, a3, a4, a5, a6, a7)) :
    ∀ n y a2 a3, y + n = 6 → pg_M (pg_R q g l (pg_Fl i y f)) a2 a3 → wX_extend_2 post (nI l) c b 1 w o ws (n + 1) (nI y) a1 a2 a3 a4 a5 a6 a7
  | 0, y, a2, a3, hy, hM => pk_le 6 y (fun _ => hp a2 a3 (by
      rw [show pg_Fl i y f = true by unfold pg_Fl; rw [decide_eq_true (show i < y by omega), Bool.or_true]] at hM
      exact hM)) (fun z => absurd z (by omega))
  | n + 1, y, a2, a3, hy, hM => pk_le 6 y (fun z => absurd z (by omega)) (fun _ => pg_e10 hM h4 h5 hg (fun k => pg_R_lt hg) hi hl (by omega) (hS l hl y (by omega) f).1 (fun s => (hS l hl y (by omega) f).2.1 (pg_sk_t s)) (fun s => (hS l hl y (by omega) f).2.2 (pg_sk_f s))
      (fun a2 a3 h => pg_e2 hS h4 h5 hg hi hl hp n (y + 1) a2 a3 (by omega) h))
/-- extend, as findCarriers needs it -/
def pg_ES (q g : Nat) (c b sc w o ws : Int32) (a1 a4 a5 a6 a7 : Nat → Int32) : Prop := ∀ (l : Nat) (f : Bool) (a2 a3 : Nat → Int32) (post : St2 → Prop), l < 6 → pg_M (pg_R q g l f) a2 a3 →
  (∀ a2 a3, pg_M (pg_R q g l true) a2 a3 → post (c, b, sc, w, o, ws, a1, a2, a3, a4, a5, a6, a7)) → wpX_extend post (c, b, sc, w, o, ws, a1, a2, a3, a4, a5, a6, a7) (nI l)
theorem pg_ES1 {i q g : Nat} (hS : pg_St i q g) (h4 : a4 0 = nI g) (h5 : a5 0 = nI i) (hg : g < 2 ^ 18) (hi : i < 6) : pg_ES q g c b 1 w o ws a1 a4 a5 a6 a7 := by
  intro l f a2 a3 post hl hM hp
  refine ⟨7, pg_e2 (f := f) hS h4 h5 hg hi hl hp 6 0 a2 a3 (by omega) ?_⟩
  rw [show pg_Fl i 0 f = f by unfold pg_Fl; rw [decide_eq_false (show ¬ i < 0 by omega), Bool.or_false]]
  exact hM
theorem pg_e20 {post : St2 → Prop} {a2 a3 : Nat → Int32} {l : Nat} (hp : post (c, b, 0, w, o, ws, a1, a2, a3, a4, a5, a6, a7)) : ∀ n y, y + n = 6 → wX_extend_2 post (nI l) c b 0 w o ws (n + 1) (nI y) a1 a2 a3 a4 a5 a6 a7
  | 0, y, hy => pk_le 6 y (fun _ => hp) (fun z => absurd z (by omega))
  | n + 1, y, hy => pk_le 6 y (fun z => absurd z (by omega)) (fun _ => ⟨1, br_t (by decide) (nm_r (nI_1 y) (pg_e20 hp n (y + 1) (by omega)))⟩)
theorem pg_ES0 : pg_ES 0 0 c b 0 w o ws a1 a4 a5 a6 a7 := by
  intro l f a2 a3 post hl hM hp
  exact ⟨7, pg_e20 (hp a2 a3 (pg_M_c hM (pg_R0 l hl f))) 6 0 (by omega)⟩
theorem pg_f58 {post : St2 → Prop} {J : Int32 → Int32 → Int32 → Int32 → Int32 → Int32 → Int32 → (Nat → Int32) → (Nat → Int32) → (Nat → Int32) → (Nat → Int32) → (Nat → Int32) → (Nat → Int32) → (Nat → Int32) → Prop} {q g l : Nat}
    (hE : pg_ES q g c b sc w o ws a1 a4 a5 a6 a7) (hl : l < 6) (hJ : ∀ a2 a3, pg_M (pg_R q g l true) a2 a3 → J (nI (l + 1)) c b sc w o ws a1 a2 a3 a4 a5 a6 a7) :
    ∀ n r f a2 a3, r + n = 6 → (0 < n ∨ f = true) → pg_M (pg_R q g l f) a2 a3 → wX_findCarriers_58 post J (nI l) (n + 1) (nI r) c b sc w o ws a1 a2 a3 a4 a5 a6 a7
  | 0, r, f, a2, a3, hr, hf, hM => pk_le 6 r (fun _ => nm_r (nI_1 l) (hJ a2 a3 (by
      rw [hf.resolve_left (by omega)] at hM
      exact hM))) (fun z => absurd z (by omega))
  | n + 1, r, f, a2, a3, hr, hf, hM => pk_le 6 r (fun z => absurd z (by omega)) (fun _ => hE l f a2 a3 _ hl hM (fun a2' a3' h => nm_r (nI_1 r) (pg_f58 hE hl hJ n (r + 1) true a2' a3' (by omega) (Or.inr rfl) h)))
theorem pg_f24 {post : St2 → Prop} {q g : Nat} (hE : pg_ES q g c b sc w o ws a1 a4 a5 a6 a7) (hp : ∀ a2 a3, pg_M (pg_T q g) a2 a3 → post (c, b, sc, w, o, ws, a1, a2, a3, a4, a5, a6, a7)) :
    ∀ n l a2 a3, l + n = 6 → pg_M (fun k => if k < l * 6 then pg_T q g k else 0) a2 a3 → wX_findCarriers_24 post (n + 1) (nI l) c b sc w o ws a1 a2 a3 a4 a5 a6 a7
  | 0, l, a2, a3, hl, hM => pk_le 6 l (fun _ => hp a2 a3 (pg_M_c hM (fun k hk => (if_pos (by omega)).symm))) (fun z => absurd z (by omega))
  | n + 1, l, a2, a3, hl, hM => by
    refine pk_le 6 l (fun z => absurd z (by omega)) (fun _ => ⟨pg_ixi (by omega), nm_e ⟨pg_ixi (by omega), nm_e ⟨7, pg_f58 hE (by omega) ?_ 6 0 false _ _ (by omega) (Or.inl (by omega)) ?_⟩⟩⟩)
    · intro a2' a3' h
      refine pg_f24 hE hp n (l + 1) a2' a3' (by omega) (pg_M_c h (fun k hk => ?_))
      unfold pg_R
      by_cases z : k < (l + 1) * 6
      · rw [if_pos z, if_pos (Or.inr ⟨rfl, by omega⟩)]
      · rw [if_neg z, if_neg (by omega), if_neg (by omega)]
    · rw [pg_ixc (l := l) (y := l) (by omega) (by omega)]
      refine pg_M_u (t := 181896) hM (by omega) (fun k hk => ?_)
      unfold pg_R
      by_cases z : k < l * 6
      · rw [if_pos (Or.inl z), if_neg (by omega), if_pos z]
      · rw [if_neg (by
          intro h
          rcases h with h | h
          · exact z h
          · exact absurd h.1 (by decide))]
        by_cases e : k = l * 7
        · rw [if_pos e, if_pos (by omega)]
        · rw [if_neg e, if_neg (by omega), if_neg z]
theorem pg_f2 {post : St2 → Prop} {a3 : Nat → Int32} {q g : Nat} (hE : pg_ES q g c b sc w o ws a1 a4 a5 a6 a7) (hp : ∀ a2 a3, pg_M (pg_T q g) a2 a3 → post (c, b, sc, w, o, ws, a1, a2, a3, a4, a5, a6, a7)) :
    ∀ n k a2, k + n = 36 → (∀ m, m < k → a2 m = -4) → wX_findCarriers_2 post c b sc w o ws (n + 1) (nI k) a1 a2 a3 a4 a5 a6 a7
  | 0, k, a2, hk, hn => pk_le 36 k (fun _ => ⟨7, pg_f24 hE hp 6 0 a2 a3 (by omega) ⟨fun m hm => by
        show a2 m = pg_v (if m < 0 * 6 then pg_T q g m else 0)
        rw [if_neg (by omega), hn m (by omega)]
        rfl, fun m hm z => absurd (if_neg (by omega)) z⟩⟩) (fun z => absurd z (by omega))
  | n + 1, k, a2, hk, hn => pk_le 36 k (fun z => absurd z (by omega)) (fun _ => ⟨pk_in k 36 (by omega), nm_e (nm_r (nI_1 k) (pg_f2 hE hp n (k + 1) _ (by omega) (fun m hm => by
        rw [nI_clamp (by omega)]
        by_cases z : m = k
        · rw [z, pk_us]
        · rw [pk_un z]
          exact hn m (by omega))))⟩)
theorem pg_find {post : St2 → Prop} {a2 a3 : Nat → Int32} {q g : Nat} (hE : pg_ES q g c b sc w o ws a1 a4 a5 a6 a7) (hp : ∀ a2 a3, pg_M (pg_T q g) a2 a3 → post (c, b, sc, w, o, ws, a1, a2, a3, a4, a5, a6, a7)) :
    wpX_findCarriers post (c, b, sc, w, o, ws, a1, a2, a3, a4, a5, a6, a7) :=
  ⟨37, pg_f2 hE hp 36 0 a2 (by omega) (fun m hm => absurd hm (by omega))⟩
theorem pg_learn0 {post : Int32 → St2 → Prop} {a2 a3 : Nat → Int32} {q g r : Nat} (hM : pg_M (pg_T q g) a2 a3) (hg : g < 2 ^ 18) (hr : r < 2 ^ 31) (hs : pg_sf q g 6 r 0 = some 181896) (hp : post 0 (c, b, sc, w, o, ws, a1, a2, a3, a4, a5, a6, a7)) :
    wpX_learn post (c, b, sc, w, o, ws, a1, a2, a3, a4, a5, a6, a7) (nI r) := pg_sift hM hg hr hs (br_t rfl hp)
theorem pg_learn1 {post : Int32 → St2 → Prop} {a2 a3 : Nat → Int32} {i q g : Nat} (hM : pg_M (pg_T 0 0) a2 a3) (hg : g < 2 ^ 18) (hs : pg_sf 0 0 6 g 0 = some g) (hn : g ≠ 181896) (hf : pg_fm g 6 0 = i) (hi : i < 6) (hS : pg_St i q g)
    (hp : ∀ a2 a3 a4 a5, a4 0 = nI g → a5 0 = nI i → pg_M (pg_T q g) a2 a3 → post 1 (c, b, 1, w, o, ws, a1, a2, a3, a4, a5, a6, a7)) :
    wpX_learn post (c, b, 0, w, o, ws, a1, a2, a3, a4, a5, a6, a7) (nI g) := by
  refine pg_sift hM (by omega) (by omega) hs (pk_eq g 181896 (fun z => absurd z hn) (fun _ => ⟨pk_in 0 40 (by omega), nm_e (pg_first (by omega) ⟨pk_in 0 40 (by omega), nm_e (nm_r (e' := 1) (by decide) ?_)⟩)⟩))
  rw [sb_cl0, hf]
  exact pg_find (pg_ES1 hS pk_us pk_us hg hi) (fun a2 a3 h => hp a2 a3 _ _ pk_us pk_us h)
/-- closedAt, as closed needs it -/
def pg_CS (q g : Nat) (u : St2) : Prop := ∀ (l y : Nat) (post : Int32 → St2 → Prop), l < 6 → y < 6 → pg_T q g (l * 6 + y) ≠ 0 → post 1 u → wpX_closedAt post u (nI l) (nI y)
theorem pg_CS0 {a2 a3 : Nat → Int32} {q g : Nat} : pg_CS q g (c, b, 0, w, o, ws, a1, a2, a3, a4, a5, a6, a7) :=
  fun l y post hl hy hT hp => ⟨1, br_t (by decide) hp⟩
theorem pg_CS1 {a2 a3 : Nat → Int32} {i q g : Nat} (hM : pg_M (pg_T q g) a2 a3) (h4 : a4 0 = nI g) (h5 : a5 0 = nI i) (hg : g < 2 ^ 18) (hi : i < 6)
    (hF : ∀ l, l < 6 → l ≤ i → ∀ y, y < 6 → pg_T q g (l * 6 + y) ≠ 0 → pg_d g y < 6 ∧ pg_T q g (l * 6 + pg_d g y) ≠ 0 ∧ pg_sf q g 6 (pg_t (pg_t (pg_T q g (l * 6 + y)) g) (pg_T q g (l * 6 + pg_d g y))) 0 = some 181896) :
    pg_CS q g (c, b, 1, w, o, ws, a1, a2, a3, a4, a5, a6, a7) := by
  intro l y post hl hy hT hp
  have fin : wX_closedAt_2 post (nI l) (nI y) 1 (0 + 1) c b 1 w o ws a1 a2 a3 a4 a5 a6 a7 := br_t (by decide) hp
  refine ⟨2, br_f (by decide) ⟨pk_in 0 40 (by omega), ?_⟩⟩
  rw [sb_cl0, h5]
  refine pk_lt i l (fun z => nm_e fin) (fun z => ⟨pk_in 0 40 (by omega), ?_⟩)
  obtain ⟨f1, f2, f3⟩ := hF l hl (by omega) y hy hT
  have t1 := pg_T_lt (q := q) (k := l * 6 + y) hg
  have t2 := pg_T_lt (q := q) (k := l * 6 + pg_d g y) hg
  have t3 := pg_t_lt (pg_T q g (l * 6 + y)) g
  have t4 := pg_t_lt (pg_t (pg_T q g (l * 6 + y)) g) (pg_T q g (l * 6 + pg_d g y))
  rw [h4]
  refine pg_digit (by omega) (by omega) ⟨pg_ixi (by omega), pk_in 0 40 (by omega), ?_⟩
  rw [pg_ixc (y := y) hl (by omega), pg_ixc (y := pg_d g y) hl (by omega), hM.1 (l * 6 + y) (by omega), pg_vn hT, hM.2 (l * 6 + pg_d g y) (by omega) f2]
  exact pg_times (by omega) (by omega) ⟨pg_ixi (by omega), pg_times (by omega) (by omega) (pg_learn0 hM hg (by omega) f3 (br_t rfl (nm_e fin)))⟩
theorem pg_c10 {post : Int32 → St2 → Prop} {J : Int32 → Int32 → Int32 → Int32 → Int32 → Int32 → Int32 → (Nat → Int32) → (Nat → Int32) → (Nat → Int32) → (Nat → Int32) → (Nat → Int32) → (Nat → Int32) → (Nat → Int32) → Prop} {a2 a3 : Nat → Int32} {q g l : Nat}
    (hM : pg_M (pg_T q g) a2 a3) (hg : g < 2 ^ 18) (hC : pg_CS q g (c, b, sc, w, o, ws, a1, a2, a3, a4, a5, a6, a7)) (hl : l < 6) (hJ : J (nI (l + 1)) c b sc w o ws a1 a2 a3 a4 a5 a6 a7) :
    ∀ n y, y + n = 6 → wX_closed_10 post J (nI l) (n + 1) (nI y) c b sc w o ws a1 a2 a3 a4 a5 a6 a7
  | 0, y, hy => pk_le 6 y (fun _ => nm_r (nI_1 l) hJ) (fun z => absurd z (by omega))
  | n + 1, y, hy => by
    have t1 := pg_T_lt (q := q) (k := l * 6 + y) hg
    refine pk_le 6 y (fun z => absurd z (by omega)) (fun _ => ⟨pg_ixi (by omega), ?_⟩)
    rw [pg_ixc hl (by omega)]
    exact pg_ifv (pg_T q g (l * 6 + y)) (hM.1 _ (by omega)) (by omega) (fun e => nm_r (nI_1 y) (pg_c10 hM hg hC hl hJ n (y + 1) (by omega)))
      (fun e => hC l y _ hl (by omega) e (br_f (by decide) (nm_r (nI_1 y) (pg_c10 hM hg hC hl hJ n (y + 1) (by omega)))))
theorem pg_c2 {post : Int32 → St2 → Prop} {a2 a3 : Nat → Int32} {q g : Nat}
    (hM : pg_M (pg_T q g) a2 a3) (hg : g < 2 ^ 18) (hC : pg_CS q g (c, b, sc, w, o, ws, a1, a2, a3, a4, a5, a6, a7)) (hp : post 1 (c, b, sc, w, o, ws, a1, a2, a3, a4, a5, a6, a7)) :
    ∀ n l, l + n = 6 → wX_closed_2 post (n + 1) (nI l) c b sc w o ws a1 a2 a3 a4 a5 a6 a7
  | 0, l, hl => pk_le 6 l (fun _ => hp) (fun z => absurd z (by omega))
  | n + 1, l, hl => pk_le 6 l (fun z => absurd z (by omega)) (fun _ => ⟨7, pg_c10 hM hg hC (by omega) (pg_c2 hM hg hC hp n (l + 1) (by omega)) 6 0 (by omega)⟩)
theorem pg_closed {post : Int32 → St2 → Prop} {a2 a3 : Nat → Int32} {q g : Nat}
    (hM : pg_M (pg_T q g) a2 a3) (hg : g < 2 ^ 18) (hC : pg_CS q g (c, b, sc, w, o, ws, a1, a2, a3, a4, a5, a6, a7)) (hp : post 1 (c, b, sc, w, o, ws, a1, a2, a3, a4, a5, a6, a7)) :
    wpX_closed post (c, b, sc, w, o, ws, a1, a2, a3, a4, a5, a6, a7) := ⟨7, pg_c2 hM hg hC hp 6 0 (by omega)⟩
theorem pg_b48 {post : St2 → Prop} {a2 a3 : Nat → Int32} {q g : Nat}
    (hM : pg_M (pg_T q g) a2 a3) (hg : g < 2 ^ 18) (hC : pg_CS q g (c, b, sc, w, o, ws, a1, a2, a3, a4, a5, a6, a7)) (hp : post (c, 1, sc, w, o, ws, a1, a2, a3, a4, a5, a6, a7)) :
    ∃ fu, wX_build_48 post fu 0 0 c b sc w o ws a1 a2 a3 a4 a5 a6 a7 :=
  ⟨2, br_f (by decide) (br_t rfl (pg_closed hM hg hC (nm_e (br_f (by decide) (br_f (by decide) hp)))))⟩
theorem pg_build {post : St2 → Prop} {a2 a3 : Nat → Int32} {i j : Nat} (hi : i < 6) (hj : j < 6) (ha : a1 0 = nI (pg_g i j))
    (hp : ∀ sc a2 a3 a4 a5, pg_M (pg_T (pg_q i j) (pg_g i j)) a2 a3 → post (1, 1, sc, w, o, ws, a1, a2, a3, a4, a5, a6, a7)) :
    wpX_build post (1, 0, sc, w, o, ws, a1, a2, a3, a4, a5, a6, a7) := by
  have hg : pg_g i j < 2 ^ 18 := pg_f_lt _
  refine br_t rfl (pg_find pg_ES0 (fun a2 a3 hM => ⟨2, br_f (by decide) ⟨pk_in 0 5 (by omega), ?_⟩⟩))
  rw [sb_cl0, ha]
  by_cases e : i = j
  · subst e
    have F := pg_F4 i hi
    have hM' : pg_M (pg_T (pg_q i i) (pg_g i i)) a2 a3 := by
      rw [show pg_q i i = 0 from if_pos rfl]
      exact pg_M_c hM (fun k _ => pg_T0 _ k)
    exact pg_learn0 hM (by omega) (by omega) F.2.1 (nm_e (br_t (by decide) (pg_b48 hM' hg pg_CS0 (hp _ _ _ _ _ hM'))))
  · have Fa := (pg_F5a i hi j hj).resolve_left e
    have Fb := (pg_F5b i hi j hj).resolve_left e
    have hm : min i j < 6 := by omega
    exact pg_learn1 hM hg Fa Fb.1 Fb.2 hm (pg_F7 i hi j hj e) (fun a2 a3 a4 a5 h4 h5 hM' => nm_e (br_t (by decide) (pg_b48 hM' hg (pg_CS1 hM' h4 h5 hg hm (pg_F6 i hi j hj e)) (hp _ _ _ _ _ hM'))))
end
end
section
/-! the public methods on the built state, and the law -/
theorem pg_er_lt {q g : Nat} : ∀ n e rest l, e < 2 ^ 18 → pg_er q g n e rest l < 2 ^ 18
  | 0, e, rest, l, he => he
  | n + 1, e, rest, l, he => pg_er_lt n _ _ _ (pg_t_lt _ _)
theorem pg_el_lt (q g k : Nat) : pg_el q g k < 2 ^ 18 := pg_er_lt 6 _ _ _ (by omega)
/-- what orbit answers -/
def pg_OR (i j : Nat) (x : Int32) : Int32 := if x < 0 then -1 else if x < 6 then (if x = nI i ∨ x = nI j then ((1 : Int32) <<< (nI i &&& 31)) ||| ((1 : Int32) <<< (nI j &&& 31)) else (1 : Int32) <<< ((x &&& 7) &&& 31)) else -1
theorem pg_ORx : ∀ i, i < 6 → ∀ j, j < 6 → ∀ x, x < 6 → nI (pg_x (pg_g i j) x) = pg_OR i j (nI x) := by decide +kernel
theorem pg_x8 : ∀ i, i < 6 → ∀ j, j < 6 → (44790 + ((nI j - nI i) * nI (6 ^ i))) + ((nI i - nI j) * nI (6 ^ j)) = nI (pg_N i j) := by decide +kernel
section
variable {c b sc w o ws : Int32} {a1 a2 a3 a4 a5 a6 a7 : Nat → Int32}
theorem pg_add {post : Int32 → St2 → Prop} {g : Nat} (hg : g ≤ 46655) (hb : pg_b g = 63) (hp : post 1 (1, 0, sc, w, o, ws, upd a1 0 (nI (pg_f g)), a2, a3, a4, a5, a6, a7)) : wpX_add post (0, b, sc, w, o, ws, a1, a2, a3, a4, a5, a6, a7) (nI g) := by
  unfold wpX_add
  refine pg_bad hg hb (br_t rfl (br_f (by decide) ?_))
  refine pg_from (by omega) ⟨pk_in 0 5 (by omega), nm_e (nm_r (e' := 1) (by decide) ?_)⟩
  rw [sb_cl0]
  exact hp
theorem pg_built {post : St2 → Prop} (hp : post (c, 1, sc, w, o, ws, a1, a2, a3, a4, a5, a6, a7)) : wpX_build post (c, 1, sc, w, o, ws, a1, a2, a3, a4, a5, a6, a7) := br_f (by decide) hp
theorem pg_order0 {post : Int32 → St2 → Prop} {i j : Nat} (hi : i < 6) (hj : j < 6) (ha : a1 0 = nI (pg_g i j))
    (hp : ∀ sc a2 a3 a4 a5, pg_M (pg_T (pg_q i j) (pg_g i j)) a2 a3 → post (nI (pg_w (pg_q i j) (pg_g i j))) (1, 1, sc, w, o, ws, a1, a2, a3, a4, a5, a6, a7)) :
    wpX_order post (1, 0, sc, w, o, ws, a1, a2, a3, a4, a5, a6, a7) := by
  unfold wpX_order
  exact pg_build hi hj ha (fun sc a2 a3 a4 a5 hM => ⟨7, pg_ww hM (pg_f_lt _) 6 1 0 (by omega) (hp sc a2 a3 a4 a5 hM)⟩)
theorem pg_order1 {post : Int32 → St2 → Prop} {q g : Nat} (hM : pg_M (pg_T q g) a2 a3) (hg : g < 2 ^ 18) (hp : post (nI (pg_w q g)) (c, 1, sc, w, o, ws, a1, a2, a3, a4, a5, a6, a7)) :
    wpX_order post (c, 1, sc, w, o, ws, a1, a2, a3, a4, a5, a6, a7) := by
  unfold wpX_order
  exact pg_built ⟨7, pg_ww hM hg 6 1 0 (by omega) hp⟩
theorem pg_orbG {post : Int32 → Prop} {i j : Nat} (hi : i < 6) (hj : j < 6) (ha : a1 0 = nI (pg_g i j)) (x : Int32) (hp : post (pg_OR i j x)) : wpX_orbit post (1, b, sc, w, o, ws, a1, a2, a3, a4, a5, a6, a7) x := by
  have hg : pg_g i j < 2 ^ 18 := pg_f_lt _
  by_cases h0 : x < 0
  · refine pg_orbitN (Or.inl h0) ?_
    rw [pg_OR, if_pos h0] at hp
    exact hp
  · by_cases h6 : x < 6
    · obtain ⟨k, hk, rfl⟩ := nI_of h0
      have hk6 : k < 6 := (nI_ltI hk (by decide : (6 : Nat) < 2 ^ 31)).mp h6
      refine pg_orbit (by omega) ha hk6 ?_
      rw [pg_ORx i hi j hj k hk6]
      exact hp
    · refine pg_orbitN (Or.inr h6) ?_
      rw [pg_OR, if_neg h0, if_neg h6] at hp
      exact hp
theorem pg_has {post : Int32 → St2 → Prop} {q n : Nat} (hM : pg_M (pg_T q (pg_f n)) a2 a3) (hn : n ≤ 46655) (hb : pg_b n = 63) (hs : pg_sf q (pg_f n) 6 (pg_f n) 0 = some 181896) (hp : post 1 (c, 1, sc, w, o, ws, a1, a2, a3, a4, a5, a6, a7)) :
    wpX_has post (c, 1, sc, w, o, ws, a1, a2, a3, a4, a5, a6, a7) (nI n) := by
  have hg := pg_f_lt n
  unfold wpX_has
  refine pg_bad hn hb (br_t rfl ?_)
  refine pg_built ?_
  refine pg_from (by omega) ?_
  exact pg_sift hM hg (by omega) hs (br_t rfl hp)
theorem pg_norm {post : Int32 → St2 → Prop} {q g t : Nat} (hM : pg_M (pg_T q g) a2 a3) (hg : g < 2 ^ 18) (ha : a1 0 = nI g) (hs : pg_cr q g pg_PT 0 = some t) (hp : post (nI t) (1, 1, sc, w, o, ws, a1, a2, a3, a4, a5, a6, a7)) :
    wpX_normaliser post (1, 1, sc, w, o, ws, a1, a2, a3, a4, a5, a6, a7) := by
  unfold wpX_normaliser
  refine pg_built ⟨721, pg_nw hM hg ha hp 720 0 0 (by omega) ?_⟩
  rw [pg_np_tab]
  exact hs
theorem pg_carrier {post : Int32 → St2 → Prop} {i j : Nat} (hi : i < 6) (hj : j < 6) (hM : pg_M (pg_T (pg_q i j) (pg_g i j)) a2 a3) (hp : post (nI (pg_N i j)) (c, 1, sc, w, o, ws, a1, a2, a3, a4, a5, a6, a7)) :
    wpX_carrier post (c, 1, sc, w, o, ws, a1, a2, a3, a4, a5, a6, a7) (nI i) (nI j) := by
  have hg : pg_g i j < 2 ^ 18 := pg_f_lt _
  have e0 := pg_el_lt (pg_q i j) (pg_g i j) 0
  have e1 := pg_el_lt (pg_q i j) (pg_g i j) 1
  have hz := (pg_F2 i hi j hj).2.2
  refine br_f (nI_pos (by omega)) (br_f (nI_ge (b := 6) hi (by decide)) (br_f (nI_pos (by omega)) (br_t (nI_lt (b := 6) hj (by decide)) ?_)))
  refine pg_order1 hM hg ?_
  rw [(pg_F2 i hi j hj).1]
  by_cases e : i = j
  · subst e
    have F := pg_F4 i hi
    rw [if_pos rfl]
    refine ⟨2, br_f (by decide) (br_f (by decide) ?_)⟩
    refine pg_elem (k := 0) hM hg hz (by omega) ?_
    refine pg_digit (by omega) (by omega) ?_
    rw [F.2.2.1]
    refine br_t rfl ?_
    refine pg_to (by omega) (br_t (by decide) (nm_e (br_t (by decide) ?_)))
    rw [F.2.2.2]
    exact hp
  · have F := (pg_F5c i hi j hj).resolve_left e
    rw [if_neg e]
    have d0 := pg_d_lt (pg_el (pg_q i j) (pg_g i j) 0) i
    refine ⟨3, br_f (by decide) (br_f (by decide) ?_)⟩
    refine pg_elem (k := 0) hM hg hz (by omega) ?_
    refine pg_digit (by omega) (by omega) ?_
    refine pk_eq (pg_d (pg_el (pg_q i j) (pg_g i j) 0) i) j (fun z => absurd z F.1) (fun _ => nm_r (e' := nI 1) (by decide) (br_f (by decide) (br_f (by decide) ?_)))
    refine pg_elem (k := 1) hM hg hz (by omega) ?_
    refine pg_digit (by omega) (by omega) ?_
    rw [F.2.1]
    refine br_t rfl ?_
    refine pg_to (by omega) (br_t (by decide) (nm_e (br_t (by decide) ?_)))
    rw [F.2.2]
    exact hp
end
section
variable {post : Int32 → St0 → Prop} {mc ms kc ks : Nat} {x2 x8 o1 o2 o3 pl : Int32} {i j : Nat}
theorem pg_333p (hp : post 1 ()) (z : Int32) : wL_lawOf_333 post mc ms x8 6 44790 x8 1 720 x8 1 z z kc ks :=
  br_t rfl (br_f (by decide) (br_t rfl (br_t rfl (br_t rfl (br_f (by decide) (br_f (by decide) (br_t rfl (br_t rfl hp))))))))
theorem pg_333n (hp : post 1 ()) (z : Int32) : wL_lawOf_333 post mc ms x8 5 44790 x8 1 48 x8 0 z z kc ks :=
  br_t rfl (br_t rfl (br_t rfl (br_t rfl (br_t rfl (br_f (by decide) (br_t rfl (br_t rfl (br_t rfl hp))))))))
theorem pg_249 (H : ∀ z, wL_lawOf_333 post mc ms x8 o2 44790 x8 1 o3 x8 pl z z kc ks) (hpl : (pl = 0 ∧ o1 = 2) ∨ (¬ pl = 0 ∧ o1 = 1)) :
    wL_lawOf_249 post mc ms x2 (nI i) (nI j) x8 1 o1 (pg_OR i j x2) o2 44790 x8 1 o3 x8 pl kc ks := by
  have G : ∀ z19 : Int32, (z19 = 0 → pg_OR i j x2 = -1) → (¬ z19 = 0 → pg_OR i j x2 = if x2 = nI i ∨ x2 = nI j then ((1 : Int32) <<< (nI i &&& 31)) ||| ((1 : Int32) <<< (nI j &&& 31)) else (1 : Int32) <<< ((x2 &&& 7) &&& 31)) →
      wL_lawOf_265 post mc ms x2 (nI i) (nI j) x8 1 o1 (pg_OR i j x2) o2 44790 x8 1 o3 x8 pl z19 kc ks := by
    intro z19 h0 h1
    have K : ∀ t : Int32, wL_lawOf_296 post mc ms x2 (nI i) (nI j) x8 (pg_OR i j x2) o2 44790 x8 1 o3 x8 pl z19 (((1 : Int32) <<< (nI i &&& 31)) ||| ((1 : Int32) <<< (nI j &&& 31))) t t kc ks := by
      intro t
      refine br_t rfl (br_c (fun e => ?_) (fun e => br_c (fun e1 => ?_) (fun e1 => br_c (fun e2 => ?_) (fun e2 => ?_))))
      · rw [h0 e]
        exact H (-1)
      · rw [h1 e, if_pos (Or.inl e1)]
        exact H _
      · rw [h1 e, if_pos (Or.inr e2)]
        exact H _
      · rw [h1 e, if_neg (fun z => z.elim e1 e2)]
        exact H _
    refine nm_e (br_t rfl ?_)
    rcases hpl with ⟨p0, p1⟩ | ⟨p0, p1⟩
    · rw [p1]
      exact br_t p0 (K 2)
    · rw [p1]
      exact br_f p0 (K 1)
  refine br_c (fun h => ?_) (fun h => br_c (fun h5 => ?_) (fun h5 => ?_))
  · refine G 0 (fun _ => ?_) (fun z => absurd rfl z)
    rw [pg_OR, if_pos h]
  · refine G 0 (fun _ => ?_) (fun z => absurd rfl z)
    rw [pg_OR, if_neg h]
    by_cases h6 : x2 < 6
    · obtain ⟨k, hk, rfl⟩ := nI_of h
      have a := (nI_ltI hk (by decide : (6 : Nat) < 2 ^ 31)).mp h6
      have b := (nI_ltI (by decide : (5 : Nat) < 2 ^ 31) hk).mp h5
      omega
    · rw [if_neg h6]
  · refine G 1 (fun z => absurd z (by decide)) (fun _ => ?_)
    rw [pg_OR, if_neg h]
    by_cases h6 : x2 < 6
    · rw [if_pos h6]
    · obtain ⟨k, hk, rfl⟩ := nI_of h
      have a : ¬ k < 6 := fun z => h6 (nI_lt (b := 6) z (by decide))
      have b : ¬ 5 < k := fun z => h5 (nI_lt (a := 5) z hk)
      omega
theorem pg_144 (hi : i < 6) (hj : j < 6) (hp : post 1 ()) :
    wL_lawOf_144 post mc ms x2 (nI i) (nI j) (nI (6 ^ i)) (nI (6 ^ j)) kc ks 0 0 0 0 0 0 (fun _ => 0) (fun _ => 0) (fun _ => 0) (fun _ => 0) (fun _ => 0) (fun _ => 0) (fun _ => 0) := by
  have F := pg_F1 i hi j hj
  have F2 := pg_F2 i hi j hj
  have hg : pg_g i j < 2 ^ 18 := pg_f_lt _
  unfold wL_lawOf_144
  refine nm_r (pg_x8 i hi j hj) ?_
  refine pg_add F.1 F.2.1 ?_
  refine pg_order0 hi hj pk_us (fun sc a2 a3 a4 a5 hM => ?_)
  refine pg_orbG hi hj pk_us x2 ?_
  refine pg_orbits (g := pg_g i j) (by omega) pk_us ?_
  refine pg_product F.1 F.1 F.2.1 F.2.1 ?_
  refine pg_inverse F.1 F.2.1 ?_
  refine pg_has hM F.1 F.2.1 F.2.2.2.2 ?_
  refine pg_norm hM hg pk_us (pg_Hn i hi j hj) ?_
  refine pg_carrier hi hj hM ?_
  rw [F2.1, F2.2.1, show pg_o (pg_t (pg_f (pg_N i j)) (pg_f (pg_N i j))) = 44790 from F.2.2.1, show pg_o (pg_i (pg_f (pg_N i j))) = pg_N i j from F.2.2.2.1]
  refine pk_eq i j (fun e => ?_) (fun e => ?_)
  · rw [if_pos e, if_pos e, if_pos e]
    exact pg_249 (pg_333p hp) (Or.inr ⟨by decide, rfl⟩)
  · rw [if_neg e, if_neg e, if_neg e]
    exact pg_249 (pg_333n hp) (Or.inl ⟨rfl, rfl⟩)
theorem pg_84 (hi : i < 6) (hp : post 1 ()) : ∀ j, j < 6 →
    wL_lawOf_84 post mc ms x2 (nI i) (nI j) (nI (6 ^ i)) kc ks 0 0 0 0 0 0 (fun _ => 0) (fun _ => 0) (fun _ => 0) (fun _ => 0) (fun _ => 0) (fun _ => 0) (fun _ => 0)
  | 0, hj => br_t (by decide) (pg_144 (j := 0) hi hj hp)
  | 1, hj => br_f (by decide) (br_t (by decide) (pg_144 (j := 1) hi hj hp))
  | 2, hj => br_f (by decide) (br_f (by decide) (br_t (by decide) (pg_144 (j := 2) hi hj hp)))
  | 3, hj => br_f (by decide) (br_f (by decide) (br_f (by decide) (br_t (by decide) (pg_144 (j := 3) hi hj hp))))
  | 4, hj => br_f (by decide) (br_f (by decide) (br_f (by decide) (br_f (by decide) (br_t (by decide) (pg_144 (j := 4) hi hj hp)))))
  | 5, hj => br_f (by decide) (br_f (by decide) (br_f (by decide) (br_f (by decide) (br_f (by decide) (pg_144 (j := 5) hi hj hp)))))
  | j + 6, hj => absurd hj (by omega)
end
end
section
/-! the entry -/
theorem pg_lawA {post : Int32 → St0 → Prop} {mc ms kc ks : Nat} {x2 : Int32} {j : Nat} (hj : j < 6) (hp : post 1 ()) : ∀ i, i < 6 →
    ((nI i = 0 → wL_lawOf_84 post mc ms x2 (nI i) (nI j) 1 kc ks 0 0 0 0 0 0 (fun _ => 0) (fun _ => 0) (fun _ => 0) (fun _ => 0) (fun _ => 0) (fun _ => 0) (fun _ => 0)) ∧ (¬ nI i = 0 →
    ((nI i = 1 → wL_lawOf_84 post mc ms x2 (nI i) (nI j) 6 kc ks 0 0 0 0 0 0 (fun _ => 0) (fun _ => 0) (fun _ => 0) (fun _ => 0) (fun _ => 0) (fun _ => 0) (fun _ => 0)) ∧ (¬ nI i = 1 →
    ((nI i = 2 → wL_lawOf_84 post mc ms x2 (nI i) (nI j) 36 kc ks 0 0 0 0 0 0 (fun _ => 0) (fun _ => 0) (fun _ => 0) (fun _ => 0) (fun _ => 0) (fun _ => 0) (fun _ => 0)) ∧ (¬ nI i = 2 →
    ((nI i = 3 → wL_lawOf_84 post mc ms x2 (nI i) (nI j) 216 kc ks 0 0 0 0 0 0 (fun _ => 0) (fun _ => 0) (fun _ => 0) (fun _ => 0) (fun _ => 0) (fun _ => 0) (fun _ => 0)) ∧ (¬ nI i = 3 →
    ((nI i = 4 → wL_lawOf_84 post mc ms x2 (nI i) (nI j) 1296 kc ks 0 0 0 0 0 0 (fun _ => 0) (fun _ => 0) (fun _ => 0) (fun _ => 0) (fun _ => 0) (fun _ => 0) (fun _ => 0)) ∧ (¬ nI i = 4 →
    wL_lawOf_84 post mc ms x2 (nI i) (nI j) 7776 kc ks 0 0 0 0 0 0 (fun _ => 0) (fun _ => 0) (fun _ => 0) (fun _ => 0) (fun _ => 0) (fun _ => 0) (fun _ => 0)))))))))))
  | 0, hi => br_t (by decide) (pg_84 (i := 0) hi hp j hj)
  | 1, hi => br_f (by decide) (br_t (by decide) (pg_84 (i := 1) hi hp j hj))
  | 2, hi => br_f (by decide) (br_f (by decide) (br_t (by decide) (pg_84 (i := 2) hi hp j hj)))
  | 3, hi => br_f (by decide) (br_f (by decide) (br_f (by decide) (br_t (by decide) (pg_84 (i := 3) hi hp j hj))))
  | 4, hi => br_f (by decide) (br_f (by decide) (br_f (by decide) (br_f (by decide) (br_t (by decide) (pg_84 (i := 4) hi hp j hj)))))
  | 5, hi => br_f (by decide) (br_f (by decide) (br_f (by decide) (br_f (by decide) (br_f (by decide) (pg_84 (i := 5) hi hp j hj)))))
  | i + 6, hi => absurd hi (by omega)
theorem pg_lawOf {post : Int32 → St0 → Prop} (p0 p1 p2 : Int32) (hp : post 1 ()) : wpL_lawOf post 110 1744 () p0 p1 p2 := by
  obtain ⟨m0, h0, e0⟩ := pk_andE p0 (m := 7) 3 (by decide)
  obtain ⟨m1, h1, e1⟩ := pk_andE p1 (m := 7) 3 (by decide)
  unfold wpL_lawOf
  refine ⟨by omega, by omega, 7, 171, by omega, by omega, ?_⟩
  refine ⟨by omega, by omega, by omega, by omega, by omega, by omega, by omega, by omega, by omega, by omega, by omega, by omega, by omega, by omega, ?_⟩
  refine ⟨by decide, nm_r (e' := nI (m0 % 6)) (by rw [e0, pg_r6 (by omega)]) ⟨by decide, nm_r (e' := nI (m1 % 6)) (by rw [e1, pg_r6 (by omega)]) ?_⟩⟩
  exact pg_lawA (Nat.mod_lt _ (by omega)) hp (m0 % 6) (Nat.mod_lt _ (by omega))
theorem pg_cell {post : Int32 → Prop} {L : Nat} {xs : Nat → Int32} (hL : L ≤ 3) (k : Nat) (hk : k < 3) (hp : ∀ v, post v) : wpL_cellAt post L xs () (nI k) :=
  pk_le L k (fun _ => hp 0) (fun z => ⟨pk_in k L z, hp _⟩)
theorem i_vc (xs : Nat → Int32) (L : Nat) (hL : L ≤ 3) : wpL_law (fun r => r = 1) L xs := by
  unfold wpL_law
  refine pg_cell hL 0 (by omega) (fun r1 => ?_)
  refine pg_cell hL 1 (by omega) (fun r2 => ?_)
  refine pg_cell hL 2 (by omega) (fun r3 => ?_)
  exact ⟨110, 1744, by omega, by omega, pg_lawOf r1 r2 r3 rfl⟩
end
