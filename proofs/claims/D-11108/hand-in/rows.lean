section
/-- the pair's number of a class: 0 = {x}, 1 = {y}, 2 = {x} and the second set {2} -/
def tl_pn (x y c : Nat) : Nat := if c = 0 then 2 ^ x else if c = 1 then 2 ^ y else 2 ^ x + 64
def tl_st (c : Nat) : Nat := if c = 1 then 1 else 0
def tl_xr (a b : Nat) : Nat := (a + b) % 2
def tl_e (n : Nat) : Nat := match n with | 1 => 1 | 2 => 1 | 3 => 3 | 4 => 7 | 5 => 21 | 6 => 61 | 7 => 191 | _ => 0
def tl_k (h n s : Nat) : Nat := if s = 1 then 1 else if h = 1 ∧ n = 1 then 2 else 0
def tl_q (x y h n s : Nat) : Nat := tl_pn x y (tl_k h n s)
def tl_C (x y h n p : Nat) : Nat := if p = tl_q x y h n 0 ∨ p = tl_q x y h n 1 then tl_e n else 0
/-- the tables of rules as the law lays them -/
def tl_a1 (x y h : Nat) : Nat → Int32 := if h = 1 then upd (upd (upd (upd (fun _ => 0) 0 (nI (2 ^ x))) 1 (nI (2 ^ y))) 1 (nI (2 ^ y))) 2 4 else upd (upd (upd (fun _ => 0) 0 (nI (2 ^ x))) 1 (nI (2 ^ y))) 1 (nI (2 ^ y))
def tl_a2 (x y t : Nat) : Nat → Int32 := upd (upd (fun _ => 0) x (nI (2 ^ (if t = 0 then x else y)))) y (nI (2 ^ (if t = 0 then y else x)))
def tl_a3 (x y : Nat) : Nat → Int32 := upd (upd (upd (upd (upd (fun _ => 0) (x + 4 * x) (nI (2 ^ x))) (y + 4 * y) (nI (2 ^ x))) (x + 4 * y) (nI (2 ^ y))) (y + 4 * x) (nI (2 ^ y))) (y + 4 * x) (nI (2 ^ y))
/-- what a node may have over one child, over two -/
def tl_ov1 (a : Nat → Int32) (m : Nat) (s : Int32) : Nat → Int32
  | 0 => 0
  | p + 1 => if ((s >>> (nI p &&& 31)) &&& 1) = 1 then tl_ov1 a m s p ||| a (4 * m + p) else tl_ov1 a m s p
def tl_ov2 (a : Nat → Int32) (m : Nat) (s r : Int32) : Nat → Int32
  | 0 => 0
  | k + 1 => if ((s >>> ((nI k &&& 3) &&& 31)) &&& 1) = 1 ∧ ((r >>> ((nI k >>> ((2 : Int32) &&& 31)) &&& 31)) &&& 1) = 1 then tl_ov2 a m s r k ||| a (16 * m + k) else tl_ov2 a m s r k
def tl_op (a : Nat → Int32) (p : Int32) : Int32 := tl_ov1 a 0 (p &&& 15) 4 ||| (tl_ov1 a 1 (p >>> ((4 : Int32) &&& 31)) 4 <<< ((4 : Int32) &&& 31))
def tl_tp (a : Nat → Int32) (p q : Int32) : Int32 := tl_ov2 a 0 (p &&& 15) (q &&& 15) 16 ||| (tl_ov2 a 1 (p >>> ((4 : Int32) &&& 31)) (q >>> ((4 : Int32) &&& 31)) 16 <<< ((4 : Int32) &&& 31))
theorem tl_opD : ∀ x, x < 4 → ∀ y, y < 4 → x ≠ y → ∀ t, t < 2 → ∀ c, c < 3 → tl_op (tl_a2 x y t) (nI (tl_pn x y c)) = nI (tl_pn x y (tl_xr (tl_st c) t)) := by decide +kernel
theorem tl_tpD : ∀ x, x < 4 → ∀ y, y < 4 → x ≠ y → ∀ c, c < 3 → ∀ d, d < 3 → tl_tp (tl_a3 x y) (nI (tl_pn x y c)) (nI (tl_pn x y d)) = nI (tl_pn x y (tl_xr (tl_st c) (tl_st d))) := by decide +kernel
theorem tl_lfD : ∀ x, x < 4 → ∀ y, y < 4 → x ≠ y → ∀ h, h < 2 → ∀ l, l < 2 → (tl_a1 x y h l ||| (tl_a1 x y h (2 + l) <<< ((4 : Int32) &&& 31))) = nI (tl_pn x y (tl_k h 1 l)) := by decide +kernel
theorem tl_pn_lt : ∀ x, x < 4 → ∀ y, y < 4 → ∀ c, c < 3 → tl_pn x y c < 256 := by decide +kernel
theorem tl_pn_inj : ∀ x, x < 4 → ∀ y, y < 4 → x ≠ y → ∀ c, c < 3 → ∀ d, d < 3 → decide (tl_pn x y c = tl_pn x y d) = decide (c = d) := by decide +kernel
theorem tl_pn_ne (x : Nat) (hx : x < 4) (y : Nat) (hy : y < 4) (hxy : x ≠ y) (c : Nat) (hc : c < 3) (d : Nat) (hd : d < 3) (h : c ≠ d) : tl_pn x y c ≠ tl_pn x y d := fun z => h (of_decide_eq_true ((tl_pn_inj x hx y hy hxy c hc d hd).symm.trans (decide_eq_true z)))
theorem tl_k_lt (h n s : Nat) : tl_k h n s < 3 := by
  unfold tl_k; split
  · omega
  · split <;> omega
theorem tl_q_lt {x y : Nat} (hx : x < 4) (hy : y < 4) (h n s : Nat) : tl_q x y h n s < 256 := tl_pn_lt x hx y hy _ (tl_k_lt h n s)
theorem tl_q_ne {x y : Nat} (hx : x < 4) (hy : y < 4) (hxy : x ≠ y) (h n : Nat) : tl_q x y h n 0 ≠ tl_q x y h n 1 := by
  refine tl_pn_ne x hx y hy hxy _ (tl_k_lt h n 0) _ (tl_k_lt h n 1) ?_
  unfold tl_k; rw [if_neg (by decide), if_pos rfl]; split <;> omega
theorem tl_xr_lt (a b : Nat) : tl_xr a b < 2 := Nat.mod_lt _ (by decide)
theorem tl_st_k {h n s : Nat} (hs : s < 2) : tl_st (tl_k h n s) = s := by
  unfold tl_k tl_st
  by_cases e : s = 1
  · rw [if_pos e, if_pos rfl, e]
  · rw [if_neg e]
    by_cases g : h = 1 ∧ n = 1
    · rw [if_pos g, if_neg (by decide)]; omega
    · rw [if_neg g, if_neg (by decide)]; omega
theorem tl_k_big {h n s : Nat} (hn : 2 ≤ n) (hs : s < 2) : tl_k h n s = s := by
  unfold tl_k
  by_cases e : s = 1
  · rw [if_pos e, e]
  · rw [if_neg e, if_neg (by omega)]; omega
theorem tl_C_q {x y h n s : Nat} (hs : s < 2) : tl_C x y h n (tl_q x y h n s) = tl_e n := by
  unfold tl_C
  rw [if_pos]
  have : s = 0 ∨ s = 1 := by omega
  rcases this with e | e
  · exact Or.inl (by rw [e])
  · exact Or.inr (by rw [e])
theorem tl_C_0 {x y h n p : Nat} (h0 : p ≠ tl_q x y h n 0) (h1 : p ≠ tl_q x y h n 1) : tl_C x y h n p = 0 := by
  unfold tl_C
  rw [if_neg (fun z => z.elim h0 h1)]
theorem tl_e_pos : ∀ n, n < 8 → 1 ≤ n → 0 < tl_e n := by decide
theorem tl_e_lt : ∀ n, n < 8 → tl_e n < 192 := by decide
theorem tl_n8 : ∀ v, v < 128 → (nI v).toInt8.toInt32 = nI v := by decide +kernel
theorem tl_n16 : ∀ v, v < 2048 → (nI v).toInt16.toInt32 = nI v := by decide +kernel
theorem tl_nar {v : Nat} (h : v < 128) : vp_nar .byte (nI v) = nI v := by rw [vp_nar_byte, tl_n8 v h]
/-- indices -/
theorem tl_lin {c : Int32} (k : Nat) (a b : Nat) (hc : c = nI k := by rfl) : c * nI a + nI b = nI (k * a + b) := by rw [hc, pk_mul, nI_add]
theorem tl_l2 (a b : Nat) : (2 : Int32) * nI a + nI b = nI (2 * a + b) := tl_lin 2 a b
theorem tl_l4 (a b : Nat) : (4 : Int32) * nI a + nI b = nI (4 * a + b) := tl_lin 4 a b
theorem tl_l16 (a b : Nat) : (16 : Int32) * nI a + nI b = nI (16 * a + b) := tl_lin 16 a b
theorem tl_l256 (a b : Nat) : (256 : Int32) * nI a + nI b = nI (256 * a + b) := tl_lin 256 a b
theorem tl_sub1 {a : Nat} (h : 1 ≤ a) : nI a - 1 = nI (a - 1) := pk_sub (b := 1) h
theorem tl_i2 {a : Nat} (b : Nat) (h : 1 ≤ a) : 256 * (nI a - 1) + nI b = nI (256 * (a - 1) + b) := by rw [tl_sub1 h]; exact tl_l256 _ _
theorem tl_sub2 {a i : Nat} (h : i + 1 ≤ a) : (nI a - 1) - nI i = nI (a - 1 - i) := by rw [tl_sub1 (by omega), pk_sub (by omega)]
theorem tl_i3 {a i : Nat} (b : Nat) (h : i + 1 ≤ a) : 256 * ((nI a - 1) - nI i) + nI b = nI (256 * (a - 1 - i) + b) := by rw [tl_sub2 h]; exact tl_l256 _ _
theorem tl_i4 (a b : Nat) : 256 * (nI a + 1) + nI b = nI (256 * (a + 1) + b) := by rw [nI_1]; exact tl_l256 _ _
theorem tl_rd {a : Nat → Int32} {x v : Int32} (k : Nat) (hx : x = nI k) (hk : k < 2 ^ 31) (hv : a k = v) : a x.toNatClampNeg = v := by rw [hx, nI_clamp hk, hv]
theorem tl_wr {a : Nat → Int32} {x v v' : Int32} (k : Nat) (hx : x = nI k) (hk : k < 2 ^ 31) (hv : v = v') : upd a x.toNatClampNeg v = upd a k v' := by rw [hx, nI_clamp hk, hv]
/-- a loop over 256 places, two of which count -/
theorem tl_two {σ : Type} (W : Nat → Nat → σ → Prop) (Q : Nat → Nat) (F : Nat → σ → σ) (s0 : σ) (h0 : Q 0 < 256) (h1 : Q 1 < 256) (hne : Q 0 ≠ Q 1) (comm : F 0 (F 1 s0) = F 1 (F 0 s0))
    (skip : ∀ n i r, i < 256 → i ≠ Q 0 → i ≠ Q 1 → W n (i + 1) r → W (n + 1) i r)
    (at_ : ∀ n s r, s < 2 → (r = s0 ∨ r = F (1 - s) s0) → W n (Q s + 1) (F s r) → W (n + 1) (Q s) r)
    (n : Nat) (h : W n 256 (F 0 (F 1 s0))) : W (n + 256) 0 s0 := by
  have key : ∀ j, j ≤ 256 → W (n + j) (256 - j) (if Q 0 < 256 - j then (if Q 1 < 256 - j then F 0 (F 1 s0) else F 0 s0) else (if Q 1 < 256 - j then F 1 s0 else s0)) := by
    intro j
    induction j with
    | zero =>
      intro _
      rw [if_pos (by omega), if_pos (by omega)]
      exact h
    | succ j ih =>
      intro hj
      have ih' := ih (by omega)
      generalize hi : 256 - (j + 1) = i
      have hi1 : 256 - j = i + 1 := by omega
      rw [hi1] at ih'
      show W ((n + j) + 1) i _
      by_cases e0 : i = Q 0
      · rw [if_pos (show Q 0 < i + 1 by omega)] at ih'
        rw [if_neg (show ¬ Q 0 < i by omega)]
        by_cases c1 : Q 1 < i
        · rw [if_pos (show Q 1 < i + 1 by omega)] at ih'
          rw [if_pos c1, e0]
          rw [e0] at ih'
          exact at_ _ 0 _ (by decide) (Or.inr rfl) ih'
        · rw [if_neg (show ¬ Q 1 < i + 1 by omega)] at ih'
          rw [if_neg c1, e0]
          rw [e0] at ih'
          exact at_ _ 0 _ (by decide) (Or.inl rfl) ih'
      · by_cases e1 : i = Q 1
        · rw [if_pos (show Q 1 < i + 1 by omega), if_pos (show Q 1 < i + 1 by omega)] at ih'
          rw [if_neg (show ¬ Q 1 < i by omega), if_neg (show ¬ Q 1 < i by omega)]
          by_cases c0 : Q 0 < i
          · rw [if_pos (show Q 0 < i + 1 by omega), comm] at ih'
            rw [if_pos c0, e1]
            rw [e1] at ih'
            exact at_ _ 1 _ (by decide) (Or.inr rfl) ih'
          · rw [if_neg (show ¬ Q 0 < i + 1 by omega)] at ih'
            rw [if_neg c0, e1]
            rw [e1] at ih'
            exact at_ _ 1 _ (by decide) (Or.inl rfl) ih'
        · have a0 : (Q 0 < i + 1) = (Q 0 < i) := propext ⟨fun z => by omega, fun z => by omega⟩
          have a1 : (Q 1 < i + 1) = (Q 1 < i) := propext ⟨fun z => by omega, fun z => by omega⟩
          simp only [a0, a1] at ih'
          exact skip _ i _ (by omega) e0 e1 ih'
  have := key 256 (Nat.le_refl _)
  rw [if_neg (by omega), if_neg (by omega)] at this
  exact this
end
section
section
variable {md hg kn lv lf cm lt : Int32} {a1 a2 a3 a4 a5 a6 a7 a8 a9 a10 a11 a12 a13 a14 a15 a16 a17 a18 a19 a20 a21 : Nat → Int32}
theorem tl_w_ov1 {post : Int32 → Prop} (m : Nat) (hm : m < 2) (s : Int32) (h : post (tl_ov1 a2 m s 4)) : wpX_overOne post (md, hg, kn, lv, lf, cm, lt, a1, a2, a3, a4, a5, a6, a7, a8, a9, a10, a11, a12, a13, a14, a15, a16, a17, a18, a19, a20, a21) (nI m) s :=
  pk_loop (fun n i x => wX_overOne_5 post (nI m) s md hg kn lv lf cm lt a1 a2 a3 a4 a5 a6 a7 a8 a9 a10 a11 a12 a13 a14 a15 a16 a17 a18 a19 a20 a21 n x (nI i)) (fun i x => x = tl_ov1 a2 m s i) 4 0 0 (by omega) rfl
    (fun n x hx => pk_le 4 4 (fun _ => by rw [hx]; exact h) (fun z => absurd z (by omega)))
    (fun n i x hi hx hw => pk_le 4 i (fun z => absurd z (by omega)) (fun _ => br_c
      (fun hc => ⟨pk_in (4 * m + i) 8 (by omega) (tl_l4 m i), nm_e (nm_r (nI_1 i) (hw _ (by
        rw [tl_rd (a := a2) (4 * m + i) (tl_l4 m i) (by omega) rfl, hx]
        show _ = if _ then _ else _
        rw [if_pos hc])))⟩)
      (fun hc => nm_r (nI_1 i) (hw _ (by
        rw [hx]
        show _ = if _ then _ else _
        rw [if_neg hc])))))
theorem tl_w_op {post : Int32 → Prop} {p : Int32} (h : post (tl_op a2 p)) : wpX_onePair post (md, hg, kn, lv, lf, cm, lt, a1, a2, a3, a4, a5, a6, a7, a8, a9, a10, a11, a12, a13, a14, a15, a16, a17, a18, a19, a20, a21) p := by
  unfold wpX_onePair
  exact tl_w_ov1 0 (by decide) _ (tl_w_ov1 (m := 1) (by decide) _ h)
theorem tl_w_ov2 {post : Int32 → Prop} (m : Nat) (hm : m < 2) (s r : Int32) (h : post (tl_ov2 a3 m s r 16)) : wpX_overTwo post (md, hg, kn, lv, lf, cm, lt, a1, a2, a3, a4, a5, a6, a7, a8, a9, a10, a11, a12, a13, a14, a15, a16, a17, a18, a19, a20, a21) (nI m) s r :=
  pk_loop (fun n i x => wX_overTwo_6 post (nI m) s r md hg kn lv lf cm lt a1 a2 a3 a4 a5 a6 a7 a8 a9 a10 a11 a12 a13 a14 a15 a16 a17 a18 a19 a20 a21 n x (nI i)) (fun i x => x = tl_ov2 a3 m s r i) 16 0 0 (by omega) rfl
    (fun n x hx => pk_le 16 16 (fun _ => by rw [hx]; exact h) (fun z => absurd z (by omega)))
    (fun n i x hi hx hw => by
      have skip : ¬ (((s >>> ((nI i &&& 3) &&& 31)) &&& 1) = 1 ∧ ((r >>> ((nI i >>> ((2 : Int32) &&& 31)) &&& 31)) &&& 1) = 1) → wX_overTwo_41 post (wX_overTwo_6 post (nI m) s r md hg kn lv lf cm lt a1 a2 a3 a4 a5 a6 a7 a8 a9 a10 a11 a12 a13 a14 a15 a16 a17 a18 a19 a20 a21 n) (nI m) s r x (nI i) md hg kn lv lf cm lt a1 a2 a3 a4 a5 a6 a7 a8 a9 a10 a11 a12 a13 a14 a15 a16 a17 a18 a19 a20 a21 := fun hc =>
        br_t rfl (nm_r (nI_1 i) (hw _ (by
          rw [hx]
          show _ = if _ then _ else _
          rw [if_neg hc])))
      refine pk_le 16 i (fun z => absurd z (by omega)) (fun _ => br_c (fun c1 => br_c (fun c2 => ?_) (fun c2 => skip (fun z => c2 z.2))) (fun c1 => skip (fun z => c1 z.1)))
      exact br_f (by decide) ⟨pk_in (16 * m + i) 32 (by omega) (tl_l16 m i), nm_e (nm_r (nI_1 i) (hw _ (by
        rw [tl_rd (a := a3) (16 * m + i) (tl_l16 m i) (by omega) rfl, hx]
        show _ = if _ then _ else _
        rw [if_pos ⟨c1, c2⟩])))⟩)
theorem tl_w_tp {post : Int32 → Prop} {p q : Int32} (h : post (tl_tp a3 p q)) : wpX_twoPair post (md, hg, kn, lv, lf, cm, lt, a1, a2, a3, a4, a5, a6, a7, a8, a9, a10, a11, a12, a13, a14, a15, a16, a17, a18, a19, a20, a21) p q := by
  unfold wpX_twoPair
  exact tl_w_ov2 0 (by decide) _ _ (tl_w_ov2 (m := 1) (by decide) _ _ h)
theorem tl_w_lp {post : Int32 → Prop} (l : Nat) (hl : l < 2) (h : post (a1 l ||| (a1 (2 + l) <<< ((4 : Int32) &&& 31)))) : wpX_leafPair post (md, hg, kn, lv, lf, cm, lt, a1, a2, a3, a4, a5, a6, a7, a8, a9, a10, a11, a12, a13, a14, a15, a16, a17, a18, a19, a20, a21) (nI l) := by
  unfold wpX_leafPair
  have e : (2 : Int32) + nI l = nI (2 + l) := nI_add 2 l
  refine ⟨pk_in l 4 (by omega), pk_in (2 + l) 4 (by omega) e, ?_⟩
  rw [e, nI_clamp (show l < 2 ^ 31 by omega), nI_clamp (show 2 + l < 2 ^ 31 by omega)]
  exact h
/-- on the law's tables -/
theorem tl_c_op {post : Int32 → Prop} {x y t c : Nat} (hx : x < 4) (hy : y < 4) (hxy : x ≠ y) (ht : t < 2) (hc : c < 3) (h2 : a2 = tl_a2 x y t) (h : post (nI (tl_pn x y (tl_xr (tl_st c) t)))) : wpX_onePair post (md, hg, kn, lv, lf, cm, lt, a1, a2, a3, a4, a5, a6, a7, a8, a9, a10, a11, a12, a13, a14, a15, a16, a17, a18, a19, a20, a21) (nI (tl_pn x y c)) :=
  tl_w_op (by rw [h2, tl_opD x hx y hy hxy t ht c hc]; exact h)
theorem tl_c_tp {post : Int32 → Prop} {x y c d : Nat} (hx : x < 4) (hy : y < 4) (hxy : x ≠ y) (hc : c < 3) (hd : d < 3) (h3 : a3 = tl_a3 x y) (h : post (nI (tl_pn x y (tl_xr (tl_st c) (tl_st d))))) : wpX_twoPair post (md, hg, kn, lv, lf, cm, lt, a1, a2, a3, a4, a5, a6, a7, a8, a9, a10, a11, a12, a13, a14, a15, a16, a17, a18, a19, a20, a21) (nI (tl_pn x y c)) (nI (tl_pn x y d)) :=
  tl_w_tp (by rw [h3, tl_tpD x hx y hy hxy c hc d hd]; exact h)
theorem tl_c_lp {post : Int32 → Prop} {x y hh l : Nat} (hx : x < 4) (hy : y < 4) (hxy : x ≠ y) (hh2 : hh < 2) (hl : l < 2) (h1 : a1 = tl_a1 x y hh) (h : post (nI (tl_pn x y (tl_k hh 1 l)))) : wpX_leafPair post (md, hg, kn, lv, lf, cm, lt, a1, a2, a3, a4, a5, a6, a7, a8, a9, a10, a11, a12, a13, a14, a15, a16, a17, a18, a19, a20, a21) (nI l) :=
  tl_w_lp l hl (by rw [h1, tl_lfD x hx y hy hxy hh hh2 l hl]; exact h)
/-- which trees are of a kind -/
def tl_isb (k : Nat) (a b : Bool) : Bool := match k with | 0 => a | 1 => b | 2 => a && b | 3 => a || b | 4 => a && !b | 6 => true | _ => !a && !b
def tl_is (f0 f1 : Int32) (k : Nat) (p : Int32) : Int32 := if tl_isb k (!decide (((p &&& 15) &&& f0) = 0)) (!decide (((p >>> ((4 : Int32) &&& 31)) &&& f1) = 0)) then 1 else 0
theorem tl_is38 {post : Int32 → Prop} (a b : Bool) : ∀ k, k < 7 → post (if tl_isb k a b then 1 else 0) → wX_isOf_38 post (nI k) (if a then 1 else 0) (if b then 1 else 0) md hg kn lv lf cm lt a1 a2 a3 a4 a5 a6 a7 a8 a9 a10 a11 a12 a13 a14 a15 a16 a17 a18 a19 a20 a21 := by
  intro k hk h
  unfold wX_isOf_38
  have hk' : k = 0 ∨ k = 1 ∨ k = 2 ∨ k = 3 ∨ k = 4 ∨ k = 5 ∨ k = 6 := by omega
  rcases hk' with e | e | e | e | e | e | e <;> subst e <;> cases a <;> cases b <;>
    repeat (first | exact h | exact ⟨by rfl, h⟩ | refine br_t (by decide) ?_ | refine br_f (by decide) ?_)
theorem tl_w_is {post : Int32 → Prop} (k : Nat) (hk : k < 7) (p : Int32) (h : post (tl_is (a4 0) (a4 1) k p)) : wpX_isOf post (md, hg, kn, lv, lf, cm, lt, a1, a2, a3, a4, a5, a6, a7, a8, a9, a10, a11, a12, a13, a14, a15, a16, a17, a18, a19, a20, a21) (nI k) p := by
  unfold tl_is at h
  unfold wpX_isOf
  refine br_c (fun c => ?_) (fun c => ?_) <;> unfold wX_isOf_19 <;> refine br_c (fun d => ?_) (fun d => ?_)
  · rw [decide_eq_true c, decide_eq_true d] at h
    exact tl_is38 false false k hk h
  · rw [decide_eq_true c, decide_eq_false d] at h
    exact tl_is38 false true k hk h
  · rw [decide_eq_false c, decide_eq_true d] at h
    exact tl_is38 true false k hk h
  · rw [decide_eq_false c, decide_eq_false d] at h
    exact tl_is38 true true k hk h
theorem tl_is01 (f0 f1 : Int32) (k : Nat) (p : Int32) : tl_is f0 f1 k p = 0 ∨ tl_is f0 f1 k p = 1 := by
  unfold tl_is
  split
  · exact Or.inr rfl
  · exact Or.inl rfl
/-- the rules -/
theorem tl_w_ba {post : Int32 → Prop} {m : Nat} (hm : m < 2) (h : post 0) : wpX_badAutomaton post (md, hg, kn, lv, lf, cm, lt, a1, a2, a3, a4, a5, a6, a7, a8, a9, a10, a11, a12, a13, a14, a15, a16, a17, a18, a19, a20, a21) (nI m) := by
  unfold wpX_badAutomaton
  exact pk_lt m 0 (fun z => absurd z (by omega)) (fun _ => pk_le m 1 (fun _ => h) (fun z => absurd z (by omega)))
theorem tl_w_bs {post : Int32 → Prop} {v : Nat} (hv : v < 16) (h : post 0) : wpX_badSet post (md, hg, kn, lv, lf, cm, lt, a1, a2, a3, a4, a5, a6, a7, a8, a9, a10, a11, a12, a13, a14, a15, a16, a17, a18, a19, a20, a21) (nI v) := by
  unfold wpX_badSet
  exact pk_lt v 0 (fun z => absurd z (by omega)) (fun _ => pk_le v 15 (fun _ => h) (fun z => absurd z (by omega)))
theorem tl_w_bk {post : Int32 → Prop} {k : Nat} (hk : k < 7) (h : post 0) : wpX_badKind post (md, hg, kn, lv, lf, cm, lt, a1, a2, a3, a4, a5, a6, a7, a8, a9, a10, a11, a12, a13, a14, a15, a16, a17, a18, a19, a20, a21) (nI k) := by
  unfold wpX_badKind
  exact pk_lt k 0 (fun z => absurd z (by omega)) (fun _ => pk_le k 6 (fun _ => h) (fun z => absurd z (by omega)))
theorem tl_w_leafRule {post : Int32 → St2 → Prop} {m l v : Nat} (hm : m < 2) (hl : l < 2) (hv : v < 16) (h : post (a1 (2 * m + l)) (md, hg, 0, lv, lf, cm, lt, upd a1 (2 * m + l) (nI v), a2, a3, a4, a5, a6, a7, a8, a9, a10, a11, a12, a13, a14, a15, a16, a17, a18, a19, a20, a21)) : wpX_leafRule post (md, hg, kn, lv, lf, cm, lt, a1, a2, a3, a4, a5, a6, a7, a8, a9, a10, a11, a12, a13, a14, a15, a16, a17, a18, a19, a20, a21) (nI m) (nI l) (nI v) := by
  unfold wpX_leafRule
  refine tl_w_ba hm (br_t rfl (pk_lt l 0 (fun z => absurd z (by omega)) (fun _ => pk_lt 1 l (fun z => absurd z (by omega)) (fun _ => tl_w_bs hv (br_t rfl ?_)))))
  exact ⟨pk_in (2 * m + l) 4 (by omega) (tl_l2 m l), nm_r (tl_rd (2 * m + l) (tl_l2 m l) (by omega) rfl) ⟨pk_in (2 * m + l) 4 (by omega) (tl_l2 m l), nm_r (tl_wr (2 * m + l) (tl_l2 m l) (by omega) (tl_n8 v (by omega))) h⟩⟩
theorem tl_w_oneRule {post : Int32 → St2 → Prop} {m l v : Nat} (hm : m < 2) (hl : l < 4) (hv : v < 16) (h : post (a2 (4 * m + l)) (md, hg, 0, lv, lf, cm, lt, a1, upd a2 (4 * m + l) (nI v), a3, a4, a5, a6, a7, a8, a9, a10, a11, a12, a13, a14, a15, a16, a17, a18, a19, a20, a21)) : wpX_oneRule post (md, hg, kn, lv, lf, cm, lt, a1, a2, a3, a4, a5, a6, a7, a8, a9, a10, a11, a12, a13, a14, a15, a16, a17, a18, a19, a20, a21) (nI m) (nI l) (nI v) := by
  unfold wpX_oneRule
  refine tl_w_ba hm (br_t rfl (pk_lt l 0 (fun z => absurd z (by omega)) (fun _ => pk_lt 3 l (fun z => absurd z (by omega)) (fun _ => tl_w_bs hv (br_t rfl ?_)))))
  exact ⟨pk_in (4 * m + l) 8 (by omega) (tl_l4 m l), nm_r (tl_rd (4 * m + l) (tl_l4 m l) (by omega) rfl) ⟨pk_in (4 * m + l) 8 (by omega) (tl_l4 m l), nm_r (tl_wr (4 * m + l) (tl_l4 m l) (by omega) (tl_n8 v (by omega))) h⟩⟩
theorem tl_w_twoRule {post : Int32 → St2 → Prop} {m l v : Nat} (hm : m < 2) (hl : l < 16) (hv : v < 16) (h : post (a3 (16 * m + l)) (md, hg, 0, lv, lf, cm, lt, a1, a2, upd a3 (16 * m + l) (nI v), a4, a5, a6, a7, a8, a9, a10, a11, a12, a13, a14, a15, a16, a17, a18, a19, a20, a21)) : wpX_twoRule post (md, hg, kn, lv, lf, cm, lt, a1, a2, a3, a4, a5, a6, a7, a8, a9, a10, a11, a12, a13, a14, a15, a16, a17, a18, a19, a20, a21) (nI m) (nI l) (nI v) := by
  unfold wpX_twoRule
  refine tl_w_ba hm (br_t rfl (tl_w_bs hl (br_t rfl (tl_w_bs hv (br_t rfl ?_)))))
  exact ⟨pk_in (16 * m + l) 32 (by omega) (tl_l16 m l), nm_r (tl_rd (16 * m + l) (tl_l16 m l) (by omega) rfl) ⟨pk_in (16 * m + l) 32 (by omega) (tl_l16 m l), nm_r (tl_wr (16 * m + l) (tl_l16 m l) (by omega) (tl_n8 v (by omega))) h⟩⟩
theorem tl_w_finals {post : Int32 → St2 → Prop} {m v : Nat} (hm : m < 2) (hv : v < 16) (h : post (a4 m) (md, hg, kn, lv, lf, cm, lt, a1, a2, a3, upd a4 m (nI v), a5, a6, a7, a8, a9, a10, a11, a12, a13, a14, a15, a16, a17, a18, a19, a20, a21)) : wpX_finals post (md, hg, kn, lv, lf, cm, lt, a1, a2, a3, a4, a5, a6, a7, a8, a9, a10, a11, a12, a13, a14, a15, a16, a17, a18, a19, a20, a21) (nI m) (nI v) := by
  unfold wpX_finals
  refine tl_w_ba hm (br_t rfl (tl_w_bs hv (br_t rfl ?_)))
  exact ⟨pk_in m 2 (by omega), nm_r (tl_rd m rfl (by omega) rfl) ⟨pk_in m 2 (by omega), nm_r (tl_wr m rfl (by omega) (tl_n8 v (by omega))) h⟩⟩
end
end
section
/-- the table: rows below n are right, row n holds r, rows above hold 0 -/
def tl_T (x y hh n : Nat) (r : Nat → Nat) (a : Nat → Int32) : Prop := ∀ m p, 1 ≤ m → m ≤ 7 → p < 256 → a (256 * m + p) = nI (if m < n then tl_C x y hh m p else if m = n then r p else 0)
def tl_Tab (x y hh : Nat) (a : Nat → Int32) : Prop := ∀ m p, 1 ≤ m → m ≤ 7 → p < 256 → a (256 * m + p) = nI (tl_C x y hh m p)
def tl_rw (x y : Nat) (s : Nat × Nat) (p : Nat) : Nat := if p = tl_pn x y 0 then s.1 else if p = tl_pn x y 1 then s.2 else 0
def tl_ad (s d : Nat) (r : Nat × Nat) : Nat × Nat := if s = 0 then (r.1 + d, r.2) else (r.1, r.2 + d)
def tl_gt (s : Nat) (r : Nat × Nat) : Nat := if s = 0 then r.1 else r.2
theorem tl_T_lo {x y hh n : Nat} {r : Nat → Nat} {a : Nat → Int32} (H : tl_T x y hh n r a) {m p : Nat} (h1 : 1 ≤ m) (h7 : m ≤ 7) (hp : p < 256) (hm : m < n) : a (256 * m + p) = nI (tl_C x y hh m p) := by
  rw [H m p h1 h7 hp, if_pos hm]
theorem tl_T_at {x y hh n : Nat} {r : Nat → Nat} {a : Nat → Int32} (H : tl_T x y hh n r a) {p : Nat} (h1 : 1 ≤ n) (h7 : n ≤ 7) (hp : p < 256) : a (256 * n + p) = nI (r p) := by
  rw [H n p h1 h7 hp, if_neg (by omega), if_pos rfl]
theorem tl_T_put {x y hh n : Nat} {r r' : Nat → Nat} {a : Nat → Int32} (H : tl_T x y hh n r a) {k v : Nat} (hk : k < 256) (hv : r' k = v) (hr : ∀ p, p < 256 → p ≠ k → r' p = r p) : tl_T x y hh n r' (upd a (256 * n + k) (nI v)) := by
  intro m p h1 h7 hp
  by_cases e : 256 * m + p = 256 * n + k
  · have em : m = n := by omega
    have ep : p = k := by omega
    rw [e, pk_us, if_neg (by omega), if_pos em, ep, hv]
  · rw [pk_un e, H m p h1 h7 hp]
    by_cases em : m = n
    · subst em
      rw [if_neg (Nat.lt_irrefl m), if_neg (Nat.lt_irrefl m), if_pos rfl, if_pos rfl, hr p hp (fun z => e (by rw [z]))]
    · by_cases el : m < n
      · rw [if_pos el, if_pos el]
      · rw [if_neg el, if_neg el, if_neg em, if_neg em]
theorem tl_T_next {x y hh n : Nat} {r : Nat → Nat} {a : Nat → Int32} (H : tl_T x y hh n r a) (hr : ∀ p, p < 256 → r p = tl_C x y hh n p) : tl_T x y hh (n + 1) (fun _ => 0) a := by
  intro m p h1 h7 hp
  rw [H m p h1 h7 hp]
  by_cases el : m < n
  · rw [if_pos el, if_pos (by omega)]
  · by_cases em : m = n
    · rw [if_neg el, if_pos em, if_pos (by omega), hr p hp, em]
    · rw [if_neg el, if_neg em, if_neg (by omega)]
      by_cases e : m = n + 1
      · rw [if_pos e]
      · rw [if_neg e]
theorem tl_rw_at {x y s : Nat} (hx : x < 4) (hy : y < 4) (hxy : x ≠ y) (hs : s < 2) (r : Nat × Nat) : tl_rw x y r (tl_pn x y s) = tl_gt s r := by
  unfold tl_rw tl_gt
  have h : s = 0 ∨ s = 1 := by omega
  rcases h with e | e <;> subst e
  · rw [if_pos rfl, if_pos rfl]
  · rw [if_neg (tl_pn_ne x hx y hy hxy 1 (by decide) 0 (by decide) (by decide)), if_pos rfl, if_neg (by decide)]
theorem tl_rw_ad {x y s d : Nat} (hx : x < 4) (hy : y < 4) (hxy : x ≠ y) (hs : s < 2) (r : Nat × Nat) {p : Nat} (hp : p ≠ tl_pn x y s) : tl_rw x y (tl_ad s d r) p = tl_rw x y r p := by
  unfold tl_rw tl_ad
  have h : s = 0 ∨ s = 1 := by omega
  rcases h with e | e <;> subst e
  · rw [if_neg hp, if_neg hp, if_pos rfl]
  · rw [if_neg (show ¬ (1 = 0) by decide)]
    by_cases e0 : p = tl_pn x y 0
    · rw [if_pos e0, if_pos e0]
    · rw [if_neg e0, if_neg e0, if_neg hp, if_neg hp]
theorem tl_gt_ad {s d : Nat} (r : Nat × Nat) : tl_gt s (tl_ad s d r) = tl_gt s r + d := by
  unfold tl_gt tl_ad
  by_cases e : s = 0
  · rw [if_pos e, if_pos e, if_pos e]
  · rw [if_neg e, if_neg e, if_neg e]
/-- one more tree in row n -/
theorem tl_T_add {x y hh n s d : Nat} {r : Nat × Nat} {a : Nat → Int32} (hx : x < 4) (hy : y < 4) (hxy : x ≠ y) (hs : s < 2) (H : tl_T x y hh n (tl_rw x y r) a) : tl_T x y hh n (tl_rw x y (tl_ad s d r)) (upd a (256 * n + tl_pn x y s) (nI (tl_gt s r + d))) :=
  tl_T_put H (tl_pn_lt x hx y hy s (by omega)) (by rw [tl_rw_at hx hy hxy hs, tl_gt_ad]) (fun p _ hp => tl_rw_ad hx hy hxy hs r hp)
theorem tl_short {u d : Nat} (hu : u < 1000) (hd : d < 1000) : (nI u + (nI d).toInt16.toInt32).toInt16.toInt32 = nI (u + d) := by
  rw [tl_n16 d (by omega), nI_add, tl_n16 (u + d) (by omega)]
theorem tl_ad_comm (a b d : Nat) (r : Nat × Nat) : tl_ad a d (tl_ad b d r) = tl_ad b d (tl_ad a d r) := by
  unfold tl_ad
  by_cases ea : a = 0 <;> by_cases eb : b = 0 <;> simp [ea, eb]
theorem tl_gt_le {s b d : Nat} {r : Nat × Nat} {M : Nat} (h1 : r.1 + d < M) (h2 : r.2 + d < M) : tl_gt s r < M ∧ tl_gt s (tl_ad b d r) < M := by
  unfold tl_gt tl_ad
  constructor
  · split <;> omega
  · by_cases eb : b = 0
    · rw [if_pos eb]; split <;> dsimp only <;> omega
    · rw [if_neg eb]; split <;> dsimp only <;> omega
section
variable {md hg kn lv lf cm lt : Int32} {a1 a2 a3 a4 a5 a6 a7 a8 a9 a10 a11 a12 a13 a14 a15 a16 a17 a18 a19 a20 a21 : Nat → Int32}
theorem tl_w_cw2 {post : St2 → Prop} {x y hh n i s : Nat} (hx : x < 4) (hy : y < 4) (hxy : x ≠ y) (h3 : a3 = tl_a3 x y) (hn : n ≤ 7) (hi : 1 ≤ i) (hin : i + 1 < n) (hs : s < 2) (r : Nat × Nat) (hr1 : r.1 < 500) (hr2 : r.2 < 500)
    (hd : tl_e i * tl_e (n - 1 - i) < 400) (hT : tl_T x y hh n (tl_rw x y r) a14)
    (hp : ∀ b, tl_T x y hh n (tl_rw x y (r.1 + tl_e i * tl_e (n - 1 - i), r.2 + tl_e i * tl_e (n - 1 - i))) b → post (md, hg, kn, lv, lf, cm, lt, a1, a2, a3, a4, a5, a6, a7, a8, a9, a10, a11, a12, a13, b, a15, a16, a17, a18, a19, a20, a21)) : wpX_countWithTwo post (md, hg, kn, lv, lf, cm, lt, a1, a2, a3, a4, a5, a6, a7, a8, a9, a10, a11, a12, a13, a14, a15, a16, a17, a18, a19, a20, a21) (nI n) (nI i) (nI (tl_q x y hh i s)) := by
  have hq := tl_q_lt hx hy hh i s
  have ei := tl_e_pos i (by omega) hi
  have ej := tl_e_pos (n - 1 - i) (by omega) (by omega)
  unfold wpX_countWithTwo
  refine ⟨pk_in (256 * i + tl_q x y hh i s) 2048 (by omega) (tl_l256 _ _), nm_r (e' := nI (tl_e i)) (tl_rd _ (tl_l256 i _) (by omega) (by rw [tl_T_lo hT hi (by omega) hq (by omega), tl_C_q hs])) ?_⟩
  generalize hdd : tl_e i * tl_e (n - 1 - i) = d at *
  refine ⟨1 + 256, ?_⟩
  refine tl_two (fun fu j r => ∀ b, tl_T x y hh n (tl_rw x y r) b → wX_countWithTwo_17 post (nI n) (nI i) (nI (tl_q x y hh i s)) (nI (tl_e i)) md hg kn lv lf cm lt fu (nI j) a1 a2 a3 a4 a5 a6 a7 a8 a9 a10 a11 a12 a13 b a15 a16 a17 a18 a19 a20 a21) (fun s' => tl_q x y hh (n - 1 - i) s') (fun s' => tl_ad (tl_xr s s') d) r (tl_q_lt hx hy _ _ _) (tl_q_lt hx hy _ _ _) (tl_q_ne hx hy hxy _ _) (tl_ad_comm _ _ _ _) ?_ ?_ 1 ?_ a14 hT
  · intro fu j r' hj n0 n1 hw b hb
    refine pk_le 256 j (fun z => absurd z (by omega)) (fun _ => ⟨pk_in (256 * (n - 1 - i) + j) 2048 (by omega) (tl_i3 j (by omega)), nm_r (e' := nI 0) (by rw [tl_rd _ (tl_i3 j (show i + 1 ≤ n by omega)) (by omega) (tl_T_lo hb (show 1 ≤ n - 1 - i by omega) (by omega) hj (by omega)), tl_C_0 n0 n1, pk_mul, Nat.mul_zero]) (pk_le 0 0 (fun _ => nm_r (nI_1 j) (hw b hb)) (fun z => absurd z (by omega)))⟩)
  · intro fu s' r' hs' hr' hw b hb
    have hq' := tl_q_lt hx hy hh (n - 1 - i) s'
    have hb' : tl_gt (tl_xr s s') r' < 1000 := by
      rcases hr' with e | e
      · rw [e]; exact (tl_gt_le (s := tl_xr s s') (b := 0) (d := d) (by omega) (by omega)).1
      · rw [e]; exact (tl_gt_le (s := tl_xr s s') (d := d) (by omega) (by omega)).2
    have hpn := tl_pn_lt x hx y hy (tl_xr s s') (by have := tl_xr_lt s s'; omega)
    refine pk_le 256 (tl_q x y hh (n - 1 - i) s') (fun z => absurd z (by omega)) (fun _ => ⟨pk_in (256 * (n - 1 - i) + tl_q x y hh (n - 1 - i) s') 2048 (by omega) (tl_i3 _ (by omega)), nm_r (e' := nI d) (by rw [tl_rd _ (tl_i3 _ (show i + 1 ≤ n by omega)) (by omega) (tl_T_lo hb (show 1 ≤ n - 1 - i by omega) (by omega) hq' (by omega)), tl_C_q hs', pk_mul, hdd]) (pk_le d 0 (fun z => absurd z ?_) (fun _ => ?_))⟩)
    · have := Nat.mul_pos ei ej
      omega
    · refine tl_c_tp hx hy hxy (tl_k_lt _ _ _) (tl_k_lt _ _ _) h3 ?_
      rw [tl_st_k hs, tl_st_k hs']
      refine ⟨pk_in (256 * n + tl_pn x y (tl_xr s s')) 2048 (by omega) (tl_l256 _ _), pk_in (256 * n + tl_pn x y (tl_xr s s')) 2048 (by omega) (tl_l256 _ _), nm_r (e' := upd b (256 * n + tl_pn x y (tl_xr s s')) (nI (tl_gt (tl_xr s s') r' + d))) (tl_wr _ (tl_l256 _ _) (by omega) ?_) (nm_r (nI_1 _) (hw _ (tl_T_add hx hy hxy (tl_xr_lt _ _) hb)))⟩
      rw [tl_rd _ (tl_l256 _ _) (by omega) (tl_T_at hb (by omega) hn hpn), tl_rw_at hx hy hxy (tl_xr_lt _ _), tl_short hb' (by omega)]
  · intro b hb
    refine pk_le 256 256 (fun _ => hp b ?_) (fun z => absurd z (by omega))
    have : tl_ad (tl_xr s 0) d (tl_ad (tl_xr s 1) d r) = (r.1 + d, r.2 + d) := by
      have h : s = 0 ∨ s = 1 := by omega
      rcases h with e | e <;> subst e <;> rfl
    rw [this] at hb
    exact hb
def tl_U (n : Nat) : Nat → Nat
  | 0 => tl_e (n - 1)
  | i + 1 => tl_U n i + 2 * (tl_e i * tl_e (n - 1 - i))
theorem tl_U_end : ∀ n, n < 8 → 2 ≤ n → tl_U n (n - 1) = tl_e n := by decide
theorem tl_U_le : ∀ n, n < 8 → 2 ≤ n → ∀ i, i < 7 → i < n → tl_U n i < 200 := by decide
theorem tl_ee : ∀ n, n < 8 → 2 ≤ n → ∀ i, i < 7 → i + 1 < n → tl_e i * tl_e (n - 1 - i) < 100 := by decide
/-- one row of the second loop of countSize -/
theorem tl_w_row {post : St2 → Prop} {x y hh n i : Nat} (hx : x < 4) (hy : y < 4) (hxy : x ≠ y) (h3 : a3 = tl_a3 x y) (hn : n ≤ 7) (hi : 1 ≤ i) (hin : i + 1 < n) (u : Nat) (hu : u < 200)
    (fu : Nat) (hw : ∀ b, tl_T x y hh n (tl_rw x y (u + 2 * (tl_e i * tl_e (n - 1 - i)), u + 2 * (tl_e i * tl_e (n - 1 - i)))) b → wX_countSize_64 post (nI n) fu (nI (256 * (i + 1))) md hg kn lv lf cm lt a1 a2 a3 a4 a5 a6 a7 a8 a9 a10 a11 a12 a13 b a15 a16 a17 a18 a19 a20 a21) :
    ∀ b, tl_T x y hh n (tl_rw x y (u, u)) b → wX_countSize_64 post (nI n) (fu + 256) (nI (256 * i)) md hg kn lv lf cm lt a1 a2 a3 a4 a5 a6 a7 a8 a9 a10 a11 a12 a13 b a15 a16 a17 a18 a19 a20 a21 := by
  have hd := tl_ee n (by omega) (by omega) i (by omega) hin
  have ei := tl_e_pos i (by omega) hi
  refine tl_two (fun fu j r => ∀ b, tl_T x y hh n (tl_rw x y r) b → wX_countSize_64 post (nI n) fu (nI (256 * i + j)) md hg kn lv lf cm lt a1 a2 a3 a4 a5 a6 a7 a8 a9 a10 a11 a12 a13 b a15 a16 a17 a18 a19 a20 a21) (fun s => tl_q x y hh i s) (fun _ r => (r.1 + tl_e i * tl_e (n - 1 - i), r.2 + tl_e i * tl_e (n - 1 - i))) (u, u) (tl_q_lt hx hy _ _ _) (tl_q_lt hx hy _ _ _) (tl_q_ne hx hy hxy _ _) rfl ?_ ?_ fu ?_
  · intro fu j r hj n0 n1 hw b hb
    refine pk_le (256 * (n - 1)) (256 * i + j) (fun z => absurd z (by omega)) (fun _ => ⟨pk_in (256 * i + j) 2048 (by omega), pk_le 0 0 (fun _ => nm_r (nI_1 (256 * i + j)) (hw b hb)) (fun z => absurd z (by omega)) ?_⟩) ?_
    · exact tl_rd _ rfl (by omega) (by rw [tl_T_lo hb hi (by omega) hj (by omega), tl_C_0 n0 n1])
    · rw [tl_sub1 (by omega)]; exact pk_mul 256 (n - 1)
  · intro fu s r hs hr hw b hb
    have hq := tl_q_lt hx hy hh i s
    refine pk_le (256 * (n - 1)) (256 * i + tl_q x y hh i s) (fun z => absurd z (by omega)) (fun _ => ⟨pk_in (256 * i + tl_q x y hh i s) 2048 (by omega), pk_le (tl_e i) 0 (fun z => absurd z (by omega)) (fun _ => ⟨by decide, by decide, ?_⟩) ?_ rfl (by have := tl_e_lt i (by omega); omega)⟩) ?_
    · rw [show nI (256 * i + tl_q x y hh i s) / 256 = nI i from (pk_div (d := 256) (by omega) (by decide) (by decide)).trans (congrArg nI (by omega)), show nI (256 * i + tl_q x y hh i s) - nI i * 256 = nI (tl_q x y hh i s) from by
        rw [show nI i * 256 = nI (i * 256) from pk_mul i 256, pk_sub (by omega)]
        exact congrArg nI (by omega)]
      have hr' : r.1 < 500 ∧ r.2 < 500 := by
        rcases hr with e | e
        · rw [e]; exact ⟨by dsimp only; omega, by dsimp only; omega⟩
        · rw [e]; exact ⟨by dsimp only; omega, by dsimp only; omega⟩
      exact tl_w_cw2 hx hy hxy h3 hn hi hin hs r hr'.1 hr'.2 (by omega) hb (fun b' hb' => nm_r (nI_1 _) (hw b' hb'))
    · exact tl_rd _ rfl (by omega) (by rw [tl_T_lo hb hi (by omega) hq (by omega), tl_C_q hs])
    · rw [tl_sub1 (by omega)]; exact pk_mul 256 (n - 1)
  · intro b hb
    have e : (u + tl_e i * tl_e (n - 1 - i) + tl_e i * tl_e (n - 1 - i), u + tl_e i * tl_e (n - 1 - i) + tl_e i * tl_e (n - 1 - i)) = (u + 2 * (tl_e i * tl_e (n - 1 - i)), u + 2 * (tl_e i * tl_e (n - 1 - i))) := by rw [Nat.add_assoc, ← Nat.two_mul]
    have hb' : tl_T x y hh n (tl_rw x y (u + tl_e i * tl_e (n - 1 - i) + tl_e i * tl_e (n - 1 - i), u + tl_e i * tl_e (n - 1 - i) + tl_e i * tl_e (n - 1 - i))) b := hb
    rw [e] at hb'
    exact hw b hb'
theorem tl_w_rows {post : St2 → Prop} {x y hh n : Nat} (hx : x < 4) (hy : y < 4) (hxy : x ≠ y) (h3 : a3 = tl_a3 x y) (hn : n ≤ 7) (hn2 : 2 ≤ n)
    (hp : ∀ b, tl_T x y hh (n + 1) (fun _ => 0) b → post (md, hg, kn, lv, lf, cm, lt, a1, a2, a3, a4, a5, a6, a7, a8, a9, a10, a11, a12, a13, b, a15, a16, a17, a18, a19, a20, a21)) :
    ∀ k i, i + k + 1 = n → 1 ≤ i → ∀ b, tl_T x y hh n (tl_rw x y (tl_U n i, tl_U n i)) b → wX_countSize_64 post (nI n) (1 + 256 * k) (nI (256 * i)) md hg kn lv lf cm lt a1 a2 a3 a4 a5 a6 a7 a8 a9 a10 a11 a12 a13 b a15 a16 a17 a18 a19 a20 a21 := by
  intro k
  induction k with
  | zero =>
    intro i hi h1 b hb
    refine pk_le (256 * (n - 1)) (256 * i) (fun _ => hp b ?_) (fun z => absurd z (by omega)) ?_
    · refine tl_T_next hb (fun p hp => ?_)
      rw [show i = n - 1 by omega, tl_U_end n (by omega) hn2]
      unfold tl_rw tl_C tl_q
      rw [tl_k_big hn2 (by decide), tl_k_big hn2 (by decide)]
      by_cases e0 : p = tl_pn x y 0
      · rw [if_pos e0, if_pos (Or.inl e0)]
      · by_cases e1 : p = tl_pn x y 1
        · rw [if_neg e0, if_pos e1, if_pos (Or.inr e1)]
        · rw [if_neg e0, if_neg e1, if_neg (fun z => z.elim e0 e1)]
    · rw [tl_sub1 (by omega)]; exact pk_mul 256 (n - 1)
  | succ k ih =>
    intro i hi h1
    have := tl_w_row (post := post) (md := md) (hg := hg) (kn := kn) (lv := lv) (lf := lf) (cm := cm) (lt := lt) (a1 := a1) (a2 := a2) (a4 := a4) (a5 := a5) (a6 := a6) (a7 := a7) (a8 := a8) (a9 := a9) (a10 := a10) (a11 := a11) (a12 := a12) (a13 := a13) (a15 := a15) (a16 := a16) (a17 := a17) (a18 := a18) (a19 := a19) (a20 := a20) (a21 := a21) (hh := hh) hx hy hxy h3 hn h1 (show i + 1 < n by omega) (tl_U n i) (tl_U_le n (by omega) hn2 i (by omega) (by omega)) (1 + 256 * k) (ih (i + 1) (by omega) (by omega))
    rw [show 1 + 256 * (k + 1) = 1 + 256 * k + 256 by omega]
    exact this
theorem tl_w_size {post : St2 → Prop} {x y t hh n : Nat} (hx : x < 4) (hy : y < 4) (hxy : x ≠ y) (ht : t < 2) (h2 : a2 = tl_a2 x y t) (h3 : a3 = tl_a3 x y) (hn : n ≤ 7) (hn2 : 2 ≤ n)
    (hT : tl_T x y hh n (fun _ => 0) a14) (hp : ∀ b, tl_T x y hh (n + 1) (fun _ => 0) b → post (md, hg, kn, lv, lf, cm, lt, a1, a2, a3, a4, a5, a6, a7, a8, a9, a10, a11, a12, a13, b, a15, a16, a17, a18, a19, a20, a21)) : wpX_countSize post (md, hg, kn, lv, lf, cm, lt, a1, a2, a3, a4, a5, a6, a7, a8, a9, a10, a11, a12, a13, a14, a15, a16, a17, a18, a19, a20, a21) (nI n) := by
  have el := tl_e_lt (n - 1) (by omega)
  have ep := tl_e_pos (n - 1) (by omega) (by omega)
  unfold wpX_countSize
  refine ⟨1 + 256, ?_⟩
  refine tl_two (fun fu j r => ∀ b, tl_T x y hh n (tl_rw x y r) b → wX_countSize_2 post (nI n) md hg kn lv lf cm lt fu (nI j) a1 a2 a3 a4 a5 a6 a7 a8 a9 a10 a11 a12 a13 b a15 a16 a17 a18 a19 a20 a21) (fun s => tl_q x y hh (n - 1) s) (fun s => tl_ad (tl_xr s t) (tl_e (n - 1))) (0, 0) (tl_q_lt hx hy _ _ _) (tl_q_lt hx hy _ _ _) (tl_q_ne hx hy hxy _ _) (tl_ad_comm _ _ _ _) ?_ ?_ 1 ?_ a14 ?_
  · intro fu j r hj n0 n1 hw b hb
    refine pk_le 256 j (fun z => absurd z (by omega)) (fun _ => ⟨pk_in (256 * (n - 1) + j) 2048 (by omega) (tl_i2 j (by omega)), nm_r (e' := nI 0) (tl_rd _ (tl_i2 j (by omega)) (by omega) (by rw [tl_T_lo hb (by omega) (by omega) hj (by omega), tl_C_0 n0 n1])) (pk_le 0 0 (fun _ => nm_r (nI_1 j) (hw b hb)) (fun z => absurd z (by omega)))⟩)
  · intro fu s r hs hr hw b hb
    have hq := tl_q_lt hx hy hh (n - 1) s
    have hpn := tl_pn_lt x hx y hy (tl_xr s t) (by have := tl_xr_lt s t; omega)
    have hb' : tl_gt (tl_xr s t) r < 1000 := by
      rcases hr with e | e
      · rw [e]; exact (tl_gt_le (s := tl_xr s t) (b := 0) (d := tl_e (n - 1)) (by dsimp only; omega) (by dsimp only; omega)).1
      · rw [e]; exact (tl_gt_le (s := tl_xr s t) (d := tl_e (n - 1)) (by dsimp only; omega) (by dsimp only; omega)).2
    refine pk_le 256 (tl_q x y hh (n - 1) s) (fun z => absurd z (by omega)) (fun _ => ⟨pk_in (256 * (n - 1) + tl_q x y hh (n - 1) s) 2048 (by omega) (tl_i2 _ (by omega)), nm_r (e' := nI (tl_e (n - 1))) (tl_rd _ (tl_i2 _ (by omega)) (by omega) (by rw [tl_T_lo hb (by omega) (by omega) hq (by omega), tl_C_q hs])) (pk_le (tl_e (n - 1)) 0 (fun z => absurd z (by omega)) (fun _ => ?_))⟩)
    refine tl_c_op hx hy hxy ht (tl_k_lt _ _ _) h2 ?_
    rw [tl_st_k hs]
    refine ⟨pk_in (256 * n + tl_pn x y (tl_xr s t)) 2048 (by omega) (tl_l256 _ _), pk_in (256 * n + tl_pn x y (tl_xr s t)) 2048 (by omega) (tl_l256 _ _), nm_r (e' := upd b (256 * n + tl_pn x y (tl_xr s t)) (nI (tl_gt (tl_xr s t) r + tl_e (n - 1)))) (tl_wr _ (tl_l256 _ _) (by omega) ?_) (nm_r (nI_1 _) (hw _ (tl_T_add hx hy hxy (tl_xr_lt _ _) hb)))⟩
    rw [tl_rd _ (tl_l256 _ _) (by omega) (tl_T_at hb (by omega) hn hpn), tl_rw_at hx hy hxy (tl_xr_lt _ _), tl_short hb' (by omega)]
  · intro b hb
    refine pk_le 256 256 (fun _ => ⟨1 + 256 * (n - 2), ?_⟩) (fun z => absurd z (by omega))
    refine tl_w_rows hx hy hxy h3 hn hn2 hp (n - 2) 1 (by omega) (by omega) b ?_
    have : tl_ad (tl_xr 0 t) (tl_e (n - 1)) (tl_ad (tl_xr 1 t) (tl_e (n - 1)) (0, 0)) = (tl_e (n - 1), tl_e (n - 1)) := by
      have h : t = 0 ∨ t = 1 := by omega
      rcases h with e | e <;> subst e <;> simp [tl_xr, tl_ad]
    rw [this] at hb
    rw [show tl_U n 1 = tl_e (n - 1) from by show tl_e (n - 1) + 2 * (0 * _) = _; rw [Nat.zero_mul]; rfl]
    exact hb
  · intro m p h1 h7 hp
    rw [hT m p h1 h7 hp]
    have : tl_rw x y (0, 0) p = 0 := by
      unfold tl_rw
      split
      · rfl
      · split <;> rfl
    simp only [this]
/-- find: the table anew, or as it stands -/
theorem tl_w_find {post : St2 → Prop} {x y t hh : Nat} (hx : x < 4) (hy : y < 4) (hxy : x ≠ y) (ht : t < 2) (hh2 : hh < 2) (h1 : a1 = tl_a1 x y hh) (h2 : a2 = tl_a2 x y t) (h3 : a3 = tl_a3 x y)
    (hk : kn = 0 ∨ (kn = 1 ∧ tl_Tab x y hh a14)) (hp : ∀ b, tl_Tab x y hh b → post (md, hg, 1, lv, lf, cm, lt, a1, a2, a3, a4, a5, a6, a7, a8, a9, a10, a11, a12, a13, b, a15, a16, a17, a18, a19, a20, a21)) : wpX_find post (md, hg, kn, lv, lf, cm, lt, a1, a2, a3, a4, a5, a6, a7, a8, a9, a10, a11, a12, a13, a14, a15, a16, a17, a18, a19, a20, a21) := by
  unfold wpX_find
  rcases hk with hk | ⟨hk, hT⟩
  rotate_left
  · rw [hk]
    exact br_f (by decide) (hp a14 hT)
  refine br_t hk ?_
  refine pk_loop (fun n i b => wX_find_15 post md hg 1 lv lf cm lt n (nI i) a1 a2 a3 a4 a5 a6 a7 a8 a9 a10 a11 a12 a13 b a15 a16 a17 a18 a19 a20 a21) (fun i b => ∀ j, j < i → b j = 0) 2048 0 a14 (by omega) (fun j hj => absurd hj (by omega)) ?_ ?_
  · intro fu b hb
    refine pk_le 2048 2048 (fun _ => ?_) (fun z => absurd z (by omega))
    have T0 : tl_T x y hh 1 (fun _ => 0) b := by
      intro m p h1 h7 hp
      rw [hb _ (by omega), if_neg (by omega)]
      split <;> rfl
    have q0 := tl_q_lt hx hy hh 1 0
    have q1 := tl_q_lt hx hy hh 1 1
    have qn := tl_q_ne hx hy hxy hh 1
    have q0' : tl_pn x y (tl_k hh 1 0) < 256 := q0
    have q1' : tl_pn x y (tl_k hh 1 1) < 256 := q1
    have T1 : tl_T x y hh 1 (fun p => if p = tl_q x y hh 1 0 then 1 else 0) (upd b (256 * 1 + tl_q x y hh 1 0) (nI 1)) :=
      tl_T_put T0 q0 (if_pos rfl) (fun p _ hp => if_neg hp)
    have T2 : tl_T x y hh 1 (fun p => tl_C x y hh 1 p) (upd (upd b (256 * 1 + tl_q x y hh 1 0) (nI 1)) (256 * 1 + tl_q x y hh 1 1) (nI 1)) := by
      refine tl_T_put T1 q1 (tl_C_q (by decide)) (fun p _ hp => ?_)
      unfold tl_C
      by_cases e : p = tl_q x y hh 1 0
      · rw [if_pos e, if_pos (Or.inl e)]; rfl
      · rw [if_neg e, if_neg (fun z => z.elim e hp)]
    refine ⟨3, ?_⟩
    refine pk_le 2 0 (fun z => absurd z (by omega)) (fun _ => tl_c_lp hx hy hxy hh2 (show 0 < 2 by decide) h1 ?_)
    refine ⟨pk_in (256 + tl_q x y hh 1 0) 2048 (by omega) (nI_add 256 _), pk_in (256 + tl_q x y hh 1 0) 2048 (by omega) (nI_add 256 _), nm_r (tl_wr (256 * 1 + tl_q x y hh 1 0) (nI_add 256 _) (by omega) (v' := nI 1) ?_) (nm_r (nI_1 0) ?_)⟩
    · exact (congrArg (fun z : Int32 => (z + 1).toInt16.toInt32) (tl_rd (a := b) (256 * 1 + tl_q x y hh 1 0) (nI_add 256 _) (by omega) (tl_T_at T0 (by decide) (by decide) q0))).trans (by decide)
    refine pk_le 2 1 (fun z => absurd z (by omega)) (fun _ => tl_c_lp hx hy hxy hh2 (show 1 < 2 by decide) h1 ?_)
    refine ⟨pk_in (256 + tl_q x y hh 1 1) 2048 (by omega) (nI_add 256 _), pk_in (256 + tl_q x y hh 1 1) 2048 (by omega) (nI_add 256 _), nm_r (tl_wr (256 * 1 + tl_q x y hh 1 1) (nI_add 256 _) (by omega) (v' := nI 1) ?_) (nm_r (nI_1 1) ?_)⟩
    · have r1 := tl_T_at T1 (by decide) (by decide) q1
      rw [if_neg (fun z => qn z.symm)] at r1
      exact (congrArg (fun z : Int32 => (z + 1).toInt16.toInt32) (tl_rd (a := upd b (256 * 1 + tl_q x y hh 1 0) (nI 1)) (256 * 1 + tl_q x y hh 1 1) (nI_add 256 _) (by omega) r1)).trans (by decide)
    refine pk_le 2 2 (fun _ => ?_) (fun z => absurd z (by omega))
    refine pk_loop (fun n i b => wX_find_71 post n (nI i) md hg 1 lv lf cm lt a1 a2 a3 a4 a5 a6 a7 a8 a9 a10 a11 a12 a13 b a15 a16 a17 a18 a19 a20 a21) (fun i b => 2 ≤ i ∧ tl_T x y hh i (fun _ => 0) b) 8 2 _ (by omega) ⟨by omega, tl_T_next T2 (fun p _ => rfl)⟩ ?_ ?_
    · intro fu b hb
      replace hb := hb.2
      refine pk_lt 7 8 (fun _ => hp b (fun m p h1 h7 hp => tl_T_lo hb h1 h7 hp (by omega))) (fun z => absurd z (by omega))
    · intro fu i b hi hb hw
      have h2i := hb.1
      exact pk_lt 7 i (fun z => absurd z (by omega)) (fun _ => tl_w_size hx hy hxy ht h2 h3 (by omega) h2i hb.2 (fun b' hb' => nm_r (nI_1 i) (hw b' ⟨by omega, hb'⟩)))
  · intro fu i b hi hb hw
    exact pk_le 2048 i (fun z => absurd z (by omega)) (fun _ => ⟨pk_in i 2048 hi, nm_r (tl_wr i rfl (by omega) rfl) (nm_r (nI_1 i) (hw _ (fun j hj => by
      by_cases e : j = i
      · rw [e, pk_us]
      · rw [pk_un e]; exact hb j (by omega))))⟩)
/-- how many trees of a size and a kind -/
def tl_cv (x y hh : Nat) (f0 f1 : Int32) (k n : Nat) : Nat := (if tl_is f0 f1 k (nI (tl_q x y hh n 1)) = 0 then 0 else tl_e n) + (if tl_is f0 f1 k (nI (tl_q x y hh n 0)) = 0 then 0 else tl_e n)
theorem tl_w_countOf {post : Int32 → Prop} {x y hh k n : Nat} (hx : x < 4) (hy : y < 4) (hxy : x ≠ y) (hk : k < 7) (hn1 : 1 ≤ n) (hn : n ≤ 7) (hT : tl_Tab x y hh a14) (hp : post (nI (tl_cv x y hh (a4 0) (a4 1) k n))) : wpX_countOf post (md, hg, kn, lv, lf, cm, lt, a1, a2, a3, a4, a5, a6, a7, a8, a9, a10, a11, a12, a13, a14, a15, a16, a17, a18, a19, a20, a21) (nI k) (nI n) := by
  unfold wpX_countOf
  refine ⟨1 + 256, ?_⟩
  refine tl_two (fun fu i (r : Nat) => wX_countOf_5 post (nI k) (nI n) md hg kn lv lf cm lt a1 a2 a3 a4 a5 a6 a7 a8 a9 a10 a11 a12 a13 a14 a15 a16 a17 a18 a19 a20 a21 fu (nI r) (nI i)) (fun s => tl_q x y hh n s) (fun s r => r + (if tl_is (a4 0) (a4 1) k (nI (tl_q x y hh n s)) = 0 then 0 else tl_e n)) 0 (tl_q_lt hx hy _ _ _) (tl_q_lt hx hy _ _ _) (tl_q_ne hx hy hxy _ _) (Nat.add_right_comm _ _ _) ?_ ?_ 1 ?_
  · intro fu i r hi n0 n1 hw
    refine pk_le 256 i (fun z => absurd z (by omega)) (fun _ => tl_w_is k hk _ (br_c (fun c => nm_r (nI_1 i) hw) (fun c => ⟨pk_in (256 * n + i) 2048 (by omega) (tl_l256 _ _), nm_r (e' := nI r) ?_ (nm_r (nI_1 i) hw)⟩)))
    rw [tl_rd _ (tl_l256 n i) (by omega) (hT n i hn1 hn hi), tl_C_0 n0 n1, nI_add]; rfl
  · intro fu s r hs hr hw
    have hq := tl_q_lt hx hy hh n s
    refine pk_le 256 (tl_q x y hh n s) (fun z => absurd z (by omega)) (fun _ => tl_w_is k hk _ (br_c (fun c => nm_r (nI_1 _) ?_) (fun c => ⟨pk_in (256 * n + tl_q x y hh n s) 2048 (by omega) (tl_l256 _ _), nm_r (e' := nI (r + tl_e n)) ?_ (nm_r (nI_1 _) ?_)⟩)))
    · rw [if_pos c] at hw
      exact hw
    · rw [tl_rd _ (tl_l256 n _) (by omega) (hT n _ hn1 hn hq), tl_C_q hs, nI_add]
    · rw [if_neg c] at hw
      exact hw
  · refine pk_le 256 256 (fun _ => ?_) (fun z => absurd z (by omega))
    rw [Nat.zero_add]
    exact hp
theorem tl_w_count {post : Int32 → St2 → Prop} {x y t hh k n : Nat} (hx : x < 4) (hy : y < 4) (hxy : x ≠ y) (ht : t < 2) (hh2 : hh < 2) (h1 : a1 = tl_a1 x y hh) (h2 : a2 = tl_a2 x y t) (h3 : a3 = tl_a3 x y)
    (hkn : kn = 0 ∨ (kn = 1 ∧ tl_Tab x y hh a14)) (hk : k < 7) (hn1 : 1 ≤ n) (hn : n ≤ 7) (hp : ∀ b, tl_Tab x y hh b → post (nI (tl_cv x y hh (a4 0) (a4 1) k n)) (md, hg, 1, lv, lf, cm, lt, a1, a2, a3, a4, a5, a6, a7, a8, a9, a10, a11, a12, a13, b, a15, a16, a17, a18, a19, a20, a21)) : wpX_count post (md, hg, kn, lv, lf, cm, lt, a1, a2, a3, a4, a5, a6, a7, a8, a9, a10, a11, a12, a13, a14, a15, a16, a17, a18, a19, a20, a21) (nI k) (nI n) := by
  unfold wpX_count
  refine tl_w_bk hk (br_t rfl (pk_lt n 1 (fun z => absurd z (by omega)) (fun _ => pk_le n 7 (fun _ => ?_) (fun z => absurd z (by omega)))))
  exact tl_w_find hx hy hxy ht hh2 h1 h2 h3 hkn (fun b hb => tl_w_countOf hx hy hxy hk hn1 hn hb (hp b hb))
end
end
section
/-- what a level's weights are of: w s for the state s -/
def tl_w2 (w0 w1 s : Nat) : Nat := if s = 0 then w0 else w1
theorem tl_w2_lt {w0 w1 s M : Nat} (h0 : w0 < M) (h1 : w1 < M) : tl_w2 w0 w1 s < M := by unfold tl_w2; split <;> assumption
theorem tl_w2_xr {w0 w1 s : Nat} : tl_w2 w0 w1 (tl_xr 0 s) + tl_w2 w0 w1 (tl_xr 1 s) = w0 + w1 := by
  unfold tl_w2 tl_xr
  have h : s % 2 = 0 ∨ s % 2 = 1 := by omega
  rcases h with e | e
  · rw [if_pos (by omega), if_neg (by omega)]
  · rw [if_neg (by omega), if_pos (by omega), Nat.add_comm]
theorem tl_w2_xr' {w0 w1 s : Nat} : tl_w2 w0 w1 (tl_xr s 0) + tl_w2 w0 w1 (tl_xr s 1) = w0 + w1 := by
  unfold tl_w2 tl_xr
  have h : s % 2 = 0 ∨ s % 2 = 1 := by omega
  rcases h with e | e
  · rw [if_pos (by omega), if_neg (by omega)]
  · rw [if_neg (by omega), if_pos (by omega), Nat.add_comm]
/-- weights of a level l, as they are read for nodes with children -/
def tl_WL (x y : Nat) (a16 : Nat → Int32) (l w0 w1 : Nat) : Prop := ∀ s, s < 2 → a16 (256 * l + tl_pn x y s) = nI (tl_w2 w0 w1 s)
/-- weights of the next level while they are written -/
def tl_WI (x y n l : Nat) (w : Nat → Nat) (a : Nat → Int32) (i : Nat) (b : Nat → Int32) : Prop := (∀ j, j < 256 * (l + 1) → b j = a j) ∧ (∀ s, s < 2 → tl_q x y 1 n s < i → b (256 * (l + 1) + tl_q x y 1 n s) = nI (w s))
theorem tl_WI_0 {x y n l : Nat} {w : Nat → Nat} {a : Nat → Int32} : tl_WI x y n l w a 0 a := ⟨fun _ _ => rfl, fun _ _ z => absurd z (by omega)⟩
theorem tl_WI_put {x y n l i : Nat} {w : Nat → Nat} {a b : Nat → Int32} {v : Int32} (H : tl_WI x y n l w a i b) (hv : ∀ s, s < 2 → i = tl_q x y 1 n s → v = nI (w s)) : tl_WI x y n l w a (i + 1) (upd b (256 * (l + 1) + i) v) := by
  refine ⟨fun j hj => ?_, fun s hs hq => ?_⟩
  · rw [pk_un (by omega)]; exact H.1 j hj
  · by_cases e : i = tl_q x y 1 n s
    · rw [← e, pk_us]; exact hv s hs e
    · rw [pk_un (by omega)]; exact H.2 s hs (by omega)
theorem tl_qs (x y n p : Nat) : (∃ s, s < 2 ∧ p = tl_q x y 1 n s) ∨ (p ≠ tl_q x y 1 n 0 ∧ p ≠ tl_q x y 1 n 1) := by
  by_cases e0 : p = tl_q x y 1 n 0
  · exact Or.inl ⟨0, by decide, e0⟩
  · by_cases e1 : p = tl_q x y 1 n 1
    · exact Or.inl ⟨1, by decide, e1⟩
    · exact Or.inr ⟨e0, e1⟩
section
variable {md hg kn lv lf cm lt : Int32} {a1 a2 a3 a4 a5 a6 a7 a8 a9 a10 a11 a12 a13 a14 a15 a16 a17 a18 a19 a20 a21 : Nat → Int32}
theorem tl_w_one {post : Int32 → Prop} {x y t n l w0 w1 : Nat} (hx : x < 4) (hy : y < 4) (hxy : x ≠ y) (ht : t < 2) (h2 : a2 = tl_a2 x y t) (hT : tl_Tab x y 1 a14) (hn2 : 2 ≤ n) (hn : n ≤ 7) (hlv : lv = nI l) (hl : l < 8) (hw : tl_WL x y a16 l w0 w1)
    (hp : post (nI (tl_e (n - 1) * (w0 + w1)))) : wpX_withOne post (md, hg, kn, lv, lf, cm, lt, a1, a2, a3, a4, a5, a6, a7, a8, a9, a10, a11, a12, a13, a14, a15, a16, a17, a18, a19, a20, a21) (nI n) := by
  have ep := tl_e_pos (n - 1) (by omega) (by omega)
  have el := tl_e_lt (n - 1) (by omega)
  unfold wpX_withOne
  rw [hlv]
  refine ⟨1 + 256, ?_⟩
  refine tl_two (fun fu i (r : Nat) => wX_withOne_4 post (nI n) md hg kn (nI l) lf cm lt a1 a2 a3 a4 a5 a6 a7 a8 a9 a10 a11 a12 a13 a14 a15 a16 a17 a18 a19 a20 a21 fu (nI r) (nI i)) (fun s => tl_q x y 1 (n - 1) s) (fun s r => r + tl_e (n - 1) * tl_w2 w0 w1 (tl_xr s t)) 0 (tl_q_lt hx hy _ _ _) (tl_q_lt hx hy _ _ _) (tl_q_ne hx hy hxy _ _) (Nat.add_right_comm _ _ _) ?_ ?_ 1 ?_
  · intro fu i r hi n0 n1 hw
    exact pk_le 256 i (fun z => absurd z (by omega)) (fun _ => ⟨pk_in (256 * (n - 1) + i) 2048 (by omega) (tl_i2 i (by omega)), nm_r (e' := nI 0) (tl_rd _ (tl_i2 i (by omega)) (by omega) (by rw [hT (n - 1) i (by omega) (by omega) hi, tl_C_0 n0 n1])) (pk_le 0 0 (fun _ => nm_r (nI_1 i) hw) (fun z => absurd z (by omega)))⟩)
  · intro fu s r hs _ hk
    have hq := tl_q_lt hx hy 1 (n - 1) s
    have hpn := tl_pn_lt x hx y hy (tl_xr s t) (by have := tl_xr_lt s t; omega)
    refine pk_le 256 (tl_q x y 1 (n - 1) s) (fun z => absurd z (by omega)) (fun _ => ⟨pk_in (256 * (n - 1) + tl_q x y 1 (n - 1) s) 2048 (by omega) (tl_i2 _ (by omega)), nm_r (e' := nI (tl_e (n - 1))) (tl_rd _ (tl_i2 _ (by omega)) (by omega) (by rw [hT (n - 1) _ (by omega) (by omega) hq, tl_C_q hs])) (pk_le (tl_e (n - 1)) 0 (fun z => absurd z (by omega)) (fun _ => ?_))⟩)
    refine tl_c_op hx hy hxy ht (tl_k_lt _ _ _) h2 ?_
    rw [tl_st_k hs]
    refine ⟨pk_in (256 * l + tl_pn x y (tl_xr s t)) 2048 (by omega) (tl_l256 _ _), nm_r (e' := nI (r + tl_e (n - 1) * tl_w2 w0 w1 (tl_xr s t))) ?_ (nm_r (nI_1 _) hk)⟩
    rw [tl_rd _ (tl_l256 l _) (by omega) (hw _ (tl_xr_lt _ _)), pk_mul, nI_add]
  · refine pk_le 256 256 (fun _ => ?_) (fun z => absurd z (by omega))
    rw [show 0 + tl_e (n - 1) * tl_w2 w0 w1 (tl_xr 1 t) + tl_e (n - 1) * tl_w2 w0 w1 (tl_xr 0 t) = tl_e (n - 1) * (w0 + w1) from by
      rw [Nat.zero_add, ← Nat.mul_add, Nat.add_comm (tl_w2 _ _ _), tl_w2_xr]]
    exact hp
theorem tl_w_bes {post : Int32 → Prop} {x y n i s l w0 w1 : Nat} (hx : x < 4) (hy : y < 4) (hxy : x ≠ y) (h3 : a3 = tl_a3 x y) (hT : tl_Tab x y 1 a14) (hn1 : 1 ≤ n) (hn : n ≤ 7) (hs : s < 2) (hlv : lv = nI l) (hl : l < 8) (hw : tl_WL x y a16 l w0 w1)
    (hp : post (nI (tl_e n * (w0 + w1)))) : wpX_besides post (md, hg, kn, lv, lf, cm, lt, a1, a2, a3, a4, a5, a6, a7, a8, a9, a10, a11, a12, a13, a14, a15, a16, a17, a18, a19, a20, a21) (nI (tl_q x y 1 i s)) (nI n) := by
  have ep := tl_e_pos n (by omega) (by omega)
  have el := tl_e_lt n (by omega)
  unfold wpX_besides
  rw [hlv]
  refine ⟨1 + 256, ?_⟩
  refine tl_two (fun fu j (r : Nat) => wX_besides_5 post (nI (tl_q x y 1 i s)) (nI n) md hg kn (nI l) lf cm lt a1 a2 a3 a4 a5 a6 a7 a8 a9 a10 a11 a12 a13 a14 a15 a16 a17 a18 a19 a20 a21 fu (nI r) (nI j)) (fun s => tl_q x y 1 n s) (fun s' r => r + tl_e n * tl_w2 w0 w1 (tl_xr s s')) 0 (tl_q_lt hx hy _ _ _) (tl_q_lt hx hy _ _ _) (tl_q_ne hx hy hxy _ _) (Nat.add_right_comm _ _ _) ?_ ?_ 1 ?_
  · intro fu i r hi n0 n1 hw
    exact pk_le 256 i (fun z => absurd z (by omega)) (fun _ => ⟨pk_in (256 * n + i) 2048 (by omega) (tl_l256 _ _), nm_r (e' := nI 0) (tl_rd _ (tl_l256 n i) (by omega) (by rw [hT n i (by omega) (by omega) hi, tl_C_0 n0 n1])) (pk_le 0 0 (fun _ => nm_r (nI_1 i) hw) (fun z => absurd z (by omega)))⟩)
  · intro fu s' r hs' _ hk
    have hq := tl_q_lt hx hy 1 n s'
    have hpn := tl_pn_lt x hx y hy (tl_xr s s') (by have := tl_xr_lt s s'; omega)
    refine pk_le 256 (tl_q x y 1 n s') (fun z => absurd z (by omega)) (fun _ => ⟨pk_in (256 * n + tl_q x y 1 n s') 2048 (by omega) (tl_l256 _ _), nm_r (e' := nI (tl_e n)) (tl_rd _ (tl_l256 n _) (by omega) (by rw [hT n _ (by omega) (by omega) hq, tl_C_q hs'])) (pk_le (tl_e n) 0 (fun z => absurd z (by omega)) (fun _ => ?_))⟩)
    refine tl_c_tp hx hy hxy (tl_k_lt _ _ _) (tl_k_lt _ _ _) h3 ?_
    rw [tl_st_k hs, tl_st_k hs']
    refine ⟨pk_in (256 * l + tl_pn x y (tl_xr s s')) 2048 (by omega) (tl_l256 _ _), nm_r (e' := nI (r + tl_e n * tl_w2 w0 w1 (tl_xr s s'))) ?_ (nm_r (nI_1 _) hk)⟩
    rw [tl_rd _ (tl_l256 l _) (by omega) (hw _ (tl_xr_lt _ _)), pk_mul, nI_add]
  · refine pk_le 256 256 (fun _ => ?_) (fun z => absurd z (by omega))
    rw [show 0 + tl_e n * tl_w2 w0 w1 (tl_xr s 1) + tl_e n * tl_w2 w0 w1 (tl_xr s 0) = tl_e n * (w0 + w1) from by
      rw [Nat.zero_add, ← Nat.mul_add, Nat.add_comm (tl_w2 _ _ _), tl_w2_xr']]
    exact hp
theorem tl_w_two {post : Int32 → Prop} {x y n i l w0 w1 : Nat} (hx : x < 4) (hy : y < 4) (hxy : x ≠ y) (h3 : a3 = tl_a3 x y) (hT : tl_Tab x y 1 a14) (hi : 1 ≤ i) (hin : i + 1 < n) (hn : n ≤ 7) (hlv : lv = nI l) (hl : l < 8) (hw : tl_WL x y a16 l w0 w1)
    (hp : post (nI (2 * (tl_e i * tl_e (n - 1 - i)) * (w0 + w1)))) : wpX_withTwo post (md, hg, kn, lv, lf, cm, lt, a1, a2, a3, a4, a5, a6, a7, a8, a9, a10, a11, a12, a13, a14, a15, a16, a17, a18, a19, a20, a21) (nI n) (nI i) := by
  have ep := tl_e_pos i (by omega) (by omega)
  have el := tl_e_lt i (by omega)
  unfold wpX_withTwo
  refine ⟨1 + 256, ?_⟩
  refine tl_two (fun fu j (r : Nat) => wX_withTwo_5 post (nI n) (nI i) md hg kn lv lf cm lt a1 a2 a3 a4 a5 a6 a7 a8 a9 a10 a11 a12 a13 a14 a15 a16 a17 a18 a19 a20 a21 fu (nI r) (nI j)) (fun s => tl_q x y 1 i s) (fun _ r => r + tl_e i * (tl_e (n - 1 - i) * (w0 + w1))) 0 (tl_q_lt hx hy _ _ _) (tl_q_lt hx hy _ _ _) (tl_q_ne hx hy hxy _ _) rfl ?_ ?_ 1 ?_
  · intro fu j r hj n0 n1 hw
    exact pk_le 256 j (fun z => absurd z (by omega)) (fun _ => ⟨pk_in (256 * i + j) 2048 (by omega) (tl_l256 _ _), nm_r (e' := nI 0) (tl_rd _ (tl_l256 i j) (by omega) (by rw [hT i j (by omega) (by omega) hj, tl_C_0 n0 n1])) (pk_le 0 0 (fun _ => nm_r (nI_1 j) hw) (fun z => absurd z (by omega)))⟩)
  · intro fu s r hs _ hk
    have hq := tl_q_lt hx hy 1 i s
    refine pk_le 256 (tl_q x y 1 i s) (fun z => absurd z (by omega)) (fun _ => ⟨pk_in (256 * i + tl_q x y 1 i s) 2048 (by omega) (tl_l256 _ _), nm_r (e' := nI (tl_e i)) (tl_rd _ (tl_l256 i _) (by omega) (by rw [hT i _ (by omega) (by omega) hq, tl_C_q hs])) (pk_le (tl_e i) 0 (fun z => absurd z (by omega)) (fun _ => ?_))⟩)
    rw [tl_sub2 (show i + 1 ≤ n by omega)]
    exact tl_w_bes hx hy hxy h3 hT (by omega) (by omega) hs hlv hl hw (nm_r (e' := nI (r + tl_e i * (tl_e (n - 1 - i) * (w0 + w1)))) (by rw [pk_mul, nI_add]) (nm_r (nI_1 _) hk))
  · refine pk_le 256 256 (fun _ => ?_) (fun z => absurd z (by omega))
    rw [show 0 + tl_e i * (tl_e (n - 1 - i) * (w0 + w1)) + tl_e i * (tl_e (n - 1 - i) * (w0 + w1)) = 2 * (tl_e i * tl_e (n - 1 - i)) * (w0 + w1) from by
      rw [Nat.zero_add, ← Nat.two_mul, Nat.mul_assoc, Nat.mul_assoc]]
    exact hp
theorem tl_w_start {post : St2 → Prop} {l n : Nat} (hl : l < 8) (hn : n < 128) (hlv : lv + 1 = nI l) (hp : post (md, hg, kn, nI l, lf, cm, lt, a1, a2, a3, a4, a5, a6, a7, a8, a9, a10, a11, a12, a13, a14, a15, a16, upd a17 l (nI n), upd a18 l 0, a19, a20, a21)) : wpX_start post (md, hg, kn, lv, lf, cm, lt, a1, a2, a3, a4, a5, a6, a7, a8, a9, a10, a11, a12, a13, a14, a15, a16, a17, a18, a19, a20, a21) (nI n) := by
  unfold wpX_start
  exact nm_r hlv ⟨pk_in l 8 hl, nm_r (tl_wr l rfl (by omega) (tl_n8 n hn)) ⟨pk_in l 8 hl, nm_r (tl_wr l rfl (by omega) rfl) hp⟩⟩
/-- to an only child -/
theorem tl_w_only {post : St2 → Prop} {x y t n l w0 w1 : Nat} (hx : x < 4) (hy : y < 4) (hxy : x ≠ y) (ht : t < 2) (h2 : a2 = tl_a2 x y t) (hT : tl_Tab x y 1 a14) (hn1 : 1 ≤ n) (hn : n ≤ 7) (hlv : lv = nI l) (hl : l < 7) (hw : tl_WL x y a16 l w0 w1)
    (hp : ∀ b, tl_WI x y n l (fun s => tl_w2 w0 w1 (tl_xr s t)) a16 256 b → post (md, hg, kn, nI (l + 1), lf, cm, lt, a1, a2, a3, a4, a5, a6, a7, a8, a9, a10, a11, a12, a13, a14, a15, b, upd a17 (l + 1) (nI n), upd a18 (l + 1) 0, a19, a20, a21)) : wpX_goToOnly post (md, hg, kn, lv, lf, cm, lt, a1, a2, a3, a4, a5, a6, a7, a8, a9, a10, a11, a12, a13, a14, a15, a16, a17, a18, a19, a20, a21) (nI n) := by
  have ep := tl_e_pos n (by omega) (by omega)
  have el := tl_e_lt n (by omega)
  unfold wpX_goToOnly
  rw [hlv]
  refine pk_loop (fun fu i b => wX_goToOnly_2 post (nI n) md hg kn (nI l) lf cm lt fu (nI i) a1 a2 a3 a4 a5 a6 a7 a8 a9 a10 a11 a12 a13 a14 a15 b a17 a18 a19 a20 a21) (fun i b => tl_WI x y n l (fun s => tl_w2 w0 w1 (tl_xr s t)) a16 i b) 256 0 a16 (by omega) tl_WI_0 ?_ ?_
  · intro fu b hb
    exact pk_le 256 256 (fun _ => tl_w_start (by omega) (by omega) (nI_1 l) (hp b hb)) (fun z => absurd z (by omega))
  · intro fu i b hi hb hk
    rcases tl_qs x y n i with ⟨s, hs, e⟩ | ⟨n0, n1⟩
    · have hq := tl_q_lt hx hy 1 n s
      have hpn := tl_pn_lt x hx y hy (tl_xr s t) (by have := tl_xr_lt s t; omega)
      refine pk_le 256 i (fun z => absurd z (by omega)) (fun _ => ⟨pk_in (256 * n + i) 2048 (by omega) (tl_l256 _ _), pk_le (tl_e n) 0 (fun z => absurd z (by omega)) (fun _ => ?_) (tl_rd _ (tl_l256 n i) (by omega) (by rw [hT n i hn1 hn hi, e, tl_C_q hs]))⟩)
      refine br_f (by decide) ?_
      rw [e]
      refine tl_c_op hx hy hxy ht (tl_k_lt _ _ _) h2 ?_
      rw [tl_st_k hs]
      refine br_f (by decide) ⟨pk_in (256 * l + tl_pn x y (tl_xr s t)) 2048 (by omega) (tl_l256 _ _), pk_in (256 * (l + 1) + tl_q x y 1 n s) 2048 (by omega) (tl_i4 _ _), nm_r (tl_wr _ (tl_i4 _ _) (by omega) (tl_rd (v := nI (tl_w2 w0 w1 (tl_xr s t))) _ (tl_l256 l _) (by omega) ?_)) (nm_r (nI_1 _) ?_)⟩
      · rw [hb.1 _ (by omega)]
        exact hw _ (tl_xr_lt _ _)
      · rw [← e]
        refine hk _ (tl_WI_put hb (fun s' hs' e' => ?_))
        have : s = s' := by
          have hqn := tl_q_ne hx hy hxy 1 n
          have c : s = 0 ∨ s = 1 := by omega
          have c' : s' = 0 ∨ s' = 1 := by omega
          rcases c with c | c <;> rcases c' with c' | c' <;> rw [c] at e <;> rw [c'] at e' <;> omega
        rw [this]
    · refine pk_le 256 i (fun z => absurd z (by omega)) (fun _ => ⟨pk_in (256 * n + i) 2048 (by omega) (tl_l256 _ _), pk_le 0 0 (fun _ => ?_) (fun z => absurd z (by omega)) (tl_rd _ (tl_l256 n i) (by omega) (by rw [hT n i hn1 hn hi, tl_C_0 n0 n1]))⟩)
      refine br_t rfl (br_t rfl ⟨pk_in (256 * (l + 1) + i) 2048 (by omega) (tl_i4 _ _), nm_r (tl_wr _ (tl_i4 _ _) (by omega) rfl) (nm_r (nI_1 _) (hk _ (tl_WI_put hb (fun s' hs' e' => ?_))))⟩)
      have c' : s' = 0 ∨ s' = 1 := by omega
      rcases c' with c' | c' <;> rw [c'] at e'
      · exact absurd e' n0
      · exact absurd e' n1
/-- to a first child -/
theorem tl_w_first {post : St2 → Prop} {x y n m l w0 w1 : Nat} (hx : x < 4) (hy : y < 4) (hxy : x ≠ y) (h3 : a3 = tl_a3 x y) (hT : tl_Tab x y 1 a14) (hn1 : 1 ≤ n) (hn : n ≤ 7) (hm1 : 1 ≤ m) (hm : m ≤ 7) (hlv : lv = nI l) (hl : l < 7) (hw : tl_WL x y a16 l w0 w1)
    (hp : ∀ b, tl_WI x y n l (fun _ => tl_e m * (w0 + w1)) a16 256 b → post (md, hg, kn, nI (l + 1), lf, cm, lt, a1, a2, a3, a4, a5, a6, a7, a8, a9, a10, a11, a12, a13, a14, a15, b, upd a17 (l + 1) (nI n), upd a18 (l + 1) 0, a19, a20, a21)) : wpX_goToFirst post (md, hg, kn, lv, lf, cm, lt, a1, a2, a3, a4, a5, a6, a7, a8, a9, a10, a11, a12, a13, a14, a15, a16, a17, a18, a19, a20, a21) (nI n) (nI m) := by
  have ep := tl_e_pos n (by omega) (by omega)
  have el := tl_e_lt n (by omega)
  unfold wpX_goToFirst
  rw [hlv]
  refine pk_loop (fun fu i b => wX_goToFirst_2 post (nI n) (nI m) md hg kn (nI l) lf cm lt fu (nI i) a1 a2 a3 a4 a5 a6 a7 a8 a9 a10 a11 a12 a13 a14 a15 b a17 a18 a19 a20 a21) (fun i b => tl_WI x y n l (fun _ => tl_e m * (w0 + w1)) a16 i b) 256 0 a16 (by omega) tl_WI_0 ?_ ?_
  · intro fu b hb
    exact pk_le 256 256 (fun _ => tl_w_start (by omega) (by omega) (nI_1 l) (hp b hb)) (fun z => absurd z (by omega))
  · intro fu i b hi hb hk
    rcases tl_qs x y n i with ⟨s, hs, e⟩ | ⟨n0, n1⟩
    · have hq := tl_q_lt hx hy 1 n s
      refine pk_le 256 i (fun z => absurd z (by omega)) (fun _ => ⟨pk_in (256 * n + i) 2048 (by omega) (tl_l256 _ _), pk_le (tl_e n) 0 (fun z => absurd z (by omega)) (fun _ => ?_) (tl_rd _ (tl_l256 n i) (by omega) (by rw [hT n i hn1 hn hi, e, tl_C_q hs]))⟩)
      refine br_f (by decide) ?_
      have hwb : tl_WL x y b l w0 w1 := fun s hs => by
        have hpn := tl_pn_lt x hx y hy s (by omega)
        rw [hb.1 _ (by omega)]; exact hw s hs
      rw [e]
      refine tl_w_bes hx hy hxy h3 hT hm1 hm hs rfl (by omega) hwb ?_
      rw [← e]
      exact ⟨pk_in (256 * (l + 1) + i) 2048 (by omega) (tl_i4 _ _), nm_r (tl_wr _ (tl_i4 _ _) (by omega) rfl) (nm_r (nI_1 _) (hk _ (tl_WI_put hb (fun _ _ _ => rfl))))⟩
    · refine pk_le 256 i (fun z => absurd z (by omega)) (fun _ => ⟨pk_in (256 * n + i) 2048 (by omega) (tl_l256 _ _), pk_le 0 0 (fun _ => ?_) (fun z => absurd z (by omega)) (tl_rd _ (tl_l256 n i) (by omega) (by rw [hT n i hn1 hn hi, tl_C_0 n0 n1]))⟩)
      refine br_t rfl ⟨pk_in (256 * (l + 1) + i) 2048 (by omega) (tl_i4 _ _), nm_r (tl_wr _ (tl_i4 _ _) (by omega) rfl) (nm_r (nI_1 _) (hk _ (tl_WI_put hb (fun s' hs' e' => ?_))))⟩
      have c' : s' = 0 ∨ s' = 1 := by omega
      rcases c' with c' | c' <;> rw [c'] at e'
      · exact absurd e' n0
      · exact absurd e' n1
/-- to a second child, the first one having class c -/
theorem tl_w_second {post : St2 → Prop} {x y n c l w0 w1 : Nat} (hx : x < 4) (hy : y < 4) (hxy : x ≠ y) (hc : c < 3) (h3 : a3 = tl_a3 x y) (hT : tl_Tab x y 1 a14) (hn1 : 1 ≤ n) (hn : n ≤ 7) (hlv : lv = nI l) (hl : l < 7) (hw : tl_WL x y a16 l w0 w1)
    (hp : ∀ b, tl_WI x y n l (fun s => tl_w2 w0 w1 (tl_xr (tl_st c) s)) a16 256 b → post (md, hg, kn, nI (l + 1), lf, cm, lt, a1, a2, a3, a4, a5, a6, a7, a8, a9, a10, a11, a12, a13, a14, a15, b, upd a17 (l + 1) (nI n), upd a18 (l + 1) 0, a19, a20, a21)) : wpX_goToSecond post (md, hg, kn, lv, lf, cm, lt, a1, a2, a3, a4, a5, a6, a7, a8, a9, a10, a11, a12, a13, a14, a15, a16, a17, a18, a19, a20, a21) (nI (tl_pn x y c)) (nI n) := by
  have ep := tl_e_pos n (by omega) (by omega)
  have el := tl_e_lt n (by omega)
  unfold wpX_goToSecond
  rw [hlv]
  refine pk_loop (fun fu i b => wX_goToSecond_2 post (nI (tl_pn x y c)) (nI n) md hg kn (nI l) lf cm lt fu (nI i) a1 a2 a3 a4 a5 a6 a7 a8 a9 a10 a11 a12 a13 a14 a15 b a17 a18 a19 a20 a21) (fun i b => tl_WI x y n l (fun s => tl_w2 w0 w1 (tl_xr (tl_st c) s)) a16 i b) 256 0 a16 (by omega) tl_WI_0 ?_ ?_
  · intro fu b hb
    exact pk_le 256 256 (fun _ => tl_w_start (by omega) (by omega) (nI_1 l) (hp b hb)) (fun z => absurd z (by omega))
  · intro fu i b hi hb hk
    rcases tl_qs x y n i with ⟨s, hs, e⟩ | ⟨n0, n1⟩
    · have hq := tl_q_lt hx hy 1 n s
      have hpn := tl_pn_lt x hx y hy (tl_xr (tl_st c) s) (by have := tl_xr_lt (tl_st c) s; omega)
      refine pk_le 256 i (fun z => absurd z (by omega)) (fun _ => ⟨pk_in (256 * n + i) 2048 (by omega) (tl_l256 _ _), pk_le (tl_e n) 0 (fun z => absurd z (by omega)) (fun _ => ?_) (tl_rd _ (tl_l256 n i) (by omega) (by rw [hT n i hn1 hn hi, e, tl_C_q hs]))⟩)
      refine br_f (by decide) ?_
      rw [e]
      refine tl_c_tp hx hy hxy hc (tl_k_lt _ _ _) h3 ?_
      rw [tl_st_k hs]
      refine br_f (by decide) ⟨pk_in (256 * l + tl_pn x y (tl_xr (tl_st c) s)) 2048 (by omega) (tl_l256 _ _), pk_in (256 * (l + 1) + tl_q x y 1 n s) 2048 (by omega) (tl_i4 _ _), nm_r (tl_wr _ (tl_i4 _ _) (by omega) (tl_rd (v := nI (tl_w2 w0 w1 (tl_xr (tl_st c) s))) _ (tl_l256 l _) (by omega) ?_)) (nm_r (nI_1 _) ?_)⟩
      · rw [hb.1 _ (by omega)]
        exact hw _ (tl_xr_lt _ _)
      · rw [← e]
        refine hk _ (tl_WI_put hb (fun s' hs' e' => ?_))
        have : s = s' := by
          have hqn := tl_q_ne hx hy hxy 1 n
          have c : s = 0 ∨ s = 1 := by omega
          have c' : s' = 0 ∨ s' = 1 := by omega
          rcases c with c | c <;> rcases c' with c' | c' <;> rw [c] at e <;> rw [c'] at e' <;> omega
        rw [this]
    · refine pk_le 256 i (fun z => absurd z (by omega)) (fun _ => ⟨pk_in (256 * n + i) 2048 (by omega) (tl_l256 _ _), pk_le 0 0 (fun _ => ?_) (fun z => absurd z (by omega)) (tl_rd _ (tl_l256 n i) (by omega) (by rw [hT n i hn1 hn hi, tl_C_0 n0 n1]))⟩)
      refine br_t rfl (br_t rfl ⟨pk_in (256 * (l + 1) + i) 2048 (by omega) (tl_i4 _ _), nm_r (tl_wr _ (tl_i4 _ _) (by omega) rfl) (nm_r (nI_1 _) (hk _ (tl_WI_put hb (fun s' hs' e' => ?_))))⟩)
      have c' : s' = 0 ∨ s' = 1 := by omega
      rcases c' with c' | c' <;> rw [c'] at e'
      · exact absurd e' n0
      · exact absurd e' n1
end
end
section
/-- a list laid into arrays from its end on: the head stands highest -/
def tl_stk {α : Type} (P : Nat → α → Prop) : List α → Prop
  | [] => True
  | x :: xs => P xs.length x ∧ tl_stk P xs
theorem tl_stk_mono {α : Type} {P Q : Nat → α → Prop} : ∀ l : List α, (∀ i x, i < l.length → P i x → Q i x) → tl_stk P l → tl_stk Q l
  | [], _, _ => trivial
  | x :: xs, h, hs => ⟨h _ x (Nat.lt_succ_self _) hs.1, tl_stk_mono xs (fun i x hi => h i x (Nat.lt_succ_of_lt hi)) hs.2⟩
def tl_nth {α : Type} (d : α) : List α → Nat → α
  | [], _ => d
  | x :: xs, k => if k = xs.length then x else tl_nth d xs k
theorem tl_stk_get {α : Type} {P : Nat → α → Prop} {d : α} : ∀ (l : List α) (k : Nat), k < l.length → tl_stk P l → P k (tl_nth d l k)
  | [], _, h, _ => absurd h (Nat.not_lt_zero _)
  | x :: xs, k, h, hs => by
    unfold tl_nth
    by_cases e : k = xs.length
    · rw [if_pos e, e]; exact hs.1
    · rw [if_neg e]
      have : k < xs.length + 1 := h
      exact tl_stk_get xs k (by omega) hs.2
/-- a frame: wanted size, phase, size of the first child, class of the first child, the two weights -/
abbrev tl_Fr : Type := Nat × Nat × Nat × Nat × Nat × Nat
/-- the search for the first child's size -/
def tl_sp (n W : Nat) : Nat → Nat → Nat → Nat × Nat
  | 0, i, l => (i, l)
  | k + 1, i, l => if i + 2 < n ∧ 2 * (tl_e i * tl_e (n - 1 - i)) * W ≤ l then tl_sp n W k (i + 1) (l - 2 * (tl_e i * tl_e (n - 1 - i)) * W) else (i, l)
abbrev tl_MS : Type := List tl_Fr × Nat × Nat × List Nat
def tl_ok (n w0 w1 left k m : Nat) : Bool := decide (1 ≤ n) && decide (n ≤ 7) && decide (w0 < 1000) && decide (w1 < 1000) && decide (left < 1000) && decide (k < 7) && decide (m < 12)
def tl_step (t : Nat) : tl_MS → Option tl_MS
  | ([], _) => none
  | ((n, ph, sp, dn, w0, w1) :: r, left, came, ls) =>
    if tl_ok n w0 w1 left r.length ls.length = true then
      if ph = 0 then
        if n = 1 then
          if left < w0 then some (r, left, 2, 0 :: ls) else some (r, left - w0, 1, 1 :: ls)
        else if left < tl_e (n - 1) * (w0 + w1) then some ((n - 1, 0, 0, 0, tl_w2 w0 w1 (tl_xr 0 t), tl_w2 w0 w1 (tl_xr 1 t)) :: (n, 1, sp, dn, w0, w1) :: r, left, came, 2 :: ls)
        else if 3 ≤ n ∧ 1 ≤ (tl_sp n (w0 + w1) n 1 (left - tl_e (n - 1) * (w0 + w1))).1 ∧ (tl_sp n (w0 + w1) n 1 (left - tl_e (n - 1) * (w0 + w1))).1 + 1 < n then
          some (((tl_sp n (w0 + w1) n 1 (left - tl_e (n - 1) * (w0 + w1))).1, 0, 0, 0, tl_e (n - 1 - (tl_sp n (w0 + w1) n 1 (left - tl_e (n - 1) * (w0 + w1))).1) * (w0 + w1), tl_e (n - 1 - (tl_sp n (w0 + w1) n 1 (left - tl_e (n - 1) * (w0 + w1))).1) * (w0 + w1)) :: (n, 2, (tl_sp n (w0 + w1) n 1 (left - tl_e (n - 1) * (w0 + w1))).1, dn, w0, w1) :: r, (tl_sp n (w0 + w1) n 1 (left - tl_e (n - 1) * (w0 + w1))).2, came, 3 :: ls)
        else none
      else if ph = 1 then
        if came < 3 then some (r, left, tl_xr (tl_st came) t, ls) else none
      else if ph = 2 then
        if came < 3 ∧ 1 ≤ sp ∧ sp + 1 < n then some ((n - 1 - sp, 0, 0, 0, tl_w2 w0 w1 (tl_xr (tl_st came) 0), tl_w2 w0 w1 (tl_xr (tl_st came) 1)) :: (n, 3, sp, came, w0, w1) :: r, left, came, ls) else none
      else if ph = 3 ∧ came < 3 ∧ dn < 3 then some (r, left, tl_xr (tl_st dn) (tl_st came), ls) else none
    else none
def tl_run (t : Nat) : Nat → tl_MS → Option (List Nat)
  | 0, _ => none
  | k + 1, ms => if ms.1.isEmpty then some ms.2.2.2 else match tl_step t ms with | none => none | some ms' => tl_run t k ms'
/-- a level of the arrays -/
def tl_Fm (x y : Nat) (a16 a17 a18 a19 a20 : Nat → Int32) (l : Nat) (f : tl_Fr) : Prop := a17 l = nI f.1 ∧ a18 l = nI f.2.1 ∧ (2 ≤ f.2.1 → a19 l = nI f.2.2.1) ∧ (f.2.1 = 3 → a20 l = nI (tl_pn x y f.2.2.2.1)) ∧ (∀ s, s < 2 → a16 (256 * l + tl_q x y 1 f.1 s) = nI (tl_w2 f.2.2.2.2.1 f.2.2.2.2.2 s))
def tl_Sim (x y : Nat) (ms : tl_MS) (lv lf cm lt : Int32) (a16 a17 a18 a19 a20 a21 : Nat → Int32) : Prop :=
  lv = nI ms.1.length - 1 ∧ lf = nI ms.2.1 ∧ (ms.2.2.1 < 3 → cm = nI (tl_pn x y ms.2.2.1)) ∧ lt = nI ms.2.2.2.length ∧ tl_stk (fun j c => a21 j = nI c) ms.2.2.2 ∧ tl_stk (tl_Fm x y a16 a17 a18 a19 a20) ms.1
theorem tl_Fm_keep {x y : Nat} (hx : x < 4) (hy : y < 4) {a16 a17 a18 a19 a20 b16 b17 b18 b19 b20 : Nat → Int32} {l : Nat} {r : List tl_Fr} (hl : r.length ≤ l) (h16 : ∀ j, j < 256 * l → b16 j = a16 j) (h17 : ∀ j, j < l → b17 j = a17 j) (h18 : ∀ j, j < l → b18 j = a18 j) (h19 : ∀ j, j < l → b19 j = a19 j) (h20 : ∀ j, j < l → b20 j = a20 j)
    (H : tl_stk (tl_Fm x y a16 a17 a18 a19 a20) r) : tl_stk (tl_Fm x y b16 b17 b18 b19 b20) r := by
  refine tl_stk_mono r (fun i f hi hf => ?_) H
  obtain ⟨f1, f2, f3, f4, f5⟩ := hf
  refine ⟨by rw [h17 i (by omega)]; exact f1, by rw [h18 i (by omega)]; exact f2, fun z => by rw [h19 i (by omega)]; exact f3 z, fun z => by rw [h20 i (by omega)]; exact f4 z, fun s hs => ?_⟩
  have hq := tl_q_lt hx hy 1 f.1 s
  rw [h16 _ (by omega)]
  exact f5 s hs
theorem tl_okE {n w0 w1 left k m : Nat} (h : tl_ok n w0 w1 left k m = true) : 1 ≤ n ∧ n ≤ 7 ∧ w0 < 1000 ∧ w1 < 1000 ∧ left < 1000 ∧ k < 7 ∧ m < 12 := by
  unfold tl_ok at h
  simp only [Bool.and_eq_true, decide_eq_true_eq] at h
  omega
theorem tl_lv {α : Type} (f : α) (r : List α) : nI (f :: r).length - 1 = nI r.length := nI_pred _
theorem tl_pn16 {x y c : Nat} (hx : x < 4) (hy : y < 4) (hc : c < 3) : (nI (tl_pn x y c)).toInt16.toInt32 = nI (tl_pn x y c) := tl_n16 _ (by have := tl_pn_lt x hx y hy c hc; omega)
theorem tl_WL_of {x y n l w0 w1 : Nat} {a : Nat → Int32} (hn : 2 ≤ n) (h : ∀ s, s < 2 → a (256 * l + tl_q x y 1 n s) = nI (tl_w2 w0 w1 s)) : tl_WL x y a l w0 w1 := by
  intro s hs
  have := h s hs
  unfold tl_q at this
  rw [tl_k_big hn hs] at this
  exact this
/-- a frame laid on top -/
theorem tl_push {x y n l : Nat} {w : Nat → Nat} {a16 a17 a18 a19 a20 b16 : Nat → Int32} {f : tl_Fr} {r : List tl_Fr} {w0 w1 : Nat} (hx : x < 4) (hy : y < 4) (hl : r.length = l) (hb : tl_WI x y n l w a16 256 b16) (h0 : w 0 = w0) (h1 : w 1 = w1)
    (H : tl_stk (tl_Fm x y a16 a17 a18 a19 a20) (f :: r)) : tl_stk (tl_Fm x y b16 (upd a17 (l + 1) (nI n)) (upd a18 (l + 1) 0) a19 a20) ((n, 0, 0, 0, w0, w1) :: f :: r) := by
  refine ⟨?_, tl_Fm_keep (l := l + 1) hx hy (by rw [← hl]; exact Nat.le_refl _) hb.1 (fun j hj => pk_un (by omega)) (fun j hj => pk_un (by omega)) (fun _ _ => rfl) (fun _ _ => rfl) H⟩
  rw [show (f :: r).length = l + 1 by rw [← hl]; rfl]
  refine ⟨pk_us, pk_us, fun z => absurd (show 2 ≤ 0 from z) (by decide), fun z => absurd (show 0 = 3 from z) (by decide), fun s hs => ?_⟩
  rw [hb.2 s hs (tl_q_lt hx hy 1 n s)]
  have c : s = 0 ∨ s = 1 := by omega
  rcases c with c | c <;> subst c
  · rw [h0]; rfl
  · rw [h1]; rfl
section
variable {md hg kn lv lf cm lt : Int32} {a1 a2 a3 a4 a5 a6 a7 a8 a9 a10 a11 a12 a13 a14 a15 a16 a17 a18 a19 a20 a21 : Nat → Int32}
theorem tl_w_spell {post : St2 → Prop} {c : Nat} {ls : List Nat} (hlt : lt = nI ls.length) (hl : ls.length < 12) (hc : c < 128) (hls : tl_stk (fun j c => a21 j = nI c) ls)
    (hp : ∀ b, tl_stk (fun j c => b j = nI c) (c :: ls) → post (md, hg, kn, lv, lf, cm, nI (c :: ls).length, a1, a2, a3, a4, a5, a6, a7, a8, a9, a10, a11, a12, a13, a14, a15, a16, a17, a18, a19, a20, b)) : wpX_spell post (md, hg, kn, lv, lf, cm, lt, a1, a2, a3, a4, a5, a6, a7, a8, a9, a10, a11, a12, a13, a14, a15, a16, a17, a18, a19, a20, a21) (nI c) := by
  unfold wpX_spell
  rw [hlt]
  refine ⟨pk_in ls.length 12 hl, nm_r (tl_wr ls.length rfl (by omega) (tl_n8 c hc)) (nm_r (nI_1 _) (hp _ ⟨pk_us, tl_stk_mono ls (fun i x hi h => by rw [pk_un (by omega)]; exact h) hls⟩))⟩
theorem tl_w_leaf {post : St2 → Prop} {x y t n ph sp dn w0 w1 left came : Nat} {r : List tl_Fr} {ls : List Nat} {ms : tl_MS} (hx : x < 4) (hy : y < 4) (hxy : x ≠ y) (h1 : a1 = tl_a1 x y 1)
    (hS : tl_Sim x y ((n, ph, sp, dn, w0, w1) :: r, left, came, ls) lv lf cm lt a16 a17 a18 a19 a20 a21) (hok : tl_ok n w0 w1 left r.length ls.length = true) (hn : n = 1)
    (hms : ms = if left < w0 then (r, left, 2, 0 :: ls) else (r, left - w0, 1, 1 :: ls))
    (hp : ∀ lv lf cm lt a16 a17 a18 a19 a20 a21, tl_Sim x y ms lv lf cm lt a16 a17 a18 a19 a20 a21 → post (md, hg, kn, lv, lf, cm, lt, a1, a2, a3, a4, a5, a6, a7, a8, a9, a10, a11, a12, a13, a14, a15, a16, a17, a18, a19, a20, a21)) : wpX_chooseLeaf post (md, hg, kn, lv, lf, cm, lt, a1, a2, a3, a4, a5, a6, a7, a8, a9, a10, a11, a12, a13, a14, a15, a16, a17, a18, a19, a20, a21) := by
  obtain ⟨s1, s2, s3, s4, s5, s6⟩ := hS
  obtain ⟨o1, o2, o3, o4, o5, o6, o7⟩ := tl_okE hok
  rw [tl_lv] at s1
  obtain ⟨⟨f1, f2, f3, f4, f5⟩, fr⟩ := s6
  have s2' : lf = nI left := s2
  have s4' : lt = nI ls.length := s4
  dsimp only at f5
  subst hn
  have hq := tl_q_lt hx hy 1 1 0
  unfold wpX_chooseLeaf
  refine tl_c_lp (hh := 1) hx hy hxy (by decide) (show 0 < 2 by decide) h1 ?_
  rw [s1, s2', s4']
  refine ⟨pk_in (256 * r.length + tl_q x y 1 1 0) 2048 (by omega) (tl_l256 _ _), nm_r (e' := nI w0) (tl_rd (256 * r.length + tl_q x y 1 1 0) (tl_l256 _ _) (by omega) (f5 0 (by decide))) (pk_le w0 left (fun z => ?_) (fun z => ?_))⟩
  · refine br_f (by decide) ?_
    unfold wX_chooseLeaf_54
    refine tl_w_spell (c := 1) rfl o7 (by decide) s5 (fun b hb => ?_)
    refine tl_c_lp (hh := 1) hx hy hxy (by decide) (show 1 < 2 by decide) h1 (nm_e ?_)
    rw [pk_sub z]
    refine hp _ _ _ _ _ _ _ _ _ _ ?_
    rw [if_neg (by omega)] at hms
    rw [hms]
    exact ⟨rfl, rfl, fun _ => rfl, rfl, hb, fr⟩
  · refine br_t rfl ?_
    unfold wX_chooseLeaf_54
    refine tl_w_spell (c := 0) rfl o7 (by decide) s5 (fun b hb => ?_)
    refine tl_c_lp (hh := 1) hx hy hxy (by decide) (show 0 < 2 by decide) h1 (nm_e ?_)
    refine hp _ _ _ _ _ _ _ _ _ _ ?_
    rw [if_pos z] at hms
    rw [hms]
    exact ⟨rfl, rfl, fun _ => rfl, rfl, hb, fr⟩
end
end
section
section
variable {md hg kn lv lf cm lt : Int32} {a1 a2 a3 a4 a5 a6 a7 a8 a9 a10 a11 a12 a13 a14 a15 a16 a17 a18 a19 a20 a21 : Nat → Int32}
theorem tl_w_104 {post : St2 → Prop} {x y n ph sp dn w0 w1 left came i l : Nat} {r : List tl_Fr} {ls : List Nat} (hx : x < 4) (hy : y < 4) (hxy : x ≠ y) (h3 : a3 = tl_a3 x y) (hT : tl_Tab x y 1 a14)
    (hS : tl_Sim x y ((n, ph, sp, dn, w0, w1) :: r, left, came, ls) lv lf cm lt a16 a17 a18 a19 a20 a21) (hok : tl_ok n w0 w1 left r.length ls.length = true) (hr6 : r.length < 7) (hi : 1 ≤ i) (hin : i + 1 < n)
    (hp : ∀ lv lf cm lt a16 a17 a18 a19 a20 a21, tl_Sim x y ((i, 0, 0, 0, tl_e (n - 1 - i) * (w0 + w1), tl_e (n - 1 - i) * (w0 + w1)) :: (n, 2, i, dn, w0, w1) :: r, l, came, 3 :: ls) lv lf cm lt a16 a17 a18 a19 a20 a21 → post (md, hg, kn, lv, lf, cm, lt, a1, a2, a3, a4, a5, a6, a7, a8, a9, a10, a11, a12, a13, a14, a15, a16, a17, a18, a19, a20, a21)) : wX_chooseTop_104 post (nI n) (nI i) md hg kn lv (nI l) cm lt a1 a2 a3 a4 a5 a6 a7 a8 a9 a10 a11 a12 a13 a14 a15 a16 a17 a18 a19 a20 a21 := by
  obtain ⟨s1, s2, s3, s4, s5, s6⟩ := hS
  obtain ⟨o1, o2, o3, o4, o5, o6, o7⟩ := tl_okE hok
  rw [tl_lv] at s1
  obtain ⟨⟨f1, f2, f3, f4, f5⟩, fr⟩ := s6
  have s4' : lt = nI ls.length := s4
  dsimp only at f1 f2 f3 f4 f5
  unfold wX_chooseTop_104
  refine tl_w_spell (c := 3) s4' o7 (by decide) s5 (fun b hb => ?_)
  rw [s1]
  refine ⟨pk_in r.length 8 (by omega), nm_r (tl_wr r.length rfl (by omega) rfl) ⟨pk_in r.length 8 (by omega), nm_r (tl_wr r.length rfl (by omega) (tl_n8 i (by omega))) ?_⟩⟩
  rw [tl_sub2 (show i + 1 ≤ n by omega)]
  refine tl_w_first hx hy hxy h3 hT hi (by omega) (by omega) (by omega) rfl hr6 (tl_WL_of (by omega) f5) (fun b16 hb16 => ?_)
  refine hp _ _ _ _ _ _ _ _ _ _ ⟨(tl_lv _ (_ :: r)).symm, rfl, s3, rfl, hb, ?_⟩
  refine tl_push hx hy rfl hb16 rfl rfl ⟨⟨f1, pk_us, fun _ => pk_us, fun z => absurd (show 2 = 3 from z) (by decide), f5⟩, ?_⟩
  exact tl_Fm_keep (l := r.length) hx hy (Nat.le_refl _) (fun _ _ => rfl) (fun _ _ => rfl) (fun j hj => pk_un (by omega)) (fun j hj => pk_un (by omega)) (fun _ _ => rfl) fr
theorem tl_Mb {n i W : Nat} (hn : n ≤ 7) (hi : i + 1 < n) (hW : W < 2000) : 2 * (tl_e i * tl_e (n - 1 - i)) * W < 2 ^ 30 := by
  have h := tl_ee n (by omega) (by omega) i (by omega) hi
  have : 2 * (tl_e i * tl_e (n - 1 - i)) * W ≤ 200 * 2000 := Nat.mul_le_mul (by omega) (by omega)
  omega
theorem tl_w_66 {post : St2 → Prop} {x y n w0 w1 lvN : Nat} (hx : x < 4) (hy : y < 4) (hxy : x ≠ y) (h3 : a3 = tl_a3 x y) (hT : tl_Tab x y 1 a14) (hn : n ≤ 7) (hw0 : w0 < 1000) (hw1 : w1 < 1000) (hlv : lv = nI lvN) (hl : lvN < 8) (hw : tl_WL x y a16 lvN w0 w1) :
    ∀ k i l, n ≤ i + k → 1 ≤ i → i + 1 < n → l < 1000 → wX_chooseTop_104 post (nI n) (nI (tl_sp n (w0 + w1) k i l).1) md hg kn lv (nI (tl_sp n (w0 + w1) k i l).2) cm lt a1 a2 a3 a4 a5 a6 a7 a8 a9 a10 a11 a12 a13 a14 a15 a16 a17 a18 a19 a20 a21 → wX_chooseTop_66 post (nI n) md hg kn lv cm lt a1 a2 a3 a4 a5 a6 a7 a8 a9 a10 a11 a12 a13 a14 a15 a16 a17 a18 a19 a20 a21 (k + 1) (nI (2 * (tl_e i * tl_e (n - 1 - i)) * (w0 + w1))) (nI i) (nI l) := by
  intro k
  induction k with
  | zero => intro i l h; omega
  | succ k ih =>
    intro i l hk hi hin hl' H
    have hM := tl_Mb (W := w0 + w1) hn hin (by omega)
    unfold tl_sp at H
    refine pk_le (n - 2) i (fun z => ?_) (fun z => pk_lt l (2 * (tl_e i * tl_e (n - 1 - i)) * (w0 + w1)) (fun z' => ?_) (fun z' => ?_)) (pk_sub (b := 2) (by omega))
    · rw [if_neg (by omega)] at H
      exact H
    · rw [if_neg (by omega)] at H
      exact H
    · rw [if_pos ⟨by omega, z'⟩] at H
      refine nm_r (pk_sub z') (nm_r (nI_1 i) ?_)
      exact tl_w_two hx hy hxy h3 hT (by omega) (by omega) hn hlv hl hw (ih (i + 1) _ (by omega) (by omega) (by omega) (by omega) H)
theorem tl_w_top {post : St2 → Prop} {x y t n ph sp dn w0 w1 left came : Nat} {r : List tl_Fr} {ls : List Nat} {ms : tl_MS} (hx : x < 4) (hy : y < 4) (hxy : x ≠ y) (ht : t < 2) (h2 : a2 = tl_a2 x y t) (h3 : a3 = tl_a3 x y) (hT : tl_Tab x y 1 a14)
    (hS : tl_Sim x y ((n, ph, sp, dn, w0, w1) :: r, left, came, ls) lv lf cm lt a16 a17 a18 a19 a20 a21) (hok : tl_ok n w0 w1 left r.length ls.length = true) (hr6 : r.length < 7) (hn : n ≠ 1)
    (hms : (if left < tl_e (n - 1) * (w0 + w1) then some ((n - 1, 0, 0, 0, tl_w2 w0 w1 (tl_xr 0 t), tl_w2 w0 w1 (tl_xr 1 t)) :: (n, 1, sp, dn, w0, w1) :: r, left, came, 2 :: ls)
        else if 3 ≤ n ∧ 1 ≤ (tl_sp n (w0 + w1) n 1 (left - tl_e (n - 1) * (w0 + w1))).1 ∧ (tl_sp n (w0 + w1) n 1 (left - tl_e (n - 1) * (w0 + w1))).1 + 1 < n then
          some (((tl_sp n (w0 + w1) n 1 (left - tl_e (n - 1) * (w0 + w1))).1, 0, 0, 0, tl_e (n - 1 - (tl_sp n (w0 + w1) n 1 (left - tl_e (n - 1) * (w0 + w1))).1) * (w0 + w1), tl_e (n - 1 - (tl_sp n (w0 + w1) n 1 (left - tl_e (n - 1) * (w0 + w1))).1) * (w0 + w1)) :: (n, 2, (tl_sp n (w0 + w1) n 1 (left - tl_e (n - 1) * (w0 + w1))).1, dn, w0, w1) :: r, (tl_sp n (w0 + w1) n 1 (left - tl_e (n - 1) * (w0 + w1))).2, came, 3 :: ls)
        else none) = some ms)
    (hp : ∀ lv lf cm lt a16 a17 a18 a19 a20 a21, tl_Sim x y ms lv lf cm lt a16 a17 a18 a19 a20 a21 → post (md, hg, kn, lv, lf, cm, lt, a1, a2, a3, a4, a5, a6, a7, a8, a9, a10, a11, a12, a13, a14, a15, a16, a17, a18, a19, a20, a21)) : wpX_chooseTop post (md, hg, kn, lv, lf, cm, lt, a1, a2, a3, a4, a5, a6, a7, a8, a9, a10, a11, a12, a13, a14, a15, a16, a17, a18, a19, a20, a21) := by
  have hS0 := hS
  obtain ⟨s1, s2, s3, s4, s5, s6⟩ := hS
  obtain ⟨o1, o2, o3, o4, o5, o6, o7⟩ := tl_okE hok
  rw [tl_lv] at s1
  obtain ⟨⟨f1, f2, f3, f4, f5⟩, fr⟩ := s6
  have s2' : lf = nI left := s2
  have s4' : lt = nI ls.length := s4
  dsimp only at f1 f2 f3 f4 f5
  have hM : tl_e (n - 1) * (w0 + w1) < 2 ^ 30 := by
    have h := tl_e_lt (n - 1) (by omega)
    have : tl_e (n - 1) * (w0 + w1) ≤ 192 * 2000 := Nat.mul_le_mul (by omega) (by omega)
    omega
  unfold wpX_chooseTop
  refine ⟨by rw [s1]; exact pk_in r.length 8 (by omega), nm_r (e' := nI n) (tl_rd r.length s1 (by omega) f1) ?_⟩
  refine tl_w_one hx hy hxy ht h2 hT (by omega) o2 s1 (by omega) (tl_WL_of (by omega) f5) ?_
  refine pk_le (tl_e (n - 1) * (w0 + w1)) left (fun z => ?_) (fun z => ?_) rfl s2'
  · rw [if_neg (by omega)] at hms
    by_cases c : 3 ≤ n ∧ 1 ≤ (tl_sp n (w0 + w1) n 1 (left - tl_e (n - 1) * (w0 + w1))).1 ∧ (tl_sp n (w0 + w1) n 1 (left - tl_e (n - 1) * (w0 + w1))).1 + 1 < n
    · rw [if_pos c, Option.some.injEq] at hms
      subst hms
      refine nm_r (e' := nI (left - tl_e (n - 1) * (w0 + w1))) (by rw [s2', pk_sub z]) ?_
      refine tl_w_two (i := 1) hx hy hxy h3 hT (by omega) (by omega) o2 s1 (by omega) (tl_WL_of (by omega) f5) ⟨n + 1, ?_⟩
      exact tl_w_66 hx hy hxy h3 hT o2 o3 o4 s1 (by omega) (tl_WL_of (by omega) f5) n 1 _ (by omega) (by omega) (by omega) (by omega) (tl_w_104 hx hy hxy h3 hT hS0 hok hr6 c.2.1 c.2.2 hp)
    · rw [if_neg c] at hms
      exact absurd hms (by intro h; cases h)
  · rw [if_pos z, Option.some.injEq] at hms
    subst hms
    refine tl_w_spell (c := 2) s4' o7 (by decide) s5 (fun b hb => ?_)
    rw [s1]
    refine ⟨pk_in r.length 8 (by omega), nm_r (tl_wr r.length rfl (by omega) rfl) ?_⟩
    rw [tl_sub1 (by omega)]
    refine tl_w_only hx hy hxy ht h2 hT (by omega) (by omega) rfl hr6 (tl_WL_of (by omega) f5) (fun b16 hb16 => ?_)
    refine hp _ _ _ _ _ _ _ _ _ _ ⟨(tl_lv _ (_ :: r)).symm, s2, s3, rfl, hb, ?_⟩
    refine tl_push hx hy rfl hb16 rfl rfl ⟨⟨f1, pk_us, fun z => absurd (show 2 ≤ 1 from z) (by decide), fun z => absurd (show 1 = 3 from z) (by decide), f5⟩, ?_⟩
    exact tl_Fm_keep (l := r.length) hx hy (Nat.le_refl _) (fun _ _ => rfl) (fun _ _ => rfl) (fun j hj => pk_un (by omega)) (fun _ _ => rfl) (fun _ _ => rfl) fr
theorem tl_w_work {post : St2 → Prop} {x y t : Nat} {ms ms' : tl_MS} (hx : x < 4) (hy : y < 4) (hxy : x ≠ y) (ht : t < 2) (h1 : a1 = tl_a1 x y 1) (h2 : a2 = tl_a2 x y t) (h3 : a3 = tl_a3 x y) (hT : tl_Tab x y 1 a14)
    (hS : tl_Sim x y ms lv lf cm lt a16 a17 a18 a19 a20 a21) (hst : tl_step t ms = some ms')
    (hp : ∀ lv lf cm lt a16 a17 a18 a19 a20 a21, tl_Sim x y ms' lv lf cm lt a16 a17 a18 a19 a20 a21 → post (md, hg, kn, lv, lf, cm, lt, a1, a2, a3, a4, a5, a6, a7, a8, a9, a10, a11, a12, a13, a14, a15, a16, a17, a18, a19, a20, a21)) : wpX_work post (md, hg, kn, lv, lf, cm, lt, a1, a2, a3, a4, a5, a6, a7, a8, a9, a10, a11, a12, a13, a14, a15, a16, a17, a18, a19, a20, a21) := by
  obtain ⟨fs, left, came, ls⟩ := ms
  cases fs with
  | nil => exact absurd hst (by intro h; cases h)
  | cons f r =>
    obtain ⟨n, ph, sp, dn, w0, w1⟩ := f
    have hS0 := hS
    obtain ⟨s1, s2, s3, s4, s5, s6⟩ := hS
    rw [tl_lv] at s1
    obtain ⟨⟨f1, f2, f3, f4, f5⟩, fr⟩ := s6
    dsimp only at f1 f2 f3 f4 f5 s2 s3 s4 s5
    unfold tl_step at hst
    dsimp only at hst
    by_cases hok : tl_ok n w0 w1 left r.length ls.length = true
    rotate_left
    · rw [if_neg hok] at hst
      exact absurd hst (by intro h; cases h)
    rw [if_pos hok] at hst
    obtain ⟨o1, o2, o3, o4, o5, o6, o7⟩ := tl_okE hok
    have hin : vp_in lv 8 := by rw [s1]; exact pk_in r.length 8 (by omega)
    have e18 : a18 lv.toNatClampNeg = nI ph := tl_rd r.length s1 (by omega) f2
    have e17 : a17 lv.toNatClampNeg = nI n := tl_rd r.length s1 (by omega) f1
    unfold wpX_work
    refine ⟨hin, ?_⟩
    by_cases p0 : ph = 0
    · rw [if_pos p0] at hst
      refine br_t (by rw [e18, p0]; rfl) ⟨hin, ?_⟩
      by_cases hn : n = 1
      · rw [if_pos hn] at hst
        refine br_t (by rw [e17, hn]; rfl) (tl_w_leaf (t := t) hx hy hxy h1 hS0 hok hn ?_ hp)
        by_cases c : left < w0
        · rw [if_pos c] at hst ⊢
          exact (Option.some.inj hst).symm
        · rw [if_neg c] at hst ⊢
          exact (Option.some.inj hst).symm
      · rw [if_neg hn] at hst
        refine br_f (by rw [e17]; exact fun z => hn ((nI_eq (b := 1) (by omega) (by decide)).mp z)) (tl_w_top hx hy hxy ht h2 h3 hT hS0 hok (by omega) hn hst hp)
    · rw [if_neg p0] at hst
      have hph : ph ≤ 3 := by
        by_cases c : ph ≤ 3
        · exact c
        · rw [if_neg (by omega), if_neg (by omega), if_neg (by omega)] at hst
          exact absurd hst (by intro h; cases h)
      refine br_f (by rw [e18]; exact fun z => p0 ((nI_eq (b := 0) (by omega) (by decide)).mp z)) ⟨hin, ?_⟩
      by_cases p1 : ph = 1
      · rw [if_pos p1] at hst
        refine br_t (by rw [e18, p1]; rfl) ?_
        by_cases c : came < 3
        · rw [if_pos c] at hst
          have hms := (Option.some.inj hst).symm
          subst hms
          rw [s3 c]
          refine tl_c_op hx hy hxy ht c h2 (nm_e ?_)
          rw [s1]
          exact hp _ _ _ _ _ _ _ _ _ _ ⟨rfl, s2, fun _ => rfl, s4, s5, fr⟩
        · rw [if_neg c] at hst
          exact absurd hst (by intro h; cases h)
      · rw [if_neg p1] at hst
        refine br_f (by rw [e18]; exact fun z => p1 ((nI_eq (b := 1) (by omega) (by decide)).mp z)) ⟨hin, ?_⟩
        by_cases p2 : ph = 2
        · rw [if_pos p2] at hst
          refine br_t (by rw [e18, p2]; rfl) ?_
          by_cases c : came < 3 ∧ 1 ≤ sp ∧ sp + 1 < n
          · rw [if_pos c] at hst
            have hms := (Option.some.inj hst).symm
            subst hms
            rw [s3 c.1, s1]
            refine ⟨pk_in r.length 8 (by omega), nm_r (tl_wr r.length rfl (by omega) (tl_pn16 hx hy c.1)) ⟨pk_in r.length 8 (by omega), nm_r (tl_wr r.length rfl (by omega) rfl) ⟨pk_in r.length 8 (by omega), pk_in r.length 8 (by omega), ?_⟩⟩⟩
            rw [tl_rd (a := a17) (v := nI n) r.length rfl (by omega) f1, tl_rd (a := a19) (v := nI sp) r.length rfl (by omega) (f3 (by omega)), tl_sub2 (by omega)]
            refine tl_w_second hx hy hxy c.1 h3 hT (by omega) (by omega) rfl (by omega) (tl_WL_of (by omega) f5) (fun b16 hb16 => ?_)
            refine hp _ _ _ _ _ _ _ _ _ _ ⟨(tl_lv _ (_ :: r)).symm, s2, fun _ => rfl, s4, s5, ?_⟩
            refine tl_push hx hy rfl hb16 rfl rfl ⟨⟨f1, pk_us, fun _ => f3 (by omega), fun _ => pk_us, f5⟩, ?_⟩
            exact tl_Fm_keep (l := r.length) hx hy (Nat.le_refl _) (fun _ _ => rfl) (fun _ _ => rfl) (fun j hj => pk_un (by omega)) (fun _ _ => rfl) (fun j hj => pk_un (by omega)) fr
          · rw [if_neg c] at hst
            exact absurd hst (by intro h; cases h)
        · rw [if_neg p2] at hst
          refine br_f (by rw [e18]; exact fun z => p2 ((nI_eq (b := 2) (by omega) (by decide)).mp z)) ⟨hin, ?_⟩
          by_cases c : ph = 3 ∧ came < 3 ∧ dn < 3
          · rw [if_pos c] at hst
            have hms := (Option.some.inj hst).symm
            subst hms
            rw [s3 c.2.1, tl_rd (a := a20) (v := nI (tl_pn x y dn)) r.length s1 (by omega) (f4 c.1)]
            refine tl_c_tp hx hy hxy c.2.2 c.2.1 h3 (nm_e ?_)
            rw [s1]
            exact hp _ _ _ _ _ _ _ _ _ _ ⟨rfl, s2, fun _ => rfl, s4, s5, fr⟩
          · rw [if_neg c] at hst
            exact absurd hst (by intro h; cases h)
/-- the loop of load -/
theorem tl_w_112 {post : Int32 → St2 → Prop} {x y t : Nat} (hx : x < 4) (hy : y < 4) (hxy : x ≠ y) (ht : t < 2) (h1 : a1 = tl_a1 x y 1) (h2 : a2 = tl_a2 x y t) (h3 : a3 = tl_a3 x y) (hT : tl_Tab x y 1 a14) {ls : List Nat}
    (hp : ∀ lv lf cm lt a16 a17 a18 a19 a20 a21, lt = nI ls.length → tl_stk (fun j c => a21 j = nI c) ls → wX_load_136 post md hg kn lv lf cm lt a1 a2 a3 a4 a5 a6 a7 a8 a9 a10 a11 a12 a13 a14 a15 a16 a17 a18 a19 a20 a21) :
    ∀ k i ms lv lf cm lt a16 a17 a18 a19 a20 a21, i + k ≤ 64 → tl_Sim x y ms lv lf cm lt a16 a17 a18 a19 a20 a21 → tl_run t k ms = some ls → wX_load_112 post (k + 1) (nI i) md hg kn lv lf cm lt a1 a2 a3 a4 a5 a6 a7 a8 a9 a10 a11 a12 a13 a14 a15 a16 a17 a18 a19 a20 a21 := by
  intro k
  induction k with
  | zero => intro i ms _ _ _ _ _ _ _ _ _ _ _ _ h; exact absurd h (by intro h; cases h)
  | succ k ih =>
    intro i ms lv lf cm lt a16 a17 a18 a19 a20 a21 hi hS hr
    unfold tl_run at hr
    refine pk_le 64 i (fun z => absurd z (by omega)) (fun _ => ?_)
    by_cases c : ms.1.isEmpty = true
    · rw [if_pos c, Option.some.injEq] at hr
      obtain ⟨s1, s2, s3, s4, s5, s6⟩ := hS
      rw [List.isEmpty_iff.mp c] at s1
      rw [hr] at s4 s5
      exact br_t (by rw [s1]; decide) (hp _ _ _ _ _ _ _ _ _ _ s4 s5)
    · rw [if_neg c] at hr
      have hl : ¬ lv < 0 := by
        obtain ⟨fs, rest⟩ := ms
        cases fs with
        | nil => exact absurd rfl c
        | cons f r =>
          have s1 := hS.1
          rw [tl_lv] at s1
          rw [s1]
          have : r.length < 2 ^ 31 := by
            cases e : tl_step t ((f :: r), rest) with
            | none => rw [e] at hr; exact absurd hr (by intro h; cases h)
            | some m =>
              obtain ⟨left, came, ls'⟩ := rest
              obtain ⟨n, ph, sp, dn, w0, w1⟩ := f
              unfold tl_step at e
              dsimp only at e
              by_cases hok : tl_ok n w0 w1 left r.length ls'.length = true
              · have := tl_okE hok; omega
              · rw [if_neg hok] at e; exact absurd e (by intro h; cases h)
          exact nI_pos this
      refine br_f hl ?_
      cases e : tl_step t ms with
      | none => rw [e] at hr; exact absurd hr (by intro h; cases h)
      | some m =>
        rw [e] at hr
        exact tl_w_work hx hy hxy ht h1 h2 h3 hT hS e (fun _ _ _ _ _ _ _ _ _ _ hS' => nm_r (nI_1 i) (ih (i + 1) m _ _ _ _ _ _ _ _ _ _ (by omega) hS' hr))
end
end
section
/-- a node: letter, first child, second child, size -/
abbrev tl_Nd : Type := Nat × Nat × Nat × Nat
def tl_Z (ns : List tl_Nd) (a : Nat) : Nat := (tl_nth (0, 0, 0, 0) ns a).2.2.2
def tl_mk (ns : List tl_Nd) (st : List Nat) (c : Nat) : Option (List tl_Nd × List Nat) :=
  if ns.length < 12 ∧ st.length < 12 then
    if c < 2 then some ((c, 0, 0, 1) :: ns, ns.length :: st)
    else if c = 2 then match st with
      | a :: r => if a < ns.length ∧ tl_Z ns a < 40 then some ((2, a, 0, 1 + tl_Z ns a) :: ns, ns.length :: r) else none
      | _ => none
    else if c = 3 then match st with
      | a :: b :: r => if a < ns.length ∧ b < ns.length ∧ tl_Z ns a < 40 ∧ tl_Z ns b < 40 then some ((3, a, b, 1 + tl_Z ns a + tl_Z ns b) :: ns, ns.length :: r) else none
      | _ => none
    else none
  else none
def tl_bld : List Nat → List tl_Nd → List Nat → Option (List tl_Nd × List Nat)
  | [], ns, st => some (ns, st)
  | c :: r, ns, st => match tl_mk ns st c with | none => none | some p => tl_bld r p.1 p.2
def tl_Nk (a5 a6 a7 a8 : Nat → Int32) (ns : List tl_Nd) : Prop := tl_stk (fun k nd => a5 k = nI nd.1 ∧ a6 k = nI nd.2.1 ∧ a7 k = nI nd.2.2.1 ∧ a8 k = nI nd.2.2.2) ns
def tl_Sk (a9 : Nat → Int32) (st : List Nat) : Prop := tl_stk (fun j v => a9 j = nI v) st
theorem tl_Nk_add {a5 a6 a7 a8 : Nat → Int32} {ns : List tl_Nd} (h : tl_Nk a5 a6 a7 a8 ns) {c a b z : Nat} : tl_Nk (upd a5 ns.length (nI c)) (upd a6 ns.length (nI a)) (upd a7 ns.length (nI b)) (upd a8 ns.length (nI z)) ((c, a, b, z) :: ns) :=
  ⟨⟨pk_us, pk_us, pk_us, pk_us⟩, tl_stk_mono ns (fun i nd hi h => ⟨by rw [pk_un (by omega)]; exact h.1, by rw [pk_un (by omega)]; exact h.2.1, by rw [pk_un (by omega)]; exact h.2.2.1, by rw [pk_un (by omega)]; exact h.2.2.2⟩) h⟩
theorem tl_Sk_put {a9 : Nat → Int32} {r : List Nat} {v : Nat} (h : tl_Sk a9 r) : tl_Sk (upd a9 r.length (nI v)) (v :: r) :=
  ⟨pk_us, tl_stk_mono r (fun i x hi h => by rw [pk_un (by omega)]; exact h) h⟩
theorem tl_Sk_up {a9 : Nat → Int32} {r : List Nat} {k : Nat} {v : Int32} (h : tl_Sk a9 r) (hk : r.length ≤ k) : tl_Sk (upd a9 k v) r :=
  tl_stk_mono r (fun i x hi h => by rw [pk_un (by omega)]; exact h) h
theorem tl_Zat {a5 a6 a7 a8 : Nat → Int32} {ns : List tl_Nd} (h : tl_Nk a5 a6 a7 a8 ns) {a : Nat} (ha : a < ns.length) : a8 a = nI (tl_Z ns a) := (tl_stk_get (d := (0, 0, 0, 0)) ns a ha h).2.2.2
section
variable {md hg kn lv lf cm lt : Int32} {a1 a2 a3 a4 a5 a6 a7 a8 a9 a10 a11 a12 a13 a14 a15 a16 a17 a18 a19 a20 a21 : Nat → Int32}
/-- the last steps of make -/
theorem tl_w_124 {post : Int32 → St2 → Prop} {k g z : Nat} {v : Int32} {z0 z1 : Int32} (hk : k < 12) (hg' : g < 12) (hz : z < 128) (hzz : z1 + z0 = nI z)
    (hp : post (nI (g + 1)) (nI (k + 1), nI (g + 1), kn, lv, lf, cm, lt, a1, a2, a3, a4, a5, a6, a7, upd a8 k (nI z), upd a9 g (nI k), a10, a11, a12, a13, a14, a15, a16, a17, a18, a19, a20, a21)) : wX_make_124 post z0 z1 (nI k) (nI k) (nI g) kn lv lf cm lt a1 a2 a3 a4 a5 a6 a7 a8 a9 a10 a11 a12 a13 a14 a15 a16 a17 a18 a19 a20 a21 := by
  unfold wX_make_124
  exact ⟨pk_in k 12 hk, nm_r (tl_wr k rfl (by omega) (by rw [hzz, tl_n8 z hz])) ⟨pk_in g 12 hg', nm_r (tl_wr g rfl (by omega) (tl_n8 k (by omega))) (nm_r (nI_1 g) (nm_r (nI_1 k) hp))⟩⟩
theorem tl_w_mk0 {post : Int32 → St2 → Prop} {k g c : Nat} (hk : k < 12) (hg' : g < 12) (hc : c < 128)
    (hp : post (nI (g + 1)) (nI (k + 1), nI (g + 1), kn, lv, lf, cm, lt, a1, a2, a3, a4, upd a5 k (nI c), upd a6 k (nI 0), upd a7 k (nI 0), upd a8 k (nI 1), upd a9 g (nI k), a10, a11, a12, a13, a14, a15, a16, a17, a18, a19, a20, a21)) : wpX_make post (nI k, nI g, kn, lv, lf, cm, lt, a1, a2, a3, a4, a5, a6, a7, a8, a9, a10, a11, a12, a13, a14, a15, a16, a17, a18, a19, a20, a21) (nI c) (nI 0) := by
  unfold wpX_make
  refine nm_r (e' := nI g) (pk_sub (Nat.zero_le g)) (br_t (by decide) ?_)
  unfold wX_make_27
  refine br_t (by decide) ?_
  unfold wX_make_48
  refine ⟨pk_in k 12 hk, nm_r (tl_wr k rfl (by omega) (tl_n8 c hc)) ⟨pk_in k 12 hk, nm_r (tl_wr k rfl (by omega) (tl_n8 0 (by decide))) ⟨pk_in k 12 hk, nm_r (tl_wr k rfl (by omega) (tl_n8 0 (by decide))) (br_t (by decide) ?_)⟩⟩⟩
  unfold wX_make_107
  exact br_t (by decide) (tl_w_124 (v := 0) hk hg' (by decide) (by decide) hp)
theorem tl_w_mk1 {post : Int32 → St2 → Prop} {k g c a z : Nat} (hk : k < 12) (hg' : g < 12) (hc : c < 128) (ha : a < 12) (hz : z < 100) (h9 : a9 g = nI a) (hak : a ≠ k) (h8 : a8 a = nI z)
    (hp : post (nI (g + 1)) (nI (k + 1), nI (g + 1), kn, lv, lf, cm, lt, a1, a2, a3, a4, upd a5 k (nI c), upd a6 k (nI a), upd a7 k (nI 0), upd a8 k (nI (1 + z)), upd a9 g (nI k), a10, a11, a12, a13, a14, a15, a16, a17, a18, a19, a20, a21)) : wpX_make post (nI k, nI (g + 1), kn, lv, lf, cm, lt, a1, a2, a3, a4, a5, a6, a7, a8, a9, a10, a11, a12, a13, a14, a15, a16, a17, a18, a19, a20, a21) (nI c) (nI 1) := by
  unfold wpX_make
  refine nm_r (e' := nI g) (nI_pred g) (br_f (by decide) ⟨pk_in g 12 hg', ?_⟩)
  rw [nI_clamp (show g < 2 ^ 31 by omega), h9]
  unfold wX_make_27
  refine br_t (by decide) ?_
  unfold wX_make_48
  refine ⟨pk_in k 12 hk, nm_r (tl_wr k rfl (by omega) (tl_n8 c hc)) ⟨pk_in k 12 hk, nm_r (tl_wr k rfl (by omega) (tl_n8 a (by omega))) ⟨pk_in k 12 hk, nm_r (tl_wr k rfl (by omega) (tl_n8 0 (by decide))) (br_f (by decide) ⟨pk_in a 12 ha, ?_⟩)⟩⟩⟩
  rw [nI_clamp (show a < 2 ^ 31 by omega), h8]
  unfold wX_make_107
  exact br_t (by decide) (tl_w_124 (v := 0) hk hg' (by omega) (by rw [show (1 : Int32) = nI 1 from rfl, nI_add]; exact nI_add _ 0) hp)
theorem tl_w_mk2 {post : Int32 → St2 → Prop} {k g c a b z z' : Nat} (hk : k < 12) (hg' : g + 1 < 12) (hc : c < 128) (ha : a < 12) (hb : b < 12) (hz : z < 60) (hz' : z' < 60) (h9 : a9 g = nI a) (h9' : a9 (g + 1) = nI b) (h8 : a8 a = nI z) (h8' : a8 b = nI z')
    (hp : post (nI (g + 1)) (nI (k + 1), nI (g + 1), kn, lv, lf, cm, lt, a1, a2, a3, a4, upd a5 k (nI c), upd a6 k (nI a), upd a7 k (nI b), upd a8 k (nI (1 + z + z')), upd a9 g (nI k), a10, a11, a12, a13, a14, a15, a16, a17, a18, a19, a20, a21)) : wpX_make post (nI k, nI (g + 1 + 1), kn, lv, lf, cm, lt, a1, a2, a3, a4, a5, a6, a7, a8, a9, a10, a11, a12, a13, a14, a15, a16, a17, a18, a19, a20, a21) (nI c) (nI 2) := by
  unfold wpX_make
  refine nm_r (e' := nI g) (pk_sub (a := g + 2) (b := 2) (by omega)) (br_f (by decide) ⟨pk_in g 12 (by omega), ?_⟩)
  rw [nI_clamp (show g < 2 ^ 31 by omega), h9]
  unfold wX_make_27
  refine br_f (by decide) ⟨pk_in (g + 1) 12 hg' (nI_1 g), ?_⟩
  rw [nI_1, nI_clamp (show g + 1 < 2 ^ 31 by omega), h9']
  unfold wX_make_48
  refine ⟨pk_in k 12 hk, nm_r (tl_wr k rfl (by omega) (tl_n8 c hc)) ⟨pk_in k 12 hk, nm_r (tl_wr k rfl (by omega) (tl_n8 a (by omega))) ⟨pk_in k 12 hk, nm_r (tl_wr k rfl (by omega) (tl_n8 b (by omega))) (br_f (by decide) ⟨pk_in a 12 ha, ?_⟩)⟩⟩⟩
  rw [nI_clamp (show a < 2 ^ 31 by omega), h8]
  unfold wX_make_107
  refine br_f (by decide) ⟨pk_in b 12 hb, ?_⟩
  rw [nI_clamp (show b < 2 ^ 31 by omega), h8']
  exact tl_w_124 (v := 0) hk (by omega) (by omega) (by rw [show (1 : Int32) = nI 1 from rfl, nI_add, nI_add]) hp
theorem tl_w_to12 {post : St2 → Prop} {ns' : List tl_Nd} {st' : List Nat} (hp : ∀ a5 a6 a7 a8 a9, tl_Nk a5 a6 a7 a8 ns' → tl_Sk a9 st' → post (nI ns'.length, nI st'.length, kn, lv, lf, cm, lt, a1, a2, a3, a4, a5, a6, a7, a8, a9, a10, a11, a12, a13, a14, a15, a16, a17, a18, a19, a20, a21)) :
    ∀ (ls : List Nat) (ns : List tl_Nd) (st : List Nat) (a5 a6 a7 a8 a9 : Nat → Int32), ls.length ≤ 12 → tl_stk (fun j c => a21 j = nI c) ls → tl_Nk a5 a6 a7 a8 ns → tl_Sk a9 st → tl_bld ls ns st = some (ns', st') → wX_takeOver_12 post (ls.length + 1) (nI ls.length - 1) (nI ns.length) (nI st.length) kn lv lf cm lt a1 a2 a3 a4 a5 a6 a7 a8 a9 a10 a11 a12 a13 a14 a15 a16 a17 a18 a19 a20 a21 := by
  intro ls
  induction ls with
  | nil =>
    intro ns st a5 a6 a7 a8 a9 _ _ hN hK hb
    have : (ns, st) = (ns', st') := Option.some.inj hb
    rw [Prod.mk.injEq] at this
    rw [this.1] at hN ⊢
    rw [this.2] at hK ⊢
    exact br_t (by decide) (hp _ _ _ _ _ hN hK)
  | cons c r ih =>
    intro ns st a5 a6 a7 a8 a9 hl hls hN hK hb
    have hl' : r.length + 1 ≤ 12 := hl
    rw [tl_lv]
    show wX_takeOver_12 post ((r.length + 1) + 1) (nI r.length) (nI ns.length) (nI st.length) kn lv lf cm lt a1 a2 a3 a4 a5 a6 a7 a8 a9 a10 a11 a12 a13 a14 a15 a16 a17 a18 a19 a20 a21
    unfold tl_bld at hb
    cases e : tl_mk ns st c with
    | none => rw [e] at hb; exact absurd hb (by intro h; cases h)
    | some p =>
      rw [e] at hb
      have nx : ∀ (b5 b6 b7 b8 b9 : Nat → Int32), tl_Nk b5 b6 b7 b8 p.1 → tl_Sk b9 p.2 → wX_takeOver_12 post (r.length + 1) (nI r.length - 1) (nI p.1.length) (nI p.2.length) kn lv lf cm lt a1 a2 a3 a4 b5 b6 b7 b8 b9 a10 a11 a12 a13 a14 a15 a16 a17 a18 a19 a20 a21 := fun b5 b6 b7 b8 b9 h1 h2 => ih p.1 p.2 b5 b6 b7 b8 b9 (by omega) hls.2 h1 h2 hb
      have em : nI r.length + (-1) = nI r.length - 1 := by grind
      unfold tl_mk at e
      by_cases c0 : ns.length < 12 ∧ st.length < 12
      rotate_left
      · rw [if_neg c0] at e; exact absurd e (by intro h; cases h)
      rw [if_pos c0] at e
      have ec : a21 (nI r.length).toNatClampNeg = nI c := tl_rd r.length rfl (by omega) hls.1
      refine br_f (nI_pos (by omega)) ⟨pk_in r.length 12 (by omega), nm_r ec ?_⟩
      by_cases c1 : c < 2
      · rw [if_pos c1, Option.some.injEq] at e
        subst e
        refine br_f (fun z => absurd ((nI_eq (b := 3) (by omega) (by decide)).mp z) (by omega)) ?_
        unfold wX_takeOver_74
        refine br_f (nI_ge (b := 2) c1 (by decide)) ?_
        unfold wX_takeOver_88
        exact tl_w_mk0 c0.1 c0.2 (by omega) (nm_r em (nx _ _ _ _ _ (tl_Nk_add hN) (tl_Sk_put hK)))
      · rw [if_neg c1] at e
        by_cases c2 : c = 2
        · rw [if_pos c2] at e
          subst c2
          cases st with
          | nil => exact absurd e (by intro h; cases h)
          | cons a s =>
            dsimp only at e
            by_cases c3 : a < ns.length ∧ tl_Z ns a < 40
            · rw [if_pos c3, Option.some.injEq] at e
              subst e
              have hs : s.length + 1 < 12 := c0.2
              refine br_f (by decide) ?_
              unfold wX_takeOver_74
              refine br_t (by decide) ?_
              unfold wX_takeOver_88
              exact tl_w_mk1 c0.1 (show s.length < 12 by omega) (by decide) (show a < 12 by omega) (by omega) hK.1 (by omega) (tl_Zat hN c3.1) (nm_r em (nx _ _ _ _ _ (tl_Nk_add hN) (tl_Sk_put hK.2)))
            · rw [if_neg c3] at e; exact absurd e (by intro h; cases h)
        · rw [if_neg c2] at e
          by_cases c3 : c = 3
          rotate_left
          · rw [if_neg c3] at e; exact absurd e (by intro h; cases h)
          rw [if_pos c3] at e
          subst c3
          cases st with
          | nil => exact absurd e (by intro h; cases h)
          | cons a s =>
            cases s with
            | nil => exact absurd e (by intro h; cases h)
            | cons b s =>
              dsimp only at e
              by_cases c4 : a < ns.length ∧ b < ns.length ∧ tl_Z ns a < 40 ∧ tl_Z ns b < 40
              rotate_left
              · rw [if_neg c4] at e; exact absurd e (by intro h; cases h)
              rw [if_pos c4, Option.some.injEq] at e
              subst e
              have hs : s.length + 1 + 1 < 12 := c0.2
              have k1 : a9 (s.length + 1) = nI a := hK.1
              have k2 : a9 s.length = nI b := hK.2.1
              have i1 : nI (a :: b :: s).length - 1 = nI (s.length + 1) := nI_pred _
              have i2 : nI (a :: b :: s).length - 2 = nI s.length := pk_sub (a := s.length + 1 + 1) (b := 2) (by omega)
              have na : vp_nar .byte (nI a) = nI a := tl_nar (by omega)
              have nb : vp_nar .byte (nI b) = nI b := tl_nar (by omega)
              refine br_t rfl ⟨pk_in (s.length + 1) 12 (by omega) i1, nm_r (tl_rd (s.length + 1) i1 (by omega) k1) ⟨pk_in s.length 12 (by omega) i2, pk_in (s.length + 1) 12 (by omega) i1, nm_r (tl_wr (s.length + 1) i1 (by omega) (by rw [tl_rd s.length i2 (by omega) k2, nb])) ⟨pk_in s.length 12 (by omega) i2, nm_r (tl_wr s.length i2 (by omega) na) ?_⟩⟩⟩
              unfold wX_takeOver_74
              refine br_t (by decide) ?_
              unfold wX_takeOver_88
              exact tl_w_mk2 c0.1 (show s.length + 1 < 12 by omega) (by decide) (show a < 12 by omega) (show b < 12 by omega) (by omega) (by omega) pk_us (by rw [pk_un (by omega), pk_us]) (tl_Zat hN c4.1) (tl_Zat hN c4.2.1) (nm_r em (nx _ _ _ _ _ (tl_Nk_add hN) (tl_Sk_put (tl_Sk_up (tl_Sk_up hK.2.2 (by omega)) (Nat.le_refl _)))))
theorem tl_w_takeOver {post : St2 → Prop} {ls : List Nat} {ns' : List tl_Nd} {st' : List Nat} (hl : ls.length ≤ 12) (hlt : lt = nI ls.length) (hls : tl_stk (fun j c => a21 j = nI c) ls) (hb : tl_bld ls [] [] = some (ns', st'))
    (hp : ∀ a5 a6 a7 a8 a9, tl_Nk a5 a6 a7 a8 ns' → tl_Sk a9 st' → post (nI ns'.length, nI st'.length, kn, lv, lf, cm, lt, a1, a2, a3, a4, a5, a6, a7, a8, a9, a10, a11, a12, a13, a14, a15, a16, a17, a18, a19, a20, a21)) : wpX_takeOver post (md, hg, kn, lv, lf, cm, lt, a1, a2, a3, a4, a5, a6, a7, a8, a9, a10, a11, a12, a13, a14, a15, a16, a17, a18, a19, a20, a21) := by
  unfold wpX_takeOver
  unfold wpX_discard
  subst hlt
  exact nm_e ⟨ls.length + 1, tl_w_to12 hp ls [] [] a5 a6 a7 a8 a9 hl hls trivial trivial hb⟩
/-- load: a tree is found and laid -/
theorem tl_w_load {post : Int32 → St2 → Prop} {x y t k n i : Nat} {ls : List Nat} {ns : List tl_Nd} {st : List Nat} (hx : x < 4) (hy : y < 4) (hxy : x ≠ y) (ht : t < 2) (h1 : a1 = tl_a1 x y 1) (h2 : a2 = tl_a2 x y t) (h3 : a3 = tl_a3 x y)
    (hkn : kn = 0 ∨ (kn = 1 ∧ tl_Tab x y 1 a14)) (hk : k < 7) (hn1 : 1 ≤ n) (hn : n ≤ 7) (hi : i < tl_cv x y 1 (a4 0) (a4 1) k n) (hc : tl_cv x y 1 (a4 0) (a4 1) k n < 1000)
    (hrun : tl_run t 60 ([(n, 0, 0, 0, if tl_is (a4 0) (a4 1) k (nI (tl_q x y 1 n 0)) = 0 then 0 else 1, if tl_is (a4 0) (a4 1) k (nI (tl_q x y 1 n 1)) = 0 then 0 else 1)], i, 3, []) = some ls) (hl : ls.length ≤ 12) (hb : tl_bld ls [] [] = some (ns, st))
    (hp : ∀ lv lf cm lt a5 a6 a7 a8 a9 a14 a16 a17 a18 a19 a20 a21, tl_Tab x y 1 a14 → tl_Nk a5 a6 a7 a8 ns → tl_Sk a9 st → post 0 (nI ns.length, nI st.length, 1, lv, lf, cm, lt, a1, a2, a3, a4, a5, a6, a7, a8, a9, a10, a11, a12, a13, a14, a15, a16, a17, a18, a19, a20, a21)) : wpX_load post (md, hg, kn, lv, lf, cm, lt, a1, a2, a3, a4, a5, a6, a7, a8, a9, a10, a11, a12, a13, a14, a15, a16, a17, a18, a19, a20, a21) (nI k) (nI n) (nI i) := by
  unfold wpX_load
  refine tl_w_bk hk (br_t rfl (pk_lt n 1 (fun z => absurd z (by omega)) (fun _ => pk_le n 7 (fun _ => ?_) (fun z => absurd z (by omega)))))
  refine tl_w_find hx hy hxy ht (by decide) h1 h2 h3 hkn (fun b hb14 => tl_w_countOf hx hy hxy hk hn1 hn hb14 ?_)
  refine pk_lt i 0 (fun z => absurd z (by omega)) (fun _ => pk_lt i (tl_cv x y 1 (a4 0) (a4 1) k n) (fun _ => ?_) (fun z => absurd z (by omega)))
  refine pk_loop (fun fu j w => wX_load_49 post (nI k) (nI n) (nI i) md hg 1 lv lf cm lt fu (nI j) a1 a2 a3 a4 a5 a6 a7 a8 a9 a10 a11 a12 a13 b a15 w a17 a18 a19 a20 a21) (fun j w => ∀ p, p < j → w p = nI (if tl_is (a4 0) (a4 1) k (nI p) = 0 then 0 else 1)) 256 0 a16 (by omega) (fun p hp => absurd hp (by omega)) ?_ ?_
  · intro fu w hw
    refine pk_le 256 256 (fun _ => tl_w_start (l := 0) (by decide) (by omega) (by decide) ⟨61, ?_⟩) (fun z => absurd z (by omega))
    refine tl_w_112 (t := t) (ls := ls) hx hy hxy ht h1 h2 h3 hb14 (fun lv lf cm lt a16 a17 a18 a19 a20 a21 hlt hls => ?_) 60 0 ([(n, 0, 0, 0, if tl_is (a4 0) (a4 1) k (nI (tl_q x y 1 n 0)) = 0 then 0 else 1, if tl_is (a4 0) (a4 1) k (nI (tl_q x y 1 n 1)) = 0 then 0 else 1)], i, 3, []) _ _ _ _ _ _ _ _ _ _ (by decide) ⟨(tl_lv _ []).symm, rfl, fun z => absurd (show 3 < 3 from z) (by decide), rfl, trivial, ⟨⟨pk_us, pk_us, fun z => absurd (show 2 ≤ 0 from z) (by decide), fun z => absurd (show 0 = 3 from z) (by decide), fun s hs => ?_⟩, trivial⟩⟩ hrun
    · unfold wX_load_136
      exact tl_w_takeOver hl hlt hls hb (fun a5 a6 a7 a8 a9 hN hK => hp _ _ _ _ _ _ _ _ _ _ _ _ _ _ _ _ hb14 hN hK)
    · have hq := tl_q_lt hx hy 1 n s
      show w (256 * 0 + tl_q x y 1 n s) = _
      rw [show 256 * 0 + tl_q x y 1 n s = tl_q x y 1 n s by omega, hw _ hq]
      have c : s = 0 ∨ s = 1 := by omega
      rcases c with c | c <;> subst c <;> rfl
  · intro fu j w hj hw hk'
    refine pk_le 256 j (fun z => absurd z (by omega)) (fun _ => tl_w_is k hk _ (br_c (fun c => ⟨pk_in j 2048 (by omega), nm_r (tl_wr j rfl (by omega) (v' := nI 0) rfl) (nm_r (nI_1 j) (hk' _ ?_))⟩) (fun c => ⟨pk_in j 2048 (by omega), nm_r (tl_wr j rfl (by omega) (v' := nI 1) rfl) (nm_r (nI_1 j) (hk' _ ?_))⟩)))
    · intro p hp
      by_cases e : p = j
      · rw [e, pk_us, if_pos c]
      · rw [pk_un e]; exact hw p (by omega)
    · intro p hp
      by_cases e : p = j
      · rw [e, pk_us, if_neg c]
      · rw [pk_un e]; exact hw p (by omega)
/-- load: no such tree -/
theorem tl_w_loadN {post : Int32 → St2 → Prop} {x y t k n i : Nat} (hx : x < 4) (hy : y < 4) (hxy : x ≠ y) (ht : t < 2) (h1 : a1 = tl_a1 x y 1) (h2 : a2 = tl_a2 x y t) (h3 : a3 = tl_a3 x y)
    (hkn : kn = 0 ∨ (kn = 1 ∧ tl_Tab x y 1 a14)) (hk : k < 7) (hn1 : 1 ≤ n) (hn : n ≤ 7) (hi : tl_cv x y 1 (a4 0) (a4 1) k n ≤ i) (hc : i < 1000)
    (hp : ∀ b, tl_Tab x y 1 b → post (-4) (md, hg, 1, lv, lf, cm, lt, a1, a2, a3, a4, a5, a6, a7, a8, a9, a10, a11, a12, a13, b, a15, a16, a17, a18, a19, a20, a21)) : wpX_load post (md, hg, kn, lv, lf, cm, lt, a1, a2, a3, a4, a5, a6, a7, a8, a9, a10, a11, a12, a13, a14, a15, a16, a17, a18, a19, a20, a21) (nI k) (nI n) (nI i) := by
  unfold wpX_load
  refine tl_w_bk hk (br_t rfl (pk_lt n 1 (fun z => absurd z (by omega)) (fun _ => pk_le n 7 (fun _ => ?_) (fun z => absurd z (by omega)))))
  refine tl_w_find hx hy hxy ht (by decide) h1 h2 h3 hkn (fun b hb14 => tl_w_countOf hx hy hxy hk hn1 hn hb14 ?_)
  exact pk_lt i 0 (fun z => absurd z (by omega)) (fun _ => pk_lt i (tl_cv x y 1 (a4 0) (a4 1) k n) (fun z => absurd z (by omega)) (fun _ => hp b hb14))
end
end
section
/-- how many trees of a size there are -/
def tl_AL (n : Nat) : Nat := match n with | 1 => 2 | 2 => 2 | 3 => 6 | 4 => 14 | 5 => 42 | 6 => 122 | 7 => 382 | 8 => 1206 | 9 => 3922 | 10 => 12914 | 11 => 43190 | 12 => 145950 | _ => 0
def tl_sm (n : Nat) : Nat → Nat
  | 0 => 0
  | i + 1 => tl_sm n i + tl_AL i * tl_AL (n - 1 - i)
/-- the numbers of the nodes: what rank finds -/
abbrev tl_rkok (T F S Z V : Nat → Nat) (k : Nat) : Prop := T k ≤ 3 ∧ (T k < 2 → V k = T k) ∧ (T k = 2 → F k < k ∧ V k = V (F k)) ∧ (T k = 3 → F k < k ∧ S k < k ∧ 1 ≤ Z k ∧ Z k ≤ 13 ∧ Z (S k) < 13 ∧ 1 ≤ Z (F k) ∧ Z (F k) < Z k ∧ V k = tl_AL (Z k - 1) + V (F k) * tl_AL (Z (S k)) + V (S k) + tl_sm (Z k) (Z (F k)))
/-- the arrays of the nodes up to top -/
def tl_Tr (T F S Z : Nat → Nat) (top : Nat) (a5 a6 a7 a8 : Nat → Int32) : Prop := ∀ k, k ≤ top → a5 k = nI (T k) ∧ a6 k = nI (F k) ∧ a7 k = nI (S k) ∧ a8 k = nI (Z k)
section
variable {md hg kn lv lf cm lt : Int32} {a1 a2 a3 a4 a5 a6 a7 a8 a9 a10 a11 a12 a13 a14 a15 a16 a17 a18 a19 a20 a21 : Nat → Int32}
theorem tl_w_top1 {post : Int32 → Prop} {top : Nat} (hhg : hg = nI 1) (h9 : a9 0 = nI top) (hp : post (nI top)) : wpX_topmost post (md, hg, kn, lv, lf, cm, lt, a1, a2, a3, a4, a5, a6, a7, a8, a9, a10, a11, a12, a13, a14, a15, a16, a17, a18, a19, a20, a21) := by
  unfold wpX_topmost
  rw [hhg]
  refine br_f (by decide) ⟨pk_in 0 12 (by decide) (by decide), ?_⟩
  rw [show (nI 1 - 1).toNatClampNeg = 0 from by decide, h9]
  exact hp
theorem tl_w_rank {post : Int32 → St2 → Prop} {top : Nat} {T F S Z V : Nat → Nat} (htop : top < 12) (hhg : hg = nI 1) (h9 : a9 0 = nI top) (hN : tl_Tr T F S Z top a5 a6 a7 a8) (hA : ∀ j, j < 13 → a15 j = nI (tl_AL j)) (hV : ∀ k, k ≤ top → tl_rkok T F S Z V k)
    (hp : ∀ b, post (nI (V top)) (md, hg, kn, lv, lf, cm, lt, a1, a2, a3, a4, a5, a6, a7, a8, a9, a10, a11, b, a13, a14, a15, a16, a17, a18, a19, a20, a21)) : wpX_rank post (md, hg, kn, lv, lf, cm, lt, a1, a2, a3, a4, a5, a6, a7, a8, a9, a10, a11, a12, a13, a14, a15, a16, a17, a18, a19, a20, a21) := by
  unfold wpX_rank
  refine tl_w_top1 hhg h9 (br_t (nI_pos' (by omega)) ?_)
  refine pk_loop (fun fu i b => wX_rank_14 post (nI top) md hg kn lv lf cm lt fu (nI i) a1 a2 a3 a4 a5 a6 a7 a8 a9 a10 a11 b a13 a14 a15 a16 a17 a18 a19 a20 a21) (fun i b => ∀ j, j < i → b j = nI (V j)) (top + 1) 0 a12 (by omega) (fun j hj => absurd hj (by omega)) ?_ ?_
  · intro fu b hb
    refine pk_lt top (top + 1) (fun _ => ⟨pk_in top 12 htop, ?_⟩) (fun z => absurd z (by omega))
    rw [nI_clamp (show top < 2 ^ 31 by omega), hb top (by omega)]
    exact hp b
  · intro fu i b hi hb hw
    obtain ⟨n5, n6, n7, n8⟩ := hN i (by omega)
    obtain ⟨v0, v1, v2, v3⟩ := hV i (by omega)
    have ii : vp_in (nI i) 12 := pk_in i 12 (by omega)
    have ec : (nI i).toNatClampNeg = i := nI_clamp (by omega)
    have put : ∀ v, v = nI (V i) → ∀ j, j < i + 1 → upd b i v j = nI (V j) := by
      intro v hv j hj
      by_cases e : j = i
      · rw [e, pk_us, hv]
      · rw [pk_un e]; exact hb j (by omega)
    refine pk_lt top i (fun z => absurd z (by omega)) (fun _ => ⟨ii, nm_r (tl_rd i rfl (by omega) n8) ⟨ii, nm_r (tl_rd i rfl (by omega) n6) ⟨ii, nm_r (tl_rd i rfl (by omega) n7) ⟨ii, ?_⟩⟩⟩⟩)
    rw [ec, n5]
    refine pk_le 2 (T i) (fun z => ⟨ii, pk_eq (T i) 2 (fun e => ?_) (fun e => ?_)⟩) (fun z => ⟨ii, ii, nm_e (nm_r (nI_1 i) (hw _ (put _ (by rw [v1 z]))))⟩)
    · obtain ⟨fk, vk⟩ := v2 e
      exact ⟨pk_in (F i) 12 (by omega), ii, nm_e (nm_r (nI_1 i) (hw _ (put _ (by rw [nI_clamp (show F i < 2 ^ 31 by omega), hb _ fk, vk]))))⟩
    · obtain ⟨fk, sk, z1, z13, zs, zf1, zf, vk⟩ := v3 (by omega)
      obtain ⟨_, _, _, m8⟩ := hN (S i) (by omega)
      obtain ⟨_, _, _, l8⟩ := hN (F i) (by omega)
      have cs : (nI (S i)).toNatClampNeg = S i := nI_clamp (by omega)
      have cf : (nI (F i)).toNatClampNeg = F i := nI_clamp (by omega)
      rw [cs, cf, m8, tl_sub1 z1]
      have cz : (nI (Z (S i))).toNatClampNeg = Z (S i) := nI_clamp (by omega)
      have cz' : (nI (Z i - 1)).toNatClampNeg = Z i - 1 := nI_clamp (by omega)
      rw [cz, cz', hA _ zs, hA _ (by omega), hb _ fk, hb _ sk]
      refine ⟨pk_in (Z i - 1) 13 (by omega), pk_in (F i) 12 (by omega), pk_in (S i) 12 (by omega), pk_in (Z (S i)) 13 zs, pk_in (S i) 12 (by omega), ii, nm_e ?_⟩
      rw [pk_mul, nI_add, nI_add]
      refine pk_loop (fun fu' j c => wX_rank_139 post (wX_rank_14 post (nI top) md hg kn lv lf cm lt fu) (nI top) (nI i) (nI (Z i)) (nI (F i)) md hg kn lv lf cm lt fu' (nI j) a1 a2 a3 a4 a5 a6 a7 a8 a9 a10 a11 c a13 a14 a15 a16 a17 a18 a19 a20 a21) (fun j c => 1 ≤ j ∧ (∀ q, q < i → c q = nI (V q)) ∧ c i = nI (tl_AL (Z i - 1) + V (F i) * tl_AL (Z (S i)) + V (S i) + tl_sm (Z i) j)) (Z (F i)) 1 _ zf1 ⟨Nat.le_refl 1, fun q hq => ?_, ?_⟩ ?_ ?_
      · rw [pk_un (by omega)]; exact hb q hq
      · rw [pk_us]
        refine congrArg nI ?_
        show _ = _ + (0 + 0 * _)
        omega
      · intro fu' c ⟨_, c1, c2⟩
        refine ⟨pk_in (F i) 12 (by omega), pk_le (Z (F i)) (Z (F i)) (fun _ => nm_r (nI_1 i) (hw c ?_)) (fun z => absurd z (by omega)) (tl_rd (F i) rfl (by omega) l8)⟩
        intro j hj
        by_cases e : j = i
        · rw [e, c2, vk]
        · exact c1 j (by omega)
      · intro fu' j c hj ⟨j1, c1, c2⟩ hk
        have ej : (nI (Z i) - 1) - nI j = nI (Z i - 1 - j) := tl_sub2 (by omega)
        refine ⟨pk_in (F i) 12 (by omega), pk_le (Z (F i)) j (fun z => absurd z (by omega)) (fun _ => ⟨ii, pk_in j 13 (by omega), pk_in (Z i - 1 - j) 13 (by omega) ej, ii, nm_r (tl_wr i rfl (by omega) (v' := nI (tl_AL (Z i - 1) + V (F i) * tl_AL (Z (S i)) + V (S i) + tl_sm (Z i) (j + 1))) ?_) (nm_r (nI_1 j) (hk _ ⟨by omega, fun q hq => ?_, pk_us⟩))⟩) (tl_rd (F i) rfl (by omega) l8)⟩
        · rw [ec, c2, ej, nI_clamp (show j < 2 ^ 31 by omega), nI_clamp (show Z i - 1 - j < 2 ^ 31 by omega), hA j (by omega), hA (Z i - 1 - j) (by omega), pk_mul, nI_add]
          refine congrArg nI ?_
          show _ = _ + (tl_sm (Z i) j + _)
          omega
        · rw [pk_un (by omega)]; exact c1 q hq
/-- the classes of the nodes -/
abbrev tl_clok (t : Nat) (T F S K : Nat → Nat) (k : Nat) : Prop := T k ≤ 3 ∧ K k < 3 ∧ F k < 12 ∧ S k < 12 ∧ (T k < 2 → K k = tl_k 1 1 (T k)) ∧ (T k = 2 → F k < k ∧ K k = tl_xr (tl_st (K (F k))) t) ∧ (T k = 3 → F k < k ∧ S k < k ∧ K k = tl_xr (tl_st (K (F k))) (tl_st (K (S k))))
theorem tl_w_pairOf {post : Int32 → St2 → Prop} {x y t top : Nat} {T F S Z K : Nat → Nat} (hx : x < 4) (hy : y < 4) (hxy : x ≠ y) (ht : t < 2) (h1 : a1 = tl_a1 x y 1) (h2 : a2 = tl_a2 x y t) (h3 : a3 = tl_a3 x y) (htop : top < 12) (hN : tl_Tr T F S Z top a5 a6 a7 a8) (hK : ∀ k, k ≤ top → tl_clok t T F S K k)
    (hp : ∀ b, post (nI (tl_pn x y (K top))) (md, hg, kn, lv, lf, cm, lt, a1, a2, a3, a4, a5, a6, a7, a8, a9, a10, a11, b, a13, a14, a15, a16, a17, a18, a19, a20, a21)) : wpX_pairOf post (md, hg, kn, lv, lf, cm, lt, a1, a2, a3, a4, a5, a6, a7, a8, a9, a10, a11, a12, a13, a14, a15, a16, a17, a18, a19, a20, a21) (nI top) := by
  unfold wpX_pairOf
  refine pk_loop (fun fu i b => wX_pairOf_2 post (nI top) md hg kn lv lf cm lt fu (nI i) a1 a2 a3 a4 a5 a6 a7 a8 a9 a10 a11 b a13 a14 a15 a16 a17 a18 a19 a20 a21) (fun i b => ∀ j, j < i → b j = nI (tl_pn x y (K j))) (top + 1) 0 a12 (by omega) (fun j hj => absurd hj (by omega)) ?_ ?_
  · intro fu b hb
    refine pk_lt top (top + 1) (fun _ => ⟨pk_in top 12 htop, ?_⟩) (fun z => absurd z (by omega))
    rw [nI_clamp (show top < 2 ^ 31 by omega), hb top (by omega)]
    exact hp b
  · intro fu i b hi hb hw
    obtain ⟨n5, n6, n7, n8⟩ := hN i (by omega)
    obtain ⟨v0, vK, vF, vS, v1, v2, v3⟩ := hK i (by omega)
    have ii : vp_in (nI i) 12 := pk_in i 12 (by omega)
    have ec : (nI i).toNatClampNeg = i := nI_clamp (by omega)
    have put : ∀ v, v = nI (tl_pn x y (K i)) → ∀ j, j < i + 1 → upd b i v j = nI (tl_pn x y (K j)) := by
      intro v hv j hj
      by_cases e : j = i
      · rw [e, pk_us, hv]
      · rw [pk_un e]; exact hb j (by omega)
    refine pk_lt top i (fun z => absurd z (by omega)) (fun _ => ?_)
    rw [ec, n5, n6, n7, nI_clamp (show F i < 2 ^ 31 by omega), nI_clamp (show S i < 2 ^ 31 by omega)]
    refine ⟨ii, pk_in (F i) 12 vF, nm_e ⟨ii, pk_in (S i) 12 vS, nm_e ⟨ii, ?_⟩⟩⟩
    refine pk_le 2 (T i) (fun z => ⟨ii, pk_eq (T i) 2 (fun e => ?_) (fun e => ?_)⟩) (fun z => ⟨ii, ?_⟩)
    · obtain ⟨fk, vk⟩ := v2 e
      rw [hb _ fk]
      exact tl_c_op hx hy hxy ht (hK (F i) (by omega)).2.1 h2 ⟨ii, nm_e (nm_r (nI_1 i) (hw _ (put _ (by rw [vk]))))⟩
    · obtain ⟨fk, sk, vk⟩ := v3 (by omega)
      rw [hb _ fk, hb _ sk]
      exact tl_c_tp hx hy hxy (hK (F i) (by omega)).2.1 (hK (S i) (by omega)).2.1 h3 ⟨ii, nm_e (nm_r (nI_1 i) (hw _ (put _ (by rw [vk]))))⟩
    · exact tl_c_lp hx hy hxy (by decide) z h1 ⟨ii, nm_e (nm_r (nI_1 i) (hw _ (put _ (by rw [v1 z]))))⟩
theorem tl_and15 : ∀ x, x < 4 → ∀ y, y < 4 → ∀ c, c < 3 → nI (tl_pn x y c) &&& 15 = nI (2 ^ (if tl_st c = 0 then x else y)) := by decide +kernel
theorem tl_w_states {post : Int32 → St2 → Prop} {x y t top : Nat} {T F S Z K : Nat → Nat} (hx : x < 4) (hy : y < 4) (hxy : x ≠ y) (ht : t < 2) (h1 : a1 = tl_a1 x y 1) (h2 : a2 = tl_a2 x y t) (h3 : a3 = tl_a3 x y) (htop : top < 12) (hhg : hg = nI 1) (h9 : a9 0 = nI top) (hN : tl_Tr T F S Z top a5 a6 a7 a8) (hK : ∀ k, k ≤ top → tl_clok t T F S K k)
    (hp : ∀ b, post (nI (2 ^ (if tl_st (K top) = 0 then x else y))) (md, hg, kn, lv, lf, cm, lt, a1, a2, a3, a4, a5, a6, a7, a8, a9, a10, a11, b, a13, a14, a15, a16, a17, a18, a19, a20, a21)) : wpX_states post (md, hg, kn, lv, lf, cm, lt, a1, a2, a3, a4, a5, a6, a7, a8, a9, a10, a11, a12, a13, a14, a15, a16, a17, a18, a19, a20, a21) 0 := by
  unfold wpX_states
  refine tl_w_ba (m := 0) (by decide) (br_t rfl (tl_w_top1 hhg h9 (br_t (nI_pos' (by omega)) ?_)))
  refine tl_w_pairOf hx hy hxy ht h1 h2 h3 htop hN hK (fun b => br_t rfl ?_)
  rw [tl_and15 x hx y hy _ (hK top (Nat.le_refl _)).2.1]
  exact hp b
theorem tl_w_sizeOf {post : Int32 → Prop} {top : Nat} {T F S Z : Nat → Nat} (htop : top < 12) (hhg : hg = nI 1) (h9 : a9 0 = nI top) (hN : tl_Tr T F S Z top a5 a6 a7 a8) (hp : post (nI (Z top))) : wpX_size post (md, hg, kn, lv, lf, cm, lt, a1, a2, a3, a4, a5, a6, a7, a8, a9, a10, a11, a12, a13, a14, a15, a16, a17, a18, a19, a20, a21) := by
  unfold wpX_size
  refine tl_w_top1 hhg h9 (br_t (nI_pos' (by omega)) ⟨pk_in top 12 htop, ?_⟩)
  rw [nI_clamp (show top < 2 ^ 31 by omega), (hN top (Nat.le_refl _)).2.2.2]
  exact hp
/-- in how many ways: one for the state that the node has -/
def tl_wy (x y s q : Nat) : Nat := if q = (if s = 0 then x else y) then 1 else 0
def tl_wf1 (a : Nat → Int32) (A : Nat → Nat) (q : Nat) : Nat → Int32
  | 0 => 0
  | p + 1 => if p < 4 ∧ ((a p >>> (nI q &&& 31)) &&& 1) = 1 then tl_wf1 a A q p + nI (A (p % 4)) else tl_wf1 a A q p
def tl_wf2 (a : Nat → Int32) (A B : Nat → Nat) (q : Nat) : Nat → Int32
  | 0 => 0
  | p + 1 => if ((a p >>> (nI q &&& 31)) &&& 1) = 1 then tl_wf2 a A B q p + nI (A (p % 4)) * nI (B (p / 4)) else tl_wf2 a A B q p
theorem tl_allR {n : Nat} {P : Nat → Prop} {f : Nat → Bool} (h : (List.range n).all f = true) (hf : ∀ q, f q = true → P q) (q : Nat) (hq : q < n) : P q := hf q (List.all_eq_true.mp h q (List.mem_range.mpr hq))
theorem tl_wf1E : ∀ x, x < 4 → ∀ y, y < 4 → x ≠ y → ∀ t, t < 2 → ∀ s, s < 2 → (List.range 4).all (fun q => decide (tl_wf1 (tl_a2 x y t) (tl_wy x y s) q 16 = nI (tl_wy x y (tl_xr s t) q))) = true := by decide +kernel
theorem tl_wf1D (x : Nat) (hx : x < 4) (y : Nat) (hy : y < 4) (hxy : x ≠ y) (t : Nat) (ht : t < 2) (s : Nat) (hs : s < 2) (q : Nat) (hq : q < 4) : tl_wf1 (tl_a2 x y t) (tl_wy x y s) q 16 = nI (tl_wy x y (tl_xr s t) q) := tl_allR (P := fun q => tl_wf1 (tl_a2 x y t) (tl_wy x y s) q 16 = nI (tl_wy x y (tl_xr s t) q)) (tl_wf1E x hx y hy hxy t ht s hs) (fun q h => of_decide_eq_true h) q hq
theorem tl_wf2E : ∀ x, x < 4 → ∀ y, y < 4 → x ≠ y → ∀ s, s < 2 → ∀ r, r < 2 → (List.range 4).all (fun q => decide (tl_wf2 (tl_a3 x y) (tl_wy x y s) (tl_wy x y r) q 16 = nI (tl_wy x y (tl_xr s r) q))) = true := by decide +kernel
theorem tl_wf2D (x : Nat) (hx : x < 4) (y : Nat) (hy : y < 4) (hxy : x ≠ y) (s : Nat) (hs : s < 2) (r : Nat) (hr : r < 2) (q : Nat) (hq : q < 4) : tl_wf2 (tl_a3 x y) (tl_wy x y s) (tl_wy x y r) q 16 = nI (tl_wy x y (tl_xr s r) q) := tl_allR (P := fun q => tl_wf2 (tl_a3 x y) (tl_wy x y s) (tl_wy x y r) q 16 = nI (tl_wy x y (tl_xr s r) q)) (tl_wf2E x hx y hy hxy s hs r hr) (fun q h => of_decide_eq_true h) q hq
theorem tl_wflD : ∀ x, x < 4 → ∀ y, y < 4 → x ≠ y → ∀ l, l < 2 → ∀ q, q < 4 → ((tl_a1 x y 1 l >>> (nI q &&& 31)) &&& 1) = nI (tl_wy x y (tl_st (tl_k 1 1 l)) q) := by decide +kernel
theorem tl_st_lt (c : Nat) : tl_st c < 2 := by unfold tl_st; split <;> decide
theorem tl_st_xr (a b : Nat) : tl_st (tl_xr a b) = tl_xr a b := by
  have h := tl_xr_lt a b
  unfold tl_st
  split <;> omega
theorem tl_a3n {p : Nat} (hp : p < 16) : nI p &&& 3 = nI (p % 4) := pk_andN (by omega) 2 (by decide)
theorem tl_s2n {p : Nat} (hp : p < 64) : nI p >>> ((2 : Int32) &&& 31) = nI (p / 4) := pk_shrN (by omega) _ 2 (by decide)
theorem tl_w_waysOf {post : Int32 → Prop} {x y t k q top : Nat} {T F S Z K : Nat → Nat} (hx : x < 4) (hy : y < 4) (hxy : x ≠ y) (ht : t < 2) (h1 : a1 = tl_a1 x y 1) (h2 : a2 = tl_a2 x y t) (h3 : a3 = tl_a3 x y) (htop : top < 12) (hN : tl_Tr T F S Z top a5 a6 a7 a8) (hK : ∀ k, k ≤ top → tl_clok t T F S K k)
    (hk : k ≤ top) (hq : q < 4) (hw : ∀ j, j < k → ∀ r, r < 4 → a13 (4 * j + r) = nI (tl_wy x y (tl_st (K j)) r))
    (hp : post (nI (tl_wy x y (tl_st (K k)) q))) : wpX_waysOf post (md, hg, kn, lv, lf, cm, lt, a1, a2, a3, a4, a5, a6, a7, a8, a9, a10, a11, a12, a13, a14, a15, a16, a17, a18, a19, a20, a21) 0 (nI k) (nI q) := by
  obtain ⟨n5, n6, n7, n8⟩ := hN k hk
  obtain ⟨v0, vK, vF, vS, v1, v2, v3⟩ := hK k hk
  have ii : vp_in (nI k) 12 := pk_in k 12 (by omega)
  have ec : (nI k).toNatClampNeg = k := nI_clamp (by omega)
  unfold wpX_waysOf
  refine ⟨ii, ?_⟩
  rw [ec, n5]
  refine pk_le 2 (T k) (fun z => ?_) (fun z => ⟨ii, pk_in (2 * 0 + T k) 4 (by omega) (tl_l2 0 (T k)), ?_⟩)
  rotate_left
  · rw [tl_rd (a := a1) (x := 2 * 0 + nI (T k)) (2 * 0 + T k) (tl_l2 0 (T k)) (by omega) rfl, show 2 * 0 + T k = T k by omega, h1, tl_wflD x hx y hy hxy _ z q hq, ← v1 z]
    exact hp
  by_cases e : T k = 2
  · obtain ⟨fk, vk⟩ := v2 e
    rw [vk, tl_st_xr, ← tl_wf1D x hx y hy hxy t ht _ (tl_st_lt _) q hq, ← h2] at hp
    refine pk_loop (fun fu p s => wX_waysOf_36 post 0 (nI k) (nI q) md hg kn lv lf cm lt a1 a2 a3 a4 a5 a6 a7 a8 a9 a10 a11 a12 a13 a14 a15 a16 a17 a18 a19 a20 a21 fu s (nI p)) (fun p s => s = tl_wf1 a2 (tl_wy x y (tl_st (K (F k)))) q p) 16 0 0 (by omega) rfl ?_ ?_
    · intro fu s hs
      exact pk_le 16 16 (fun _ => by rw [hs]; exact hp) (fun z => absurd z (by omega))
    · intro fu p s hp16 hs hk'
      have c4 : (4 : Int32) * nI (F k) + nI (p % 4) = nI (4 * F k + p % 4) := tl_l4 _ _
      have done : ∀ s', s' = tl_wf1 a2 (tl_wy x y (tl_st (K (F k)))) q (p + 1) → wX_waysOf_110 post (wX_waysOf_36 post 0 (nI k) (nI q) md hg kn lv lf cm lt a1 a2 a3 a4 a5 a6 a7 a8 a9 a10 a11 a12 a13 a14 a15 a16 a17 a18 a19 a20 a21 fu) 0 (nI k) (nI q) s' (nI p) (nI (tl_wy x y (tl_st (K (F k))) (p % 4))) md hg kn lv lf cm lt a1 a2 a3 a4 a5 a6 a7 a8 a9 a10 a11 a12 a13 a14 a15 a16 a17 a18 a19 a20 a21 := by
        intro s' hs'
        refine ⟨ii, ?_⟩
        rw [ec, n5, e]
        exact br_f (by decide) (nm_r (nI_1 p) (hk' _ hs'))
      refine pk_le 16 p (fun z => absurd z (by omega)) (fun _ => ?_)
      rw [ec, n5, n6, tl_a3n hp16, c4, nI_clamp (show 4 * F k + p % 4 < 2 ^ 31 by omega), hw _ fk _ (by omega), e]
      refine ⟨ii, pk_in (4 * F k + p % 4) 48 (by omega), nm_e ⟨ii, br_t rfl ?_⟩⟩
      refine pk_le 4 p (fun z' => done s ?_) (fun z' => ⟨pk_in (4 * 0 + p) 8 (by omega) (tl_l4 0 p), ?_⟩)
      · rw [hs]
        show _ = if _ then _ else _
        rw [if_neg (by omega)]
      · rw [tl_rd (a := a2) (x := 4 * 0 + nI p) (4 * 0 + p) (tl_l4 0 p) (by omega) rfl, show 4 * 0 + p = p by omega]
        refine br_c (fun c => done _ ?_) (fun c => done _ ?_)
        · rw [hs]
          show _ = if _ then _ else _
          rw [if_pos ⟨z', c⟩]
        · rw [hs]
          show _ = if _ then _ else _
          rw [if_neg (fun h => c h.2)]
  · obtain ⟨fk, sk, vk⟩ := v3 (by omega)
    rw [vk, tl_st_xr, ← tl_wf2D x hx y hy hxy _ (tl_st_lt _) _ (tl_st_lt _) q hq, ← h3] at hp
    have e3 : T k = 3 := by omega
    refine pk_loop (fun fu p s => wX_waysOf_36 post 0 (nI k) (nI q) md hg kn lv lf cm lt a1 a2 a3 a4 a5 a6 a7 a8 a9 a10 a11 a12 a13 a14 a15 a16 a17 a18 a19 a20 a21 fu s (nI p)) (fun p s => s = tl_wf2 a3 (tl_wy x y (tl_st (K (F k)))) (tl_wy x y (tl_st (K (S k)))) q p) 16 0 0 (by omega) rfl ?_ ?_
    · intro fu s hs
      exact pk_le 16 16 (fun _ => by rw [hs]; exact hp) (fun z => absurd z (by omega))
    · intro fu p s hp16 hs hk'
      have c4 : (4 : Int32) * nI (F k) + nI (p % 4) = nI (4 * F k + p % 4) := tl_l4 _ _
      have c4' : (4 : Int32) * nI (S k) + nI (p / 4) = nI (4 * S k + p / 4) := tl_l4 _ _
      refine pk_le 16 p (fun z => absurd z (by omega)) (fun _ => ?_)
      rw [ec, n5, n6, tl_a3n hp16, c4, nI_clamp (show 4 * F k + p % 4 < 2 ^ 31 by omega), hw _ fk _ (by omega), e3]
      refine ⟨ii, pk_in (4 * F k + p % 4) 48 (by omega), nm_e ⟨ii, br_f (by decide) ⟨ii, ?_⟩⟩⟩
      rw [ec, n5, n7, e3, tl_s2n (by omega), c4', nI_clamp (show 4 * S k + p / 4 < 2 ^ 31 by omega), hw _ sk _ (by omega), tl_rd (a := a3) (x := 16 * 0 + nI p) (16 * 0 + p) (tl_l16 0 p) (by omega) rfl, show 16 * 0 + p = p by omega]
      refine br_t rfl ⟨pk_in (16 * 0 + p) 32 (by omega) (tl_l16 0 p), br_c (fun c => ⟨ii, pk_in (4 * S k + p / 4) 48 (by omega), nm_e (nm_r (nI_1 p) (hk' _ ?_))⟩) (fun c => nm_r (nI_1 p) (hk' _ ?_))⟩
      · rw [hs]
        show _ = if _ then _ else _
        rw [if_pos c]
      · rw [hs]
        show _ = if _ then _ else _
        rw [if_neg c]
def tl_rf (f : Int32) (A : Nat → Nat) : Nat → Int32
  | 0 => 0
  | p + 1 => if ((f >>> (nI p &&& 31)) &&& 1) = 1 then tl_rf f A p + nI (A p) else tl_rf f A p
theorem tl_rfD : ∀ x, x < 4 → ∀ y, y < 4 → x ≠ y → ∀ s, s < 2 → tl_rf (nI (2 ^ x)) (tl_wy x y s) 4 = nI (1 - s) := by decide +kernel
theorem tl_w_runs {post : Int32 → St2 → Prop} {x y t top : Nat} {T F S Z K : Nat → Nat} (hx : x < 4) (hy : y < 4) (hxy : x ≠ y) (ht : t < 2) (h1 : a1 = tl_a1 x y 1) (h2 : a2 = tl_a2 x y t) (h3 : a3 = tl_a3 x y) (h4 : a4 0 = nI (2 ^ x)) (htop : top < 12) (hhg : hg = nI 1) (h9 : a9 0 = nI top) (hN : tl_Tr T F S Z top a5 a6 a7 a8) (hK : ∀ k, k ≤ top → tl_clok t T F S K k)
    (hp : ∀ b, post (nI (1 - tl_st (K top))) (md, hg, kn, lv, lf, cm, lt, a1, a2, a3, a4, a5, a6, a7, a8, a9, a10, a11, a12, b, a14, a15, a16, a17, a18, a19, a20, a21)) : wpX_runs post (md, hg, kn, lv, lf, cm, lt, a1, a2, a3, a4, a5, a6, a7, a8, a9, a10, a11, a12, a13, a14, a15, a16, a17, a18, a19, a20, a21) 0 := by
  unfold wpX_runs
  refine tl_w_ba (m := 0) (by decide) (br_t rfl (tl_w_top1 hhg h9 (br_t (nI_pos' (by omega)) ?_)))
  have e4 : (4 : Int32) * (nI top + 1) = nI (4 * (top + 1)) := by rw [nI_1]; exact pk_mul 4 _
  refine pk_loop (fun fu i b => wX_runs_24 post 0 (nI top) md hg kn lv lf cm lt fu (nI i) a1 a2 a3 a4 a5 a6 a7 a8 a9 a10 a11 a12 b a14 a15 a16 a17 a18 a19 a20 a21) (fun i b => ∀ j, j < i → b j = nI (tl_wy x y (tl_st (K (j / 4))) (j % 4))) (4 * (top + 1)) 0 a13 (by omega) (fun j hj => absurd hj (by omega)) ?_ ?_
  · intro fu b hb
    refine pk_le (4 * (top + 1)) (4 * (top + 1)) (fun _ => ?_) (fun z => absurd z (by omega)) e4
    refine pk_loop (fun fu p s => wX_runs_61 post 0 (nI top) md hg kn lv lf cm lt a1 a2 a3 a4 a5 a6 a7 a8 a9 a10 a11 a12 b a14 a15 a16 a17 a18 a19 a20 a21 fu s (nI p)) (fun p s => s = tl_rf (a4 0) (tl_wy x y (tl_st (K top))) p) 4 0 0 (by omega) rfl ?_ ?_
    · intro fu s hs
      refine pk_le 4 4 (fun _ => ?_) (fun z => absurd z (by omega))
      rw [hs, h4, tl_rfD x hx y hy hxy _ (tl_st_lt _)]
      exact hp b
    · intro fu p s hp4 hs hk
      have hv : b (4 * top + p) = nI (tl_wy x y (tl_st (K top)) p) := by
        rw [hb _ (by omega), show (4 * top + p) / 4 = top by omega, show (4 * top + p) % 4 = p by omega]
      refine pk_le 4 p (fun z => absurd z (by omega)) (fun _ => ⟨pk_in 0 2 (by decide), br_c (fun c => ⟨pk_in (4 * top + p) 48 (by omega) (tl_l4 _ _), nm_r (e' := s + nI (tl_wy x y (tl_st (K top)) p)) (by rw [tl_rd (4 * top + p) (tl_l4 _ _) (by omega) hv]) (nm_r (nI_1 p) (hk _ ?_))⟩) (fun c => nm_r (nI_1 p) (hk _ ?_))⟩)
      · rw [hs]
        show _ = if _ then _ else _
        rw [if_pos (show ((a4 0 >>> (nI p &&& 31)) &&& 1) = 1 from c)]
      · rw [hs]
        show _ = if _ then _ else _
        rw [if_neg (show ¬ ((a4 0 >>> (nI p &&& 31)) &&& 1) = 1 from c)]
  · intro fu i b hi hb hk
    refine pk_le (4 * (top + 1)) i (fun z => absurd z (by omega)) (fun _ => ?_) e4
    have hq : nI i &&& 3 = nI (i % 4) := pk_andN (by omega) 2 (by decide)
    rw [tl_s2n (by omega), hq]
    refine tl_w_waysOf (top := top) hx hy hxy ht h1 h2 h3 htop hN hK (by omega) (by omega) (fun j hj r hr => ?_) ⟨pk_in i 48 (by omega), nm_r (tl_wr i rfl (by omega) rfl) (nm_r (nI_1 i) (hk _ (fun j hj => ?_)))⟩
    · rw [hb _ (by omega), show (4 * j + r) / 4 = j by omega, show (4 * j + r) % 4 = r by omega]
    · by_cases e : j = i
      · rw [e, pk_us]
      · rw [pk_un e]; exact hb j (by omega)
end
end
section
/-- the letters of a tree, the last one first -/
def tl_wrt (T F S : Nat → Nat) (top : Nat) : Nat → List Nat → List Nat → Option (List Nat)
  | 0, _, _ => none
  | _ + 1, [], out => some out
  | k + 1, now :: r, out =>
    if out.length < 12 ∧ r.length < 14 ∧ now ≤ top ∧ T now ≤ 3 ∧ F now < 12 ∧ S now < 12 then
      if T now = 3 then tl_wrt T F S top k (F now :: S now :: r) (T now :: out)
      else if T now = 2 then tl_wrt T F S top k (F now :: r) (T now :: out)
      else tl_wrt T F S top k r (T now :: out)
    else none
section
variable {md hg kn lv lf cm lt : Int32} {a1 a2 a3 a4 a5 a6 a7 a8 a9 a10 a11 a12 a13 a14 a15 a16 a17 a18 a19 a20 a21 : Nat → Int32}
theorem tl_w_wr12 {post : Int32 → St2 → Prop} {top : Nat} {T F S Z : Nat → Nat} {res : List Nat} (htop : top < 12) (hN : tl_Tr T F S Z top a5 a6 a7 a8) (hp : ∀ a10 a11, tl_Sk a11 res → post (nI res.length) (md, hg, kn, lv, lf, cm, lt, a1, a2, a3, a4, a5, a6, a7, a8, a9, a10, a11, a12, a13, a14, a15, a16, a17, a18, a19, a20, a21)) :
    ∀ (k : Nat) (td out : List Nat) (a10 a11 : Nat → Int32), td.length < 17 → out.length < 13 → tl_Sk a10 td → tl_Sk a11 out → tl_wrt T F S top k td out = some res → wX_write_12 post md hg kn lv lf cm lt k (nI td.length) (nI out.length) a1 a2 a3 a4 a5 a6 a7 a8 a9 a10 a11 a12 a13 a14 a15 a16 a17 a18 a19 a20 a21 := by
  intro k
  induction k with
  | zero => intro td out a10 a11 _ _ _ _ h; exact absurd h (by intro h; cases h)
  | succ k ih =>
    intro td out a10 a11 hl1 hl2 h10 h11 h
    cases td with
    | nil =>
      have : out = res := Option.some.inj h
      subst this
      exact br_t (by decide) (hp _ _ h11)
    | cons now r =>
      unfold tl_wrt at h
      by_cases c : out.length < 12 ∧ r.length < 14 ∧ now ≤ top ∧ T now ≤ 3 ∧ F now < 12 ∧ S now < 12
      rotate_left
      · rw [if_neg c] at h; exact absurd h (by intro h; cases h)
      rw [if_pos c] at h
      obtain ⟨c1, c2, c3, c4, c5, c6⟩ := c
      obtain ⟨n5, n6, n7, n8⟩ := hN now c3
      have iN : vp_in (nI now) 12 := pk_in now 12 (by omega)
      have ec : (nI now).toNatClampNeg = now := nI_clamp (by omega)
      have nT : vp_nar .byte (nI (T now)) = nI (T now) := tl_nar (by omega)
      have nF : vp_nar .byte (nI (F now)) = nI (F now) := tl_nar (by omega)
      have nS : vp_nar .byte (nI (S now)) = nI (S now) := tl_nar (by omega)
      have h11' : tl_Sk (upd a11 out.length (nI (T now))) (T now :: out) := tl_Sk_put h11
      have j1 : ∀ (rr : List Nat) (b : Nat → Int32), rr.length < 15 → tl_Sk b rr → 2 ≤ T now → tl_wrt T F S top k (F now :: rr) (T now :: out) = some res → wX_write_76 post (wX_write_12 post md hg kn lv lf cm lt k) (nI rr.length) (nI (out.length + 1)) (nI now) md hg kn lv lf cm lt a1 a2 a3 a4 a5 a6 a7 a8 a9 b (upd a11 out.length (nI (T now))) a12 a13 a14 a15 a16 a17 a18 a19 a20 a21 := by
        intro rr b hrr hb hT hres
        refine ⟨iN, ?_⟩
        rw [ec, n5, n6, nF]
        refine pk_lt (T now) 2 (fun z => absurd z (by omega)) (fun _ => ⟨iN, pk_in rr.length 16 (by omega), nm_r (tl_wr rr.length rfl (by omega) rfl) (nm_r (nI_1 _) ?_)⟩)
        exact ih (F now :: rr) (T now :: out) _ _ (by show rr.length + 1 < 17; omega) (by show out.length + 1 < 13; omega) (tl_Sk_put hb) h11' hres
      refine br_f (nI_nle (by show 0 < r.length + 1; omega) (by show r.length + 1 < 2 ^ 31; omega)) (pk_le 12 out.length (fun z => absurd z (by omega)) (fun _ => ?_))
      refine nm_r (pk_m1 r.length) ⟨pk_in r.length 16 (by omega), nm_r (tl_rd r.length rfl (by omega) h10.1) ⟨iN, pk_in out.length 12 c1, nm_r (tl_wr (v' := nI (T now)) out.length rfl (by omega) (by rw [ec, n5, nT])) (nm_r (nI_1 _) ⟨iN, ?_⟩)⟩⟩
      rw [ec, n5, n7, nS]
      refine pk_eq (T now) 3 (fun e => ⟨iN, pk_in r.length 16 (by omega), nm_r (tl_wr r.length rfl (by omega) rfl) (nm_r (nI_1 _) ?_)⟩) (fun e => ?_)
      · rw [if_pos e] at h
        exact j1 (S now :: r) _ (by show r.length + 1 < 15; omega) (tl_Sk_put h10.2) (by omega) h
      · rw [if_neg e] at h
        by_cases e2 : T now = 2
        · rw [if_pos e2] at h
          exact j1 r _ (by omega) h10.2 (by omega) h
        · rw [if_neg e2] at h
          refine ⟨iN, ?_⟩
          rw [ec, n5]
          refine pk_lt (T now) 2 (fun z => ?_) (fun z => absurd z (by omega))
          exact ih r (T now :: out) _ _ (by omega) (by show out.length + 1 < 13; omega) h10.2 h11' h
theorem tl_w_letter {post : Int32 → St2 → Prop} {top i : Nat} {T F S Z : Nat → Nat} {res : List Nat} {k : Nat} (htop : top < 12) (hhg : hg = nI 1) (h9 : a9 0 = nI top) (hN : tl_Tr T F S Z top a5 a6 a7 a8) (hw : tl_wrt T F S top k [top] [] = some res) (hi : i < res.length) (hi12 : res.length ≤ 12)
    (hp : ∀ a10 a11, post (nI (tl_nth 0 res i)) (md, hg, kn, lv, lf, cm, lt, a1, a2, a3, a4, a5, a6, a7, a8, a9, a10, a11, a12, a13, a14, a15, a16, a17, a18, a19, a20, a21)) : wpX_letter post (md, hg, kn, lv, lf, cm, lt, a1, a2, a3, a4, a5, a6, a7, a8, a9, a10, a11, a12, a13, a14, a15, a16, a17, a18, a19, a20, a21) (nI i) := by
  unfold wpX_letter
  refine tl_w_top1 hhg h9 (br_t (nI_pos' (by omega)) ?_)
  unfold wpX_write
  refine nm_r (e' := upd a10 0 (nI top)) (by rw [tl_n8 top (by omega)]) ⟨k, ?_⟩
  refine tl_w_wr12 (res := res) htop hN (fun a10 a11 h11 => ?_) k [top] [] _ _ (show 1 < 17 by decide) (by decide) ⟨pk_us, trivial⟩ trivial hw
  refine pk_lt i 0 (fun z => absurd z (by omega)) (fun _ => pk_lt i res.length (fun _ => ⟨pk_in i 12 (by omega), ?_⟩) (fun z => absurd z (by omega)))
  rw [nI_clamp (show i < 2 ^ 31 by omega)]
  have : a11 i = nI (tl_nth 0 res i) := tl_stk_get (P := fun j v => a11 j = nI v) res i hi h11
  rw [this]
  exact hp _ _
end
end
section
def tl_tT (ns : List tl_Nd) (k : Nat) : Nat := (tl_nth (0, 0, 0, 0) ns k).1
def tl_tF (ns : List tl_Nd) (k : Nat) : Nat := (tl_nth (0, 0, 0, 0) ns k).2.1
def tl_tS (ns : List tl_Nd) (k : Nat) : Nat := (tl_nth (0, 0, 0, 0) ns k).2.2.1
theorem tl_Tr_of {ns : List tl_Nd} {a5 a6 a7 a8 : Nat → Int32} {top : Nat} (h : tl_Nk a5 a6 a7 a8 ns) (ht : top < ns.length) : tl_Tr (tl_tT ns) (tl_tF ns) (tl_tS ns) (tl_Z ns) top a5 a6 a7 a8 :=
  fun k hk => tl_stk_get (d := (0, 0, 0, 0)) ns k (by omega) h
/-- the numbers of the nodes, the classes of the nodes -/
def tl_Vs : List tl_Nd → List Nat
  | [] => []
  | nd :: r => (if nd.1 < 2 then nd.1 else if nd.1 = 2 then tl_nth 0 (tl_Vs r) nd.2.1 else tl_AL (nd.2.2.2 - 1) + tl_nth 0 (tl_Vs r) nd.2.1 * tl_AL (tl_Z r nd.2.2.1) + tl_nth 0 (tl_Vs r) nd.2.2.1 + tl_sm nd.2.2.2 (tl_Z r nd.2.1)) :: tl_Vs r
def tl_Ks (t : Nat) : List tl_Nd → List Nat
  | [] => []
  | nd :: r => (if nd.1 < 2 then tl_k 1 1 nd.1 else if nd.1 = 2 then tl_xr (tl_st (tl_nth 0 (tl_Ks t r) nd.2.1)) t else tl_xr (tl_st (tl_nth 0 (tl_Ks t r) nd.2.1)) (tl_st (tl_nth 0 (tl_Ks t r) nd.2.2.1))) :: tl_Ks t r
/-- the law's own loop over the letters -/
def tl_lf (t : Nat) (L : Nat → Nat) : Nat → Nat × Nat
  | 0 => (0, 0)
  | i + 1 => ((if L i = 2 ∧ t = 1 then 1 - (if L i = 1 then 1 - (tl_lf t L i).1 else (tl_lf t L i).1) else (if L i = 1 then 1 - (tl_lf t L i).1 else (tl_lf t L i).1)), (if L i = 3 then (tl_lf t L i).2 + 1 else (tl_lf t L i).2))
def tl_tree (t n w0 w1 i : Nat) : Option (List Nat × List tl_Nd × List Nat) :=
  match tl_run t 60 ([(n, 0, 0, 0, w0, w1)], i, 3, []) with
  | none => none
  | some ls => if ls.length ≤ 12 then (match tl_bld ls [] [] with | none => none | some p => some (ls, p)) else none
def tl_Cl (t n : Nat) (ns : List tl_Nd) (K : Nat → Nat) : Bool := (List.range n).all (fun k => decide (tl_clok t (tl_tT ns) (tl_tF ns) (tl_tS ns) K k))
def tl_Rk (n : Nat) (ns : List tl_Nd) (V : Nat → Nat) : Bool := (List.range n).all (fun k => decide (tl_rkok (tl_tT ns) (tl_tF ns) (tl_tS ns) (tl_Z ns) V k))
def tl_c0 (t n s : Nat) (p : List Nat × List tl_Nd × List Nat) : Bool := decide (p.2.2 = [n - 1]) && decide (p.2.1.length = n) && decide (tl_Z p.2.1 (n - 1) = n) && tl_Cl t n p.2.1 (tl_nth 0 (tl_Ks t p.2.1)) && decide (tl_st (tl_nth 0 (tl_Ks t p.2.1) (n - 1)) = s)
def tl_c6 (t n i : Nat) (p : List Nat × List tl_Nd × List Nat) : Bool :=
  decide (p.2.2 = [n - 1]) && decide (p.2.1.length = n) && tl_Cl t n p.2.1 (tl_nth 0 (tl_Ks t p.2.1)) && tl_Rk n p.2.1 (tl_nth 0 (tl_Vs p.2.1)) && decide (tl_nth 0 (tl_Vs p.2.1) (n - 1) = i) &&
    (match tl_wrt (tl_tT p.2.1) (tl_tF p.2.1) (tl_tS p.2.1) (n - 1) 20 [n - 1] [] with
      | none => false
      | some res => decide (res.length = n) && decide ((tl_lf t (tl_nth 0 res) n).1 = tl_st (tl_nth 0 (tl_Ks t p.2.1) (n - 1))) && decide ((tl_lf t (tl_nth 0 res) n).2 ≤ 3) && (List.range n).all (fun j => decide (tl_nth 0 res j < 4)))
def tl_ch0 (t n w0 w1 i s : Nat) : Bool := match tl_tree t n w0 w1 i with | none => false | some p => tl_c0 t n s p
def tl_ch6 (t n i : Nat) : Bool := match tl_tree t n 1 1 i with | none => false | some p => tl_c6 t n i p
theorem tl_D0 : ∀ t, t < 2 → ∀ n, n < 8 → 1 ≤ n → tl_ch0 t n 1 0 (tl_e n - 1) 0 = true := by decide +kernel
theorem tl_D5 : ∀ t, t < 2 → ∀ n, n < 8 → 1 ≤ n → tl_ch0 t n 0 1 0 1 = true := by decide +kernel
theorem tl_D6 : ∀ t, t < 2 → ∀ n, n < 8 → 1 ≤ n → ∀ i, i < 2 * tl_e n → tl_ch6 t n i = true := by decide +kernel
end
section
theorem tl_AL_rec : ∀ n, n < 13 → 2 ≤ n → tl_AL (n - 1) + tl_sm n (n - 1) = tl_AL n := by decide
section
variable {md hg kn lv lf cm lt : Int32} {a1 a2 a3 a4 a5 a6 a7 a8 a9 a10 a11 a12 a13 a14 a15 a16 a17 a18 a19 a20 a21 : Nat → Int32}
theorem tl_w_181 {post : St2 → Prop} {mc ms kc ks : Nat} (h15 : ∀ j, j < 2 → a15 j = nI (tl_AL j)) (hp : ∀ a15, (∀ j, j < 13 → a15 j = nI (tl_AL j)) → post (md, hg, kn, lv, lf, cm, lt, a1, a2, a3, a4, a5, a6, a7, a8, a9, a10, a11, a12, a13, a14, a15, a16, a17, a18, a19, a20, a21)) : ∃ fu, wX_init_181 post mc ms kc ks md hg kn lv lf cm lt fu 2 a1 a2 a3 a4 a5 a6 a7 a8 a9 a10 a11 a12 a13 a14 a15 a16 a17 a18 a19 a20 a21 := by
  refine pk_loop (fun fu i b => wX_init_181 post mc ms kc ks md hg kn lv lf cm lt fu (nI i) a1 a2 a3 a4 a5 a6 a7 a8 a9 a10 a11 a12 a13 a14 b a16 a17 a18 a19 a20 a21) (fun i b => 2 ≤ i ∧ ∀ j, j < i → b j = nI (tl_AL j)) 13 2 a15 (by omega) ⟨by omega, h15⟩ ?_ ?_
  · intro fu b hb
    exact pk_lt 12 13 (fun _ => hp b hb.2) (fun z => absurd z (by omega))
  · intro fu i b hi ⟨h2, hb⟩ hw
    have e1 : nI i - 1 = nI (i - 1) := tl_sub1 (by omega)
    refine pk_lt 12 i (fun z => absurd z (by omega)) (fun _ => ⟨pk_in (i - 1) 13 (by omega) e1, nm_r (tl_rd (i - 1) e1 (by omega) (hb (i - 1) (by omega))) ?_⟩)
    refine pk_loop (fun fu' j s => wX_init_198 post mc ms (wX_init_181 post mc ms kc ks md hg kn lv lf cm lt fu) (nI i) kc ks md hg kn lv lf cm lt a1 a2 a3 a4 a5 a6 a7 a8 a9 a10 a11 a12 a13 a14 b a16 a17 a18 a19 a20 a21 fu' s (nI j)) (fun j s => 1 ≤ j ∧ s = nI (tl_AL (i - 1) + tl_sm i j)) (i - 1) 1 _ (by omega) ⟨by omega, ?_⟩ ?_ ?_
    · refine congrArg nI ?_
      show _ = _ + (0 + 0 * _)
      omega
    · intro fu' s ⟨_, hs⟩
      refine pk_le (i - 1) (i - 1) (fun _ => ⟨pk_in i 13 hi, nm_r (tl_wr i rfl (by omega) rfl) (nm_r (nI_1 i) (hw _ ⟨by omega, fun j hj => ?_⟩))⟩) (fun z => absurd z (by omega)) e1
      by_cases e : j = i
      · rw [e, pk_us, hs, tl_AL_rec i hi h2]
      · rw [pk_un e]; exact hb j (by omega)
    · intro fu' j s hj ⟨j1, hs⟩ hk
      have ej : (nI i - 1) - nI j = nI (i - 1 - j) := tl_sub2 (by omega)
      refine pk_le (i - 1) j (fun z => absurd z (by omega)) (fun _ => ⟨pk_in j 13 (by omega), pk_in (i - 1 - j) 13 (by omega) ej, nm_r (e' := nI (tl_AL (i - 1) + tl_sm i (j + 1))) ?_ (nm_r (nI_1 j) (hk _ ⟨by omega, rfl⟩))⟩) e1
      rw [hs, ej, nI_clamp (show j < 2 ^ 31 by omega), nI_clamp (show i - 1 - j < 2 ^ 31 by omega), hb j (by omega), hb (i - 1 - j) (by omega), pk_mul, nI_add]
      refine congrArg nI ?_
      show _ = _ + (tl_sm i j + _)
      omega
theorem tl_w_init {post : St2 → Prop} {mc ms : Nat} (hm : 21 ≤ mc) (hs : 4347 ≤ ms) (hp : ∀ b, (∀ j, j < 13 → b j = nI (tl_AL j)) → post (md, hg, kn, lv, lf, cm, lt, fun _ => 0, fun _ => 0, fun _ => 0, fun _ => 0, fun _ => 0, fun _ => 0, fun _ => 0, fun _ => 0, fun _ => 0, fun _ => 0, fun _ => 0, fun _ => 0, fun _ => 0, fun _ => 0, b, fun _ => 0, fun _ => 0, fun _ => 0, fun _ => 0, fun _ => 0, fun _ => 0)) : wpX_init post mc ms (md, hg, kn, lv, lf, cm, lt) := by
  unfold wpX_init
  refine ⟨by omega, by omega, by omega, by omega, by omega, by omega, by omega, by omega, by omega, by omega, by omega, by omega, by omega, by omega, by omega, by omega, by omega, by omega, by omega, by omega, by omega, by omega, by omega, by omega, by omega, by omega, by omega, by omega, by omega, by omega, by omega, by omega, by omega, by omega, by omega, by omega, by omega, by omega, by omega, by omega, by omega, by omega, nm_e ?_⟩
  refine tl_w_181 (fun j hj => ?_) hp
  have c : j = 0 ∨ j = 1 := by omega
  rcases c with c | c <;> subst c <;> rfl
end
end
section
def tl_EV (m : Nat) : Int64 := match m with | 2 => 1 | 3 => 513 | 4 => 786945 | 5 => 940311041 | 6 => 1444049322497 | 7 => 2147690746741249 | 8 => 3442897806057800193 | _ => 1
def tl_gv (v : Int64) (n : Int32) : Int32 := if 1 ≤ n then ((v >>> ((9 * (n - 1)).toInt64 &&& 63)).toInt32) &&& 511 else 0
theorem tl_gvD : ∀ m, m < 9 → 2 ≤ m → ∀ n, n < 8 → 1 ≤ n → n < m → tl_gv (tl_EV m) (nI n) = nI (tl_e n) := by decide +kernel
theorem tl_EVD : ∀ m, m < 8 → 2 ≤ m → tl_EV m ||| ((nI (tl_e m)).toInt64 <<< ((9 * (nI m - 1)).toInt64 &&& 63)) = tl_EV (m + 1) := by decide +kernel
theorem tl_w_get {post : Int32 → Prop} {v : Int64} {n : Int32} (h : post (tl_gv v n)) : wpL_get post () v n := by
  unfold tl_gv at h
  unfold wpL_get
  exact ⟨fun c => by rw [if_pos c] at h; exact h, fun c => by rw [if_neg c] at h; exact h⟩
theorem tl_w_total {post : Int32 → Prop} : ∀ n, n < 8 → 1 ≤ n → post (nI (2 * tl_e n)) → wpL_total post () (nI n) := by
  intro n hn h1 h
  have c : n = 1 ∨ n = 2 ∨ n = 3 ∨ n = 4 ∨ n = 5 ∨ n = 6 ∨ n = 7 := by omega
  unfold wpL_total
  rcases c with e | e | e | e | e | e | e <;> subst e <;>
    repeat (first | exact h | refine br_t (by decide) ?_ | refine br_f (by decide) ?_)
/-- how many, by kind, under the law's final sets -/
theorem tl_cvAE : ∀ x, x < 4 → ∀ y, y < 4 → x ≠ y → (List.range 8).all (fun n => decide (1 ≤ n → tl_cv x y 0 (nI (2 ^ x)) 0 0 n = tl_e n ∧ tl_cv x y 0 (nI (2 ^ x)) 0 5 n = tl_e n ∧ tl_cv x y 0 (nI (2 ^ x)) 0 6 n = 2 * tl_e n ∧ tl_cv x y 0 (nI (2 ^ x)) 0 1 n = 0 ∧ tl_cv x y 0 (nI (2 ^ x)) 0 4 n = tl_e n)) = true := by decide +kernel
theorem tl_cvA (x : Nat) (hx : x < 4) (y : Nat) (hy : y < 4) (hxy : x ≠ y) (n : Nat) (hn : n < 8) : 1 ≤ n → tl_cv x y 0 (nI (2 ^ x)) 0 0 n = tl_e n ∧ tl_cv x y 0 (nI (2 ^ x)) 0 5 n = tl_e n ∧ tl_cv x y 0 (nI (2 ^ x)) 0 6 n = 2 * tl_e n ∧ tl_cv x y 0 (nI (2 ^ x)) 0 1 n = 0 ∧ tl_cv x y 0 (nI (2 ^ x)) 0 4 n = tl_e n := tl_allR (P := fun n => 1 ≤ n → tl_cv x y 0 (nI (2 ^ x)) 0 0 n = tl_e n ∧ tl_cv x y 0 (nI (2 ^ x)) 0 5 n = tl_e n ∧ tl_cv x y 0 (nI (2 ^ x)) 0 6 n = 2 * tl_e n ∧ tl_cv x y 0 (nI (2 ^ x)) 0 1 n = 0 ∧ tl_cv x y 0 (nI (2 ^ x)) 0 4 n = tl_e n) (tl_cvAE x hx y hy hxy) (fun n h => of_decide_eq_true h) n hn
theorem tl_cvBE : ∀ x, x < 4 → ∀ y, y < 4 → x ≠ y → (List.range 8).all (fun n => decide (1 ≤ n → tl_cv x y 0 (nI (2 ^ y)) 0 0 n = tl_e n ∧ tl_cv x y 0 (nI (2 ^ x + 2 ^ y)) 0 0 n = 2 * tl_e n)) = true := by decide +kernel
theorem tl_cvB (x : Nat) (hx : x < 4) (y : Nat) (hy : y < 4) (hxy : x ≠ y) (n : Nat) (hn : n < 8) : 1 ≤ n → tl_cv x y 0 (nI (2 ^ y)) 0 0 n = tl_e n ∧ tl_cv x y 0 (nI (2 ^ x + 2 ^ y)) 0 0 n = 2 * tl_e n := tl_allR (P := fun n => 1 ≤ n → tl_cv x y 0 (nI (2 ^ y)) 0 0 n = tl_e n ∧ tl_cv x y 0 (nI (2 ^ x + 2 ^ y)) 0 0 n = 2 * tl_e n) (tl_cvBE x hx y hy hxy) (fun n h => of_decide_eq_true h) n hn
theorem tl_cvCE : ∀ x, x < 4 → ∀ y, y < 4 → x ≠ y → (List.range 8).all (fun n => decide (1 ≤ n → tl_cv x y 1 (nI (2 ^ x)) (nI 4) 0 n = tl_e n ∧ tl_cv x y 1 (nI (2 ^ x)) (nI 4) 5 n = tl_e n ∧ tl_cv x y 1 (nI (2 ^ x)) (nI 4) 6 n = 2 * tl_e n ∧ tl_cv x y 1 (nI (2 ^ x)) (nI 4) 1 1 = 1 ∧ tl_cv x y 1 (nI (2 ^ x)) (nI 4) 2 n = (if n = 1 then 1 else 0) ∧ tl_cv x y 1 (nI (2 ^ x)) (nI 4) 4 n = (if n = 1 then 0 else tl_e n))) = true := by decide +kernel
theorem tl_cvC (x : Nat) (hx : x < 4) (y : Nat) (hy : y < 4) (hxy : x ≠ y) (n : Nat) (hn : n < 8) : 1 ≤ n → tl_cv x y 1 (nI (2 ^ x)) (nI 4) 0 n = tl_e n ∧ tl_cv x y 1 (nI (2 ^ x)) (nI 4) 5 n = tl_e n ∧ tl_cv x y 1 (nI (2 ^ x)) (nI 4) 6 n = 2 * tl_e n ∧ tl_cv x y 1 (nI (2 ^ x)) (nI 4) 1 1 = 1 ∧ tl_cv x y 1 (nI (2 ^ x)) (nI 4) 2 n = (if n = 1 then 1 else 0) ∧ tl_cv x y 1 (nI (2 ^ x)) (nI 4) 4 n = (if n = 1 then 0 else tl_e n) := tl_allR (P := fun n => 1 ≤ n → tl_cv x y 1 (nI (2 ^ x)) (nI 4) 0 n = tl_e n ∧ tl_cv x y 1 (nI (2 ^ x)) (nI 4) 5 n = tl_e n ∧ tl_cv x y 1 (nI (2 ^ x)) (nI 4) 6 n = 2 * tl_e n ∧ tl_cv x y 1 (nI (2 ^ x)) (nI 4) 1 1 = 1 ∧ tl_cv x y 1 (nI (2 ^ x)) (nI 4) 2 n = (if n = 1 then 1 else 0) ∧ tl_cv x y 1 (nI (2 ^ x)) (nI 4) 4 n = (if n = 1 then 0 else tl_e n)) (tl_cvCE x hx y hy hxy) (fun n h => of_decide_eq_true h) n hn
theorem tl_isCE : ∀ x, x < 4 → ∀ y, y < 4 → x ≠ y → (List.range 8).all (fun n => decide (1 ≤ n → (tl_is (nI (2 ^ x)) (nI 4) 0 (nI (tl_q x y 1 n 0)) = 1 ∧ tl_is (nI (2 ^ x)) (nI 4) 0 (nI (tl_q x y 1 n 1)) = 0) ∧ (tl_is (nI (2 ^ x)) (nI 4) 5 (nI (tl_q x y 1 n 0)) = 0 ∧ tl_is (nI (2 ^ x)) (nI 4) 5 (nI (tl_q x y 1 n 1)) = 1) ∧ (tl_is (nI (2 ^ x)) (nI 4) 6 (nI (tl_q x y 1 n 0)) = 1 ∧ tl_is (nI (2 ^ x)) (nI 4) 6 (nI (tl_q x y 1 n 1)) = 1))) = true := by decide +kernel
theorem tl_isC (x : Nat) (hx : x < 4) (y : Nat) (hy : y < 4) (hxy : x ≠ y) (n : Nat) (hn : n < 8) : 1 ≤ n → (tl_is (nI (2 ^ x)) (nI 4) 0 (nI (tl_q x y 1 n 0)) = 1 ∧ tl_is (nI (2 ^ x)) (nI 4) 0 (nI (tl_q x y 1 n 1)) = 0) ∧ (tl_is (nI (2 ^ x)) (nI 4) 5 (nI (tl_q x y 1 n 0)) = 0 ∧ tl_is (nI (2 ^ x)) (nI 4) 5 (nI (tl_q x y 1 n 1)) = 1) ∧ (tl_is (nI (2 ^ x)) (nI 4) 6 (nI (tl_q x y 1 n 0)) = 1 ∧ tl_is (nI (2 ^ x)) (nI 4) 6 (nI (tl_q x y 1 n 1)) = 1) := tl_allR (P := fun n => 1 ≤ n → (tl_is (nI (2 ^ x)) (nI 4) 0 (nI (tl_q x y 1 n 0)) = 1 ∧ tl_is (nI (2 ^ x)) (nI 4) 0 (nI (tl_q x y 1 n 1)) = 0) ∧ (tl_is (nI (2 ^ x)) (nI 4) 5 (nI (tl_q x y 1 n 0)) = 0 ∧ tl_is (nI (2 ^ x)) (nI 4) 5 (nI (tl_q x y 1 n 1)) = 1) ∧ (tl_is (nI (2 ^ x)) (nI 4) 6 (nI (tl_q x y 1 n 0)) = 1 ∧ tl_is (nI (2 ^ x)) (nI 4) 6 (nI (tl_q x y 1 n 1)) = 1)) (tl_isCE x hx y hy hxy) (fun n h => of_decide_eq_true h) n hn
theorem tl_sh1 : ∀ x, x < 4 → (1 : Int32) <<< (nI x &&& 31) = nI (2 ^ x) := by decide +kernel
theorem tl_orD : ∀ x, x < 4 → ∀ y, y < 4 → x ≠ y → nI (2 ^ x) ||| nI (2 ^ y) = nI (2 ^ x + 2 ^ y) := by decide +kernel
theorem tl_p2 : ∀ x, x < 4 → 2 ^ x < 16 := by decide
theorem tl_p2s : ∀ x, x < 4 → ∀ y, y < 4 → x ≠ y → 2 ^ x + 2 ^ y < 16 := by decide
/-- what is known of a tree that was found -/
def tl_Fd (t n s w0 w1 i : Nat) (ls : List Nat) (ns : List tl_Nd) : Prop := tl_run t 60 ([(n, 0, 0, 0, w0, w1)], i, 3, []) = some ls ∧ ls.length ≤ 12 ∧ tl_bld ls [] [] = some (ns, [n - 1]) ∧ ns.length = n ∧ (∀ k, k ≤ n - 1 → tl_clok t (tl_tT ns) (tl_tF ns) (tl_tS ns) (tl_nth 0 (tl_Ks t ns)) k) ∧ tl_st (tl_nth 0 (tl_Ks t ns) (n - 1)) = s
theorem tl_tree_E {t n w0 w1 i : Nat} {p : List Nat × List tl_Nd × List Nat} (h : tl_tree t n w0 w1 i = some p) : tl_run t 60 ([(n, 0, 0, 0, w0, w1)], i, 3, []) = some p.1 ∧ p.1.length ≤ 12 ∧ tl_bld p.1 [] [] = some p.2 := by
  unfold tl_tree at h
  cases e : tl_run t 60 ([(n, 0, 0, 0, w0, w1)], i, 3, []) with
  | none => rw [e] at h; exact absurd h (by intro h; cases h)
  | some ls =>
    rw [e] at h
    dsimp only at h
    by_cases c : ls.length ≤ 12
    · rw [if_pos c] at h
      cases e2 : tl_bld ls [] [] with
      | none => rw [e2] at h; exact absurd h (by intro h; cases h)
      | some q =>
        rw [e2] at h
        have := Option.some.inj h
        subst this
        exact ⟨rfl, c, e2⟩
    · rw [if_neg c] at h; exact absurd h (by intro h; cases h)
theorem tl_Cl_E {t n : Nat} {ns : List tl_Nd} {K : Nat → Nat} (hn : 1 ≤ n) (h : tl_Cl t n ns K = true) : ∀ k, k ≤ n - 1 → tl_clok t (tl_tT ns) (tl_tF ns) (tl_tS ns) K k := by
  intro k hk
  unfold tl_Cl at h
  rw [List.all_eq_true] at h
  exact of_decide_eq_true (h k (List.mem_range.mpr (by omega)))
theorem tl_Rk_E {n : Nat} {ns : List tl_Nd} {V : Nat → Nat} (hn : 1 ≤ n) (h : tl_Rk n ns V = true) : ∀ k, k ≤ n - 1 → tl_rkok (tl_tT ns) (tl_tF ns) (tl_tS ns) (tl_Z ns) V k := by
  intro k hk
  unfold tl_Rk at h
  rw [List.all_eq_true] at h
  exact of_decide_eq_true (h k (List.mem_range.mpr (by omega)))
theorem tl_ch0_E {t n w0 w1 i s : Nat} (hn : 1 ≤ n) (h : tl_ch0 t n w0 w1 i s = true) : ∃ ls ns, tl_Fd t n s w0 w1 i ls ns ∧ tl_Z ns (n - 1) = n := by
  unfold tl_ch0 at h
  cases e : tl_tree t n w0 w1 i with
  | none => rw [e] at h; exact absurd (show false = true from h) (by decide)
  | some p =>
    rw [e] at h
    obtain ⟨ls, ns, st⟩ := p
    have t1 := tl_tree_E e
    have h' : tl_c0 t n s (ls, ns, st) = true := h
    unfold tl_c0 at h'
    simp only [Bool.and_eq_true, decide_eq_true_eq] at h'
    obtain ⟨⟨⟨⟨c1, c2⟩, c3⟩, c4⟩, c5⟩ := h'
    subst c1
    exact ⟨ls, ns, ⟨t1.1, t1.2.1, t1.2.2, c2, tl_Cl_E hn c4, c5⟩, c3⟩
theorem tl_ch6_E {t n i : Nat} (hn : 1 ≤ n) (h : tl_ch6 t n i = true) : ∃ ls ns s res, tl_Fd t n s 1 1 i ls ns ∧ (∀ k, k ≤ n - 1 → tl_rkok (tl_tT ns) (tl_tF ns) (tl_tS ns) (tl_Z ns) (tl_nth 0 (tl_Vs ns)) k) ∧ tl_nth 0 (tl_Vs ns) (n - 1) = i ∧
    tl_wrt (tl_tT ns) (tl_tF ns) (tl_tS ns) (n - 1) 20 [n - 1] [] = some res ∧ res.length = n ∧ (tl_lf t (tl_nth 0 res) n).1 = s ∧ (tl_lf t (tl_nth 0 res) n).2 ≤ 3 ∧ (∀ j, j < n → tl_nth 0 res j < 4) := by
  unfold tl_ch6 at h
  cases e : tl_tree t n 1 1 i with
  | none => rw [e] at h; exact absurd (show false = true from h) (by decide)
  | some p =>
    rw [e] at h
    obtain ⟨ls, ns, st⟩ := p
    have t1 := tl_tree_E e
    have h' : tl_c6 t n i (ls, ns, st) = true := h
    unfold tl_c6 at h'
    rw [Bool.and_eq_true] at h'
    obtain ⟨h1, h2⟩ := h'
    simp only [Bool.and_eq_true, decide_eq_true_eq] at h1
    obtain ⟨⟨⟨⟨c1, c2⟩, c3⟩, c4⟩, c5⟩ := h1
    subst c1
    dsimp only at h2
    cases e2 : tl_wrt (tl_tT ns) (tl_tF ns) (tl_tS ns) (n - 1) 20 [n - 1] [] with
    | none => rw [e2] at h2; exact absurd (show false = true from h2) (by decide)
    | some res =>
      rw [e2] at h2
      rw [Bool.and_eq_true] at h2
      obtain ⟨h2, d4⟩ := h2
      rw [List.all_eq_true] at d4
      simp only [Bool.and_eq_true, decide_eq_true_eq] at h2
      obtain ⟨⟨d1, d2⟩, d3⟩ := h2
      exact ⟨ls, ns, _, res, ⟨t1.1, t1.2.1, t1.2.2, c2, tl_Cl_E hn c3, rfl⟩, tl_Rk_E hn c4, c5, e2, d1, d2, d3, fun j hj => of_decide_eq_true (d4 j (List.mem_range.mpr hj))⟩
end
section
/-- what stands through the law's last part -/
def tl_B (x y t : Nat) (kn : Int32) (a1 a2 a3 a4 a14 a15 : Nat → Int32) : Prop := a1 = tl_a1 x y 1 ∧ a2 = tl_a2 x y t ∧ a3 = tl_a3 x y ∧ a4 0 = nI (2 ^ x) ∧ a4 1 = nI 4 ∧ (kn = 1 ∧ tl_Tab x y 1 a14) ∧ (∀ j, j < 13 → a15 j = nI (tl_AL j))
section
variable {md hg kn lv lf cm lt : Int32} {a1 a2 a3 a4 a5 a6 a7 a8 a9 a10 a11 a12 a13 a14 a15 a16 a17 a18 a19 a20 a21 : Nat → Int32}
theorem tl_L_load {post : Int32 → St2 → Prop} {x y t n k i s w0 w1 : Nat} {ls : List Nat} {ns : List tl_Nd} (hx : x < 4) (hy : y < 4) (hxy : x ≠ y) (ht : t < 2) (hn1 : 1 ≤ n) (hn : n ≤ 7) (hB : tl_B x y t kn a1 a2 a3 a4 a14 a15) (hk : k < 7)
    (hi : i < tl_cv x y 1 (nI (2 ^ x)) (nI 4) k n) (hc : tl_cv x y 1 (nI (2 ^ x)) (nI 4) k n < 1000)
    (hw0 : (if tl_is (nI (2 ^ x)) (nI 4) k (nI (tl_q x y 1 n 0)) = 0 then 0 else 1) = w0) (hw1 : (if tl_is (nI (2 ^ x)) (nI 4) k (nI (tl_q x y 1 n 1)) = 0 then 0 else 1) = w1) (hF : tl_Fd t n s w0 w1 i ls ns)
    (hp : ∀ lv lf cm lt a5 a6 a7 a8 a9 a14 a16 a17 a18 a19 a20 a21, tl_B x y t 1 a1 a2 a3 a4 a14 a15 → a9 0 = nI (n - 1) → tl_Tr (tl_tT ns) (tl_tF ns) (tl_tS ns) (tl_Z ns) (n - 1) a5 a6 a7 a8 → post 0 (nI n, nI 1, 1, lv, lf, cm, lt, a1, a2, a3, a4, a5, a6, a7, a8, a9, a10, a11, a12, a13, a14, a15, a16, a17, a18, a19, a20, a21)) : wpX_load post (md, hg, kn, lv, lf, cm, lt, a1, a2, a3, a4, a5, a6, a7, a8, a9, a10, a11, a12, a13, a14, a15, a16, a17, a18, a19, a20, a21) (nI k) (nI n) (nI i) := by
  obtain ⟨b1, b2, b3, b4, b5, b6, b7⟩ := hB
  obtain ⟨f1, f2, f3, f4, f5, f6⟩ := hF
  refine tl_w_load (ls := ls) (ns := ns) (st := [n - 1]) hx hy hxy ht b1 b2 b3 (Or.inr b6) hk hn1 hn (by rw [b4, b5]; exact hi) (by rw [b4, b5]; exact hc) (by rw [b4, b5, hw0, hw1]; exact f1) f2 f3 ?_
  intro lv lf cm lt a5 a6 a7 a8 a9 a14 a16 a17 a18 a19 a20 a21 hT hN hS
  rw [f4]
  exact hp _ _ _ _ _ _ _ _ _ _ _ _ _ _ _ _ ⟨b1, b2, b3, b4, b5, ⟨rfl, hT⟩, b7⟩ hS.1 (tl_Tr_of hN (by omega))
theorem tl_L932 {post : Int32 → St0 → Prop} {x y t n mc ms kc ks : Nat} (hx : x < 4) (hy : y < 4) (hxy : x ≠ y) (ht : t < 2) (hn1 : 1 ≤ n) (hn : n ≤ 7) (hB : tl_B x y t kn a1 a2 a3 a4 a14 a15) (hp : post 1 ()) : wL_lawOf_932 post mc ms (nI n) (nI (tl_e n)) kc ks md hg kn lv lf cm lt a1 a2 a3 a4 a5 a6 a7 a8 a9 a10 a11 a12 a13 a14 a15 a16 a17 a18 a19 a20 a21 := by
  have ep := tl_e_pos n (by omega) hn1
  have el := tl_e_lt n (by omega)
  have hcv := (tl_cvC x hx y hy hxy n (by omega) hn1).2.1
  have his := (tl_isC x hx y hy hxy n (by omega) hn1).2.1
  obtain ⟨ls, ns, hF, hZ⟩ := tl_ch0_E hn1 (tl_D5 t ht n (by omega) hn1)
  unfold wL_lawOf_932
  refine br_f (nI_ne0 ep (by omega)) ?_
  refine tl_L_load (k := 5) (i := 0) hx hy hxy ht hn1 hn hB (by decide) (by rw [hcv]; exact ep) (by rw [hcv]; omega) (by rw [his.1, if_pos rfl]) (by rw [his.2, if_neg (by decide)]) hF ?_
  intro lv lf cm lt a5 a6 a7 a8 a9 a14 a16 a17 a18 a19 a20 a21 hB' h9 hN
  refine br_t rfl ?_
  obtain ⟨b1, b2, b3, b4, b5, b6, b7⟩ := hB'
  refine tl_w_runs (top := n - 1) hx hy hxy ht b1 b2 b3 b4 (by omega) rfl h9 hN hF.2.2.2.2.1 (fun b => ?_)
  rw [hF.2.2.2.2.2]
  exact br_t (by decide) hp
theorem tl_L877 {post : Int32 → St0 → Prop} {x y t n mc ms kc ks : Nat} (hx : x < 4) (hy : y < 4) (hxy : x ≠ y) (ht : t < 2) (hn1 : 1 ≤ n) (hn : n ≤ 7) (hB : tl_B x y t kn a1 a2 a3 a4 a14 a15) (hp : post 1 ()) : wL_lawOf_877 post mc ms (nI n) (nI (tl_e n)) (nI (tl_e n)) kc ks md hg kn lv lf cm lt a1 a2 a3 a4 a5 a6 a7 a8 a9 a10 a11 a12 a13 a14 a15 a16 a17 a18 a19 a20 a21 := by
  have ep := tl_e_pos n (by omega) hn1
  have el := tl_e_lt n (by omega)
  have hcv := (tl_cvC x hx y hy hxy n (by omega) hn1).1
  have his := (tl_isC x hx y hy hxy n (by omega) hn1).1
  obtain ⟨ls, ns, hF, hZ⟩ := tl_ch0_E hn1 (tl_D0 t ht n (by omega) hn1)
  obtain ⟨b1, b2, b3, b4, b5, b6, b7⟩ := hB
  unfold wL_lawOf_877
  refine tl_w_loadN (k := 0) hx hy hxy ht b1 b2 b3 (Or.inr b6) (by decide) hn1 hn (by rw [b4, b5, hcv]; exact Nat.le_refl _) (by omega) (fun b hb => ?_)
  refine br_t rfl (br_f (nI_ne0 ep (by omega)) ?_)
  rw [tl_sub1 ep]
  refine tl_L_load (k := 0) hx hy hxy ht hn1 hn ⟨b1, b2, b3, b4, b5, ⟨rfl, hb⟩, b7⟩ (by decide) (by rw [hcv]; omega) (by rw [hcv]; omega) (by rw [his.1, if_neg (by decide)]) (by rw [his.2, if_pos rfl]) hF ?_
  intro lv lf cm lt a5 a6 a7 a8 a9 a14 a16 a17 a18 a19 a20 a21 hB' h9 hN
  refine br_t rfl ?_
  obtain ⟨d1, d2, d3, d4, d5, d6, d7⟩ := hB'
  refine tl_w_runs (top := n - 1) hx hy hxy ht d1 d2 d3 d4 (by omega) rfl h9 hN hF.2.2.2.2.1 (fun b => ?_)
  rw [hF.2.2.2.2.2]
  refine br_t (by decide) (tl_w_sizeOf (top := n - 1) (by omega) rfl h9 hN ?_)
  rw [hZ]
  exact br_t rfl (tl_L932 hx hy hxy ht hn1 hn ⟨d1, d2, d3, d4, d5, d6, d7⟩ hp)
theorem tl_L847 {post : Int32 → St0 → Prop} {x y t n s o b11 mc ms kc ks : Nat} {ns : List tl_Nd} {z : Int32} (hx : x < 4) (hy : y < 4) (hxy : x ≠ y) (ht : t < 2) (hn1 : 1 ≤ n) (hn : n ≤ 7) (hB : tl_B x y t kn a1 a2 a3 a4 a14 a15) (hhg : hg = nI 1) (h9 : a9 0 = nI (n - 1)) (hN : tl_Tr (tl_tT ns) (tl_tF ns) (tl_tS ns) (tl_Z ns) (n - 1) a5 a6 a7 a8)
    (hK : ∀ k, k ≤ n - 1 → tl_clok t (tl_tT ns) (tl_tF ns) (tl_tS ns) (tl_nth 0 (tl_Ks t ns)) k) (hs : tl_st (tl_nth 0 (tl_Ks t ns) (n - 1)) = s) (ho : o ≤ 3) (hp : post 1 ()) : wL_lawOf_847 post mc ms (nI n) (nI b11) (nI (tl_e n)) (nI (tl_e n)) (nI s) (nI o) z z kc ks md hg kn lv lf cm lt a1 a2 a3 a4 a5 a6 a7 a8 a9 a10 a11 a12 a13 a14 a15 a16 a17 a18 a19 a20 a21 := by
  have hs2 : s < 2 := by rw [← hs]; exact tl_st_lt _
  have hB0 := hB
  obtain ⟨b1, b2, b3, b4, b5, b6, b7⟩ := hB
  unfold wL_lawOf_847
  refine br_t rfl ?_
  refine tl_w_runs (top := n - 1) hx hy hxy ht b1 b2 b3 b4 (by omega) hhg h9 hN hK (fun b => ?_)
  rw [hs]
  refine br_t ?_ (br_c (fun _ => pk_le o 3 (fun _ => tl_L877 hx hy hxy ht hn1 hn hB0 hp) (fun z => absurd z (by omega))) (fun _ => tl_L877 hx hy hxy ht hn1 hn hB0 hp))
  exact (pk_sub (a := 1) (b := s) (by omega)).symm
theorem tl_L777 {J : Int32 → Int32 → Int32 → Int32 → Int32 → Int32 → Int32 → Int32 → Int32 → Int32 → (Nat → Int32) → (Nat → Int32) → (Nat → Int32) → (Nat → Int32) → (Nat → Int32) → (Nat → Int32) → (Nat → Int32) → (Nat → Int32) → (Nat → Int32) → (Nat → Int32) → (Nat → Int32) → (Nat → Int32) → (Nat → Int32) → (Nat → Int32) → (Nat → Int32) → (Nat → Int32) → (Nat → Int32) → (Nat → Int32) → (Nat → Int32) → (Nat → Int32) → (Nat → Int32) → Prop} {post : Int32 → St0 → Prop} {x7 x8 x10 x11 x16 x17 x19 x20 : Int32} {t s o i c mc ms kc ks : Nat} (ht : t < 2) (hs : s < 2) (hc : c < 4)
    (hJ : J (nI (if c = 2 ∧ t = 1 then 1 - s else s)) (nI (if c = 3 then o + 1 else o)) (nI (i + 1)) md hg kn lv lf cm lt a1 a2 a3 a4 a5 a6 a7 a8 a9 a10 a11 a12 a13 a14 a15 a16 a17 a18 a19 a20 a21) : wL_lawOf_777 post mc ms J x7 x8 (nI t) x10 x11 x16 x17 x19 x20 (nI s) (nI o) (nI i) (nI c) kc ks md hg kn lv lf cm lt a1 a2 a3 a4 a5 a6 a7 a8 a9 a10 a11 a12 a13 a14 a15 a16 a17 a18 a19 a20 a21 := by
  have fin : ∀ s', nI s' = nI (if c = 2 ∧ t = 1 then 1 - s else s) → wL_lawOf_795 post mc ms J x7 x8 (nI t) x10 x11 x16 x17 x19 x20 (nI s') (nI o) (nI i) (nI c) kc ks md hg kn lv lf cm lt a1 a2 a3 a4 a5 a6 a7 a8 a9 a10 a11 a12 a13 a14 a15 a16 a17 a18 a19 a20 a21 := by
    intro s' hs'
    unfold wL_lawOf_795
    rw [hs']
    refine pk_eq c 3 (fun e => nm_r (nI_1 o) (nm_r (nI_1 i) ?_)) (fun e => nm_r (nI_1 i) ?_)
    · rw [if_pos e] at hJ; exact hJ
    · rw [if_neg e] at hJ; exact hJ
  unfold wL_lawOf_777
  refine pk_eq c 2 (fun e => pk_eq t 1 (fun e1 => nm_r (e' := nI (1 - s)) (pk_sub (a := 1) (b := s) (by omega)) (fin _ ?_)) (fun e1 => fin s ?_)) (fun e => fin s ?_)
  · rw [if_pos ⟨e, e1⟩]
  · rw [if_neg (fun z => e1 z.2)]
  · rw [if_neg (fun z => e z.1)]
end
end
section
theorem tl_lf_lt (t : Nat) (L : Nat → Nat) : ∀ i, (tl_lf t L i).1 < 2 := by
  intro i
  induction i with
  | zero => exact (show 0 < 2 by decide)
  | succ i ih =>
    show (if L i = 2 ∧ t = 1 then 1 - (if L i = 1 then 1 - (tl_lf t L i).1 else (tl_lf t L i).1) else (if L i = 1 then 1 - (tl_lf t L i).1 else (tl_lf t L i).1)) < 2
    by_cases c1 : L i = 1
    · rw [if_pos c1]; split <;> omega
    · rw [if_neg c1]; split <;> omega
section
variable {md hg kn lv lf cm lt : Int32} {a1 a2 a3 a4 a5 a6 a7 a8 a9 a10 a11 a12 a13 a14 a15 a16 a17 a18 a19 a20 a21 : Nat → Int32}
theorem tl_L749 {post : Int32 → St0 → Prop} {x y t n s i b11 mc ms kc ks : Nat} {ls res : List Nat} {ns : List tl_Nd} (hx : x < 4) (hy : y < 4) (hxy : x ≠ y) (ht : t < 2) (hn1 : 1 ≤ n) (hn : n ≤ 7) (hi : i < 1000) (hB : tl_B x y t kn a1 a2 a3 a4 a14 a15) (hhg : hg = nI 1) (h9 : a9 0 = nI (n - 1)) (hN : tl_Tr (tl_tT ns) (tl_tF ns) (tl_tS ns) (tl_Z ns) (n - 1) a5 a6 a7 a8)
    (hF : tl_Fd t n s 1 1 i ls ns) (hR : ∀ k, k ≤ n - 1 → tl_rkok (tl_tT ns) (tl_tF ns) (tl_tS ns) (tl_Z ns) (tl_nth 0 (tl_Vs ns)) k) (hV : tl_nth 0 (tl_Vs ns) (n - 1) = i)
    (hW : tl_wrt (tl_tT ns) (tl_tF ns) (tl_tS ns) (n - 1) 20 [n - 1] [] = some res) (hl : res.length = n) (hs : (tl_lf t (tl_nth 0 res) n).1 = s) (ho : (tl_lf t (tl_nth 0 res) n).2 ≤ 3) (h4 : ∀ j, j < n → tl_nth 0 res j < 4) (hp : post 1 ()) :
    ∃ fu, wL_lawOf_749 post mc ms (nI x) (nI y) (nI t) (nI n) (nI b11) (nI (tl_e n)) (nI (tl_e n)) (nI i) 0 kc ks fu 0 0 0 md hg kn lv lf cm lt a1 a2 a3 a4 a5 a6 a7 a8 a9 a10 a11 a12 a13 a14 a15 a16 a17 a18 a19 a20 a21 := by
  refine pk_loop (σ := (Nat → Int32) × (Nat → Int32)) (fun fu j b => wL_lawOf_749 post mc ms (nI x) (nI y) (nI t) (nI n) (nI b11) (nI (tl_e n)) (nI (tl_e n)) (nI i) 0 kc ks fu (nI (tl_lf t (tl_nth 0 res) j).1) (nI (tl_lf t (tl_nth 0 res) j).2) (nI j) md hg kn lv lf cm lt a1 a2 a3 a4 a5 a6 a7 a8 a9 b.1 b.2 a12 a13 a14 a15 a16 a17 a18 a19 a20 a21) (fun _ _ => True) n 0 (a10, a11) (by omega) trivial ?_ ?_
  · intro fu b _
    obtain ⟨b1, b2, b3, b4, b5, b6, b7⟩ := hB
    refine pk_le n n (fun _ => br_t rfl ?_) (fun z => absurd z (by omega))
    refine tl_w_rank (top := n - 1) (by omega) hhg h9 hN b7 hR (fun c => ?_)
    rw [hV]
    refine br_t rfl ?_
    refine tl_w_states (top := n - 1) hx hy hxy ht b1 b2 b3 (by omega) hhg h9 hN hF.2.2.2.2.1 (fun c => ?_)
    have hs2 : s < 2 := by rw [← hs]; exact tl_lf_lt _ _ _
    rw [hF.2.2.2.2.2, hs, tl_sh1 x hx, tl_sh1 y hy]
    have main : ∀ z, wL_lawOf_847 post mc ms (nI n) (nI b11) (nI (tl_e n)) (nI (tl_e n)) (nI s) (nI (tl_lf t (tl_nth 0 res) n).2) z z kc ks md hg kn lv lf cm lt a1 a2 a3 a4 a5 a6 a7 a8 a9 b.1 b.2 c a13 a14 a15 a16 a17 a18 a19 a20 a21 := fun z =>
      tl_L847 hx hy hxy ht hn1 hn ⟨b1, b2, b3, b4, b5, b6, b7⟩ hhg h9 hN hF.2.2.2.2.1 hF.2.2.2.2.2 ho hp
    refine pk_eq s 0 (fun e => ?_) (fun e => ?_)
    · rw [if_pos e]
      exact main _
    · rw [if_neg e]
      exact main _
  · intro fu j b hj _ hw
    have hr := tl_lf_lt t (tl_nth 0 res) j
    have nx : ∀ b10 b11', wL_lawOf_749 post mc ms (nI x) (nI y) (nI t) (nI n) (nI b11) (nI (tl_e n)) (nI (tl_e n)) (nI i) 0 kc ks fu (nI (tl_lf t (tl_nth 0 res) (j + 1)).1) (nI (tl_lf t (tl_nth 0 res) (j + 1)).2) (nI (j + 1)) md hg kn lv lf cm lt a1 a2 a3 a4 a5 a6 a7 a8 a9 b10 b11' a12 a13 a14 a15 a16 a17 a18 a19 a20 a21 := fun b10 b11' => hw (b10, b11') trivial
    refine pk_le n j (fun z => absurd z (by omega)) (fun _ => ?_)
    refine tl_w_letter (k := 20) (res := res) (top := n - 1) (by omega) hhg h9 hN hW (by omega) (by omega) (fun b10 b11' => ?_)
    have hc4 := h4 j hj
    refine pk_eq (tl_nth 0 res j) 1 (fun e => nm_r (e' := nI (1 - (tl_lf t (tl_nth 0 res) j).1)) (pk_sub (a := 1) (by omega)) (tl_L777 ht (by omega) hc4 ?_)) (fun e => tl_L777 ht (by omega) hc4 ?_)
    · have := nx b10 b11'
      unfold tl_lf at this
      rw [if_pos e] at this
      exact this
    · have := nx b10 b11'
      unfold tl_lf at this
      rw [if_neg e] at this
      exact this
theorem tl_L711 {post : Int32 → St0 → Prop} {x y t n b11 mc ms kc ks : Nat} {x4 z : Int32} (hx : x < 4) (hy : y < 4) (hxy : x ≠ y) (ht : t < 2) (hn1 : 1 ≤ n) (hn : n ≤ 7) (hB : tl_B x y t kn a1 a2 a3 a4 a14 a15) (hp : post 1 ()) : wL_lawOf_711 post mc ms x4 (nI x) (nI y) (nI t) (nI n) (nI b11) (nI (tl_e n)) (nI (tl_e n)) (nI (2 * tl_e n)) z z kc ks md hg kn lv lf cm lt a1 a2 a3 a4 a5 a6 a7 a8 a9 a10 a11 a12 a13 a14 a15 a16 a17 a18 a19 a20 a21 := by
  have ep := tl_e_pos n (by omega) hn1
  have el := tl_e_lt n (by omega)
  have hcv := (tl_cvC x hx y hy hxy n (by omega) hn1).2.2.1
  have his := (tl_isC x hx y hy hxy n (by omega) hn1).2.2
  obtain ⟨j, hj, ej⟩ := pk_andE x4 (m := 511) 9 (by decide)
  have hm : j % (2 * tl_e n) < 2 * tl_e n := Nat.mod_lt _ (by omega)
  obtain ⟨ls, ns, s, res, hF, hR, hV, hW, hl, hs, ho, h4⟩ := tl_ch6_E hn1 (tl_D6 t ht n (by omega) hn1 (j % (2 * tl_e n)) hm)
  unfold wL_lawOf_711
  refine br_t rfl ⟨nI_ne0 (by omega) (by omega), nm_r (e' := nI (j % (2 * tl_e n))) (by rw [ej]; exact pk_rem (by omega) (by omega) (by omega)) ?_⟩
  refine tl_L_load (k := 6) hx hy hxy ht hn1 hn hB (by decide) (by rw [hcv]; exact hm) (by rw [hcv]; omega) (by rw [his.1, if_neg (by decide)]) (by rw [his.2, if_neg (by decide)]) hF ?_
  intro lv lf cm lt a5 a6 a7 a8 a9 a14 a16 a17 a18 a19 a20 a21 hB' h9 hN
  exact tl_L749 hx hy hxy ht hn1 hn (by omega) hB' rfl h9 hN hF hR hV hW hl hs ho h4 hp
theorem tl_k_count {post : Int32 → St2 → Prop} {x y t hh k n v : Nat} {f0 f1 : Int32} (hx : x < 4) (hy : y < 4) (hxy : x ≠ y) (ht : t < 2) (hh2 : hh < 2) (h1 : a1 = tl_a1 x y hh) (h2 : a2 = tl_a2 x y t) (h3 : a3 = tl_a3 x y) (h40 : a4 0 = f0) (h41 : a4 1 = f1)
    (hkn : kn = 0 ∨ (kn = 1 ∧ tl_Tab x y hh a14)) (hk : k < 7) (hn1 : 1 ≤ n) (hn : n ≤ 7) (hv : tl_cv x y hh f0 f1 k n = v) (hp : ∀ a14, tl_Tab x y hh a14 → post (nI v) (md, hg, 1, lv, lf, cm, lt, a1, a2, a3, a4, a5, a6, a7, a8, a9, a10, a11, a12, a13, a14, a15, a16, a17, a18, a19, a20, a21)) : wpX_count post (md, hg, kn, lv, lf, cm, lt, a1, a2, a3, a4, a5, a6, a7, a8, a9, a10, a11, a12, a13, a14, a15, a16, a17, a18, a19, a20, a21) (nI k) (nI n) :=
  tl_w_count hx hy hxy ht hh2 h1 h2 h3 hkn hk hn1 hn (fun b hb => by rw [h40, h41, hv]; exact hp b hb)
theorem tl_L688 {post : Int32 → St0 → Prop} {x y t n b11 mc ms kc ks : Nat} {x4 z : Int32} (hx : x < 4) (hy : y < 4) (hxy : x ≠ y) (ht : t < 2) (hn1 : 1 ≤ n) (hn : n ≤ 7) (hB : tl_B x y t kn a1 a2 a3 a4 a14 a15) (hp : post 1 ()) : wL_lawOf_688 post mc ms x4 (nI x) (nI y) (nI t) (nI n) (nI b11) (nI (tl_e n)) (nI (tl_e n)) (nI (2 * tl_e n)) z z kc ks md hg kn lv lf cm lt a1 a2 a3 a4 a5 a6 a7 a8 a9 a10 a11 a12 a13 a14 a15 a16 a17 a18 a19 a20 a21 := by
  have hcv := (tl_cvC x hx y hy hxy n (by omega) hn1).2.2.2.2.2
  obtain ⟨b1, b2, b3, b4, b5, b6, b7⟩ := hB
  unfold wL_lawOf_688
  refine br_t rfl (tl_k_count (k := 4) hx hy hxy ht (by decide) b1 b2 b3 b4 b5 (Or.inr b6) (by decide) hn1 hn hcv (fun a14 hb => ?_))
  refine pk_eq n 1 (fun e => ?_) (fun e => ?_)
  · rw [if_pos e]
    exact tl_L711 hx hy hxy ht hn1 hn ⟨b1, b2, b3, b4, b5, ⟨rfl, hb⟩, b7⟩ hp
  · rw [if_neg e]
    exact tl_L711 hx hy hxy ht hn1 hn ⟨b1, b2, b3, b4, b5, ⟨rfl, hb⟩, b7⟩ hp
end
end
section
theorem tl_g_get {post : Int32 → Prop} {v : Int64} {n r : Int32} (hv : tl_gv v n = r) (h : post r) : wpL_get post () v n := tl_w_get (by rw [hv]; exact h)
section
variable {md hg kn lv lf cm lt : Int32} {a1 a2 a3 a4 a5 a6 a7 a8 a9 a10 a11 a12 a13 a14 a15 a16 a17 a18 a19 a20 a21 : Nat → Int32}
theorem tl_r_leaf {post : Int32 → St2 → Prop} {l v : Nat} {p w : Int32} (hl : l < 2) (hv : v < 16) (ep : p = nI l) (ew : w = nI v) (h : post (a1 l) (md, hg, 0, lv, lf, cm, lt, upd a1 l (nI v), a2, a3, a4, a5, a6, a7, a8, a9, a10, a11, a12, a13, a14, a15, a16, a17, a18, a19, a20, a21)) : wpX_leafRule post (md, hg, kn, lv, lf, cm, lt, a1, a2, a3, a4, a5, a6, a7, a8, a9, a10, a11, a12, a13, a14, a15, a16, a17, a18, a19, a20, a21) 0 p w := by
  rw [ep, ew]
  refine tl_w_leafRule (m := 0) (by decide) hl hv ?_
  rw [show 2 * 0 + l = l by omega]
  exact h
theorem tl_r_one {post : Int32 → St2 → Prop} {l v : Nat} {p w : Int32} (hl : l < 4) (hv : v < 16) (ep : p = nI l) (ew : w = nI v) (h : post (a2 l) (md, hg, 0, lv, lf, cm, lt, a1, upd a2 l (nI v), a3, a4, a5, a6, a7, a8, a9, a10, a11, a12, a13, a14, a15, a16, a17, a18, a19, a20, a21)) : wpX_oneRule post (md, hg, kn, lv, lf, cm, lt, a1, a2, a3, a4, a5, a6, a7, a8, a9, a10, a11, a12, a13, a14, a15, a16, a17, a18, a19, a20, a21) 0 p w := by
  rw [ep, ew]
  refine tl_w_oneRule (m := 0) (by decide) hl hv ?_
  rw [show 4 * 0 + l = l by omega]
  exact h
theorem tl_r_two {post : Int32 → St2 → Prop} {l v : Nat} {p w : Int32} (hl : l < 16) (hv : v < 16) (ep : p = nI l) (ew : w = nI v) (h : post (a3 l) (md, hg, 0, lv, lf, cm, lt, a1, a2, upd a3 l (nI v), a4, a5, a6, a7, a8, a9, a10, a11, a12, a13, a14, a15, a16, a17, a18, a19, a20, a21)) : wpX_twoRule post (md, hg, kn, lv, lf, cm, lt, a1, a2, a3, a4, a5, a6, a7, a8, a9, a10, a11, a12, a13, a14, a15, a16, a17, a18, a19, a20, a21) 0 p w := by
  rw [ep, ew]
  refine tl_w_twoRule (m := 0) (by decide) hl hv ?_
  rw [show 16 * 0 + l = l by omega]
  exact h
theorem tl_r_fin {post : Int32 → St2 → Prop} {v : Nat} {w : Int32} (hv : v < 16) (ew : w = nI v) (h : post (a4 0) (md, hg, kn, lv, lf, cm, lt, a1, a2, a3, upd a4 0 (nI v), a5, a6, a7, a8, a9, a10, a11, a12, a13, a14, a15, a16, a17, a18, a19, a20, a21)) : wpX_finals post (md, hg, kn, lv, lf, cm, lt, a1, a2, a3, a4, a5, a6, a7, a8, a9, a10, a11, a12, a13, a14, a15, a16, a17, a18, a19, a20, a21) 0 w := by
  rw [ew]
  exact tl_w_finals (m := 0) (by decide) hv h
theorem tl_ix2 (a b : Nat) : nI a + 4 * nI b = nI (a + 4 * b) := by rw [show (4 : Int32) * nI b = nI (4 * b) from pk_mul 4 b, nI_add]
/-- the law behind its two tables -/
theorem tl_L259x {post : Int32 → St0 → Prop} {x y t n b11 mc ms kc ks fu : Nat} {x4 : Int32} (hx : x < 4) (hy : y < 4) (hxy : x ≠ y) (ht : t < 2) (hn1 : 1 ≤ n) (hn : n ≤ 7) (h1 : a1 = tl_a1 x y 0) (h2 : a2 = tl_a2 x y t) (h3 : a3 = tl_a3 x y) (h40 : a4 0 = nI (2 ^ x)) (h41 : a4 1 = 0) (hkn : kn = 0) (h15 : ∀ j, j < 13 → a15 j = nI (tl_AL j)) (hp : post 1 ()) :
    wL_lawOf_259 post mc ms x4 (nI x) (nI y) (nI t) (nI n) (nI b11) kc ks md hg kn lv lf cm lt a1 a2 a3 a4 a5 a6 a7 a8 a9 a10 a11 a12 a13 a14 a15 a16 a17 a18 a19 a20 a21 (fu + 1) (tl_EV 8) (tl_EV 8) (nI 8) := by
  have px := tl_p2 x hx
  have py := tl_p2 y hy
  have pxy := tl_p2s x hx y hy hxy
  have ep := tl_e_pos n (by omega) hn1
  have el := tl_e_lt n (by omega)
  have hg8 := tl_gvD 8 (by decide) (by decide) n (by omega) hn1 (by omega)
  obtain ⟨cA0, cA5, cA6, cA1, cA4⟩ := tl_cvA x hx y hy hxy n (by omega) hn1
  obtain ⟨cB0, cB1⟩ := tl_cvB x hx y hy hxy n (by omega) hn1
  obtain ⟨cC0, cC5, cC6, cC1, cC2, cC4⟩ := tl_cvC x hx y hy hxy n (by omega) hn1
  have sx := tl_sh1 x hx
  have sy := tl_sh1 y hy
  refine pk_lt 7 8 (fun _ => ?_) (fun z => absurd z (by omega))
  refine tl_g_get hg8 (tl_g_get hg8 (tl_w_total n (by omega) hn1 (br_t (by rw [nI_add, Nat.two_mul]) ?_)))
  refine tl_k_count (k := 0) (hh := 0) hx hy hxy ht (by decide) h1 h2 h3 h40 h41 (Or.inl hkn) (by decide) hn1 hn cA0 (fun a14 hT => br_t rfl ?_)
  refine tl_k_count (k := 5) (hh := 0) hx hy hxy ht (by decide) h1 h2 h3 h40 h41 (Or.inr ⟨rfl, hT⟩) (by decide) hn1 hn cA5 (fun a14 hT => br_t rfl ?_)
  refine tl_k_count (k := 6) (hh := 0) hx hy hxy ht (by decide) h1 h2 h3 h40 h41 (Or.inr ⟨rfl, hT⟩) (by decide) hn1 hn cA6 (fun a14 hT => br_t rfl ?_)
  refine tl_k_count (k := 1) (hh := 0) hx hy hxy ht (by decide) h1 h2 h3 h40 h41 (Or.inr ⟨rfl, hT⟩) (by decide) hn1 hn cA1 (fun a14 hT => br_t rfl ?_)
  refine tl_k_count (k := 4) (hh := 0) hx hy hxy ht (by decide) h1 h2 h3 h40 h41 (Or.inr ⟨rfl, hT⟩) (by decide) hn1 hn cA4 (fun a14 hT => br_t rfl ?_)
  refine tl_r_fin py sy (br_t (h40.trans sx.symm) ?_)
  have g41 : upd a4 0 (nI (2 ^ y)) 1 = 0 := (pk_un (by decide)).trans h41
  refine tl_k_count (k := 0) (hh := 0) hx hy hxy ht (by decide) h1 h2 h3 pk_us g41 (Or.inr ⟨rfl, hT⟩) (by decide) hn1 hn cB0 (fun a14 hT => br_t rfl ?_)
  refine tl_r_fin pxy (by rw [sx, sy]; exact tl_orD x hx y hy hxy) (br_t (pk_us.trans sy.symm) ?_)
  have g41' : upd (upd a4 0 (nI (2 ^ y))) 0 (nI (2 ^ x + 2 ^ y)) 1 = 0 := (pk_un (by decide)).trans g41
  refine tl_k_count (k := 0) (hh := 0) hx hy hxy ht (by decide) h1 h2 h3 pk_us g41' (Or.inr ⟨rfl, hT⟩) (by decide) hn1 hn cB1 (fun a14 hT => br_t rfl ?_)
  refine tl_r_fin px sx (br_t (by rw [pk_us]; exact nI_pos' (by omega)) ?_)
  refine tl_w_leafRule (m := 1) (l := 0) (v := 4) (by decide) (by decide) (by decide) (br_t (by rw [h1]; rfl) ?_)
  refine tl_w_finals (m := 1) (v := 4) (by decide) (by decide) (br_t ((pk_un (by decide)).trans g41') ?_)
  have b1 : upd a1 (2 * 1 + 0) (nI 4) = tl_a1 x y 1 := by rw [h1]; rfl
  have b4 : upd (upd (upd (upd a4 0 (nI (2 ^ y))) 0 (nI (2 ^ x + 2 ^ y))) 0 (nI (2 ^ x))) 1 (nI 4) 0 = nI (2 ^ x) := (pk_un (by decide)).trans pk_us
  refine tl_k_count (k := 1) (n := 1) (hh := 1) hx hy hxy ht (by decide) b1 h2 h3 b4 pk_us (Or.inl rfl) (by decide) (by decide) (by decide) cC1 (fun a14 hT => br_t rfl ?_)
  refine tl_k_count (k := 2) (hh := 1) hx hy hxy ht (by decide) b1 h2 h3 b4 pk_us (Or.inr ⟨rfl, hT⟩) (by decide) hn1 hn cC2 (fun a14 hT => ?_)
  refine pk_eq n 1 (fun e => ?_) (fun e => ?_)
  · rw [if_pos e]
    exact tl_L688 hx hy hxy ht hn1 hn ⟨b1, h2, h3, b4, pk_us, ⟨rfl, hT⟩, h15⟩ hp
  · rw [if_neg e]
    exact tl_L688 hx hy hxy ht hn1 hn ⟨b1, h2, h3, b4, pk_us, ⟨rfl, hT⟩, h15⟩ hp
theorem tl_L259 {post : Int32 → St0 → Prop} {x y t n b11 mc ms kc ks : Nat} {x4 : Int32} (hx : x < 4) (hy : y < 4) (hxy : x ≠ y) (ht : t < 2) (hn1 : 1 ≤ n) (hn : n ≤ 7) (h1 : a1 = tl_a1 x y 0) (h2 : a2 = tl_a2 x y t) (h3 : a3 = tl_a3 x y) (h40 : a4 0 = nI (2 ^ x)) (h41 : a4 1 = 0) (hkn : kn = 0) (h15 : ∀ j, j < 13 → a15 j = nI (tl_AL j)) (hp : post 1 ()) :
    ∃ fu, wL_lawOf_259 post mc ms x4 (nI x) (nI y) (nI t) (nI n) (nI b11) kc ks md hg kn lv lf cm lt a1 a2 a3 a4 a5 a6 a7 a8 a9 a10 a11 a12 a13 a14 a15 a16 a17 a18 a19 a20 a21 fu 1 1 2 := by
  refine pk_loop (σ := Unit) (fun fu m _ => wL_lawOf_259 post mc ms x4 (nI x) (nI y) (nI t) (nI n) (nI b11) kc ks md hg kn lv lf cm lt a1 a2 a3 a4 a5 a6 a7 a8 a9 a10 a11 a12 a13 a14 a15 a16 a17 a18 a19 a20 a21 fu (tl_EV m) (tl_EV m) (nI m)) (fun m _ => 2 ≤ m) 8 2 () (by omega) (by omega) ?_ ?_
  · intro fu _ _
    exact tl_L259x hx hy hxy ht hn1 hn h1 h2 h3 h40 h41 hkn h15 hp
  · intro fu m _ hm hm2 hw
    have e1 : nI m - 1 = nI (m - 1) := tl_sub1 (by omega)
    have main : wL_lawOf_278 post mc ms (wL_lawOf_259 post mc ms x4 (nI x) (nI y) (nI t) (nI n) (nI b11) kc ks md hg kn lv lf cm lt a1 a2 a3 a4 a5 a6 a7 a8 a9 a10 a11 a12 a13 a14 a15 a16 a17 a18 a19 a20 a21 fu) x4 (nI x) (nI y) (nI t) (nI n) (nI b11) (tl_EV m) (tl_EV m) (nI m) (tl_EV m) kc ks md hg kn lv lf cm lt a1 a2 a3 a4 a5 a6 a7 a8 a9 a10 a11 a12 a13 a14 a15 a16 a17 a18 a19 a20 a21 := by
      unfold wL_lawOf_278
      have in299 : wL_lawOf_299 post mc ms (wL_lawOf_259 post mc ms x4 (nI x) (nI y) (nI t) (nI n) (nI b11) kc ks md hg kn lv lf cm lt a1 a2 a3 a4 a5 a6 a7 a8 a9 a10 a11 a12 a13 a14 a15 a16 a17 a18 a19 a20 a21 fu) x4 (nI x) (nI y) (nI t) (nI n) (nI b11) (tl_EV m) (tl_EV m) (nI m) (nI (tl_e (m - 1))) (tl_EV m) kc ks md hg kn lv lf cm lt a1 a2 a3 a4 a5 a6 a7 a8 a9 a10 a11 a12 a13 a14 a15 a16 a17 a18 a19 a20 a21 := by
        unfold wL_lawOf_299
        refine tl_g_get (r := nI (tl_e (m - 1))) (by rw [e1]; exact tl_gvD m (by omega) hm2 (m - 1) (by omega) (by omega) (by omega)) ?_
        have key : ∃ f, wL_lawOf_311 post mc ms (wL_lawOf_259 post mc ms x4 (nI x) (nI y) (nI t) (nI n) (nI b11) kc ks md hg kn lv lf cm lt a1 a2 a3 a4 a5 a6 a7 a8 a9 a10 a11 a12 a13 a14 a15 a16 a17 a18 a19 a20 a21 fu) x4 (nI x) (nI y) (nI t) (nI n) (nI b11) (tl_EV m) (tl_EV m) (nI m) kc ks md hg kn lv lf cm lt a1 a2 a3 a4 a5 a6 a7 a8 a9 a10 a11 a12 a13 a14 a15 a16 a17 a18 a19 a20 a21 f (nI (tl_U m 1)) (nI (tl_U m 1)) (nI 1) := by
          refine pk_loop (σ := Unit) (fun fu' c _ => wL_lawOf_311 post mc ms (wL_lawOf_259 post mc ms x4 (nI x) (nI y) (nI t) (nI n) (nI b11) kc ks md hg kn lv lf cm lt a1 a2 a3 a4 a5 a6 a7 a8 a9 a10 a11 a12 a13 a14 a15 a16 a17 a18 a19 a20 a21 fu) x4 (nI x) (nI y) (nI t) (nI n) (nI b11) (tl_EV m) (tl_EV m) (nI m) kc ks md hg kn lv lf cm lt a1 a2 a3 a4 a5 a6 a7 a8 a9 a10 a11 a12 a13 a14 a15 a16 a17 a18 a19 a20 a21 fu' (nI (tl_U m c)) (nI (tl_U m c)) (nI c)) (fun c _ => 1 ≤ c) (m - 1) 1 () (by omega) (by omega) ?_ ?_
          · intro fu' _ hc
            refine pk_le (m - 1) (m - 1) (fun _ => ?_) (fun z => absurd z (by omega)) e1
            rw [tl_U_end m hm hm2]
            refine nm_r (tl_EVD m hm hm2) (nm_r (tl_EVD m hm hm2) (nm_r (nI_1 m) (hw () (by omega))))
          · intro fu' c _ hc hc1 hk
            have ec : (nI m - 1) - nI c = nI (m - 1 - c) := tl_sub2 (by omega)
            have g1 := tl_gvD m (by omega) hm2 c (by omega) hc1 (by omega)
            have g2 : tl_gv (tl_EV m) ((nI m - 1) - nI c) = nI (tl_e (m - 1 - c)) := by rw [ec]; exact tl_gvD m (by omega) hm2 (m - 1 - c) (by omega) (by omega) (by omega)
            have hU : nI (tl_U m c) + (nI (tl_e c) * nI (tl_e (m - 1 - c)) + nI (tl_e c) * nI (tl_e (m - 1 - c))) = nI (tl_U m (c + 1)) := by
              rw [pk_mul, nI_add, nI_add, ← Nat.two_mul]; rfl
            refine pk_le (m - 1) c (fun z => absurd z (by omega)) (fun _ => ?_) e1
            refine tl_g_get g1 (tl_g_get g2 (tl_g_get g1 (tl_g_get g2 (nm_r hU ?_))))
            exact tl_g_get g1 (tl_g_get g2 (tl_g_get g1 (tl_g_get g2 (nm_r hU (nm_r (nI_1 c) (hk () (by omega)))))))
        obtain ⟨f, hf⟩ := key
        have hU1 : tl_U m 1 = tl_e (m - 1) := by show tl_e (m - 1) + 2 * (0 * _) = _; rw [Nat.zero_mul]; rfl
        rw [hU1] at hf
        exact ⟨f, hf⟩
      refine tl_g_get (r := nI (tl_e (m - 1))) (by rw [e1]; exact tl_gvD m (by omega) hm2 (m - 1) (by omega) (by omega) (by omega)) ?_
      exact br_c (fun _ => in299) (fun _ => in299)
    exact pk_lt 7 m (fun z => absurd z (by omega)) (fun _ => br_c (fun _ => main) (fun _ => main))
theorem tl_L122 {post : Int32 → St0 → Prop} {x y t n b11 mc ms kc ks : Nat} {x4 z0 : Int32} (hx : x < 4) (hy : y < 4) (hxy : x ≠ y) (ht : t < 2) (hn1 : 1 ≤ n) (hn : n ≤ 7) (hz : z0 = nI (if t = 0 then y else x)) (h1 : a1 = upd (upd (fun _ => 0) 0 (nI (2 ^ x))) 1 (nI (2 ^ y))) (h2 : a2 = upd (fun _ => 0) x (nI (2 ^ (if t = 0 then x else y)))) (h3 : a3 = fun _ => 0) (h4 : a4 = fun _ => 0) (h15 : ∀ j, j < 13 → a15 j = nI (tl_AL j)) (hp : post 1 ()) :
    wL_lawOf_122 post mc ms x4 (nI x) (nI y) (nI t) (nI n) (nI b11) 1 1 z0 1 (nI y) 0 kc ks md hg kn lv lf cm lt a1 a2 a3 a4 a5 a6 a7 a8 a9 a10 a11 a12 a13 a14 a15 a16 a17 a18 a19 a20 a21 := by
  have px := tl_p2 x hx
  have py := tl_p2 y hy
  have sx := tl_sh1 x hx
  have sy := tl_sh1 y hy
  have hxy4 : (if t = 0 then y else x) < 4 := by split <;> assumption
  unfold wL_lawOf_122
  subst h1 h2 h3 h4
  refine tl_r_one hy (tl_p2 _ hxy4) rfl (by rw [hz]; exact tl_sh1 _ hxy4) ?_
  refine tl_r_two (l := x + 4 * x) (by omega) px (tl_ix2 _ _) sx ?_
  refine tl_r_two (l := y + 4 * y) (by omega) px (tl_ix2 _ _) sx ?_
  refine tl_r_two (l := x + 4 * y) (by omega) py (tl_ix2 _ _) sy ?_
  refine tl_r_two (l := y + 4 * x) (by omega) py (tl_ix2 _ _) sy ?_
  refine tl_r_fin px sx (br_t rfl ?_)
  refine tl_r_leaf (l := 1) (by decide) py rfl sy (br_t (pk_us.trans sy.symm) ?_)
  refine tl_r_two (l := y + 4 * x) (by omega) py (tl_ix2 _ _) sy (br_t (pk_us.trans sy.symm) ?_)
  exact tl_L259 hx hy hxy ht hn1 hn rfl rfl rfl pk_us rfl rfl h15 hp
theorem tl_L99 {post : Int32 → St0 → Prop} {x y t n b11 mc ms kc ks : Nat} {x4 z0 : Int32} (hx : x < 4) (hy : y < 4) (hxy : x ≠ y) (ht : t < 2) (hn1 : 1 ≤ n) (hn : n ≤ 7) (hz : z0 = nI (if t = 0 then x else y)) (h1 : a1 = upd (upd (fun _ => 0) 0 (nI (2 ^ x))) 1 (nI (2 ^ y))) (h2 : a2 = fun _ => 0) (h3 : a3 = fun _ => 0) (h4 : a4 = fun _ => 0) (h15 : ∀ j, j < 13 → a15 j = nI (tl_AL j)) (hp : post 1 ()) :
    wL_lawOf_99 post mc ms x4 (nI x) (nI y) (nI t) (nI n) (nI b11) 1 1 z0 1 (nI x) 0 kc ks md hg kn lv lf cm lt a1 a2 a3 a4 a5 a6 a7 a8 a9 a10 a11 a12 a13 a14 a15 a16 a17 a18 a19 a20 a21 := by
  have hxy4 : (if t = 0 then x else y) < 4 := by split <;> assumption
  unfold wL_lawOf_99
  subst h2
  refine tl_r_one hx (tl_p2 _ hxy4) rfl (by rw [hz]; exact tl_sh1 _ hxy4) ?_
  refine pk_eq t 0 (fun e => ?_) (fun e => ?_)
  · exact tl_L122 hx hy hxy ht hn1 hn (by rw [if_pos e]) h1 rfl h3 h4 h15 hp
  · exact tl_L122 hx hy hxy ht hn1 hn (by rw [if_neg e]) h1 rfl h3 h4 h15 hp
end
theorem tl_L0 (p0 p1 p2 p3 p4 p5 : Int32) : wpL_lawOf (fun r _ => r = 1) 1660 26544 () p0 p1 p2 p3 p4 p5 := by
  obtain ⟨x, hx, ex⟩ := pk_andE p0 (m := 3) 2 (by decide)
  obtain ⟨b, hb, eb⟩ := pk_andE p1 (m := 127) 7 (by decide)
  obtain ⟨t, ht, et⟩ := pk_andE p2 (m := 1) 1 (by decide)
  obtain ⟨c, hc, ec⟩ := pk_andE p3 (m := 127) 7 (by decide)
  obtain ⟨w, hw, ew⟩ := pk_andE p5 (m := 1) 1 (by decide)
  unfold wpL_lawOf
  refine ⟨by omega, by omega, 1659, 26516, by omega, by omega, ?_⟩
  refine tl_w_init (by omega) (by omega) (fun a15 h15 => ?_)
  have hy : (x + 1 + b % 3) % 4 < 4 := Nat.mod_lt _ (by decide)
  have hxy : x ≠ (x + 1 + b % 3) % 4 := by omega
  have e8 : ((nI x + 1) + ((p1 &&& 127) - (p1 &&& 127) / 3 * 3)) &&& 3 = nI ((x + 1 + b % 3) % 4) := by
    rw [eb, show nI b - nI b / 3 * 3 = nI (b % 3) from pk_rem (d := 3) (by omega) (by decide) (by decide), nI_1, nI_add]
    exact pk_andN (by omega) 2 (by decide)
  have e10 : 1 + ((p3 &&& 127) - (p3 &&& 127) / 7 * 7) = nI (1 + c % 7) := by
    rw [ec, show nI c - nI c / 7 * 7 = nI (c % 7) from pk_rem (d := 7) (by omega) (by decide) (by decide)]
    exact nI_add 1 _
  refine nm_r ex ⟨by decide, nm_r e8 (nm_r et ⟨by decide, nm_r e10 (nm_r ew ?_)⟩)⟩
  refine tl_r_leaf (l := 0) (by decide) (tl_p2 x hx) rfl (tl_sh1 x hx) ?_
  refine tl_r_leaf (l := 1) (by decide) (tl_p2 _ hy) rfl (tl_sh1 _ hy) ?_
  have ht' : t < 2 := ht
  refine pk_eq t 0 (fun e => ?_) (fun e => ?_)
  · exact tl_L99 hx hy hxy ht' (by omega) (by omega) (by rw [if_pos e]) rfl rfl rfl rfl h15 rfl
  · exact tl_L99 hx hy hxy ht' (by omega) (by omega) (by rw [if_neg e]) rfl rfl rfl rfl h15 rfl
theorem tl_cell {post : Int32 → Prop} {L : Nat} {xs : Nat → Int32} (hL : L ≤ 6) (j : Nat) (hj : j < 6) (h : ∀ r, post r) : wpL_cellAt post L xs () (nI j) := by
  unfold wpL_cellAt
  exact pk_le L j (fun _ => h _) (fun z => ⟨pk_in j L z, h _⟩)
theorem i_vc (xs : Nat → Int32) (L : Nat) (hL : L ≤ 6) : wpL_law (fun r => r = 1) L xs := by
  unfold wpL_law
  refine tl_cell hL 0 (by decide) (fun r1 => tl_cell hL 1 (by decide) (fun r2 => tl_cell hL 2 (by decide) (fun r3 => tl_cell hL 3 (by decide) (fun r4 => tl_cell hL 4 (by decide) (fun r5 => tl_cell hL 5 (by decide) (fun r6 => ?_))))))
  exact ⟨1660, 26544, by omega, by omega, tl_L0 r1 r2 r3 r4 r5 r6⟩
end
