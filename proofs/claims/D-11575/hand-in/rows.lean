section
/-! an array as one natural number: its places are the digits to a base -/
def rg_gt (B n i : Nat) : Nat := n / B ^ i % B
def rg_st (B n i v : Nat) : Nat := n % B ^ i + (v + n / B ^ (i + 1) * B) * B ^ i
def rg_F (B n : Nat) : Nat → Int32 := fun i => nI (rg_gt B n i)
theorem rg_gt_lt {B : Nat} (hB : 0 < B) (n i : Nat) : rg_gt B n i < B := Nat.mod_lt _ hB
theorem rg_st_s {B : Nat} (hB : 0 < B) (n i : Nat) {v : Nat} (hv : v < B) : rg_gt B (rg_st B n i v) i = v := by
  have hP : 0 < B ^ i := Nat.pow_pos hB
  unfold rg_gt rg_st
  rw [Nat.add_mul_div_right _ _ hP, Nat.div_eq_of_lt (Nat.mod_lt n hP), Nat.zero_add, Nat.add_mul_mod_self_right]
  exact Nat.mod_eq_of_lt hv
theorem rg_lo {B : Nat} (hB : 0 < B) (x y : Nat) {i j : Nat} (h : j < i) : (x + y * B ^ i) / B ^ j % B = x / B ^ j % B := by
  have hP : 0 < B ^ j := Nat.pow_pos hB
  have e : B ^ i = B ^ (i - j - 1) * B * B ^ j := by
    rw [← Nat.pow_succ, ← Nat.pow_add]
    exact congrArg (fun z => B ^ z) (by omega)
  rw [e, ← Nat.mul_assoc, Nat.add_mul_div_right _ _ hP, ← Nat.mul_assoc, Nat.add_mul_mod_self_right]
theorem rg_st_n {B : Nat} (hB : 0 < B) (n : Nat) {i j v : Nat} (hv : v < B) (h : j ≠ i) : rg_gt B (rg_st B n i v) j = rg_gt B n j := by
  have hP : 0 < B ^ i := Nat.pow_pos hB
  unfold rg_gt rg_st
  rcases Nat.lt_or_gt_of_ne h with z | z
  · rw [rg_lo hB _ _ z]
    have e : n = n % B ^ i + n / B ^ i * B ^ i := (Nat.mod_add_div' n (B ^ i)).symm
    have g := rg_lo hB (n % B ^ i) (n / B ^ i) z
    rw [← e] at g
    exact g.symm
  · have e : B ^ j = B ^ (i + 1) * B ^ (j - i - 1) := by
      rw [← Nat.pow_add]
      exact congrArg (fun z => B ^ z) (by omega)
    have f : n % B ^ i + (v + n / B ^ (i + 1) * B) * B ^ i = (n % B ^ i + v * B ^ i) + n / B ^ (i + 1) * B ^ (i + 1) := by
      rw [Nat.add_mul, Nat.pow_succ, Nat.mul_assoc, Nat.mul_comm B (B ^ i), Nat.add_assoc]
    have l : n % B ^ i + v * B ^ i < B ^ (i + 1) := by
      have a : n % B ^ i < B ^ i := Nat.mod_lt n hP
      have b : (v + 1) * B ^ i ≤ B * B ^ i := Nat.mul_le_mul_right _ hv
      rw [Nat.pow_succ, Nat.mul_comm (B ^ i) B]
      rw [Nat.add_mul, Nat.one_mul] at b
      omega
    rw [e, ← Nat.div_div_eq_div_mul, ← Nat.div_div_eq_div_mul, f, Nat.add_mul_div_right _ _ (Nat.pow_pos hB), Nat.div_eq_of_lt l, Nat.zero_add]
theorem rg_upd {B : Nat} (hB : 0 < B) (n i : Nat) {v : Nat} (hv : v < B) : upd (rg_F B n) i (nI v) = rg_F B (rg_st B n i v) := by
  funext j
  by_cases h : j = i
  · subst h
    rw [pk_us]
    exact congrArg nI (rg_st_s hB n j hv).symm
  · rw [pk_un h]
    exact congrArg nI (rg_st_n hB n hv h).symm
theorem rg_at {B n i : Nat} {x : Int32} (hx : x = nI i) (hi : i < 2 ^ 31) : rg_F B n x.toNatClampNeg = nI (rg_gt B n i) := by
  subst hx
  rw [nI_clamp hi]
  rfl
theorem rg_z (B : Nat) : (fun _ => 0 : Nat → Int32) = rg_F B 0 := by
  funext j
  show (0 : Int32) = nI (0 / B ^ j % B)
  rw [Nat.zero_div, Nat.zero_mod, nI_0]
theorem rg_one {B v : Nat} (hv : v < B) : upd (fun _ => 0 : Nat → Int32) 0 (nI v) = rg_F B v := by
  have hB : 0 < B := by omega
  rw [rg_z B, rg_upd hB 0 0 hv]
  refine congrArg (rg_F B) ?_
  unfold rg_st
  rw [Nat.zero_mod, Nat.zero_div, Nat.pow_zero, Nat.zero_mul, Nat.mul_one, Nat.zero_add, Nat.add_zero]
/-- a natural number is worked out before it is handed on (for the kernel) -/
def rg_fc {α : Type} (n : Nat) (k : Nat → α) : α := match n with
  | 0 => k 0
  | m + 1 => k (Nat.succ m)
theorem rg_fe {α : Type} (n : Nat) (k : Nat → α) : rg_fc n k = k n := by
  cases n <;> rfl
theorem rg_t8 : ∀ t, t < 10 → (nI t).toInt8.toInt32 = nI t := by decide +kernel
end
section
/-! one frame: the pure picture -/
def rg_ov (n : Nat) : Nat := if n / 100 % 10 = 0 then 1 else if n / 1000 % 10 = 0 then 1 else 0
def rg_to (k x : Nat) : Nat := if k = 1 then (if x ≤ 0 then x else x - 1) else if k = 2 then (if 9 ≤ x then x else x + 1) else x
def rg_go (k x y : Nat) : Nat := if rg_to k x = y then x else rg_to k x
def rg_hit (k c y : Nat) : Nat := if k = 3 then (if c = 0 then y else y - 1) else y
def rg_pz (k z : Nat) : Nat := if k = 3 then 2 else z
def rg_nr (a b : Nat) : Nat := if a + 1 < b then 0 else if b + 1 < a then 0 else 1
def rg_s4 (k0 k1 c q0 q1 y0 y1 w0 w1 : Nat) : Nat := q0 + 10 * q1 + 100 * rg_hit k1 c y0 + 1000 * rg_hit k0 c y1 + 10000 * rg_pz k0 w0 + 100000 * rg_pz k1 w1
def rg_s3 (k0 k1 q0 q1 y0 y1 w0 w1 : Nat) : Nat := rg_s4 k0 k1 (rg_nr q0 q1) q0 q1 y0 y1 w0 w1
def rg_s2 (k0 k1 x0 x1 y0 y1 w0 w1 : Nat) : Nat := rg_s3 k0 k1 (rg_go k0 x0 x1) (rg_go k1 x1 (rg_go k0 x0 x1)) y0 y1 w0 w1
def rg_km (z m : Nat) : Nat := if z = 0 then m else 0
def rg_step (n m0 m1 : Nat) : Nat := if rg_ov n = 0 then rg_s2 (rg_km (n / 10000 % 10) m0) (rg_km (n / 100000) m1) (n % 10) (n / 10 % 10) (n / 100 % 10) (n / 1000 % 10) (n / 10000 % 10 - 1) (n / 100000 - 1) else n
theorem rg_ov_lt (n : Nat) : rg_ov n < 2 := by
  unfold rg_ov
  split
  · decide
  · split <;> decide
theorem rg_dig {n d : Nat} (hn : n < 1000000) (h0 : 0 < d) (hd : d ≤ 100000) : (nI n / nI d) - (nI n / nI d) / 10 * 10 = nI (n / d % 10) := by
  have l : n / d ≤ n := Nat.div_le_self n d
  rw [pk_div (by omega) h0 (by omega)]
  exact pk_rem (d := 10) (by omega) (by decide) (by decide)
theorem rg_dg1 {n d : Nat} (hn : n < 1000000) (h0 : 0 < d) (hd : d ≤ 100000) : ((nI n / nI d) - (nI n / nI d) / 10 * 10).toInt8.toInt32 = nI (n / d % 10) := by
  rw [rg_dig hn h0 hd]
  exact rg_t8 _ (Nat.mod_lt _ (by decide))
theorem rg_dg0 {n : Nat} (hn : n < 1000000) : (nI n - nI n / 10 * 10).toInt8.toInt32 = nI (n % 10) := by
  have e : nI n - nI n / 10 * 10 = nI (n % 10) := pk_rem (d := 10) (by omega) (by decide) (by decide)
  rw [e]
  exact rg_t8 _ (Nat.mod_lt _ (by decide))
theorem rg_dg5 {n : Nat} (hn : n < 1000000) : (nI n / 100000).toInt8.toInt32 = nI (n / 100000) := by
  have e : nI n / 100000 = nI (n / 100000) := pk_div (d := 100000) (by omega) (by decide) (by decide)
  rw [e]
  exact rg_t8 _ (by omega)
theorem rg_wov {post : Int32 → Prop} {n : Nat} {x : Int32} (hn : n < 1000000) (hx : x = nI n) (hp : post (nI (rg_ov n))) : wpX_isOver post () x := by
  subst hx
  unfold rg_ov at hp
  refine ⟨by decide, by decide, pk_eq (n / 100 % 10) 0 (fun z => ?_) (fun z => ⟨by decide, by decide, pk_eq (n / 1000 % 10) 0 (fun y => ?_) (fun y => ?_) (rg_dig (d := 1000) hn (by decide) (by decide))⟩) (rg_dig (d := 100) hn (by decide) (by decide))⟩
  · rw [if_pos z] at hp
    exact hp
  · rw [if_neg z, if_pos y] at hp
    exact hp
  · rw [if_neg z, if_neg y] at hp
    exact hp
theorem rg_wld {post : St2 → Prop} {pc : Int32} {a1 a2 a3 a4 a5 a6 : Nat → Int32} {n : Nat} {x : Int32} (hn : n < 1000000) (hx : x = nI n)
    (hp : ∀ b4 b5 b6 : Nat → Int32, b4 0 = nI (n % 10) → b4 1 = nI (n / 10 % 10) → b5 0 = nI (n / 100 % 10) → b5 1 = nI (n / 1000 % 10) → b6 0 = nI (n / 10000 % 10) → b6 1 = nI (n / 100000) → post (pc, a1, a2, a3, b4, b5, b6)) :
    wpX_load post (pc, a1, a2, a3, a4, a5, a6) x := by
  subst hx
  refine ⟨by decide, fun b4 e4 => ⟨by decide, by decide, fun c4 f4 => ⟨by decide, by decide, fun b5 e5 => ⟨by decide, by decide, fun c5 f5 => ⟨by decide, by decide, fun b6 e6 => ⟨by decide, fun c6 f6 => hp c4 c5 c6 ?_ ?_ ?_ ?_ ?_ ?_⟩⟩⟩⟩⟩⟩
  · rw [f4, pk_un (show (0 : Nat) ≠ 1 by decide), e4, pk_us]
    exact rg_dg0 hn
  · rw [f4, pk_us]
    exact rg_dg1 (d := 10) hn (by decide) (by decide)
  · rw [f5, pk_un (show (0 : Nat) ≠ 1 by decide), e5, pk_us]
    exact rg_dg1 (d := 100) hn (by decide) (by decide)
  · rw [f5, pk_us]
    exact rg_dg1 (d := 1000) hn (by decide) (by decide)
  · rw [f6, pk_un (show (0 : Nat) ≠ 1 by decide), e6, pk_us]
    exact rg_dg1 (d := 10000) hn (by decide) (by decide)
  · rw [f6, pk_us]
    exact rg_dg5 hn
/-! go -/
theorem rg_to_lt {k x : Nat} (hx : x < 10) : rg_to k x < 10 := by
  unfold rg_to
  split
  · split <;> omega
  · split
    · split <;> omega
    · exact hx
theorem rg_go_lt {k x y : Nat} (hx : x < 10) : rg_go k x y < 10 := by
  unfold rg_go
  split
  · exact hx
  · exact rg_to_lt hx
theorem rg_w36 {post : St2 → Prop} {pc : Int32} {a1 a2 a3 a4 a5 a6 : Nat → Int32} {p : Int32} {i j x y t : Nat} (hi : p.toNatClampNeg = i) (hj : (1 - p).toNatClampNeg = j) (vi : vp_in p 2) (vj : vp_in (1 - p) 2) (hij : j ≠ i)
    (ht : t < 10) (hy : y < 10) (ex : a4 i = nI x) (ey : a4 j = nI y) (hp : ∀ b4 : Nat → Int32, b4 i = nI (if t = y then x else t) → b4 j = nI y → post (pc, a1, a2, a3, b4, a5, a6)) :
    wX_go_36 post p (nI t) pc a1 a2 a3 a4 a5 a6 := by
  subst hi hj
  exact ⟨vj, pk_eq t y (fun z => hp a4 (by rw [if_pos z]; exact ex) ey) (fun z => ⟨vi, fun b4 e => hp b4 (by rw [if_neg z, e, pk_us]; exact rg_t8 t ht) (by rw [e, pk_un hij]; exact ey)⟩) rfl ey⟩
theorem rg_wgo {post : St2 → Prop} {pc : Int32} {a1 a2 a3 a4 a5 a6 : Nat → Int32} {p m : Int32} {i j k x y : Nat} (hi : p.toNatClampNeg = i) (hj : (1 - p).toNatClampNeg = j) (vi : vp_in p 2) (vj : vp_in (1 - p) 2) (hij : j ≠ i)
    (k1 : m = 1 ↔ k = 1) (k2 : m = 2 ↔ k = 2) (hx : x < 10) (hy : y < 10) (ex : a4 i = nI x) (ey : a4 j = nI y) (hp : ∀ b4 : Nat → Int32, b4 i = nI (rg_go k x y) → b4 j = nI y → post (pc, a1, a2, a3, b4, a5, a6)) :
    wpX_go post (pc, a1, a2, a3, a4, a5, a6) p m := by
  have fin : ∀ t, t < 10 → rg_to k x = t → wX_go_36 post p (nI t) pc a1 a2 a3 a4 a5 a6 := fun t ht e => rg_w36 hi hj vi vj hij ht hy ex ey (fun b4 h h' => hp b4 (by rw [h]; unfold rg_go; rw [e]) h')
  refine ⟨vi, fun v ev => ?_⟩
  have ev' : v = nI x := by rw [ev, hi, ex]
  clear ev
  subst ev'
  have f22 : rg_to k x = (if k = 2 then (if 9 ≤ x then x else x + 1) else x) → wX_go_22 post p m (nI x) pc a1 a2 a3 a4 a5 a6 := by
    intro e
    refine br_c (fun h2 => pk_le 9 x (fun z => ?_) (fun z => fun w ew => ?_)) (fun h2 => ?_)
    · exact fin x hx (by rw [e, if_pos (k2.mp h2), if_pos z])
    · rw [ew, nI_1]
      exact fin (x + 1) (by omega) (by rw [e, if_pos (k2.mp h2), if_neg (by omega)])
    · exact fin x hx (by rw [e, if_neg (fun q => h2 (k2.mpr q))])
  refine br_c (fun h1 => pk_le x 0 (fun z => f22 ?_) (fun z => fun w ew => ?_)) (fun h1 => f22 ?_)
  · have q := k1.mp h1
    unfold rg_to
    rw [if_pos q, if_pos z, if_neg (by omega)]
  · have q := k1.mp h1
    rw [ew, sb_m1 z]
    exact fin (x - 1) (by omega) (by unfold rg_to; rw [if_pos q, if_neg (by omega)])
  · unfold rg_to
    rw [if_neg (fun q => h1 (k1.mpr q))]
/-! strike -/
theorem rg_hit_lt {k c y : Nat} (hy : y < 10) : rg_hit k c y < 10 := by
  unfold rg_hit
  split
  · split <;> omega
  · exact hy
theorem rg_pz_lt {k z : Nat} (hz : z < 10) : rg_pz k z < 10 := by
  unfold rg_pz
  split
  · decide
  · exact hz
theorem rg_wst {post : St2 → Prop} {pc : Int32} {a1 a2 a3 a4 a5 a6 : Nat → Int32} {p m c : Int32} {i j k n y z : Nat} (hi : p.toNatClampNeg = i) (hj : (1 - p).toNatClampNeg = j) (vi : vp_in p 2) (vj : vp_in (1 - p) 2) (hij : j ≠ i)
    (k3 : m = 3 ↔ k = 3) (hc : c = 0 ↔ n = 0) (hy : y < 10) (ey : a5 j = nI y) (ez : a6 i = nI z)
    (hp : ∀ b5 b6 : Nat → Int32, b5 i = a5 i → b5 j = nI (rg_hit k n y) → b6 i = nI (rg_pz k z) → b6 j = a6 j → post (pc, a1, a2, a3, a4, b5, b6)) :
    wpX_strike post (pc, a1, a2, a3, a4, a5, a6) p m c := by
  subst hi hj
  have f47 : k = 3 → rg_hit k n y = y → ∀ b6 : Nat → Int32, b6 = upd a6 p.toNatClampNeg 2 → wX_strike_47 post p (1 - p) pc a1 a2 a3 a4 a5 b6 := by
    intro h3 hh b6 e6
    refine ⟨vj, vj, fun b5 e5 => hp b5 b6 ?_ ?_ ?_ ?_⟩
    · rw [e5, pk_un (Ne.symm hij)]
    · rw [e5, pk_us, ey, rg_t8 y hy, hh]
    · rw [e6, pk_us]
      exact congrArg nI (show 2 = rg_pz k z from (if_pos h3).symm)
    · rw [e6, pk_un hij]
  refine br_c (fun h => ⟨vi, fun b6 e6 => br_c (fun hz => ?_) (fun hz => ⟨vj, pk_le y 0 (fun q => ?_) (fun q => ⟨vj, vj, fun b5 e5 => ?_⟩) ey⟩)⟩) (fun h => ?_)
  · have h3 := k3.mp h
    exact f47 h3 (by unfold rg_hit; rw [if_pos h3, if_pos (hc.mp hz)]) b6 e6
  · have h3 := k3.mp h
    refine f47 h3 ?_ b6 e6
    unfold rg_hit
    rw [if_pos h3]
    split <;> omega
  · have h3 := k3.mp h
    refine hp b5 b6 ?_ ?_ ?_ ?_
    · rw [e5, pk_un (Ne.symm hij)]
    · have e : nI y - 1 = nI (y - 1) := pk_sub (b := 1) (by omega)
      rw [e5, pk_us, ey, e, rg_t8 (y - 1) (by omega)]
      refine congrArg nI (Eq.symm ?_)
      unfold rg_hit
      rw [if_pos h3, if_neg (fun t => hz (hc.mpr t))]
    · rw [e6, pk_us]
      exact congrArg nI (show 2 = rg_pz k z from (if_pos h3).symm)
    · rw [e6, pk_un hij]
  · have h3 : ¬ k = 3 := fun t => h (k3.mpr t)
    refine hp a5 a6 rfl ?_ ?_ rfl
    · rw [ey]
      exact congrArg nI (show y = rg_hit k n y from (if_neg h3).symm)
    · rw [ez]
      exact congrArg nI (show z = rg_pz k z from (if_neg h3).symm)
/-! pack, step -/
theorem rg_pack {v0 v1 v2 v3 v4 v5 : Int32} {n0 n1 n2 n3 n4 n5 : Nat} (e0 : v0 = nI n0) (e1 : v1 = nI n1) (e2 : v2 = nI n2) (e3 : v3 = nI n3) (e4 : v4 = nI n4) (e5 : v5 = nI n5) :
    (((((v0 + (10 * v1)) + (100 * v2)) + (1000 * v3)) + (10000 * v4)) + (100000 * v5)) = nI (n0 + 10 * n1 + 100 * n2 + 1000 * n3 + 10000 * n4 + 100000 * n5) := by
  subst e0 e1 e2 e3 e4 e5
  rw [← nI_add, ← nI_add, ← nI_add, ← nI_add, ← nI_add, ← pk_mul 10, ← pk_mul 100, ← pk_mul 1000, ← pk_mul 10000, ← pk_mul 100000]
  rfl
theorem rg_v0 : (0 : Int32).toNatClampNeg = 0 ∧ (1 - (0 : Int32)).toNatClampNeg = 1 ∧ (1 : Int32).toNatClampNeg = 1 ∧ (1 - (1 : Int32)).toNatClampNeg = 0 := by decide +kernel
theorem rg_in0 : vp_in 0 2 := vp_in_nI (n := 0) (by decide) (by decide)
theorem rg_in1 : vp_in 1 2 := vp_in_nI (n := 1) (by decide) (by decide)
theorem rg_in2 : vp_in (1 - 0) 2 := by
  have e : (1 : Int32) - 0 = 1 := by decide +kernel
  rw [e]
  exact rg_in1
theorem rg_in3 : vp_in (1 - 1) 2 := by
  have e : (1 : Int32) - 1 = 0 := by decide +kernel
  rw [e]
  exact rg_in0
def rg_mv (x : Int32) (k : Nat) : Prop := (x = 1 ↔ k = 1) ∧ (x = 2 ↔ k = 2) ∧ (x = 3 ↔ k = 3)
theorem rg_mv_d : ∀ m, m < 4 → ((nI m = 1 ↔ m = 1) ∧ (nI m = 2 ↔ m = 2) ∧ (nI m = 3 ↔ m = 3)) := by decide +kernel
theorem rg_mv_m : ((-1 : Int32) = 1 ↔ (0 : Nat) = 1) ∧ ((-1 : Int32) = 2 ↔ (0 : Nat) = 2) ∧ ((-1 : Int32) = 3 ↔ (0 : Nat) = 3) := by decide +kernel
theorem rg_w148 {post : Int32 → St2 → Prop} {pc : Int32} {a1 a2 a3 a4 a5 a6 : Nat → Int32} {x4 x5 c : Int32} {k0 k1 n q0 q1 y0 y1 w0 w1 : Nat} (m0 : rg_mv x4 k0) (m1 : rg_mv x5 k1) (hc : c = 0 ↔ n = 0)
    (g0 : a4 0 = nI q0) (g1 : a4 1 = nI q1) (h0 : y0 < 10) (h1 : y1 < 10) (e0 : a5 0 = nI y0) (e1 : a5 1 = nI y1) (f0 : a6 0 = nI w0) (f1 : a6 1 = nI w1)
    (hp : ∀ b4 b5 b6 : Nat → Int32, post (nI (rg_s4 k0 k1 n q0 q1 y0 y1 w0 w1)) (pc, a1, a2, a3, b4, b5, b6)) : wX_step_148 post x4 x5 c pc a1 a2 a3 a4 a5 a6 := by
  unfold wX_step_148
  refine rg_wst (i := 0) (j := 1) (k := k0) (n := n) (y := y1) (z := w0) rg_v0.1 rg_v0.2.1 rg_in0 rg_in2 (by decide) m0.2.2 hc h1 e1 f0 (fun b5 b6 r0 r1 t0 t1 => ?_)
  refine rg_wst (i := 1) (j := 0) (k := k1) (n := n) (y := y0) (z := w1) rg_v0.2.2.1 rg_v0.2.2.2 rg_in1 rg_in3 (by decide) m1.2.2 hc h0 (r0.trans e0) (t1.trans f1) (fun c5 c6 r2 r3 t2 t3 => ?_)
  exact sb_at (P := fun r => post r (pc, a1, a2, a3, a4, c5, c6)) (rg_pack g0 g1 r3 (r2.trans r1) (t3.trans t0) t2) (hp a4 c5 c6)
theorem rg_near : ∀ a, a < 10 → ∀ b, b < 10 → ((nI a - nI b < -1 ↔ a + 1 < b) ∧ (1 < nI a - nI b ↔ b + 1 < a)) := by decide +kernel
theorem rg_w100 {post : Int32 → St2 → Prop} {pc : Int32} {a1 a2 a3 a4 a5 a6 : Nat → Int32} {x4 x5 v : Int32} {k0 k1 x0 x1 y0 y1 w0 w1 : Nat} (m0 : rg_mv x4 k0) (m1 : rg_mv x5 k1)
    (g0 : a4 0 = nI x0) (g1 : a4 1 = nI x1) (l0 : x0 < 10) (l1 : x1 < 10) (h0 : y0 < 10) (h1 : y1 < 10) (e0 : a5 0 = nI y0) (e1 : a5 1 = nI y1) (f0 : a6 0 = nI w0) (f1 : v = nI w1) (hw : w1 < 10)
    (hp : ∀ b4 b5 b6 : Nat → Int32, post (nI (rg_s2 k0 k1 x0 x1 y0 y1 w0 w1)) (pc, a1, a2, a3, b4, b5, b6)) : wX_step_100 post x4 x5 v 1 pc a1 a2 a3 a4 a5 a6 := by
  subst f1
  refine ⟨rg_in1, fun b6 e6 => ?_⟩
  have t0 : b6 0 = nI w0 := by
    rw [e6, rg_v0.2.2.1, pk_un (show (0 : Nat) ≠ 1 by decide), f0]
  have t1 : b6 1 = nI w1 := by
    rw [e6, rg_v0.2.2.1, pk_us]
    exact rg_t8 w1 hw
  refine rg_wgo (i := 0) (j := 1) (k := k0) (x := x0) (y := x1) rg_v0.1 rg_v0.2.1 rg_in0 rg_in2 (by decide) m0.1 m0.2.1 l0 l1 g0 g1 (fun b4 r0 r1 => ?_)
  have l2 : rg_go k0 x0 x1 < 10 := rg_go_lt l0
  refine rg_wgo (i := 1) (j := 0) (k := k1) (x := x1) (y := rg_go k0 x0 x1) rg_v0.2.2.1 rg_v0.2.2.2 rg_in1 rg_in3 (by decide) m1.1 m1.2.1 l1 l2 r1 r0 (fun c4 r2 r3 => ?_)
  have l3 : rg_go k1 x1 (rg_go k0 x0 x1) < 10 := rg_go_lt l1
  have d := rg_near _ l2 _ l3
  intro w ew
  rw [r2, r3] at ew
  subst ew
  refine br_c (fun z => ?_) (fun z => br_c (fun z2 => ?_) (fun z2 => ?_))
  · refine rg_w148 (n := 0) m0 m1 (by decide) r3 r2 h0 h1 e0 e1 t0 t1 (fun b4 b5 b6 => ?_)
    have q := hp b4 b5 b6
    unfold rg_s2 rg_s3 rg_nr at q
    rw [if_pos (d.1.mp z)] at q
    exact q
  · refine rg_w148 (n := 0) m0 m1 (by decide) r3 r2 h0 h1 e0 e1 t0 t1 (fun b4 b5 b6 => ?_)
    have q := hp b4 b5 b6
    unfold rg_s2 rg_s3 rg_nr at q
    rw [if_neg (fun t => z (d.1.mpr t)), if_pos (d.2.mp z2)] at q
    exact q
  · refine rg_w148 (n := 1) m0 m1 (by decide) r3 r2 h0 h1 e0 e1 t0 t1 (fun b4 b5 b6 => ?_)
    have q := hp b4 b5 b6
    unfold rg_s2 rg_s3 rg_nr at q
    rw [if_neg (fun t => z (d.1.mpr t)), if_neg (fun t => z2 (d.2.mpr t))] at q
    exact q
theorem rg_w44 {post : Int32 → St2 → Prop} {pc : Int32} {a1 a2 a3 a4 a5 a6 : Nat → Int32} {x4 x5 : Int32} {k0 k1 x0 x1 y0 y1 z0 z1 : Nat} (m0 : rg_mv x4 k0) (m1 : rg_mv x5 k1)
    (g0 : a4 0 = nI x0) (g1 : a4 1 = nI x1) (l0 : x0 < 10) (l1 : x1 < 10) (h0 : y0 < 10) (h1 : y1 < 10) (e0 : a5 0 = nI y0) (e1 : a5 1 = nI y1) (f0 : a6 0 = nI z0) (f1 : a6 1 = nI z1) (u0 : z0 < 10) (u1 : z1 < 10)
    (hp : ∀ b4 b5 b6 : Nat → Int32, post (nI (rg_s2 k0 k1 x0 x1 y0 y1 (z0 - 1) (z1 - 1))) (pc, a1, a2, a3, b4, b5, b6)) : wX_step_44 post x4 x5 pc a1 a2 a3 a4 a5 a6 := by
  have s72 : ∀ v : Int32, v = nI (z0 - 1) → wX_step_72 post x4 x5 v 0 pc a1 a2 a3 a4 a5 a6 := by
    intro v ev
    subst ev
    refine ⟨rg_in0, fun b6 e6 => ?_⟩
    have t0 : b6 0 = nI (z0 - 1) := by
      rw [e6, rg_v0.1, pk_us]
      exact rg_t8 _ (by omega)
    have t1 : b6 1 = nI z1 := by
      rw [e6, rg_v0.1, pk_un (show (1 : Nat) ≠ 0 by decide), f1]
    refine pk_le z1 0 (fun z => ?_) (fun z => ?_) t1
    · exact rg_w100 m0 m1 g0 g1 l0 l1 h0 h1 e0 e1 t0 (show (0 : Int32) = nI (z1 - 1) by rw [show z1 - 1 = 0 by omega]; rfl) (by omega) hp
    · exact rg_w100 m0 m1 g0 g1 l0 l1 h0 h1 e0 e1 t0 (show b6 1 - 1 = nI (z1 - 1) by rw [t1]; exact pk_sub (b := 1) (by omega)) (by omega) hp
  refine pk_le z0 0 (fun z => s72 _ ?_) (fun z => s72 _ ?_) f0
  · rw [show z0 - 1 = 0 by omega]
    rfl
  · rw [f0]
    exact pk_sub (b := 1) (by omega)
theorem rg_wstep {post : Int32 → St2 → Prop} {pc : Int32} {a1 a2 a3 a4 a5 a6 : Nat → Int32} {p0 p1 p2 : Int32} {n m0 m1 : Nat} (hn : n < 1000000) (h0 : m0 < 4) (h1 : m1 < 4) (e0 : p0 = nI n) (e1 : p1 = nI m0) (e2 : p2 = nI m1)
    (hp : ∀ b4 b5 b6 : Nat → Int32, post (nI (rg_step n m0 m1)) (pc, a1, a2, a3, b4, b5, b6)) : wpX_step post (pc, a1, a2, a3, a4, a5, a6) p0 p1 p2 := by
  subst e0 e1 e2
  have mm0 : rg_mv (nI m0) m0 := rg_mv_d m0 h0
  have mm1 : rg_mv (nI m1) m1 := rg_mv_d m1 h1
  have mmm : rg_mv (-1) 0 := rg_mv_m
  have ol := rg_ov_lt n
  unfold rg_step at hp
  unfold wpX_step
  refine rg_wov hn rfl ?_
  refine pk_eq (rg_ov n) 0 (fun z => ?_) (fun z => ?_) rfl rfl (by omega) (by omega)
  · rw [if_pos z] at hp
    refine rg_wld hn rfl (fun b4 b5 b6 r0 r1 s0 s1 t0 t1 => ?_)
    have l0 : n % 10 < 10 := Nat.mod_lt _ (by decide)
    have l1 : n / 10 % 10 < 10 := Nat.mod_lt _ (by decide)
    have l2 : n / 100 % 10 < 10 := Nat.mod_lt _ (by decide)
    have l3 : n / 1000 % 10 < 10 := Nat.mod_lt _ (by decide)
    have l4 : n / 10000 % 10 < 10 := Nat.mod_lt _ (by decide)
    have l5 : n / 100000 < 10 := by omega
    have fin : ∀ x4 x5 : Int32, rg_mv x4 (rg_km (n / 10000 % 10) m0) → rg_mv x5 (rg_km (n / 100000) m1) → wX_step_44 post x4 x5 pc a1 a2 a3 b4 b5 b6 := fun x4 x5 q0 q1 => rg_w44 q0 q1 r0 r1 l0 l1 l2 l3 s0 s1 t0 t1 l4 l5 hp
    have f28 : ∀ x4 : Int32, rg_mv x4 (rg_km (n / 10000 % 10) m0) → wX_step_28 post (nI m1) x4 pc a1 a2 a3 b4 b5 b6 := by
      intro x4 q0
      refine pk_le (n / 100000) 0 (fun y => fin _ _ q0 ?_) (fun y => fin _ _ q0 ?_) t1
      · rw [show rg_km (n / 100000) m1 = m1 from if_pos (by omega)]
        exact mm1
      · rw [show rg_km (n / 100000) m1 = 0 from if_neg (by omega)]
        exact mmm
    refine pk_le (n / 10000 % 10) 0 (fun y => f28 _ ?_) (fun y => f28 _ ?_) t0
    · rw [show rg_km (n / 10000 % 10) m0 = m0 from if_pos (by omega)]
      exact mm0
    · rw [show rg_km (n / 10000 % 10) m0 = 0 from if_neg (by omega)]
      exact mmm
  · rw [if_neg z] at hp
    exact hp a4 a5 a6
end
section
/-! replay -/
def rg_rep (g : Nat → Nat → Bool) (pc u up : Nat) : Nat → Nat → Nat → Nat → Nat → Bool
  | 0, _, _, c, s => g c s
  | k + 1, f, d, c, s => if f < up ∨ d ≠ 0 then
      rg_fc (rg_gt 1000000 s f) (fun n => rg_fc (rg_gt 4 u f) (fun m0 => rg_fc (rg_gt 4 u (40 + f)) (fun m1 => rg_fc (rg_step n m0 m1) (fun x =>
        if x < 1000000 then
          (if x = rg_gt 1000000 s (f + 1) then rg_fc (rg_st 1000000 s (f + 1) x) (fun t => rg_fc (f + 1) (fun f' => rg_rep g pc u up k f' 0 c t))
          else if f + 1 ≤ pc then rg_fc (rg_st 1000000 s (f + 1) x) (fun t => rg_fc (f + 1) (fun f' => rg_fc (c + 1) (fun c' => rg_rep g pc u up k f' 1 c' t)))
          else rg_fc (rg_st 1000000 s (f + 1) x) (fun t => rg_fc (f + 1) (fun f' => rg_rep g pc u up k f' 1 c t)))
        else false))))
      else g c s
theorem rg_w99 {post : Int32 → St2 → Prop} {J : Int32 → Int32 → Int32 → Int32 → (Nat → Int32) → (Nat → Int32) → (Nat → Int32) → (Nat → Int32) → (Nat → Int32) → (Nat → Int32) → Prop} {x2 x4 pc v6 v0 : Int32} {f x e c s : Nat} {a1 a2 a4 a5 a6 : Nat → Int32}
    (hf : f < 40) (hx : x < 1000000) (e6 : v6 = nI x) (e0 : v0 = nI e) (h : J (nI (c + e)) x4 (nI (f + 1)) pc a1 a2 (rg_F 1000000 (rg_st 1000000 s (f + 1) x)) a4 a5 a6) :
    wX_replay_99 post J x2 x4 (nI f) v6 v0 (nI c) pc a1 a2 (rg_F 1000000 s) a4 a5 a6 := by
  subst e6 e0
  intro v ev
  refine ⟨pk_in (f + 1) 41 (by omega) (nI_1 f), fun b3 e3 => fun w ew => ?_⟩
  rw [nI_1, nI_clamp (by omega), rg_upd (by decide) s (f + 1) hx] at e3
  rw [nI_add] at ev
  rw [nI_1] at ew
  subst ev e3 ew
  exact h
theorem rg_wrep {post : Int32 → St2 → Prop} (g : Nat → Nat → Bool) (pc u up : Nat) (hpc : pc < 41) (hup : up < 41) (A : Nat → Int32)
    (hp : ∀ (r s : Nat) (b4 b5 b6 : Nat → Int32), g r s = true → post (nI r) (nI pc, A, rg_F 4 u, rg_F 1000000 s, b4, b5, b6)) :
    ∀ (k f d c s : Nat) (a4 a5 a6 : Nat → Int32), f + k = 40 → d < 2 → rg_rep g pc u up k f d c s = true →
      wX_replay_8 post (nI up) (k + 1) (nI c) (nI d) (nI f) (nI pc) A (rg_F 4 u) (rg_F 1000000 s) a4 a5 a6 := by
  intro k
  induction k with
  | zero =>
    intro f d c s a4 a5 a6 hf hd h
    exact pk_le 40 f (fun _ => hp c s a4 a5 a6 h) (fun z => absurd z (by omega))
  | succ k ih =>
    intro f d c s a4 a5 a6 hf hd h
    simp only [rg_rep, rg_fe] at h
    have body : (f < up ∨ d ≠ 0) → wX_replay_26 post (wX_replay_8 post (nI up) (k + 1)) (nI up) (nI c) (nI f) (nI pc) A (rg_F 4 u) (rg_F 1000000 s) a4 a5 a6 := by
      intro hc
      rw [if_pos hc] at h
      have hs : rg_gt 1000000 s f < 1000000 := rg_gt_lt (by decide) s f
      have h0 : rg_gt 4 u f < 4 := rg_gt_lt (by decide) u f
      have h1 : rg_gt 4 u (40 + f) < 4 := rg_gt_lt (by decide) u (40 + f)
      have hs1 : rg_gt 1000000 s (f + 1) < 1000000 := rg_gt_lt (by decide) s (f + 1)
      by_cases hx : rg_step (rg_gt 1000000 s f) (rg_gt 4 u f) (rg_gt 4 u (40 + f)) < 1000000
      · rw [if_pos hx] at h
        refine ⟨pk_in f 41 (by omega), pk_in f 80 (by omega), pk_in (40 + f) 80 (by omega) (nI_add 40 f), ?_⟩
        refine rg_wstep hs h0 h1 (rg_at rfl (by omega)) (rg_at rfl (by omega)) (rg_at (nI_add 40 f) (by omega)) (fun b4 b5 b6 => ?_)
        refine ⟨pk_in (f + 1) 41 (by omega) (nI_1 f), ?_⟩
        refine pk_eq (rg_step (rg_gt 1000000 s f) (rg_gt 4 u f) (rg_gt 4 u (40 + f))) (rg_gt 1000000 s (f + 1)) (fun z => ?_) (fun z => ?_) rfl (rg_at (nI_1 f) (by omega)) (by omega) (by omega)
        · rw [if_pos z] at h
          exact br_t rfl (rg_w99 (e := 0) (by omega) hx rfl rfl (ih (f + 1) 0 (c + 0) _ b4 b5 b6 (by omega) (by decide) h))
        · rw [if_neg z] at h
          refine br_f (by decide) (pk_lt pc (f + 1) (fun y => ?_) (fun y => ?_) rfl (nI_1 f))
          · rw [if_neg (by omega)] at h
            exact rg_w99 (e := 0) (by omega) hx rfl rfl (ih (f + 1) 1 (c + 0) _ b4 b5 b6 (by omega) (by decide) h)
          · rw [if_pos y] at h
            exact rg_w99 (e := 1) (by omega) hx rfl rfl (ih (f + 1) 1 (c + 1) _ b4 b5 b6 (by omega) (by decide) h)
      · rw [if_neg hx] at h
        exact absurd h (by decide)
    refine pk_le 40 f (fun z => absurd z (by omega)) (fun _ => pk_lt f up (fun z => body (Or.inl z)) (fun z => pk_eq d 0 (fun y => ?_) (fun y => body (Or.inr y))))
    rw [if_neg (by omega)] at h
    exact hp c s a4 a5 a6 h
/-! use -/
def rg_gs (b : Nat) : Nat := if b = 3 then 0 else b
def rg_use (g : Nat → Nat → Bool) (a p : Nat) : Nat → Nat → Nat → Nat → Bool
  | 0, _, c, u => g c u
  | k + 1, f, c, u => if rg_gt 4 a (p * 40 + f) = 0 then
      rg_fc (rg_gs (rg_gt 4 u (p * 40 + f - 1))) (fun x =>
        if rg_gt 4 u (p * 40 + f) = x then rg_fc (f + 1) (fun f' => rg_use g a p k f' c u)
        else rg_fc (rg_st 4 u (p * 40 + f) x) (fun v => rg_fc (f + 1) (fun f' => rg_use g a p k f' f' v)))
      else g c u
theorem rg_gs_lt {b : Nat} (h : b < 4) : rg_gs b < 4 := by
  unfold rg_gs
  split <;> omega
theorem rg_wgs {post : Int32 → Prop} {pc : Int32} {a1 a3 a4 a5 a6 : Nat → Int32} {u p f : Nat} (hq : p < 2) (hf : 0 < f) (hf2 : f < 40) (hp : post (nI (rg_gs (rg_gt 4 u (p * 40 + f - 1))))) :
    wpX_guess post (pc, a1, rg_F 4 u, a3, a4, a5, a6) (nI p) (nI f) := by
  have e : nI p * 40 + nI f = nI (p * 40 + f) := by
    rw [← nI_add, ← pk_mul]
    rfl
  have e' : nI p * 40 + nI f - 1 = nI (p * 40 + f - 1) := by
    rw [e]
    exact pk_sub (b := 1) (by omega)
  have l : rg_gt 4 u (p * 40 + f - 1) < 4 := rg_gt_lt (by decide) u _
  refine pk_eq f 0 (fun z => absurd z (by omega)) (fun _ => ⟨pk_in (p * 40 + f - 1) 80 (by omega) e', ?_⟩)
  refine pk_eq (rg_gt 4 u (p * 40 + f - 1)) 3 (fun z => ?_) (fun z => ?_) (rg_at e' (by omega))
  · rw [show rg_gs (rg_gt 4 u (p * 40 + f - 1)) = 0 from if_pos z] at hp
    exact hp
  · rw [show rg_gs (rg_gt 4 u (p * 40 + f - 1)) = rg_gt 4 u (p * 40 + f - 1) from if_neg z] at hp
    rw [rg_at e' (by omega)]
    exact hp
theorem rg_w42 {post : Int32 → St2 → Prop} {pc : Int32} (g : Nat → Nat → Bool) (a p : Nat) (hq : p < 2) (a3 a4 a5 a6 : Nat → Int32)
    (hp : ∀ c u : Nat, c < 41 → g c u = true → post (nI c) (pc, rg_F 4 a, rg_F 4 u, a3, a4, a5, a6)) :
    ∀ k f c u : Nat, 0 < f → f + k = 40 → c < 41 → rg_use g a p k f c u = true → wX_use_42 post (nI p) pc (k + 1) (nI c) (nI f) (rg_F 4 a) (rg_F 4 u) a3 a4 a5 a6 := by
  intro k
  induction k with
  | zero =>
    intro f c u f0 hf hc h
    exact pk_le 40 f (fun _ => hp c u hc h) (fun z => absurd z (by omega))
  | succ k ih =>
    intro f c u f0 hf hc h
    simp only [rg_use, rg_fe] at h
    have e : nI p * 40 + nI f = nI (p * 40 + f) := by
      rw [← nI_add, ← pk_mul]
      rfl
    have l1 : rg_gt 4 a (p * 40 + f) < 4 := rg_gt_lt (by decide) a _
    have l2 : rg_gt 4 u (p * 40 + f) < 4 := rg_gt_lt (by decide) u _
    have l3 : rg_gs (rg_gt 4 u (p * 40 + f - 1)) < 4 := rg_gs_lt (rg_gt_lt (by decide) u _)
    refine pk_le 40 f (fun z => absurd z (by omega)) (fun _ => ⟨pk_in (p * 40 + f) 80 (by omega) e, ?_⟩)
    refine pk_eq (rg_gt 4 a (p * 40 + f)) 0 (fun z => ?_) (fun z => ?_) (rg_at e (by omega))
    · rw [if_pos z] at h
      refine rg_wgs hq f0 (by omega) ⟨pk_in (p * 40 + f) 80 (by omega) e, ?_⟩
      refine pk_eq (rg_gt 4 u (p * 40 + f)) (rg_gs (rg_gt 4 u (p * 40 + f - 1))) (fun y => ?_) (fun y => ⟨pk_in (p * 40 + f) 80 (by omega) e, ?_⟩) (rg_at e (by omega))
      · rw [if_pos y] at h
        exact nm_r (nI_1 f) (ih (f + 1) c u (by omega) (by omega) hc h)
      · rw [if_neg y] at h
        intro b2 e2
        rw [e, nI_clamp (by omega), rg_t8 _ (by omega), rg_upd (by decide) u _ l3] at e2
        subst e2
        exact nm_r (nI_1 f) (nm_r (nI_1 f) (ih (f + 1) (f + 1) _ (by omega) (by omega) (by omega) h))
    · rw [if_neg z] at h
      exact hp c u hc h
/-! arrive: a move that may arrive -/
def rg_arr (g : Nat → Nat → Nat → Nat → Bool) (pc a u s p f m : Nat) : Bool :=
  rg_fc (rg_st 4 a (p * 40 + f) 1) (fun a' => rg_fc (rg_st 4 u (p * 40 + f) m) (fun u' => rg_fc (f + 1) (fun f' => rg_fc (if rg_gt 4 u (p * 40 + f) = m then f else f + 1) (fun c =>
    rg_use (fun c' v => if c' ≤ f then g 0 a' v s else rg_rep (fun r t => g r a' v t) pc v c' (40 - f) f 1 0 s) a' p (39 - f) f' c u'))))
theorem rg_wpl {post : Int32 → Prop} {p : Nat} (hq : p < 2) (hp : post 1) : wpX_isPlayer post () (nI p) :=
  pk_eq p 0 (fun _ => hp) (fun z => pk_eq p 1 (fun _ => hp) (fun y => absurd hq (by omega)))
theorem rg_wfr {post : Int32 → Prop} {f : Nat} (hf : f < 40) (hp : post 1) : wpX_isFrame post () (nI f) :=
  br_f (nI_pos (by omega)) (pk_le 40 f (fun z => absurd z (by omega)) (fun _ => hp))
theorem rg_wuse {post : Int32 → St2 → Prop} {pc : Int32} (g : Nat → Nat → Bool) {a p u f m : Nat} (hq : p < 2) (hf : f < 40) (hm : m < 4) {a3 a4 a5 a6 : Nat → Int32}
    (h : rg_use g a p (39 - f) (f + 1) (if rg_gt 4 u (p * 40 + f) = m then f else f + 1) (rg_st 4 u (p * 40 + f) m) = true)
    (hp : ∀ c u : Nat, c < 41 → g c u = true → post (nI c) (pc, rg_F 4 a, rg_F 4 u, a3, a4, a5, a6)) :
    wpX_use post (pc, rg_F 4 a, rg_F 4 u, a3, a4, a5, a6) (nI p) (nI f) (nI m) := by
  have e : nI p * 40 + nI f = nI (p * 40 + f) := by
    rw [← nI_add, ← pk_mul]
    rfl
  have l2 : rg_gt 4 u (p * 40 + f) < 4 := rg_gt_lt (by decide) u _
  have f26 : ∀ c : Nat, c < 41 → (if rg_gt 4 u (p * 40 + f) = m then f else f + 1) = c → wX_use_26 post (nI p) (nI f) (nI m) (nI (p * 40 + f)) (nI c) pc (rg_F 4 a) (rg_F 4 u) a3 a4 a5 a6 := by
    intro c hc ec
    rw [ec] at h
    refine ⟨pk_in (p * 40 + f) 80 (by omega), fun b2 e2 => nm_r (nI_1 f) ⟨39 - f + 1, ?_⟩⟩
    rw [nI_clamp (by omega), rg_t8 _ (by omega), rg_upd (by decide) u _ hm] at e2
    subst e2
    exact rg_w42 g a p hq a3 a4 a5 a6 hp (39 - f) (f + 1) c _ (by omega) (by omega) hc h
  refine nm_r e ⟨pk_in (p * 40 + f) 80 (by omega), ?_⟩
  refine pk_eq (rg_gt 4 u (p * 40 + f)) m (fun z => ?_) (fun z => ?_) (rg_at rfl (by omega))
  · exact f26 f (by omega) (if_pos z)
  · rw [nI_1]
    exact f26 (f + 1) (by omega) (if_neg z)
theorem rg_warr {post : Int32 → St2 → Prop} {g : Nat → Nat → Nat → Nat → Bool} {pc a u s p f m : Nat} {a4 a5 a6 : Nat → Int32} (hpc : pc < 41) (hq : p < 2) (hf : f < 40) (hm : m < 4) (ha : rg_gt 4 a (p * 40 + f) = 0)
    (h : rg_arr g pc a u s p f m = true)
    (hp : ∀ (r a' u' s' : Nat) (b4 b5 b6 : Nat → Int32), g r a' u' s' = true → post (nI r) (nI pc, rg_F 4 a', rg_F 4 u', rg_F 1000000 s', b4, b5, b6)) :
    wpX_arrive post (nI pc, rg_F 4 a, rg_F 4 u, rg_F 1000000 s, a4, a5, a6) (nI p) (nI f) (nI m) := by
  simp only [rg_arr, rg_fe] at h
  have e : nI p * 40 + nI f = nI (p * 40 + f) := by
    rw [← nI_add, ← pk_mul]
    rfl
  unfold wpX_arrive
  refine rg_wpl hq (br_f (by decide) ?_)
  refine rg_wfr hf (br_f (by decide) (br_f (nI_pos (by omega)) (pk_lt 3 m (fun z => absurd z (by omega)) (fun _ => ⟨pk_in (p * 40 + f) 80 (by omega) e, ?_⟩))))
  refine br_t ((rg_at e (by omega)).trans (congrArg nI ha)) ⟨pk_in (p * 40 + f) 80 (by omega) e, fun b1 e1 => ?_⟩
  have e2 : b1 = rg_F 4 (rg_st 4 a (p * 40 + f) 1) := by
    rw [e1, e, nI_clamp (by omega)]
    exact rg_upd (by decide) a _ (by decide)
  clear e1
  subst e2
  refine rg_wuse _ hq hf hm h (fun c v hc hg => ?_)
  refine pk_le c f (fun z => ?_) (fun z => ?_)
  · rw [if_pos z] at hg
    exact hp 0 _ v s a4 a5 a6 hg
  · rw [if_neg (by omega)] at hg
    exact ⟨40 - f + 1, rg_wrep _ pc v c hpc hc _ (fun r t b4 b5 b6 hr => hp r _ v t b4 b5 b6 hr) (40 - f) f 1 0 s a4 a5 a6 (by omega) (by decide) hg⟩
/-- a move that has arrived -/
theorem rg_warrB {post : Int32 → St2 → Prop} {a p f m : Nat} {pc : Int32} {a2 a3 a4 a5 a6 : Nat → Int32} (hq : p < 2) (hf : f < 40) (hm : m < 4) (ha : rg_gt 4 a (p * 40 + f) ≠ 0)
    (hp : post (-1) (pc, rg_F 4 a, a2, a3, a4, a5, a6)) : wpX_arrive post (pc, rg_F 4 a, a2, a3, a4, a5, a6) (nI p) (nI f) (nI m) := by
  have e : nI p * 40 + nI f = nI (p * 40 + f) := by
    rw [← nI_add, ← pk_mul]
    rfl
  have l : rg_gt 4 a (p * 40 + f) < 4 := rg_gt_lt (by decide) a _
  unfold wpX_arrive
  refine rg_wpl hq (br_f (by decide) ?_)
  refine rg_wfr hf (br_f (by decide) (br_f (nI_pos (by omega)) (pk_lt 3 m (fun z => absurd z (by omega)) (fun _ => ⟨pk_in (p * 40 + f) 80 (by omega) e, ?_⟩))))
  exact pk_eq (rg_gt 4 a (p * 40 + f)) 0 (fun z => absurd z ha) (fun _ => hp) (rg_at e (by omega))
end
section
/-! looking -/
def rg_fm (a p : Nat) : Nat → Nat → Nat
  | 0, f => f
  | k + 1, f => if rg_gt 4 a (p * 40 + f) = 0 then f else rg_fm a p k (f + 1)
theorem rg_fm_le (a p : Nat) : ∀ k f, rg_fm a p k f ≤ f + k := by
  intro k
  induction k with
  | zero => exact fun f => Nat.le_refl f
  | succ k ih =>
    intro f
    simp only [rg_fm]
    split
    · omega
    · have := ih (f + 1)
      omega
theorem rg_wf2 {post : Int32 → Prop} {pc : Int32} {a2 a3 a4 a5 a6 : Nat → Int32} {a p : Nat} (hq : p < 2) : ∀ k f, f + k = 40 → post (nI (rg_fm a p k f)) → wX_firstMissing_2 post (nI p) pc (rg_F 4 a) a2 a3 a4 a5 a6 (k + 1) (nI f) := by
  intro k
  induction k with
  | zero => exact fun f hf h => pk_le 40 f (fun _ => h) (fun z => absurd z (by omega))
  | succ k ih =>
    intro f hf h
    have e : nI p * 40 + nI f = nI (p * 40 + f) := by
      rw [← nI_add, ← pk_mul]
      rfl
    have l : rg_gt 4 a (p * 40 + f) < 4 := rg_gt_lt (by decide) a _
    simp only [rg_fm] at h
    refine pk_le 40 f (fun z => absurd z (by omega)) (fun _ => ⟨pk_in (p * 40 + f) 80 (by omega) e, ?_⟩)
    refine pk_eq (rg_gt 4 a (p * 40 + f)) 0 (fun z => ?_) (fun z => ?_) (rg_at e (by omega))
    · rw [if_pos z] at h
      exact h
    · rw [if_neg z] at h
      exact nm_r (nI_1 f) (ih (f + 1) (by omega) h)
theorem rg_wfm {post : Int32 → Prop} {pc : Int32} {a2 a3 a4 a5 a6 : Nat → Int32} {a p : Nat} (hq : p < 2) (h : post (nI (rg_fm a p 40 0))) : wpX_firstMissing post (pc, rg_F 4 a, a2, a3, a4, a5, a6) (nI p) :=
  ⟨41, rg_wf2 hq 40 0 rfl h⟩
def rg_sure (a : Nat) : Nat := if rg_fm a 1 40 0 ≤ rg_fm a 0 40 0 then rg_fm a 1 40 0 else rg_fm a 0 40 0
theorem rg_sure_le (a : Nat) : rg_sure a ≤ 40 := by
  have h1 := rg_fm_le a 1 40 0
  have h0 := rg_fm_le a 0 40 0
  unfold rg_sure
  split <;> omega
theorem rg_wsr {post : Int32 → Prop} {pc : Int32} {a2 a3 a4 a5 a6 : Nat → Int32} {a : Nat} (h : post (nI (rg_sure a))) : wpX_sure post (pc, rg_F 4 a, a2, a3, a4, a5, a6) := by
  have h1 := rg_fm_le a 1 40 0
  have h0 := rg_fm_le a 0 40 0
  unfold rg_sure at h
  unfold wpX_sure
  refine rg_wfm (p := 0) (by decide) ?_
  refine rg_wfm (p := 1) (by decide) ?_
  refine pk_le (rg_fm a 1 40 0) (rg_fm a 0 40 0) (fun z => ?_) (fun z => ?_)
  · rw [if_pos z] at h
    exact h
  · rw [if_neg (by omega)] at h
    exact h
def rg_set (pc a s : Nat) : Nat := if pc ≤ rg_sure a then 1 else rg_ov (rg_gt 1000000 s (rg_sure a))
theorem rg_set_lt (pc a s : Nat) : rg_set pc a s < 2 := by
  unfold rg_set
  split
  · decide
  · exact rg_ov_lt _
theorem rg_wset {post : Int32 → Prop} {a2 a4 a5 a6 : Nat → Int32} {pc a s : Nat} (hc : pc < 41) (h : post (nI (rg_set pc a s))) : wpX_settled post (nI pc, rg_F 4 a, a2, rg_F 1000000 s, a4, a5, a6) := by
  have hs := rg_sure_le a
  have l : rg_gt 1000000 s (rg_sure a) < 1000000 := rg_gt_lt (by decide) s _
  have ol := rg_ov_lt (rg_gt 1000000 s (rg_sure a))
  unfold rg_set at h
  unfold wpX_settled
  refine rg_wsr ?_
  refine pk_le pc (rg_sure a) (fun z => ?_) (fun z => ⟨pk_in (rg_sure a) 41 (by omega), ?_⟩)
  · rw [if_pos z] at h
    exact h
  · rw [if_neg (by omega)] at h
    refine rg_wov l (rg_at rfl (by omega)) ?_
    refine pk_eq (rg_ov (rg_gt 1000000 s (rg_sure a))) 0 (fun y => ?_) (fun y => ?_) rfl rfl (by omega) (by omega)
    · rw [y] at h
      exact h
    · rw [show rg_ov (rg_gt 1000000 s (rg_sure a)) = 1 by omega] at h
      exact h
def rg_oa (s : Nat) : Nat → Nat → Bool
  | 0, _ => true
  | k + 1, n => if rg_ov (rg_gt 1000000 s n) = 0 then rg_oa s k (n + 1) else false
theorem rg_if {c : Prop} [Decidable c] {x : Bool} (h : (if c then x else false) = true) : c ∧ x = true := by
  by_cases hc : c
  · rw [if_pos hc] at h
    exact ⟨hc, h⟩
  · rw [if_neg hc] at h
    exact absurd h (by decide)
theorem rg_wo2 {post : Int32 → Prop} {pc : Int32} {a1 a2 a4 a5 a6 : Nat → Int32} {s : Nat} (hp : post (-2)) : ∀ k n, n + k = 41 → rg_oa s k n = true → wX_overAfter_2 post pc a1 a2 (rg_F 1000000 s) a4 a5 a6 (k + 1) (nI n) := by
  intro k
  induction k with
  | zero => exact fun n hn h => pk_lt 40 n (fun _ => hp) (fun z => absurd z (by omega))
  | succ k ih =>
    intro n hn h
    simp only [rg_oa] at h
    obtain ⟨h1, h2⟩ := rg_if h
    have l : rg_gt 1000000 s n < 1000000 := rg_gt_lt (by decide) s n
    refine pk_lt 40 n (fun z => absurd z (by omega)) (fun _ => ⟨pk_in n 41 (by omega), rg_wov l (rg_at rfl (by omega)) ?_⟩)
    rw [h1]
    exact br_t rfl (nm_r (nI_1 n) (ih (n + 1) (by omega) h2))
theorem rg_woa {post : Int32 → Prop} {pc : Int32} {a1 a2 a4 a5 a6 : Nat → Int32} {s : Nat} (h : rg_oa s 41 0 = true) (hp : post (-2)) : wpX_overAfter post (pc, a1, a2, rg_F 1000000 s, a4, a5, a6) :=
  ⟨42, rg_wo2 hp 41 0 rfl h⟩
theorem rg_wpos {post : Int32 → St2 → Prop} {a1 a2 a4 a5 a6 : Nat → Int32} {pc s n x : Nat} (hc : pc < 41) (hn : rg_gt 1000000 s pc = n) (hx : n % 10 = x)
    (hp : ∀ b4 b5 b6 : Nat → Int32, post (nI x) (nI pc, a1, a2, rg_F 1000000 s, b4, b5, b6)) : wpX_position post (nI pc, a1, a2, rg_F 1000000 s, a4, a5, a6) 0 := by
  subst hn hx
  unfold wpX_position
  refine rg_wpl (p := 0) (by decide) (br_f (by decide) ⟨pk_in pc 41 hc, ?_⟩)
  refine rg_wld (rg_gt_lt (by decide) s pc) (rg_at rfl (by omega)) (fun b4 b5 b6 r0 r1 s0 s1 t0 t1 => ⟨rg_in0, ?_⟩)
  exact sb_at (P := fun r => post r (nI pc, a1, a2, rg_F 1000000 s, b4, b5, b6)) (show b4 (0 : Int32).toNatClampNeg = _ by rw [rg_v0.1]; exact r0) (hp b4 b5 b6)
theorem rg_wsg0 {post : Int32 → St2 → Prop} {a1 a2 a4 a5 a6 : Nat → Int32} {pc s n x : Nat} (hc : pc < 41) (hn : rg_gt 1000000 s pc = n) (hx : n / 100 % 10 = x)
    (hp : ∀ b4 b5 b6 : Nat → Int32, post (nI x) (nI pc, a1, a2, rg_F 1000000 s, b4, b5, b6)) : wpX_strength post (nI pc, a1, a2, rg_F 1000000 s, a4, a5, a6) 0 := by
  subst hn hx
  unfold wpX_strength
  refine rg_wpl (p := 0) (by decide) (br_f (by decide) ⟨pk_in pc 41 hc, ?_⟩)
  refine rg_wld (rg_gt_lt (by decide) s pc) (rg_at rfl (by omega)) (fun b4 b5 b6 r0 r1 s0 s1 t0 t1 => ⟨rg_in0, ?_⟩)
  exact sb_at (P := fun r => post r (nI pc, a1, a2, rg_F 1000000 s, b4, b5, b6)) (show b5 (0 : Int32).toNatClampNeg = _ by rw [rg_v0.1]; exact s0) (hp b4 b5 b6)
theorem rg_wsg1 {post : Int32 → St2 → Prop} {a1 a2 a4 a5 a6 : Nat → Int32} {pc s n x : Nat} (hc : pc < 41) (hn : rg_gt 1000000 s pc = n) (hx : n / 1000 % 10 = x)
    (hp : ∀ b4 b5 b6 : Nat → Int32, post (nI x) (nI pc, a1, a2, rg_F 1000000 s, b4, b5, b6)) : wpX_strength post (nI pc, a1, a2, rg_F 1000000 s, a4, a5, a6) 1 := by
  subst hn hx
  unfold wpX_strength
  refine rg_wpl (p := 1) (by decide) (br_f (by decide) ⟨pk_in pc 41 hc, ?_⟩)
  refine rg_wld (rg_gt_lt (by decide) s pc) (rg_at rfl (by omega)) (fun b4 b5 b6 r0 r1 s0 s1 t0 t1 => ⟨rg_in1, ?_⟩)
  exact sb_at (P := fun r => post r (nI pc, a1, a2, rg_F 1000000 s, b4, b5, b6)) (show b5 (1 : Int32).toNatClampNeg = _ by rw [rg_v0.2.2.1]; exact s1) (hp b4 b5 b6)
theorem rg_wpa0 {post : Int32 → St2 → Prop} {a1 a2 a4 a5 a6 : Nat → Int32} {pc s n x : Nat} (hc : pc < 41) (hn : rg_gt 1000000 s pc = n) (hx : n / 10000 % 10 = x)
    (hp : ∀ b4 b5 b6 : Nat → Int32, post (nI x) (nI pc, a1, a2, rg_F 1000000 s, b4, b5, b6)) : wpX_pause post (nI pc, a1, a2, rg_F 1000000 s, a4, a5, a6) 0 := by
  subst hn hx
  unfold wpX_pause
  refine rg_wpl (p := 0) (by decide) (br_f (by decide) ⟨pk_in pc 41 hc, ?_⟩)
  refine rg_wld (rg_gt_lt (by decide) s pc) (rg_at rfl (by omega)) (fun b4 b5 b6 r0 r1 s0 s1 t0 t1 => ⟨rg_in0, ?_⟩)
  exact sb_at (P := fun r => post r (nI pc, a1, a2, rg_F 1000000 s, b4, b5, b6)) (show b6 (0 : Int32).toNatClampNeg = _ by rw [rg_v0.1]; exact t0) (hp b4 b5 b6)
theorem rg_wpa1 {post : Int32 → St2 → Prop} {a1 a2 a4 a5 a6 : Nat → Int32} {pc s n x : Nat} (hc : pc < 41) (hn : rg_gt 1000000 s pc = n) (hx : n / 100000 = x)
    (hp : ∀ b4 b5 b6 : Nat → Int32, post (nI x) (nI pc, a1, a2, rg_F 1000000 s, b4, b5, b6)) : wpX_pause post (nI pc, a1, a2, rg_F 1000000 s, a4, a5, a6) 1 := by
  subst hn hx
  unfold wpX_pause
  refine rg_wpl (p := 1) (by decide) (br_f (by decide) ⟨pk_in pc 41 hc, ?_⟩)
  refine rg_wld (rg_gt_lt (by decide) s pc) (rg_at rfl (by omega)) (fun b4 b5 b6 r0 r1 s0 s1 t0 t1 => ⟨rg_in1, ?_⟩)
  exact sb_at (P := fun r => post r (nI pc, a1, a2, rg_F 1000000 s, b4, b5, b6)) (show b6 (1 : Int32).toNatClampNeg = _ by rw [rg_v0.2.2.1]; exact t1) (hp b4 b5 b6)
theorem rg_wsh {post : Int32 → Prop} {pc : Int32} {a1 a2 a4 a5 a6 : Nat → Int32} {s : Nat} (hp : post (nI (rg_gt 1000000 s 8))) : wpX_shown post (pc, a1, a2, rg_F 1000000 s, a4, a5, a6) 8 := by
  refine br_f (by decide) (br_t (by decide) ⟨pk_in 8 41 (by decide), ?_⟩)
  exact sb_at (P := post) (rg_at (i := 8) rfl (by decide)) hp
theorem rg_wwn {post : Int32 → St2 → Prop} {pc : Int32} {a1 a2 a4 a5 a6 : Nat → Int32} {s : Nat} (h : rg_ov (rg_gt 1000000 s 8) = 0) (hp : post (-2) (pc, a1, a2, rg_F 1000000 s, a4, a5, a6)) : wpX_winner post (pc, a1, a2, rg_F 1000000 s, a4, a5, a6) 8 := by
  refine br_f (by decide) (br_t (by decide) ⟨pk_in 8 41 (by decide), ?_⟩)
  refine rg_wov (rg_gt_lt (by decide) s 8) (rg_at (i := 8) rfl (by decide)) ?_
  rw [h]
  exact br_t rfl hp
theorem rg_wms {post : Int32 → Prop} {pc : Int32} {a2 a3 a4 a5 a6 : Nat → Int32} {a p : Nat} (hq : p < 2) (h : rg_fm a p 40 0 = 8) (hp : post 8) : wpX_missing post (pc, rg_F 4 a, a2, a3, a4, a5, a6) (nI p) := by
  unfold wpX_missing
  refine rg_wpl hq (br_f (by decide) (rg_wfm hq ?_))
  rw [h]
  exact br_f (by decide) hp
theorem rg_wmv {post : Int32 → Prop} {pc : Int32} {a1 a3 a4 a5 a6 : Nat → Int32} {u p f : Nat} (hq : p < 2) (hf : f < 40) (hp : post (nI (rg_gt 4 u (p * 40 + f)))) : wpX_move post (pc, a1, rg_F 4 u, a3, a4, a5, a6) (nI p) (nI f) := by
  have e : nI p * 40 + nI f = nI (p * 40 + f) := by
    rw [← nI_add, ← pk_mul]
    rfl
  unfold wpX_move
  refine rg_wpl hq (br_f (by decide) (rg_wfr hf (br_f (by decide) ⟨pk_in (p * 40 + f) 80 (by omega) e, ?_⟩)))
  exact sb_at (P := post) (rg_at e (by omega)) hp
end
section
/-! the law, pure -/
def rg_is (x : Nat) : Nat := if x = 0 then 1 else 0
def rg_p6 (e x6 m : Nat) : Nat := if e = 0 then x6 else if m = 2 then (if 6 ≤ x6 then x6 else x6 + 1) else x6
def rg_nb (x6 : Nat) : Nat := if x6 < 6 then 0 else 1
def rg_fl (e m : Nat) : Nat := if e = 0 then 0 else if m = 3 then 1 else 0
def rg_dn (h r x : Nat) : Nat := if h = 0 then x else if r = 0 then x else x - 1
def rg_py (h x : Nat) : Nat := if h = 0 then x else 2
def rg_dc (e x : Nat) : Nat := if e = 0 then x - 1 else 0
def rg_nx (K : Nat → Nat → Nat → Nat → Nat → Bool) (x6 x7 x8 x9 x10 m k : Nat) : Bool :=
  if x6 < 100 ∧ 0 < x7 ∧ x7 < 100 ∧ 0 < x8 ∧ x8 < 100 ∧ x9 < 100 ∧ x10 < 100 then
    rg_fc (rg_is x9) (fun e => rg_fc (rg_is x10) (fun d => rg_fc (rg_p6 e x6 m) (fun n6 => rg_fc (rg_dn (rg_fl d k) (rg_nb n6) x7) (fun n7 => rg_fc (rg_dn (rg_fl e m) (rg_nb n6) x8) (fun n8 => rg_fc (rg_py (rg_fl e m) (rg_dc e x9)) (fun n9 => rg_fc (rg_py (rg_fl d k) (rg_dc d x10)) (fun n10 => K n6 n7 n8 n9 n10)))))))
  else false
def rg_end (x6 x7 x8 x9 x10 a u s : Nat) : Bool :=
  rg_fc (rg_gt 1000000 s 8) (fun n =>
    if n = x6 + 70 + 100 * x7 + 1000 * x8 + 10000 * x9 + 100000 * x10 ∧ n % 10 = x6 ∧ n / 100 % 10 = x7 ∧ n / 1000 % 10 = x8 ∧ n / 10000 % 10 = x9 ∧ n / 100000 = x10 then
      (if rg_set 8 a s = 1 ∧ rg_sure a = 8 ∧ rg_fm a 0 40 0 = 8 ∧ rg_fm a 1 40 0 = 8 ∧ rg_ov n = 0 ∧ rg_gt 4 u 8 = 0 then rg_oa s 41 0 else false)
    else false)
def rg_p2 (b c x6 x7 x8 x9 x10 : Nat) : Nat → Nat → Nat → Nat → Bool
  | 0, a, u, s => rg_end x6 x7 x8 x9 x10 a u s
  | k + 1, a, u, s => if k < c then rg_p2 b c x6 x7 x8 x9 x10 k a u s else
      if rg_gt 4 u (1 * 40 + k) = 0 ∧ rg_gt 4 a (1 * 40 + k) = 0 then
        (if k < b then rg_arr (fun r a' u' s' => if r = 0 ∧ rg_gt 4 a' (1 * 40 + k) ≠ 0 then rg_p2 b c x6 x7 x8 x9 x10 k a' u' s' else false) 8 a u s 1 k 0
        else rg_arr (fun r a' u' s' => if r < 100 ∧ rg_gt 4 a' (1 * 40 + k) ≠ 0 then rg_p2 b c x6 x7 x8 x9 x10 k a' u' s' else false) 8 a u s 1 k 3)
      else false
def rg_p1 (b c : Nat) : Nat → Nat → Nat → Nat → Nat → Nat → Nat → Nat → Nat → Nat → Bool
  | 0, _, x6, x7, x8, x9, x10, a, u, s => if rg_sure a = c ∧ rg_set 8 a s = (if c = 8 then 1 else 0) then rg_p2 b c x6 x7 x8 x9 x10 8 a u s else false
  | k + 1, f, x6, x7, x8, x9, x10, a, u, s => if rg_gt 4 a (0 * 40 + f) = 0 then
      rg_arr (fun r a1 u1 s1 => if r = 0 then
        (if f < c then
          (if rg_gt 4 a1 (1 * 40 + f) = 0 then
            rg_arr (fun r2 a2 u2 s2 => if r2 < 100 then rg_nx (fun n6 n7 n8 n9 n10 => rg_p1 b c k (f + 1) n6 n7 n8 n9 n10 a2 u2 s2) x6 x7 x8 x9 x10 (if 4 ≤ f then 3 else 2) (if f < b then 0 else 3) else false) f a1 u1 s1 1 f (if f < b then 0 else 3)
          else false)
        else rg_nx (fun n6 n7 n8 n9 n10 => rg_p1 b c k (f + 1) n6 n7 n8 n9 n10 a1 u1 s1) x6 x7 x8 x9 x10 (if 4 ≤ f then 3 else 2) (if f < b then 0 else 3))
        else false) f a u s 0 f (if 4 ≤ f then 3 else 2)
      else false
def rg_law (b c : Nat) : Bool := rg_rep (fun _ s => rg_p1 b c 8 0 2 5 5 0 0 0 0 s) 0 0 40 40 0 1 0 5572
theorem rg_d0 : ∀ c, c < 9 → rg_law 0 c = true := by decide +kernel
theorem rg_d1 : ∀ c, c < 9 → rg_law 1 c = true := by decide +kernel
theorem rg_d2 : ∀ c, c < 9 → rg_law 2 c = true := by decide +kernel
theorem rg_d3 : ∀ c, c < 9 → rg_law 3 c = true := by decide +kernel
theorem rg_d4 : ∀ c, c < 9 → rg_law 4 c = true := by decide +kernel
theorem rg_d5 : ∀ c, c < 9 → rg_law 5 c = true := by decide +kernel
theorem rg_d6 : ∀ c, c < 9 → rg_law 6 c = true := by decide +kernel
theorem rg_d7 : ∀ c, c < 9 → rg_law 7 c = true := by decide +kernel
theorem rg_d8 : ∀ c, c < 9 → rg_law 8 c = true := by decide +kernel
theorem rg_dec {b c : Nat} (hb : b < 9) (hc : c < 9) : rg_law b c = true := by
  have h : b = 0 ∨ b = 1 ∨ b = 2 ∨ b = 3 ∨ b = 4 ∨ b = 5 ∨ b = 6 ∨ b = 7 ∨ b = 8 := by omega
  rcases h with h | h | h | h | h | h | h | h | h <;> subst h
  · exact rg_d0 c hc
  · exact rg_d1 c hc
  · exact rg_d2 c hc
  · exact rg_d3 c hc
  · exact rg_d4 c hc
  · exact rg_d5 c hc
  · exact rg_d6 c hc
  · exact rg_d7 c hc
  · exact rg_d8 c hc
end
section
/-! one turn of the law's first loop, behind the calls -/
theorem rg_is_lt (x : Nat) : rg_is x < 2 := by
  unfold rg_is
  split <;> decide
theorem rg_nb_lt (x : Nat) : rg_nb x < 2 := by
  unfold rg_nb
  split <;> decide
theorem rg_fl_lt (e m : Nat) : rg_fl e m < 2 := by
  unfold rg_fl
  split
  · decide
  · split <;> decide
section
variable {post : Int32 → St0 → Prop} {mc ms kc ks : Nat} {J : Int32 → Int32 → Int32 → Int32 → Int32 → Int32 → Int32 → Int32 → (Nat → Int32) → (Nat → Int32) → (Nat → Int32) → (Nat → Int32) → (Nat → Int32) → (Nat → Int32) → Prop} {x3 x4 x5 pc : Int32} {a1 a2 a3 a4 a5 a6 : Nat → Int32}
theorem rg_w327 {x6 x7 x8 x9 x10 f r t : Nat} (b7 : 0 < x7) (hr : r < 2) (ht : t < 2) (h : J x5 (nI x6) (nI (rg_dn t r x7)) (nI x8) (nI x9) (nI x10) (nI (f + 1)) pc a1 a2 a3 a4 a5 a6) :
    wL_lawOf_327 post mc ms J x3 x4 x5 (nI x6) (nI x7) (nI x9) (nI x10) (nI f) (nI r) (nI t) (nI x8) kc ks pc a1 a2 a3 a4 a5 a6 := by
  unfold rg_dn at h
  refine pk_eq t 0 (fun z => nm_r (nI_1 f) ?_) (fun z => pk_eq r 0 (fun y => nm_r (nI_1 f) ?_) (fun y => nm_r (pk_sub (b := 1) b7) (nm_r (nI_1 f) ?_)))
  · rw [if_pos z] at h
    exact h
  · rw [if_neg z, if_pos y] at h
    exact h
  · rw [if_neg z, if_neg y] at h
    exact h
theorem rg_w306 {x6 x7 x8 x9 x10 f r g t : Nat} (b7 : 0 < x7) (b8 : 0 < x8) (hr : r < 2) (hg : g < 2) (ht : t < 2) (h : J x5 (nI x6) (nI (rg_dn t r x7)) (nI (rg_dn g r x8)) (nI x9) (nI x10) (nI (f + 1)) pc a1 a2 a3 a4 a5 a6) :
    wL_lawOf_306 post mc ms J x3 x4 x5 (nI x6) (nI x7) (nI x8) (nI x9) (nI f) (nI r) (nI g) (nI t) (nI x10) kc ks pc a1 a2 a3 a4 a5 a6 := by
  refine pk_eq g 0 (fun z => ?_) (fun z => pk_eq r 0 (fun y => ?_) (fun y => ?_))
  · rw [show rg_dn g r x8 = x8 from if_pos z] at h
    exact rg_w327 b7 hr ht h
  · rw [show rg_dn g r x8 = x8 from (if_neg z).trans (if_pos y)] at h
    exact rg_w327 b7 hr ht h
  · rw [show rg_dn g r x8 = x8 - 1 from (if_neg z).trans (if_neg y)] at h
    rw [show nI x8 - 1 = nI (x8 - 1) from pk_sub (b := 1) b8]
    exact rg_w327 b7 hr ht h
theorem rg_w280 {x6 x7 x8 x9 x10 f r g t : Nat} (b7 : 0 < x7) (b8 : 0 < x8) (hr : r < 2) (hg : g < 2) (ht : t < 2) (h : J x5 (nI x6) (nI (rg_dn t r x7)) (nI (rg_dn g r x8)) (nI (rg_py g x9)) (nI (rg_py t x10)) (nI (f + 1)) pc a1 a2 a3 a4 a5 a6) :
    wL_lawOf_280 post mc ms J x3 x4 x5 (nI x6) (nI x7) (nI x8) (nI x9) (nI x10) (nI f) (nI r) (nI g) (nI t) kc ks pc a1 a2 a3 a4 a5 a6 := by
  have s : ∀ v : Nat, rg_py g x9 = v → wL_lawOf_293 post mc ms J x3 x4 x5 (nI x6) (nI x7) (nI x8) (nI x10) (nI f) (nI r) (nI g) (nI t) (nI v) kc ks pc a1 a2 a3 a4 a5 a6 := by
    intro v ev
    rw [ev] at h
    refine pk_eq t 0 (fun z => ?_) (fun z => ?_)
    · rw [show rg_py t x10 = x10 from if_pos z] at h
      exact rg_w306 b7 b8 hr hg ht h
    · rw [show rg_py t x10 = 2 from if_neg z] at h
      exact rg_w306 b7 b8 hr hg ht h
  exact pk_eq g 0 (fun z => s x9 (if_pos z)) (fun z => s 2 (if_neg z))
theorem rg_w262 {x6 x7 x8 x9 x10 f r g d k : Nat} (b7 : 0 < x7) (b8 : 0 < x8) (hr : r < 2) (hg : g < 2) (hd : d < 2) (hk : k < 4)
    (h : J x5 (nI x6) (nI (rg_dn (rg_fl d k) r x7)) (nI (rg_dn g r x8)) (nI (rg_py g x9)) (nI (rg_py (rg_fl d k) x10)) (nI (f + 1)) pc a1 a2 a3 a4 a5 a6) :
    wL_lawOf_262 post mc ms J x3 x4 x5 (nI x6) (nI x7) (nI x8) (nI x9) (nI x10) (nI f) (nI k) (nI d) (nI r) (nI g) kc ks pc a1 a2 a3 a4 a5 a6 := by
  refine pk_eq d 0 (fun z => ?_) (fun z => pk_eq k 3 (fun y => ?_) (fun y => ?_))
  · rw [show rg_fl d k = 0 from if_pos z] at h
    exact rg_w280 b7 b8 hr hg (by decide) h
  · rw [show rg_fl d k = 1 from (if_neg z).trans (if_pos y)] at h
    exact rg_w280 b7 b8 hr hg (by decide) h
  · rw [show rg_fl d k = 0 from (if_neg z).trans (if_neg y)] at h
    exact rg_w280 b7 b8 hr hg (by decide) h
theorem rg_w244 {x6 x7 x8 x9 x10 f r e d m k : Nat} (b7 : 0 < x7) (b8 : 0 < x8) (hr : r < 2) (he : e < 2) (hd : d < 2) (hm : m < 4) (hk : k < 4)
    (h : J x5 (nI x6) (nI (rg_dn (rg_fl d k) r x7)) (nI (rg_dn (rg_fl e m) r x8)) (nI (rg_py (rg_fl e m) x9)) (nI (rg_py (rg_fl d k) x10)) (nI (f + 1)) pc a1 a2 a3 a4 a5 a6) :
    wL_lawOf_244 post mc ms J x3 x4 x5 (nI x6) (nI x7) (nI x8) (nI x9) (nI x10) (nI f) (nI m) (nI k) (nI e) (nI d) (nI r) kc ks pc a1 a2 a3 a4 a5 a6 := by
  refine pk_eq e 0 (fun z => ?_) (fun z => pk_eq m 3 (fun y => ?_) (fun y => ?_))
  · rw [show rg_fl e m = 0 from if_pos z] at h
    exact rg_w262 b7 b8 hr (by decide) hd hk h
  · rw [show rg_fl e m = 1 from (if_neg z).trans (if_pos y)] at h
    exact rg_w262 b7 b8 hr (by decide) hd hk h
  · rw [show rg_fl e m = 0 from (if_neg z).trans (if_neg y)] at h
    exact rg_w262 b7 b8 hr (by decide) hd hk h
theorem rg_w230 {x6 x7 x8 x9 x10 f e d m k : Nat} (b6 : x6 < 200) (b7 : 0 < x7) (b8 : 0 < x8) (he : e < 2) (hd : d < 2) (hm : m < 4) (hk : k < 4)
    (h : J x5 (nI x6) (nI (rg_dn (rg_fl d k) (rg_nb x6) x7)) (nI (rg_dn (rg_fl e m) (rg_nb x6) x8)) (nI (rg_py (rg_fl e m) x9)) (nI (rg_py (rg_fl d k) x10)) (nI (f + 1)) pc a1 a2 a3 a4 a5 a6) :
    wL_lawOf_230 post mc ms J x3 x4 x5 (nI x7) (nI x8) (nI x9) (nI x10) (nI f) (nI m) (nI k) (nI e) (nI d) (nI x6) kc ks pc a1 a2 a3 a4 a5 a6 := by
  refine pk_lt x6 6 (fun z => ?_) (fun z => ?_)
  · rw [show rg_nb x6 = 0 from if_pos z] at h
    exact rg_w244 b7 b8 (by decide) he hd hm hk h
  · rw [show rg_nb x6 = 1 from if_neg (by omega)] at h
    exact rg_w244 b7 b8 (by decide) he hd hm hk h
theorem rg_w201 {x6 x7 x8 x9 x10 f e d m k : Nat} (b6 : x6 < 100) (b7 : 0 < x7) (b8 : 0 < x8) (he : e < 2) (hd : d < 2) (hm : m < 4) (hk : k < 4)
    (h : J x5 (nI (rg_p6 e x6 m)) (nI (rg_dn (rg_fl d k) (rg_nb (rg_p6 e x6 m)) x7)) (nI (rg_dn (rg_fl e m) (rg_nb (rg_p6 e x6 m)) x8)) (nI (rg_py (rg_fl e m) x9)) (nI (rg_py (rg_fl d k) x10)) (nI (f + 1)) pc a1 a2 a3 a4 a5 a6) :
    wL_lawOf_201 post mc ms J x3 x4 x5 (nI x6) (nI x7) (nI x8) (nI x9) (nI f) (nI m) (nI k) (nI e) (nI d) (nI x10) kc ks pc a1 a2 a3 a4 a5 a6 := by
  have s : ∀ v : Nat, v < 200 → rg_p6 e x6 m = v → wL_lawOf_230 post mc ms J x3 x4 x5 (nI x7) (nI x8) (nI x9) (nI x10) (nI f) (nI m) (nI k) (nI e) (nI d) (nI v) kc ks pc a1 a2 a3 a4 a5 a6 := by
    intro v hv ev
    rw [ev] at h
    exact rg_w230 hv b7 b8 he hd hm hk h
  refine pk_eq e 0 (fun z => s x6 (by omega) (if_pos z)) (fun z => pk_eq m 2 (fun y => pk_le 6 x6 (fun w => s x6 (by omega) ?_) (fun w => ?_)) (fun y => s x6 (by omega) ?_))
  · exact ((if_neg z).trans (if_pos y)).trans (if_pos w)
  · rw [nI_1]
    exact s (x6 + 1) (by omega) (((if_neg z).trans (if_pos y)).trans (if_neg (by omega)))
  · exact (if_neg z).trans (if_neg y)
theorem rg_w171 {x6 x7 x8 x9 x10 f e d m k : Nat} (b6 : x6 < 100) (b7 : 0 < x7) (b8 : 0 < x8) (he : e < 2) (hd : d < 2) (hm : m < 4) (hk : k < 4) (h9 : e = 0 → 0 < x9) (h10 : d = 0 → 0 < x10)
    (h : J x5 (nI (rg_p6 e x6 m)) (nI (rg_dn (rg_fl d k) (rg_nb (rg_p6 e x6 m)) x7)) (nI (rg_dn (rg_fl e m) (rg_nb (rg_p6 e x6 m)) x8)) (nI (rg_py (rg_fl e m) (rg_dc e x9))) (nI (rg_py (rg_fl d k) (rg_dc d x10))) (nI (f + 1)) pc a1 a2 a3 a4 a5 a6) :
    wL_lawOf_171 post mc ms J x3 x4 x5 (nI x6) (nI x7) (nI x8) (nI x9) (nI x10) (nI f) (nI m) (nI k) (nI e) (nI d) kc ks pc a1 a2 a3 a4 a5 a6 := by
  have s : ∀ v : Nat, rg_dc e x9 = v → wL_lawOf_186 post mc ms J x3 x4 x5 (nI x6) (nI x7) (nI x8) (nI x10) (nI f) (nI m) (nI k) (nI e) (nI d) (nI v) kc ks pc a1 a2 a3 a4 a5 a6 := by
    intro v ev
    rw [ev] at h
    refine pk_eq d 0 (fun z => ?_) (fun z => ?_)
    · rw [show rg_dc d x10 = x10 - 1 from if_pos z] at h
      rw [show nI x10 - 1 = nI (x10 - 1) from pk_sub (b := 1) (h10 z)]
      exact rg_w201 b6 b7 b8 he hd hm hk h
    · rw [show rg_dc d x10 = 0 from if_neg z] at h
      exact rg_w201 b6 b7 b8 he hd hm hk h
  refine pk_eq e 0 (fun z => ?_) (fun z => s 0 (if_neg z))
  rw [show nI x9 - 1 = nI (x9 - 1) from pk_sub (b := 1) (h9 z)]
  exact s (x9 - 1) (if_pos z)
theorem rg_w147 {K : Nat → Nat → Nat → Nat → Nat → Bool} {x6 x7 x8 x9 x10 f m k : Nat} (hm : m < 4) (hk : k < 4) (h : rg_nx K x6 x7 x8 x9 x10 m k = true)
    (hJ : ∀ n6 n7 n8 n9 n10 : Nat, K n6 n7 n8 n9 n10 = true → J x5 (nI n6) (nI n7) (nI n8) (nI n9) (nI n10) (nI (f + 1)) pc a1 a2 a3 a4 a5 a6) :
    wL_lawOf_147 post mc ms J x3 x4 (nI x6) (nI x7) (nI x8) (nI x9) (nI x10) (nI f) (nI m) (nI k) x5 kc ks pc a1 a2 a3 a4 a5 a6 := by
  simp only [rg_nx, rg_fe] at h
  obtain ⟨⟨b6, b7, c7, b8, c8, c9, c10⟩, h⟩ := rg_if h
  have h' := hJ _ _ _ _ _ h
  have s : ∀ e : Nat, e < 2 → (e = 0 → 0 < x9) → rg_is x9 = e → wL_lawOf_159 post mc ms J x3 x4 x5 (nI x6) (nI x7) (nI x8) (nI x9) (nI x10) (nI f) (nI m) (nI k) (nI e) kc ks pc a1 a2 a3 a4 a5 a6 := by
    intro e he h9 ee
    rw [ee] at h'
    refine pk_eq x10 0 (fun z => ?_) (fun z => ?_)
    · rw [show rg_is x10 = 1 from if_pos z] at h'
      exact rg_w171 b6 b7 b8 he (by decide) hm hk h9 (fun t => absurd t (by decide)) h'
    · rw [show rg_is x10 = 0 from if_neg z] at h'
      exact rg_w171 b6 b7 b8 he (by decide) hm hk h9 (fun t => by omega) h'
  exact pk_eq x9 0 (fun z => s 1 (by decide) (fun t => absurd t (by decide)) (if_pos z)) (fun z => s 0 (by decide) (fun t => by omega) (if_neg z))
theorem rg_w110 {K : Nat → Nat → Nat → Nat → Nat → Bool} {x6 x7 x8 x9 x10 f m k r : Nat} (hf : f < 8) (hm : m < 4) (hk : k < 4) (hr : r < 100) (h : rg_nx K x6 x7 x8 x9 x10 m k = true)
    (hJ : ∀ n6 n7 n8 n9 n10 : Nat, K n6 n7 n8 n9 n10 = true → J 1 (nI n6) (nI n7) (nI n8) (nI n9) (nI n10) (nI (f + 1)) (nI (f + 1)) a1 a2 a3 a4 a5 a6) :
    wL_lawOf_110 post mc ms J x3 x4 1 (nI x6) (nI x7) (nI x8) (nI x9) (nI x10) (nI f) (nI m) (nI k) 0 (nI r) kc ks (nI f) a1 a2 a3 a4 a5 a6 := by
  unfold wL_lawOf_110
  refine pk_lt f 40 (fun _ => nm_r (nI_1 f) ?_) (fun z => absurd z (by omega))
  refine br_f (by decide) (br_t rfl (br_f (nI_pos (by omega)) (br_t (nI_1 f).symm ?_)))
  exact rg_w147 hm hk h hJ
end
end
section
/-! calls that are refused -/
theorem rg_b1 {post : Int32 → St2 → Prop} {pc p1 p2 : Int32} {a1 a2 a3 a4 a5 a6 : Nat → Int32} (hp : post (-1) (pc, a1, a2, a3, a4, a5, a6)) : wpX_arrive post (pc, a1, a2, a3, a4, a5, a6) 2 p1 p2 := by
  unfold wpX_arrive
  exact br_f (by decide) (br_f (by decide) (br_t rfl hp))
theorem rg_b2 {post : Int32 → St2 → Prop} {pc p2 : Int32} {a1 a2 a3 a4 a5 a6 : Nat → Int32} (hp : post (-1) (pc, a1, a2, a3, a4, a5, a6)) : wpX_arrive post (pc, a1, a2, a3, a4, a5, a6) 0 40 p2 := by
  unfold wpX_arrive
  exact br_t rfl (br_f (by decide) (br_f (by decide) (br_t (by decide) (br_t rfl hp))))
theorem rg_b3 {post : Int32 → St2 → Prop} {pc : Int32} {a1 a2 a3 a4 a5 a6 : Nat → Int32} (hp : post (-1) (pc, a1, a2, a3, a4, a5, a6)) : wpX_arrive post (pc, a1, a2, a3, a4, a5, a6) 0 9 4 := by
  unfold wpX_arrive
  exact br_t rfl (br_f (by decide) (br_f (by decide) (br_f (by decide) (br_f (by decide) (br_f (by decide) (br_t (by decide) hp))))))
theorem rg_b4 {post : Int32 → St2 → Prop} {pc : Int32} {a1 a2 a3 a4 a5 a6 : Nat → Int32} (hp : post (-1) (pc, a1, a2, a3, a4, a5, a6)) : wpX_position post (pc, a1, a2, a3, a4, a5, a6) 2 := by
  unfold wpX_position
  exact br_f (by decide) (br_f (by decide) (br_t rfl hp))
theorem rg_b5 {post : Int32 → Prop} {pc : Int32} {a1 a2 a3 a4 a5 a6 : Nat → Int32} (hp : post (-1)) : wpX_shown post (pc, a1, a2, a3, a4, a5, a6) 41 :=
  br_f (by decide) (br_f (by decide) hp)
theorem rg_b6 {post : Int32 → St2 → Prop} {pc : Int32} {a1 a2 a3 a4 a5 a6 : Nat → Int32} (hp : post (-1) (pc, a1, a2, a3, a4, a5, a6)) : wpX_winner post (pc, a1, a2, a3, a4, a5, a6) (-1) :=
  br_t (by decide) hp
theorem rg_b7 {post : Int32 → Prop} {pc : Int32} {a1 a2 a3 a4 a5 a6 : Nat → Int32} (hp : post (-1)) : wpX_move post (pc, a1, a2, a3, a4, a5, a6) 1 40 := by
  unfold wpX_move
  exact br_f (by decide) (br_t rfl (br_f (by decide) (br_f (by decide) (br_t (by decide) (br_t rfl hp)))))
theorem rg_b8 {post : Int32 → Prop} {pc : Int32} {a1 a2 a3 a4 a5 a6 : Nat → Int32} (hp : post (-1)) : wpX_missing post (pc, a1, a2, a3, a4, a5, a6) 2 := by
  unfold wpX_missing
  exact br_f (by decide) (br_f (by decide) (br_t rfl hp))
theorem rg_w665 {post : Int32 → St0 → Prop} {mc ms kc ks u : Nat} {pc : Int32} {a1 a3 a4 a5 a6 : Nat → Int32} (hp : post 1 ()) (h : rg_gt 4 u 8 = 0) : wL_lawOf_665 post mc ms 1 kc ks pc a1 (rg_F 4 u) a3 a4 a5 a6 := by
  unfold wL_lawOf_665
  refine br_f (by decide) (rg_wmv (p := 0) (f := 8) (by decide) (by decide) (br_t (congrArg nI h) ?_))
  refine rg_b1 (br_t rfl (rg_b2 (br_t rfl (rg_b3 (br_t rfl (rg_b4 (br_t rfl (rg_b5 (br_t rfl (rg_b6 (br_t rfl (rg_b7 (br_t rfl (rg_b8 (br_t rfl ?_)))))))))))))))
  exact hp
/-! the law's second loop -/
theorem rg_due (x6 x7 x8 x9 x10 : Nat) : ((((nI x6 + 70) + (100 * nI x7)) + (1000 * nI x8)) + (10000 * nI x9)) + (100000 * nI x10) = nI (x6 + 70 + 100 * x7 + 1000 * x8 + 10000 * x9 + 100000 * x10) := by
  rw [← nI_add, ← nI_add, ← nI_add, ← nI_add, ← nI_add, ← pk_mul 100, ← pk_mul 1000, ← pk_mul 10000, ← pk_mul 100000]
  rfl
theorem rg_wend {post : Int32 → St0 → Prop} {mc ms kc ks n : Nat} {x3 x4 : Int32} {x6 x7 x8 x9 x10 a u s : Nat} {a4 a5 a6 : Nat → Int32} (hp : post 1 ()) (h : rg_end x6 x7 x8 x9 x10 a u s = true) :
    wL_lawOf_409 post mc ms x3 x4 (nI x6) (nI x7) (nI x8) (nI x9) (nI x10) kc ks (n + 1) 1 (nI 0 + (-1)) (nI 8) (rg_F 4 a) (rg_F 4 u) (rg_F 1000000 s) a4 a5 a6 := by
  simp only [rg_end, rg_fe] at h
  obtain ⟨⟨h1, h2, h3, h4, h5, h6⟩, h⟩ := rg_if h
  obtain ⟨⟨g1, g2, g3, g4, g5, g6⟩, h⟩ := rg_if h
  refine br_t (by decide) (nm_r (rg_due x6 x7 x8 x9 x10) (br_f (by decide) ?_))
  refine rg_wsh (br_t (congrArg nI h1) ?_)
  refine rg_wpos (by decide) rfl h2 (fun b4 b5 b6 => br_t rfl ?_)
  refine rg_wsg0 (by decide) rfl h3 (fun b4 b5 b6 => br_t rfl ?_)
  refine rg_wsg1 (by decide) rfl h4 (fun b4 b5 b6 => br_t rfl ?_)
  refine rg_wpa0 (by decide) rfl h5 (fun b4 b5 b6 => br_t rfl ?_)
  refine rg_wpa1 (by decide) rfl h6 (fun b4 b5 b6 => br_t rfl ?_)
  refine rg_wset (by decide) (br_f (by rw [g1]; decide) ?_)
  refine rg_wsr (br_t (congrArg nI g2) ?_)
  refine rg_wms (p := 0) (by decide) g3 (br_t rfl ?_)
  refine rg_wms (p := 1) (by decide) g4 (br_t rfl ?_)
  refine rg_wwn g5 (br_t rfl ?_)
  refine rg_woa h (br_t rfl ?_)
  exact rg_w665 hp g6
theorem rg_wp2 {post : Int32 → St0 → Prop} {mc ms kc ks b c x6 x7 x8 x9 x10 : Nat} (hp : post 1 ()) (hb : b < 9) (hc : c < 9) :
    ∀ (k a u s : Nat) (a4 a5 a6 : Nat → Int32), k ≤ 8 → rg_p2 b c x6 x7 x8 x9 x10 k a u s = true →
      wL_lawOf_409 post mc ms (nI b) (nI c) (nI x6) (nI x7) (nI x8) (nI x9) (nI x10) kc ks (k + 1) 1 (nI k + (-1)) (nI 8) (rg_F 4 a) (rg_F 4 u) (rg_F 1000000 s) a4 a5 a6 := by
  intro k
  induction k with
  | zero => exact fun a u s a4 a5 a6 _ h => rg_wend hp h
  | succ k ih =>
    intro a u s a4 a5 a6 hk h
    simp only [rg_p2] at h
    rw [pk_m1]
    have s475 : ∀ (r a' u' s' : Nat) (b4 b5 b6 : Nat → Int32), r < 100 → rg_gt 4 a' (1 * 40 + k) ≠ 0 → rg_p2 b c x6 x7 x8 x9 x10 k a' u' s' = true →
        wL_lawOf_475 post mc ms (wL_lawOf_409 post mc ms (nI b) (nI c) (nI x6) (nI x7) (nI x8) (nI x9) (nI x10) kc ks (k + 1)) (nI b) (nI c) (nI x6) (nI x7) (nI x8) (nI x9) (nI x10) (nI k) (nI r) kc ks (nI 8) (rg_F 4 a') (rg_F 4 u') (rg_F 1000000 s') b4 b5 b6 := by
      intro r a' u' s' b4 b5 b6 hr ha hg
      refine br_f (nI_pos (by omega)) (rg_warrB (p := 1) (m := 1) (by decide) (by omega) (by decide) ha ?_)
      exact br_t rfl (nm_e (ih a' u' s' b4 b5 b6 (by omega) hg))
    refine br_f (nI_pos (by omega)) (pk_lt k c (fun z => ?_) (fun z => ?_))
    · rw [if_pos z] at h
      exact nm_e (ih a u s a4 a5 a6 (by omega) h)
    · rw [if_neg (by omega)] at h
      obtain ⟨⟨h1, h2⟩, h⟩ := rg_if h
      refine pk_lt k b (fun y => ?_) (fun y => ?_)
      · rw [if_pos y] at h
        unfold wL_lawOf_432
        refine rg_wmv (p := 1) (by decide) (by omega) ?_
        refine rg_warr (p := 1) (m := 0) (by decide) (by decide) (by omega) (by decide) h2 h (fun r a' u' s' b4 b5 b6 hg => ?_)
        obtain ⟨⟨g1, g2⟩, hg⟩ := rg_if hg
        exact br_f (by decide) (br_t (congrArg nI h1) (br_f (by decide) (br_t (congrArg nI g1) (s475 r a' u' s' b4 b5 b6 (by omega) g2 hg))))
      · rw [if_neg (by omega)] at h
        unfold wL_lawOf_432
        refine rg_wmv (p := 1) (by decide) (by omega) ?_
        refine rg_warr (p := 1) (m := 3) (by decide) (by decide) (by omega) (by decide) h2 h (fun r a' u' s' b4 b5 b6 hg => ?_)
        obtain ⟨⟨g1, g2⟩, hg⟩ := rg_if hg
        exact br_f (by decide) (br_t (congrArg nI h1) (br_t rfl (s475 r a' u' s' b4 b5 b6 g1 g2 hg)))
/-! the law's first loop -/
theorem rg_wp1 {post : Int32 → St0 → Prop} {mc ms kc ks b c : Nat} (hp : post 1 ()) (hb : b < 9) (hc : c < 9) :
    ∀ (k f x6 x7 x8 x9 x10 a u s : Nat) (a4 a5 a6 : Nat → Int32), f + k = 8 → rg_p1 b c k f x6 x7 x8 x9 x10 a u s = true →
      wL_lawOf_46 post mc ms (nI b) (nI c) kc ks (k + 1) 1 (nI x6) (nI x7) (nI x8) (nI x9) (nI x10) (nI f) (nI f) (rg_F 4 a) (rg_F 4 u) (rg_F 1000000 s) a4 a5 a6 := by
  intro k
  induction k with
  | zero =>
    intro f x6 x7 x8 x9 x10 a u s a4 a5 a6 hf h
    have hf' : f = 8 := by omega
    subst hf'
    simp only [rg_p1] at h
    obtain ⟨⟨h1, h2⟩, h⟩ := rg_if h
    have go : ∃ n, wL_lawOf_409 post mc ms (nI b) (nI c) (nI x6) (nI x7) (nI x8) (nI x9) (nI x10) kc ks n 1 7 (nI 8) (rg_F 4 a) (rg_F 4 u) (rg_F 1000000 s) a4 a5 a6 := by
      refine ⟨9, ?_⟩
      have q := rg_wp2 (mc := mc) (ms := ms) (kc := kc) (ks := ks) hp hb hc 8 a u s a4 a5 a6 (by decide) h
      rw [pk_m1] at q
      exact q
    refine pk_le 8 8 (fun _ => br_f (by decide) ?_) (fun z => absurd z (by omega))
    refine rg_wsr (br_t (congrArg nI h1) (rg_wset (by decide) ?_))
    refine pk_eq c 8 (fun z => ?_) (fun z => ?_)
    · rw [if_pos z] at h2
      exact br_t (congrArg nI h2) (br_t rfl go)
    · rw [if_neg z] at h2
      exact br_t (congrArg nI h2) (br_t rfl go)
  | succ k ih =>
    intro f x6 x7 x8 x9 x10 a u s a4 a5 a6 hf h
    simp only [rg_p1] at h
    obtain ⟨h0, h⟩ := rg_if h
    have s77 : ∀ m q : Nat, m < 4 → q < 4 → (if 4 ≤ f then 3 else 2) = m → (if f < b then 0 else 3) = q →
        wL_lawOf_77 post mc ms (wL_lawOf_46 post mc ms (nI b) (nI c) kc ks (k + 1)) (nI b) (nI c) 1 (nI x6) (nI x7) (nI x8) (nI x9) (nI x10) (nI f) (nI m) (nI q) kc ks (nI f) (rg_F 4 a) (rg_F 4 u) (rg_F 1000000 s) a4 a5 a6 := by
      intro m q hm hq em eq
      rw [em, eq] at h
      unfold wL_lawOf_77
      refine rg_warr (p := 0) (by omega) (by decide) (by omega) hm h0 h (fun r a1 u1 s1 b4 b5 b6 hg => ?_)
      obtain ⟨g0, hh⟩ := rg_if hg
      clear hg
      subst g0
      refine pk_lt f c (fun z => ?_) (fun z => ?_)
      · rw [if_pos z] at hh
        obtain ⟨g1, hg⟩ := rg_if hh
        refine rg_warr (p := 1) (by omega) (by decide) (by omega) hq g1 hg (fun r2 a2 u2 s2 d4 d5 d6 hg2 => ?_)
        obtain ⟨g2, hg2⟩ := rg_if hg2
        exact rg_w110 (by omega) hm hq g2 hg2 (fun n6 n7 n8 n9 n10 hn => ih (f + 1) n6 n7 n8 n9 n10 a2 u2 s2 d4 d5 d6 (by omega) hn)
      · rw [if_neg (by omega)] at hh
        exact rg_w110 (r := 0) (by omega) hm hq (by decide) hh (fun n6 n7 n8 n9 n10 hn => ih (f + 1) n6 n7 n8 n9 n10 a1 u1 s1 b4 b5 b6 (by omega) hn)
    have s64 : ∀ m : Nat, m < 4 → (if 4 ≤ f then 3 else 2) = m →
        wL_lawOf_64 post mc ms (wL_lawOf_46 post mc ms (nI b) (nI c) kc ks (k + 1)) (nI b) (nI c) 1 (nI x6) (nI x7) (nI x8) (nI x9) (nI x10) (nI f) (nI m) kc ks (nI f) (rg_F 4 a) (rg_F 4 u) (rg_F 1000000 s) a4 a5 a6 :=
      fun m hm em => pk_lt f b (fun z => s77 m 0 hm (by decide) em (if_pos z)) (fun z => s77 m 3 hm (by decide) em (if_neg (by omega)))
    exact pk_le 8 f (fun z => absurd z (by omega)) (fun _ => pk_le 4 f (fun z => s64 3 (by decide) (if_pos z)) (fun z => s64 2 (by decide) (if_neg (by omega))))
/-! the top -/
theorem rg_lo9 (p : Int32) : ∃ b, b < 9 ∧ (p &&& 65535) - (p &&& 65535) / 9 * 9 = nI b := by
  obtain ⟨j, hj, e⟩ := pk_andE p (m := 65535) 16 (by decide)
  refine ⟨j % 9, Nat.mod_lt _ (by decide), ?_⟩
  rw [e]
  exact pk_rem (d := 9) (by omega) (by decide) (by decide)
theorem rg_wnew {post : Int32 → St2 → Prop} {g : Nat → Nat → Bool} {Z W a4 a5 a6 : Nat → Int32} (hZ : Z = rg_F 4 0) (hW : W = rg_F 1000000 5572) (h : rg_rep g 0 0 40 40 0 1 0 5572 = true)
    (hp : ∀ (r s : Nat) (b4 b5 b6 : Nat → Int32), g r s = true → post (nI r) (nI 0, rg_F 4 0, rg_F 4 0, rg_F 1000000 s, b4, b5, b6)) : wpX_replay post (0, Z, Z, W, a4, a5, a6) 0 40 := by
  subst hZ hW
  exact ⟨41, rg_wrep g 0 0 40 (by decide) (by decide) _ hp 40 0 1 0 5572 a4 a5 a6 (by decide) (by decide) h⟩
theorem rg_wlaw {post : Int32 → St0 → Prop} (p0 p1 : Int32) (hp : post 1 ()) : wpL_lawOf post 62 976 () p0 p1 := by
  obtain ⟨b, hb, eb⟩ := rg_lo9 p0
  obtain ⟨c, hc, ec⟩ := rg_lo9 p1
  have h : rg_law b c = true := rg_dec hb hc
  unfold rg_law at h
  refine ⟨by decide, by decide, 6, 207, by decide, by decide, ?_⟩
  refine ⟨by decide, by decide, by decide, by decide, by decide, by decide, by decide, by decide, by decide, by decide, by decide, by decide, fun W eW => ?_⟩
  refine rg_wnew (rg_z 4) (eW.trans (rg_one (v := 5572) (by decide))) h (fun r s b4 b5 b6 hg => ?_)
  refine ⟨by decide, nm_r eb ⟨by decide, nm_r ec ⟨9, ?_⟩⟩⟩
  exact rg_wp1 hp hb hc 8 0 2 5 5 0 0 0 0 s b4 b5 b6 (by decide) hg
theorem i_vc (xs : Nat → Int32) (L : Nat) (hL : L ≤ 2) : wpL_law (fun r => r = 1) L xs := by
  have c : ∀ (post : Int32 → Prop) (i : Nat), i < 2 → (∀ v, post v) → wpL_cellAt post L xs () (nI i) := by
    intro post i hi h
    exact pk_le L i (fun _ => h 0) (fun z => ⟨pk_in i L z, h _⟩)
  unfold wpL_law
  exact c _ 0 (by decide) (fun v0 => c _ 1 (by decide) (fun v1 => ⟨62, 976, by decide, by decide, rg_wlaw v0 v1 rfl⟩))
end
