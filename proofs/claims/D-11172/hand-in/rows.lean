section
/-- a decimal digit of v -/
def rc_dg (v k : Nat) : Nat := v / 10 ^ k % 10
/-- place -> the end of its field -/
def rc_fT : List Nat := [5, 5, 5, 5, 5, 5, 11, 11, 11, 11, 11, 11, 17, 17, 17, 17, 17, 17, 23, 23, 23, 23, 23, 23, 29, 29, 29, 29, 29, 29, 35, 35, 35, 35, 35, 35, 37, 37, 39, 39, 41, 41, 43, 43, 46, 46, 46, 49, 49, 49, 52, 52, 52, 55, 55, 55, 58, 58, 58, 61, 61, 61, 64, 64, 64, 67, 67, 67, 70, 70, 70, 73, 73, 73, 76, 76, 76, 79, 79, 79, 82, 82, 82, 85, 85, 85, 88, 88, 88, 91, 91, 91, 94, 94, 94, 97, 97, 97, 104, 104, 104, 104, 104, 104, 104, 116, 116, 116, 116, 116, 116, 116, 116, 116, 116, 116, 116, 122, 122, 122, 122, 122, 122, 128, 128, 128, 128, 128, 128, 135, 135, 135, 135, 135, 135, 135, 141, 141, 141, 141, 141, 141, 147, 147, 147, 147, 147, 147, 148, 149, 150, 151, 152]
def rc_fe (j : Nat) : Nat := if j < 153 then rc_fT.getD j 0 else j
/-- the marks, as the program makes them -/
def rc_mk : Nat → Int32 := (upd (upd (upd (upd (upd (upd (upd (upd (upd (upd (upd (upd (upd (upd (upd (upd (upd (upd (upd (upd (upd (upd (upd (upd (upd (upd (upd (upd (upd (upd (upd (upd (upd (upd (upd (upd (upd (upd (upd (upd (fun _ => 0) 0 1) 6 1) 12 1) 18 1) 24 1) 30 1) 36 1) 38 1) 40 1) 42 1) 44 1) 47 1) 50 1) 53 1) 56 1) 59 1) 62 1) 65 1) 68 1) 71 1) 74 1) 77 1) 80 1) 83 1) 86 1) 89 1) 92 1) 95 1) 98 1) 105 1) 117 1) 123 1) 129 1) 136 1) 142 1) 148 1) 149 1) 150 1) 151 1) 152 1)
/-- the digits and the minus signs of a picture Z: the signed value of the field that ends at e -/
def rc_dm (Z : Nat → Int) : Nat → Int32 := fun j => nI (rc_dg (Z (rc_fe j)).natAbs (rc_fe j - j))
def rc_sm (Z : Nat → Int) : Nat → Int32 := fun j => if Z j < 0 then 1 else 0
def rc_zs (Z : Nat → Int) (e : Nat) (z : Int) : Nat → Int := fun j => if j = e then z else Z j
/-- a field ends at e and has l digits -/
def rc_isF (e l : Nat) : Prop := 1 ≤ l ∧ l ≤ 12 ∧ l ≤ e + 1 ∧ e < 153 ∧ (∀ k, k < l → rc_fe (e - k) = e) ∧ (∀ j, j < 153 → rc_fe j = e → j ≤ e ∧ e < j + l) ∧ (∀ k, k < l - 1 → rc_mk (e - k) = 0) ∧ rc_mk (e - (l - 1)) = 1
theorem rc_f5 : rc_isF 5 6 := by unfold rc_isF; decide +kernel
theorem rc_f11 : rc_isF 11 6 := by unfold rc_isF; decide +kernel
theorem rc_f17 : rc_isF 17 6 := by unfold rc_isF; decide +kernel
theorem rc_f23 : rc_isF 23 6 := by unfold rc_isF; decide +kernel
theorem rc_f29 : rc_isF 29 6 := by unfold rc_isF; decide +kernel
theorem rc_f35 : rc_isF 35 6 := by unfold rc_isF; decide +kernel
theorem rc_f37 : rc_isF 37 2 := by unfold rc_isF; decide +kernel
theorem rc_f39 : rc_isF 39 2 := by unfold rc_isF; decide +kernel
theorem rc_f41 : rc_isF 41 2 := by unfold rc_isF; decide +kernel
theorem rc_f43 : rc_isF 43 2 := by unfold rc_isF; decide +kernel
theorem rc_f46 : rc_isF 46 3 := by unfold rc_isF; decide +kernel
theorem rc_f49 : rc_isF 49 3 := by unfold rc_isF; decide +kernel
theorem rc_f52 : rc_isF 52 3 := by unfold rc_isF; decide +kernel
theorem rc_f55 : rc_isF 55 3 := by unfold rc_isF; decide +kernel
theorem rc_f58 : rc_isF 58 3 := by unfold rc_isF; decide +kernel
theorem rc_f61 : rc_isF 61 3 := by unfold rc_isF; decide +kernel
theorem rc_f64 : rc_isF 64 3 := by unfold rc_isF; decide +kernel
theorem rc_f67 : rc_isF 67 3 := by unfold rc_isF; decide +kernel
theorem rc_f70 : rc_isF 70 3 := by unfold rc_isF; decide +kernel
theorem rc_f73 : rc_isF 73 3 := by unfold rc_isF; decide +kernel
theorem rc_f76 : rc_isF 76 3 := by unfold rc_isF; decide +kernel
theorem rc_f79 : rc_isF 79 3 := by unfold rc_isF; decide +kernel
theorem rc_f82 : rc_isF 82 3 := by unfold rc_isF; decide +kernel
theorem rc_f85 : rc_isF 85 3 := by unfold rc_isF; decide +kernel
theorem rc_f88 : rc_isF 88 3 := by unfold rc_isF; decide +kernel
theorem rc_f91 : rc_isF 91 3 := by unfold rc_isF; decide +kernel
theorem rc_f94 : rc_isF 94 3 := by unfold rc_isF; decide +kernel
theorem rc_f97 : rc_isF 97 3 := by unfold rc_isF; decide +kernel
theorem rc_f104 : rc_isF 104 7 := by unfold rc_isF; decide +kernel
theorem rc_f116 : rc_isF 116 12 := by unfold rc_isF; decide +kernel
theorem rc_f122 : rc_isF 122 6 := by unfold rc_isF; decide +kernel
theorem rc_f128 : rc_isF 128 6 := by unfold rc_isF; decide +kernel
theorem rc_f135 : rc_isF 135 7 := by unfold rc_isF; decide +kernel
theorem rc_f141 : rc_isF 141 6 := by unfold rc_isF; decide +kernel
theorem rc_f147 : rc_isF 147 6 := by unfold rc_isF; decide +kernel
theorem rc_f148 : rc_isF 148 1 := by unfold rc_isF; decide +kernel
theorem rc_f149 : rc_isF 149 1 := by unfold rc_isF; decide +kernel
theorem rc_f150 : rc_isF 150 1 := by unfold rc_isF; decide +kernel
theorem rc_f151 : rc_isF 151 1 := by unfold rc_isF; decide +kernel
theorem rc_f152 : rc_isF 152 1 := by unfold rc_isF; decide +kernel
theorem rc_pow (k : Nat) : 0 < 10 ^ k := Nat.pow_pos (by decide)
theorem rc_dg_lt (v k : Nat) : rc_dg v k < 10 := Nat.mod_lt _ (by decide)
theorem rc_dg_big {v k : Nat} (h : v < 10 ^ k) : rc_dg v k = 0 := by
  unfold rc_dg
  rw [Nat.div_eq_of_lt h]
theorem rc_pow_le {a b : Nat} (h : a ≤ b) : 10 ^ a ≤ 10 ^ b := Nat.pow_le_pow_right (by decide) h
/-- v below 10^(k+1) is its low part and its digit -/
theorem rc_mods (v k : Nat) : v % 10 ^ (k + 1) = v % 10 ^ k + rc_dg v k * 10 ^ k := by
  unfold rc_dg
  rw [Nat.pow_succ, Nat.mod_mul, Nat.mul_comm (v / 10 ^ k % 10)]
theorem rc_divs (v k : Nat) : v / 10 ^ k = v / 10 ^ (k + 1) * 10 + rc_dg v k := by
  unfold rc_dg
  rw [Nat.pow_succ, ← Nat.div_div_eq_div_mul]
  omega
theorem rc_mod0 (v : Nat) : v % 10 ^ 0 = 0 := by
  rw [Nat.pow_zero]; omega
theorem rc_dg_mod {v k l : Nat} (h : k < l) : rc_dg (v % 10 ^ l) k = rc_dg v k := by
  unfold rc_dg
  have e : 10 ^ l = 10 ^ k * 10 ^ (l - k) := by rw [← Nat.pow_add]; congr 1; omega
  have e2 : 10 ^ (l - k) = 10 * 10 ^ (l - k - 1) := by
    rw [← Nat.pow_succ']; congr 1; omega
  rw [e, Nat.mod_mul_right_div_self, e2, Nat.mod_mul_right_mod]
theorem rc_dg_lo {v d i k : Nat} (hv : v < 10 ^ i) (hk : k < i) : rc_dg (v + d * 10 ^ i) k = rc_dg v k := by
  have h := @rc_dg_mod (v + d * 10 ^ i) k i hk
  rw [Nat.add_mul_mod_self_right, Nat.mod_eq_of_lt hv] at h
  exact h.symm
theorem rc_dg_hi {v d i : Nat} (hv : v < 10 ^ i) (hd : d < 10) : rc_dg (v + d * 10 ^ i) i = d := by
  unfold rc_dg
  rw [Nat.add_mul_div_right _ _ (rc_pow i), Nat.div_eq_of_lt hv, Nat.zero_add, Nat.mod_eq_of_lt hd]
theorem rc_lo_lt {v d i : Nat} (hv : v < 10 ^ i) (hd : d < 10) : v + d * 10 ^ i < 10 ^ (i + 1) := by
  rw [Nat.pow_succ]
  have h : d * 10 ^ i ≤ 9 * 10 ^ i := Nat.mul_le_mul_right _ (by omega)
  omega
theorem rc_dg_all0 {v l : Nat} (hv : v < 10 ^ l) (h : ∀ k, k < l → rc_dg v k = 0) : v = 0 := by
  have t : ∀ i, i ≤ l → v % 10 ^ i = 0 := by
    intro i
    induction i with
    | zero => intro _; exact rc_mod0 v
    | succ i ih =>
      intro hi
      rw [rc_mods, ih (by omega), h i (by omega)]
      omega
  have e := t l (Nat.le_refl l)
  rwa [Nat.mod_eq_of_lt hv] at e
theorem rc_dg_zero (k : Nat) : rc_dg 0 k = 0 := by
  unfold rc_dg
  rw [Nat.zero_div]
/-- the low i digits of the field that ends at e -/
def rc_lo (s : Nat → Int32) (e i v : Nat) : Prop := v < 10 ^ i ∧ ∀ k, k < i → s (e - k) = nI (rc_dg v k)
/-- s is t but for the last i places of the field that ends at e -/
def rc_un (s t : Nat → Int32) (e i : Nat) : Prop := ∀ j, ¬ (j ≤ e ∧ e < j + i) → s j = t j
theorem rc_lo_0 (s : Nat → Int32) (e : Nat) : rc_lo s e 0 0 := ⟨by rw [Nat.pow_zero]; omega, fun k h => absurd h (by omega)⟩
theorem rc_un_0 (s : Nat → Int32) (e i : Nat) : rc_un s s e i := fun _ _ => rfl
theorem rc_lo_s {s : Nat → Int32} {e i v d : Nat} (h : rc_lo s e i v) (hd : d < 10) (hi : i ≤ e) : rc_lo (upd s (e - i) (nI d)) e (i + 1) (v + d * 10 ^ i) := by
  refine ⟨rc_lo_lt h.1 hd, fun k hk => ?_⟩
  by_cases q : k = i
  · rw [q, pk_us, rc_dg_hi h.1 hd]
  · rw [pk_un (by omega), rc_dg_lo h.1 (by omega)]
    exact h.2 k (by omega)
theorem rc_un_s {s t : Nat → Int32} {e i : Nat} {x : Int32} (h : rc_un s t e i) (hi : i ≤ e) : rc_un (upd s (e - i) x) t e (i + 1) := by
  intro j hj
  rw [pk_un (by omega)]
  exact h j (by omega)
theorem rc_dm_f {Z : Nat → Int} {e l k : Nat} (hf : rc_isF e l) (hk : k < l) : rc_dm Z (e - k) = nI (rc_dg (Z e).natAbs k) := by
  obtain ⟨h1, h2, h3, h4, h5, h6, h7, h8⟩ := hf
  show nI (rc_dg (Z (rc_fe (e - k))).natAbs (rc_fe (e - k) - (e - k))) = _
  rw [h5 k hk, show e - (e - k) = k by omega]
theorem rc_fe_out {j : Nat} (h : ¬ j < 153) : rc_fe j = j := if_neg h
theorem rc_f_win {e l j : Nat} (hf : rc_isF e l) : (j ≤ e ∧ e < j + l) ↔ rc_fe j = e := by
  obtain ⟨h1, h2, h3, h4, h5, h6, h7, h8⟩ := hf
  constructor
  · intro h
    have t := h5 (e - j) (by omega)
    rwa [show e - (e - j) = j by omega] at t
  · intro h
    by_cases q : j < 153
    · exact h6 j q h
    · rw [rc_fe_out q] at h
      omega
/-- a field rewritten -/
theorem rc_fin {s : Nat → Int32} {Z : Nat → Int} {e l v : Nat} {z : Int} (hf : rc_isF e l) (hl : rc_lo s e l v) (hu : rc_un s (rc_dm Z) e l) (hz : z.natAbs = v) : s = rc_dm (rc_zs Z e z) := by
  funext j
  show s j = nI (rc_dg (if rc_fe j = e then z else Z (rc_fe j)).natAbs (rc_fe j - j))
  by_cases q : rc_fe j = e
  · rw [if_pos q, q, hz]
    have w := (rc_f_win hf).mpr q
    have t := hl.2 (e - j) (by omega)
    rwa [show e - (e - j) = j by omega] at t
  · rw [if_neg q]
    exact hu j (fun w => q ((rc_f_win hf).mp w))
/-- another field read while one is being rewritten -/
theorem rc_rd {s : Nat → Int32} {Z : Nat → Int} {a la b lb i k : Nat} (ha : rc_isF a la) (hb : rc_isF b lb) (hab : a ≠ b) (hu : rc_un s (rc_dm Z) b i) (hi : i ≤ lb) (hk : k < la) : s (a - k) = nI (rc_dg (Z a).natAbs k) := by
  rw [← rc_dm_f ha hk]
  refine hu _ (fun w => hab ?_)
  have t : rc_fe (a - k) = b := (rc_f_win hb).mp ⟨w.1, by omega⟩
  rw [← t]
  exact (ha.2.2.2.2.1 k hk).symm
/-- the same field read ahead -/
theorem rc_rs {s : Nat → Int32} {Z : Nat → Int} {b lb i k : Nat} (hb : rc_isF b lb) (hu : rc_un s (rc_dm Z) b i) (hi : i ≤ k) (hk : k < lb) : s (b - k) = nI (rc_dg (Z b).natAbs k) := by
  rw [← rc_dm_f hb hk]
  have := hb.2.2.1
  exact hu _ (by omega)
theorem rc_zs_s (Z : Nat → Int) (e : Nat) (z : Int) : rc_zs Z e z e = z := if_pos rfl
theorem rc_zs_n (Z : Nat → Int) {e j : Nat} (z : Int) (h : j ≠ e) : rc_zs Z e z j = Z j := if_neg h
theorem rc_zs_id (Z : Nat → Int) {e : Nat} {z : Int} (h : Z e = z) : rc_zs Z e z = Z := by
  funext j
  by_cases q : j = e
  · rw [q, rc_zs_s, h]
  · rw [rc_zs_n Z z q]
theorem rc_sm_p {Z : Nat → Int} {e : Nat} {z : Int} (h : 0 ≤ z) : upd (rc_sm Z) e 0 = rc_sm (rc_zs Z e z) := by
  funext j
  show (if j = e then (0 : Int32) else rc_sm Z j) = if (if j = e then z else Z j) < 0 then 1 else 0
  by_cases q : j = e
  · rw [if_pos q, if_pos q, if_neg (by omega)]
  · rw [if_neg q, if_neg q]; rfl
theorem rc_sm_m {Z : Nat → Int} {e : Nat} {z : Int} (h : z < 0) : upd (rc_sm Z) e 1 = rc_sm (rc_zs Z e z) := by
  funext j
  show (if j = e then (1 : Int32) else rc_sm Z j) = if (if j = e then z else Z j) < 0 then 1 else 0
  by_cases q : j = e
  · rw [if_pos q, if_pos q, if_pos h]
  · rw [if_neg q, if_neg q]; rfl
theorem rc_sm_k {Z : Nat → Int} {e : Nat} {z : Int} (h : Z e < 0 ↔ z < 0) : rc_sm Z = rc_sm (rc_zs Z e z) := by
  funext j
  show (if Z j < 0 then (1 : Int32) else 0) = if (if j = e then z else Z j) < 0 then 1 else 0
  by_cases q : j = e
  · rw [if_pos q, q]
    by_cases r : z < 0
    · rw [if_pos r, if_pos (h.mpr r)]
    · rw [if_neg r, if_neg (fun t => r (h.mp t))]
  · rw [if_neg q]
theorem rc_sm_0 {Z : Nat → Int} {e : Nat} (h : 0 ≤ Z e) : rc_sm Z e = 0 := if_neg (by omega)
theorem rc_sm_1 {Z : Nat → Int} {e : Nat} (h : Z e < 0) : rc_sm Z e = 1 := if_pos h
theorem rc_nb : ∀ d, d < 100 → (nI d).toInt8.toInt32 = nI d := by decide +kernel
theorem rc_vb {d : Nat} (h : d < 100) : vp_nar .byte (nI d) = nI d := by rw [vp_nar_byte, rc_nb d h]
theorem rc_ix {e k : Nat} (h : k ≤ e) (he : e < 153) : (nI e - nI k).toNatClampNeg = e - k := by
  rw [pk_sub h, nI_clamp (by omega)]
theorem rc_ixin {e k : Nat} (h : k ≤ e) (he : e < 153) : vp_in (nI e - nI k) 240 := by
  rw [pk_sub h]
  exact vp_in_nI (by omega) (by omega)
theorem rc_m1 (x : Int32) : x - 1 = x + (-1) := Int32.sub_eq_add_neg x 1
theorem rc_dn (e i : Nat) : (nI e - nI i) + (-1) = nI e - nI (i + 1) := by
  rw [← nI_1]
  grind
theorem rc_up1 (e j : Nat) : (nI e - nI (j + 1)) + 1 = nI e - nI j := by
  rw [← nI_1]
  grind
theorem rc_lg (z : Int) : z < 0 ∨ 0 ≤ z := by omega
end
section
theorem rc_len {cc lc lv me sm pd lf rt rs qt tx ct sg ve zr on cp ce mu dv pr pc od cd nc ty vl pn : Int32} {a1 a2 a3 a4 a5 a6 a7 a8 a9 a10 a11 a12 a14 a15 a16 a17 a18 a19 a20 a21 a22 a23 : Nat → Int32} {post : Int32 → Prop} {e l : Nat} (hf : rc_isF e l) (H : post (nI l)) : wpX_lengthOf post (cc, lc, lv, me, sm, pd, lf, rt, rs, qt, tx, ct, sg, ve, zr, on, cp, ce, mu, dv, pr, pc, od, cd, nc, ty, vl, pn, a1, a2, a3, a4, a5, a6, a7, a8, a9, a10, a11, a12, rc_mk, a14, a15, a16, a17, a18, a19, a20, a21, a22, a23) (nI e) := by
  obtain ⟨h1, h2, h3, h4, h5, h6, h7, h8⟩ := hf
  have hix : ∀ i, 1 ≤ i → i ≤ l → (nI e - nI i) + 1 = nI (e - (i - 1)) := by
    intro i hi hl
    have t := rc_up1 e (i - 1)
    rw [show i - 1 + 1 = i by omega] at t
    rw [t, pk_sub (by omega)]
  exact pk_loop (σ := Unit) (fun n i _ => wX_lengthOf_2 post (nI e) cc lc lv me sm pd lf rt rs qt tx ct sg ve zr on cp ce mu dv pr pc od cd nc ty vl pn a1 a2 a3 a4 a5 a6 a7 a8 a9 a10 a11 a12 rc_mk a14 a15 a16 a17 a18 a19 a20 a21 a22 a23 n (nI i)) (fun i _ => 1 ≤ i) l 1 () h1 (Nat.le_refl 1)
    (fun n _ _ => ⟨by rw [hix l h1 (Nat.le_refl l)]; exact vp_in_nI (by omega) (by omega), br_f (by rw [hix l h1 (Nat.le_refl l), nI_clamp (by omega), h8]; decide) H⟩)
    (fun n i _ hi hI hw => ⟨by rw [hix i hI (by omega)]; exact vp_in_nI (by omega) (by omega), br_t (by rw [hix i hI (by omega), nI_clamp (by omega)]; exact h7 (i - 1) (by omega)) (nm_r (nI_1 i) (hw () (by omega)))⟩)
theorem rc_isz {cc lc lv me sm pd lf rt rs qt tx ct sg ve zr on cp ce mu dv pr pc od cd nc ty vl pn : Int32} {a1 a2 a3 a4 a5 a6 a7 a8 a9 a10 a11 a14 a15 a16 a17 a18 a19 a20 a21 a22 a23 : Nat → Int32} {post : Int32 → Prop} {Z : Nat → Int} {e l : Nat} (hf : rc_isF e l) (hb : (Z e).natAbs < 10 ^ l) (H0 : Z e = 0 → post 1) (H1 : Z e ≠ 0 → post 0) : wpX_isZero post (cc, lc, lv, me, sm, pd, lf, rt, rs, qt, tx, ct, sg, ve, zr, on, cp, ce, mu, dv, pr, pc, od, cd, nc, ty, vl, pn, a1, a2, a3, a4, a5, a6, a7, a8, a9, a10, a11, rc_dm Z, rc_mk, a14, a15, a16, a17, a18, a19, a20, a21, a22, a23) (nI e) := by
  unfold wpX_isZero
  dsimp only
  refine rc_len hf ?_
  have h2 := hf.2.1
  have h3 := hf.2.2.1
  have h4 := hf.2.2.2.1
  by_cases q : Z e = 0
  · exact pk_loop (σ := Unit) (fun n i _ => wX_isZero_8 post (nI e) (nI l) cc lc lv me sm pd lf rt rs qt tx ct sg ve zr on cp ce mu dv pr pc od cd nc ty vl pn a1 a2 a3 a4 a5 a6 a7 a8 a9 a10 a11 (rc_dm Z) rc_mk a14 a15 a16 a17 a18 a19 a20 a21 a22 a23 n (nI i)) (fun _ _ => True) l 0 () (Nat.zero_le l) trivial
      (fun n _ _ => pk_le l l (fun _ => H0 q) (fun z => absurd z (by omega)))
      (fun n i _ hi _ hw => pk_le l i (fun z => absurd z (by omega)) (fun _ => ⟨rc_ixin (by omega) h4, br_t (by rw [rc_ix (by omega) h4, rc_dm_f hf hi, q, Int.natAbs_zero, rc_dg_zero]; exact nI_0) (nm_r (nI_1 i) (hw () trivial))⟩))
  · have hx : ∃ k, k < l ∧ rc_dg (Z e).natAbs k ≠ 0 := by
      refine Classical.byContradiction (fun c => q ?_)
      have t : (Z e).natAbs = 0 := rc_dg_all0 hb (fun k hk => Classical.byContradiction (fun d => c ⟨k, hk, d⟩))
      omega
    obtain ⟨k, ⟨hk, hd⟩, hmin⟩ := pk_least (fun k => k < l ∧ rc_dg (Z e).natAbs k ≠ 0) hx
    have hlt := rc_dg_lt (Z e).natAbs k
    exact pk_loop (σ := Unit) (fun n i _ => wX_isZero_8 post (nI e) (nI l) cc lc lv me sm pd lf rt rs qt tx ct sg ve zr on cp ce mu dv pr pc od cd nc ty vl pn a1 a2 a3 a4 a5 a6 a7 a8 a9 a10 a11 (rc_dm Z) rc_mk a14 a15 a16 a17 a18 a19 a20 a21 a22 a23 n (nI i)) (fun _ _ => True) k 0 () (Nat.zero_le k) trivial
      (fun n _ _ => pk_le l k (fun z => absurd z (by omega)) (fun _ => ⟨rc_ixin (by omega) h4, br_f (by rw [rc_ix (by omega) h4, rc_dm_f hf hk]; exact nI_ne0 (by omega) (by omega)) (H1 q)⟩))
      (fun n i _ hi _ hw => pk_le l i (fun z => absurd z (by omega)) (fun _ => ⟨rc_ixin (by omega) h4, br_t (by
        have t : rc_dg (Z e).natAbs i = 0 := Classical.byContradiction (fun d => hmin i hi ⟨by omega, d⟩)
        rw [rc_ix (by omega) h4, rc_dm_f hf (by omega), t]; exact nI_0) (nm_r (nI_1 i) (hw () trivial))⟩))
theorem rc_dat {cc lc lv me sm pd lf rt rs qt tx ct sg ve zr on cp ce mu dv pr pc od cd nc ty vl pn : Int32} {a1 a2 a3 a4 a5 a6 a7 a8 a9 a10 a11 a12 a13 a14 a15 a16 a17 a18 a19 a20 a21 a22 a23 : Nat → Int32} {post : Int32 → Prop} {e l k v : Nat} (hl : l ≤ 12) (he : l ≤ e + 1) (h4 : e < 153) (hk : k ≤ 12) (hv : v < 10 ^ l) (hs : k < l → a12 (e - k) = nI (rc_dg v k)) (H : post (nI (rc_dg v k))) : wpX_digitAt post (cc, lc, lv, me, sm, pd, lf, rt, rs, qt, tx, ct, sg, ve, zr, on, cp, ce, mu, dv, pr, pc, od, cd, nc, ty, vl, pn, a1, a2, a3, a4, a5, a6, a7, a8, a9, a10, a11, a12, a13, a14, a15, a16, a17, a18, a19, a20, a21, a22, a23) (nI e) (nI l) (nI k) := by
  unfold wpX_digitAt
  dsimp only
  refine pk_le l k (fun z => ?_) (fun z => ⟨rc_ixin (by omega) h4, ?_⟩)
  · rw [rc_dg_big (Nat.lt_of_lt_of_le hv (rc_pow_le z))] at H
    exact H
  · rw [rc_ix (by omega) h4, hs z]
    exact H
/-- compare: two plain fields; the answer's sign -/
theorem rc_cmp63 {cc lc lv me sm pd lf rt rs qt tx ct sg ve zr on cp ce mu dv pr pc od cd nc ty vl pn : Int32} {a1 a2 a3 a4 a5 a6 a7 a8 a9 a10 a11 a15 a16 a17 a18 a19 a20 a21 a22 a23 : Nat → Int32} {Z : Nat → Int} {a la b lb : Nat} (ha : rc_isF a la) (hb : rc_isF b lb) (hva : (Z a).natAbs < 10 ^ la) (hvb : (Z b).natAbs < 10 ^ lb) (pa : 0 ≤ Z a) : ∀ m, m ≤ 12 → (Z a).natAbs / 10 ^ m = (Z b).natAbs / 10 ^ m →
    ∃ r : Int32, (r ≤ 0 ↔ (Z a).natAbs ≤ (Z b).natAbs) ∧ (0 ≤ r ↔ (Z b).natAbs ≤ (Z a).natAbs) ∧ ∀ post : Int32 → Prop, post r → wX_compare_63 post (nI a) (nI b) (nI la) (nI lb) cc lc lv me sm pd lf rt rs qt tx ct sg ve zr on cp ce mu dv pr pc od cd nc ty vl pn a1 a2 a3 a4 a5 a6 a7 a8 a9 a10 a11 (rc_dm Z) rc_mk (rc_sm Z) a15 a16 a17 a18 a19 a20 a21 a22 a23 (m + 1) (nI m + (-1)) := by
  intro m
  induction m with
  | zero =>
    intro _ h
    rw [Nat.pow_zero, Nat.div_one, Nat.div_one] at h
    refine ⟨0, ⟨fun _ => by omega, fun _ => by decide⟩, ⟨fun _ => by omega, fun _ => by decide⟩, fun post H => ?_⟩
    exact br_t (by decide) H
  | succ m ih =>
    intro hm h
    have la12 := ha.2.1
    have lb12 := hb.2.1
    have lae := ha.2.2.1
    have lbe := hb.2.2.1
    have ae := ha.2.2.2.1
    have be := hb.2.2.2.1
    have da := rc_dg_lt (Z a).natAbs m
    have db := rc_dg_lt (Z b).natAbs m
    have ea := rc_divs (Z a).natAbs m
    have eb := rc_divs (Z b).natAbs m
    rw [h] at ea
    by_cases q : rc_dg (Z a).natAbs m = rc_dg (Z b).natAbs m
    · obtain ⟨r, r1, r2, r3⟩ := ih (by omega) (by rw [ea, eb, q])
      refine ⟨r, r1, r2, fun post H => ?_⟩
      rw [pk_m1]
      refine br_f (nI_pos (by omega)) (rc_dat la12 lae ae (by omega) hva (fun z => rc_dm_f ha z) (rc_dat lb12 lbe be (by omega) hvb (fun z => rc_dm_f hb z) (nm_e (br_t ?_ (nm_e (r3 post H))))))
      rw [q, pk_sub (Nat.le_refl _), Nat.sub_self]
      exact nI_0
    · refine ⟨nI (rc_dg (Z a).natAbs m) - nI (rc_dg (Z b).natAbs m), ?_, ?_, fun post H => ?_⟩
      · rw [Int32.le_iff_toInt_le, pk_sub_toInt (by omega) (by omega), show (0 : Int32).toInt = 0 from by decide]
        constructor
        · intro t
          have t2 : (Z a).natAbs / 10 ^ m < (Z b).natAbs / 10 ^ m := by omega
          rcases Nat.lt_or_ge (Z b).natAbs (Z a).natAbs with g | g
          · have := Nat.div_le_div_right (c := 10 ^ m) (Nat.le_of_lt g)
            omega
          · exact g
        · intro t
          have := Nat.div_le_div_right (c := 10 ^ m) t
          omega
      · rw [Int32.le_iff_toInt_le, pk_sub_toInt (by omega) (by omega), show (0 : Int32).toInt = 0 from by decide]
        constructor
        · intro t
          have t2 : (Z b).natAbs / 10 ^ m < (Z a).natAbs / 10 ^ m := by omega
          rcases Nat.lt_or_ge (Z a).natAbs (Z b).natAbs with g | g
          · have := Nat.div_le_div_right (c := 10 ^ m) (Nat.le_of_lt g)
            omega
          · exact g
        · intro t
          have := Nat.div_le_div_right (c := 10 ^ m) t
          omega
      · rw [pk_m1]
        refine br_f (nI_pos (by omega)) (rc_dat la12 lae ae (by omega) hva (fun z => rc_dm_f ha z) (rc_dat lb12 lbe be (by omega) hvb (fun z => rc_dm_f hb z) (nm_e (br_f ?_ ⟨vp_in_nI (by omega) (by omega), br_t ?_ H⟩))))
        · intro z
          have t := congrArg Int32.toInt z
          rw [pk_sub_toInt (by omega) (by omega), show (0 : Int32).toInt = 0 from by decide] at t
          omega
        · rw [nI_clamp (by omega)]
          exact rc_sm_0 pa
theorem rc_cmp {cc lc lv me sm pd lf rt rs qt tx ct sg ve zr on cp ce mu dv pr pc od cd nc ty vl pn : Int32} {a1 a2 a3 a4 a5 a6 a7 a8 a9 a10 a11 a15 a16 a17 a18 a19 a20 a21 a22 a23 : Nat → Int32} {Z : Nat → Int} {a la b lb : Nat} (ha : rc_isF a la) (hb : rc_isF b lb) (hva : (Z a).natAbs < 10 ^ la) (hvb : (Z b).natAbs < 10 ^ lb) (pa : 0 ≤ Z a) (pb : 0 ≤ Z b) :
    ∃ r : Int32, (r ≤ 0 ↔ Z a ≤ Z b) ∧ (0 ≤ r ↔ Z b ≤ Z a) ∧ ∀ post : Int32 → Prop, post r → wpX_compare post (cc, lc, lv, me, sm, pd, lf, rt, rs, qt, tx, ct, sg, ve, zr, on, cp, ce, mu, dv, pr, pc, od, cd, nc, ty, vl, pn, a1, a2, a3, a4, a5, a6, a7, a8, a9, a10, a11, rc_dm Z, rc_mk, rc_sm Z, a15, a16, a17, a18, a19, a20, a21, a22, a23) (nI a) (nI b) := by
  have la12 := ha.2.1
  have lb12 := hb.2.1
  have la1 := ha.1
  have lb1 := hb.1
  have ae := ha.2.2.2.1
  have be := hb.2.2.2.1
  obtain ⟨r, r1, r2, r3⟩ := rc_cmp63 (cc := cc) (lc := lc) (lv := lv) (me := me) (sm := sm) (pd := pd) (lf := lf) (rt := rt) (rs := rs) (qt := qt) (tx := tx) (ct := ct) (sg := sg) (ve := ve) (zr := zr) (on := on) (cp := cp) (ce := ce) (mu := mu) (dv := dv) (pr := pr) (pc := pc) (od := od) (cd := cd) (nc := nc) (ty := ty) (vl := vl) (pn := pn) (a1 := a1) (a2 := a2) (a3 := a3) (a4 := a4) (a5 := a5) (a6 := a6) (a7 := a7) (a8 := a8) (a9 := a9) (a10 := a10) (a11 := a11) (a15 := a15) (a16 := a16) (a17 := a17) (a18 := a18) (a19 := a19) (a20 := a20) (a21 := a21) (a22 := a22) (a23 := a23) ha hb hva hvb pa (if la ≤ lb then lb else la) (by split <;> omega) (by
    rw [Nat.div_eq_of_lt, Nat.div_eq_of_lt]
    · refine Nat.lt_of_lt_of_le hvb (rc_pow_le ?_)
      split <;> omega
    · refine Nat.lt_of_lt_of_le hva (rc_pow_le ?_)
      split <;> omega)
  refine ⟨r, ⟨fun t => ?_, fun t => r1.mpr ?_⟩, ⟨fun t => ?_, fun t => r2.mpr ?_⟩, fun post H => ?_⟩
  · have := r1.mp t; omega
  · omega
  · have := r2.mp t; omega
  · omega
  · unfold wpX_compare
    dsimp only
    refine ⟨vp_in_nI (by omega) (by omega), vp_in_nI (by omega) (by omega), br_t ?_ (rc_len ha (rc_len hb (pk_le la lb (fun z => ?_) (fun z => ?_))))⟩
    · rw [nI_clamp (by omega), nI_clamp (by omega), rc_sm_0 pa, rc_sm_0 pb]
    · rw [if_pos z] at r3
      exact fun x ex => ⟨lb + 1, by rw [ex, rc_m1]; exact r3 post H⟩
    · rw [if_neg (by omega)] at r3
      exact fun x ex => ⟨la + 1, by rw [ex, rc_m1]; exact r3 post H⟩
end
section
/-- setField's loop: v is what is laid, z its signed value -/
theorem rc_set17 {cc lc lv me sm pd lf rt rs qt tx ct sg ve zr on cp ce mu dv pr pc od cd nc ty vl pn : Int32} {a1 a2 a3 a4 a5 a6 a7 a8 a9 a10 a11 a15 a16 a17 a18 a19 a20 a21 a22 a23 : Nat → Int32} {post : St2 → Prop} {Z : Nat → Int} {e l v : Nat} {z : Int} {x : Int32} (hf : rc_isF e l) (hv : v < 10 ^ l) (hb : v < 2 ^ 31) (hz : z.natAbs = v) (hx : 0 ≤ x ↔ 0 ≤ z)
    (H : post (cc, lc, lv, me, sm, pd, lf, rt, rs, qt, tx, ct, sg, ve, zr, on, cp, ce, mu, dv, pr, pc, od, cd, nc, ty, vl, pn, a1, a2, a3, a4, a5, a6, a7, a8, a9, a10, a11, rc_dm (rc_zs Z e z), rc_mk, rc_sm (rc_zs Z e z), a15, a16, a17, a18, a19, a20, a21, a22, a23)) : ∃ n, wX_setField_17 post (nI e) x cc lc lv me sm pd lf rt rs qt tx ct sg ve zr on cp ce mu dv pr pc od cd nc ty vl pn n (nI v) (nI e) 1 a1 a2 a3 a4 a5 a6 a7 a8 a9 a10 a11 (rc_dm Z) rc_mk (rc_sm Z) a15 a16 a17 a18 a19 a20 a21 a22 a23 := by
  have hf' := hf
  obtain ⟨h1, h2, h3, h4, h5, h6, h7, h8⟩ := hf'
  obtain ⟨n, hn⟩ := pk_loop (fun n i s => wX_setField_17 post (nI e) x cc lc lv me sm pd lf rt rs qt tx ct sg ve zr on cp ce mu dv pr pc od cd nc ty vl pn n (nI (v / 10 ^ i)) (nI e - nI i) (if i < l then 1 else 0) a1 a2 a3 a4 a5 a6 a7 a8 a9 a10 a11 s rc_mk (rc_sm Z) a15 a16 a17 a18 a19 a20 a21 a22 a23)
    (fun i s => rc_lo s e i (v % 10 ^ i) ∧ rc_un s (rc_dm Z) e i) l 0 (rc_dm Z) (Nat.zero_le l) ⟨by rw [rc_mod0]; exact rc_lo_0 _ _, rc_un_0 _ _ _⟩
    (fun n s hI => by
      show wX_setField_17 post (nI e) x cc lc lv me sm pd lf rt rs qt tx ct sg ve zr on cp ce mu dv pr pc od cd nc ty vl pn (n + 1) (nI (v / 10 ^ l)) (nI e - nI l) (if l < l then 1 else 0) a1 a2 a3 a4 a5 a6 a7 a8 a9 a10 a11 s rc_mk (rc_sm Z) a15 a16 a17 a18 a19 a20 a21 a22 a23
      rw [if_neg (Nat.lt_irrefl l)]
      have es : s = rc_dm (rc_zs Z e z) := rc_fin hf hI.1 hI.2 (by rw [Nat.mod_eq_of_lt hv]; exact hz)
      refine br_t rfl (br_c (fun g => ⟨vp_in_nI (by omega) (by omega), nm_e ?_⟩) (fun g => ⟨vp_in_nI (by omega) (by omega), nm_e ?_⟩))
      · rw [nI_clamp (by omega), rc_sm_p (hx.mp g), es]
        exact H
      · rw [nI_clamp (by omega), rc_sm_m (z := z) (by have := mt hx.mpr g; omega), es]
        exact H)
    (fun n i s hi hI hw => by
      show wX_setField_17 post (nI e) x cc lc lv me sm pd lf rt rs qt tx ct sg ve zr on cp ce mu dv pr pc od cd nc ty vl pn (n + 1) (nI (v / 10 ^ i)) (nI e - nI i) (if i < l then 1 else 0) a1 a2 a3 a4 a5 a6 a7 a8 a9 a10 a11 s rc_mk (rc_sm Z) a15 a16 a17 a18 a19 a20 a21 a22 a23
      rw [if_pos hi]
      have hd : (nI (v / 10 ^ i) - nI (v / 10 ^ i) / 10 * 10) = nI (rc_dg v i) := by
        have t := @pk_rem (v / 10 ^ i) 10 (Nat.lt_of_le_of_lt (Nat.div_le_self _ _) hb) (by decide) (by decide)
        exact t
      have hq : nI (v / 10 ^ i) / 10 = nI (v / 10 ^ (i + 1)) := by
        have t := @pk_div (v / 10 ^ i) 10 (Nat.lt_of_le_of_lt (Nat.div_le_self _ _) hb) (by decide) (by decide)
        rw [Nat.div_div_eq_div_mul, ← Nat.pow_succ] at t
        exact t
      have dl := rc_dg_lt v i
      have st := hw (upd s (e - i) (nI (rc_dg v i))) ⟨by rw [rc_mods]; exact rc_lo_s hI.1 dl (by omega), rc_un_s hI.2 (by omega)⟩
      refine br_f (by decide) ⟨by decide, rc_ixin (by omega) h4, nm_r (e' := upd s (e - i) (nI (rc_dg v i))) (by rw [hd, rc_nb _ (by omega), rc_ix (by omega) h4]) ⟨by decide, nm_r hq ⟨rc_ixin (by omega) h4, br_c (fun g => nm_r (rc_dn e i) ?_) (fun g => nm_r (rc_dn e i) ?_)⟩⟩⟩
      · have q : i + 1 < l := by
          rcases Nat.lt_or_ge (i + 1) l with q | q
          · exact q
          · rw [rc_ix (by omega) h4, show i = l - 1 by omega, h8] at g
            exact absurd g (by decide)
        have st' : wX_setField_17 post (nI e) x cc lc lv me sm pd lf rt rs qt tx ct sg ve zr on cp ce mu dv pr pc od cd nc ty vl pn n (nI (v / 10 ^ (i + 1))) (nI e - nI (i + 1)) (if i + 1 < l then 1 else 0) a1 a2 a3 a4 a5 a6 a7 a8 a9 a10 a11 (upd s (e - i) (nI (rc_dg v i))) rc_mk (rc_sm Z) a15 a16 a17 a18 a19 a20 a21 a22 a23 := st
        rw [if_pos q] at st'
        exact st'
      · have q : ¬ i + 1 < l := by
          intro q
          rw [rc_ix (by omega) h4] at g
          exact g (h7 i (by omega))
        have st' : wX_setField_17 post (nI e) x cc lc lv me sm pd lf rt rs qt tx ct sg ve zr on cp ce mu dv pr pc od cd nc ty vl pn n (nI (v / 10 ^ (i + 1))) (nI e - nI (i + 1)) (if i + 1 < l then 1 else 0) a1 a2 a3 a4 a5 a6 a7 a8 a9 a10 a11 (upd s (e - i) (nI (rc_dg v i))) rc_mk (rc_sm Z) a15 a16 a17 a18 a19 a20 a21 a22 a23 := st
        rw [if_neg q] at st'
        exact st')
  refine ⟨n, ?_⟩
  have hn' : wX_setField_17 post (nI e) x cc lc lv me sm pd lf rt rs qt tx ct sg ve zr on cp ce mu dv pr pc od cd nc ty vl pn n (nI (v / 10 ^ 0)) (nI e - nI 0) (if 0 < l then 1 else 0) a1 a2 a3 a4 a5 a6 a7 a8 a9 a10 a11 (rc_dm Z) rc_mk (rc_sm Z) a15 a16 a17 a18 a19 a20 a21 a22 a23 := hn
  rw [if_pos (by omega), Nat.pow_zero, Nat.div_one, pk_sub (Nat.zero_le e)] at hn'
  exact hn'
/-- an int as a signed number -/
def rc_iI (z : Int) : Int32 := if z < 0 then -nI z.natAbs else nI z.natAbs
theorem rc_iI_toInt {z : Int} (h : z.natAbs < 2 ^ 31) : (rc_iI z).toInt = z := by
  unfold rc_iI
  by_cases q : z < 0
  · rw [if_pos q, sb_negT h]
    omega
  · rw [if_neg q, nI_toInt h]
    omega
theorem rc_iI_ge {z : Int} (h : z.natAbs < 2 ^ 31) : 0 ≤ rc_iI z ↔ 0 ≤ z := by
  rw [Int32.le_iff_toInt_le, rc_iI_toInt h, show (0 : Int32).toInt = 0 from by decide]
theorem rc_iI_inj {x : Int32} {z : Int} (h : z.natAbs < 2 ^ 31) (e : x.toInt = z) : x = rc_iI z :=
  Int32.toInt_inj.mp (by rw [e, rc_iI_toInt h])
theorem rc_set {cc lc lv me sm pd lf rt rs qt tx ct sg ve zr on cp ce mu dv pr pc od cd nc ty vl pn : Int32} {a1 a2 a3 a4 a5 a6 a7 a8 a9 a10 a11 a15 a16 a17 a18 a19 a20 a21 a22 a23 : Nat → Int32} {post : St2 → Prop} {Z : Nat → Int} {e l : Nat} {z : Int} {p0 p1 : Int32} (hf : rc_isF e l) (hv : z.natAbs < 10 ^ l) (hb : z.natAbs < 2 ^ 31) (h0 : p0 = nI e) (h1 : p1 = rc_iI z)
    (H : post (cc, lc, lv, me, sm, pd, lf, rt, rs, qt, tx, ct, sg, ve, zr, on, cp, ce, mu, dv, pr, pc, od, cd, nc, ty, vl, pn, a1, a2, a3, a4, a5, a6, a7, a8, a9, a10, a11, rc_dm (rc_zs Z e z), rc_mk, rc_sm (rc_zs Z e z), a15, a16, a17, a18, a19, a20, a21, a22, a23)) : wpX_setField post (cc, lc, lv, me, sm, pd, lf, rt, rs, qt, tx, ct, sg, ve, zr, on, cp, ce, mu, dv, pr, pc, od, cd, nc, ty, vl, pn, a1, a2, a3, a4, a5, a6, a7, a8, a9, a10, a11, rc_dm Z, rc_mk, rc_sm Z, a15, a16, a17, a18, a19, a20, a21, a22, a23) p0 p1 := by
  subst h0
  unfold wpX_setField
  dsimp only
  have hx := rc_iI_ge hb
  rw [← h1] at hx
  refine br_c (fun g => ?_) (fun g => ?_)
  · have e1 : p1 = nI z.natAbs := by rw [h1]; exact if_neg (by have := hx.mp g; omega)
    have t := rc_set17 (cc := cc) (lc := lc) (lv := lv) (me := me) (sm := sm) (pd := pd) (lf := lf) (rt := rt) (rs := rs) (qt := qt) (tx := tx) (ct := ct) (sg := sg) (ve := ve) (zr := zr) (on := on) (cp := cp) (ce := ce) (mu := mu) (dv := dv) (pr := pr) (pc := pc) (od := od) (cd := cd) (nc := nc) (ty := ty) (vl := vl) (pn := pn) (a1 := a1) (a2 := a2) (a3 := a3) (a4 := a4) (a5 := a5) (a6 := a6) (a7 := a7) (a8 := a8) (a9 := a9) (a10 := a10) (a11 := a11) (a15 := a15) (a16 := a16) (a17 := a17) (a18 := a18) (a19 := a19) (a20 := a20) (a21 := a21) (a22 := a22) (a23 := a23) (x := p1) hf hv hb rfl hx H
    rw [← e1] at t
    exact t
  · have e1 : -p1 = nI z.natAbs := by
      rw [h1]
      unfold rc_iI
      rw [if_pos (by have := mt hx.mpr g; omega), Int32.neg_neg]
    exact nm_r e1 (rc_set17 (cc := cc) (lc := lc) (lv := lv) (me := me) (sm := sm) (pd := pd) (lf := lf) (rt := rt) (rs := rs) (qt := qt) (tx := tx) (ct := ct) (sg := sg) (ve := ve) (zr := zr) (on := on) (cp := cp) (ce := ce) (mu := mu) (dv := dv) (pr := pr) (pc := pc) (od := od) (cd := cd) (nc := nc) (ty := ty) (vl := vl) (pn := pn) (a1 := a1) (a2 := a2) (a3 := a3) (a4 := a4) (a5 := a5) (a6 := a6) (a7 := a7) (a8 := a8) (a9 := a9) (a10 := a10) (a11 := a11) (a15 := a15) (a16 := a16) (a17 := a17) (a18 := a18) (a19 := a19) (a20 := a20) (a21 := a21) (a22 := a22) (a23 := a23) hf hv hb rfl hx H)
/-- zeroAdd: what fits is copied -/
theorem rc_za {cc lc lv me sm pd lf rt rs qt tx ct sg ve zr on cp ce mu dv pr pc od cd nc ty vl pn : Int32} {a1 a2 a3 a4 a5 a6 a7 a8 a9 a10 a11 a15 a16 a17 a18 a19 a20 a21 a22 a23 : Nat → Int32} {post : St2 → Prop} {Z : Nat → Int} {a la b lb : Nat} (ha : rc_isF a la) (hb : rc_isF b lb) (hab : a ≠ b) (hva : (Z a).natAbs < 10 ^ la) (hvb : (Z a).natAbs < 10 ^ lb)
    (H : post (cc, lc, lv, me, sm, pd, lf, rt, rs, qt, tx, ct, sg, ve, zr, on, cp, ce, mu, dv, pr, pc, od, cd, nc, ty, vl, pn, a1, a2, a3, a4, a5, a6, a7, a8, a9, a10, a11, rc_dm (rc_zs Z b (Z a)), rc_mk, rc_sm (rc_zs Z b (Z a)), a15, a16, a17, a18, a19, a20, a21, a22, a23)) : wpX_zeroAdd post (cc, lc, lv, me, sm, pd, lf, rt, rs, qt, tx, ct, sg, ve, zr, on, cp, ce, mu, dv, pr, pc, od, cd, nc, ty, vl, pn, a1, a2, a3, a4, a5, a6, a7, a8, a9, a10, a11, rc_dm Z, rc_mk, rc_sm Z, a15, a16, a17, a18, a19, a20, a21, a22, a23) (nI a) (nI b) := by
  have ja2 := ha.2.1
  have ja3 := ha.2.2.1
  have ja4 := ha.2.2.2.1
  have b12 := hb.2.1
  have b3 := hb.2.2.1
  have b4 := hb.2.2.2.1
  unfold wpX_zeroAdd
  dsimp only
  refine rc_len ha (rc_len hb ⟨vp_in_nI (by omega) (by omega), nm_r (e' := rc_sm Z a) (by rw [nI_clamp (by omega)]) ?_⟩)
  exact pk_loop (fun n i s => wX_zeroAdd_24 post (nI a) (nI b) (nI la) (nI lb) (rc_sm Z a) cc lc lv me sm pd lf rt rs qt tx ct sg ve zr on cp ce mu dv pr pc od cd nc ty vl pn n (nI i) a1 a2 a3 a4 a5 a6 a7 a8 a9 a10 a11 s rc_mk (rc_sm Z) a15 a16 a17 a18 a19 a20 a21 a22 a23)
    (fun i s => rc_lo s b i ((Z a).natAbs % 10 ^ i) ∧ rc_un s (rc_dm Z) b i) lb 0 (rc_dm Z) (Nat.zero_le lb) ⟨by rw [rc_mod0]; exact rc_lo_0 _ _, rc_un_0 _ _ _⟩
    (fun n s hI => by
      have es : s = rc_dm (rc_zs Z b (Z a)) := rc_fin hb hI.1 hI.2 (by rw [Nat.mod_eq_of_lt hvb])
      show wX_zeroAdd_24 post (nI a) (nI b) (nI la) (nI lb) (rc_sm Z a) cc lc lv me sm pd lf rt rs qt tx ct sg ve zr on cp ce mu dv pr pc od cd nc ty vl pn (n + 1) (nI lb) a1 a2 a3 a4 a5 a6 a7 a8 a9 a10 a11 s rc_mk (rc_sm Z) a15 a16 a17 a18 a19 a20 a21 a22 a23
      rw [es]
      refine pk_le lb lb (fun _ => br_c (fun g => ⟨vp_in_nI (by omega) (by omega), nm_e ?_⟩) (fun g => ?_)) (fun z => absurd z (by omega))
      · have hz : 0 ≤ Z a := by
          rcases rc_lg (Z a) with q | q
          · rw [rc_sm_1 q] at g
            exact absurd g (by decide)
          · exact q
        rw [nI_clamp (by omega), rc_sm_p hz]
        exact H
      · have hz : Z a < 0 := by
          rcases rc_lg (Z a) with q | q
          · exact q
          · exact absurd (rc_sm_0 q) g
        refine rc_isz hb (by rw [rc_zs_s]; exact hvb) (fun q => ?_) (fun _ => br_t rfl ⟨vp_in_nI (by omega) (by omega), nm_e ?_⟩)
        · rw [rc_zs_s] at q
          omega
        · rw [nI_clamp (by omega), rc_sm_m hz]
          exact H)
    (fun n i s hi hI hw => by
      have dl := rc_dg_lt (Z a).natAbs i
      show wX_zeroAdd_24 post (nI a) (nI b) (nI la) (nI lb) (rc_sm Z a) cc lc lv me sm pd lf rt rs qt tx ct sg ve zr on cp ce mu dv pr pc od cd nc ty vl pn (n + 1) (nI i) a1 a2 a3 a4 a5 a6 a7 a8 a9 a10 a11 s rc_mk (rc_sm Z) a15 a16 a17 a18 a19 a20 a21 a22 a23
      refine pk_le lb i (fun z => absurd z (by omega)) (fun _ => rc_dat (v := (Z a).natAbs) ja2 ja3 ja4 (by omega) hva (fun z => rc_rd ha hb hab hI.2 (by omega) z) ⟨rc_ixin (by omega) b4, nm_r (e' := upd s (b - i) (nI (rc_dg (Z a).natAbs i))) (by rw [rc_nb _ (by omega), rc_ix (by omega) b4]) (nm_r (nI_1 i) ?_)⟩)
      exact hw _ ⟨by rw [rc_mods]; exact rc_lo_s hI.1 dl (by omega), rc_un_s hI.2 (by omega)⟩)
end
section
theorem rc_sh0 {v d : Nat} (hd : d < 10) : rc_dg (v * 10 + d) 0 = d := by
  unfold rc_dg
  rw [Nat.pow_zero, Nat.div_one]
  omega
theorem rc_shs {v d k : Nat} (hd : d < 10) : rc_dg (v * 10 + d) (k + 1) = rc_dg v k := by
  unfold rc_dg
  rw [Nat.pow_succ', ← Nat.div_div_eq_div_mul, show (v * 10 + d) / 10 = v by omega]
/-- shift: a plain field -/
theorem rc_shift {cc lc lv me sm pd lf rt rs qt tx ct sg ve zr on cp ce mu dv pr pc od cd nc ty vl pn : Int32} {a1 a2 a3 a4 a5 a6 a7 a8 a9 a10 a11 a15 a16 a17 a18 a19 a20 a21 a22 a23 : Nat → Int32} {post : St2 → Prop} {Z : Nat → Int} {e l d : Nat} {z : Int} (hf : rc_isF e l) (hd : d < 10) (hp : 0 ≤ Z e) (hz : z = Z e * 10 + d) (hv : z.natAbs < 10 ^ l)
    (H : post (cc, lc, lv, me, sm, pd, lf, rt, rs, qt, tx, ct, sg, ve, zr, on, cp, ce, mu, dv, pr, pc, od, cd, nc, ty, vl, pn, a1, a2, a3, a4, a5, a6, a7, a8, a9, a10, a11, rc_dm (rc_zs Z e z), rc_mk, rc_sm (rc_zs Z e z), a15, a16, a17, a18, a19, a20, a21, a22, a23)) : wpX_shift post (cc, lc, lv, me, sm, pd, lf, rt, rs, qt, tx, ct, sg, ve, zr, on, cp, ce, mu, dv, pr, pc, od, cd, nc, ty, vl, pn, a1, a2, a3, a4, a5, a6, a7, a8, a9, a10, a11, rc_dm Z, rc_mk, rc_sm Z, a15, a16, a17, a18, a19, a20, a21, a22, a23) (nI e) (nI d) := by
  have h1 := hf.1
  have h2 := hf.2.1
  have h3 := hf.2.2.1
  have h4 := hf.2.2.2.1
  have hzn : z.natAbs = (Z e).natAbs * 10 + d := by omega
  unfold wpX_shift
  dsimp only
  refine rc_len hf (nm_r (e' := nI (l - 1)) (by have t := nI_pred (l - 1); rwa [show l - 1 + 1 = l by omega] at t) ⟨l - 1 + 1, ?_⟩)
  refine pk_loopD (fun n i s => wX_shift_11 post (nI e) (nI d) cc lc lv me sm pd lf rt rs qt tx ct sg ve zr on cp ce mu dv pr pc od cd nc ty vl pn n (nI i) a1 a2 a3 a4 a5 a6 a7 a8 a9 a10 a11 s rc_mk (rc_sm Z) a15 a16 a17 a18 a19 a20 a21 a22 a23)
    (fun i s => i < l ∧ (∀ k, k < l → s (e - k) = nI (rc_dg (Z e).natAbs (if k ≤ i then k else k - 1))) ∧ rc_un s (rc_dm Z) e l) ?_ ?_ (l - 1) (rc_dm Z) ⟨by omega, fun k hk => by rw [if_pos (by omega)]; exact rc_dm_f hf hk, rc_un_0 _ _ _⟩
  · intro n s hI
    refine pk_le 0 0 (fun _ => ⟨vp_in_nI (by omega) (by omega), nm_r (e' := rc_dm (rc_zs Z e z)) ?_ ?_⟩) (fun z => absurd z (by omega))
    · rw [nI_clamp (by omega), rc_nb _ (by omega)]
      refine rc_fin (v := z.natAbs) hf ⟨hv, fun k hk => ?_⟩ (fun j hj => ?_) rfl
      · rw [hzn]
        cases k with
        | zero => rw [rc_sh0 hd, Nat.sub_zero, pk_us]
        | succ k =>
          rw [rc_shs hd, pk_un (by omega), hI.2.1 (k + 1) hk, if_neg (by omega)]
          rfl
      · rw [pk_un (by omega)]
        exact hI.2.2 j hj
    · rw [rc_sm_k (Z := Z) (e := e) (z := z) (by omega)]
      exact H
  · intro n i s hI hw
    refine pk_le (i + 1) 0 (fun z => absurd z (by omega)) (fun _ => ?_)
    have il := hI.1
    have e1 : (nI e - nI (i + 1)) + 1 = nI (e - i) := by
      rw [pk_sub (by omega), nI_1]
      congr 1
      omega
    have dl := rc_dg_lt (Z e).natAbs i
    refine ⟨by rw [e1]; exact vp_in_nI (by omega) (by omega), rc_ixin (by omega) h4, nm_r (e' := upd s (e - (i + 1)) (nI (rc_dg (Z e).natAbs i))) ?_ (nm_r (pk_m1 i) (hw _ ⟨by omega, fun k hk => ?_, fun j hj => ?_⟩))⟩
    · rw [rc_ix (by omega) h4, e1, nI_clamp (by omega), hI.2.1 i (by omega), if_pos (by omega), rc_vb (by omega)]
    · by_cases q : k = i + 1
      · rw [q, pk_us, if_neg (by omega)]
        rfl
      · rw [pk_un (by omega), hI.2.1 k hk]
        by_cases q2 : k ≤ i
        · rw [if_pos (by omega), if_pos q2]
        · rw [if_neg (by omega), if_neg q2]
    · rw [pk_un (by omega)]
      exact hI.2.2 j hj
theorem rc_cdig : ∀ d, d < 10 → ∀ b, b < 2 → (d + b = 0 ∧ 0 ≤ (-(nI d)) - nI b ∧ (((-(nI d)) - nI b) + (10 * 0)).toInt8.toInt32 = nI 0) ∨ (0 < d + b ∧ ¬ 0 ≤ (-(nI d)) - nI b ∧ (((-(nI d)) - nI b) + (10 * 1)).toInt8.toInt32 = nI (10 - d - b)) := by decide +kernel
theorem rc_sdig : ∀ d, d < 10 → ∀ c, c < 10 → ∀ b, b < 2 → (c + b ≤ d ∧ 0 ≤ (nI d - nI c) - nI b ∧ (((nI d - nI c) - nI b) + (10 * 0)).toInt8.toInt32 = nI (d - c - b)) ∨ (d < c + b ∧ ¬ 0 ≤ (nI d - nI c) - nI b ∧ (((nI d - nI c) - nI b) + (10 * 1)).toInt8.toInt32 = nI (d + 10 - c - b)) := by decide +kernel
theorem rc_bool : vp_nar .boolean 0 = 0 ∧ vp_nar .boolean 1 = 1 := ⟨rfl, rfl⟩
/-- complement -/
theorem rc_cpl {cc lc lv me sm pd lf rt rs qt tx ct sg ve zr on cp ce mu dv pr pc od cd nc ty vl pn : Int32} {a1 a2 a3 a4 a5 a6 a7 a8 a9 a10 a11 a13 a15 a16 a17 a18 a19 a20 a21 a22 a23 : Nat → Int32} {post : St2 → Prop} {Y Z : Nat → Int} {b l : Nat} {z : Int} {x3 : Int32} (hb : rc_isF b l) (h0 : 0 < (Y b).natAbs) (hr : (Y b).natAbs < 10 ^ l) (hz : z.natAbs = 10 ^ l - (Y b).natAbs) (hx : x3 = if z < 0 then 1 else 0)
    (H : post (cc, lc, lv, me, sm, pd, lf, rt, rs, qt, tx, ct, sg, ve, zr, on, cp, ce, mu, dv, pr, pc, od, cd, nc, ty, vl, pn, a1, a2, a3, a4, a5, a6, a7, a8, a9, a10, a11, rc_dm (rc_zs Y b z), a13, rc_sm (rc_zs Z b z), a15, a16, a17, a18, a19, a20, a21, a22, a23)) : wpX_complement post (cc, lc, lv, me, sm, pd, lf, rt, rs, qt, tx, ct, sg, ve, zr, on, cp, ce, mu, dv, pr, pc, od, cd, nc, ty, vl, pn, a1, a2, a3, a4, a5, a6, a7, a8, a9, a10, a11, rc_dm Y, a13, rc_sm Z, a15, a16, a17, a18, a19, a20, a21, a22, a23) (nI b) (nI l) x3 := by
  have h1 := hb.1
  have h2 := hb.2.1
  have h3 := hb.2.2.1
  have h4 := hb.2.2.2.1
  unfold wpX_complement
  dsimp only
  refine pk_loop (fun n i s => wX_complement_6 post (nI b) (nI l) x3 cc lc lv me sm pd lf rt rs qt tx ct sg ve zr on cp ce mu dv pr pc od cd nc ty vl pn n (nI s.2) (nI i) a1 a2 a3 a4 a5 a6 a7 a8 a9 a10 a11 s.1 a13 (rc_sm Z) a15 a16 a17 a18 a19 a20 a21 a22 a23)
    (fun i (s : (Nat → Int32) × Nat) => s.2 < 2 ∧ rc_un s.1 (rc_dm Y) b i ∧ ∃ v, rc_lo s.1 b i v ∧ v + (Y b).natAbs % 10 ^ i = s.2 * 10 ^ i) l 0 (rc_dm Y, 0) (Nat.zero_le l) ⟨(show 0 < 2 by decide), rc_un_0 _ _ _, 0, rc_lo_0 _ _, by rw [rc_mod0]; omega⟩ ?_ ?_
  · intro n s hI
    obtain ⟨i1, i2, v, i3, i4⟩ := hI
    rw [Nat.mod_eq_of_lt hr] at i4
    have i5 : s.2 = 1 := by
      rcases Nat.lt_or_ge s.2 1 with q | q
      · rw [show s.2 = 0 by omega] at i4
        omega
      · omega
    rw [i5, Nat.one_mul] at i4
    refine pk_le l l (fun _ => ⟨vp_in_nI (by omega) (by omega), nm_r (e' := rc_sm (rc_zs Z b z)) ?_ ?_⟩) (fun z => absurd z (by omega))
    · rw [nI_clamp (by omega), hx]
      by_cases q : z < 0
      · rw [if_pos q, rc_bool.2, rc_sm_m q]
      · rw [if_neg q, rc_bool.1, rc_sm_p (z := z) (by omega)]
    · rw [rc_fin hb i3 i2 (z := z) (by omega)]
      exact H
  · intro n i s hi hI hw
    obtain ⟨i1, i2, v, i3, i4⟩ := hI
    have dl := rc_dg_lt (Y b).natAbs i
    have hr2 : s.1 (b - i) = nI (rc_dg (Y b).natAbs i) := rc_rs hb i2 (Nat.le_refl i) hi
    refine pk_le l i (fun z => absurd z (by omega)) (fun _ => ⟨rc_ixin (by omega) h4, nm_r (e' := (-(nI (rc_dg (Y b).natAbs i))) - nI s.2) (by rw [rc_ix (by omega) h4, hr2]) ?_⟩)
    have key : ∀ m c, m < 10 → c < 2 → m + rc_dg (Y b).natAbs i + s.2 = 10 * c → wX_complement_6 post (nI b) (nI l) x3 cc lc lv me sm pd lf rt rs qt tx ct sg ve zr on cp ce mu dv pr pc od cd nc ty vl pn n (nI c) (nI (i + 1)) a1 a2 a3 a4 a5 a6 a7 a8 a9 a10 a11 (upd s.1 (b - i) (nI m)) a13 (rc_sm Z) a15 a16 a17 a18 a19 a20 a21 a22 a23 := by
      intro m c hm hc he
      refine hw (upd s.1 (b - i) (nI m), c) ⟨hc, rc_un_s i2 (by omega), v + m * 10 ^ i, rc_lo_s i3 hm (by omega), ?_⟩
      show v + m * 10 ^ i + (Y b).natAbs % 10 ^ (i + 1) = c * 10 ^ (i + 1)
      rw [rc_mods, Nat.pow_succ]
      have t := congrArg (fun q => q * 10 ^ i) he
      rw [Nat.add_mul, Nat.add_mul, Nat.mul_assoc] at t
      have t2 : c * (10 ^ i * 10) = 10 * (c * 10 ^ i) := by
        rw [← Nat.mul_assoc, Nat.mul_comm]
      omega
    rcases rc_cdig _ dl s.2 i1 with ⟨c1, c2, c3⟩ | ⟨c1, c2, c3⟩
    · exact br_t c2 ⟨rc_ixin (by omega) h4, nm_r (by rw [rc_ix (by omega) h4, c3]) (nm_r (nI_1 i) (key 0 0 (by decide) (by decide) (by omega)))⟩
    · exact br_f c2 ⟨rc_ixin (by omega) h4, nm_r (by rw [rc_ix (by omega) h4, c3]) (nm_r (nI_1 i) (key _ 1 (by omega) (by decide) (by omega)))⟩
theorem rc_a178 {cc lc lv me sm pd lf rt rs qt tx ct sg ve zr on cp ce mu dv pr pc od cd nc ty vl pn : Int32} {a1 a2 a3 a4 a5 a6 a7 a8 a9 a10 a11 a15 a16 a17 a18 a19 a20 a21 a22 a23 : Nat → Int32} {post : St2 → Prop} {Y : Nat → Int} {b l : Nat} {m : Nat → Int32} (hb : rc_isF b l) (hr : (Y b).natAbs < 10 ^ l) (h0 : Y b = 0 → upd m b 0 = rc_sm Y) (h1 : Y b ≠ 0 → m = rc_sm Y)
    (H : post (cc, lc, lv, me, sm, pd, lf, rt, rs, qt, tx, ct, sg, ve, zr, on, cp, ce, mu, dv, pr, pc, od, cd, nc, ty, vl, pn, a1, a2, a3, a4, a5, a6, a7, a8, a9, a10, a11, rc_dm Y, rc_mk, rc_sm Y, a15, a16, a17, a18, a19, a20, a21, a22, a23)) : wX_add_178 post (nI b) cc lc lv me sm pd lf rt rs qt tx ct sg ve zr on cp ce mu dv pr pc od cd nc ty vl pn a1 a2 a3 a4 a5 a6 a7 a8 a9 a10 a11 (rc_dm Y) rc_mk m a15 a16 a17 a18 a19 a20 a21 a22 a23 := by
  have h4 := hb.2.2.2.1
  unfold wX_add_178
  refine rc_isz hb hr (fun q => br_f (by decide) ⟨vp_in_nI (by omega) (by omega), nm_r (e' := rc_sm Y) (by rw [nI_clamp (by omega), h0 q]) H⟩) (fun q => br_t rfl ?_)
  rw [h1 q]
  exact H
end
section
theorem rc_add30 {cc lc lv me sm pd lf rt rs qt tx ct sg ve zr on cp ce mu dv pr pc od cd nc ty vl pn : Int32} {a1 a2 a3 a4 a5 a6 a7 a8 a9 a10 a11 a15 a16 a17 a18 a19 a20 a21 a22 a23 : Nat → Int32} {post : St2 → Prop} {Z : Nat → Int} {a la b lb : Nat} {z : Int} (ha : rc_isF a la) (hb : rc_isF b lb) (hab : a ≠ b) (hva : (Z a).natAbs < 10 ^ la) (hz : z.natAbs = (Z b).natAbs + (Z a).natAbs) (hv : z.natAbs < 10 ^ lb) (hs : Z b < 0 ↔ z < 0)
    (H : post (cc, lc, lv, me, sm, pd, lf, rt, rs, qt, tx, ct, sg, ve, zr, on, cp, ce, mu, dv, pr, pc, od, cd, nc, ty, vl, pn, a1, a2, a3, a4, a5, a6, a7, a8, a9, a10, a11, rc_dm (rc_zs Z b z), rc_mk, rc_sm (rc_zs Z b z), a15, a16, a17, a18, a19, a20, a21, a22, a23)) : ∃ n, wX_add_30 post (nI a) (nI b) (nI la) (nI lb) cc lc lv me sm pd lf rt rs qt tx ct sg ve zr on cp ce mu dv pr pc od cd nc ty vl pn n 0 0 a1 a2 a3 a4 a5 a6 a7 a8 a9 a10 a11 (rc_dm Z) rc_mk (rc_sm Z) a15 a16 a17 a18 a19 a20 a21 a22 a23 := by
  have ja2 := ha.2.1
  have ja3 := ha.2.2.1
  have ja4 := ha.2.2.2.1
  have b1 := hb.1
  have b2 := hb.2.1
  have b3 := hb.2.2.1
  have b4 := hb.2.2.2.1
  refine pk_loop (fun n i s => wX_add_30 post (nI a) (nI b) (nI la) (nI lb) cc lc lv me sm pd lf rt rs qt tx ct sg ve zr on cp ce mu dv pr pc od cd nc ty vl pn n (nI s.2) (nI i) a1 a2 a3 a4 a5 a6 a7 a8 a9 a10 a11 s.1 rc_mk (rc_sm Z) a15 a16 a17 a18 a19 a20 a21 a22 a23)
    (fun i (s : (Nat → Int32) × Nat) => s.2 < 2 ∧ rc_un s.1 (rc_dm Z) b i ∧ ∃ v, rc_lo s.1 b i v ∧ v + s.2 * 10 ^ i = (Z b).natAbs % 10 ^ i + (Z a).natAbs % 10 ^ i) lb 0 (rc_dm Z, 0) (Nat.zero_le lb) ⟨(show 0 < 2 by decide), rc_un_0 _ _ _, 0, rc_lo_0 _ _, by rw [rc_mod0, rc_mod0]; omega⟩ ?_ ?_
  · intro n s hI
    obtain ⟨i1, i2, v, i3, i4⟩ := hI
    rw [Nat.mod_eq_of_lt (by omega), Nat.mod_eq_of_lt (by omega)] at i4
    have i5 : s.2 = 0 := by
      rcases Nat.lt_or_ge s.2 1 with q | q
      · omega
      · rw [show s.2 = 1 by omega] at i4
        omega
    rw [i5, Nat.zero_mul] at i4
    refine pk_le lb lb (fun _ => ?_) (fun z => absurd z (by omega))
    rw [rc_fin hb i3 i2 (z := z) (by omega)]
    exact rc_a178 hb (by rw [rc_zs_s]; exact hv) (fun q => rc_sm_p (by rw [rc_zs_s] at q; omega)) (fun _ => rc_sm_k hs) H
  · intro n i s hi hI hw
    obtain ⟨i1, i2, v, i3, i4⟩ := hI
    have dl := rc_dg_lt (Z a).natAbs i
    have el := rc_dg_lt (Z b).natAbs i
    have hr2 : s.1 (b - i) = nI (rc_dg (Z b).natAbs i) := rc_rs hb i2 (Nat.le_refl i) hi
    refine pk_le lb i (fun z => absurd z (by omega)) (fun _ => ⟨rc_ixin (by omega) b4, rc_dat (v := (Z a).natAbs) ja2 ja3 ja4 (by omega) hva (fun q => rc_rd ha hb hab i2 (by omega) q) ?_⟩)
    refine nm_r (e' := nI (rc_dg (Z b).natAbs i + rc_dg (Z a).natAbs i + s.2)) (by rw [rc_ix (by omega) b4, hr2, nI_add, nI_add]) ?_
    have hd := @pk_rem (rc_dg (Z b).natAbs i + rc_dg (Z a).natAbs i + s.2) 10 (by omega) (by decide) (by decide)
    have hq := @pk_div (rc_dg (Z b).natAbs i + rc_dg (Z a).natAbs i + s.2) 10 (by omega) (by decide) (by decide)
    have hd' : (nI (rc_dg (Z b).natAbs i + rc_dg (Z a).natAbs i + s.2) - nI (rc_dg (Z b).natAbs i + rc_dg (Z a).natAbs i + s.2) / 10 * 10) = nI ((rc_dg (Z b).natAbs i + rc_dg (Z a).natAbs i + s.2) % 10) := hd
    refine ⟨by decide, rc_ixin (by omega) b4, nm_r (e' := upd s.1 (b - i) (nI ((rc_dg (Z b).natAbs i + rc_dg (Z a).natAbs i + s.2) % 10))) (by rw [hd', rc_nb _ (by omega), rc_ix (by omega) b4]) ⟨by decide, nm_r hq (nm_r (nI_1 i) ?_)⟩⟩
    refine hw (upd s.1 (b - i) (nI ((rc_dg (Z b).natAbs i + rc_dg (Z a).natAbs i + s.2) % 10)), (rc_dg (Z b).natAbs i + rc_dg (Z a).natAbs i + s.2) / 10) ⟨by omega, rc_un_s i2 (by omega), v + ((rc_dg (Z b).natAbs i + rc_dg (Z a).natAbs i + s.2) % 10) * 10 ^ i, rc_lo_s i3 (by omega) (by omega), ?_⟩
    show v + ((rc_dg (Z b).natAbs i + rc_dg (Z a).natAbs i + s.2) % 10) * 10 ^ i + ((rc_dg (Z b).natAbs i + rc_dg (Z a).natAbs i + s.2) / 10) * 10 ^ (i + 1) = (Z b).natAbs % 10 ^ (i + 1) + (Z a).natAbs % 10 ^ (i + 1)
    rw [rc_mods, rc_mods, Nat.pow_succ]
    generalize rc_dg (Z b).natAbs i = p at *
    generalize rc_dg (Z a).natAbs i = q at *
    have he : (p + q + s.2) % 10 + 10 * ((p + q + s.2) / 10) = p + q + s.2 := Nat.mod_add_div _ _
    have t := congrArg (fun q => q * 10 ^ i) he
    rw [Nat.add_mul, Nat.add_mul, Nat.add_mul, Nat.mul_assoc] at t
    have t2 : (p + q + s.2) / 10 * (10 ^ i * 10) = 10 * ((p + q + s.2) / 10 * 10 ^ i) := by
      rw [← Nat.mul_assoc, Nat.mul_comm]
    omega
theorem rc_add98 {cc lc lv me sm pd lf rt rs qt tx ct sg ve zr on cp ce mu dv pr pc od cd nc ty vl pn : Int32} {a1 a2 a3 a4 a5 a6 a7 a8 a9 a10 a11 a15 a16 a17 a18 a19 a20 a21 a22 a23 : Nat → Int32} {post : St2 → Prop} {Z : Nat → Int} {a la b lb : Nat} {z : Int} {p2 : Int32} (ha : rc_isF a la) (hb : rc_isF b lb) (hab : a ≠ b) (hva : (Z a).natAbs < 10 ^ la) (hvb : (Z b).natAbs < 10 ^ lb) (hvc : (Z a).natAbs < 10 ^ lb)
    (hz : (Z b).natAbs + z.natAbs = (Z a).natAbs ∧ z ≠ 0 ∧ (p2 = if z < 0 then 1 else 0) ∨ (Z a).natAbs + z.natAbs = (Z b).natAbs ∧ (z ≠ 0 → (Z b < 0 ↔ z < 0)))
    (H : post (cc, lc, lv, me, sm, pd, lf, rt, rs, qt, tx, ct, sg, ve, zr, on, cp, ce, mu, dv, pr, pc, od, cd, nc, ty, vl, pn, a1, a2, a3, a4, a5, a6, a7, a8, a9, a10, a11, rc_dm (rc_zs Z b z), rc_mk, rc_sm (rc_zs Z b z), a15, a16, a17, a18, a19, a20, a21, a22, a23)) : ∃ n, wX_add_98 post (nI a) (nI b) p2 (nI la) (nI lb) cc lc lv me sm pd lf rt rs qt tx ct sg ve zr on cp ce mu dv pr pc od cd nc ty vl pn n 0 0 a1 a2 a3 a4 a5 a6 a7 a8 a9 a10 a11 (rc_dm Z) rc_mk (rc_sm Z) a15 a16 a17 a18 a19 a20 a21 a22 a23 := by
  have ja2 := ha.2.1
  have ja3 := ha.2.2.1
  have ja4 := ha.2.2.2.1
  have b1 := hb.1
  have b2 := hb.2.1
  have b3 := hb.2.2.1
  have b4 := hb.2.2.2.1
  refine pk_loop (fun n i s => wX_add_98 post (nI a) (nI b) p2 (nI la) (nI lb) cc lc lv me sm pd lf rt rs qt tx ct sg ve zr on cp ce mu dv pr pc od cd nc ty vl pn n (nI s.2) (nI i) a1 a2 a3 a4 a5 a6 a7 a8 a9 a10 a11 s.1 rc_mk (rc_sm Z) a15 a16 a17 a18 a19 a20 a21 a22 a23)
    (fun i (s : (Nat → Int32) × Nat) => s.2 < 2 ∧ rc_un s.1 (rc_dm Z) b i ∧ ∃ v, rc_lo s.1 b i v ∧ v + (Z a).natAbs % 10 ^ i = (Z b).natAbs % 10 ^ i + s.2 * 10 ^ i) lb 0 (rc_dm Z, 0) (Nat.zero_le lb) ⟨(show 0 < 2 by decide), rc_un_0 _ _ _, 0, rc_lo_0 _ _, by rw [rc_mod0, rc_mod0]; omega⟩ ?_ ?_
  · intro n s hI
    obtain ⟨i1, i2, v, i3, i4⟩ := hI
    rw [Nat.mod_eq_of_lt hvb, Nat.mod_eq_of_lt hvc] at i4
    have i6 := i3.1
    refine pk_le lb lb (fun _ => pk_le s.2 0 (fun q => ?_) (fun q => ?_)) (fun z => absurd z (by omega))
    · rw [show s.2 = 0 by omega, Nat.zero_mul] at i4
      have hz2 : (Z a).natAbs + z.natAbs = (Z b).natAbs ∧ (z ≠ 0 → (Z b < 0 ↔ z < 0)) := by
        rcases hz with hz | hz
        · omega
        · exact hz
      rw [rc_fin hb i3 i2 (z := z) (by omega)]
      exact rc_a178 hb (by rw [rc_zs_s]; omega) (fun q => rc_sm_p (by rw [rc_zs_s] at q; omega)) (fun q => rc_sm_k (hz2.2 (by rw [rc_zs_s] at q; exact q))) H
    · rw [show s.2 = 1 by omega, Nat.one_mul] at i4
      have hz2 : (Z b).natAbs + z.natAbs = (Z a).natAbs ∧ z ≠ 0 ∧ (p2 = if z < 0 then 1 else 0) := by
        rcases hz with hz | hz
        · exact hz
        · omega
      rw [rc_fin hb i3 i2 (z := (v : Int)) (by omega)]
      have e2 : rc_zs (rc_zs Z b (v : Int)) b z = rc_zs Z b z := by
        funext j
        by_cases q : j = b
        · rw [q, rc_zs_s, rc_zs_s]
        · rw [rc_zs_n _ _ q, rc_zs_n _ _ q, rc_zs_n _ _ q]
      refine rc_cpl (z := z) hb (by rw [rc_zs_s]; omega) (by rw [rc_zs_s]; omega) (by rw [rc_zs_s]; omega) hz2.2.2 ?_
      dsimp only
      rw [e2]
      exact rc_a178 hb (by rw [rc_zs_s]; omega) (fun q => absurd (by rw [rc_zs_s] at q; exact q) hz2.2.1) (fun _ => rfl) H
  · intro n i s hi hI hw
    obtain ⟨i1, i2, v, i3, i4⟩ := hI
    have dl := rc_dg_lt (Z a).natAbs i
    have el := rc_dg_lt (Z b).natAbs i
    have hr2 : s.1 (b - i) = nI (rc_dg (Z b).natAbs i) := rc_rs hb i2 (Nat.le_refl i) hi
    refine pk_le lb i (fun z => absurd z (by omega)) (fun _ => ⟨rc_ixin (by omega) b4, rc_dat (v := (Z a).natAbs) ja2 ja3 ja4 (by omega) hva (fun q => rc_rd ha hb hab i2 (by omega) q) ?_⟩)
    refine nm_r (e' := (nI (rc_dg (Z b).natAbs i) - nI (rc_dg (Z a).natAbs i)) - nI s.2) (by rw [rc_ix (by omega) b4, hr2]) ?_
    have key : ∀ m c, m < 10 → c < 2 → m + rc_dg (Z a).natAbs i + s.2 = rc_dg (Z b).natAbs i + 10 * c → wX_add_98 post (nI a) (nI b) p2 (nI la) (nI lb) cc lc lv me sm pd lf rt rs qt tx ct sg ve zr on cp ce mu dv pr pc od cd nc ty vl pn n (nI c) (nI (i + 1)) a1 a2 a3 a4 a5 a6 a7 a8 a9 a10 a11 (upd s.1 (b - i) (nI m)) rc_mk (rc_sm Z) a15 a16 a17 a18 a19 a20 a21 a22 a23 := by
      intro m c hm hc he
      refine hw (upd s.1 (b - i) (nI m), c) ⟨hc, rc_un_s i2 (by omega), v + m * 10 ^ i, rc_lo_s i3 hm (by omega), ?_⟩
      show v + m * 10 ^ i + (Z a).natAbs % 10 ^ (i + 1) = (Z b).natAbs % 10 ^ (i + 1) + c * 10 ^ (i + 1)
      rw [rc_mods, rc_mods, Nat.pow_succ]
      have t := congrArg (fun q => q * 10 ^ i) he
      rw [Nat.add_mul, Nat.add_mul, Nat.add_mul, Nat.mul_assoc] at t
      have t2 : c * (10 ^ i * 10) = 10 * (c * 10 ^ i) := by
        rw [← Nat.mul_assoc, Nat.mul_comm]
      omega
    rcases rc_sdig _ el _ dl s.2 i1 with ⟨c1, c2, c3⟩ | ⟨c1, c2, c3⟩
    · exact br_t c2 ⟨rc_ixin (by omega) b4, nm_r (by rw [rc_ix (by omega) b4, c3]) (nm_r (nI_1 i) (key _ 0 (by omega) (by decide) (by omega)))⟩
    · exact br_f c2 ⟨rc_ixin (by omega) b4, nm_r (by rw [rc_ix (by omega) b4, c3]) (nm_r (nI_1 i) (key _ 1 (by omega) (by decide) (by omega)))⟩
theorem rc_add {cc lc lv me sm pd lf rt rs qt tx ct sg ve zr on cp ce mu dv pr pc od cd nc ty vl pn : Int32} {a1 a2 a3 a4 a5 a6 a7 a8 a9 a10 a11 a15 a16 a17 a18 a19 a20 a21 a22 a23 : Nat → Int32} {post : St2 → Prop} {Z : Nat → Int} {a la b lb : Nat} {y : Int} {p2 : Int32} (ha : rc_isF a la) (hb : rc_isF b lb) (hab : a ≠ b) (hva : (Z a).natAbs < 10 ^ la) (hvb : (Z b).natAbs < 10 ^ lb) (hvc : (Z a).natAbs < 10 ^ lb)
    (hy : p2 = 0 ∧ y = ((Z a).natAbs : Int) ∨ p2 = 1 ∧ y = -((Z a).natAbs : Int)) (hv : (Z b + y).natAbs < 10 ^ lb)
    (H : post (cc, lc, lv, me, sm, pd, lf, rt, rs, qt, tx, ct, sg, ve, zr, on, cp, ce, mu, dv, pr, pc, od, cd, nc, ty, vl, pn, a1, a2, a3, a4, a5, a6, a7, a8, a9, a10, a11, rc_dm (rc_zs Z b (Z b + y)), rc_mk, rc_sm (rc_zs Z b (Z b + y)), a15, a16, a17, a18, a19, a20, a21, a22, a23)) : wpX_add post (cc, lc, lv, me, sm, pd, lf, rt, rs, qt, tx, ct, sg, ve, zr, on, cp, ce, mu, dv, pr, pc, od, cd, nc, ty, vl, pn, a1, a2, a3, a4, a5, a6, a7, a8, a9, a10, a11, rc_dm Z, rc_mk, rc_sm Z, a15, a16, a17, a18, a19, a20, a21, a22, a23) (nI a) (nI b) p2 := by
  have b4 := hb.2.2.2.1
  unfold wpX_add
  dsimp only
  refine rc_len ha (rc_len hb ⟨vp_in_nI (by omega) (by omega), ?_⟩)
  rw [nI_clamp (by omega)]
  rcases rc_lg (Z b) with q | q
  · rw [rc_sm_1 q]
    rcases hy with ⟨e1, e2⟩ | ⟨e1, e2⟩
    · rw [e1]
      refine br_f (by decide) (rc_add98 ha hb hab hva hvb hvc ?_ H)
      by_cases g : (Z b).natAbs < (Z a).natAbs
      · exact Or.inl ⟨by omega, by omega, by rw [if_neg (by omega)]⟩
      · exact Or.inr ⟨by omega, fun t => ⟨fun _ => by omega, fun _ => q⟩⟩
    · rw [e1]
      exact br_t rfl (rc_add30 ha hb hab hva (by omega) hv (by omega) H)
  · rw [rc_sm_0 q]
    rcases hy with ⟨e1, e2⟩ | ⟨e1, e2⟩
    · rw [e1]
      exact br_t rfl (rc_add30 ha hb hab hva (by omega) hv (by omega) H)
    · rw [e1]
      refine br_f (by decide) (rc_add98 ha hb hab hva hvb hvc ?_ H)
      by_cases g : (Z b).natAbs < (Z a).natAbs
      · exact Or.inl ⟨by omega, by omega, by rw [if_pos (by omega)]⟩
      · exact Or.inr ⟨by omega, fun t => ⟨fun _ => by omega, fun _ => by omega⟩⟩
/-- what a field holds -/
theorem rc_fv {cc lc lv me sm pd lf rt rs qt tx ct sg ve zr on cp ce mu dv pr pc od cd nc ty vl pn : Int32} {a1 a2 a3 a4 a5 a6 a7 a8 a9 a10 a11 a15 a16 a17 a18 a19 a20 a21 a22 a23 : Nat → Int32} {post : Int32 → Prop} {Z : Nat → Int} {e l : Nat} {p0 : Int32} (hf : rc_isF e l) (hv : (Z e).natAbs < 10 ^ l) (h0 : p0 = nI e) (H : post (rc_iI (Z e))) : wpX_fieldValue post (cc, lc, lv, me, sm, pd, lf, rt, rs, qt, tx, ct, sg, ve, zr, on, cp, ce, mu, dv, pr, pc, od, cd, nc, ty, vl, pn, a1, a2, a3, a4, a5, a6, a7, a8, a9, a10, a11, rc_dm Z, rc_mk, rc_sm Z, a15, a16, a17, a18, a19, a20, a21, a22, a23) p0 := by
  subst h0
  have hf' := hf
  obtain ⟨h1, h2, h3, h4, h5, h6, h7, h8⟩ := hf'
  unfold wpX_fieldValue
  dsimp only
  obtain ⟨n, hn⟩ := pk_loop (σ := Unit) (fun n i _ => wX_fieldValue_10 post (nI e) cc lc lv me sm pd lf rt rs qt tx ct sg ve zr on cp ce mu dv pr pc od cd nc ty vl pn a1 a2 a3 a4 a5 a6 a7 a8 a9 a10 a11 (rc_dm Z) rc_mk (rc_sm Z) a15 a16 a17 a18 a19 a20 a21 a22 a23 n (nI ((Z e).natAbs % 10 ^ i)) (nI (10 ^ i)) (nI e - nI i) (if i < l then 1 else 0)) (fun _ _ => True) l 0 () (Nat.zero_le l) trivial
    (fun n _ _ => by
      show wX_fieldValue_10 post (nI e) cc lc lv me sm pd lf rt rs qt tx ct sg ve zr on cp ce mu dv pr pc od cd nc ty vl pn a1 a2 a3 a4 a5 a6 a7 a8 a9 a10 a11 (rc_dm Z) rc_mk (rc_sm Z) a15 a16 a17 a18 a19 a20 a21 a22 a23 (n + 1) (nI ((Z e).natAbs % 10 ^ l)) (nI (10 ^ l)) (nI e - nI l) (if l < l then 1 else 0)
      rw [if_neg (Nat.lt_irrefl l), Nat.mod_eq_of_lt hv]
      unfold rc_iI at H
      refine br_t rfl ⟨vp_in_nI (by omega) (by omega), ?_⟩
      rw [nI_clamp (by omega)]
      rcases rc_lg (Z e) with q | q
      · rw [if_pos q] at H
        exact br_f (by rw [rc_sm_1 q]; decide) H
      · rw [if_neg (by omega)] at H
        exact br_t (rc_sm_0 q) H)
    (fun n i _ hi _ hw => by
      have hw' : wX_fieldValue_10 post (nI e) cc lc lv me sm pd lf rt rs qt tx ct sg ve zr on cp ce mu dv pr pc od cd nc ty vl pn a1 a2 a3 a4 a5 a6 a7 a8 a9 a10 a11 (rc_dm Z) rc_mk (rc_sm Z) a15 a16 a17 a18 a19 a20 a21 a22 a23 n (nI ((Z e).natAbs % 10 ^ (i + 1))) (nI (10 ^ (i + 1))) (nI e - nI (i + 1)) (if i + 1 < l then 1 else 0) := hw () trivial
      show wX_fieldValue_10 post (nI e) cc lc lv me sm pd lf rt rs qt tx ct sg ve zr on cp ce mu dv pr pc od cd nc ty vl pn a1 a2 a3 a4 a5 a6 a7 a8 a9 a10 a11 (rc_dm Z) rc_mk (rc_sm Z) a15 a16 a17 a18 a19 a20 a21 a22 a23 (n + 1) (nI ((Z e).natAbs % 10 ^ i)) (nI (10 ^ i)) (nI e - nI i) (if i < l then 1 else 0)
      rw [if_pos hi]
      refine br_f (by decide) ⟨rc_ixin (by omega) h4, nm_r (e' := nI ((Z e).natAbs % 10 ^ (i + 1))) (by rw [rc_ix (by omega) h4, rc_dm_f hf hi, pk_mul, nI_add, rc_mods, Nat.mul_comm]) (nm_r (e' := nI (10 ^ (i + 1))) (by have t := pk_mul (10 ^ i) 10; rw [← Nat.pow_succ] at t; exact t) ⟨rc_ixin (by omega) h4, br_c (fun g => nm_r (rc_dn e i) ?_) (fun g => nm_r (rc_dn e i) ?_)⟩)⟩
      · have q : i + 1 < l := by
          rcases Nat.lt_or_ge (i + 1) l with q | q
          · exact q
          · rw [rc_ix (by omega) h4, show i = l - 1 by omega, h8] at g
            exact absurd g (by decide)
        rw [if_pos q] at hw'
        exact hw'
      · have q : ¬ i + 1 < l := by
          intro q
          rw [rc_ix (by omega) h4] at g
          exact g (h7 i (by omega))
        rw [if_neg q] at hw'
        exact hw')
  refine ⟨n, ?_⟩
  have hn' : wX_fieldValue_10 post (nI e) cc lc lv me sm pd lf rt rs qt tx ct sg ve zr on cp ce mu dv pr pc od cd nc ty vl pn a1 a2 a3 a4 a5 a6 a7 a8 a9 a10 a11 (rc_dm Z) rc_mk (rc_sm Z) a15 a16 a17 a18 a19 a20 a21 a22 a23 n (nI ((Z e).natAbs % 10 ^ 0)) (nI (10 ^ 0)) (nI e - nI 0) (if 0 < l then 1 else 0) := hn
  rw [if_pos (by omega), Nat.pow_zero, Nat.mod_one, pk_sub (Nat.zero_le e)] at hn'
  exact hn'
end
section
theorem rc_w20 {w a b : Nat} (hw : w < 1024) (ha : a < 1024) (hb : b < 1024) : nI (w * 1048576 + a * 1024 + b) >>> ((20 : Int32) &&& 31) = nI w := by
  rw [pk_shrN (by omega) _ 20 (by decide)]
  congr 1
  omega
theorem rc_w10 {w a b : Nat} (hw : w < 1024) (ha : a < 1024) (hb : b < 1024) : (nI (w * 1048576 + a * 1024 + b) >>> ((10 : Int32) &&& 31)) &&& 1023 = nI a := by
  rw [pk_shrN (by omega) _ 10 (by decide), pk_andN (by omega) 10 (by decide)]
  congr 1
  omega
theorem rc_w00 {w a b : Nat} (hw : w < 1024) (ha : a < 1024) (hb : b < 1024) : nI (w * 1048576 + a * 1024 + b) &&& 1023 = nI b := by
  rw [pk_andN (by omega) 10 (by decide)]
  congr 1
  omega
/-- a step's first half: the word is taken apart -/
theorem rc_s75 {cc lc lv me sm pd lf rt rs qt tx ct sg ve zr on cp ce mu dv pr od cd nc ty vl pn : Int32} {a1 a2 a3 a4 a5 a6 a7 a8 a9 a10 a11 a12 a13 a14 a15 a16 a17 a18 a19 a20 a21 a22 a23 : Nat → Int32} {post : St2 → Prop} {p w a b : Nat} (hp : p < 420) (hc : a19 p = nI (w * 1048576 + a * 1024 + b)) (ha : a < 1024) (hb : b < 1024) (hw : 1 ≤ w ∧ w < 5 ∨ 10 < w ∧ w < 1024)
    (H : wX_step_75 post (nI w) (nI a) (nI b) cc lc lv me sm pd lf rt rs qt tx ct sg ve zr on cp ce mu dv pr (nI (p + 1)) od cd nc ty vl pn a1 a2 a3 a4 a5 a6 a7 a8 a9 a10 a11 a12 a13 a14 a15 a16 a17 a18 a19 a20 a21 a22 a23) : wpX_step post (cc, lc, lv, me, sm, pd, lf, rt, rs, qt, tx, ct, sg, ve, zr, on, cp, ce, mu, dv, pr, nI p, od, cd, nc, ty, vl, pn, a1, a2, a3, a4, a5, a6, a7, a8, a9, a10, a11, a12, a13, a14, a15, a16, a17, a18, a19, a20, a21, a22, a23) := by
  unfold wpX_step
  dsimp only
  refine ⟨vp_in_nI hp (by omega), nm_r (e' := nI (w * 1048576 + a * 1024 + b)) (by rw [nI_clamp (by omega), hc]) (nm_r (nI_1 p) (nm_r (rc_w20 (by omega) ha hb) (nm_r (rc_w10 (by omega) ha hb) (nm_r (rc_w00 (by omega) ha hb) (pk_eq w 0 (fun z => absurd z (by omega)) (fun _ => ?_))))))⟩
  refine pk_lt w 5 (fun _ => H) (fun z => pk_lt 10 w (fun _ => H) (fun z2 => absurd z (by omega)))
theorem rc_sbr {cc lc lv me sm pd lf rt rs qt tx ct sg ve zr on cp ce mu dv pr od cd nc ty vl pn : Int32} {a1 a2 a3 a4 a5 a6 a7 a8 a9 a10 a11 a12 a13 a14 a15 a16 a17 a18 a19 a20 a21 a22 a23 : Nat → Int32} {post : St2 → Prop} {p w a b : Nat} (hp : p < 420) (hc : a19 p = nI (w * 1048576 + a * 1024 + b)) (ha : a < 1024) (hb : b < 1024) (h5 : 5 ≤ w) (h10 : w ≤ 10)
    (H : ∀ P : St2 → Prop, (∀ u, post u → P u) → wpX_branch P (cc, lc, lv, me, sm, pd, lf, rt, rs, qt, tx, ct, sg, ve, zr, on, cp, ce, mu, dv, pr, nI (p + 1), od, cd, nc, ty, vl, pn, a1, a2, a3, a4, a5, a6, a7, a8, a9, a10, a11, a12, a13, a14, a15, a16, a17, a18, a19, a20, a21, a22, a23) (nI w) (nI a) (nI b)) : wpX_step post (cc, lc, lv, me, sm, pd, lf, rt, rs, qt, tx, ct, sg, ve, zr, on, cp, ce, mu, dv, pr, nI p, od, cd, nc, ty, vl, pn, a1, a2, a3, a4, a5, a6, a7, a8, a9, a10, a11, a12, a13, a14, a15, a16, a17, a18, a19, a20, a21, a22, a23) := by
  unfold wpX_step
  dsimp only
  refine ⟨vp_in_nI hp (by omega), nm_r (e' := nI (w * 1048576 + a * 1024 + b)) (by rw [nI_clamp (by omega), hc]) (nm_r (nI_1 p) (nm_r (rc_w20 (by omega) ha hb) (nm_r (rc_w10 (by omega) ha hb) (nm_r (rc_w00 (by omega) ha hb) (pk_eq w 0 (fun z => absurd z (by omega)) (fun _ => ?_))))))⟩
  exact pk_lt w 5 (fun z => absurd z (by omega)) (fun z => pk_lt 10 w (fun z => absurd z (by omega)) (fun z2 => H _ (fun u hu => hu)))
theorem rc_shl {cc lc lv me sm pd lf rt rs qt tx ct sg ve zr on cp ce mu dv pr od cd nc ty vl pn : Int32} {a1 a2 a3 a4 a5 a6 a7 a8 a9 a10 a11 a12 a13 a14 a15 a16 a17 a18 a19 a20 a21 a22 a23 : Nat → Int32} {post : St2 → Prop} {p : Nat} (hp : p < 420) (hc : a19 p = nI 0)
    (H : post (cc, lc, lv, me, sm, pd, lf, rt, rs, qt, tx, ct, sg, ve, zr, on, cp, ce, mu, dv, pr, nI (p + 1), od, cd, nc, ty, 1, pn, a1, a2, a3, a4, a5, a6, a7, a8, a9, a10, a11, a12, a13, a14, a15, a16, a17, a18, a19, a20, a21, a22, a23)) : wpX_step post (cc, lc, lv, me, sm, pd, lf, rt, rs, qt, tx, ct, sg, ve, zr, on, cp, ce, mu, dv, pr, nI p, od, cd, nc, ty, vl, pn, a1, a2, a3, a4, a5, a6, a7, a8, a9, a10, a11, a12, a13, a14, a15, a16, a17, a18, a19, a20, a21, a22, a23) := by
  unfold wpX_step
  dsimp only
  exact ⟨vp_in_nI hp (by omega), nm_r (e' := nI 0) (by rw [nI_clamp (by omega), hc]) (nm_r (nI_1 p) (nm_r (e' := nI 0) (by decide) (nm_e (nm_e (br_t (by decide) H)))))⟩
theorem rc_b5 {cc lc lv me sm pd lf rt rs qt tx ct sg ve zr on cp ce mu dv pr pc od cd nc ty vl pn : Int32} {a1 a2 a3 a4 a5 a6 a7 a8 a9 a10 a11 a12 a13 a14 a15 a16 a17 a18 a19 a20 a21 a22 a23 : Nat → Int32} {P : St2 → Prop} {x2 x3 : Int32} (H : P (cc, lc, lv, me, sm, pd, lf, rt, rs, qt, tx, ct, sg, ve, zr, on, cp, ce, mu, dv, pr, x3, od, cd, nc, ty, vl, pn, a1, a2, a3, a4, a5, a6, a7, a8, a9, a10, a11, a12, a13, a14, a15, a16, a17, a18, a19, a20, a21, a22, a23)) : wpX_branch P (cc, lc, lv, me, sm, pd, lf, rt, rs, qt, tx, ct, sg, ve, zr, on, cp, ce, mu, dv, pr, pc, od, cd, nc, ty, vl, pn, a1, a2, a3, a4, a5, a6, a7, a8, a9, a10, a11, a12, a13, a14, a15, a16, a17, a18, a19, a20, a21, a22, a23) (nI 5) x2 x3 := by
  unfold wpX_branch
  dsimp only
  refine br_t (by decide) ?_
  unfold wX_branch_10
  exact br_f (by decide) (br_f (by decide) (br_f (by decide) (br_f (by decide) (br_f (by decide) (br_f (by decide) H)))))
theorem rc_b6 {cc lc lv me sm pd lf rt rs qt tx ct sg ve zr on cp ce mu dv pr pc od cd nc ty vl pn : Int32} {a1 a2 a3 a4 a5 a6 a7 a8 a9 a10 a11 a12 a13 a14 a15 a16 a17 a18 a19 a20 a21 a22 a23 : Nat → Int32} {P : St2 → Prop} {x2 x3 : Int32} (H0 : od ≤ 0 → P (cc, lc, lv, me, sm, pd, lf, rt, rs, qt, tx, ct, sg, ve, zr, on, cp, ce, mu, dv, pr, pc, od, cd, nc, ty, vl, pn, a1, a2, a3, a4, a5, a6, a7, a8, a9, a10, a11, a12, a13, a14, a15, a16, a17, a18, a19, a20, a21, a22, a23)) (H1 : ¬ od ≤ 0 → P (cc, lc, lv, me, sm, pd, lf, rt, rs, qt, tx, ct, sg, ve, zr, on, cp, ce, mu, dv, pr, x3, od, cd, nc, ty, vl, pn, a1, a2, a3, a4, a5, a6, a7, a8, a9, a10, a11, a12, a13, a14, a15, a16, a17, a18, a19, a20, a21, a22, a23)) : wpX_branch P (cc, lc, lv, me, sm, pd, lf, rt, rs, qt, tx, ct, sg, ve, zr, on, cp, ce, mu, dv, pr, pc, od, cd, nc, ty, vl, pn, a1, a2, a3, a4, a5, a6, a7, a8, a9, a10, a11, a12, a13, a14, a15, a16, a17, a18, a19, a20, a21, a22, a23) (nI 6) x2 x3 := by
  unfold wpX_branch
  dsimp only
  refine br_f (by decide) ?_
  unfold wX_branch_10
  exact br_t (by decide) (br_c (fun z => br_t rfl (H0 z)) (fun z => br_f (by decide) (H1 z)))
theorem rc_b7 {cc lc lv me sm pd lf rt rs qt tx ct sg ve zr on cp ce mu dv pr pc od cd nc ty vl pn : Int32} {a1 a2 a3 a4 a5 a6 a7 a8 a9 a10 a11 a12 a13 a14 a15 a16 a17 a18 a19 a20 a21 a22 a23 : Nat → Int32} {P : St2 → Prop} {x2 x3 : Int32} (H0 : 0 ≤ od → P (cc, lc, lv, me, sm, pd, lf, rt, rs, qt, tx, ct, sg, ve, zr, on, cp, ce, mu, dv, pr, pc, od, cd, nc, ty, vl, pn, a1, a2, a3, a4, a5, a6, a7, a8, a9, a10, a11, a12, a13, a14, a15, a16, a17, a18, a19, a20, a21, a22, a23)) (H1 : ¬ 0 ≤ od → P (cc, lc, lv, me, sm, pd, lf, rt, rs, qt, tx, ct, sg, ve, zr, on, cp, ce, mu, dv, pr, x3, od, cd, nc, ty, vl, pn, a1, a2, a3, a4, a5, a6, a7, a8, a9, a10, a11, a12, a13, a14, a15, a16, a17, a18, a19, a20, a21, a22, a23)) : wpX_branch P (cc, lc, lv, me, sm, pd, lf, rt, rs, qt, tx, ct, sg, ve, zr, on, cp, ce, mu, dv, pr, pc, od, cd, nc, ty, vl, pn, a1, a2, a3, a4, a5, a6, a7, a8, a9, a10, a11, a12, a13, a14, a15, a16, a17, a18, a19, a20, a21, a22, a23) (nI 7) x2 x3 := by
  unfold wpX_branch
  dsimp only
  refine br_f (by decide) ?_
  unfold wX_branch_10
  exact br_f (by decide) (br_t (by decide) (br_c (fun z => br_t rfl (H0 z)) (fun z => br_f (by decide) (H1 z))))
/-- the run loop from a state -/
def rc_Rn (post : Int32 → St2 → Prop) (u : St2) : Prop := ∃ n, (match u with | (cc, lc, lv, me, sm, pd, lf, rt, rs, qt, tx, ct, sg, ve, zr, on, cp, ce, mu, dv, pr, pc, od, cd, nc, ty, vl, pn, a1, a2, a3, a4, a5, a6, a7, a8, a9, a10, a11, a12, a13, a14, a15, a16, a17, a18, a19, a20, a21, a22, a23) => wX_run_139 post n cc lc lv me sm pd lf rt rs qt tx ct sg ve zr on cp ce mu dv pr pc od cd nc ty vl pn a1 a2 a3 a4 a5 a6 a7 a8 a9 a10 a11 a12 a13 a14 a15 a16 a17 a18 a19 a20 a21 a22 a23)
theorem rc_nx {cc lc lv me sm pd lf rt rs qt tx ct sg ve zr on cp ce mu dv pr pc od cd nc ty pn : Int32} {a1 a2 a3 a4 a5 a6 a7 a8 a9 a10 a11 a12 a13 a14 a15 a16 a17 a18 a19 a20 a21 a22 a23 : Nat → Int32} {post : Int32 → St2 → Prop} {u' : St2} (hs : ∀ P : St2 → Prop, P u' → wpX_step P (cc, lc, lv, me, sm, pd, lf, rt, rs, qt, tx, ct, sg, ve, zr, on, cp, ce, mu, dv, pr, pc, od, cd, nc, ty, 0, pn, a1, a2, a3, a4, a5, a6, a7, a8, a9, a10, a11, a12, a13, a14, a15, a16, a17, a18, a19, a20, a21, a22, a23)) (H : rc_Rn post u') : rc_Rn post (cc, lc, lv, me, sm, pd, lf, rt, rs, qt, tx, ct, sg, ve, zr, on, cp, ce, mu, dv, pr, pc, od, cd, nc, ty, 0, pn, a1, a2, a3, a4, a5, a6, a7, a8, a9, a10, a11, a12, a13, a14, a15, a16, a17, a18, a19, a20, a21, a22, a23) := by
  obtain ⟨n, hn⟩ := H
  exact ⟨n + 1, br_t rfl (hs _ hn)⟩
theorem rc_stop {cc lc lv me sm pd lf rt rs qt tx ct sg ve zr on cp ce mu dv pr pc od cd nc ty pn : Int32} {a1 a2 a3 a4 a5 a6 a7 a8 a9 a10 a11 a12 a13 a14 a15 a16 a17 a18 a19 a20 a21 a22 a23 : Nat → Int32} {post : Int32 → St2 → Prop} (H : post ty (cc, lc, lv, me, sm, pd, lf, rt, rs, qt, tx, ct, sg, ve, zr, on, cp, ce, mu, dv, pr, pc, od, cd, nc, ty, 1, pn, a1, a2, a3, a4, a5, a6, a7, a8, a9, a10, a11, a12, a13, a14, a15, a16, a17, a18, a19, a20, a21, a22, a23)) : rc_Rn post (cc, lc, lv, me, sm, pd, lf, rt, rs, qt, tx, ct, sg, ve, zr, on, cp, ce, mu, dv, pr, pc, od, cd, nc, ty, 1, pn, a1, a2, a3, a4, a5, a6, a7, a8, a9, a10, a11, a12, a13, a14, a15, a16, a17, a18, a19, a20, a21, a22, a23) := ⟨1, br_f (by decide) H⟩
/-- the folded state: h the ints and g the arrays that a run leaves alone -/
def rc_st (h : Nat → Int32) (g : Nat → Nat → Int32) (pc od cd nc ty vl pn : Int32) (Z : Nat → Int) (a21 a22 a23 : Nat → Int32) : St2 :=
  (h 0, h 1, h 2, h 3, h 4, h 5, h 6, h 7, h 8, h 9, h 10, h 11, h 12, h 13, h 14, h 15, h 16, h 17, h 18, h 19, h 20, pc, od, cd, nc, ty, vl, pn, g 1, g 2, g 3, g 4, g 5, g 6, g 7, g 8, g 9, g 10, g 11, rc_dm Z, rc_mk, rc_sm Z, g 15, g 16, g 17, g 18, g 19, g 20, a21, a22, a23)
end
section
theorem rm_j {post : Int32 → St2 → Prop} {h : Nat → Int32} {g : Nat → Nat → Int32} {p : Nat} {od : Int32} {cd : Int32} {nc : Int32} {ty : Int32} {pn : Int32} {Z : Nat → Int} {a21 : Nat → Int32} {a22 : Nat → Int32} {a23 : Nat → Int32} {a b : Nat} (hp : p < 420) (hw : g 19 p = nI (5 * 1048576 + a * 1024 + b)) (ha : a < 1024) (hb : b < 1024) (H : rc_Rn post (rc_st h g (nI b) od cd nc ty 0 pn Z a21 a22 a23)) : rc_Rn post (rc_st h g (nI p) od cd nc ty 0 pn Z a21 a22 a23) :=
  rc_nx (fun P hP => rc_sbr hp hw ha hb (by omega) (by omega) (fun Q hQ => rc_b5 (hQ _ hP))) H
theorem rm_hi0 {post : Int32 → St2 → Prop} {h : Nat → Int32} {g : Nat → Nat → Int32} {p : Nat} {od : Int32} {cd : Int32} {nc : Int32} {ty : Int32} {pn : Int32} {Z : Nat → Int} {a21 : Nat → Int32} {a22 : Nat → Int32} {a23 : Nat → Int32} {a b : Nat} (hp : p < 420) (hw : g 19 p = nI (6 * 1048576 + a * 1024 + b)) (ha : a < 1024) (hb : b < 1024) (ho : od ≤ 0) (H : rc_Rn post (rc_st h g (nI (p + 1)) od cd nc ty 0 pn Z a21 a22 a23)) : rc_Rn post (rc_st h g (nI p) od cd nc ty 0 pn Z a21 a22 a23) :=
  rc_nx (fun P hP => rc_sbr hp hw ha hb (by omega) (by omega) (fun Q hQ => rc_b6 (fun _ => hQ _ hP) (fun z => absurd ho z))) H
theorem rm_hi1 {post : Int32 → St2 → Prop} {h : Nat → Int32} {g : Nat → Nat → Int32} {p : Nat} {od : Int32} {cd : Int32} {nc : Int32} {ty : Int32} {pn : Int32} {Z : Nat → Int} {a21 : Nat → Int32} {a22 : Nat → Int32} {a23 : Nat → Int32} {a b : Nat} (hp : p < 420) (hw : g 19 p = nI (6 * 1048576 + a * 1024 + b)) (ha : a < 1024) (hb : b < 1024) (ho : ¬ od ≤ 0) (H : rc_Rn post (rc_st h g (nI b) od cd nc ty 0 pn Z a21 a22 a23)) : rc_Rn post (rc_st h g (nI p) od cd nc ty 0 pn Z a21 a22 a23) :=
  rc_nx (fun P hP => rc_sbr hp hw ha hb (by omega) (by omega) (fun Q hQ => rc_b6 (fun z => absurd z ho) (fun _ => hQ _ hP))) H
theorem rm_lo0 {post : Int32 → St2 → Prop} {h : Nat → Int32} {g : Nat → Nat → Int32} {p : Nat} {od : Int32} {cd : Int32} {nc : Int32} {ty : Int32} {pn : Int32} {Z : Nat → Int} {a21 : Nat → Int32} {a22 : Nat → Int32} {a23 : Nat → Int32} {a b : Nat} (hp : p < 420) (hw : g 19 p = nI (7 * 1048576 + a * 1024 + b)) (ha : a < 1024) (hb : b < 1024) (ho : 0 ≤ od) (H : rc_Rn post (rc_st h g (nI (p + 1)) od cd nc ty 0 pn Z a21 a22 a23)) : rc_Rn post (rc_st h g (nI p) od cd nc ty 0 pn Z a21 a22 a23) :=
  rc_nx (fun P hP => rc_sbr hp hw ha hb (by omega) (by omega) (fun Q hQ => rc_b7 (fun _ => hQ _ hP) (fun z => absurd ho z))) H
theorem rm_lo1 {post : Int32 → St2 → Prop} {h : Nat → Int32} {g : Nat → Nat → Int32} {p : Nat} {od : Int32} {cd : Int32} {nc : Int32} {ty : Int32} {pn : Int32} {Z : Nat → Int} {a21 : Nat → Int32} {a22 : Nat → Int32} {a23 : Nat → Int32} {a b : Nat} (hp : p < 420) (hw : g 19 p = nI (7 * 1048576 + a * 1024 + b)) (ha : a < 1024) (hb : b < 1024) (ho : ¬ 0 ≤ od) (H : rc_Rn post (rc_st h g (nI b) od cd nc ty 0 pn Z a21 a22 a23)) : rc_Rn post (rc_st h g (nI p) od cd nc ty 0 pn Z a21 a22 a23) :=
  rc_nx (fun P hP => rc_sbr hp hw ha hb (by omega) (by omega) (fun Q hQ => rc_b7 (fun z => absurd z ho) (fun _ => hQ _ hP))) H
theorem rm_halt {post : Int32 → St2 → Prop} {h : Nat → Int32} {g : Nat → Nat → Int32} {p : Nat} {od : Int32} {cd : Int32} {nc : Int32} {ty : Int32} {pn : Int32} {Z : Nat → Int} {a21 : Nat → Int32} {a22 : Nat → Int32} {a23 : Nat → Int32} (hp : p < 420) (hw : g 19 p = nI 0) (H : post ty (rc_st h g (nI (p + 1)) od cd nc ty 1 pn Z a21 a22 a23)) : rc_Rn post (rc_st h g (nI p) od cd nc ty 0 pn Z a21 a22 a23) :=
  rc_nx (fun P hP => rc_shl hp hw hP) (rc_stop H)
theorem rm_za {post : Int32 → St2 → Prop} {h : Nat → Int32} {g : Nat → Nat → Int32} {p : Nat} {od : Int32} {cd : Int32} {nc : Int32} {ty : Int32} {pn : Int32} {Z : Nat → Int} {a21 : Nat → Int32} {a22 : Nat → Int32} {a23 : Nat → Int32} {a la b lb : Nat} (hp : p < 420) (hw : g 19 p = nI (1 * 1048576 + a * 1024 + b)) (ha : rc_isF a la) (hb : rc_isF b lb) (hab : a ≠ b) (hva : (Z a).natAbs < 10 ^ la) (hvb : (Z a).natAbs < 10 ^ lb)
    (H : rc_Rn post (rc_st h g (nI (p + 1)) od cd nc ty 0 pn (rc_zs Z b (Z a)) a21 a22 a23)) : rc_Rn post (rc_st h g (nI p) od cd nc ty 0 pn Z a21 a22 a23) := by
  have a4 := ha.2.2.2.1
  have b4 := hb.2.2.2.1
  refine rc_nx (fun P hP => rc_s75 hp hw (by omega) (by omega) (by omega) ?_) H
  unfold wX_step_75
  exact br_t (by decide) (rc_za ha hb hab hva hvb hP)
theorem rm_add {post : Int32 → St2 → Prop} {h : Nat → Int32} {g : Nat → Nat → Int32} {p : Nat} {od : Int32} {cd : Int32} {nc : Int32} {ty : Int32} {pn : Int32} {Z : Nat → Int} {a21 : Nat → Int32} {a22 : Nat → Int32} {a23 : Nat → Int32} {a la b lb : Nat} (hp : p < 420) (hw : g 19 p = nI (2 * 1048576 + a * 1024 + b)) (ha : rc_isF a la) (hb : rc_isF b lb) (hab : a ≠ b) (hva : (Z a).natAbs < 10 ^ la) (hvb : (Z b).natAbs < 10 ^ lb) (hvc : (Z a).natAbs < 10 ^ lb) (hv : (Z b + Z a).natAbs < 10 ^ lb)
    (H : rc_Rn post (rc_st h g (nI (p + 1)) od cd nc ty 0 pn (rc_zs Z b (Z b + Z a)) a21 a22 a23)) : rc_Rn post (rc_st h g (nI p) od cd nc ty 0 pn Z a21 a22 a23) := by
  have a4 := ha.2.2.2.1
  have b4 := hb.2.2.2.1
  refine rc_nx (fun P hP => rc_s75 hp hw (by omega) (by omega) (by omega) ?_) H
  unfold wX_step_75
  refine br_f (by decide) (br_t (by decide) ⟨vp_in_nI (by omega) (by omega), rc_add (y := Z a) ha hb hab hva hvb hvc ?_ hv hP⟩)
  rw [nI_clamp (by omega)]
  rcases rc_lg (Z a) with q | q
  · exact Or.inr ⟨rc_sm_1 q, by omega⟩
  · exact Or.inl ⟨rc_sm_0 q, by omega⟩
theorem rm_sub {post : Int32 → St2 → Prop} {h : Nat → Int32} {g : Nat → Nat → Int32} {p : Nat} {od : Int32} {cd : Int32} {nc : Int32} {ty : Int32} {pn : Int32} {Z : Nat → Int} {a21 : Nat → Int32} {a22 : Nat → Int32} {a23 : Nat → Int32} {a la b lb : Nat} (hp : p < 420) (hw : g 19 p = nI (3 * 1048576 + a * 1024 + b)) (ha : rc_isF a la) (hb : rc_isF b lb) (hab : a ≠ b) (hva : (Z a).natAbs < 10 ^ la) (hvb : (Z b).natAbs < 10 ^ lb) (hvc : (Z a).natAbs < 10 ^ lb) (hv : (Z b - Z a).natAbs < 10 ^ lb)
    (H : rc_Rn post (rc_st h g (nI (p + 1)) od cd nc ty 0 pn (rc_zs Z b (Z b - Z a)) a21 a22 a23)) : rc_Rn post (rc_st h g (nI p) od cd nc ty 0 pn Z a21 a22 a23) := by
  have a4 := ha.2.2.2.1
  have b4 := hb.2.2.2.1
  rw [Int.sub_eq_add_neg] at H hv
  refine rc_nx (fun P hP => rc_s75 hp hw (by omega) (by omega) (by omega) ?_) H
  unfold wX_step_75
  refine br_f (by decide) (br_f (by decide) (br_t (by decide) ⟨vp_in_nI (by omega) (by omega), ?_⟩))
  rw [nI_clamp (by omega)]
  rcases rc_lg (Z a) with q | q
  · exact br_f (by rw [rc_sm_1 q]; decide) (rc_add (y := -Z a) ha hb hab hva hvb hvc (Or.inl ⟨rfl, by omega⟩) hv hP)
  · exact br_t (rc_sm_0 q) (rc_add (y := -Z a) ha hb hab hva hvb hvc (Or.inr ⟨rfl, by omega⟩) hv hP)
theorem rm_cmp {post : Int32 → St2 → Prop} {h : Nat → Int32} {g : Nat → Nat → Int32} {p : Nat} {od : Int32} {cd : Int32} {nc : Int32} {ty : Int32} {pn : Int32} {Z : Nat → Int} {a21 : Nat → Int32} {a22 : Nat → Int32} {a23 : Nat → Int32} {a la b lb : Nat} (hp : p < 420) (hw : g 19 p = nI (4 * 1048576 + a * 1024 + b)) (ha : rc_isF a la) (hb : rc_isF b lb) (hva : (Z a).natAbs < 10 ^ la) (hvb : (Z b).natAbs < 10 ^ lb) (pa : 0 ≤ Z a) (pb : 0 ≤ Z b)
    (H : ∀ r : Int32, (r ≤ 0 ↔ Z a ≤ Z b) → (0 ≤ r ↔ Z b ≤ Z a) → rc_Rn post (rc_st h g (nI (p + 1)) r cd nc ty 0 pn Z a21 a22 a23)) : rc_Rn post (rc_st h g (nI p) od cd nc ty 0 pn Z a21 a22 a23) := by
  have a4 := ha.2.2.2.1
  have b4 := hb.2.2.2.1
  obtain ⟨r, r1, r2, r3⟩ := rc_cmp (cc := h 0) (lc := h 1) (lv := h 2) (me := h 3) (sm := h 4) (pd := h 5) (lf := h 6) (rt := h 7) (rs := h 8) (qt := h 9) (tx := h 10) (ct := h 11) (sg := h 12) (ve := h 13) (zr := h 14) (on := h 15) (cp := h 16) (ce := h 17) (mu := h 18) (dv := h 19) (pr := h 20) (pc := nI (p + 1)) (od := od) (cd := cd) (nc := nc) (ty := ty) (vl := 0) (pn := pn) (a1 := g 1) (a2 := g 2) (a3 := g 3) (a4 := g 4) (a5 := g 5) (a6 := g 6) (a7 := g 7) (a8 := g 8) (a9 := g 9) (a10 := g 10) (a11 := g 11) (a15 := g 15) (a16 := g 16) (a17 := g 17) (a18 := g 18) (a19 := g 19) (a20 := g 20) (a21 := a21) (a22 := a22) (a23 := a23) ha hb hva hvb pa pb
  refine rc_nx (fun P hP => rc_s75 hp hw (by omega) (by omega) (by omega) ?_) (H r r1 r2)
  unfold wX_step_75
  exact br_f (by decide) (br_f (by decide) (br_f (by decide) (br_t (by decide) (r3 _ hP))))
theorem rm_set {post : Int32 → St2 → Prop} {h : Nat → Int32} {g : Nat → Nat → Int32} {p : Nat} {od : Int32} {cd : Int32} {nc : Int32} {ty : Int32} {pn : Int32} {Z : Nat → Int} {a21 : Nat → Int32} {a22 : Nat → Int32} {a23 : Nat → Int32} {a b : Nat} (hp : p < 420) (hw : g 19 p = nI (11 * 1048576 + a * 1024 + b)) (ha : a < 4) (hb : b < 1024) (H : rc_Rn post (rc_st h g (nI (p + 1)) od cd nc ty 0 pn Z a21 (upd a22 a 1) a23)) : rc_Rn post (rc_st h g (nI p) od cd nc ty 0 pn Z a21 a22 a23) := by
  refine rc_nx (fun P hP => rc_s75 hp hw (by omega) (by omega) (by omega) ?_) H
  unfold wX_step_75
  exact br_f (by decide) (br_f (by decide) (br_f (by decide) (br_f (by decide) (br_f (by decide) (br_t (by decide) ⟨vp_in_nI ha (by omega), nm_r (by rw [nI_clamp (by omega)]) hP⟩)))))
/-- one digit put into a field of one digit -/
theorem rc_one {Z : Nat → Int} {e d : Nat} {z : Int} (hf : rc_isF e 1) (hz : z.natAbs = d) (hd : d < 10) : upd (rc_dm Z) e (nI d) = rc_dm (rc_zs Z e z) := by
  have t := rc_lo_s (rc_lo_0 (rc_dm Z) e) hd (Nat.zero_le e)
  have u := rc_un_s (x := nI d) (rc_un_0 (rc_dm Z) e 0) (Nat.zero_le e)
  rw [Nat.sub_zero] at t u
  exact rc_fin hf t u (by rw [hz, Nat.pow_zero]; omega)
theorem rc_dm1 {Z : Nat → Int} {e : Nat} (hf : rc_isF e 1) (hb : (Z e).natAbs < 10) : rc_dm Z e = nI (Z e).natAbs := by
  have t := rc_dm_f (Z := Z) hf (k := 0) (by omega)
  rw [Nat.sub_zero] at t
  rw [t]
  unfold rc_dg
  rw [Nat.pow_zero, Nat.div_one, Nat.mod_eq_of_lt hb]
theorem rc_dmabs {Z : Nat → Int} {e : Nat} {z : Int} (hz : z.natAbs = (Z e).natAbs) : rc_dm Z = rc_dm (rc_zs Z e z) := by
  funext j
  show nI (rc_dg (Z (rc_fe j)).natAbs (rc_fe j - j)) = nI (rc_dg (if rc_fe j = e then z else Z (rc_fe j)).natAbs (rc_fe j - j))
  by_cases q : rc_fe j = e
  · rw [if_pos q, q, hz]
  · rw [if_neg q]
theorem rm_shift {post : Int32 → St2 → Prop} {h : Nat → Int32} {g : Nat → Nat → Int32} {p : Nat} {od : Int32} {cd : Int32} {nc : Int32} {ty : Int32} {pn : Int32} {Z : Nat → Int} {a21 : Nat → Int32} {a22 : Nat → Int32} {a23 : Nat → Int32} {a la b e l k : Nat} {z : Int} (hp : p < 420) (hw : g 19 p = nI (14 * 1048576 + a * 1024 + b)) (ha : rc_isF a la) (he : rc_isF e l) (hk : k < l) (hb : b = e - k) (pa : 0 ≤ Z a) (hz : z = Z a * 10 + (rc_dg (Z e).natAbs k : Nat)) (hv : z.natAbs < 10 ^ la)
    (H : rc_Rn post (rc_st h g (nI (p + 1)) od cd nc ty 0 pn (rc_zs Z a z) a21 a22 a23)) : rc_Rn post (rc_st h g (nI p) od cd nc ty 0 pn Z a21 a22 a23) := by
  have a4 := ha.2.2.2.1
  have e4 := he.2.2.2.1
  refine rc_nx (fun P hP => rc_s75 hp hw (by omega) (by omega) (by omega) ?_) H
  unfold wX_step_75
  refine br_f (by decide) (br_f (by decide) (br_f (by decide) (br_f (by decide) (br_t (by decide) (br_f (by decide) (br_f (by decide) ?_))))))
  unfold wpX_workOnDigits
  dsimp only
  refine br_t (by decide) ⟨vp_in_nI (by omega) (by omega), ?_⟩
  rw [nI_clamp (by omega), hb, rc_dm_f he hk]
  exact rc_shift ha (rc_dg_lt _ _) pa hz hv hP
theorem rm_dn0 {post : Int32 → St2 → Prop} {h : Nat → Int32} {g : Nat → Nat → Int32} {p : Nat} {od : Int32} {cd : Int32} {nc : Int32} {ty : Int32} {pn : Int32} {Z : Nat → Int} {a21 : Nat → Int32} {a22 : Nat → Int32} {a23 : Nat → Int32} {a b : Nat} (hp : p < 420) (hw : g 19 p = nI (15 * 1048576 + a * 1024 + b)) (ha : rc_isF a 1) (hb : b < 1024) (hz : Z a = 0) (H : rc_Rn post (rc_st h g (nI b) od cd nc ty 0 pn Z a21 a22 a23)) : rc_Rn post (rc_st h g (nI p) od cd nc ty 0 pn Z a21 a22 a23) := by
  have a4 := ha.2.2.2.1
  refine rc_nx (fun P hP => rc_s75 hp hw (by omega) (by omega) (by omega) ?_) H
  unfold wX_step_75
  refine br_f (by decide) (br_f (by decide) (br_f (by decide) (br_f (by decide) (br_t (by decide) (br_f (by decide) (br_f (by decide) ?_))))))
  unfold wpX_workOnDigits
  dsimp only
  refine br_f (by decide) (br_t (by decide) ⟨vp_in_nI (by omega) (by omega), br_t ?_ hP⟩)
  rw [nI_clamp (by omega), rc_dm1 ha (by omega), hz]
  rfl
theorem rm_dn1 {post : Int32 → St2 → Prop} {h : Nat → Int32} {g : Nat → Nat → Int32} {p : Nat} {od : Int32} {cd : Int32} {nc : Int32} {ty : Int32} {pn : Int32} {Z : Nat → Int} {a21 : Nat → Int32} {a22 : Nat → Int32} {a23 : Nat → Int32} {a b : Nat} (hp : p < 420) (hw : g 19 p = nI (15 * 1048576 + a * 1024 + b)) (ha : rc_isF a 1) (hb : b < 1024) (hz : 0 < Z a) (h9 : Z a < 10) (H : rc_Rn post (rc_st h g (nI (p + 1)) od cd nc ty 0 pn (rc_zs Z a (Z a - 1)) a21 a22 a23)) : rc_Rn post (rc_st h g (nI p) od cd nc ty 0 pn Z a21 a22 a23) := by
  have a4 := ha.2.2.2.1
  refine rc_nx (fun P hP => rc_s75 hp hw (by omega) (by omega) (by omega) ?_) H
  unfold wX_step_75
  refine br_f (by decide) (br_f (by decide) (br_f (by decide) (br_f (by decide) (br_t (by decide) (br_f (by decide) (br_f (by decide) ?_))))))
  unfold wpX_workOnDigits
  dsimp only
  have e1 : rc_dm Z a = nI (Z a).natAbs := rc_dm1 ha (by omega)
  refine br_f (by decide) (br_t (by decide) ⟨vp_in_nI (by omega) (by omega), br_f ?_ ⟨vp_in_nI (by omega) (by omega), vp_in_nI (by omega) (by omega), nm_r (e' := rc_dm (rc_zs Z a (Z a - 1))) ?_ ?_⟩⟩)
  · rw [nI_clamp (by omega), e1]
    exact nI_ne0 (by omega) (by omega)
  · have e2 : nI (Z a).natAbs - 1 = nI ((Z a).natAbs - 1) := by
      have t := nI_pred ((Z a).natAbs - 1)
      rwa [show (Z a).natAbs - 1 + 1 = (Z a).natAbs by omega] at t
    rw [nI_clamp (by omega), e1, e2, rc_nb _ (by omega)]
    exact rc_one ha (by omega) (by omega)
  · rw [rc_sm_k (Z := Z) (e := a) (z := Z a - 1) (by omega)]
    exact hP
theorem rm_up {post : Int32 → St2 → Prop} {h : Nat → Int32} {g : Nat → Nat → Int32} {p : Nat} {od : Int32} {cd : Int32} {nc : Int32} {ty : Int32} {pn : Int32} {Z : Nat → Int} {a21 : Nat → Int32} {a22 : Nat → Int32} {a23 : Nat → Int32} {a b : Nat} (hp : p < 420) (hw : g 19 p = nI (16 * 1048576 + a * 1024 + b)) (ha : rc_isF a 1) (hb : b < 1024) (hz : 0 ≤ Z a) (h9 : Z a < 9) (H : rc_Rn post (rc_st h g (nI (p + 1)) od cd nc ty 0 pn (rc_zs Z a (Z a + 1)) a21 a22 a23)) : rc_Rn post (rc_st h g (nI p) od cd nc ty 0 pn Z a21 a22 a23) := by
  have a4 := ha.2.2.2.1
  refine rc_nx (fun P hP => rc_s75 hp hw (by omega) (by omega) (by omega) ?_) H
  unfold wX_step_75
  refine br_f (by decide) (br_f (by decide) (br_f (by decide) (br_f (by decide) (br_t (by decide) (br_f (by decide) (br_f (by decide) ?_))))))
  unfold wpX_workOnDigits
  dsimp only
  have e1 : rc_dm Z a = nI (Z a).natAbs := rc_dm1 ha (by omega)
  refine br_f (by decide) (br_f (by decide) (br_t (by decide) ⟨vp_in_nI (by omega) (by omega), vp_in_nI (by omega) (by omega), nm_r (e' := rc_dm (rc_zs Z a (Z a + 1))) ?_ ?_⟩))
  · rw [nI_clamp (by omega), e1, nI_1, rc_nb _ (by omega)]
    exact rc_one ha (by omega) (by omega)
  · rw [rc_sm_k (Z := Z) (e := a) (z := Z a + 1) (by omega)]
    exact hP
theorem rm_plain {post : Int32 → St2 → Prop} {h : Nat → Int32} {g : Nat → Nat → Int32} {p : Nat} {od : Int32} {cd : Int32} {nc : Int32} {ty : Int32} {pn : Int32} {Z : Nat → Int} {a21 : Nat → Int32} {a22 : Nat → Int32} {a23 : Nat → Int32} {a b : Nat} (hp : p < 420) (hw : g 19 p = nI (17 * 1048576 + a * 1024 + b)) (ha : a < 153) (hb : b < 1024) (H : rc_Rn post (rc_st h g (nI (p + 1)) od cd nc ty 0 pn (rc_zs Z a ((Z a).natAbs : Int)) a21 a22 a23)) : rc_Rn post (rc_st h g (nI p) od cd nc ty 0 pn Z a21 a22 a23) := by
  refine rc_nx (fun P hP => rc_s75 hp hw (by omega) (by omega) (by omega) ?_) H
  unfold wX_step_75
  refine br_f (by decide) (br_f (by decide) (br_f (by decide) (br_f (by decide) (br_t (by decide) (br_f (by decide) (br_f (by decide) ?_))))))
  unfold wpX_workOnDigits
  dsimp only
  refine br_f (by decide) (br_f (by decide) (br_f (by decide) (br_t (by decide) ⟨vp_in_nI (by omega) (by omega), nm_r (e' := rc_sm (rc_zs Z a ((Z a).natAbs : Int))) (by rw [nI_clamp (by omega)]; exact rc_sm_p (by omega)) ?_⟩)))
  rw [rc_dmabs (Z := Z) (e := a) (z := ((Z a).natAbs : Int)) (by omega)]
  exact hP
theorem rm_dig {post : Int32 → St2 → Prop} {h : Nat → Int32} {g : Nat → Nat → Int32} {p : Nat} {od : Int32} {cd : Int32} {nc : Int32} {ty : Int32} {pn : Int32} {Z : Nat → Int} {a21 : Nat → Int32} {a22 : Nat → Int32} {a23 : Nat → Int32} {a b e l k : Nat} (hp : p < 420) (hw : g 19 p = nI (18 * 1048576 + a * 1024 + b)) (he : rc_isF e l) (hk : k < l) (ha : a = e - k) (hb : rc_isF b 1) (hz : 0 ≤ Z b) (H : rc_Rn post (rc_st h g (nI (p + 1)) od cd nc ty 0 pn (rc_zs Z b ((rc_dg (Z e).natAbs k : Nat) : Int)) a21 a22 a23)) : rc_Rn post (rc_st h g (nI p) od cd nc ty 0 pn Z a21 a22 a23) := by
  have e4 := he.2.2.2.1
  have b4 := hb.2.2.2.1
  have dl := rc_dg_lt (Z e).natAbs k
  refine rc_nx (fun P hP => rc_s75 hp hw (by omega) (by omega) (by omega) ?_) H
  unfold wX_step_75
  refine br_f (by decide) (br_f (by decide) (br_f (by decide) (br_f (by decide) (br_t (by decide) (br_f (by decide) (br_f (by decide) ?_))))))
  unfold wpX_workOnDigits
  dsimp only
  refine br_f (by decide) (br_f (by decide) (br_f (by decide) (br_f (by decide) ⟨vp_in_nI (by omega) (by omega), vp_in_nI (by omega) (by omega), nm_r (e' := rc_dm (rc_zs Z b ((rc_dg (Z e).natAbs k : Nat) : Int))) ?_ ?_⟩)))
  · rw [nI_clamp (by omega), nI_clamp (by omega), ha, rc_dm_f he hk, rc_vb (by omega)]
    exact rc_one hb (by omega) dl
  · rw [rc_sm_k (Z := Z) (e := b) (z := ((rc_dg (Z e).natAbs k : Nat) : Int)) (by omega)]
    exact hP
end
section
theorem rc_ns : ∀ q, q < 1000 → (nI q).toInt16.toInt32 = nI q := by decide +kernel
theorem rm_call {post : Int32 → St2 → Prop} {h : Nat → Int32} {g : Nat → Nat → Int32} {p : Nat} {od : Int32} {nc : Int32} {ty : Int32} {pn : Int32} {Z : Nat → Int} {a21 : Nat → Int32} {a22 : Nat → Int32} {a23 : Nat → Int32} {a b c : Nat} (hp : p < 420) (hw : g 19 p = nI (19 * 1048576 + a * 1024 + b)) (ha : a < 1024) (hb : b < 1024) (hc : c < 4) (H : rc_Rn post (rc_st h g (nI b) od (nI (c + 1)) nc ty 0 pn Z (upd a21 c (nI (p + 1))) a22 a23)) : rc_Rn post (rc_st h g (nI p) od (nI c) nc ty 0 pn Z a21 a22 a23) := by
  refine rc_nx (fun P hP => rc_s75 hp hw (by omega) (by omega) (by omega) ?_) H
  unfold wX_step_75
  refine br_f (by decide) (br_f (by decide) (br_f (by decide) (br_f (by decide) (br_t (by decide) (br_f (by decide) (br_t (by decide) ?_))))))
  unfold wpX_control
  dsimp only
  exact br_t (by decide) ⟨vp_in_nI hc (by omega), nm_r (e' := upd a21 c (nI (p + 1))) (by rw [nI_clamp (by omega), rc_ns _ (by omega)]) (nm_r (nI_1 c) hP)⟩
theorem rm_ret {post : Int32 → St2 → Prop} {h : Nat → Int32} {g : Nat → Nat → Int32} {p : Nat} {od : Int32} {nc : Int32} {ty : Int32} {pn : Int32} {Z : Nat → Int} {a21 : Nat → Int32} {a22 : Nat → Int32} {a23 : Nat → Int32} {a b c q : Nat} (hp : p < 420) (hw : g 19 p = nI (20 * 1048576 + a * 1024 + b)) (ha : a < 1024) (hb : b < 1024) (hc : c < 4) (hq : a21 c = nI q) (H : rc_Rn post (rc_st h g (nI q) od (nI c) nc ty 0 pn Z a21 a22 a23)) : rc_Rn post (rc_st h g (nI p) od (nI (c + 1)) nc ty 0 pn Z a21 a22 a23) := by
  refine rc_nx (fun P hP => rc_s75 hp hw (by omega) (by omega) (by omega) ?_) H
  unfold wX_step_75
  refine br_f (by decide) (br_f (by decide) (br_f (by decide) (br_f (by decide) (br_t (by decide) (br_f (by decide) (br_t (by decide) ?_))))))
  unfold wpX_control
  dsimp only
  exact br_f (by decide) (br_t (by decide) (nm_r (nI_pred c) ⟨vp_in_nI hc (by omega), nm_r (e' := nI q) (by rw [nI_clamp (by omega), hq]) hP⟩))
theorem rc_pr {cc lc lv me sm pd lf rt rs qt tx ct sg ve zr on cp ce mu dv pr pc od cd nc ty vl : Int32} {a1 a2 a3 a4 a5 a6 a7 a8 a9 a10 a11 a12 a13 a14 a15 a16 a17 a18 a19 a20 a21 a22 a23 : Nat → Int32} {post : St2 → Prop} {m c : Nat} (hm : m < 80) (hc : c < 100) (H : post (cc, lc, lv, me, sm, pd, lf, rt, rs, qt, tx, ct, sg, ve, zr, on, cp, ce, mu, dv, pr, pc, od, cd, nc, ty, vl, nI (m + 1), a1, a2, a3, a4, a5, a6, a7, a8, a9, a10, a11, a12, a13, a14, a15, a16, a17, a18, a19, a20, a21, a22, upd a23 m (nI c))) : wpX_print post (cc, lc, lv, me, sm, pd, lf, rt, rs, qt, tx, ct, sg, ve, zr, on, cp, ce, mu, dv, pr, pc, od, cd, nc, ty, vl, nI m, a1, a2, a3, a4, a5, a6, a7, a8, a9, a10, a11, a12, a13, a14, a15, a16, a17, a18, a19, a20, a21, a22, a23) (nI c) := by
  unfold wpX_print
  dsimp only
  exact pk_le 80 m (fun z => absurd z (by omega)) (fun _ => ⟨vp_in_nI hm (by omega), nm_r (e' := upd a23 m (nI c)) (by rw [nI_clamp (by omega), rc_nb c hc]) (nm_r (nI_1 m) H)⟩)
theorem rm_pd {post : Int32 → St2 → Prop} {h : Nat → Int32} {g : Nat → Nat → Int32} {p : Nat} {od : Int32} {cd : Int32} {nc : Int32} {ty : Int32} {Z : Nat → Int} {a21 : Nat → Int32} {a22 : Nat → Int32} {a23 : Nat → Int32} {a b e l k m : Nat} (hp : p < 420) (hw : g 19 p = nI (21 * 1048576 + a * 1024 + b)) (he : rc_isF e l) (hk : k < l) (ha : a = e - k) (hb : b < 1024) (hm : m < 80) (H : rc_Rn post (rc_st h g (nI (p + 1)) od cd nc ty 0 (nI (m + 1)) Z a21 a22 (upd a23 m (nI (48 + rc_dg (Z e).natAbs k))))) : rc_Rn post (rc_st h g (nI p) od cd nc ty 0 (nI m) Z a21 a22 a23) := by
  have e4 := he.2.2.2.1
  have dl := rc_dg_lt (Z e).natAbs k
  refine rc_nx (fun P hP => rc_s75 hp hw (by omega) (by omega) (by omega) ?_) H
  unfold wX_step_75
  refine br_f (by decide) (br_f (by decide) (br_f (by decide) (br_f (by decide) (br_t (by decide) (br_f (by decide) (br_t (by decide) ?_))))))
  unfold wpX_control
  dsimp only
  refine br_f (by decide) (br_f (by decide) (br_t (by decide) ⟨vp_in_nI (by omega) (by omega), ?_⟩))
  rw [nI_clamp (by omega), ha, rc_dm_f he hk, show (48 : Int32) = nI 48 from rfl, nI_add]
  exact rc_pr hm (by omega) hP
theorem rm_put {post : Int32 → St2 → Prop} {h : Nat → Int32} {g : Nat → Nat → Int32} {p : Nat} {od : Int32} {cd : Int32} {nc : Int32} {ty : Int32} {Z : Nat → Int} {a21 : Nat → Int32} {a22 : Nat → Int32} {a23 : Nat → Int32} {a b m : Nat} (hp : p < 420) (hw : g 19 p = nI (22 * 1048576 + a * 1024 + b)) (ha : a < 100) (hb : b < 1024) (hm : m < 80) (H : rc_Rn post (rc_st h g (nI (p + 1)) od cd nc ty 0 (nI (m + 1)) Z a21 a22 (upd a23 m (nI a)))) : rc_Rn post (rc_st h g (nI p) od cd nc ty 0 (nI m) Z a21 a22 a23) := by
  refine rc_nx (fun P hP => rc_s75 hp hw (by omega) (by omega) (by omega) ?_) H
  unfold wX_step_75
  refine br_f (by decide) (br_f (by decide) (br_f (by decide) (br_f (by decide) (br_t (by decide) (br_f (by decide) (br_t (by decide) ?_))))))
  unfold wpX_control
  dsimp only
  exact br_f (by decide) (br_f (by decide) (br_f (by decide) (br_t (by decide) (rc_pr hm ha hP))))
theorem rm_im {post : Int32 → St2 → Prop} {h : Nat → Int32} {g : Nat → Nat → Int32} {p : Nat} {od : Int32} {cd : Int32} {nc : Int32} {ty : Int32} {pn : Int32} {Z : Nat → Int} {a21 : Nat → Int32} {a22 : Nat → Int32} {a23 : Nat → Int32} {a b : Nat} (hp : p < 420) (hw : g 19 p = nI (23 * 1048576 + a * 1024 + b)) (ha : a < 153) (hb : b < 1024) (H0 : 0 ≤ Z a → rc_Rn post (rc_st h g (nI (p + 1)) od cd nc ty 0 pn Z a21 a22 a23)) (H1 : Z a < 0 → rc_Rn post (rc_st h g (nI b) od cd nc ty 0 pn Z a21 a22 a23)) : rc_Rn post (rc_st h g (nI p) od cd nc ty 0 pn Z a21 a22 a23) := by
  rcases rc_lg (Z a) with q | q
  · refine rc_nx (fun P hP => rc_s75 hp hw (by omega) (by omega) (by omega) ?_) (H1 q)
    unfold wX_step_75
    refine br_f (by decide) (br_f (by decide) (br_f (by decide) (br_f (by decide) (br_t (by decide) (br_f (by decide) (br_t (by decide) ?_))))))
    unfold wpX_control
    dsimp only
    exact br_f (by decide) (br_f (by decide) (br_f (by decide) (br_f (by decide) (br_t (by decide) ⟨vp_in_nI (by omega) (by omega), br_f (by rw [nI_clamp (by omega), rc_sm_1 q]; decide) hP⟩))))
  · refine rc_nx (fun P hP => rc_s75 hp hw (by omega) (by omega) (by omega) ?_) (H0 q)
    unfold wX_step_75
    refine br_f (by decide) (br_f (by decide) (br_f (by decide) (br_f (by decide) (br_t (by decide) (br_f (by decide) (br_t (by decide) ?_))))))
    unfold wpX_control
    dsimp only
    exact br_f (by decide) (br_f (by decide) (br_f (by decide) (br_f (by decide) (br_t (by decide) ⟨vp_in_nI (by omega) (by omega), br_t (by rw [nI_clamp (by omega), rc_sm_0 q]) hP⟩))))
theorem rm_iz {post : Int32 → St2 → Prop} {h : Nat → Int32} {g : Nat → Nat → Int32} {p : Nat} {od : Int32} {cd : Int32} {nc : Int32} {ty : Int32} {pn : Int32} {Z : Nat → Int} {a21 : Nat → Int32} {a22 : Nat → Int32} {a23 : Nat → Int32} {a b e l k : Nat} (hp : p < 420) (hw : g 19 p = nI (24 * 1048576 + a * 1024 + b)) (he : rc_isF e l) (hk : k < l) (ha : a = e - k) (hb : b < 1024) (H0 : rc_dg (Z e).natAbs k = 0 → rc_Rn post (rc_st h g (nI b) od cd nc ty 0 pn Z a21 a22 a23)) (H1 : rc_dg (Z e).natAbs k ≠ 0 → rc_Rn post (rc_st h g (nI (p + 1)) od cd nc ty 0 pn Z a21 a22 a23)) : rc_Rn post (rc_st h g (nI p) od cd nc ty 0 pn Z a21 a22 a23) := by
  have e4 := he.2.2.2.1
  have dl := rc_dg_lt (Z e).natAbs k
  by_cases q : rc_dg (Z e).natAbs k = 0
  · refine rc_nx (fun P hP => rc_s75 hp hw (by omega) (by omega) (by omega) ?_) (H0 q)
    unfold wX_step_75
    refine br_f (by decide) (br_f (by decide) (br_f (by decide) (br_f (by decide) (br_t (by decide) (br_f (by decide) (br_t (by decide) ?_))))))
    unfold wpX_control
    dsimp only
    exact br_f (by decide) (br_f (by decide) (br_f (by decide) (br_f (by decide) (br_f (by decide) (br_t (by decide) ⟨vp_in_nI (by omega) (by omega), br_t (by rw [nI_clamp (by omega), ha, rc_dm_f he hk, q]; rfl) hP⟩)))))
  · refine rc_nx (fun P hP => rc_s75 hp hw (by omega) (by omega) (by omega) ?_) (H1 q)
    unfold wX_step_75
    refine br_f (by decide) (br_f (by decide) (br_f (by decide) (br_f (by decide) (br_t (by decide) (br_f (by decide) (br_t (by decide) ?_))))))
    unfold wpX_control
    dsimp only
    exact br_f (by decide) (br_f (by decide) (br_f (by decide) (br_f (by decide) (br_f (by decide) (br_t (by decide) ⟨vp_in_nI (by omega) (by omega), br_f (by rw [nI_clamp (by omega), ha, rc_dm_f he hk]; exact nI_ne0 (by omega) (by omega)) hP⟩)))))
theorem rm_turn {post : Int32 → St2 → Prop} {h : Nat → Int32} {g : Nat → Nat → Int32} {p : Nat} {od : Int32} {cd : Int32} {nc : Int32} {ty : Int32} {pn : Int32} {Z : Nat → Int} {a21 : Nat → Int32} {a22 : Nat → Int32} {a23 : Nat → Int32} {a la b : Nat} (hp : p < 420) (hw : g 19 p = nI (25 * 1048576 + a * 1024 + b)) (ha : rc_isF a la) (hb : b < 1024) (pa : 0 ≤ Z a) (hv : (Z a).natAbs < 10 ^ la) (H : rc_Rn post (rc_st h g (nI (p + 1)) od cd nc ty 0 pn (rc_zs Z a (-Z a)) a21 a22 a23)) : rc_Rn post (rc_st h g (nI p) od cd nc ty 0 pn Z a21 a22 a23) := by
  have a4 := ha.2.2.2.1
  refine rc_nx (fun P hP => rc_s75 hp hw (by omega) (by omega) (by omega) ?_) H
  unfold wX_step_75
  refine br_f (by decide) (br_f (by decide) (br_f (by decide) (br_f (by decide) (br_t (by decide) (br_f (by decide) (br_t (by decide) ?_))))))
  unfold wpX_control
  dsimp only
  refine br_f (by decide) (br_f (by decide) (br_f (by decide) (br_f (by decide) (br_f (by decide) (br_f (by decide) (br_t (by decide) ⟨vp_in_nI (by omega) (by omega), br_t (by rw [nI_clamp (by omega), rc_sm_0 pa]) (rc_isz ha hv (fun q => br_f (by decide) ⟨vp_in_nI (by omega) (by omega), nm_r (e' := rc_sm (rc_zs Z a (-Z a))) (by rw [nI_clamp (by omega)]; exact rc_sm_p (by omega)) ?_⟩) (fun q => br_t rfl ⟨vp_in_nI (by omega) (by omega), nm_r (e' := rc_sm (rc_zs Z a (-Z a))) (by rw [nI_clamp (by omega)]; exact rc_sm_m (by omega)) ?_⟩))⟩))))))
  · rw [rc_dmabs (Z := Z) (e := a) (z := -Z a) (by omega)]
    exact hP
  · rw [rc_dmabs (Z := Z) (e := a) (z := -Z a) (by omega)]
    exact hP
theorem rm_tally {post : Int32 → St2 → Prop} {h : Nat → Int32} {g : Nat → Nat → Int32} {p : Nat} {od : Int32} {cd : Int32} {nc : Int32} {pn : Int32} {Z : Nat → Int} {a21 : Nat → Int32} {a22 : Nat → Int32} {a23 : Nat → Int32} {a b t : Nat} (hp : p < 420) (hw : g 19 p = nI (26 * 1048576 + a * 1024 + b)) (ha : a < 1024) (hb : b < 1024) (H : rc_Rn post (rc_st h g (nI (p + 1)) od cd nc (nI (t + 1)) 0 pn Z a21 a22 a23)) : rc_Rn post (rc_st h g (nI p) od cd nc (nI t) 0 pn Z a21 a22 a23) := by
  refine rc_nx (fun P hP => rc_s75 hp hw (by omega) (by omega) (by omega) ?_) H
  unfold wX_step_75
  refine br_f (by decide) (br_f (by decide) (br_f (by decide) (br_f (by decide) (br_t (by decide) (br_f (by decide) (br_t (by decide) ?_))))))
  unfold wpX_control
  dsimp only
  exact br_f (by decide) (br_f (by decide) (br_f (by decide) (br_f (by decide) (br_f (by decide) (br_f (by decide) (br_f (by decide) (br_t (by decide) (nm_r (nI_1 t) hP))))))))
theorem rm_end {post : Int32 → St2 → Prop} {h : Nat → Int32} {g : Nat → Nat → Int32} {p : Nat} {od : Int32} {cd : Int32} {nc : Int32} {ty : Int32} {pn : Int32} {Z : Nat → Int} {a21 : Nat → Int32} {a22 : Nat → Int32} {a23 : Nat → Int32} {a b : Nat} (hp : p < 420) (hw : g 19 p = nI (13 * 1048576 + a * 1024 + b)) (ha : a < 1024) (hb : b < 1024) (hn : nc = h 0) (H : rc_Rn post (rc_st h g (nI b) od cd nc ty 0 pn Z a21 a22 a23)) : rc_Rn post (rc_st h g (nI p) od cd nc ty 0 pn Z a21 a22 a23) := by
  refine rc_nx (fun P hP => rc_s75 hp hw (by omega) (by omega) (by omega) ?_) H
  unfold wX_step_75
  refine br_f (by decide) (br_f (by decide) (br_f (by decide) (br_f (by decide) (br_t (by decide) (br_t (by decide) ?_)))))
  unfold wpX_read
  dsimp only
  exact br_t hn hP
theorem rm_read {post : Int32 → St2 → Prop} {h : Nat → Int32} {g : Nat → Nat → Int32} {p : Nat} {od : Int32} {cd : Int32} {ty : Int32} {pn : Int32} {Z : Nat → Int} {a21 : Nat → Int32} {a22 : Nat → Int32} {a23 : Nat → Int32} {a b : Nat} {x y : Int} (hp : p < 420) (hw : g 19 p = nI (13 * 1048576 + a * 1024 + b)) (ha : a < 1024) (hb : b < 1024) (hn : ¬ (0 : Int32) = h 0) (k0 : g 17 0 = nI 39) (k1 : g 17 1 = nI 43) (k2 : g 17 2 = nI 49) (k3 : g 17 3 = nI 55)
    (c0 : g 1 0 = rc_iI 7) (c1 : g 2 0 = rc_iI 7) (c2 : g 3 0 = rc_iI x) (c3 : g 4 0 = rc_iI y) (hx : x.natAbs < 1000) (hy : y.natAbs < 1000)
    (H : rc_Rn post (rc_st h g (nI (p + 1)) od cd 1 ty 0 pn (rc_zs (rc_zs (rc_zs (rc_zs Z 39 7) 43 7) 49 x) 55 y) a21 a22 a23)) : rc_Rn post (rc_st h g (nI p) od cd 0 ty 0 pn Z a21 a22 a23) := by
  refine rc_nx (fun P hP => rc_s75 hp hw (by omega) (by omega) (by omega) ?_) H
  unfold wX_step_75
  refine br_f (by decide) (br_f (by decide) (br_f (by decide) (br_f (by decide) (br_t (by decide) (br_t (by decide) ?_)))))
  unfold wpX_read
  dsimp only
  refine br_f hn ⟨vp_in_nI (n := 0) (by decide) (by decide), rc_set rc_f39 (z := 7) (by decide) (by decide) k0 c0 ⟨vp_in_nI (n := 0) (by decide) (by decide), rc_set rc_f43 (z := 7) (by decide) (by decide) k1 c1 ⟨vp_in_nI (n := 0) (by decide) (by decide), rc_set rc_f49 (z := x) (by omega) (by omega) k2 c2 ⟨vp_in_nI (n := 0) (by decide) (by decide), rc_set rc_f55 (z := y) (by omega) (by omega) k3 c3 (nm_r (e' := 1) (show (0 : Int32) + 1 = 1 by decide) hP)⟩⟩⟩⟩
end
section
/-- the words 1 .. 135: multiply, divide, print -/
def rc_preT : List Nat := [18 * 1048576 + 151 * 1024 + 149, 23 * 1048576 + 122 * 1024 + 4, 5 * 1048576 + 0 * 1024 + 6, 16 * 1048576 + 149 * 1024 + 0, 17 * 1048576 + 122 * 1024 + 0, 23 * 1048576 + 128 * 1024 + 8, 5 * 1048576 + 0 * 1024 + 10, 16 * 1048576 + 149 * 1024 + 0, 17 * 1048576 + 128 * 1024 + 0, 1 * 1048576 + 151 * 1024 + 116, 14 * 1048576 + 116 * 1024 + 151, 18 * 1048576 + 123 * 1024 + 148, 15 * 1048576 + 148 * 1024 + 16, 2 * 1048576 + 122 * 1024 + 116, 5 * 1048576 + 0 * 1024 + 13, 14 * 1048576 + 116 * 1024 + 151, 18 * 1048576 + 124 * 1024 + 148, 15 * 1048576 + 148 * 1024 + 21, 2 * 1048576 + 122 * 1024 + 116, 5 * 1048576 + 0 * 1024 + 18, 14 * 1048576 + 116 * 1024 + 151, 18 * 1048576 + 125 * 1024 + 148, 15 * 1048576 + 148 * 1024 + 26, 2 * 1048576 + 122 * 1024 + 116, 5 * 1048576 + 0 * 1024 + 23, 14 * 1048576 + 116 * 1024 + 151, 18 * 1048576 + 126 * 1024 + 148, 15 * 1048576 + 148 * 1024 + 31, 2 * 1048576 + 122 * 1024 + 116, 5 * 1048576 + 0 * 1024 + 28, 14 * 1048576 + 116 * 1024 + 151, 18 * 1048576 + 127 * 1024 + 148, 15 * 1048576 + 148 * 1024 + 36, 2 * 1048576 + 122 * 1024 + 116, 5 * 1048576 + 0 * 1024 + 33, 14 * 1048576 + 116 * 1024 + 151, 18 * 1048576 + 128 * 1024 + 148, 15 * 1048576 + 148 * 1024 + 41, 2 * 1048576 + 122 * 1024 + 116, 5 * 1048576 + 0 * 1024 + 38, 15 * 1048576 + 149 * 1024 + 45, 24 * 1048576 + 149 * 1024 + 44, 20 * 1048576 + 0 * 1024 + 0, 25 * 1048576 + 116 * 1024 + 0, 20 * 1048576 + 0 * 1024 + 0, 18 * 1048576 + 151 * 1024 + 149, 23 * 1048576 + 122 * 1024 + 49, 5 * 1048576 + 0 * 1024 + 51, 16 * 1048576 + 149 * 1024 + 0, 17 * 1048576 + 122 * 1024 + 0, 23 * 1048576 + 128 * 1024 + 53, 5 * 1048576 + 0 * 1024 + 55, 16 * 1048576 + 149 * 1024 + 0, 17 * 1048576 + 128 * 1024 + 0, 1 * 1048576 + 151 * 1024 + 141, 4 * 1048576 + 128 * 1024 + 151, 6 * 1048576 + 0 * 1024 + 60, 11 * 1048576 + 3 * 1024 + 0, 20 * 1048576 + 0 * 1024 + 0, 1 * 1048576 + 151 * 1024 + 135, 14 * 1048576 + 135 * 1024 + 117, 18 * 1048576 + 151 * 1024 + 148, 4 * 1048576 + 135 * 1024 + 128, 7 * 1048576 + 0 * 1024 + 68, 3 * 1048576 + 128 * 1024 + 135, 16 * 1048576 + 148 * 1024 + 0, 5 * 1048576 + 0 * 1024 + 63, 14 * 1048576 + 141 * 1024 + 148, 14 * 1048576 + 135 * 1024 + 118, 18 * 1048576 + 151 * 1024 + 148, 4 * 1048576 + 135 * 1024 + 128, 7 * 1048576 + 0 * 1024 + 76, 3 * 1048576 + 128 * 1024 + 135, 16 * 1048576 + 148 * 1024 + 0, 5 * 1048576 + 0 * 1024 + 71, 14 * 1048576 + 141 * 1024 + 148, 14 * 1048576 + 135 * 1024 + 119, 18 * 1048576 + 151 * 1024 + 148, 4 * 1048576 + 135 * 1024 + 128, 7 * 1048576 + 0 * 1024 + 84, 3 * 1048576 + 128 * 1024 + 135, 16 * 1048576 + 148 * 1024 + 0, 5 * 1048576 + 0 * 1024 + 79, 14 * 1048576 + 141 * 1024 + 148, 14 * 1048576 + 135 * 1024 + 120, 18 * 1048576 + 151 * 1024 + 148, 4 * 1048576 + 135 * 1024 + 128, 7 * 1048576 + 0 * 1024 + 92, 3 * 1048576 + 128 * 1024 + 135, 16 * 1048576 + 148 * 1024 + 0, 5 * 1048576 + 0 * 1024 + 87, 14 * 1048576 + 141 * 1024 + 148, 14 * 1048576 + 135 * 1024 + 121, 18 * 1048576 + 151 * 1024 + 148, 4 * 1048576 + 135 * 1024 + 128, 7 * 1048576 + 0 * 1024 + 100, 3 * 1048576 + 128 * 1024 + 135, 16 * 1048576 + 148 * 1024 + 0, 5 * 1048576 + 0 * 1024 + 95, 14 * 1048576 + 141 * 1024 + 148, 14 * 1048576 + 135 * 1024 + 122, 18 * 1048576 + 151 * 1024 + 148, 4 * 1048576 + 135 * 1024 + 128, 7 * 1048576 + 0 * 1024 + 108, 3 * 1048576 + 128 * 1024 + 135, 16 * 1048576 + 148 * 1024 + 0, 5 * 1048576 + 0 * 1024 + 103, 14 * 1048576 + 141 * 1024 + 148, 15 * 1048576 + 149 * 1024 + 113, 24 * 1048576 + 149 * 1024 + 112, 20 * 1048576 + 0 * 1024 + 0, 25 * 1048576 + 141 * 1024 + 0, 20 * 1048576 + 0 * 1024 + 0, 23 * 1048576 + 147 * 1024 + 116, 5 * 1048576 + 0 * 1024 + 117, 22 * 1048576 + 45 * 1024 + 0, 24 * 1048576 + 142 * 1024 + 119, 5 * 1048576 + 0 * 1024 + 128, 24 * 1048576 + 143 * 1024 + 121, 5 * 1048576 + 0 * 1024 + 129, 24 * 1048576 + 144 * 1024 + 123, 5 * 1048576 + 0 * 1024 + 130, 24 * 1048576 + 145 * 1024 + 125, 5 * 1048576 + 0 * 1024 + 131, 24 * 1048576 + 146 * 1024 + 127, 5 * 1048576 + 0 * 1024 + 132, 5 * 1048576 + 0 * 1024 + 133, 21 * 1048576 + 142 * 1024 + 0, 21 * 1048576 + 143 * 1024 + 0, 21 * 1048576 + 144 * 1024 + 0, 21 * 1048576 + 145 * 1024 + 0, 21 * 1048576 + 146 * 1024 + 0, 21 * 1048576 + 147 * 1024 + 0, 22 * 1048576 + 32 * 1024 + 0, 20 * 1048576 + 0 * 1024 + 0]
def rc_pre (g : Nat → Nat → Int32) : Prop := ∀ i, i < 135 → g 19 (i + 1) = nI (rc_preT.getD i 0)
theorem rc_c1 {g : Nat → Nat → Int32} (hC : rc_pre g) : g 19 1 = nI (18 * 1048576 + 151 * 1024 + 149) := hC 0 (by decide)
theorem rc_c2 {g : Nat → Nat → Int32} (hC : rc_pre g) : g 19 2 = nI (23 * 1048576 + 122 * 1024 + 4) := hC 1 (by decide)
theorem rc_c3 {g : Nat → Nat → Int32} (hC : rc_pre g) : g 19 3 = nI (5 * 1048576 + 0 * 1024 + 6) := hC 2 (by decide)
theorem rc_c4 {g : Nat → Nat → Int32} (hC : rc_pre g) : g 19 4 = nI (16 * 1048576 + 149 * 1024 + 0) := hC 3 (by decide)
theorem rc_c5 {g : Nat → Nat → Int32} (hC : rc_pre g) : g 19 5 = nI (17 * 1048576 + 122 * 1024 + 0) := hC 4 (by decide)
theorem rc_c6 {g : Nat → Nat → Int32} (hC : rc_pre g) : g 19 6 = nI (23 * 1048576 + 128 * 1024 + 8) := hC 5 (by decide)
theorem rc_c7 {g : Nat → Nat → Int32} (hC : rc_pre g) : g 19 7 = nI (5 * 1048576 + 0 * 1024 + 10) := hC 6 (by decide)
theorem rc_c8 {g : Nat → Nat → Int32} (hC : rc_pre g) : g 19 8 = nI (16 * 1048576 + 149 * 1024 + 0) := hC 7 (by decide)
theorem rc_c9 {g : Nat → Nat → Int32} (hC : rc_pre g) : g 19 9 = nI (17 * 1048576 + 128 * 1024 + 0) := hC 8 (by decide)
theorem rc_c10 {g : Nat → Nat → Int32} (hC : rc_pre g) : g 19 10 = nI (1 * 1048576 + 151 * 1024 + 116) := hC 9 (by decide)
theorem rc_c11 {g : Nat → Nat → Int32} (hC : rc_pre g) : g 19 11 = nI (14 * 1048576 + 116 * 1024 + 151) := hC 10 (by decide)
theorem rc_c12 {g : Nat → Nat → Int32} (hC : rc_pre g) : g 19 12 = nI (18 * 1048576 + 123 * 1024 + 148) := hC 11 (by decide)
theorem rc_c13 {g : Nat → Nat → Int32} (hC : rc_pre g) : g 19 13 = nI (15 * 1048576 + 148 * 1024 + 16) := hC 12 (by decide)
theorem rc_c14 {g : Nat → Nat → Int32} (hC : rc_pre g) : g 19 14 = nI (2 * 1048576 + 122 * 1024 + 116) := hC 13 (by decide)
theorem rc_c15 {g : Nat → Nat → Int32} (hC : rc_pre g) : g 19 15 = nI (5 * 1048576 + 0 * 1024 + 13) := hC 14 (by decide)
theorem rc_c16 {g : Nat → Nat → Int32} (hC : rc_pre g) : g 19 16 = nI (14 * 1048576 + 116 * 1024 + 151) := hC 15 (by decide)
theorem rc_c17 {g : Nat → Nat → Int32} (hC : rc_pre g) : g 19 17 = nI (18 * 1048576 + 124 * 1024 + 148) := hC 16 (by decide)
theorem rc_c18 {g : Nat → Nat → Int32} (hC : rc_pre g) : g 19 18 = nI (15 * 1048576 + 148 * 1024 + 21) := hC 17 (by decide)
theorem rc_c19 {g : Nat → Nat → Int32} (hC : rc_pre g) : g 19 19 = nI (2 * 1048576 + 122 * 1024 + 116) := hC 18 (by decide)
theorem rc_c20 {g : Nat → Nat → Int32} (hC : rc_pre g) : g 19 20 = nI (5 * 1048576 + 0 * 1024 + 18) := hC 19 (by decide)
theorem rc_c21 {g : Nat → Nat → Int32} (hC : rc_pre g) : g 19 21 = nI (14 * 1048576 + 116 * 1024 + 151) := hC 20 (by decide)
theorem rc_c22 {g : Nat → Nat → Int32} (hC : rc_pre g) : g 19 22 = nI (18 * 1048576 + 125 * 1024 + 148) := hC 21 (by decide)
theorem rc_c23 {g : Nat → Nat → Int32} (hC : rc_pre g) : g 19 23 = nI (15 * 1048576 + 148 * 1024 + 26) := hC 22 (by decide)
theorem rc_c24 {g : Nat → Nat → Int32} (hC : rc_pre g) : g 19 24 = nI (2 * 1048576 + 122 * 1024 + 116) := hC 23 (by decide)
theorem rc_c25 {g : Nat → Nat → Int32} (hC : rc_pre g) : g 19 25 = nI (5 * 1048576 + 0 * 1024 + 23) := hC 24 (by decide)
theorem rc_c26 {g : Nat → Nat → Int32} (hC : rc_pre g) : g 19 26 = nI (14 * 1048576 + 116 * 1024 + 151) := hC 25 (by decide)
theorem rc_c27 {g : Nat → Nat → Int32} (hC : rc_pre g) : g 19 27 = nI (18 * 1048576 + 126 * 1024 + 148) := hC 26 (by decide)
theorem rc_c28 {g : Nat → Nat → Int32} (hC : rc_pre g) : g 19 28 = nI (15 * 1048576 + 148 * 1024 + 31) := hC 27 (by decide)
theorem rc_c29 {g : Nat → Nat → Int32} (hC : rc_pre g) : g 19 29 = nI (2 * 1048576 + 122 * 1024 + 116) := hC 28 (by decide)
theorem rc_c30 {g : Nat → Nat → Int32} (hC : rc_pre g) : g 19 30 = nI (5 * 1048576 + 0 * 1024 + 28) := hC 29 (by decide)
theorem rc_c31 {g : Nat → Nat → Int32} (hC : rc_pre g) : g 19 31 = nI (14 * 1048576 + 116 * 1024 + 151) := hC 30 (by decide)
theorem rc_c32 {g : Nat → Nat → Int32} (hC : rc_pre g) : g 19 32 = nI (18 * 1048576 + 127 * 1024 + 148) := hC 31 (by decide)
theorem rc_c33 {g : Nat → Nat → Int32} (hC : rc_pre g) : g 19 33 = nI (15 * 1048576 + 148 * 1024 + 36) := hC 32 (by decide)
theorem rc_c34 {g : Nat → Nat → Int32} (hC : rc_pre g) : g 19 34 = nI (2 * 1048576 + 122 * 1024 + 116) := hC 33 (by decide)
theorem rc_c35 {g : Nat → Nat → Int32} (hC : rc_pre g) : g 19 35 = nI (5 * 1048576 + 0 * 1024 + 33) := hC 34 (by decide)
theorem rc_c36 {g : Nat → Nat → Int32} (hC : rc_pre g) : g 19 36 = nI (14 * 1048576 + 116 * 1024 + 151) := hC 35 (by decide)
theorem rc_c37 {g : Nat → Nat → Int32} (hC : rc_pre g) : g 19 37 = nI (18 * 1048576 + 128 * 1024 + 148) := hC 36 (by decide)
theorem rc_c38 {g : Nat → Nat → Int32} (hC : rc_pre g) : g 19 38 = nI (15 * 1048576 + 148 * 1024 + 41) := hC 37 (by decide)
theorem rc_c39 {g : Nat → Nat → Int32} (hC : rc_pre g) : g 19 39 = nI (2 * 1048576 + 122 * 1024 + 116) := hC 38 (by decide)
theorem rc_c40 {g : Nat → Nat → Int32} (hC : rc_pre g) : g 19 40 = nI (5 * 1048576 + 0 * 1024 + 38) := hC 39 (by decide)
theorem rc_c41 {g : Nat → Nat → Int32} (hC : rc_pre g) : g 19 41 = nI (15 * 1048576 + 149 * 1024 + 45) := hC 40 (by decide)
theorem rc_c42 {g : Nat → Nat → Int32} (hC : rc_pre g) : g 19 42 = nI (24 * 1048576 + 149 * 1024 + 44) := hC 41 (by decide)
theorem rc_c43 {g : Nat → Nat → Int32} (hC : rc_pre g) : g 19 43 = nI (20 * 1048576 + 0 * 1024 + 0) := hC 42 (by decide)
theorem rc_c44 {g : Nat → Nat → Int32} (hC : rc_pre g) : g 19 44 = nI (25 * 1048576 + 116 * 1024 + 0) := hC 43 (by decide)
theorem rc_c45 {g : Nat → Nat → Int32} (hC : rc_pre g) : g 19 45 = nI (20 * 1048576 + 0 * 1024 + 0) := hC 44 (by decide)
theorem rc_c46 {g : Nat → Nat → Int32} (hC : rc_pre g) : g 19 46 = nI (18 * 1048576 + 151 * 1024 + 149) := hC 45 (by decide)
theorem rc_c47 {g : Nat → Nat → Int32} (hC : rc_pre g) : g 19 47 = nI (23 * 1048576 + 122 * 1024 + 49) := hC 46 (by decide)
theorem rc_c48 {g : Nat → Nat → Int32} (hC : rc_pre g) : g 19 48 = nI (5 * 1048576 + 0 * 1024 + 51) := hC 47 (by decide)
theorem rc_c49 {g : Nat → Nat → Int32} (hC : rc_pre g) : g 19 49 = nI (16 * 1048576 + 149 * 1024 + 0) := hC 48 (by decide)
theorem rc_c50 {g : Nat → Nat → Int32} (hC : rc_pre g) : g 19 50 = nI (17 * 1048576 + 122 * 1024 + 0) := hC 49 (by decide)
theorem rc_c51 {g : Nat → Nat → Int32} (hC : rc_pre g) : g 19 51 = nI (23 * 1048576 + 128 * 1024 + 53) := hC 50 (by decide)
theorem rc_c52 {g : Nat → Nat → Int32} (hC : rc_pre g) : g 19 52 = nI (5 * 1048576 + 0 * 1024 + 55) := hC 51 (by decide)
theorem rc_c53 {g : Nat → Nat → Int32} (hC : rc_pre g) : g 19 53 = nI (16 * 1048576 + 149 * 1024 + 0) := hC 52 (by decide)
theorem rc_c54 {g : Nat → Nat → Int32} (hC : rc_pre g) : g 19 54 = nI (17 * 1048576 + 128 * 1024 + 0) := hC 53 (by decide)
theorem rc_c55 {g : Nat → Nat → Int32} (hC : rc_pre g) : g 19 55 = nI (1 * 1048576 + 151 * 1024 + 141) := hC 54 (by decide)
theorem rc_c56 {g : Nat → Nat → Int32} (hC : rc_pre g) : g 19 56 = nI (4 * 1048576 + 128 * 1024 + 151) := hC 55 (by decide)
theorem rc_c57 {g : Nat → Nat → Int32} (hC : rc_pre g) : g 19 57 = nI (6 * 1048576 + 0 * 1024 + 60) := hC 56 (by decide)
theorem rc_c58 {g : Nat → Nat → Int32} (hC : rc_pre g) : g 19 58 = nI (11 * 1048576 + 3 * 1024 + 0) := hC 57 (by decide)
theorem rc_c59 {g : Nat → Nat → Int32} (hC : rc_pre g) : g 19 59 = nI (20 * 1048576 + 0 * 1024 + 0) := hC 58 (by decide)
theorem rc_c60 {g : Nat → Nat → Int32} (hC : rc_pre g) : g 19 60 = nI (1 * 1048576 + 151 * 1024 + 135) := hC 59 (by decide)
theorem rc_c61 {g : Nat → Nat → Int32} (hC : rc_pre g) : g 19 61 = nI (14 * 1048576 + 135 * 1024 + 117) := hC 60 (by decide)
theorem rc_c62 {g : Nat → Nat → Int32} (hC : rc_pre g) : g 19 62 = nI (18 * 1048576 + 151 * 1024 + 148) := hC 61 (by decide)
theorem rc_c63 {g : Nat → Nat → Int32} (hC : rc_pre g) : g 19 63 = nI (4 * 1048576 + 135 * 1024 + 128) := hC 62 (by decide)
theorem rc_c64 {g : Nat → Nat → Int32} (hC : rc_pre g) : g 19 64 = nI (7 * 1048576 + 0 * 1024 + 68) := hC 63 (by decide)
theorem rc_c65 {g : Nat → Nat → Int32} (hC : rc_pre g) : g 19 65 = nI (3 * 1048576 + 128 * 1024 + 135) := hC 64 (by decide)
theorem rc_c66 {g : Nat → Nat → Int32} (hC : rc_pre g) : g 19 66 = nI (16 * 1048576 + 148 * 1024 + 0) := hC 65 (by decide)
theorem rc_c67 {g : Nat → Nat → Int32} (hC : rc_pre g) : g 19 67 = nI (5 * 1048576 + 0 * 1024 + 63) := hC 66 (by decide)
theorem rc_c68 {g : Nat → Nat → Int32} (hC : rc_pre g) : g 19 68 = nI (14 * 1048576 + 141 * 1024 + 148) := hC 67 (by decide)
theorem rc_c69 {g : Nat → Nat → Int32} (hC : rc_pre g) : g 19 69 = nI (14 * 1048576 + 135 * 1024 + 118) := hC 68 (by decide)
theorem rc_c70 {g : Nat → Nat → Int32} (hC : rc_pre g) : g 19 70 = nI (18 * 1048576 + 151 * 1024 + 148) := hC 69 (by decide)
theorem rc_c71 {g : Nat → Nat → Int32} (hC : rc_pre g) : g 19 71 = nI (4 * 1048576 + 135 * 1024 + 128) := hC 70 (by decide)
theorem rc_c72 {g : Nat → Nat → Int32} (hC : rc_pre g) : g 19 72 = nI (7 * 1048576 + 0 * 1024 + 76) := hC 71 (by decide)
theorem rc_c73 {g : Nat → Nat → Int32} (hC : rc_pre g) : g 19 73 = nI (3 * 1048576 + 128 * 1024 + 135) := hC 72 (by decide)
theorem rc_c74 {g : Nat → Nat → Int32} (hC : rc_pre g) : g 19 74 = nI (16 * 1048576 + 148 * 1024 + 0) := hC 73 (by decide)
theorem rc_c75 {g : Nat → Nat → Int32} (hC : rc_pre g) : g 19 75 = nI (5 * 1048576 + 0 * 1024 + 71) := hC 74 (by decide)
theorem rc_c76 {g : Nat → Nat → Int32} (hC : rc_pre g) : g 19 76 = nI (14 * 1048576 + 141 * 1024 + 148) := hC 75 (by decide)
theorem rc_c77 {g : Nat → Nat → Int32} (hC : rc_pre g) : g 19 77 = nI (14 * 1048576 + 135 * 1024 + 119) := hC 76 (by decide)
theorem rc_c78 {g : Nat → Nat → Int32} (hC : rc_pre g) : g 19 78 = nI (18 * 1048576 + 151 * 1024 + 148) := hC 77 (by decide)
theorem rc_c79 {g : Nat → Nat → Int32} (hC : rc_pre g) : g 19 79 = nI (4 * 1048576 + 135 * 1024 + 128) := hC 78 (by decide)
theorem rc_c80 {g : Nat → Nat → Int32} (hC : rc_pre g) : g 19 80 = nI (7 * 1048576 + 0 * 1024 + 84) := hC 79 (by decide)
theorem rc_c81 {g : Nat → Nat → Int32} (hC : rc_pre g) : g 19 81 = nI (3 * 1048576 + 128 * 1024 + 135) := hC 80 (by decide)
theorem rc_c82 {g : Nat → Nat → Int32} (hC : rc_pre g) : g 19 82 = nI (16 * 1048576 + 148 * 1024 + 0) := hC 81 (by decide)
theorem rc_c83 {g : Nat → Nat → Int32} (hC : rc_pre g) : g 19 83 = nI (5 * 1048576 + 0 * 1024 + 79) := hC 82 (by decide)
theorem rc_c84 {g : Nat → Nat → Int32} (hC : rc_pre g) : g 19 84 = nI (14 * 1048576 + 141 * 1024 + 148) := hC 83 (by decide)
theorem rc_c85 {g : Nat → Nat → Int32} (hC : rc_pre g) : g 19 85 = nI (14 * 1048576 + 135 * 1024 + 120) := hC 84 (by decide)
theorem rc_c86 {g : Nat → Nat → Int32} (hC : rc_pre g) : g 19 86 = nI (18 * 1048576 + 151 * 1024 + 148) := hC 85 (by decide)
theorem rc_c87 {g : Nat → Nat → Int32} (hC : rc_pre g) : g 19 87 = nI (4 * 1048576 + 135 * 1024 + 128) := hC 86 (by decide)
theorem rc_c88 {g : Nat → Nat → Int32} (hC : rc_pre g) : g 19 88 = nI (7 * 1048576 + 0 * 1024 + 92) := hC 87 (by decide)
theorem rc_c89 {g : Nat → Nat → Int32} (hC : rc_pre g) : g 19 89 = nI (3 * 1048576 + 128 * 1024 + 135) := hC 88 (by decide)
theorem rc_c90 {g : Nat → Nat → Int32} (hC : rc_pre g) : g 19 90 = nI (16 * 1048576 + 148 * 1024 + 0) := hC 89 (by decide)
theorem rc_c91 {g : Nat → Nat → Int32} (hC : rc_pre g) : g 19 91 = nI (5 * 1048576 + 0 * 1024 + 87) := hC 90 (by decide)
theorem rc_c92 {g : Nat → Nat → Int32} (hC : rc_pre g) : g 19 92 = nI (14 * 1048576 + 141 * 1024 + 148) := hC 91 (by decide)
theorem rc_c93 {g : Nat → Nat → Int32} (hC : rc_pre g) : g 19 93 = nI (14 * 1048576 + 135 * 1024 + 121) := hC 92 (by decide)
theorem rc_c94 {g : Nat → Nat → Int32} (hC : rc_pre g) : g 19 94 = nI (18 * 1048576 + 151 * 1024 + 148) := hC 93 (by decide)
theorem rc_c95 {g : Nat → Nat → Int32} (hC : rc_pre g) : g 19 95 = nI (4 * 1048576 + 135 * 1024 + 128) := hC 94 (by decide)
theorem rc_c96 {g : Nat → Nat → Int32} (hC : rc_pre g) : g 19 96 = nI (7 * 1048576 + 0 * 1024 + 100) := hC 95 (by decide)
theorem rc_c97 {g : Nat → Nat → Int32} (hC : rc_pre g) : g 19 97 = nI (3 * 1048576 + 128 * 1024 + 135) := hC 96 (by decide)
theorem rc_c98 {g : Nat → Nat → Int32} (hC : rc_pre g) : g 19 98 = nI (16 * 1048576 + 148 * 1024 + 0) := hC 97 (by decide)
theorem rc_c99 {g : Nat → Nat → Int32} (hC : rc_pre g) : g 19 99 = nI (5 * 1048576 + 0 * 1024 + 95) := hC 98 (by decide)
theorem rc_c100 {g : Nat → Nat → Int32} (hC : rc_pre g) : g 19 100 = nI (14 * 1048576 + 141 * 1024 + 148) := hC 99 (by decide)
theorem rc_c101 {g : Nat → Nat → Int32} (hC : rc_pre g) : g 19 101 = nI (14 * 1048576 + 135 * 1024 + 122) := hC 100 (by decide)
theorem rc_c102 {g : Nat → Nat → Int32} (hC : rc_pre g) : g 19 102 = nI (18 * 1048576 + 151 * 1024 + 148) := hC 101 (by decide)
theorem rc_c103 {g : Nat → Nat → Int32} (hC : rc_pre g) : g 19 103 = nI (4 * 1048576 + 135 * 1024 + 128) := hC 102 (by decide)
theorem rc_c104 {g : Nat → Nat → Int32} (hC : rc_pre g) : g 19 104 = nI (7 * 1048576 + 0 * 1024 + 108) := hC 103 (by decide)
theorem rc_c105 {g : Nat → Nat → Int32} (hC : rc_pre g) : g 19 105 = nI (3 * 1048576 + 128 * 1024 + 135) := hC 104 (by decide)
theorem rc_c106 {g : Nat → Nat → Int32} (hC : rc_pre g) : g 19 106 = nI (16 * 1048576 + 148 * 1024 + 0) := hC 105 (by decide)
theorem rc_c107 {g : Nat → Nat → Int32} (hC : rc_pre g) : g 19 107 = nI (5 * 1048576 + 0 * 1024 + 103) := hC 106 (by decide)
theorem rc_c108 {g : Nat → Nat → Int32} (hC : rc_pre g) : g 19 108 = nI (14 * 1048576 + 141 * 1024 + 148) := hC 107 (by decide)
theorem rc_c109 {g : Nat → Nat → Int32} (hC : rc_pre g) : g 19 109 = nI (15 * 1048576 + 149 * 1024 + 113) := hC 108 (by decide)
theorem rc_c110 {g : Nat → Nat → Int32} (hC : rc_pre g) : g 19 110 = nI (24 * 1048576 + 149 * 1024 + 112) := hC 109 (by decide)
theorem rc_c111 {g : Nat → Nat → Int32} (hC : rc_pre g) : g 19 111 = nI (20 * 1048576 + 0 * 1024 + 0) := hC 110 (by decide)
theorem rc_c112 {g : Nat → Nat → Int32} (hC : rc_pre g) : g 19 112 = nI (25 * 1048576 + 141 * 1024 + 0) := hC 111 (by decide)
theorem rc_c113 {g : Nat → Nat → Int32} (hC : rc_pre g) : g 19 113 = nI (20 * 1048576 + 0 * 1024 + 0) := hC 112 (by decide)
theorem rc_c114 {g : Nat → Nat → Int32} (hC : rc_pre g) : g 19 114 = nI (23 * 1048576 + 147 * 1024 + 116) := hC 113 (by decide)
theorem rc_c115 {g : Nat → Nat → Int32} (hC : rc_pre g) : g 19 115 = nI (5 * 1048576 + 0 * 1024 + 117) := hC 114 (by decide)
theorem rc_c116 {g : Nat → Nat → Int32} (hC : rc_pre g) : g 19 116 = nI (22 * 1048576 + 45 * 1024 + 0) := hC 115 (by decide)
theorem rc_c117 {g : Nat → Nat → Int32} (hC : rc_pre g) : g 19 117 = nI (24 * 1048576 + 142 * 1024 + 119) := hC 116 (by decide)
theorem rc_c118 {g : Nat → Nat → Int32} (hC : rc_pre g) : g 19 118 = nI (5 * 1048576 + 0 * 1024 + 128) := hC 117 (by decide)
theorem rc_c119 {g : Nat → Nat → Int32} (hC : rc_pre g) : g 19 119 = nI (24 * 1048576 + 143 * 1024 + 121) := hC 118 (by decide)
theorem rc_c120 {g : Nat → Nat → Int32} (hC : rc_pre g) : g 19 120 = nI (5 * 1048576 + 0 * 1024 + 129) := hC 119 (by decide)
theorem rc_c121 {g : Nat → Nat → Int32} (hC : rc_pre g) : g 19 121 = nI (24 * 1048576 + 144 * 1024 + 123) := hC 120 (by decide)
theorem rc_c122 {g : Nat → Nat → Int32} (hC : rc_pre g) : g 19 122 = nI (5 * 1048576 + 0 * 1024 + 130) := hC 121 (by decide)
theorem rc_c123 {g : Nat → Nat → Int32} (hC : rc_pre g) : g 19 123 = nI (24 * 1048576 + 145 * 1024 + 125) := hC 122 (by decide)
theorem rc_c124 {g : Nat → Nat → Int32} (hC : rc_pre g) : g 19 124 = nI (5 * 1048576 + 0 * 1024 + 131) := hC 123 (by decide)
theorem rc_c125 {g : Nat → Nat → Int32} (hC : rc_pre g) : g 19 125 = nI (24 * 1048576 + 146 * 1024 + 127) := hC 124 (by decide)
theorem rc_c126 {g : Nat → Nat → Int32} (hC : rc_pre g) : g 19 126 = nI (5 * 1048576 + 0 * 1024 + 132) := hC 125 (by decide)
theorem rc_c127 {g : Nat → Nat → Int32} (hC : rc_pre g) : g 19 127 = nI (5 * 1048576 + 0 * 1024 + 133) := hC 126 (by decide)
theorem rc_c128 {g : Nat → Nat → Int32} (hC : rc_pre g) : g 19 128 = nI (21 * 1048576 + 142 * 1024 + 0) := hC 127 (by decide)
theorem rc_c129 {g : Nat → Nat → Int32} (hC : rc_pre g) : g 19 129 = nI (21 * 1048576 + 143 * 1024 + 0) := hC 128 (by decide)
theorem rc_c130 {g : Nat → Nat → Int32} (hC : rc_pre g) : g 19 130 = nI (21 * 1048576 + 144 * 1024 + 0) := hC 129 (by decide)
theorem rc_c131 {g : Nat → Nat → Int32} (hC : rc_pre g) : g 19 131 = nI (21 * 1048576 + 145 * 1024 + 0) := hC 130 (by decide)
theorem rc_c132 {g : Nat → Nat → Int32} (hC : rc_pre g) : g 19 132 = nI (21 * 1048576 + 146 * 1024 + 0) := hC 131 (by decide)
theorem rc_c133 {g : Nat → Nat → Int32} (hC : rc_pre g) : g 19 133 = nI (21 * 1048576 + 147 * 1024 + 0) := hC 132 (by decide)
theorem rc_c134 {g : Nat → Nat → Int32} (hC : rc_pre g) : g 19 134 = nI (22 * 1048576 + 32 * 1024 + 0) := hC 133 (by decide)
theorem rc_c135 {g : Nat → Nat → Int32} (hC : rc_pre g) : g 19 135 = nI (20 * 1048576 + 0 * 1024 + 0) := hC 134 (by decide)
end
section
/-- the sign of one field is counted and taken off -/
theorem rm_sg1 {post : Int32 → St2 → Prop} {h : Nat → Int32} {g : Nat → Nat → Int32} {od : Int32} {cd : Int32} {nc : Int32} {ty : Int32} {pn : Int32} {Z : Nat → Int} {a21 : Nat → Int32} {a22 : Nat → Int32} {a23 : Nat → Int32} {n f lf : Nat} (hn : n + 4 < 420) (hf : rc_isF f lf) (hf9 : f ≠ 149) (c0 : g 19 n = nI (23 * 1048576 + f * 1024 + (n + 2))) (c1 : g 19 (n + 1) = nI (5 * 1048576 + 0 * 1024 + (n + 4))) (c2 : g 19 (n + 2) = nI (16 * 1048576 + 149 * 1024 + 0)) (c3 : g 19 (n + 3) = nI (17 * 1048576 + f * 1024 + 0))
    (h0 : 0 ≤ Z 149) (h1 : Z 149 ≤ 1)
    (H : ∀ Z', Z' 149 = Z 149 + (if Z f < 0 then 1 else 0) → Z' f = ((Z f).natAbs : Int) → (∀ j, j ≠ 149 → j ≠ f → Z' j = Z j) → rc_Rn post (rc_st h g (nI (n + 4)) od cd nc ty 0 pn Z' a21 a22 a23)) : rc_Rn post (rc_st h g (nI n) od cd nc ty 0 pn Z a21 a22 a23) := by
  have f4 := hf.2.2.2.1
  refine rm_im (by omega) c0 (by omega) (by omega) (fun q => ?_) (fun q => ?_)
  · refine rm_j (by omega) c1 (by omega) (by omega) (H Z (by rw [if_neg (by omega)]; omega) (by omega) (fun _ _ _ => rfl))
  · refine rm_up (by omega) c2 rc_f149 (by omega) h0 (by omega) (rm_plain (by omega) c3 (by omega) (by omega) (H _ ?_ ?_ ?_))
    · rw [rc_zs_n _ _ (Ne.symm hf9), rc_zs_s, if_pos q]
    · rw [rc_zs_s, rc_zs_n _ _ hf9]
    · intro j hj hj2
      rw [rc_zs_n _ _ hj2, rc_zs_n _ _ hj]
theorem rm_signs {post : Int32 → St2 → Prop} {h : Nat → Int32} {g : Nat → Nat → Int32} {od : Int32} {cd : Int32} {nc : Int32} {ty : Int32} {pn : Int32} {Z : Nat → Int} {a21 : Nat → Int32} {a22 : Nat → Int32} {a23 : Nat → Int32} {n : Nat} (hn : n + 9 < 420) (c0 : g 19 n = nI (18 * 1048576 + 151 * 1024 + 149)) (c1 : g 19 (n + 1) = nI (23 * 1048576 + 122 * 1024 + (n + 3))) (c2 : g 19 (n + 2) = nI (5 * 1048576 + 0 * 1024 + (n + 5))) (c3 : g 19 (n + 3) = nI (16 * 1048576 + 149 * 1024 + 0)) (c4 : g 19 (n + 4) = nI (17 * 1048576 + 122 * 1024 + 0))
    (c5 : g 19 (n + 5) = nI (23 * 1048576 + 128 * 1024 + (n + 7))) (c6 : g 19 (n + 6) = nI (5 * 1048576 + 0 * 1024 + (n + 9))) (c7 : g 19 (n + 7) = nI (16 * 1048576 + 149 * 1024 + 0)) (c8 : g 19 (n + 8) = nI (17 * 1048576 + 128 * 1024 + 0))
    (z151 : Z 151 = 0) (z149 : 0 ≤ Z 149)
    (H : ∀ Z', Z' 149 = (if Z 122 < 0 then 1 else 0) + (if Z 128 < 0 then 1 else 0) → Z' 122 = ((Z 122).natAbs : Int) → Z' 128 = ((Z 128).natAbs : Int) → (∀ j, j ≠ 149 → j ≠ 122 → j ≠ 128 → Z' j = Z j) → rc_Rn post (rc_st h g (nI (n + 9)) od cd nc ty 0 pn Z' a21 a22 a23)) : rc_Rn post (rc_st h g (nI n) od cd nc ty 0 pn Z a21 a22 a23) := by
  refine rm_dig (e := 151) (l := 1) (k := 0) (by omega) c0 rc_f151 (by omega) rfl rc_f149 z149 ?_
  rw [z151, Int.natAbs_zero, rc_dg_zero]
  refine rm_sg1 (n := n + 1) (f := 122) (by omega) rc_f122 (by decide) c1 c2 c3 c4 (by rw [rc_zs_s]; decide) (by rw [rc_zs_s]; decide) (fun Y y1 y2 y3 => ?_)
  rw [rc_zs_s, rc_zs_n (e := 149) (j := 122) _ _ (by decide)] at y1
  rw [rc_zs_n (e := 149) (j := 122) _ _ (by decide)] at y2
  have y4 : Y 128 = Z 128 := by rw [y3 128 (by decide) (by decide), rc_zs_n (e := 149) (j := 128) _ _ (by decide)]
  refine rm_sg1 (n := n + 5) (f := 128) (by omega) rc_f128 (by decide) c5 c6 c7 c8 (by rw [y1]; split <;> decide) (by rw [y1]; split <;> decide) (fun X x1 x2 x3 => ?_)
  refine H X (by rw [x1, y1, y4]; omega) (by rw [x3 122 (by decide) (by decide), y2]) (by rw [x2, y4]) (fun j j1 j2 j3 => ?_)
  rw [x3 j j1 j3, y3 j j1 j2, rc_zs_n _ _ j1]
/-- one minus sign turns the result; then back -/
theorem rm_sof {post : Int32 → St2 → Prop} {h : Nat → Int32} {g : Nat → Nat → Int32} {od : Int32} {nc : Int32} {ty : Int32} {pn : Int32} {Z : Nat → Int} {a21 : Nat → Int32} {a22 : Nat → Int32} {a23 : Nat → Int32} {n f lf c q : Nat} (hn : n + 5 < 420) (hf : rc_isF f lf) (hf9 : f ≠ 149) (c0 : g 19 n = nI (15 * 1048576 + 149 * 1024 + (n + 4))) (c1 : g 19 (n + 1) = nI (24 * 1048576 + 149 * 1024 + (n + 3))) (c2 : g 19 (n + 2) = nI (20 * 1048576 + 0 * 1024 + 0)) (c3 : g 19 (n + 3) = nI (25 * 1048576 + f * 1024 + 0)) (c4 : g 19 (n + 4) = nI (20 * 1048576 + 0 * 1024 + 0))
    (h0 : 0 ≤ Z 149) (h1 : Z 149 ≤ 2) (pf : 0 ≤ Z f) (hv : (Z f).natAbs < 10 ^ lf) (hc : c < 4) (hq : a21 c = nI q)
    (H : ∀ Z', Z' f = (if Z 149 = 1 then -Z f else Z f) → 0 ≤ Z' 149 → (∀ j, j ≠ 149 → j ≠ f → Z' j = Z j) → rc_Rn post (rc_st h g (nI q) od (nI c) nc ty 0 pn Z' a21 a22 a23)) : rc_Rn post (rc_st h g (nI n) od (nI (c + 1)) nc ty 0 pn Z a21 a22 a23) := by
  have f4 := hf.2.2.2.1
  by_cases e0 : Z 149 = 0
  · refine rm_dn0 (by omega) c0 rc_f149 (by omega) e0 (rm_ret (by omega) c4 (by omega) (by omega) hc hq (H Z (by rw [if_neg (by omega)]) h0 (fun _ _ _ => rfl)))
  · refine rm_dn1 (by omega) c0 rc_f149 (by omega) (by omega) (by omega) ?_
    have dq : rc_dg (rc_zs Z 149 (Z 149 - 1) 149).natAbs 0 = (Z 149 - 1).natAbs := by
      rw [rc_zs_s]
      unfold rc_dg
      rw [Nat.pow_zero, Nat.div_one, Nat.mod_eq_of_lt (by omega)]
    refine rm_iz (e := 149) (l := 1) (k := 0) (by omega) c1 rc_f149 (by omega) rfl (by omega) (fun z => ?_) (fun z => ?_)
    · rw [dq] at z
      refine rm_turn (by omega) c3 hf (by omega) (by rw [rc_zs_n _ _ hf9]; exact pf) (by rw [rc_zs_n _ _ hf9]; exact hv) (rm_ret (by omega) c4 (by omega) (by omega) hc hq (H _ ?_ ?_ ?_))
      · rw [rc_zs_s, rc_zs_n _ _ hf9, if_pos (by omega)]
      · rw [rc_zs_n _ _ (Ne.symm hf9), rc_zs_s]
        omega
      · intro j j1 j2
        rw [rc_zs_n _ _ j2, rc_zs_n _ _ j1]
    · rw [dq] at z
      refine rm_ret (by omega) c2 (by omega) (by omega) hc hq (H _ ?_ ?_ ?_)
      · rw [rc_zs_n _ _ hf9, if_neg (by omega)]
      · rw [rc_zs_s]
        omega
      · intro j j1 j2
        rw [rc_zs_n _ _ j1]
/-- multiply: the left field added as often as the counter says -/
theorem rm_mloop {post : Int32 → St2 → Prop} {h : Nat → Int32} {g : Nat → Nat → Int32} {od : Int32} {cd : Int32} {nc : Int32} {ty : Int32} {pn : Int32} {a21 : Nat → Int32} {a22 : Nat → Int32} {a23 : Nat → Int32} {n X : Nat} (hn : n + 3 < 420) (c2 : g 19 n = nI (15 * 1048576 + 148 * 1024 + (n + 3))) (c3 : g 19 (n + 1) = nI (2 * 1048576 + 122 * 1024 + 116)) (c4 : g 19 (n + 2) = nI (5 * 1048576 + 0 * 1024 + n)) (hX : X < 1000) :
    ∀ (c P : Nat) (Z : Nat → Int), c < 10 → Z 148 = (c : Int) → Z 116 = (P : Int) → Z 122 = (X : Int) → P + c * X < 10000000 →
    (∀ Z', Z' 116 = ((P + c * X : Nat) : Int) → Z' 148 = 0 → (∀ j, j ≠ 116 → j ≠ 148 → Z' j = Z j) → rc_Rn post (rc_st h g (nI (n + 3)) od cd nc ty 0 pn Z' a21 a22 a23)) → rc_Rn post (rc_st h g (nI n) od cd nc ty 0 pn Z a21 a22 a23) := by
  intro c
  induction c with
  | zero =>
    intro P Z _ hc hP hL hb H
    exact rm_dn0 (by omega) c2 rc_f148 (by omega) hc (H Z (by rw [hP, Nat.zero_mul, Nat.add_zero]) hc (fun _ _ _ => rfl))
  | succ c ih =>
    intro P Z h9 hc hP hL hb H
    rw [Nat.succ_mul] at hb H
    refine rm_dn1 (by omega) c2 rc_f148 (by omega) (by omega) (by omega) ?_
    refine rm_add (by omega) c3 rc_f122 rc_f116 (by decide) (by rw [rc_zs_n (e := 148) (j := 122) _ _ (by decide), hL]; omega) (by rw [rc_zs_n (e := 148) (j := 116) _ _ (by decide), hP]; omega) (by rw [rc_zs_n (e := 148) (j := 122) _ _ (by decide), hL]; omega) (by rw [rc_zs_n (e := 148) (j := 116) _ _ (by decide), rc_zs_n (e := 148) (j := 122) _ _ (by decide), hL, hP]; omega) ?_
    rw [rc_zs_n (e := 148) (j := 116) _ _ (by decide), rc_zs_n (e := 148) (j := 122) _ _ (by decide), hL, hP]
    refine rm_j (by omega) c4 (by omega) (by omega) (ih (P + X) _ (by omega) ?_ ?_ ?_ (by omega) (fun Z' z1 z2 z3 => H Z' ?_ z2 (fun j j1 j2 => ?_)))
    · rw [rc_zs_n (e := 116) (j := 148) _ _ (by decide), rc_zs_s, hc]
      omega
    · rw [rc_zs_s]
      omega
    · rw [rc_zs_n (e := 116) (j := 122) _ _ (by decide), rc_zs_n (e := 148) (j := 122) _ _ (by decide), hL]
    · rw [z1]
      omega
    · rw [z3 j j1 j2, rc_zs_n _ _ j1, rc_zs_n _ _ j2]
theorem rc_yk {X Y k : Nat} (hX : X < 1000) (hY : Y < 1000) : X * (Y / 10 ^ k) < 1000000 := by
  have h1 : Y / 10 ^ k ≤ Y := Nat.div_le_self _ _
  have h2 : X * (Y / 10 ^ k) ≤ 999 * 999 := Nat.mul_le_mul (by omega) (by omega)
  omega
theorem rm_mseg {post : Int32 → St2 → Prop} {h : Nat → Int32} {g : Nat → Nat → Int32} {od : Int32} {cd : Int32} {nc : Int32} {ty : Int32} {pn : Int32} {Z : Nat → Int} {a21 : Nat → Int32} {a22 : Nat → Int32} {a23 : Nat → Int32} {n X Y k : Nat} (hn : n + 5 < 420) (hk : k < 6) (c0 : g 19 n = nI (14 * 1048576 + 116 * 1024 + 151)) (c1 : g 19 (n + 1) = nI (18 * 1048576 + (128 - k) * 1024 + 148)) (c2 : g 19 (n + 2) = nI (15 * 1048576 + 148 * 1024 + (n + 5))) (c3 : g 19 (n + 3) = nI (2 * 1048576 + 122 * 1024 + 116)) (c4 : g 19 (n + 4) = nI (5 * 1048576 + 0 * 1024 + (n + 2))) (hX : X < 1000) (hY : Y < 1000)
    (z151 : Z 151 = 0) (z148 : 0 ≤ Z 148) (z122 : Z 122 = (X : Int)) (z128 : Z 128 = (Y : Int)) (z116 : Z 116 = ((X * (Y / 10 ^ (k + 1)) : Nat) : Int))
    (H : ∀ Z', Z' 116 = ((X * (Y / 10 ^ k) : Nat) : Int) → 0 ≤ Z' 148 → (∀ j, j ≠ 116 → j ≠ 148 → Z' j = Z j) → rc_Rn post (rc_st h g (nI (n + 5)) od cd nc ty 0 pn Z' a21 a22 a23)) : rc_Rn post (rc_st h g (nI n) od cd nc ty 0 pn Z a21 a22 a23) := by
  have b1 := @rc_yk X Y (k + 1) hX hY
  have b2 := @rc_yk X Y k hX hY
  have e1 : X * (Y / 10 ^ k) = X * (Y / 10 ^ (k + 1)) * 10 + rc_dg Y k * X := by
    rw [rc_divs Y k, Nat.mul_add, ← Nat.mul_assoc, Nat.mul_comm X (rc_dg Y k)]
  refine rm_shift (e := 151) (l := 1) (k := 0) (z := ((X * (Y / 10 ^ (k + 1)) * 10 : Nat) : Int)) (by omega) c0 rc_f116 rc_f151 (by omega) rfl (by omega) (by rw [z151, z116, Int.natAbs_zero, rc_dg_zero]; omega) (by omega) ?_
  refine rm_dig (e := 128) (l := 6) (k := k) (by omega) c1 rc_f128 hk rfl rc_f148 (by rw [rc_zs_n (e := 116) (j := 148) _ _ (by decide)]; exact z148) ?_
  rw [rc_zs_n (e := 116) (j := 128) _ _ (by decide), z128, Int.natAbs_natCast]
  refine rm_mloop (n := n + 2) (X := X) (by omega) c2 c3 c4 hX (rc_dg Y k) (X * (Y / 10 ^ (k + 1)) * 10) _ (rc_dg_lt _ _) (by rw [rc_zs_s]) (by rw [rc_zs_n (e := 148) (j := 116) _ _ (by decide), rc_zs_s]) (by rw [rc_zs_n (e := 148) (j := 122) _ _ (by decide), rc_zs_n (e := 116) (j := 122) _ _ (by decide), z122]) (by omega) (fun Z' z1 z2 z3 => H Z' (by rw [z1, e1]) (by omega) (fun j j1 j2 => ?_))
  rw [z3 j j1 j2, rc_zs_n _ _ j2, rc_zs_n _ _ j1]
end
section
theorem rc_small0 {X k : Nat} (hX : X < 1000) (hk : 3 ≤ k) : X / 10 ^ k = 0 := by
  refine Nat.div_eq_of_lt (Nat.lt_of_lt_of_le hX ?_)
  have := @rc_pow_le 3 k hk
  omega
theorem rc_mulsg (x y : Int) : (if ((if x < 0 then 1 else 0) + (if y < 0 then 1 else 0) : Int) = 1 then -((x.natAbs * y.natAbs : Nat) : Int) else ((x.natAbs * y.natAbs : Nat) : Int)) = x * y := by
  have hx : (x.natAbs : Int) = if x < 0 then -x else x := by split <;> omega
  have hy : (y.natAbs : Int) = if y < 0 then -y else y := by split <;> omega
  rw [Int.natCast_mul, hx, hy]
  by_cases p : x < 0 <;> by_cases q : y < 0
  · rw [if_pos p, if_pos q, if_pos p, if_pos q, if_neg (by decide), Int.neg_mul_neg]
  · rw [if_pos p, if_neg q, if_pos p, if_neg q, if_pos (by decide), Int.neg_mul, Int.neg_neg]
  · rw [if_neg p, if_pos q, if_neg p, if_pos q, if_pos (by decide), Int.mul_neg, Int.neg_neg]
  · rw [if_neg p, if_neg q, if_neg p, if_neg q, if_neg (by decide)]
theorem rm_mul {post : Int32 → St2 → Prop} {h : Nat → Int32} {g : Nat → Nat → Int32} {od : Int32} {nc : Int32} {ty : Int32} {pn : Int32} {Z : Nat → Int} {a21 : Nat → Int32} {a22 : Nat → Int32} {a23 : Nat → Int32} {c q : Nat} (hC : rc_pre g) (z151 : Z 151 = 0) (z149 : 0 ≤ Z 149) (z148 : 0 ≤ Z 148) (hX : (Z 122).natAbs < 1000) (hY : (Z 128).natAbs < 1000) (hc : c < 4) (hq : a21 c = nI q)
    (H : ∀ Z', Z' 116 = Z 122 * Z 128 → (∀ j, j < 104 ∨ 150 ≤ j → Z' j = Z j) → rc_Rn post (rc_st h g (nI q) od (nI c) nc ty 0 pn Z' a21 a22 a23)) : rc_Rn post (rc_st h g (nI 1) od (nI (c + 1)) nc ty 0 pn Z a21 a22 a23) := by
  refine rm_signs (n := 1) (by omega) (rc_c1 hC) (rc_c2 hC) (rc_c3 hC) (rc_c4 hC) (rc_c5 hC) (rc_c6 hC) (rc_c7 hC) (rc_c8 hC) (rc_c9 hC) z151 z149 (fun Y y1 y2 y3 y4 => ?_)
  have y5 : Y 151 = 0 := by rw [y4 151 (by decide) (by decide) (by decide), z151]
  have y6 : 0 ≤ Y 148 := by rw [y4 148 (by decide) (by decide) (by decide)]; exact z148
  refine rm_za (a := 151) (b := 116) (by omega) (rc_c10 hC) rc_f151 rc_f116 (by decide) (by rw [y5]; decide) (by rw [y5]; decide) ?_
  rw [y5]
  generalize hx : (Z 122).natAbs = X at *
  generalize hy : (Z 128).natAbs = W at *
  refine rm_mseg (n := 11) (X := X) (Y := W) (k := 5) (by omega) (by omega) (rc_c11 hC) (rc_c12 hC) (rc_c13 hC) (rc_c14 hC) (rc_c15 hC) hX hY (by rw [rc_zs_n (e := 116) (j := 151) _ _ (by decide), y5]) (by rw [rc_zs_n (e := 116) (j := 148) _ _ (by decide)]; exact y6) (by rw [rc_zs_n (e := 116) (j := 122) _ _ (by decide), y2]) (by rw [rc_zs_n (e := 116) (j := 128) _ _ (by decide), y3]) (by rw [rc_zs_s, rc_small0 hY (by decide)]; rfl) (fun Z5 p5 q5 r5 => ?_)
  have s5 : ∀ j, j ≠ 116 → j ≠ 148 → Z5 j = Y j := fun j h1 h2 => by rw [r5 j h1 h2, rc_zs_n _ _ h1]
  refine rm_mseg (n := 16) (X := X) (Y := W) (k := 4) (by omega) (by omega) (rc_c16 hC) (rc_c17 hC) (rc_c18 hC) (rc_c19 hC) (rc_c20 hC) hX hY (by rw [s5 151 (by decide) (by decide), y5]) q5 (by rw [s5 122 (by decide) (by decide), y2]) (by rw [s5 128 (by decide) (by decide), y3]) p5 (fun Z4 p4 q4 r4 => ?_)
  have s4 : ∀ j, j ≠ 116 → j ≠ 148 → Z4 j = Y j := fun j h1 h2 => by rw [r4 j h1 h2, s5 j h1 h2]
  refine rm_mseg (n := 21) (X := X) (Y := W) (k := 3) (by omega) (by omega) (rc_c21 hC) (rc_c22 hC) (rc_c23 hC) (rc_c24 hC) (rc_c25 hC) hX hY (by rw [s4 151 (by decide) (by decide), y5]) q4 (by rw [s4 122 (by decide) (by decide), y2]) (by rw [s4 128 (by decide) (by decide), y3]) p4 (fun Z3 p3 q3 r3 => ?_)
  have s3 : ∀ j, j ≠ 116 → j ≠ 148 → Z3 j = Y j := fun j h1 h2 => by rw [r3 j h1 h2, s4 j h1 h2]
  refine rm_mseg (n := 26) (X := X) (Y := W) (k := 2) (by omega) (by omega) (rc_c26 hC) (rc_c27 hC) (rc_c28 hC) (rc_c29 hC) (rc_c30 hC) hX hY (by rw [s3 151 (by decide) (by decide), y5]) q3 (by rw [s3 122 (by decide) (by decide), y2]) (by rw [s3 128 (by decide) (by decide), y3]) p3 (fun Z2 p2 q2 r2 => ?_)
  have s2 : ∀ j, j ≠ 116 → j ≠ 148 → Z2 j = Y j := fun j h1 h2 => by rw [r2 j h1 h2, s3 j h1 h2]
  refine rm_mseg (n := 31) (X := X) (Y := W) (k := 1) (by omega) (by omega) (rc_c31 hC) (rc_c32 hC) (rc_c33 hC) (rc_c34 hC) (rc_c35 hC) hX hY (by rw [s2 151 (by decide) (by decide), y5]) q2 (by rw [s2 122 (by decide) (by decide), y2]) (by rw [s2 128 (by decide) (by decide), y3]) p2 (fun Z1 p1 q1 r1 => ?_)
  have s1 : ∀ j, j ≠ 116 → j ≠ 148 → Z1 j = Y j := fun j h1 h2 => by rw [r1 j h1 h2, s2 j h1 h2]
  refine rm_mseg (n := 36) (X := X) (Y := W) (k := 0) (by omega) (by omega) (rc_c36 hC) (rc_c37 hC) (rc_c38 hC) (rc_c39 hC) (rc_c40 hC) hX hY (by rw [s1 151 (by decide) (by decide), y5]) q1 (by rw [s1 122 (by decide) (by decide), y2]) (by rw [s1 128 (by decide) (by decide), y3]) p1 (fun Z0 p0 q0 r0 => ?_)
  have s0 : ∀ j, j ≠ 116 → j ≠ 148 → Z0 j = Y j := fun j h1 h2 => by rw [r0 j h1 h2, s1 j h1 h2]
  have bd := @rc_yk X W 0 hX hY
  rw [Nat.pow_zero, Nat.div_one] at p0 bd
  have s9 : Z0 149 = Y 149 := s0 149 (by decide) (by decide)
  have h9 : 0 ≤ Y 149 ∧ Y 149 ≤ 2 := by
    rw [y1]
    constructor <;> (split <;> split <;> decide)
  refine rm_sof (n := 41) (f := 116) (lf := 12) (c := c) (q := q) (by omega) rc_f116 (by decide) (rc_c41 hC) (rc_c42 hC) (rc_c43 hC) (rc_c44 hC) (rc_c45 hC) (by rw [s9]; exact h9.1) (by rw [s9]; exact h9.2) (by rw [p0]; omega) (by rw [p0]; omega) hc hq (fun Z' z1 z2 z3 => H Z' ?_ (fun j hj => ?_))
  · rw [z1, s9, y1, p0, ← hx, ← hy]
    exact rc_mulsg _ _
  · rw [z3 j (by omega) (by omega), s0 j (by omega) (by omega), y4 j (by omega) (by omega) (by omega)]
end
section
/-- divide: the right field taken away as often as it goes -/
theorem rm_dloop {post : Int32 → St2 → Prop} {h : Nat → Int32} {g : Nat → Nat → Int32} {cd : Int32} {nc : Int32} {ty : Int32} {pn : Int32} {a21 : Nat → Int32} {a22 : Nat → Int32} {a23 : Nat → Int32} {n Y : Nat} (hn : n + 5 < 420) (c2 : g 19 n = nI (4 * 1048576 + 135 * 1024 + 128)) (c3 : g 19 (n + 1) = nI (7 * 1048576 + 0 * 1024 + (n + 5))) (c4 : g 19 (n + 2) = nI (3 * 1048576 + 128 * 1024 + 135)) (c5 : g 19 (n + 3) = nI (16 * 1048576 + 148 * 1024 + 0)) (c6 : g 19 (n + 4) = nI (5 * 1048576 + 0 * 1024 + n)) (hY : Y < 1000) (hY0 : 0 < Y) :
    ∀ (m R c : Nat) (Z : Nat → Int) (od : Int32), R < 100000 → R / Y = m → c + m ≤ 9 → Z 148 = (c : Int) → Z 135 = (R : Int) → Z 128 = (Y : Int) →
    (∀ Z' od', Z' 135 = ((R % Y : Nat) : Int) → Z' 148 = ((c + m : Nat) : Int) → (∀ j, j ≠ 135 → j ≠ 148 → Z' j = Z j) → rc_Rn post (rc_st h g (nI (n + 5)) od' cd nc ty 0 pn Z' a21 a22 a23)) → rc_Rn post (rc_st h g (nI n) od cd nc ty 0 pn Z a21 a22 a23) := by
  intro m
  induction m with
  | zero =>
    intro R c Z od hR hm h9 hc h135 h128 H
    have hlt : R < Y := by
      rcases Nat.lt_or_ge R Y with q | q
      · exact q
      · have := Nat.div_pos q hY0
        omega
    refine rm_cmp (by omega) c2 rc_f135 rc_f128 (by rw [h135]; omega) (by rw [h128]; omega) (by omega) (by omega) (fun r r1 r2 => ?_)
    refine rm_lo1 (by omega) c3 (by omega) (by omega) (fun z => ?_) (H Z r (by rw [h135, Nat.mod_eq_of_lt hlt]) (by rw [hc, Nat.add_zero]) (fun _ _ _ => rfl))
    have := r2.mp z
    omega
  | succ m ih =>
    intro R c Z od hR hm h9 hc h135 h128 H
    have hge : Y ≤ R := by
      rcases Nat.lt_or_ge R Y with q | q
      · rw [Nat.div_eq_of_lt q] at hm
        omega
      · exact q
    have hm2 : (R - Y) / Y = m := by
      rw [Nat.div_eq_sub_div hY0 hge] at hm
      omega
    have hmod : (R - Y) % Y = R % Y := (Nat.mod_eq_sub_mod hge).symm
    refine rm_cmp (by omega) c2 rc_f135 rc_f128 (by rw [h135]; omega) (by rw [h128]; omega) (by omega) (by omega) (fun r r1 r2 => ?_)
    refine rm_lo0 (by omega) c3 (by omega) (by omega) (r2.mpr (by omega)) ?_
    refine rm_sub (by omega) c4 rc_f128 rc_f135 (by decide) (by rw [h128]; omega) (by rw [h135]; omega) (by rw [h128]; omega) (by rw [h135, h128]; omega) ?_
    refine rm_up (by omega) c5 rc_f148 (by omega) (by rw [rc_zs_n (e := 135) (j := 148) _ _ (by decide)]; omega) (by rw [rc_zs_n (e := 135) (j := 148) _ _ (by decide)]; omega) ?_
    rw [rc_zs_n (e := 135) (j := 148) _ _ (by decide)]
    refine rm_j (by omega) c6 (by omega) (by omega) (ih (R - Y) (c + 1) _ r (by omega) hm2 (by omega) ?_ ?_ ?_ (fun Z' od' z1 z2 z3 => H Z' od' (by rw [z1, hmod]) (by rw [z2]; omega) (fun j j1 j2 => ?_)))
    · rw [rc_zs_s, hc]
      omega
    · rw [rc_zs_n (e := 148) (j := 135) _ _ (by decide), rc_zs_s, h135, h128]
      omega
    · rw [rc_zs_n (e := 148) (j := 128) _ _ (by decide), rc_zs_n (e := 135) (j := 128) _ _ (by decide), h128]
    · rw [z3 j j1 j2, rc_zs_n _ _ j2, rc_zs_n _ _ j1]
theorem rm_dseg {post : Int32 → St2 → Prop} {h : Nat → Int32} {g : Nat → Nat → Int32} {od : Int32} {cd : Int32} {nc : Int32} {ty : Int32} {pn : Int32} {Z : Nat → Int} {a21 : Nat → Int32} {a22 : Nat → Int32} {a23 : Nat → Int32} {n X Y k : Nat} (hn : n + 8 < 420) (hk : k < 6) (c0 : g 19 n = nI (14 * 1048576 + 135 * 1024 + (122 - k))) (c1 : g 19 (n + 1) = nI (18 * 1048576 + 151 * 1024 + 148)) (c2 : g 19 (n + 2) = nI (4 * 1048576 + 135 * 1024 + 128)) (c3 : g 19 (n + 3) = nI (7 * 1048576 + 0 * 1024 + (n + 7))) (c4 : g 19 (n + 4) = nI (3 * 1048576 + 128 * 1024 + 135)) (c5 : g 19 (n + 5) = nI (16 * 1048576 + 148 * 1024 + 0)) (c6 : g 19 (n + 6) = nI (5 * 1048576 + 0 * 1024 + (n + 2))) (c7 : g 19 (n + 7) = nI (14 * 1048576 + 141 * 1024 + 148)) (hX : X < 1000) (hY : Y < 1000) (hY0 : 0 < Y)
    (z151 : Z 151 = 0) (z148 : 0 ≤ Z 148) (z122 : Z 122 = (X : Int)) (z128 : Z 128 = (Y : Int)) (z135 : Z 135 = ((X / 10 ^ (k + 1) % Y : Nat) : Int)) (z141 : Z 141 = ((X / 10 ^ (k + 1) / Y : Nat) : Int))
    (H : ∀ Z' od', Z' 135 = ((X / 10 ^ k % Y : Nat) : Int) → Z' 141 = ((X / 10 ^ k / Y : Nat) : Int) → 0 ≤ Z' 148 → (∀ j, j ≠ 135 → j ≠ 141 → j ≠ 148 → Z' j = Z j) → rc_Rn post (rc_st h g (nI (n + 8)) od' cd nc ty 0 pn Z' a21 a22 a23)) : rc_Rn post (rc_st h g (nI n) od cd nc ty 0 pn Z a21 a22 a23) := by
  have e0 := rc_divs X k
  have dl := rc_dg_lt X k
  have hq : X / 10 ^ (k + 1) ≤ X := Nat.div_le_self _ _
  have hq2 : X / 10 ^ (k + 1) / Y ≤ X / 10 ^ (k + 1) := Nat.div_le_self _ _
  generalize hr : X / 10 ^ (k + 1) = Q at *
  have hmY : Q % Y < Y := Nat.mod_lt _ hY0
  have hQ := Nat.div_add_mod Q Y
  have e1 : X / 10 ^ k = Y * (Q / Y * 10) + (Q % Y * 10 + rc_dg X k) := by
    rw [e0]
    have t : Y * (Q / Y * 10) = Y * (Q / Y) * 10 := by rw [Nat.mul_assoc]
    omega
  have e2 : X / 10 ^ k / Y = Q / Y * 10 + (Q % Y * 10 + rc_dg X k) / Y := by
    rw [e1, Nat.mul_add_div hY0]
  have e3 : X / 10 ^ k % Y = (Q % Y * 10 + rc_dg X k) % Y := by
    rw [e1, Nat.mul_add_mod]
  have e4 : (Q % Y * 10 + rc_dg X k) / Y ≤ 9 := by
    have t : (Q % Y * 10 + rc_dg X k) / Y < 10 := by
      rw [Nat.div_lt_iff_lt_mul hY0]
      omega
    omega
  refine rm_shift (e := 122) (l := 6) (k := k) (z := ((Q % Y * 10 + rc_dg X k : Nat) : Int)) (by omega) c0 rc_f135 rc_f122 hk rfl (by omega) (by rw [z122, z135, Int.natAbs_natCast]; omega) (by omega) ?_
  refine rm_dig (e := 151) (l := 1) (k := 0) (by omega) c1 rc_f151 (by omega) rfl rc_f148 (by rw [rc_zs_n (e := 135) (j := 148) _ _ (by decide)]; exact z148) ?_
  rw [rc_zs_n (e := 135) (j := 151) _ _ (by decide), z151, Int.natAbs_zero, rc_dg_zero]
  refine rm_dloop (n := n + 2) (Y := Y) (by omega) c2 c3 c4 c5 c6 hY hY0 ((Q % Y * 10 + rc_dg X k) / Y) (Q % Y * 10 + rc_dg X k) 0 _ _ (by omega) rfl (by omega) (by rw [rc_zs_s]) (by rw [rc_zs_n (e := 148) (j := 135) _ _ (by decide), rc_zs_s]) (by rw [rc_zs_n (e := 148) (j := 128) _ _ (by decide), rc_zs_n (e := 135) (j := 128) _ _ (by decide), z128]) (fun Z' od' z1 z2 z3 => ?_)
  rw [Nat.zero_add] at z2
  have h141 : Z' 141 = ((Q / Y : Nat) : Int) := by rw [z3 141 (by decide) (by decide), rc_zs_n (e := 148) (j := 141) _ _ (by decide), rc_zs_n (e := 135) (j := 141) _ _ (by decide), z141]
  have d9 : rc_dg (Z' 148).natAbs 0 = (Q % Y * 10 + rc_dg X k) / Y := by
    rw [z2, Int.natAbs_natCast]
    unfold rc_dg
    rw [Nat.pow_zero, Nat.div_one]
    exact Nat.mod_eq_of_lt (Nat.lt_succ_of_le e4)
  refine rm_shift (e := 148) (l := 1) (k := 0) (z := ((Q / Y * 10 + (Q % Y * 10 + rc_dg X k) / Y : Nat) : Int)) (by omega) c7 rc_f141 rc_f148 (by omega) rfl (by omega) (by rw [d9, h141]; omega) (by omega) (H _ od' ?_ ?_ ?_ ?_)
  · rw [rc_zs_n (e := 141) (j := 135) _ _ (by decide), z1, e3]
  · rw [rc_zs_s, e2]
  · rw [rc_zs_n (e := 141) (j := 148) _ _ (by decide), z2]
    omega
  · intro j j1 j2 j3
    rw [rc_zs_n _ _ j2, z3 j j1 j3, rc_zs_n _ _ j3, rc_zs_n _ _ j1]
theorem rc_divsg (x y : Int) : (if ((if x < 0 then 1 else 0) + (if y < 0 then 1 else 0) : Int) = 1 then -((x.natAbs / y.natAbs : Nat) : Int) else ((x.natAbs / y.natAbs : Nat) : Int)) = Int.tdiv x y := by
  have hx : (x.natAbs : Int) = if x < 0 then -x else x := by split <;> omega
  have hy : (y.natAbs : Int) = if y < 0 then -y else y := by split <;> omega
  have ht : ((x.natAbs / y.natAbs : Nat) : Int) = Int.tdiv (x.natAbs : Int) (y.natAbs : Int) := by
    rw [Int.ofNat_tdiv]
  rw [ht, hx, hy]
  by_cases p : x < 0 <;> by_cases q : y < 0
  · rw [if_pos p, if_pos q, if_pos p, if_pos q, if_neg (by decide), Int.neg_tdiv, Int.tdiv_neg, Int.neg_neg]
  · rw [if_pos p, if_neg q, if_pos p, if_neg q, if_pos (by decide), Int.neg_tdiv, Int.neg_neg]
  · rw [if_neg p, if_pos q, if_neg p, if_pos q, if_pos (by decide), Int.tdiv_neg, Int.neg_neg]
  · rw [if_neg p, if_neg q, if_neg p, if_neg q, if_neg (by decide)]
theorem rm_div {post : Int32 → St2 → Prop} {h : Nat → Int32} {g : Nat → Nat → Int32} {od : Int32} {nc : Int32} {ty : Int32} {pn : Int32} {Z : Nat → Int} {a21 : Nat → Int32} {a22 : Nat → Int32} {a23 : Nat → Int32} {c q : Nat} (hC : rc_pre g) (z151 : Z 151 = 0) (z149 : 0 ≤ Z 149) (z148 : 0 ≤ Z 148) (hX : (Z 122).natAbs < 1000) (hY : (Z 128).natAbs < 1000) (hc : c < 4) (hq : a21 c = nI q)
    (H0 : Z 128 = 0 → ∀ Z' od', Z' 141 = 0 → (∀ j, j < 104 ∨ 150 ≤ j → Z' j = Z j) → rc_Rn post (rc_st h g (nI q) od' (nI c) nc ty 0 pn Z' a21 (upd a22 3 1) a23))
    (H : Z 128 ≠ 0 → ∀ Z' od', Z' 141 = Int.tdiv (Z 122) (Z 128) → (∀ j, j < 104 ∨ 150 ≤ j → Z' j = Z j) → rc_Rn post (rc_st h g (nI q) od' (nI c) nc ty 0 pn Z' a21 a22 a23)) : rc_Rn post (rc_st h g (nI 46) od (nI (c + 1)) nc ty 0 pn Z a21 a22 a23) := by
  refine rm_signs (n := 46) (by omega) (rc_c46 hC) (rc_c47 hC) (rc_c48 hC) (rc_c49 hC) (rc_c50 hC) (rc_c51 hC) (rc_c52 hC) (rc_c53 hC) (rc_c54 hC) z151 z149 (fun Y y1 y2 y3 y4 => ?_)
  have y5 : Y 151 = 0 := by rw [y4 151 (by decide) (by decide) (by decide), z151]
  have y6 : 0 ≤ Y 148 := by rw [y4 148 (by decide) (by decide) (by decide)]; exact z148
  refine rm_za (a := 151) (b := 141) (by omega) (rc_c55 hC) rc_f151 rc_f141 (by decide) (by rw [y5]; decide) (by rw [y5]; decide) ?_
  rw [y5]
  refine rm_cmp (a := 128) (b := 151) (by omega) (rc_c56 hC) rc_f128 rc_f151 (by rw [rc_zs_n (e := 141) (j := 128) _ _ (by decide), y3]; omega) (by rw [rc_zs_n (e := 141) (j := 151) _ _ (by decide), y5]; decide) (by rw [rc_zs_n (e := 141) (j := 128) _ _ (by decide), y3]; omega) (by rw [rc_zs_n (e := 141) (j := 151) _ _ (by decide), y5]; decide) (fun r r1 r2 => ?_)
  rw [rc_zs_n (e := 141) (j := 128) _ _ (by decide), rc_zs_n (e := 141) (j := 151) _ _ (by decide), y3, y5] at r1
  by_cases e0 : Z 128 = 0
  · refine rm_hi0 (by omega) (rc_c57 hC) (by omega) (by omega) (r1.mpr (by rw [e0]; decide)) ?_
    refine rm_set (by omega) (rc_c58 hC) (by omega) (by omega) (rm_ret (by omega) (rc_c59 hC) (by omega) (by omega) hc hq (H0 e0 _ r ?_ (fun j hj => ?_)))
    · rw [rc_zs_s]
    · rw [rc_zs_n _ _ (by omega), y4 j (by omega) (by omega) (by omega)]
  · refine rm_hi1 (by omega) (rc_c57 hC) (by omega) (by omega) (fun z => e0 (by have := r1.mp z; omega)) ?_
    refine rm_za (a := 151) (b := 135) (by omega) (rc_c60 hC) rc_f151 rc_f135 (by decide) (by rw [rc_zs_n (e := 141) (j := 151) _ _ (by decide), y5]; decide) (by rw [rc_zs_n (e := 141) (j := 151) _ _ (by decide), y5]; decide) ?_
    rw [rc_zs_n (e := 141) (j := 151) _ _ (by decide), y5]
    have hW0 : 0 < (Z 128).natAbs := by omega
    generalize hx : (Z 122).natAbs = X at *
    generalize hy : (Z 128).natAbs = W at *
    refine rm_dseg (n := 61) (X := X) (Y := W) (k := 5) (by omega) (by omega) (rc_c61 hC) (rc_c62 hC) (rc_c63 hC) (rc_c64 hC) (rc_c65 hC) (rc_c66 hC) (rc_c67 hC) (rc_c68 hC) hX hY hW0 (by rw [rc_zs_n (e := 135) (j := 151) _ _ (by decide), rc_zs_n (e := 141) (j := 151) _ _ (by decide), y5]) (by rw [rc_zs_n (e := 135) (j := 148) _ _ (by decide), rc_zs_n (e := 141) (j := 148) _ _ (by decide)]; exact y6) (by rw [rc_zs_n (e := 135) (j := 122) _ _ (by decide), rc_zs_n (e := 141) (j := 122) _ _ (by decide), y2]) (by rw [rc_zs_n (e := 135) (j := 128) _ _ (by decide), rc_zs_n (e := 141) (j := 128) _ _ (by decide), y3]) (by rw [rc_zs_s, rc_small0 hX (by decide), Nat.zero_mod]; rfl) (by rw [rc_zs_n (e := 135) (j := 141) _ _ (by decide), rc_zs_s, rc_small0 hX (by decide), Nat.zero_div]; rfl) (fun Z5 o5 p5 t5 q5 r5 => ?_)
    have s5 : ∀ j, j ≠ 135 → j ≠ 141 → j ≠ 148 → Z5 j = Y j := fun j h1 h2 h3 => by rw [r5 j h1 h2 h3, rc_zs_n _ _ h1, rc_zs_n _ _ h2]
    refine rm_dseg (n := 69) (X := X) (Y := W) (k := 4) (by omega) (by omega) (rc_c69 hC) (rc_c70 hC) (rc_c71 hC) (rc_c72 hC) (rc_c73 hC) (rc_c74 hC) (rc_c75 hC) (rc_c76 hC) hX hY hW0 (by rw [s5 151 (by decide) (by decide) (by decide), y5]) q5 (by rw [s5 122 (by decide) (by decide) (by decide), y2]) (by rw [s5 128 (by decide) (by decide) (by decide), y3]) p5 t5 (fun Z4 o4 p4 t4 q4 r4 => ?_)
    have s4 : ∀ j, j ≠ 135 → j ≠ 141 → j ≠ 148 → Z4 j = Y j := fun j h1 h2 h3 => by rw [r4 j h1 h2 h3, s5 j h1 h2 h3]
    refine rm_dseg (n := 77) (X := X) (Y := W) (k := 3) (by omega) (by omega) (rc_c77 hC) (rc_c78 hC) (rc_c79 hC) (rc_c80 hC) (rc_c81 hC) (rc_c82 hC) (rc_c83 hC) (rc_c84 hC) hX hY hW0 (by rw [s4 151 (by decide) (by decide) (by decide), y5]) q4 (by rw [s4 122 (by decide) (by decide) (by decide), y2]) (by rw [s4 128 (by decide) (by decide) (by decide), y3]) p4 t4 (fun Z3 o3 p3 t3 q3 r3 => ?_)
    have s3 : ∀ j, j ≠ 135 → j ≠ 141 → j ≠ 148 → Z3 j = Y j := fun j h1 h2 h3 => by rw [r3 j h1 h2 h3, s4 j h1 h2 h3]
    refine rm_dseg (n := 85) (X := X) (Y := W) (k := 2) (by omega) (by omega) (rc_c85 hC) (rc_c86 hC) (rc_c87 hC) (rc_c88 hC) (rc_c89 hC) (rc_c90 hC) (rc_c91 hC) (rc_c92 hC) hX hY hW0 (by rw [s3 151 (by decide) (by decide) (by decide), y5]) q3 (by rw [s3 122 (by decide) (by decide) (by decide), y2]) (by rw [s3 128 (by decide) (by decide) (by decide), y3]) p3 t3 (fun Z2 o2 p2 t2 q2 r2' => ?_)
    have s2 : ∀ j, j ≠ 135 → j ≠ 141 → j ≠ 148 → Z2 j = Y j := fun j h1 h2 h3 => by rw [r2' j h1 h2 h3, s3 j h1 h2 h3]
    refine rm_dseg (n := 93) (X := X) (Y := W) (k := 1) (by omega) (by omega) (rc_c93 hC) (rc_c94 hC) (rc_c95 hC) (rc_c96 hC) (rc_c97 hC) (rc_c98 hC) (rc_c99 hC) (rc_c100 hC) hX hY hW0 (by rw [s2 151 (by decide) (by decide) (by decide), y5]) q2 (by rw [s2 122 (by decide) (by decide) (by decide), y2]) (by rw [s2 128 (by decide) (by decide) (by decide), y3]) p2 t2 (fun Z1 o1 p1 t1 q1 r1' => ?_)
    have s1 : ∀ j, j ≠ 135 → j ≠ 141 → j ≠ 148 → Z1 j = Y j := fun j h1 h2 h3 => by rw [r1' j h1 h2 h3, s2 j h1 h2 h3]
    refine rm_dseg (n := 101) (X := X) (Y := W) (k := 0) (by omega) (by omega) (rc_c101 hC) (rc_c102 hC) (rc_c103 hC) (rc_c104 hC) (rc_c105 hC) (rc_c106 hC) (rc_c107 hC) (rc_c108 hC) hX hY hW0 (by rw [s1 151 (by decide) (by decide) (by decide), y5]) q1 (by rw [s1 122 (by decide) (by decide) (by decide), y2]) (by rw [s1 128 (by decide) (by decide) (by decide), y3]) p1 t1 (fun Z0 o0 p0 t0 q0 r0 => ?_)
    have s0 : ∀ j, j ≠ 135 → j ≠ 141 → j ≠ 148 → Z0 j = Y j := fun j h1 h2 h3 => by rw [r0 j h1 h2 h3, s1 j h1 h2 h3]
    rw [Nat.pow_zero, Nat.div_one] at t0
    have bd : X / W ≤ X := Nat.div_le_self _ _
    have s9 : Z0 149 = Y 149 := s0 149 (by decide) (by decide) (by decide)
    have h9 : 0 ≤ Y 149 ∧ Y 149 ≤ 2 := by
      rw [y1]
      constructor <;> (split <;> split <;> decide)
    refine rm_sof (n := 109) (f := 141) (lf := 6) (c := c) (q := q) (by omega) rc_f141 (by decide) (rc_c109 hC) (rc_c110 hC) (rc_c111 hC) (rc_c112 hC) (rc_c113 hC) (by rw [s9]; exact h9.1) (by rw [s9]; exact h9.2) (by rw [t0]; exact Int.natCast_nonneg _) (by rw [t0, Int.natAbs_natCast]; exact Nat.lt_of_le_of_lt bd (by omega)) hc hq (fun Z' z1 z2 z3 => H e0 Z' o0 ?_ (fun j hj => ?_))
    · rw [z1, s9, y1, t0, ← hx, ← hy]
      exact rc_divsg _ _
    · rw [z3 j (by omega) (by omega), s0 j (by omega) (by omega) (by omega), y4 j (by omega) (by omega) (by omega)]
end
section
theorem rc_t128 {g : Nat → Nat → Int32} (hC : rc_pre g) : ∀ r, r ≤ 5 → g 19 (133 - r) = nI (21 * 1048576 + (147 - r) * 1024 + 0)
  | 0, _ => rc_c133 hC
  | 1, _ => rc_c132 hC
  | 2, _ => rc_c131 hC
  | 3, _ => rc_c130 hC
  | 4, _ => rc_c129 hC
  | 5, _ => rc_c128 hC
  | _ + 6, h => absurd h (by omega)
theorem rc_t117 {g : Nat → Nat → Int32} (hC : rc_pre g) : ∀ r, r ≤ 4 → g 19 (125 - 2 * r) = nI (24 * 1048576 + (146 - r) * 1024 + (127 - 2 * r)) ∧ g 19 (126 - 2 * r) = nI (5 * 1048576 + 0 * 1024 + (132 - r))
  | 0, _ => ⟨rc_c125 hC, rc_c126 hC⟩
  | 1, _ => ⟨rc_c123 hC, rc_c124 hC⟩
  | 2, _ => ⟨rc_c121 hC, rc_c122 hC⟩
  | 3, _ => ⟨rc_c119 hC, rc_c120 hC⟩
  | 4, _ => ⟨rc_c117 hC, rc_c118 hC⟩
  | _ + 5, h => absurd h (by omega)
/-- the last r + 1 digits, a blank, and back -/
theorem rm_ptail {post : Int32 → St2 → Prop} {h : Nat → Int32} {g : Nat → Nat → Int32} {od : Int32} {nc : Int32} {ty : Int32} {Z : Nat → Int} {a21 : Nat → Int32} {a22 : Nat → Int32} {c q : Nat} (hC : rc_pre g) (hc : c < 4) (hq : a21 c = nI q) : ∀ (r : Nat), r ≤ 5 → ∀ (m : Nat) (a23 : Nat → Int32), m + r ≤ 70 →
    (∀ m' a23', m + 2 ≤ m' → m' ≤ 80 → (∀ j, j < m → a23' j = a23 j) → (∃ d, d < 10 ∧ a23' m = nI (48 + d)) → rc_Rn post (rc_st h g (nI q) od (nI c) nc ty 0 (nI m') Z a21 a22 a23')) → rc_Rn post (rc_st h g (nI (133 - r)) od (nI (c + 1)) nc ty 0 (nI m) Z a21 a22 a23) := by
  intro r
  induction r with
  | zero =>
    intro _ m a23 hm H
    refine rm_pd (e := 147) (l := 6) (k := 0) (by omega) (rc_t128 hC 0 (by omega)) rc_f147 (by omega) rfl (by omega) (by omega) ?_
    refine rm_put (by omega) (rc_c134 hC) (by omega) (by omega) (by omega) (rm_ret (by omega) (rc_c135 hC) (by omega) (by omega) hc hq (H (m + 1 + 1) _ (by omega) (by omega) (fun j hj => ?_) ⟨_, rc_dg_lt (Z 147).natAbs 0, ?_⟩))
    · rw [pk_un (by omega), pk_un (by omega)]
    · rw [pk_un (by omega), pk_us]
  | succ r ih =>
    intro hr m a23 hm H
    refine rm_pd (e := 147) (l := 6) (k := r + 1) (by omega) (rc_t128 hC (r + 1) hr) rc_f147 (by omega) rfl (by omega) (by omega) ?_
    rw [show 133 - (r + 1) + 1 = 133 - r by omega]
    refine ih (by omega) (m + 1) _ (by omega) (fun m' a23' h1 h2 h3 h4 => H m' a23' (by omega) h2 (fun j hj => ?_) ⟨_, rc_dg_lt (Z 147).natAbs (r + 1), ?_⟩)
    · rw [h3 j (by omega), pk_un (by omega)]
    · rw [h3 m (by omega), pk_us]
/-- noughts are passed over -/
theorem rm_pskip {post : Int32 → St2 → Prop} {h : Nat → Int32} {g : Nat → Nat → Int32} {od : Int32} {nc : Int32} {ty : Int32} {Z : Nat → Int} {a21 : Nat → Int32} {a22 : Nat → Int32} {c q : Nat} (hC : rc_pre g) (hc : c < 4) (hq : a21 c = nI q) (m : Nat) (a23 : Nat → Int32) (hm : m ≤ 60)
    (H : ∀ m' a23', m + 2 ≤ m' → m' ≤ 80 → (∀ j, j < m → a23' j = a23 j) → (∃ d, d < 10 ∧ a23' m = nI (48 + d)) → rc_Rn post (rc_st h g (nI q) od (nI c) nc ty 0 (nI m') Z a21 a22 a23')) : ∀ r, r ≤ 5 → rc_Rn post (rc_st h g (nI (127 - 2 * r)) od (nI (c + 1)) nc ty 0 (nI m) Z a21 a22 a23) := by
  intro r
  induction r with
  | zero =>
    intro _
    exact rm_j (by omega) (rc_c127 hC) (by omega) (by omega) (rm_ptail hC hc hq 0 (by omega) m a23 (by omega) H)
  | succ r ih =>
    intro hr
    have t := rc_t117 hC r (by omega)
    rw [show 127 - 2 * (r + 1) = 125 - 2 * r by omega]
    refine rm_iz (e := 147) (l := 6) (k := r + 1) (by omega) t.1 rc_f147 (by omega) (by omega) (by omega) (fun _ => ih (by omega)) (fun _ => ?_)
    rw [show 125 - 2 * r + 1 = 126 - 2 * r by omega]
    refine rm_j (by omega) t.2 (by omega) (by omega) ?_
    rw [show 132 - r = 133 - (r + 1) by omega]
    exact rm_ptail hC hc hq (r + 1) (by omega) m a23 (by omega) H
theorem rc_not45 : ∀ d, d < 10 → ¬ nI (48 + d) = 45 := by decide +kernel
theorem rm_print {post : Int32 → St2 → Prop} {h : Nat → Int32} {g : Nat → Nat → Int32} {od : Int32} {nc : Int32} {ty : Int32} {Z : Nat → Int} {a21 : Nat → Int32} {a22 : Nat → Int32} {a23 : Nat → Int32} {c q : Nat} (hC : rc_pre g) (hc : c < 4) (hq : a21 c = nI q)
    (H : ∀ m' a23', 2 ≤ m' → m' ≤ 80 → (a23' 0 = 45 ↔ Z 147 < 0) → rc_Rn post (rc_st h g (nI q) od (nI c) nc ty 0 (nI m') Z a21 a22 a23')) : rc_Rn post (rc_st h g (nI 114) od (nI (c + 1)) nc ty 0 (nI 0) Z a21 a22 a23) := by
  refine rm_im (by omega) (rc_c114 hC) (by omega) (by omega) (fun z => ?_) (fun z => ?_)
  · refine rm_j (by omega) (rc_c115 hC) (by omega) (by omega) (rm_pskip hC hc hq 0 a23 (by omega) (fun m' a23' h1 h2 h3 h4 => H m' a23' (by omega) h2 ?_) 5 (by omega))
    obtain ⟨d, hd, e⟩ := h4
    rw [e]
    exact ⟨fun t => absurd t (rc_not45 d hd), fun t => absurd t (by omega)⟩
  · refine rm_put (by omega) (rc_c116 hC) (by omega) (by omega) (by omega) (rm_pskip hC hc hq 1 _ (by omega) (fun m' a23' h1 h2 h3 h4 => H m' a23' (by omega) h2 ?_) 5 (by omega))
    rw [h3 0 (by omega), pk_us]
    exact ⟨fun _ => z, fun _ => rfl⟩
end
section
/-- the words behind group 0, which ends at q -/
def rc_cyc (g : Nat → Nat → Int32) (q : Nat) : Prop :=
  g 19 0 = nI (5 * 1048576 + 0 * 1024 + (q + 6)) ∧
  g 19 q = nI (20 * 1048576 + 0 * 1024 + 0) ∧
  g 19 (q + 1) = nI (26 * 1048576 + 0 * 1024 + 0) ∧ g 19 (q + 2) = nI (1 * 1048576 + 29 * 1024 + 147) ∧ g 19 (q + 3) = nI (19 * 1048576 + 0 * 1024 + 114) ∧ g 19 (q + 4) = nI (20 * 1048576 + 0 * 1024 + 0) ∧
  g 19 (q + 5) = nI (20 * 1048576 + 0 * 1024 + 0) ∧
  g 19 (q + 6) = nI (13 * 1048576 + 0 * 1024 + (q + 23)) ∧ g 19 (q + 7) = nI (24 * 1048576 + 150 * 1024 + (q + 16)) ∧
  g 19 (q + 16) = nI (1 * 1048576 + 39 * 1024 + 37) ∧ g 19 (q + 17) = nI (1 * 1048576 + 43 * 1024 + 41) ∧ g 19 (q + 18) = nI (1 * 1048576 + 49 * 1024 + 46) ∧ g 19 (q + 19) = nI (1 * 1048576 + 55 * 1024 + 52) ∧
  g 19 (q + 20) = nI (18 * 1048576 + 152 * 1024 + 150) ∧ g 19 (q + 21) = nI (19 * 1048576 + 0 * 1024 + 136) ∧ g 19 (q + 22) = nI (5 * 1048576 + 0 * 1024 + (q + 6)) ∧
  g 19 (q + 23) = nI (24 * 1048576 + 150 * 1024 + (q + 26)) ∧ g 19 (q + 24) = nI (19 * 1048576 + 0 * 1024 + q) ∧ g 19 (q + 25) = nI (19 * 1048576 + 0 * 1024 + (q + 1)) ∧ g 19 (q + 26) = nI (19 * 1048576 + 0 * 1024 + (q + 5)) ∧ g 19 (q + 27) = nI 0
/-- group 0 with its call and its way back: what it must do with the card's fields x and y -/
def rc_grp (post : Int32 → St2 → Prop) (h : Nat → Int32) (g : Nat → Nat → Int32) (x y due : Int) (f : Prop) : Prop :=
  ∀ (q : Nat) (od nc pn : Int32) (Z : Nat → Int) (a21 a22 a23 : Nat → Int32), q < 420 → a21 0 = nI q → Z 46 = x → Z 52 = y → Z 29 = 0 → Z 151 = 0 → Z 148 = 0 → Z 149 = 0 → Z 150 = 1 → a22 3 = 0 →
    (∀ Z' od' a21' a22', Z' 29 = due → Z' 150 = 1 → (¬ a22' 3 = 0 ↔ f) → rc_Rn post (rc_st h g (nI q) od' (nI 0) nc (nI 1) 0 pn Z' a21' a22' a23)) →
    rc_Rn post (rc_st h g (nI 136) od (nI 1) nc (nI 0) 0 pn Z a21 a22 a23)
theorem rm_main {post : Int32 → St2 → Prop} {h : Nat → Int32} {g : Nat → Nat → Int32} {od : Int32} {Z : Nat → Int} {a21 : Nat → Int32} {a22 : Nat → Int32} {a23 : Nat → Int32} {q : Nat} {x y due : Int} {f : Prop} (hC : rc_pre g) (hD : rc_cyc g q) (hq : q < 300) (hG : rc_grp post h g x y due f) (hdue : due.natAbs < 1000000)
    (h1 : h 0 = 1) (k0 : g 17 0 = nI 39) (k1 : g 17 1 = nI 43) (k2 : g 17 2 = nI 49) (k3 : g 17 3 = nI 55) (c0 : g 1 0 = rc_iI 7) (c1 : g 2 0 = rc_iI 7) (c2 : g 3 0 = rc_iI x) (c3 : g 4 0 = rc_iI y) (hx : x.natAbs < 1000) (hy : y.natAbs < 1000)
    (z29 : Z 29 = 0) (z148 : Z 148 = 0) (z149 : Z 149 = 0) (z150 : Z 150 = 0) (z151 : Z 151 = 0) (z152 : Z 152 = 1) (i3 : a22 3 = 0)
    (H : ∀ pc od cd nc m Z' a21' a22' a23', Z' 29 = due → (¬ a22' 3 = 0 ↔ f) → 2 ≤ m → m ≤ 80 → (a23' 0 = 45 ↔ due < 0) → post (nI 2) (rc_st h g pc od cd nc (nI 2) 1 (nI m) Z' a21' a22' a23')) :
    rc_Rn post (rc_st h g (nI 0) od (nI 0) 0 (nI 0) 0 (nI 0) Z a21 a22 a23) := by
  obtain ⟨d0, d1, d2, d3, d4, d5, d6, d7, d8, d9, d10, d11, d12, d13, d14, d15, d16, d17, d18, d19, d20⟩ := hD
  refine rm_j (by omega) d0 (by omega) (by omega) ?_
  refine rm_read (x := x) (y := y) (by omega) d7 (by omega) (by omega) (by rw [h1]; decide) k0 k1 k2 k3 c0 c1 c2 c3 hx hy ?_
  generalize hY : rc_zs (rc_zs (rc_zs (rc_zs Z 39 7) 43 7) 49 x) 55 y = Y
  have y39 : Y 39 = 7 := by rw [← hY, rc_zs_n (e := 55) (j := 39) _ _ (by decide), rc_zs_n (e := 49) (j := 39) _ _ (by decide), rc_zs_n (e := 43) (j := 39) _ _ (by decide), rc_zs_s]
  have y43 : Y 43 = 7 := by rw [← hY, rc_zs_n (e := 55) (j := 43) _ _ (by decide), rc_zs_n (e := 49) (j := 43) _ _ (by decide), rc_zs_s]
  have y49 : Y 49 = x := by rw [← hY, rc_zs_n (e := 55) (j := 49) _ _ (by decide), rc_zs_s]
  have y55 : Y 55 = y := by rw [← hY, rc_zs_s]
  have yo : ∀ j, j ≠ 39 → j ≠ 43 → j ≠ 49 → j ≠ 55 → Y j = Z j := fun j j1 j2 j3 j4 => by rw [← hY, rc_zs_n _ _ j4, rc_zs_n _ _ j3, rc_zs_n _ _ j2, rc_zs_n _ _ j1]
  refine rm_iz (e := 150) (l := 1) (k := 0) (by omega) d8 rc_f150 (by omega) rfl (by omega) (fun _ => ?_) (fun z => absurd (by rw [yo 150 (by decide) (by decide) (by decide) (by decide), z150, Int.natAbs_zero, rc_dg_zero]) z)
  refine rm_za (by omega) d9 rc_f39 rc_f37 (by decide) (by rw [y39]; decide) (by rw [y39]; decide) ?_
  refine rm_za (by omega) d10 rc_f43 rc_f41 (by decide) (by rw [rc_zs_n (e := 37) (j := 43) _ _ (by decide), y43]; decide) (by rw [rc_zs_n (e := 37) (j := 43) _ _ (by decide), y43]; decide) ?_
  refine rm_za (by omega) d11 rc_f49 rc_f46 (by decide) (by rw [rc_zs_n (e := 41) (j := 49) _ _ (by decide), rc_zs_n (e := 37) (j := 49) _ _ (by decide), y49]; omega) (by rw [rc_zs_n (e := 41) (j := 49) _ _ (by decide), rc_zs_n (e := 37) (j := 49) _ _ (by decide), y49]; omega) ?_
  refine rm_za (by omega) d12 rc_f55 rc_f52 (by decide) (by rw [rc_zs_n (e := 46) (j := 55) _ _ (by decide), rc_zs_n (e := 41) (j := 55) _ _ (by decide), rc_zs_n (e := 37) (j := 55) _ _ (by decide), y55]; omega) (by rw [rc_zs_n (e := 46) (j := 55) _ _ (by decide), rc_zs_n (e := 41) (j := 55) _ _ (by decide), rc_zs_n (e := 37) (j := 55) _ _ (by decide), y55]; omega) ?_
  rw [rc_zs_n (e := 46) (j := 55) _ _ (by decide), rc_zs_n (e := 41) (j := 49) _ _ (by decide), rc_zs_n (e := 41) (j := 55) _ _ (by decide), rc_zs_n (e := 37) (j := 43) _ _ (by decide), rc_zs_n (e := 37) (j := 49) _ _ (by decide), rc_zs_n (e := 37) (j := 55) _ _ (by decide), y39, y43, y49, y55]
  generalize hX : rc_zs (rc_zs (rc_zs (rc_zs Y 37 7) 41 7) 46 x) 52 y = X
  have x46 : X 46 = x := by rw [← hX, rc_zs_n (e := 52) (j := 46) _ _ (by decide), rc_zs_s]
  have x52 : X 52 = y := by rw [← hX, rc_zs_s]
  have xo : ∀ j, j = 29 ∨ 100 < j → X j = Z j := fun j hj => by rw [← hX, rc_zs_n _ _ (by omega), rc_zs_n _ _ (by omega), rc_zs_n _ _ (by omega), rc_zs_n _ _ (by omega), yo j (by omega) (by omega) (by omega) (by omega)]
  refine rm_dig (e := 152) (l := 1) (k := 0) (by omega) d13 rc_f152 (by omega) rfl rc_f150 (by rw [xo 150 (by omega), z150]; decide) ?_
  have e1 : ((rc_dg (X 152).natAbs 0 : Nat) : Int) = 1 := by rw [xo 152 (by omega), z152]; rfl
  rw [e1]
  refine rm_call (c := 0) (by omega) d14 (by omega) (by omega) (by omega) ?_
  refine hG (q + 22) _ _ _ _ _ _ _ (by omega) pk_us (by rw [rc_zs_n (e := 150) (j := 46) _ _ (by decide), x46]) (by rw [rc_zs_n (e := 150) (j := 52) _ _ (by decide), x52]) (by rw [rc_zs_n (e := 150) (j := 29) _ _ (by decide), xo 29 (by omega), z29]) (by rw [rc_zs_n (e := 150) (j := 151) _ _ (by decide), xo 151 (by omega), z151]) (by rw [rc_zs_n (e := 150) (j := 148) _ _ (by decide), xo 148 (by omega), z148]) (by rw [rc_zs_n (e := 150) (j := 149) _ _ (by decide), xo 149 (by omega), z149]) (rc_zs_s _ _ _) i3 (fun W o1 b21 b22 w1 w2 w3 => ?_)
  refine rm_j (by omega) d15 (by omega) (by omega) ?_
  refine rm_end (by omega) d7 (by omega) (by omega) h1.symm ?_
  refine rm_iz (e := 150) (l := 1) (k := 0) (by omega) d16 rc_f150 (by omega) rfl (by omega) (fun z => absurd z (by rw [w2]; decide)) (fun _ => ?_)
  refine rm_call (c := 0) (by omega) d17 (by omega) (by omega) (by omega) ?_
  refine rm_ret (c := 0) (by omega) d1 (by omega) (by omega) (by omega) pk_us ?_
  refine rm_call (c := 0) (by omega) d18 (by omega) (by omega) (by omega) ?_
  refine rm_tally (by omega) d2 (by omega) (by omega) ?_
  refine rm_za (by omega) d3 rc_f29 rc_f147 (by decide) (by rw [w1]; exact hdue) (by rw [w1]; exact hdue) ?_
  refine rm_call (c := 1) (by omega) d4 (by omega) (by omega) (by omega) ?_
  refine rm_print (c := 1) hC (by omega) pk_us (fun m a23' m1 m2 m3 => ?_)
  rw [rc_zs_s, w1] at m3
  refine rm_ret (c := 0) (by omega) d5 (by omega) (by omega) (by omega) (by rw [pk_un (by decide), pk_us]) ?_
  refine rm_call (c := 0) (by omega) d19 (by omega) (by omega) (by omega) ?_
  refine rm_ret (c := 0) (by omega) d6 (by omega) (by omega) (by omega) pk_us ?_
  exact rm_halt (by omega) d20 (H _ _ _ _ m _ _ _ _ (by rw [rc_zs_n (e := 147) (j := 29) _ _ (by decide), w1]) w3 m1 m2 m3)
end
section
theorem rm_g0 {post : Int32 → St2 → Prop} {h : Nat → Int32} {g : Nat → Nat → Int32} {x y : Int} (hx : x.natAbs < 1000) (e0 : g 19 136 = nI (26 * 1048576 + 0 * 1024 + 0)) (e1 : g 19 137 = nI (1 * 1048576 + 46 * 1024 + 29)) (e2 : g 19 138 = nI (20 * 1048576 + 0 * 1024 + 0)) : rc_grp post h g x y x False := by
  intro q od nc pn Z a21 a22 a23 hq b0 z46 z52 z29 z151 z148 z149 z150 i3 H
  refine rm_tally (t := 0) (by omega) e0 (by omega) (by omega) ?_
  refine rm_za (by omega) e1 rc_f46 rc_f29 (by decide) (by rw [z46]; omega) (by rw [z46]; omega) ?_
  exact rm_ret (c := 0) (by omega) e2 (by omega) (by omega) (by omega) b0 (H _ _ _ _ (by rw [rc_zs_s, z46]) (by rw [rc_zs_n (e := 29) (j := 150) _ _ (by decide), z150]) ⟨fun t => t i3, fun t => t.elim⟩)
theorem rm_g1 {post : Int32 → St2 → Prop} {h : Nat → Int32} {g : Nat → Nat → Int32} {x y : Int} (hx : x.natAbs < 1000) (hy : y.natAbs < 1000) (e0 : g 19 136 = nI (26 * 1048576 + 0 * 1024 + 0)) (e1 : g 19 137 = nI (1 * 1048576 + 46 * 1024 + 29)) (e2 : g 19 138 = nI (2 * 1048576 + 52 * 1024 + 29)) (e3 : g 19 139 = nI (20 * 1048576 + 0 * 1024 + 0)) : rc_grp post h g x y (x + y) False := by
  intro q od nc pn Z a21 a22 a23 hq b0 z46 z52 z29 z151 z148 z149 z150 i3 H
  refine rm_tally (t := 0) (by omega) e0 (by omega) (by omega) ?_
  refine rm_za (by omega) e1 rc_f46 rc_f29 (by decide) (by rw [z46]; omega) (by rw [z46]; omega) ?_
  refine rm_add (by omega) e2 rc_f52 rc_f29 (by decide) (by rw [rc_zs_n (e := 29) (j := 52) _ _ (by decide), z52]; omega) (by rw [rc_zs_s, z46]; omega) (by rw [rc_zs_n (e := 29) (j := 52) _ _ (by decide), z52]; omega) (by rw [rc_zs_s, rc_zs_n (e := 29) (j := 52) _ _ (by decide), z52, z46]; omega) ?_
  exact rm_ret (c := 0) (by omega) e3 (by omega) (by omega) (by omega) b0 (H _ _ _ _ (by rw [rc_zs_s, rc_zs_s, rc_zs_n (e := 29) (j := 52) _ _ (by decide), z46, z52]) (by rw [rc_zs_n (e := 29) (j := 150) _ _ (by decide), rc_zs_n (e := 29) (j := 150) _ _ (by decide), z150]) ⟨fun t => t i3, fun t => t.elim⟩)
theorem rm_g2 {post : Int32 → St2 → Prop} {h : Nat → Int32} {g : Nat → Nat → Int32} {x y : Int} (hx : x.natAbs < 1000) (hy : y.natAbs < 1000) (e0 : g 19 136 = nI (26 * 1048576 + 0 * 1024 + 0)) (e1 : g 19 137 = nI (1 * 1048576 + 46 * 1024 + 29)) (e2 : g 19 138 = nI (3 * 1048576 + 52 * 1024 + 29)) (e3 : g 19 139 = nI (20 * 1048576 + 0 * 1024 + 0)) : rc_grp post h g x y (x - y) False := by
  intro q od nc pn Z a21 a22 a23 hq b0 z46 z52 z29 z151 z148 z149 z150 i3 H
  refine rm_tally (t := 0) (by omega) e0 (by omega) (by omega) ?_
  refine rm_za (by omega) e1 rc_f46 rc_f29 (by decide) (by rw [z46]; omega) (by rw [z46]; omega) ?_
  refine rm_sub (by omega) e2 rc_f52 rc_f29 (by decide) (by rw [rc_zs_n (e := 29) (j := 52) _ _ (by decide), z52]; omega) (by rw [rc_zs_s, z46]; omega) (by rw [rc_zs_n (e := 29) (j := 52) _ _ (by decide), z52]; omega) (by rw [rc_zs_s, rc_zs_n (e := 29) (j := 52) _ _ (by decide), z52, z46]; omega) ?_
  exact rm_ret (c := 0) (by omega) e3 (by omega) (by omega) (by omega) b0 (H _ _ _ _ (by rw [rc_zs_s, rc_zs_s, rc_zs_n (e := 29) (j := 52) _ _ (by decide), z46, z52]) (by rw [rc_zs_n (e := 29) (j := 150) _ _ (by decide), rc_zs_n (e := 29) (j := 150) _ _ (by decide), z150]) ⟨fun t => t i3, fun t => t.elim⟩)
theorem rc_prodb {x y : Int} (hx : x.natAbs < 1000) (hy : y.natAbs < 1000) : (x * y).natAbs < 1000000 := by
  rw [Int.natAbs_mul]
  have h2 : x.natAbs * y.natAbs ≤ 999 * 999 := Nat.mul_le_mul (by omega) (by omega)
  omega
theorem rc_quotb {x y : Int} (hx : x.natAbs < 1000) : (Int.tdiv x y).natAbs < 1000 := by
  rw [Int.natAbs_tdiv]
  exact Nat.lt_of_le_of_lt (Nat.div_le_self _ _) hx
theorem rm_g3 {post : Int32 → St2 → Prop} {h : Nat → Int32} {g : Nat → Nat → Int32} {x y : Int} (hC : rc_pre g) (hx : x.natAbs < 1000) (hy : y.natAbs < 1000) (e0 : g 19 136 = nI (26 * 1048576 + 0 * 1024 + 0)) (e1 : g 19 137 = nI (1 * 1048576 + 46 * 1024 + 122)) (e2 : g 19 138 = nI (1 * 1048576 + 52 * 1024 + 128)) (e3 : g 19 139 = nI (19 * 1048576 + 0 * 1024 + 1)) (e4 : g 19 140 = nI (1 * 1048576 + 116 * 1024 + 29)) (e5 : g 19 141 = nI (20 * 1048576 + 0 * 1024 + 0)) : rc_grp post h g x y (x * y) False := by
  intro q od nc pn Z a21 a22 a23 hq b0 z46 z52 z29 z151 z148 z149 z150 i3 H
  have bd := rc_prodb hx hy
  refine rm_tally (t := 0) (by omega) e0 (by omega) (by omega) ?_
  refine rm_za (by omega) e1 rc_f46 rc_f122 (by decide) (by rw [z46]; omega) (by rw [z46]; omega) ?_
  refine rm_za (by omega) e2 rc_f52 rc_f128 (by decide) (by rw [rc_zs_n (e := 122) (j := 52) _ _ (by decide), z52]; omega) (by rw [rc_zs_n (e := 122) (j := 52) _ _ (by decide), z52]; omega) ?_
  rw [rc_zs_n (e := 122) (j := 52) _ _ (by decide), z46, z52]
  refine rm_call (c := 1) (by omega) e3 (by omega) (by omega) (by omega) ?_
  refine rm_mul (c := 1) hC (by rw [rc_zs_n (e := 128) (j := 151) _ _ (by decide), rc_zs_n (e := 122) (j := 151) _ _ (by decide), z151]) (by rw [rc_zs_n (e := 128) (j := 149) _ _ (by decide), rc_zs_n (e := 122) (j := 149) _ _ (by decide), z149]; decide) (by rw [rc_zs_n (e := 128) (j := 148) _ _ (by decide), rc_zs_n (e := 122) (j := 148) _ _ (by decide), z148]; decide) (by rw [rc_zs_n (e := 128) (j := 122) _ _ (by decide), rc_zs_s]; exact hx) (by rw [rc_zs_s]; exact hy) (by omega) pk_us (fun W w1 w2 => ?_)
  rw [rc_zs_n (e := 128) (j := 122) _ _ (by decide), rc_zs_s, rc_zs_s] at w1
  refine rm_za (by omega) e4 rc_f116 rc_f29 (by decide) (by rw [w1]; omega) (by rw [w1]; omega) ?_
  exact rm_ret (c := 0) (by omega) e5 (by omega) (by omega) (by omega) (by rw [pk_un (by decide)]; exact b0) (H _ _ _ _ (by rw [rc_zs_s, w1]) (by rw [rc_zs_n (e := 29) (j := 150) _ _ (by decide), w2 150 (by decide), rc_zs_n (e := 128) (j := 150) _ _ (by decide), rc_zs_n (e := 122) (j := 150) _ _ (by decide), z150]) ⟨fun t => t i3, fun t => t.elim⟩)
theorem rm_g4 {post : Int32 → St2 → Prop} {h : Nat → Int32} {g : Nat → Nat → Int32} {x y : Int} (hC : rc_pre g) (hx : x.natAbs < 1000) (hy : y.natAbs < 1000) (e0 : g 19 136 = nI (26 * 1048576 + 0 * 1024 + 0)) (e1 : g 19 137 = nI (1 * 1048576 + 46 * 1024 + 122)) (e2 : g 19 138 = nI (1 * 1048576 + 52 * 1024 + 128)) (e3 : g 19 139 = nI (19 * 1048576 + 0 * 1024 + 46)) (e4 : g 19 140 = nI (1 * 1048576 + 141 * 1024 + 29)) (e5 : g 19 141 = nI (20 * 1048576 + 0 * 1024 + 0)) : rc_grp post h g x y (Int.tdiv x y) (y = 0) := by
  intro q od nc pn Z a21 a22 a23 hq b0 z46 z52 z29 z151 z148 z149 z150 i3 H
  have bd := @rc_quotb x y hx
  refine rm_tally (t := 0) (by omega) e0 (by omega) (by omega) ?_
  refine rm_za (by omega) e1 rc_f46 rc_f122 (by decide) (by rw [z46]; omega) (by rw [z46]; omega) ?_
  refine rm_za (by omega) e2 rc_f52 rc_f128 (by decide) (by rw [rc_zs_n (e := 122) (j := 52) _ _ (by decide), z52]; omega) (by rw [rc_zs_n (e := 122) (j := 52) _ _ (by decide), z52]; omega) ?_
  rw [rc_zs_n (e := 122) (j := 52) _ _ (by decide), z46, z52]
  refine rm_call (c := 1) (by omega) e3 (by omega) (by omega) (by omega) ?_
  refine rm_div (c := 1) hC (by rw [rc_zs_n (e := 128) (j := 151) _ _ (by decide), rc_zs_n (e := 122) (j := 151) _ _ (by decide), z151]) (by rw [rc_zs_n (e := 128) (j := 149) _ _ (by decide), rc_zs_n (e := 122) (j := 149) _ _ (by decide), z149]; decide) (by rw [rc_zs_n (e := 128) (j := 148) _ _ (by decide), rc_zs_n (e := 122) (j := 148) _ _ (by decide), z148]; decide) (by rw [rc_zs_n (e := 128) (j := 122) _ _ (by decide), rc_zs_s]; exact hx) (by rw [rc_zs_s]; exact hy) (by omega) pk_us (fun v W o1 w1 w2 => ?_) (fun v W o1 w1 w2 => ?_)
  · rw [rc_zs_s] at v
    refine rm_za (by omega) e4 rc_f141 rc_f29 (by decide) (by rw [w1]; decide) (by rw [w1]; decide) ?_
    exact rm_ret (c := 0) (by omega) e5 (by omega) (by omega) (by omega) (by rw [pk_un (by decide)]; exact b0) (H _ _ _ _ (by rw [rc_zs_s, w1, v, Int.tdiv_zero]) (by rw [rc_zs_n (e := 29) (j := 150) _ _ (by decide), w2 150 (by decide), rc_zs_n (e := 128) (j := 150) _ _ (by decide), rc_zs_n (e := 122) (j := 150) _ _ (by decide), z150]) ⟨fun _ => v, fun _ => by rw [pk_us]; decide⟩)
  · rw [rc_zs_s] at v
    rw [rc_zs_n (e := 128) (j := 122) _ _ (by decide), rc_zs_s, rc_zs_s] at w1
    refine rm_za (by omega) e4 rc_f141 rc_f29 (by decide) (by rw [w1]; omega) (by rw [w1]; omega) ?_
    exact rm_ret (c := 0) (by omega) e5 (by omega) (by omega) (by omega) (by rw [pk_un (by decide)]; exact b0) (H _ _ _ _ (by rw [rc_zs_s, w1]) (by rw [rc_zs_n (e := 29) (j := 150) _ _ (by decide), w2 150 (by decide), rc_zs_n (e := 128) (j := 150) _ _ (by decide), rc_zs_n (e := 122) (j := 150) _ _ (by decide), z150]) ⟨fun t => absurd i3 t, fun t => absurd t v⟩)
end
section
theorem rc_ue {f : Nat → Int32} {k k' : Nat} {v v' : Int32} (hk : k = k') (hv : v = v') : upd f k v = upd f k' v' := by rw [hk, hv]
theorem rc_put {cc lc lv me sm pd lf rt rs qt tx ct sg ve zr on cp mu dv pr pc od cd nc ty vl pn : Int32} {a1 a2 a3 a4 a5 a6 a7 a8 a9 a10 a11 a12 a13 a14 a15 a16 a17 a18 a19 a20 a21 a22 a23 : Nat → Int32} {post : Int32 → St2 → Prop} {n w : Nat} {p0 p1 p2 : Int32} (hn : n < 420) (hw : ((p0 <<< ((20 : Int32) &&& 31)) ||| (p1 <<< ((10 : Int32) &&& 31))) ||| p2 = nI w) (H : post (nI n) (cc, lc, lv, me, sm, pd, lf, rt, rs, qt, tx, ct, sg, ve, zr, on, cp, nI (n + 1), mu, dv, pr, pc, od, cd, nc, ty, vl, pn, a1, a2, a3, a4, a5, a6, a7, a8, a9, a10, a11, a12, a13, a14, a15, a16, a17, a18, upd a19 n (nI w), a20, a21, a22, a23)) : wpX_put post (cc, lc, lv, me, sm, pd, lf, rt, rs, qt, tx, ct, sg, ve, zr, on, cp, nI n, mu, dv, pr, pc, od, cd, nc, ty, vl, pn, a1, a2, a3, a4, a5, a6, a7, a8, a9, a10, a11, a12, a13, a14, a15, a16, a17, a18, a19, a20, a21, a22, a23) p0 p1 p2 := by
  unfold wpX_put
  dsimp only
  refine ⟨vp_in_nI hn (by omega), nm_r (rc_ue (nI_clamp (by omega)) hw) (nm_r (nI_1 n) ?_)⟩
  rw [nI_pred]
  exact H
theorem rc_land {cc lc lv me sm pd lf rt rs qt tx ct sg ve zr on cp mu dv pr pc od cd nc ty vl pn : Int32} {a1 a2 a3 a4 a5 a6 a7 a8 a9 a10 a11 a12 a13 a14 a15 a16 a17 a18 a19 a20 a21 a22 a23 : Nat → Int32} {post : St2 → Prop} {i n w0 w : Nat} {p0 : Int32} (hi : i < 420) (h0 : p0 = nI i) (hr : a19 i = nI w0) (hw : (nI w0 &&& (-1024)) ||| nI n = nI w) (H : post (cc, lc, lv, me, sm, pd, lf, rt, rs, qt, tx, ct, sg, ve, zr, on, cp, nI n, mu, dv, pr, pc, od, cd, nc, ty, vl, pn, a1, a2, a3, a4, a5, a6, a7, a8, a9, a10, a11, a12, a13, a14, a15, a16, a17, a18, upd a19 i (nI w), a20, a21, a22, a23)) : wpX_land post (cc, lc, lv, me, sm, pd, lf, rt, rs, qt, tx, ct, sg, ve, zr, on, cp, nI n, mu, dv, pr, pc, od, cd, nc, ty, vl, pn, a1, a2, a3, a4, a5, a6, a7, a8, a9, a10, a11, a12, a13, a14, a15, a16, a17, a18, a19, a20, a21, a22, a23) p0 := by
  subst h0
  unfold wpX_land
  dsimp only
  exact ⟨vp_in_nI hi (by omega), vp_in_nI hi (by omega), nm_r (rc_ue (nI_clamp (by omega)) (by rw [nI_clamp (by omega), hr, hw])) H⟩
/-- stores, one behind another -/
def rc_ups (f : Nat → Int32) (l : List (Nat × Nat)) : Nat → Int32 := l.foldl (fun f kv => upd f kv.1 (nI kv.2)) f
def rc_l1 : List (Nat × Nat) := [(1, 19029141), (2, 24242176), (3, 5242880), (2, 24242180), (4, 16929792), (5, 17950720), (3, 5242886), (6, 24248320), (7, 5242880), (6, 24248328), (8, 16929792), (9, 17956864), (7, 5242890)]
theorem rc_wS1 {cc lc lv cp mu dv pr pc od cd nc ty vl pn : Int32} {a1 a2 a3 a4 a5 a6 a7 a8 a9 a10 a11 a12 a13 a14 a15 a16 a17 a18 a19 a20 a21 a22 a23 : Nat → Int32} {post : St2 → Prop} (H : post (cc, lc, lv, nI 153, nI 104, nI 116, nI 122, nI 128, nI 135, nI 141, nI 147, nI 148, nI 149, nI 150, nI 151, nI 152, cp, nI 10, mu, dv, pr, pc, od, cd, nc, ty, vl, pn, a1, a2, a3, a4, a5, a6, a7, a8, a9, a10, a11, a12, a13, a14, a15, a16, a17, a18, rc_ups a19 rc_l1, a20, a21, a22, a23)) : wpX_writeSigns post (cc, lc, lv, nI 153, nI 104, nI 116, nI 122, nI 128, nI 135, nI 141, nI 147, nI 148, nI 149, nI 150, nI 151, nI 152, cp, nI 1, mu, dv, pr, pc, od, cd, nc, ty, vl, pn, a1, a2, a3, a4, a5, a6, a7, a8, a9, a10, a11, a12, a13, a14, a15, a16, a17, a18, a19, a20, a21, a22, a23) := by
  unfold wpX_writeSigns
  dsimp only
  refine rc_put (n := 1) (w := 19029141) (by decide) (by decide +kernel) ?_
  dsimp only
  refine ⟨3, ?_⟩
  refine br_f (by decide) (br_t (by decide) ?_)
  refine rc_put (n := 2) (w := 24242176) (by decide) (by decide +kernel) ?_
  dsimp only
  refine rc_put (n := 3) (w := 5242880) (by decide) (by decide +kernel) ?_
  dsimp only
  refine rc_land (i := 2) (n := 4) (w0 := 24242176) (w := 24242180) (by decide) (by decide) rfl (by decide +kernel) ?_
  dsimp only
  refine rc_put (n := 4) (w := 16929792) (by decide) (by decide +kernel) ?_
  dsimp only
  refine rc_put (n := 5) (w := 17950720) (by decide) (by decide +kernel) ?_
  dsimp only
  refine rc_land (i := 3) (n := 6) (w0 := 5242880) (w := 5242886) (by decide) (by decide) rfl (by decide +kernel) ?_
  dsimp only
  refine nm_r (e' := 1) (by decide) ?_
  refine br_f (by decide) (br_f (by decide) ?_)
  refine rc_put (n := 6) (w := 24248320) (by decide) (by decide +kernel) ?_
  dsimp only
  refine rc_put (n := 7) (w := 5242880) (by decide) (by decide +kernel) ?_
  dsimp only
  refine rc_land (i := 6) (n := 8) (w0 := 24248320) (w := 24248328) (by decide) (by decide) rfl (by decide +kernel) ?_
  dsimp only
  refine rc_put (n := 8) (w := 16929792) (by decide) (by decide +kernel) ?_
  dsimp only
  refine rc_put (n := 9) (w := 17956864) (by decide) (by decide +kernel) ?_
  dsimp only
  refine rc_land (i := 7) (n := 10) (w0 := 5242880) (w := 5242890) (by decide) (by decide) rfl (by decide +kernel) ?_
  dsimp only
  refine nm_r (e' := 2) (by decide) ?_
  exact br_t (by decide) H
def rc_l41 : List (Nat × Nat) := [(41, 15881216), (42, 25318400), (43, 20971520), (42, 25318444), (44, 26333184), (41, 15881261), (45, 20971520)]
theorem rc_wO41 {cc lc lv cp mu dv pr pc od cd nc ty vl pn : Int32} {a1 a2 a3 a4 a5 a6 a7 a8 a9 a10 a11 a12 a13 a14 a15 a16 a17 a18 a19 a20 a21 a22 a23 : Nat → Int32} {post : St2 → Prop} (H : post (cc, lc, lv, nI 153, nI 104, nI 116, nI 122, nI 128, nI 135, nI 141, nI 147, nI 148, nI 149, nI 150, nI 151, nI 152, cp, nI 46, mu, dv, pr, pc, od, cd, nc, ty, vl, pn, a1, a2, a3, a4, a5, a6, a7, a8, a9, a10, a11, a12, a13, a14, a15, a16, a17, a18, rc_ups a19 rc_l41, a20, a21, a22, a23)) : wpX_writeSignOf post (cc, lc, lv, nI 153, nI 104, nI 116, nI 122, nI 128, nI 135, nI 141, nI 147, nI 148, nI 149, nI 150, nI 151, nI 152, cp, nI 41, mu, dv, pr, pc, od, cd, nc, ty, vl, pn, a1, a2, a3, a4, a5, a6, a7, a8, a9, a10, a11, a12, a13, a14, a15, a16, a17, a18, a19, a20, a21, a22, a23) (nI 116) := by
  unfold wpX_writeSignOf
  dsimp only
  refine rc_put (n := 41) (w := 15881216) (by decide) (by decide +kernel) ?_
  dsimp only
  refine rc_put (n := 42) (w := 25318400) (by decide) (by decide +kernel) ?_
  dsimp only
  refine rc_put (n := 43) (w := 20971520) (by decide) (by decide +kernel) ?_
  dsimp only
  refine rc_land (i := 42) (n := 44) (w0 := 25318400) (w := 25318444) (by decide) (by decide) rfl (by decide +kernel) ?_
  dsimp only
  refine rc_put (n := 44) (w := 26333184) (by decide) (by decide +kernel) ?_
  dsimp only
  refine rc_land (i := 41) (n := 45) (w0 := 15881216) (w := 15881261) (by decide) (by decide) rfl (by decide +kernel) ?_
  dsimp only
  refine rc_put (n := 45) (w := 20971520) (by decide) (by decide +kernel) ?_
  dsimp only
  exact H
def rc_l10 : List (Nat × Nat) := [(10, 1203316), (11, 14798999), (12, 19000468), (13, 15880192), (14, 2222196), (15, 5242893), (13, 15880208), (16, 14798999), (17, 19001492), (18, 15880192), (19, 2222196), (20, 5242898), (18, 15880213), (21, 14798999), (22, 19002516), (23, 15880192), (24, 2222196), (25, 5242903), (23, 15880218), (26, 14798999), (27, 19003540), (28, 15880192), (29, 2222196), (30, 5242908), (28, 15880223), (31, 14798999), (32, 19004564), (33, 15880192), (34, 2222196), (35, 5242913), (33, 15880228), (36, 14798999), (37, 19005588), (38, 15880192), (39, 2222196), (40, 5242918), (38, 15880233)]
theorem rc_wMul {cc lc lv cp dv pr pc od cd nc ty vl pn : Int32} {a1 a2 a3 a4 a5 a6 a7 a8 a9 a10 a11 a12 a13 a14 a15 a16 a17 a18 a19 a20 a21 a22 a23 : Nat → Int32} {mu : Int32} {post : St2 → Prop} (H : post (cc, lc, lv, nI 153, nI 104, nI 116, nI 122, nI 128, nI 135, nI 141, nI 147, nI 148, nI 149, nI 150, nI 151, nI 152, cp, nI 46, nI 1, dv, pr, pc, od, cd, nc, ty, vl, pn, a1, a2, a3, a4, a5, a6, a7, a8, a9, a10, a11, a12, a13, a14, a15, a16, a17, a18, rc_ups (rc_ups (rc_ups a19 rc_l1) rc_l10) rc_l41, a20, a21, a22, a23)) : wpX_writeMultiply post (cc, lc, lv, nI 153, nI 104, nI 116, nI 122, nI 128, nI 135, nI 141, nI 147, nI 148, nI 149, nI 150, nI 151, nI 152, cp, nI 1, mu, dv, pr, pc, od, cd, nc, ty, vl, pn, a1, a2, a3, a4, a5, a6, a7, a8, a9, a10, a11, a12, a13, a14, a15, a16, a17, a18, a19, a20, a21, a22, a23) := by
  unfold wpX_writeMultiply
  dsimp only
  refine rc_wS1 ?_
  dsimp only
  refine rc_put (n := 10) (w := 1203316) (by decide) (by decide +kernel) ?_
  dsimp only
  refine ⟨7, ?_⟩
  refine br_f (by decide) ?_
  refine rc_put (n := 11) (w := 14798999) (by decide) (by decide +kernel) ?_
  dsimp only
  refine rc_put (n := 12) (w := 19000468) (by decide) (by decide +kernel) ?_
  dsimp only
  refine rc_put (n := 13) (w := 15880192) (by decide) (by decide +kernel) ?_
  dsimp only
  refine rc_put (n := 14) (w := 2222196) (by decide) (by decide +kernel) ?_
  dsimp only
  refine rc_put (n := 15) (w := 5242893) (by decide) (by decide +kernel) ?_
  dsimp only
  refine rc_land (i := 13) (n := 16) (w0 := 15880192) (w := 15880208) (by decide) (by decide) rfl (by decide +kernel) ?_
  dsimp only
  refine nm_r (e' := 4) (by decide) ?_
  refine br_f (by decide) ?_
  refine rc_put (n := 16) (w := 14798999) (by decide) (by decide +kernel) ?_
  dsimp only
  refine rc_put (n := 17) (w := 19001492) (by decide) (by decide +kernel) ?_
  dsimp only
  refine rc_put (n := 18) (w := 15880192) (by decide) (by decide +kernel) ?_
  dsimp only
  refine rc_put (n := 19) (w := 2222196) (by decide) (by decide +kernel) ?_
  dsimp only
  refine rc_put (n := 20) (w := 5242898) (by decide) (by decide +kernel) ?_
  dsimp only
  refine rc_land (i := 18) (n := 21) (w0 := 15880192) (w := 15880213) (by decide) (by decide) rfl (by decide +kernel) ?_
  dsimp only
  refine nm_r (e' := 3) (by decide) ?_
  refine br_f (by decide) ?_
  refine rc_put (n := 21) (w := 14798999) (by decide) (by decide +kernel) ?_
  dsimp only
  refine rc_put (n := 22) (w := 19002516) (by decide) (by decide +kernel) ?_
  dsimp only
  refine rc_put (n := 23) (w := 15880192) (by decide) (by decide +kernel) ?_
  dsimp only
  refine rc_put (n := 24) (w := 2222196) (by decide) (by decide +kernel) ?_
  dsimp only
  refine rc_put (n := 25) (w := 5242903) (by decide) (by decide +kernel) ?_
  dsimp only
  refine rc_land (i := 23) (n := 26) (w0 := 15880192) (w := 15880218) (by decide) (by decide) rfl (by decide +kernel) ?_
  dsimp only
  refine nm_r (e' := 2) (by decide) ?_
  refine br_f (by decide) ?_
  refine rc_put (n := 26) (w := 14798999) (by decide) (by decide +kernel) ?_
  dsimp only
  refine rc_put (n := 27) (w := 19003540) (by decide) (by decide +kernel) ?_
  dsimp only
  refine rc_put (n := 28) (w := 15880192) (by decide) (by decide +kernel) ?_
  dsimp only
  refine rc_put (n := 29) (w := 2222196) (by decide) (by decide +kernel) ?_
  dsimp only
  refine rc_put (n := 30) (w := 5242908) (by decide) (by decide +kernel) ?_
  dsimp only
  refine rc_land (i := 28) (n := 31) (w0 := 15880192) (w := 15880223) (by decide) (by decide) rfl (by decide +kernel) ?_
  dsimp only
  refine nm_r (e' := 1) (by decide) ?_
  refine br_f (by decide) ?_
  refine rc_put (n := 31) (w := 14798999) (by decide) (by decide +kernel) ?_
  dsimp only
  refine rc_put (n := 32) (w := 19004564) (by decide) (by decide +kernel) ?_
  dsimp only
  refine rc_put (n := 33) (w := 15880192) (by decide) (by decide +kernel) ?_
  dsimp only
  refine rc_put (n := 34) (w := 2222196) (by decide) (by decide +kernel) ?_
  dsimp only
  refine rc_put (n := 35) (w := 5242913) (by decide) (by decide +kernel) ?_
  dsimp only
  refine rc_land (i := 33) (n := 36) (w0 := 15880192) (w := 15880228) (by decide) (by decide) rfl (by decide +kernel) ?_
  dsimp only
  refine nm_r (e' := 0) (by decide) ?_
  refine br_f (by decide) ?_
  refine rc_put (n := 36) (w := 14798999) (by decide) (by decide +kernel) ?_
  dsimp only
  refine rc_put (n := 37) (w := 19005588) (by decide) (by decide +kernel) ?_
  dsimp only
  refine rc_put (n := 38) (w := 15880192) (by decide) (by decide +kernel) ?_
  dsimp only
  refine rc_put (n := 39) (w := 2222196) (by decide) (by decide +kernel) ?_
  dsimp only
  refine rc_put (n := 40) (w := 5242918) (by decide) (by decide +kernel) ?_
  dsimp only
  refine rc_land (i := 38) (n := 41) (w0 := 15880192) (w := 15880233) (by decide) (by decide) rfl (by decide +kernel) ?_
  dsimp only
  refine nm_r (e' := (-1)) (by decide) ?_
  refine br_t (by decide) (rc_wO41 ?_)
  exact H
def rc_l46 : List (Nat × Nat) := [(46, 19029141), (47, 24242176), (48, 5242880), (47, 24242225), (49, 16929792), (50, 17950720), (48, 5242931), (51, 24248320), (52, 5242880), (51, 24248373), (53, 16929792), (54, 17956864), (52, 5242935)]
theorem rc_wS46 {cc lc lv cp mu dv pr pc od cd nc ty vl pn : Int32} {a1 a2 a3 a4 a5 a6 a7 a8 a9 a10 a11 a12 a13 a14 a15 a16 a17 a18 a19 a20 a21 a22 a23 : Nat → Int32} {post : St2 → Prop} (H : post (cc, lc, lv, nI 153, nI 104, nI 116, nI 122, nI 128, nI 135, nI 141, nI 147, nI 148, nI 149, nI 150, nI 151, nI 152, cp, nI 55, mu, dv, pr, pc, od, cd, nc, ty, vl, pn, a1, a2, a3, a4, a5, a6, a7, a8, a9, a10, a11, a12, a13, a14, a15, a16, a17, a18, rc_ups a19 rc_l46, a20, a21, a22, a23)) : wpX_writeSigns post (cc, lc, lv, nI 153, nI 104, nI 116, nI 122, nI 128, nI 135, nI 141, nI 147, nI 148, nI 149, nI 150, nI 151, nI 152, cp, nI 46, mu, dv, pr, pc, od, cd, nc, ty, vl, pn, a1, a2, a3, a4, a5, a6, a7, a8, a9, a10, a11, a12, a13, a14, a15, a16, a17, a18, a19, a20, a21, a22, a23) := by
  unfold wpX_writeSigns
  dsimp only
  refine rc_put (n := 46) (w := 19029141) (by decide) (by decide +kernel) ?_
  dsimp only
  refine ⟨3, ?_⟩
  refine br_f (by decide) (br_t (by decide) ?_)
  refine rc_put (n := 47) (w := 24242176) (by decide) (by decide +kernel) ?_
  dsimp only
  refine rc_put (n := 48) (w := 5242880) (by decide) (by decide +kernel) ?_
  dsimp only
  refine rc_land (i := 47) (n := 49) (w0 := 24242176) (w := 24242225) (by decide) (by decide) rfl (by decide +kernel) ?_
  dsimp only
  refine rc_put (n := 49) (w := 16929792) (by decide) (by decide +kernel) ?_
  dsimp only
  refine rc_put (n := 50) (w := 17950720) (by decide) (by decide +kernel) ?_
  dsimp only
  refine rc_land (i := 48) (n := 51) (w0 := 5242880) (w := 5242931) (by decide) (by decide) rfl (by decide +kernel) ?_
  dsimp only
  refine nm_r (e' := 1) (by decide) ?_
  refine br_f (by decide) (br_f (by decide) ?_)
  refine rc_put (n := 51) (w := 24248320) (by decide) (by decide +kernel) ?_
  dsimp only
  refine rc_put (n := 52) (w := 5242880) (by decide) (by decide +kernel) ?_
  dsimp only
  refine rc_land (i := 51) (n := 53) (w0 := 24248320) (w := 24248373) (by decide) (by decide) rfl (by decide +kernel) ?_
  dsimp only
  refine rc_put (n := 53) (w := 16929792) (by decide) (by decide +kernel) ?_
  dsimp only
  refine rc_put (n := 54) (w := 17956864) (by decide) (by decide +kernel) ?_
  dsimp only
  refine rc_land (i := 52) (n := 55) (w0 := 5242880) (w := 5242935) (by decide) (by decide) rfl (by decide +kernel) ?_
  dsimp only
  refine nm_r (e' := 2) (by decide) ?_
  exact br_t (by decide) H
def rc_l109 : List (Nat × Nat) := [(109, 15881216), (110, 25318400), (111, 20971520), (110, 25318512), (112, 26358784), (109, 15881329), (113, 20971520)]
theorem rc_wO109 {cc lc lv cp mu dv pr pc od cd nc ty vl pn : Int32} {a1 a2 a3 a4 a5 a6 a7 a8 a9 a10 a11 a12 a13 a14 a15 a16 a17 a18 a19 a20 a21 a22 a23 : Nat → Int32} {post : St2 → Prop} (H : post (cc, lc, lv, nI 153, nI 104, nI 116, nI 122, nI 128, nI 135, nI 141, nI 147, nI 148, nI 149, nI 150, nI 151, nI 152, cp, nI 114, mu, dv, pr, pc, od, cd, nc, ty, vl, pn, a1, a2, a3, a4, a5, a6, a7, a8, a9, a10, a11, a12, a13, a14, a15, a16, a17, a18, rc_ups a19 rc_l109, a20, a21, a22, a23)) : wpX_writeSignOf post (cc, lc, lv, nI 153, nI 104, nI 116, nI 122, nI 128, nI 135, nI 141, nI 147, nI 148, nI 149, nI 150, nI 151, nI 152, cp, nI 109, mu, dv, pr, pc, od, cd, nc, ty, vl, pn, a1, a2, a3, a4, a5, a6, a7, a8, a9, a10, a11, a12, a13, a14, a15, a16, a17, a18, a19, a20, a21, a22, a23) (nI 141) := by
  unfold wpX_writeSignOf
  dsimp only
  refine rc_put (n := 109) (w := 15881216) (by decide) (by decide +kernel) ?_
  dsimp only
  refine rc_put (n := 110) (w := 25318400) (by decide) (by decide +kernel) ?_
  dsimp only
  refine rc_put (n := 111) (w := 20971520) (by decide) (by decide +kernel) ?_
  dsimp only
  refine rc_land (i := 110) (n := 112) (w0 := 25318400) (w := 25318512) (by decide) (by decide) rfl (by decide +kernel) ?_
  dsimp only
  refine rc_put (n := 112) (w := 26358784) (by decide) (by decide +kernel) ?_
  dsimp only
  refine rc_land (i := 109) (n := 113) (w0 := 15881216) (w := 15881329) (by decide) (by decide) rfl (by decide +kernel) ?_
  dsimp only
  refine rc_put (n := 113) (w := 20971520) (by decide) (by decide +kernel) ?_
  dsimp only
  exact H
def rc_l55 : List (Nat × Nat) := [(55, 1203341), (56, 4325527), (57, 6291456), (58, 11537408), (59, 20971520), (57, 6291516), (60, 1203335), (61, 14818421), (62, 19029140), (63, 4332672), (64, 7340032), (65, 3276935), (66, 16928768), (67, 5242943), (64, 7340100), (68, 14824596), (69, 14818422), (70, 19029140), (71, 4332672), (72, 7340032), (73, 3276935), (74, 16928768), (75, 5242951), (72, 7340108), (76, 14824596), (77, 14818423), (78, 19029140), (79, 4332672), (80, 7340032), (81, 3276935), (82, 16928768), (83, 5242959), (80, 7340116), (84, 14824596), (85, 14818424), (86, 19029140), (87, 4332672), (88, 7340032), (89, 3276935), (90, 16928768), (91, 5242967), (88, 7340124), (92, 14824596), (93, 14818425), (94, 19029140), (95, 4332672), (96, 7340032), (97, 3276935), (98, 16928768), (99, 5242975), (96, 7340132), (100, 14824596), (101, 14818426), (102, 19029140), (103, 4332672), (104, 7340032), (105, 3276935), (106, 16928768), (107, 5242983), (104, 7340140), (108, 14824596)]
theorem rc_wDiv {cc lc lv cp mu pr pc od cd nc ty vl pn : Int32} {a1 a2 a3 a4 a5 a6 a7 a8 a9 a10 a11 a12 a13 a14 a15 a16 a17 a18 a19 a20 a21 a22 a23 : Nat → Int32} {dv : Int32} {post : St2 → Prop} (H : post (cc, lc, lv, nI 153, nI 104, nI 116, nI 122, nI 128, nI 135, nI 141, nI 147, nI 148, nI 149, nI 150, nI 151, nI 152, cp, nI 114, mu, nI 46, pr, pc, od, cd, nc, ty, vl, pn, a1, a2, a3, a4, a5, a6, a7, a8, a9, a10, a11, a12, a13, a14, a15, a16, a17, a18, rc_ups (rc_ups (rc_ups a19 rc_l46) rc_l55) rc_l109, a20, a21, a22, a23)) : wpX_writeDivide post (cc, lc, lv, nI 153, nI 104, nI 116, nI 122, nI 128, nI 135, nI 141, nI 147, nI 148, nI 149, nI 150, nI 151, nI 152, cp, nI 46, mu, dv, pr, pc, od, cd, nc, ty, vl, pn, a1, a2, a3, a4, a5, a6, a7, a8, a9, a10, a11, a12, a13, a14, a15, a16, a17, a18, a19, a20, a21, a22, a23) := by
  unfold wpX_writeDivide
  dsimp only
  refine rc_wS46 ?_
  dsimp only
  refine rc_put (n := 55) (w := 1203341) (by decide) (by decide +kernel) ?_
  dsimp only
  refine rc_put (n := 56) (w := 4325527) (by decide) (by decide +kernel) ?_
  dsimp only
  refine rc_put (n := 57) (w := 6291456) (by decide) (by decide +kernel) ?_
  dsimp only
  refine rc_put (n := 58) (w := 11537408) (by decide) (by decide +kernel) ?_
  dsimp only
  refine rc_put (n := 59) (w := 20971520) (by decide) (by decide +kernel) ?_
  dsimp only
  refine rc_land (i := 57) (n := 60) (w0 := 6291456) (w := 6291516) (by decide) (by decide) rfl (by decide +kernel) ?_
  dsimp only
  refine rc_put (n := 60) (w := 1203335) (by decide) (by decide +kernel) ?_
  dsimp only
  refine ⟨7, ?_⟩
  refine br_f (by decide) ?_
  refine rc_put (n := 61) (w := 14818421) (by decide) (by decide +kernel) ?_
  dsimp only
  refine rc_put (n := 62) (w := 19029140) (by decide) (by decide +kernel) ?_
  dsimp only
  refine rc_put (n := 63) (w := 4332672) (by decide) (by decide +kernel) ?_
  dsimp only
  refine rc_put (n := 64) (w := 7340032) (by decide) (by decide +kernel) ?_
  dsimp only
  refine rc_put (n := 65) (w := 3276935) (by decide) (by decide +kernel) ?_
  dsimp only
  refine rc_put (n := 66) (w := 16928768) (by decide) (by decide +kernel) ?_
  dsimp only
  refine rc_put (n := 67) (w := 5242943) (by decide) (by decide +kernel) ?_
  dsimp only
  refine rc_land (i := 64) (n := 68) (w0 := 7340032) (w := 7340100) (by decide) (by decide) rfl (by decide +kernel) ?_
  dsimp only
  refine rc_put (n := 68) (w := 14824596) (by decide) (by decide +kernel) ?_
  dsimp only
  refine nm_r (e' := 4) (by decide) ?_
  refine br_f (by decide) ?_
  refine rc_put (n := 69) (w := 14818422) (by decide) (by decide +kernel) ?_
  dsimp only
  refine rc_put (n := 70) (w := 19029140) (by decide) (by decide +kernel) ?_
  dsimp only
  refine rc_put (n := 71) (w := 4332672) (by decide) (by decide +kernel) ?_
  dsimp only
  refine rc_put (n := 72) (w := 7340032) (by decide) (by decide +kernel) ?_
  dsimp only
  refine rc_put (n := 73) (w := 3276935) (by decide) (by decide +kernel) ?_
  dsimp only
  refine rc_put (n := 74) (w := 16928768) (by decide) (by decide +kernel) ?_
  dsimp only
  refine rc_put (n := 75) (w := 5242951) (by decide) (by decide +kernel) ?_
  dsimp only
  refine rc_land (i := 72) (n := 76) (w0 := 7340032) (w := 7340108) (by decide) (by decide) rfl (by decide +kernel) ?_
  dsimp only
  refine rc_put (n := 76) (w := 14824596) (by decide) (by decide +kernel) ?_
  dsimp only
  refine nm_r (e' := 3) (by decide) ?_
  refine br_f (by decide) ?_
  refine rc_put (n := 77) (w := 14818423) (by decide) (by decide +kernel) ?_
  dsimp only
  refine rc_put (n := 78) (w := 19029140) (by decide) (by decide +kernel) ?_
  dsimp only
  refine rc_put (n := 79) (w := 4332672) (by decide) (by decide +kernel) ?_
  dsimp only
  refine rc_put (n := 80) (w := 7340032) (by decide) (by decide +kernel) ?_
  dsimp only
  refine rc_put (n := 81) (w := 3276935) (by decide) (by decide +kernel) ?_
  dsimp only
  refine rc_put (n := 82) (w := 16928768) (by decide) (by decide +kernel) ?_
  dsimp only
  refine rc_put (n := 83) (w := 5242959) (by decide) (by decide +kernel) ?_
  dsimp only
  refine rc_land (i := 80) (n := 84) (w0 := 7340032) (w := 7340116) (by decide) (by decide) rfl (by decide +kernel) ?_
  dsimp only
  refine rc_put (n := 84) (w := 14824596) (by decide) (by decide +kernel) ?_
  dsimp only
  refine nm_r (e' := 2) (by decide) ?_
  refine br_f (by decide) ?_
  refine rc_put (n := 85) (w := 14818424) (by decide) (by decide +kernel) ?_
  dsimp only
  refine rc_put (n := 86) (w := 19029140) (by decide) (by decide +kernel) ?_
  dsimp only
  refine rc_put (n := 87) (w := 4332672) (by decide) (by decide +kernel) ?_
  dsimp only
  refine rc_put (n := 88) (w := 7340032) (by decide) (by decide +kernel) ?_
  dsimp only
  refine rc_put (n := 89) (w := 3276935) (by decide) (by decide +kernel) ?_
  dsimp only
  refine rc_put (n := 90) (w := 16928768) (by decide) (by decide +kernel) ?_
  dsimp only
  refine rc_put (n := 91) (w := 5242967) (by decide) (by decide +kernel) ?_
  dsimp only
  refine rc_land (i := 88) (n := 92) (w0 := 7340032) (w := 7340124) (by decide) (by decide) rfl (by decide +kernel) ?_
  dsimp only
  refine rc_put (n := 92) (w := 14824596) (by decide) (by decide +kernel) ?_
  dsimp only
  refine nm_r (e' := 1) (by decide) ?_
  refine br_f (by decide) ?_
  refine rc_put (n := 93) (w := 14818425) (by decide) (by decide +kernel) ?_
  dsimp only
  refine rc_put (n := 94) (w := 19029140) (by decide) (by decide +kernel) ?_
  dsimp only
  refine rc_put (n := 95) (w := 4332672) (by decide) (by decide +kernel) ?_
  dsimp only
  refine rc_put (n := 96) (w := 7340032) (by decide) (by decide +kernel) ?_
  dsimp only
  refine rc_put (n := 97) (w := 3276935) (by decide) (by decide +kernel) ?_
  dsimp only
  refine rc_put (n := 98) (w := 16928768) (by decide) (by decide +kernel) ?_
  dsimp only
  refine rc_put (n := 99) (w := 5242975) (by decide) (by decide +kernel) ?_
  dsimp only
  refine rc_land (i := 96) (n := 100) (w0 := 7340032) (w := 7340132) (by decide) (by decide) rfl (by decide +kernel) ?_
  dsimp only
  refine rc_put (n := 100) (w := 14824596) (by decide) (by decide +kernel) ?_
  dsimp only
  refine nm_r (e' := 0) (by decide) ?_
  refine br_f (by decide) ?_
  refine rc_put (n := 101) (w := 14818426) (by decide) (by decide +kernel) ?_
  dsimp only
  refine rc_put (n := 102) (w := 19029140) (by decide) (by decide +kernel) ?_
  dsimp only
  refine rc_put (n := 103) (w := 4332672) (by decide) (by decide +kernel) ?_
  dsimp only
  refine rc_put (n := 104) (w := 7340032) (by decide) (by decide +kernel) ?_
  dsimp only
  refine rc_put (n := 105) (w := 3276935) (by decide) (by decide +kernel) ?_
  dsimp only
  refine rc_put (n := 106) (w := 16928768) (by decide) (by decide +kernel) ?_
  dsimp only
  refine rc_put (n := 107) (w := 5242983) (by decide) (by decide +kernel) ?_
  dsimp only
  refine rc_land (i := 104) (n := 108) (w0 := 7340032) (w := 7340140) (by decide) (by decide) rfl (by decide +kernel) ?_
  dsimp only
  refine rc_put (n := 108) (w := 14824596) (by decide) (by decide +kernel) ?_
  dsimp only
  refine nm_r (e' := (-1)) (by decide) ?_
  refine br_t (by decide) (rc_wO109 ?_)
  exact H
def rc_l114 : List (Nat × Nat) := [(114, 24267776), (115, 5242880), (114, 24267892), (116, 23114752), (115, 5242997), (117, 25311351), (118, 5243008), (119, 25312377), (120, 5243009), (121, 25313403), (122, 5243010), (123, 25314429), (124, 5243011), (125, 25315455), (126, 5243012), (127, 5242880), (127, 5243013), (128, 22165504), (129, 22166528), (130, 22167552), (131, 22168576), (132, 22169600), (133, 22170624), (134, 23101440), (135, 20971520)]
theorem rc_wPri {cc lc lv cp mu dv pc od cd nc ty vl pn : Int32} {a1 a2 a3 a4 a5 a6 a7 a8 a9 a10 a11 a12 a13 a14 a15 a16 a17 a18 a19 a20 a21 a22 a23 : Nat → Int32} {pr : Int32} {post : St2 → Prop} (H : post (cc, lc, lv, nI 153, nI 104, nI 116, nI 122, nI 128, nI 135, nI 141, nI 147, nI 148, nI 149, nI 150, nI 151, nI 152, cp, nI 136, mu, dv, nI 114, pc, od, cd, nc, ty, vl, pn, a1, a2, a3, a4, a5, a6, a7, a8, a9, a10, a11, a12, a13, a14, a15, a16, a17, a18, rc_ups a19 rc_l114, a20, a21, a22, a23)) : wpX_writePrint post (cc, lc, lv, nI 153, nI 104, nI 116, nI 122, nI 128, nI 135, nI 141, nI 147, nI 148, nI 149, nI 150, nI 151, nI 152, cp, nI 114, mu, dv, pr, pc, od, cd, nc, ty, vl, pn, a1, a2, a3, a4, a5, a6, a7, a8, a9, a10, a11, a12, a13, a14, a15, a16, a17, a18, a19, a20, a21, a22, a23) := by
  unfold wpX_writePrint
  dsimp only
  refine rc_put (n := 114) (w := 24267776) (by decide) (by decide +kernel) ?_
  dsimp only
  refine rc_put (n := 115) (w := 5242880) (by decide) (by decide +kernel) ?_
  dsimp only
  refine rc_land (i := 114) (n := 116) (w0 := 24267776) (w := 24267892) (by decide) (by decide) rfl (by decide +kernel) ?_
  dsimp only
  refine rc_put (n := 116) (w := 23114752) (by decide) (by decide +kernel) ?_
  dsimp only
  refine rc_land (i := 115) (n := 117) (w0 := 5242880) (w := 5242997) (by decide) (by decide) rfl (by decide +kernel) ?_
  dsimp only
  refine nm_r (e' := nI 127) (by decide) ⟨6, ?_⟩
  refine br_f (by decide) ?_
  refine rc_put (n := 117) (w := 25311351) (by decide) (by decide +kernel) ?_
  dsimp only
  refine rc_put (n := 118) (w := 5243008) (by decide) (by decide +kernel) ?_
  dsimp only
  refine nm_r (e' := 4) (by decide) ?_
  refine br_f (by decide) ?_
  refine rc_put (n := 119) (w := 25312377) (by decide) (by decide +kernel) ?_
  dsimp only
  refine rc_put (n := 120) (w := 5243009) (by decide) (by decide +kernel) ?_
  dsimp only
  refine nm_r (e' := 3) (by decide) ?_
  refine br_f (by decide) ?_
  refine rc_put (n := 121) (w := 25313403) (by decide) (by decide +kernel) ?_
  dsimp only
  refine rc_put (n := 122) (w := 5243010) (by decide) (by decide +kernel) ?_
  dsimp only
  refine nm_r (e' := 2) (by decide) ?_
  refine br_f (by decide) ?_
  refine rc_put (n := 123) (w := 25314429) (by decide) (by decide +kernel) ?_
  dsimp only
  refine rc_put (n := 124) (w := 5243011) (by decide) (by decide +kernel) ?_
  dsimp only
  refine nm_r (e' := 1) (by decide) ?_
  refine br_f (by decide) ?_
  refine rc_put (n := 125) (w := 25315455) (by decide) (by decide +kernel) ?_
  dsimp only
  refine rc_put (n := 126) (w := 5243012) (by decide) (by decide +kernel) ?_
  dsimp only
  refine nm_r (e' := 0) (by decide) ?_
  refine br_t (by decide) ?_
  refine rc_put (n := 127) (w := 5242880) (by decide) (by decide +kernel) ?_
  dsimp only
  refine ⟨vp_in_nI (n := 127) (by decide) (by decide), nm_r (rc_ue (k' := 127) (v' := nI 5243013) (by decide +kernel) (by decide +kernel)) ⟨7, ?_⟩⟩
  refine br_f (by decide) ?_
  refine rc_put (n := 128) (w := 22165504) (by decide) (by decide +kernel) ?_
  dsimp only
  refine nm_r (e' := 4) (by decide) ?_
  refine br_f (by decide) ?_
  refine rc_put (n := 129) (w := 22166528) (by decide) (by decide +kernel) ?_
  dsimp only
  refine nm_r (e' := 3) (by decide) ?_
  refine br_f (by decide) ?_
  refine rc_put (n := 130) (w := 22167552) (by decide) (by decide +kernel) ?_
  dsimp only
  refine nm_r (e' := 2) (by decide) ?_
  refine br_f (by decide) ?_
  refine rc_put (n := 131) (w := 22168576) (by decide) (by decide +kernel) ?_
  dsimp only
  refine nm_r (e' := 1) (by decide) ?_
  refine br_f (by decide) ?_
  refine rc_put (n := 132) (w := 22169600) (by decide) (by decide +kernel) ?_
  dsimp only
  refine nm_r (e' := 0) (by decide) ?_
  refine br_f (by decide) ?_
  refine rc_put (n := 133) (w := 22170624) (by decide) (by decide +kernel) ?_
  dsimp only
  refine nm_r (e' := (-1)) (by decide) ?_
  refine br_t (by decide) ?_
  refine rc_put (n := 134) (w := 23101440) (by decide) (by decide +kernel) ?_
  dsimp only
  refine rc_put (n := 135) (w := 20971520) (by decide) (by decide +kernel) ?_
  dsimp only
  exact H
end
section
def rc_a15 : Nat → Int32 := (upd (upd (upd (upd (upd (upd (fun _ => 0) 0 (nI 5)) 1 (nI 11)) 2 (nI 17)) 3 (nI 23)) 4 (nI 29)) 5 (nI 35))
def rc_a16 : Nat → Int32 := (upd (upd (upd (upd (fun _ => 0) 0 (nI 37)) 1 (nI 41)) 2 (nI 46)) 3 (nI 52))
def rc_a17 : Nat → Int32 := (upd (upd (upd (upd (fun _ => 0) 0 (nI 39)) 1 (nI 43)) 2 (nI 49)) 3 (nI 55))
def rc_a18 : Nat → Int32 := (upd (upd (upd (upd (upd (upd (upd (upd (upd (upd (upd (upd (upd (upd (fun _ => 0) 0 (nI 58)) 1 (nI 61)) 2 (nI 64)) 3 (nI 67)) 4 (nI 70)) 5 (nI 73)) 6 (nI 76)) 7 (nI 79)) 8 (nI 82)) 9 (nI 85)) 10 (nI 88)) 11 (nI 91)) 12 (nI 94)) 13 (nI 97))
def rc_q5 : Nat → Int32 := (upd (upd (fun _ => 0) 0 (nI 0)) 1 (nI 2))
def rc_q6 : Nat → Int32 := (upd (upd (fun _ => 0) 0 (nI 0)) 1 (nI 0))
def rc_q7 (o : Nat) : Nat → Int32 := (upd (upd (fun _ => 0) 0 (nI o)) 1 (nI 8))
def rc_q8 : Nat → Int32 := (upd (upd (fun _ => 0) 0 (nI 4)) 1 (nI 0))
def rc_q9 : Nat → Int32 := (upd (upd (upd (upd (fun _ => 0) 0 (nI 0)) 0 (nI 8)) 1 (nI 0)) 1 (nI 4))
def rc_q10 : Nat → Int32 := (upd (upd (upd (upd (fun _ => 0) 0 (nI 0)) 0 (nI 9)) 1 (nI 0)) 1 (nI 0))
def rc_q11 : Nat → Int32 := (upd (upd (upd (upd (fun _ => 0) 0 (nI 0)) 0 (nI 0)) 1 (nI 0)) 1 (nI 0))
theorem rc_sc0 {cc lc lv me sm pd lf rt rs qt tx ct sg ve zr on cp ce mu dv pr pc od cd nc ty vl pn : Int32} {a1 a2 a3 a4 a5 a6 a7 a8 a9 a10 a11 a12 a13 a14 a15 a16 a17 a18 a19 a20 a21 a22 a23 : Nat → Int32} {post : Int32 → Prop} {v : Nat} {p0 p1 : Int32} (h6 : ¬ 6 ≤ p1) (hi : vp_in p1 6) (hv : a15 p1.toNatClampNeg = nI v) (H : post (nI v)) : wpX_sourceAt post (cc, lc, lv, me, sm, pd, lf, rt, rs, qt, tx, ct, sg, ve, zr, on, cp, ce, mu, dv, pr, pc, od, cd, nc, ty, vl, pn, a1, a2, a3, a4, a5, a6, a7, a8, a9, a10, a11, a12, a13, a14, a15, a16, a17, a18, a19, a20, a21, a22, a23) p0 p1 := by
  unfold wpX_sourceAt
  dsimp only
  refine br_f h6 ⟨hi, ?_⟩
  rw [hv]
  exact H
theorem rc_sc1 {cc lc lv me sm pd lf rt rs qt tx ct sg ve zr on cp ce mu dv pr pc od cd nc ty vl pn : Int32} {a1 a2 a3 a4 a5 a6 a7 a8 a9 a10 a11 a12 a13 a14 a15 a16 a17 a18 a19 a20 a21 a22 a23 : Nat → Int32} {post : Int32 → Prop} {v : Nat} {p0 p1 : Int32} (h6 : 6 ≤ p1) (h10 : ¬ 10 ≤ p1) (hi : vp_in (p1 - 6) 4) (hv : a16 (p1 - 6).toNatClampNeg = nI v) (H : post (nI v)) : wpX_sourceAt post (cc, lc, lv, me, sm, pd, lf, rt, rs, qt, tx, ct, sg, ve, zr, on, cp, ce, mu, dv, pr, pc, od, cd, nc, ty, vl, pn, a1, a2, a3, a4, a5, a6, a7, a8, a9, a10, a11, a12, a13, a14, a15, a16, a17, a18, a19, a20, a21, a22, a23) p0 p1 := by
  unfold wpX_sourceAt
  dsimp only
  refine br_t h6 (br_f h10 ⟨hi, ?_⟩)
  rw [hv]
  exact H
/-- the code behind the routines: words 1 .. 135 stand -/
def rc_A136 : Nat → Int32 := (rc_ups (rc_ups (rc_ups (rc_ups (rc_ups (rc_ups (rc_ups (upd (fun _ => 0) 0 (nI 5242880)) rc_l1) rc_l10) rc_l41) rc_l46) rc_l55) rc_l109) rc_l114)
end
section
def rc_g00 : List (Nat × Nat) := [(136, 27262976), (137, 1095709), (138, 20971520)]
theorem rc_wG00 {cp pc od cd nc ty vl pn : Int32} {a1 a2 a3 a4 a11 a12 a13 a14 a19 a20 a21 a22 a23 : Nat → Int32} {post : St2 → Prop} (H : post (nI 1, nI 2, nI 1, nI 153, nI 104, nI 116, nI 122, nI 128, nI 135, nI 141, nI 147, nI 148, nI 149, nI 150, nI 151, nI 152, cp, nI 139, nI 1, nI 46, nI 114, pc, od, cd, nc, ty, vl, pn, a1, a2, a3, a4, rc_q5, rc_q6, rc_q7 0, rc_q8, rc_q9, rc_q10, a11, a12, a13, a14, rc_a15, rc_a16, rc_a17, rc_a18, rc_ups a19 rc_g00, upd a20 0 (nI 136), a21, a22, a23)) : wpX_writeGroup post (nI 1, nI 2, nI 1, nI 153, nI 104, nI 116, nI 122, nI 128, nI 135, nI 141, nI 147, nI 148, nI 149, nI 150, nI 151, nI 152, cp, nI 136, nI 1, nI 46, nI 114, pc, od, cd, nc, ty, vl, pn, a1, a2, a3, a4, rc_q5, rc_q6, rc_q7 0, rc_q8, rc_q9, rc_q10, a11, a12, a13, a14, rc_a15, rc_a16, rc_a17, rc_a18, a19, a20, a21, a22, a23) (nI 0) := by
  unfold wpX_writeGroup
  dsimp only
  refine ⟨vp_in_nI (n := 0) (by decide) (by decide), nm_r (rc_ue (k' := 0) (v' := nI 136) (by decide +kernel) (by decide +kernel)) ⟨3, ?_⟩⟩
  refine br_f (by decide) ⟨vp_in_nI (n := 0) (by decide) (by decide), ?_⟩
  refine br_t (by decide +kernel) ?_
  unfold wpX_writeLine
  dsimp only
  refine ⟨vp_in_nI (n := 0) (by decide) (by decide), nm_r (e' := nI 0) (by decide +kernel) (br_t (by decide) (br_t (by decide) ?_))⟩
  refine rc_put (n := 136) (w := 27262976) (by decide) (by decide +kernel) ?_
  dsimp only
  refine ⟨vp_in_nI (n := 0) (by decide) (by decide), nm_r (e' := nI 0) (by decide +kernel) ⟨vp_in_nI (n := 0) (by decide) (by decide), ?_⟩⟩
  refine rc_sc1 (v := 46) (by decide +kernel) (by decide +kernel) (vp_in_iff.mpr (by decide +kernel)) (by decide +kernel) ?_
  refine ⟨vp_in_nI (n := 0) (by decide) (by decide), ?_⟩
  refine rc_sc1 (v := 52) (by decide +kernel) (by decide +kernel) (vp_in_iff.mpr (by decide +kernel)) (by decide +kernel) ?_
  refine br_t (by decide) ?_
  refine ⟨vp_in_nI (n := 0) (by decide) (by decide), vp_in_iff.mpr (by decide +kernel), ?_⟩
  refine rc_put (n := 137) (w := 1095709) (by decide) (by decide +kernel) ?_
  dsimp only
  refine br_t (by decide) ?_
  dsimp only
  refine nm_r (e' := nI 1) (by decide) ?_
  refine br_f (by decide) ⟨vp_in_nI (n := 1) (by decide) (by decide), ?_⟩
  refine br_f (by decide +kernel) ?_
  refine nm_r (e' := nI 2) (by decide) ?_
  refine br_t (by decide) ?_
  refine rc_put (n := 138) (w := 20971520) (by decide) (by decide +kernel) ?_
  dsimp only
  exact H
def rc_g01 : List (Nat × Nat) := [(139, 20971520)]
theorem rc_wG01 {cp pc od cd nc ty vl pn : Int32} {a1 a2 a3 a4 a11 a12 a13 a14 a19 a20 a21 a22 a23 : Nat → Int32} {post : St2 → Prop} (H : post (nI 1, nI 2, nI 1, nI 153, nI 104, nI 116, nI 122, nI 128, nI 135, nI 141, nI 147, nI 148, nI 149, nI 150, nI 151, nI 152, cp, nI 140, nI 1, nI 46, nI 114, pc, od, cd, nc, ty, vl, pn, a1, a2, a3, a4, rc_q5, rc_q6, rc_q7 0, rc_q8, rc_q9, rc_q10, a11, a12, a13, a14, rc_a15, rc_a16, rc_a17, rc_a18, rc_ups a19 rc_g01, upd a20 1 (nI 139), a21, a22, a23)) : wpX_writeGroup post (nI 1, nI 2, nI 1, nI 153, nI 104, nI 116, nI 122, nI 128, nI 135, nI 141, nI 147, nI 148, nI 149, nI 150, nI 151, nI 152, cp, nI 139, nI 1, nI 46, nI 114, pc, od, cd, nc, ty, vl, pn, a1, a2, a3, a4, rc_q5, rc_q6, rc_q7 0, rc_q8, rc_q9, rc_q10, a11, a12, a13, a14, rc_a15, rc_a16, rc_a17, rc_a18, a19, a20, a21, a22, a23) (nI 1) := by
  unfold wpX_writeGroup
  dsimp only
  refine ⟨vp_in_nI (n := 1) (by decide) (by decide), nm_r (rc_ue (k' := 1) (v' := nI 139) (by decide +kernel) (by decide +kernel)) ⟨3, ?_⟩⟩
  refine br_f (by decide) ⟨vp_in_nI (n := 0) (by decide) (by decide), ?_⟩
  refine br_f (by decide +kernel) ?_
  refine nm_r (e' := nI 1) (by decide) ?_
  refine br_f (by decide) ⟨vp_in_nI (n := 1) (by decide) (by decide), ?_⟩
  refine br_f (by decide +kernel) ?_
  refine nm_r (e' := nI 2) (by decide) ?_
  refine br_t (by decide) ?_
  refine rc_put (n := 139) (w := 20971520) (by decide) (by decide +kernel) ?_
  dsimp only
  exact H
def rc_g02 : List (Nat × Nat) := [(140, 27262976), (141, 1078419), (142, 19923058), (143, 20971520)]
theorem rc_wG02 {cp pc od cd nc ty vl pn : Int32} {a1 a2 a3 a4 a11 a12 a13 a14 a19 a20 a21 a22 a23 : Nat → Int32} {post : St2 → Prop} (H : post (nI 1, nI 2, nI 1, nI 153, nI 104, nI 116, nI 122, nI 128, nI 135, nI 141, nI 147, nI 148, nI 149, nI 150, nI 151, nI 152, cp, nI 144, nI 1, nI 46, nI 114, pc, od, cd, nc, ty, vl, pn, a1, a2, a3, a4, rc_q5, rc_q6, rc_q7 0, rc_q8, rc_q9, rc_q10, a11, a12, a13, a14, rc_a15, rc_a16, rc_a17, rc_a18, rc_ups a19 rc_g02, upd a20 2 (nI 140), a21, a22, a23)) : wpX_writeGroup post (nI 1, nI 2, nI 1, nI 153, nI 104, nI 116, nI 122, nI 128, nI 135, nI 141, nI 147, nI 148, nI 149, nI 150, nI 151, nI 152, cp, nI 140, nI 1, nI 46, nI 114, pc, od, cd, nc, ty, vl, pn, a1, a2, a3, a4, rc_q5, rc_q6, rc_q7 0, rc_q8, rc_q9, rc_q10, a11, a12, a13, a14, rc_a15, rc_a16, rc_a17, rc_a18, a19, a20, a21, a22, a23) (nI 2) := by
  unfold wpX_writeGroup
  dsimp only
  refine ⟨vp_in_nI (n := 2) (by decide) (by decide), nm_r (rc_ue (k' := 2) (v' := nI 140) (by decide +kernel) (by decide +kernel)) ⟨3, ?_⟩⟩
  refine br_f (by decide) ⟨vp_in_nI (n := 0) (by decide) (by decide), ?_⟩
  refine br_f (by decide +kernel) ?_
  refine nm_r (e' := nI 1) (by decide) ?_
  refine br_f (by decide) ⟨vp_in_nI (n := 1) (by decide) (by decide), ?_⟩
  refine br_t (by decide +kernel) ?_
  unfold wpX_writeLine
  dsimp only
  refine ⟨vp_in_nI (n := 1) (by decide) (by decide), nm_r (e' := nI 0) (by decide +kernel) (br_t (by decide) (br_t (by decide) ?_))⟩
  refine rc_put (n := 140) (w := 27262976) (by decide) (by decide +kernel) ?_
  dsimp only
  refine ⟨vp_in_nI (n := 1) (by decide) (by decide), nm_r (e' := nI 8) (by decide +kernel) ⟨vp_in_nI (n := 1) (by decide) (by decide), ?_⟩⟩
  refine rc_sc0 (v := 29) (by decide +kernel) (vp_in_iff.mpr (by decide +kernel)) (by decide +kernel) ?_
  refine ⟨vp_in_nI (n := 1) (by decide) (by decide), ?_⟩
  refine rc_sc0 (v := 5) (by decide +kernel) (vp_in_iff.mpr (by decide +kernel)) (by decide +kernel) ?_
  refine br_f (by decide) (br_f (by decide) (br_f (by decide) (br_f (by decide) (br_f (by decide) (br_f (by decide) (br_f (by decide) (br_f (by decide) (br_t (by decide) ?_))))))))
  refine rc_put (n := 141) (w := 1078419) (by decide) (by decide +kernel) ?_
  dsimp only
  refine rc_put (n := 142) (w := 19923058) (by decide) (by decide +kernel) ?_
  dsimp only
  refine br_t (by decide) ?_
  dsimp only
  refine nm_r (e' := nI 2) (by decide) ?_
  refine br_t (by decide) ?_
  refine rc_put (n := 143) (w := 20971520) (by decide) (by decide +kernel) ?_
  dsimp only
  exact H
def rc_g03 : List (Nat × Nat) := [(144, 20971520)]
theorem rc_wG03 {cp pc od cd nc ty vl pn : Int32} {a1 a2 a3 a4 a11 a12 a13 a14 a19 a20 a21 a22 a23 : Nat → Int32} {post : St2 → Prop} (H : post (nI 1, nI 2, nI 1, nI 153, nI 104, nI 116, nI 122, nI 128, nI 135, nI 141, nI 147, nI 148, nI 149, nI 150, nI 151, nI 152, cp, nI 145, nI 1, nI 46, nI 114, pc, od, cd, nc, ty, vl, pn, a1, a2, a3, a4, rc_q5, rc_q6, rc_q7 0, rc_q8, rc_q9, rc_q10, a11, a12, a13, a14, rc_a15, rc_a16, rc_a17, rc_a18, rc_ups a19 rc_g03, upd a20 3 (nI 144), a21, a22, a23)) : wpX_writeGroup post (nI 1, nI 2, nI 1, nI 153, nI 104, nI 116, nI 122, nI 128, nI 135, nI 141, nI 147, nI 148, nI 149, nI 150, nI 151, nI 152, cp, nI 144, nI 1, nI 46, nI 114, pc, od, cd, nc, ty, vl, pn, a1, a2, a3, a4, rc_q5, rc_q6, rc_q7 0, rc_q8, rc_q9, rc_q10, a11, a12, a13, a14, rc_a15, rc_a16, rc_a17, rc_a18, a19, a20, a21, a22, a23) (nI 3) := by
  unfold wpX_writeGroup
  dsimp only
  refine ⟨vp_in_nI (n := 3) (by decide) (by decide), nm_r (rc_ue (k' := 3) (v' := nI 144) (by decide +kernel) (by decide +kernel)) ⟨3, ?_⟩⟩
  refine br_f (by decide) ⟨vp_in_nI (n := 0) (by decide) (by decide), ?_⟩
  refine br_f (by decide +kernel) ?_
  refine nm_r (e' := nI 1) (by decide) ?_
  refine br_f (by decide) ⟨vp_in_nI (n := 1) (by decide) (by decide), ?_⟩
  refine br_f (by decide +kernel) ?_
  refine nm_r (e' := nI 2) (by decide) ?_
  refine br_t (by decide) ?_
  refine rc_put (n := 144) (w := 20971520) (by decide) (by decide +kernel) ?_
  dsimp only
  exact H
def rc_G0 : Nat → Int32 := (upd (upd (upd (upd (fun _ => 0) 0 (nI 136)) 1 (nI 139)) 2 (nI 140)) 3 (nI 144))
def rc_B0 : Nat → Int32 := upd (rc_ups (rc_ups (rc_ups (rc_ups rc_A136 rc_g00) rc_g01) rc_g02) rc_g03) 0 (nI 5243025)
def rc_y0 : List (Nat × Nat) := [(145, 13631488), (146, 25319424), (147, 4238377), (148, 8388608), (149, 19923083), (150, 19923084), (151, 5242880), (148, 8388760), (152, 4234277), (153, 8388608), (154, 19923083), (146, 25319579), (151, 5243035), (153, 8388763), (155, 1088549), (156, 1092649), (157, 1098798), (158, 1104948), (159, 19030166), (160, 19923080), (161, 5243025), (145, 13631650), (162, 25319424), (163, 19923083), (164, 19923084), (162, 25319589), (165, 19923088), (166, 0)]
theorem rc_wCy0 {cp pc od cd nc ty vl pn : Int32} {a1 a2 a3 a4 a11 a12 a13 a14 a19 a21 a22 a23 : Nat → Int32} {post : St2 → Prop} (H : post (nI 1, nI 2, nI 1, nI 153, nI 104, nI 116, nI 122, nI 128, nI 135, nI 141, nI 147, nI 148, nI 149, nI 150, nI 151, nI 152, cp, nI 167, nI 1, nI 46, nI 114, pc, od, cd, nc, ty, vl, pn, a1, a2, a3, a4, rc_q5, rc_q6, rc_q7 0, rc_q8, rc_q9, rc_q10, a11, a12, a13, a14, rc_a15, rc_a16, rc_a17, rc_a18, rc_ups a19 rc_y0, rc_G0, a21, a22, a23)) : wpX_writeCycle post (nI 1, nI 2, nI 1, nI 153, nI 104, nI 116, nI 122, nI 128, nI 135, nI 141, nI 147, nI 148, nI 149, nI 150, nI 151, nI 152, cp, nI 145, nI 1, nI 46, nI 114, pc, od, cd, nc, ty, vl, pn, a1, a2, a3, a4, rc_q5, rc_q6, rc_q7 0, rc_q8, rc_q9, rc_q10, a11, a12, a13, a14, rc_a15, rc_a16, rc_a17, rc_a18, a19, rc_G0, a21, a22, a23) := by
  unfold wpX_writeCycle
  dsimp only
  refine rc_put (n := 145) (w := 13631488) (by decide) (by decide +kernel) ?_
  dsimp only
  refine rc_put (n := 146) (w := 25319424) (by decide) (by decide +kernel) ?_
  dsimp only
  refine rc_put (n := 147) (w := 4238377) (by decide) (by decide +kernel) ?_
  dsimp only
  refine rc_put (n := 148) (w := 8388608) (by decide) (by decide +kernel) ?_
  dsimp only
  refine rc_put (n := 149) (w := 19923083) (by decide) (by decide +kernel) ?_
  dsimp only
  refine rc_put (n := 150) (w := 19923084) (by decide) (by decide +kernel) ?_
  dsimp only
  refine rc_put (n := 151) (w := 5242880) (by decide) (by decide +kernel) ?_
  dsimp only
  refine rc_land (i := 148) (n := 152) (w0 := 8388608) (w := 8388760) (by decide) (by decide) rfl (by decide +kernel) ?_
  dsimp only
  refine rc_put (n := 152) (w := 4234277) (by decide) (by decide +kernel) ?_
  dsimp only
  refine rc_put (n := 153) (w := 8388608) (by decide) (by decide +kernel) ?_
  dsimp only
  refine rc_put (n := 154) (w := 19923083) (by decide) (by decide +kernel) ?_
  dsimp only
  refine rc_land (i := 146) (n := 155) (w0 := 25319424) (w := 25319579) (by decide) (by decide) rfl (by decide +kernel) ?_
  dsimp only
  refine rc_land (i := 151) (n := 155) (w0 := 5242880) (w := 5243035) (by decide) (by decide) rfl (by decide +kernel) ?_
  dsimp only
  refine rc_land (i := 153) (n := 155) (w0 := 8388608) (w := 8388763) (by decide) (by decide) rfl (by decide +kernel) ?_
  dsimp only
  refine ⟨5, ?_⟩
  refine br_f (by decide) ⟨vp_in_nI (n := 0) (by decide) (by decide), vp_in_nI (n := 0) (by decide) (by decide), ?_⟩
  refine rc_put (n := 155) (w := 1088549) (by decide) (by decide +kernel) ?_
  dsimp only
  refine nm_r (e' := nI 1) (by decide) ?_
  refine br_f (by decide) ⟨vp_in_nI (n := 1) (by decide) (by decide), vp_in_nI (n := 1) (by decide) (by decide), ?_⟩
  refine rc_put (n := 156) (w := 1092649) (by decide) (by decide +kernel) ?_
  dsimp only
  refine nm_r (e' := nI 2) (by decide) ?_
  refine br_f (by decide) ⟨vp_in_nI (n := 2) (by decide) (by decide), vp_in_nI (n := 2) (by decide) (by decide), ?_⟩
  refine rc_put (n := 157) (w := 1098798) (by decide) (by decide +kernel) ?_
  dsimp only
  refine nm_r (e' := nI 3) (by decide) ?_
  refine br_f (by decide) ⟨vp_in_nI (n := 3) (by decide) (by decide), vp_in_nI (n := 3) (by decide) (by decide), ?_⟩
  refine rc_put (n := 158) (w := 1104948) (by decide) (by decide +kernel) ?_
  dsimp only
  refine nm_r (e' := nI 4) (by decide) ?_
  refine br_t (by decide) ?_
  refine rc_put (n := 159) (w := 19030166) (by decide) (by decide +kernel) ?_
  dsimp only
  refine rc_put (n := 160) (w := 19923080) (by decide) (by decide +kernel) ?_
  dsimp only
  refine rc_put (n := 161) (w := 5243025) (by decide) (by decide +kernel) ?_
  dsimp only
  refine rc_land (i := 145) (n := 162) (w0 := 13631488) (w := 13631650) (by decide) (by decide) rfl (by decide +kernel) ?_
  dsimp only
  refine rc_put (n := 162) (w := 25319424) (by decide) (by decide +kernel) ?_
  dsimp only
  refine rc_put (n := 163) (w := 19923083) (by decide) (by decide +kernel) ?_
  dsimp only
  refine rc_put (n := 164) (w := 19923084) (by decide) (by decide +kernel) ?_
  dsimp only
  refine rc_land (i := 162) (n := 165) (w0 := 25319424) (w := 25319589) (by decide) (by decide) rfl (by decide +kernel) ?_
  dsimp only
  refine rc_put (n := 165) (w := 19923088) (by decide) (by decide +kernel) ?_
  dsimp only
  refine rc_put (n := 166) (w := 0) (by decide) (by decide +kernel) ?_
  dsimp only
  exact H
theorem rc_cmp0 {cp ce pc od cd nc ty vl pn : Int32} {a1 a2 a3 a4 a11 a12 a13 a14 a21 a22 a23 : Nat → Int32} {mu dv pr : Int32} {post : St2 → Prop} (H : post (nI 1, nI 2, nI 1, nI 153, nI 104, nI 116, nI 122, nI 128, nI 135, nI 141, nI 147, nI 148, nI 149, nI 150, nI 151, nI 152, 1, nI 167, nI 1, nI 46, nI 114, pc, od, cd, nc, ty, vl, pn, a1, a2, a3, a4, rc_q5, rc_q6, rc_q7 0, rc_q8, rc_q9, rc_q10, a11, a12, a13, a14, rc_a15, rc_a16, rc_a17, rc_a18, rc_ups rc_B0 rc_y0, rc_G0, a21, a22, a23)) : wpX_compile post (nI 1, nI 2, nI 1, nI 153, nI 104, nI 116, nI 122, nI 128, nI 135, nI 141, nI 147, nI 148, nI 149, nI 150, nI 151, nI 152, cp, ce, mu, dv, pr, pc, od, cd, nc, ty, vl, pn, a1, a2, a3, a4, rc_q5, rc_q6, rc_q7 0, rc_q8, rc_q9, rc_q10, a11, a12, a13, a14, rc_a15, rc_a16, rc_a17, rc_a18, (fun _ => 0), (fun _ => 0), a21, a22, a23) := by
  unfold wpX_compile
  dsimp only
  refine rc_put (n := 0) (w := 5242880) (by decide) (by decide +kernel) ?_
  dsimp only
  refine rc_wMul ?_
  dsimp only
  refine rc_wDiv ?_
  dsimp only
  refine rc_wPri ?_
  dsimp only
  refine ⟨5, ?_⟩
  refine br_f (by decide) (rc_wG00 ?_)
  dsimp only
  refine nm_r (e' := nI 1) (by decide) ?_
  refine br_f (by decide) (rc_wG01 ?_)
  dsimp only
  refine nm_r (e' := nI 2) (by decide) ?_
  refine br_f (by decide) (rc_wG02 ?_)
  dsimp only
  refine nm_r (e' := nI 3) (by decide) ?_
  refine br_f (by decide) (rc_wG03 ?_)
  dsimp only
  refine nm_r (e' := nI 4) (by decide) ?_
  refine br_t (by decide) ?_
  refine rc_land (i := 0) (n := 145) (w0 := 5242880) (w := 5243025) (by decide) (by decide) (by decide +kernel) (by decide +kernel) ?_
  dsimp only
  refine rc_wCy0 ?_
  exact H
end
section
def rc_g10 : List (Nat × Nat) := [(136, 27262976), (137, 1095709), (138, 2150429), (139, 20971520)]
theorem rc_wG10 {cp pc od cd nc ty vl pn : Int32} {a1 a2 a3 a4 a11 a12 a13 a14 a19 a20 a21 a22 a23 : Nat → Int32} {post : St2 → Prop} (H : post (nI 1, nI 2, nI 1, nI 153, nI 104, nI 116, nI 122, nI 128, nI 135, nI 141, nI 147, nI 148, nI 149, nI 150, nI 151, nI 152, cp, nI 140, nI 1, nI 46, nI 114, pc, od, cd, nc, ty, vl, pn, a1, a2, a3, a4, rc_q5, rc_q6, rc_q7 1, rc_q8, rc_q9, rc_q10, a11, a12, a13, a14, rc_a15, rc_a16, rc_a17, rc_a18, rc_ups a19 rc_g10, upd a20 0 (nI 136), a21, a22, a23)) : wpX_writeGroup post (nI 1, nI 2, nI 1, nI 153, nI 104, nI 116, nI 122, nI 128, nI 135, nI 141, nI 147, nI 148, nI 149, nI 150, nI 151, nI 152, cp, nI 136, nI 1, nI 46, nI 114, pc, od, cd, nc, ty, vl, pn, a1, a2, a3, a4, rc_q5, rc_q6, rc_q7 1, rc_q8, rc_q9, rc_q10, a11, a12, a13, a14, rc_a15, rc_a16, rc_a17, rc_a18, a19, a20, a21, a22, a23) (nI 0) := by
  unfold wpX_writeGroup
  dsimp only
  refine ⟨vp_in_nI (n := 0) (by decide) (by decide), nm_r (rc_ue (k' := 0) (v' := nI 136) (by decide +kernel) (by decide +kernel)) ⟨3, ?_⟩⟩
  refine br_f (by decide) ⟨vp_in_nI (n := 0) (by decide) (by decide), ?_⟩
  refine br_t (by decide +kernel) ?_
  unfold wpX_writeLine
  dsimp only
  refine ⟨vp_in_nI (n := 0) (by decide) (by decide), nm_r (e' := nI 0) (by decide +kernel) (br_t (by decide) (br_t (by decide) ?_))⟩
  refine rc_put (n := 136) (w := 27262976) (by decide) (by decide +kernel) ?_
  dsimp only
  refine ⟨vp_in_nI (n := 0) (by decide) (by decide), nm_r (e' := nI 1) (by decide +kernel) ⟨vp_in_nI (n := 0) (by decide) (by decide), ?_⟩⟩
  refine rc_sc1 (v := 46) (by decide +kernel) (by decide +kernel) (vp_in_iff.mpr (by decide +kernel)) (by decide +kernel) ?_
  refine ⟨vp_in_nI (n := 0) (by decide) (by decide), ?_⟩
  refine rc_sc1 (v := 52) (by decide +kernel) (by decide +kernel) (vp_in_iff.mpr (by decide +kernel)) (by decide +kernel) ?_
  refine br_f (by decide) (br_t (by decide) ?_)
  refine ⟨vp_in_nI (n := 0) (by decide) (by decide), vp_in_iff.mpr (by decide +kernel), ?_⟩
  unfold wpX_writeSum
  dsimp only
  refine br_t (by decide) ?_
  refine br_t (by decide) (br_f (by decide +kernel) (br_f (by decide +kernel) ?_))
  refine rc_put (n := 137) (w := 1095709) (by decide) (by decide +kernel) ?_
  dsimp only
  refine rc_put (n := 138) (w := 2150429) (by decide) (by decide +kernel) ?_
  dsimp only
  refine br_t (by decide) ?_
  dsimp only
  refine nm_r (e' := nI 1) (by decide) ?_
  refine br_f (by decide) ⟨vp_in_nI (n := 1) (by decide) (by decide), ?_⟩
  refine br_f (by decide +kernel) ?_
  refine nm_r (e' := nI 2) (by decide) ?_
  refine br_t (by decide) ?_
  refine rc_put (n := 139) (w := 20971520) (by decide) (by decide +kernel) ?_
  dsimp only
  exact H
def rc_g11 : List (Nat × Nat) := [(140, 20971520)]
theorem rc_wG11 {cp pc od cd nc ty vl pn : Int32} {a1 a2 a3 a4 a11 a12 a13 a14 a19 a20 a21 a22 a23 : Nat → Int32} {post : St2 → Prop} (H : post (nI 1, nI 2, nI 1, nI 153, nI 104, nI 116, nI 122, nI 128, nI 135, nI 141, nI 147, nI 148, nI 149, nI 150, nI 151, nI 152, cp, nI 141, nI 1, nI 46, nI 114, pc, od, cd, nc, ty, vl, pn, a1, a2, a3, a4, rc_q5, rc_q6, rc_q7 1, rc_q8, rc_q9, rc_q10, a11, a12, a13, a14, rc_a15, rc_a16, rc_a17, rc_a18, rc_ups a19 rc_g11, upd a20 1 (nI 140), a21, a22, a23)) : wpX_writeGroup post (nI 1, nI 2, nI 1, nI 153, nI 104, nI 116, nI 122, nI 128, nI 135, nI 141, nI 147, nI 148, nI 149, nI 150, nI 151, nI 152, cp, nI 140, nI 1, nI 46, nI 114, pc, od, cd, nc, ty, vl, pn, a1, a2, a3, a4, rc_q5, rc_q6, rc_q7 1, rc_q8, rc_q9, rc_q10, a11, a12, a13, a14, rc_a15, rc_a16, rc_a17, rc_a18, a19, a20, a21, a22, a23) (nI 1) := by
  unfold wpX_writeGroup
  dsimp only
  refine ⟨vp_in_nI (n := 1) (by decide) (by decide), nm_r (rc_ue (k' := 1) (v' := nI 140) (by decide +kernel) (by decide +kernel)) ⟨3, ?_⟩⟩
  refine br_f (by decide) ⟨vp_in_nI (n := 0) (by decide) (by decide), ?_⟩
  refine br_f (by decide +kernel) ?_
  refine nm_r (e' := nI 1) (by decide) ?_
  refine br_f (by decide) ⟨vp_in_nI (n := 1) (by decide) (by decide), ?_⟩
  refine br_f (by decide +kernel) ?_
  refine nm_r (e' := nI 2) (by decide) ?_
  refine br_t (by decide) ?_
  refine rc_put (n := 140) (w := 20971520) (by decide) (by decide +kernel) ?_
  dsimp only
  exact H
def rc_g12 : List (Nat × Nat) := [(141, 27262976), (142, 1078419), (143, 19923058), (144, 20971520)]
theorem rc_wG12 {cp pc od cd nc ty vl pn : Int32} {a1 a2 a3 a4 a11 a12 a13 a14 a19 a20 a21 a22 a23 : Nat → Int32} {post : St2 → Prop} (H : post (nI 1, nI 2, nI 1, nI 153, nI 104, nI 116, nI 122, nI 128, nI 135, nI 141, nI 147, nI 148, nI 149, nI 150, nI 151, nI 152, cp, nI 145, nI 1, nI 46, nI 114, pc, od, cd, nc, ty, vl, pn, a1, a2, a3, a4, rc_q5, rc_q6, rc_q7 1, rc_q8, rc_q9, rc_q10, a11, a12, a13, a14, rc_a15, rc_a16, rc_a17, rc_a18, rc_ups a19 rc_g12, upd a20 2 (nI 141), a21, a22, a23)) : wpX_writeGroup post (nI 1, nI 2, nI 1, nI 153, nI 104, nI 116, nI 122, nI 128, nI 135, nI 141, nI 147, nI 148, nI 149, nI 150, nI 151, nI 152, cp, nI 141, nI 1, nI 46, nI 114, pc, od, cd, nc, ty, vl, pn, a1, a2, a3, a4, rc_q5, rc_q6, rc_q7 1, rc_q8, rc_q9, rc_q10, a11, a12, a13, a14, rc_a15, rc_a16, rc_a17, rc_a18, a19, a20, a21, a22, a23) (nI 2) := by
  unfold wpX_writeGroup
  dsimp only
  refine ⟨vp_in_nI (n := 2) (by decide) (by decide), nm_r (rc_ue (k' := 2) (v' := nI 141) (by decide +kernel) (by decide +kernel)) ⟨3, ?_⟩⟩
  refine br_f (by decide) ⟨vp_in_nI (n := 0) (by decide) (by decide), ?_⟩
  refine br_f (by decide +kernel) ?_
  refine nm_r (e' := nI 1) (by decide) ?_
  refine br_f (by decide) ⟨vp_in_nI (n := 1) (by decide) (by decide), ?_⟩
  refine br_t (by decide +kernel) ?_
  unfold wpX_writeLine
  dsimp only
  refine ⟨vp_in_nI (n := 1) (by decide) (by decide), nm_r (e' := nI 0) (by decide +kernel) (br_t (by decide) (br_t (by decide) ?_))⟩
  refine rc_put (n := 141) (w := 27262976) (by decide) (by decide +kernel) ?_
  dsimp only
  refine ⟨vp_in_nI (n := 1) (by decide) (by decide), nm_r (e' := nI 8) (by decide +kernel) ⟨vp_in_nI (n := 1) (by decide) (by decide), ?_⟩⟩
  refine rc_sc0 (v := 29) (by decide +kernel) (vp_in_iff.mpr (by decide +kernel)) (by decide +kernel) ?_
  refine ⟨vp_in_nI (n := 1) (by decide) (by decide), ?_⟩
  refine rc_sc0 (v := 5) (by decide +kernel) (vp_in_iff.mpr (by decide +kernel)) (by decide +kernel) ?_
  refine br_f (by decide) (br_f (by decide) (br_f (by decide) (br_f (by decide) (br_f (by decide) (br_f (by decide) (br_f (by decide) (br_f (by decide) (br_t (by decide) ?_))))))))
  refine rc_put (n := 142) (w := 1078419) (by decide) (by decide +kernel) ?_
  dsimp only
  refine rc_put (n := 143) (w := 19923058) (by decide) (by decide +kernel) ?_
  dsimp only
  refine br_t (by decide) ?_
  dsimp only
  refine nm_r (e' := nI 2) (by decide) ?_
  refine br_t (by decide) ?_
  refine rc_put (n := 144) (w := 20971520) (by decide) (by decide +kernel) ?_
  dsimp only
  exact H
def rc_g13 : List (Nat × Nat) := [(145, 20971520)]
theorem rc_wG13 {cp pc od cd nc ty vl pn : Int32} {a1 a2 a3 a4 a11 a12 a13 a14 a19 a20 a21 a22 a23 : Nat → Int32} {post : St2 → Prop} (H : post (nI 1, nI 2, nI 1, nI 153, nI 104, nI 116, nI 122, nI 128, nI 135, nI 141, nI 147, nI 148, nI 149, nI 150, nI 151, nI 152, cp, nI 146, nI 1, nI 46, nI 114, pc, od, cd, nc, ty, vl, pn, a1, a2, a3, a4, rc_q5, rc_q6, rc_q7 1, rc_q8, rc_q9, rc_q10, a11, a12, a13, a14, rc_a15, rc_a16, rc_a17, rc_a18, rc_ups a19 rc_g13, upd a20 3 (nI 145), a21, a22, a23)) : wpX_writeGroup post (nI 1, nI 2, nI 1, nI 153, nI 104, nI 116, nI 122, nI 128, nI 135, nI 141, nI 147, nI 148, nI 149, nI 150, nI 151, nI 152, cp, nI 145, nI 1, nI 46, nI 114, pc, od, cd, nc, ty, vl, pn, a1, a2, a3, a4, rc_q5, rc_q6, rc_q7 1, rc_q8, rc_q9, rc_q10, a11, a12, a13, a14, rc_a15, rc_a16, rc_a17, rc_a18, a19, a20, a21, a22, a23) (nI 3) := by
  unfold wpX_writeGroup
  dsimp only
  refine ⟨vp_in_nI (n := 3) (by decide) (by decide), nm_r (rc_ue (k' := 3) (v' := nI 145) (by decide +kernel) (by decide +kernel)) ⟨3, ?_⟩⟩
  refine br_f (by decide) ⟨vp_in_nI (n := 0) (by decide) (by decide), ?_⟩
  refine br_f (by decide +kernel) ?_
  refine nm_r (e' := nI 1) (by decide) ?_
  refine br_f (by decide) ⟨vp_in_nI (n := 1) (by decide) (by decide), ?_⟩
  refine br_f (by decide +kernel) ?_
  refine nm_r (e' := nI 2) (by decide) ?_
  refine br_t (by decide) ?_
  refine rc_put (n := 145) (w := 20971520) (by decide) (by decide +kernel) ?_
  dsimp only
  exact H
def rc_G1 : Nat → Int32 := (upd (upd (upd (upd (fun _ => 0) 0 (nI 136)) 1 (nI 140)) 2 (nI 141)) 3 (nI 145))
def rc_B1 : Nat → Int32 := upd (rc_ups (rc_ups (rc_ups (rc_ups rc_A136 rc_g10) rc_g11) rc_g12) rc_g13) 0 (nI 5243026)
def rc_y1 : List (Nat × Nat) := [(146, 13631488), (147, 25319424), (148, 4238377), (149, 8388608), (150, 19923084), (151, 19923085), (152, 5242880), (149, 8388761), (153, 4234277), (154, 8388608), (155, 19923084), (147, 25319580), (152, 5243036), (154, 8388764), (156, 1088549), (157, 1092649), (158, 1098798), (159, 1104948), (160, 19030166), (161, 19923080), (162, 5243026), (146, 13631651), (163, 25319424), (164, 19923084), (165, 19923085), (163, 25319590), (166, 19923089), (167, 0)]
theorem rc_wCy1 {cp pc od cd nc ty vl pn : Int32} {a1 a2 a3 a4 a11 a12 a13 a14 a19 a21 a22 a23 : Nat → Int32} {post : St2 → Prop} (H : post (nI 1, nI 2, nI 1, nI 153, nI 104, nI 116, nI 122, nI 128, nI 135, nI 141, nI 147, nI 148, nI 149, nI 150, nI 151, nI 152, cp, nI 168, nI 1, nI 46, nI 114, pc, od, cd, nc, ty, vl, pn, a1, a2, a3, a4, rc_q5, rc_q6, rc_q7 1, rc_q8, rc_q9, rc_q10, a11, a12, a13, a14, rc_a15, rc_a16, rc_a17, rc_a18, rc_ups a19 rc_y1, rc_G1, a21, a22, a23)) : wpX_writeCycle post (nI 1, nI 2, nI 1, nI 153, nI 104, nI 116, nI 122, nI 128, nI 135, nI 141, nI 147, nI 148, nI 149, nI 150, nI 151, nI 152, cp, nI 146, nI 1, nI 46, nI 114, pc, od, cd, nc, ty, vl, pn, a1, a2, a3, a4, rc_q5, rc_q6, rc_q7 1, rc_q8, rc_q9, rc_q10, a11, a12, a13, a14, rc_a15, rc_a16, rc_a17, rc_a18, a19, rc_G1, a21, a22, a23) := by
  unfold wpX_writeCycle
  dsimp only
  refine rc_put (n := 146) (w := 13631488) (by decide) (by decide +kernel) ?_
  dsimp only
  refine rc_put (n := 147) (w := 25319424) (by decide) (by decide +kernel) ?_
  dsimp only
  refine rc_put (n := 148) (w := 4238377) (by decide) (by decide +kernel) ?_
  dsimp only
  refine rc_put (n := 149) (w := 8388608) (by decide) (by decide +kernel) ?_
  dsimp only
  refine rc_put (n := 150) (w := 19923084) (by decide) (by decide +kernel) ?_
  dsimp only
  refine rc_put (n := 151) (w := 19923085) (by decide) (by decide +kernel) ?_
  dsimp only
  refine rc_put (n := 152) (w := 5242880) (by decide) (by decide +kernel) ?_
  dsimp only
  refine rc_land (i := 149) (n := 153) (w0 := 8388608) (w := 8388761) (by decide) (by decide) rfl (by decide +kernel) ?_
  dsimp only
  refine rc_put (n := 153) (w := 4234277) (by decide) (by decide +kernel) ?_
  dsimp only
  refine rc_put (n := 154) (w := 8388608) (by decide) (by decide +kernel) ?_
  dsimp only
  refine rc_put (n := 155) (w := 19923084) (by decide) (by decide +kernel) ?_
  dsimp only
  refine rc_land (i := 147) (n := 156) (w0 := 25319424) (w := 25319580) (by decide) (by decide) rfl (by decide +kernel) ?_
  dsimp only
  refine rc_land (i := 152) (n := 156) (w0 := 5242880) (w := 5243036) (by decide) (by decide) rfl (by decide +kernel) ?_
  dsimp only
  refine rc_land (i := 154) (n := 156) (w0 := 8388608) (w := 8388764) (by decide) (by decide) rfl (by decide +kernel) ?_
  dsimp only
  refine ⟨5, ?_⟩
  refine br_f (by decide) ⟨vp_in_nI (n := 0) (by decide) (by decide), vp_in_nI (n := 0) (by decide) (by decide), ?_⟩
  refine rc_put (n := 156) (w := 1088549) (by decide) (by decide +kernel) ?_
  dsimp only
  refine nm_r (e' := nI 1) (by decide) ?_
  refine br_f (by decide) ⟨vp_in_nI (n := 1) (by decide) (by decide), vp_in_nI (n := 1) (by decide) (by decide), ?_⟩
  refine rc_put (n := 157) (w := 1092649) (by decide) (by decide +kernel) ?_
  dsimp only
  refine nm_r (e' := nI 2) (by decide) ?_
  refine br_f (by decide) ⟨vp_in_nI (n := 2) (by decide) (by decide), vp_in_nI (n := 2) (by decide) (by decide), ?_⟩
  refine rc_put (n := 158) (w := 1098798) (by decide) (by decide +kernel) ?_
  dsimp only
  refine nm_r (e' := nI 3) (by decide) ?_
  refine br_f (by decide) ⟨vp_in_nI (n := 3) (by decide) (by decide), vp_in_nI (n := 3) (by decide) (by decide), ?_⟩
  refine rc_put (n := 159) (w := 1104948) (by decide) (by decide +kernel) ?_
  dsimp only
  refine nm_r (e' := nI 4) (by decide) ?_
  refine br_t (by decide) ?_
  refine rc_put (n := 160) (w := 19030166) (by decide) (by decide +kernel) ?_
  dsimp only
  refine rc_put (n := 161) (w := 19923080) (by decide) (by decide +kernel) ?_
  dsimp only
  refine rc_put (n := 162) (w := 5243026) (by decide) (by decide +kernel) ?_
  dsimp only
  refine rc_land (i := 146) (n := 163) (w0 := 13631488) (w := 13631651) (by decide) (by decide) rfl (by decide +kernel) ?_
  dsimp only
  refine rc_put (n := 163) (w := 25319424) (by decide) (by decide +kernel) ?_
  dsimp only
  refine rc_put (n := 164) (w := 19923084) (by decide) (by decide +kernel) ?_
  dsimp only
  refine rc_put (n := 165) (w := 19923085) (by decide) (by decide +kernel) ?_
  dsimp only
  refine rc_land (i := 163) (n := 166) (w0 := 25319424) (w := 25319590) (by decide) (by decide) rfl (by decide +kernel) ?_
  dsimp only
  refine rc_put (n := 166) (w := 19923089) (by decide) (by decide +kernel) ?_
  dsimp only
  refine rc_put (n := 167) (w := 0) (by decide) (by decide +kernel) ?_
  dsimp only
  exact H
theorem rc_cmp1 {cp ce pc od cd nc ty vl pn : Int32} {a1 a2 a3 a4 a11 a12 a13 a14 a21 a22 a23 : Nat → Int32} {mu dv pr : Int32} {post : St2 → Prop} (H : post (nI 1, nI 2, nI 1, nI 153, nI 104, nI 116, nI 122, nI 128, nI 135, nI 141, nI 147, nI 148, nI 149, nI 150, nI 151, nI 152, 1, nI 168, nI 1, nI 46, nI 114, pc, od, cd, nc, ty, vl, pn, a1, a2, a3, a4, rc_q5, rc_q6, rc_q7 1, rc_q8, rc_q9, rc_q10, a11, a12, a13, a14, rc_a15, rc_a16, rc_a17, rc_a18, rc_ups rc_B1 rc_y1, rc_G1, a21, a22, a23)) : wpX_compile post (nI 1, nI 2, nI 1, nI 153, nI 104, nI 116, nI 122, nI 128, nI 135, nI 141, nI 147, nI 148, nI 149, nI 150, nI 151, nI 152, cp, ce, mu, dv, pr, pc, od, cd, nc, ty, vl, pn, a1, a2, a3, a4, rc_q5, rc_q6, rc_q7 1, rc_q8, rc_q9, rc_q10, a11, a12, a13, a14, rc_a15, rc_a16, rc_a17, rc_a18, (fun _ => 0), (fun _ => 0), a21, a22, a23) := by
  unfold wpX_compile
  dsimp only
  refine rc_put (n := 0) (w := 5242880) (by decide) (by decide +kernel) ?_
  dsimp only
  refine rc_wMul ?_
  dsimp only
  refine rc_wDiv ?_
  dsimp only
  refine rc_wPri ?_
  dsimp only
  refine ⟨5, ?_⟩
  refine br_f (by decide) (rc_wG10 ?_)
  dsimp only
  refine nm_r (e' := nI 1) (by decide) ?_
  refine br_f (by decide) (rc_wG11 ?_)
  dsimp only
  refine nm_r (e' := nI 2) (by decide) ?_
  refine br_f (by decide) (rc_wG12 ?_)
  dsimp only
  refine nm_r (e' := nI 3) (by decide) ?_
  refine br_f (by decide) (rc_wG13 ?_)
  dsimp only
  refine nm_r (e' := nI 4) (by decide) ?_
  refine br_t (by decide) ?_
  refine rc_land (i := 0) (n := 146) (w0 := 5242880) (w := 5243026) (by decide) (by decide) (by decide +kernel) (by decide +kernel) ?_
  dsimp only
  refine rc_wCy1 ?_
  exact H
end
section
def rc_g20 : List (Nat × Nat) := [(136, 27262976), (137, 1095709), (138, 3199005), (139, 20971520)]
theorem rc_wG20 {cp pc od cd nc ty vl pn : Int32} {a1 a2 a3 a4 a11 a12 a13 a14 a19 a20 a21 a22 a23 : Nat → Int32} {post : St2 → Prop} (H : post (nI 1, nI 2, nI 1, nI 153, nI 104, nI 116, nI 122, nI 128, nI 135, nI 141, nI 147, nI 148, nI 149, nI 150, nI 151, nI 152, cp, nI 140, nI 1, nI 46, nI 114, pc, od, cd, nc, ty, vl, pn, a1, a2, a3, a4, rc_q5, rc_q6, rc_q7 2, rc_q8, rc_q9, rc_q10, a11, a12, a13, a14, rc_a15, rc_a16, rc_a17, rc_a18, rc_ups a19 rc_g20, upd a20 0 (nI 136), a21, a22, a23)) : wpX_writeGroup post (nI 1, nI 2, nI 1, nI 153, nI 104, nI 116, nI 122, nI 128, nI 135, nI 141, nI 147, nI 148, nI 149, nI 150, nI 151, nI 152, cp, nI 136, nI 1, nI 46, nI 114, pc, od, cd, nc, ty, vl, pn, a1, a2, a3, a4, rc_q5, rc_q6, rc_q7 2, rc_q8, rc_q9, rc_q10, a11, a12, a13, a14, rc_a15, rc_a16, rc_a17, rc_a18, a19, a20, a21, a22, a23) (nI 0) := by
  unfold wpX_writeGroup
  dsimp only
  refine ⟨vp_in_nI (n := 0) (by decide) (by decide), nm_r (rc_ue (k' := 0) (v' := nI 136) (by decide +kernel) (by decide +kernel)) ⟨3, ?_⟩⟩
  refine br_f (by decide) ⟨vp_in_nI (n := 0) (by decide) (by decide), ?_⟩
  refine br_t (by decide +kernel) ?_
  unfold wpX_writeLine
  dsimp only
  refine ⟨vp_in_nI (n := 0) (by decide) (by decide), nm_r (e' := nI 0) (by decide +kernel) (br_t (by decide) (br_t (by decide) ?_))⟩
  refine rc_put (n := 136) (w := 27262976) (by decide) (by decide +kernel) ?_
  dsimp only
  refine ⟨vp_in_nI (n := 0) (by decide) (by decide), nm_r (e' := nI 2) (by decide +kernel) ⟨vp_in_nI (n := 0) (by decide) (by decide), ?_⟩⟩
  refine rc_sc1 (v := 46) (by decide +kernel) (by decide +kernel) (vp_in_iff.mpr (by decide +kernel)) (by decide +kernel) ?_
  refine ⟨vp_in_nI (n := 0) (by decide) (by decide), ?_⟩
  refine rc_sc1 (v := 52) (by decide +kernel) (by decide +kernel) (vp_in_iff.mpr (by decide +kernel)) (by decide +kernel) ?_
  refine br_f (by decide) (br_f (by decide) (br_t (by decide) ?_))
  refine ⟨vp_in_nI (n := 0) (by decide) (by decide), vp_in_iff.mpr (by decide +kernel), ?_⟩
  unfold wpX_writeSum
  dsimp only
  refine br_f (by decide) ?_
  refine br_t (by decide) (br_f (by decide +kernel) (br_f (by decide +kernel) ?_))
  refine rc_put (n := 137) (w := 1095709) (by decide) (by decide +kernel) ?_
  dsimp only
  refine rc_put (n := 138) (w := 3199005) (by decide) (by decide +kernel) ?_
  dsimp only
  refine br_t (by decide) ?_
  dsimp only
  refine nm_r (e' := nI 1) (by decide) ?_
  refine br_f (by decide) ⟨vp_in_nI (n := 1) (by decide) (by decide), ?_⟩
  refine br_f (by decide +kernel) ?_
  refine nm_r (e' := nI 2) (by decide) ?_
  refine br_t (by decide) ?_
  refine rc_put (n := 139) (w := 20971520) (by decide) (by decide +kernel) ?_
  dsimp only
  exact H
def rc_g21 : List (Nat × Nat) := [(140, 20971520)]
theorem rc_wG21 {cp pc od cd nc ty vl pn : Int32} {a1 a2 a3 a4 a11 a12 a13 a14 a19 a20 a21 a22 a23 : Nat → Int32} {post : St2 → Prop} (H : post (nI 1, nI 2, nI 1, nI 153, nI 104, nI 116, nI 122, nI 128, nI 135, nI 141, nI 147, nI 148, nI 149, nI 150, nI 151, nI 152, cp, nI 141, nI 1, nI 46, nI 114, pc, od, cd, nc, ty, vl, pn, a1, a2, a3, a4, rc_q5, rc_q6, rc_q7 2, rc_q8, rc_q9, rc_q10, a11, a12, a13, a14, rc_a15, rc_a16, rc_a17, rc_a18, rc_ups a19 rc_g21, upd a20 1 (nI 140), a21, a22, a23)) : wpX_writeGroup post (nI 1, nI 2, nI 1, nI 153, nI 104, nI 116, nI 122, nI 128, nI 135, nI 141, nI 147, nI 148, nI 149, nI 150, nI 151, nI 152, cp, nI 140, nI 1, nI 46, nI 114, pc, od, cd, nc, ty, vl, pn, a1, a2, a3, a4, rc_q5, rc_q6, rc_q7 2, rc_q8, rc_q9, rc_q10, a11, a12, a13, a14, rc_a15, rc_a16, rc_a17, rc_a18, a19, a20, a21, a22, a23) (nI 1) := by
  unfold wpX_writeGroup
  dsimp only
  refine ⟨vp_in_nI (n := 1) (by decide) (by decide), nm_r (rc_ue (k' := 1) (v' := nI 140) (by decide +kernel) (by decide +kernel)) ⟨3, ?_⟩⟩
  refine br_f (by decide) ⟨vp_in_nI (n := 0) (by decide) (by decide), ?_⟩
  refine br_f (by decide +kernel) ?_
  refine nm_r (e' := nI 1) (by decide) ?_
  refine br_f (by decide) ⟨vp_in_nI (n := 1) (by decide) (by decide), ?_⟩
  refine br_f (by decide +kernel) ?_
  refine nm_r (e' := nI 2) (by decide) ?_
  refine br_t (by decide) ?_
  refine rc_put (n := 140) (w := 20971520) (by decide) (by decide +kernel) ?_
  dsimp only
  exact H
def rc_g22 : List (Nat × Nat) := [(141, 27262976), (142, 1078419), (143, 19923058), (144, 20971520)]
theorem rc_wG22 {cp pc od cd nc ty vl pn : Int32} {a1 a2 a3 a4 a11 a12 a13 a14 a19 a20 a21 a22 a23 : Nat → Int32} {post : St2 → Prop} (H : post (nI 1, nI 2, nI 1, nI 153, nI 104, nI 116, nI 122, nI 128, nI 135, nI 141, nI 147, nI 148, nI 149, nI 150, nI 151, nI 152, cp, nI 145, nI 1, nI 46, nI 114, pc, od, cd, nc, ty, vl, pn, a1, a2, a3, a4, rc_q5, rc_q6, rc_q7 2, rc_q8, rc_q9, rc_q10, a11, a12, a13, a14, rc_a15, rc_a16, rc_a17, rc_a18, rc_ups a19 rc_g22, upd a20 2 (nI 141), a21, a22, a23)) : wpX_writeGroup post (nI 1, nI 2, nI 1, nI 153, nI 104, nI 116, nI 122, nI 128, nI 135, nI 141, nI 147, nI 148, nI 149, nI 150, nI 151, nI 152, cp, nI 141, nI 1, nI 46, nI 114, pc, od, cd, nc, ty, vl, pn, a1, a2, a3, a4, rc_q5, rc_q6, rc_q7 2, rc_q8, rc_q9, rc_q10, a11, a12, a13, a14, rc_a15, rc_a16, rc_a17, rc_a18, a19, a20, a21, a22, a23) (nI 2) := by
  unfold wpX_writeGroup
  dsimp only
  refine ⟨vp_in_nI (n := 2) (by decide) (by decide), nm_r (rc_ue (k' := 2) (v' := nI 141) (by decide +kernel) (by decide +kernel)) ⟨3, ?_⟩⟩
  refine br_f (by decide) ⟨vp_in_nI (n := 0) (by decide) (by decide), ?_⟩
  refine br_f (by decide +kernel) ?_
  refine nm_r (e' := nI 1) (by decide) ?_
  refine br_f (by decide) ⟨vp_in_nI (n := 1) (by decide) (by decide), ?_⟩
  refine br_t (by decide +kernel) ?_
  unfold wpX_writeLine
  dsimp only
  refine ⟨vp_in_nI (n := 1) (by decide) (by decide), nm_r (e' := nI 0) (by decide +kernel) (br_t (by decide) (br_t (by decide) ?_))⟩
  refine rc_put (n := 141) (w := 27262976) (by decide) (by decide +kernel) ?_
  dsimp only
  refine ⟨vp_in_nI (n := 1) (by decide) (by decide), nm_r (e' := nI 8) (by decide +kernel) ⟨vp_in_nI (n := 1) (by decide) (by decide), ?_⟩⟩
  refine rc_sc0 (v := 29) (by decide +kernel) (vp_in_iff.mpr (by decide +kernel)) (by decide +kernel) ?_
  refine ⟨vp_in_nI (n := 1) (by decide) (by decide), ?_⟩
  refine rc_sc0 (v := 5) (by decide +kernel) (vp_in_iff.mpr (by decide +kernel)) (by decide +kernel) ?_
  refine br_f (by decide) (br_f (by decide) (br_f (by decide) (br_f (by decide) (br_f (by decide) (br_f (by decide) (br_f (by decide) (br_f (by decide) (br_t (by decide) ?_))))))))
  refine rc_put (n := 142) (w := 1078419) (by decide) (by decide +kernel) ?_
  dsimp only
  refine rc_put (n := 143) (w := 19923058) (by decide) (by decide +kernel) ?_
  dsimp only
  refine br_t (by decide) ?_
  dsimp only
  refine nm_r (e' := nI 2) (by decide) ?_
  refine br_t (by decide) ?_
  refine rc_put (n := 144) (w := 20971520) (by decide) (by decide +kernel) ?_
  dsimp only
  exact H
def rc_g23 : List (Nat × Nat) := [(145, 20971520)]
theorem rc_wG23 {cp pc od cd nc ty vl pn : Int32} {a1 a2 a3 a4 a11 a12 a13 a14 a19 a20 a21 a22 a23 : Nat → Int32} {post : St2 → Prop} (H : post (nI 1, nI 2, nI 1, nI 153, nI 104, nI 116, nI 122, nI 128, nI 135, nI 141, nI 147, nI 148, nI 149, nI 150, nI 151, nI 152, cp, nI 146, nI 1, nI 46, nI 114, pc, od, cd, nc, ty, vl, pn, a1, a2, a3, a4, rc_q5, rc_q6, rc_q7 2, rc_q8, rc_q9, rc_q10, a11, a12, a13, a14, rc_a15, rc_a16, rc_a17, rc_a18, rc_ups a19 rc_g23, upd a20 3 (nI 145), a21, a22, a23)) : wpX_writeGroup post (nI 1, nI 2, nI 1, nI 153, nI 104, nI 116, nI 122, nI 128, nI 135, nI 141, nI 147, nI 148, nI 149, nI 150, nI 151, nI 152, cp, nI 145, nI 1, nI 46, nI 114, pc, od, cd, nc, ty, vl, pn, a1, a2, a3, a4, rc_q5, rc_q6, rc_q7 2, rc_q8, rc_q9, rc_q10, a11, a12, a13, a14, rc_a15, rc_a16, rc_a17, rc_a18, a19, a20, a21, a22, a23) (nI 3) := by
  unfold wpX_writeGroup
  dsimp only
  refine ⟨vp_in_nI (n := 3) (by decide) (by decide), nm_r (rc_ue (k' := 3) (v' := nI 145) (by decide +kernel) (by decide +kernel)) ⟨3, ?_⟩⟩
  refine br_f (by decide) ⟨vp_in_nI (n := 0) (by decide) (by decide), ?_⟩
  refine br_f (by decide +kernel) ?_
  refine nm_r (e' := nI 1) (by decide) ?_
  refine br_f (by decide) ⟨vp_in_nI (n := 1) (by decide) (by decide), ?_⟩
  refine br_f (by decide +kernel) ?_
  refine nm_r (e' := nI 2) (by decide) ?_
  refine br_t (by decide) ?_
  refine rc_put (n := 145) (w := 20971520) (by decide) (by decide +kernel) ?_
  dsimp only
  exact H
def rc_G2 : Nat → Int32 := (upd (upd (upd (upd (fun _ => 0) 0 (nI 136)) 1 (nI 140)) 2 (nI 141)) 3 (nI 145))
def rc_B2 : Nat → Int32 := upd (rc_ups (rc_ups (rc_ups (rc_ups rc_A136 rc_g20) rc_g21) rc_g22) rc_g23) 0 (nI 5243026)
def rc_y2 : List (Nat × Nat) := [(146, 13631488), (147, 25319424), (148, 4238377), (149, 8388608), (150, 19923084), (151, 19923085), (152, 5242880), (149, 8388761), (153, 4234277), (154, 8388608), (155, 19923084), (147, 25319580), (152, 5243036), (154, 8388764), (156, 1088549), (157, 1092649), (158, 1098798), (159, 1104948), (160, 19030166), (161, 19923080), (162, 5243026), (146, 13631651), (163, 25319424), (164, 19923084), (165, 19923085), (163, 25319590), (166, 19923089), (167, 0)]
theorem rc_wCy2 {cp pc od cd nc ty vl pn : Int32} {a1 a2 a3 a4 a11 a12 a13 a14 a19 a21 a22 a23 : Nat → Int32} {post : St2 → Prop} (H : post (nI 1, nI 2, nI 1, nI 153, nI 104, nI 116, nI 122, nI 128, nI 135, nI 141, nI 147, nI 148, nI 149, nI 150, nI 151, nI 152, cp, nI 168, nI 1, nI 46, nI 114, pc, od, cd, nc, ty, vl, pn, a1, a2, a3, a4, rc_q5, rc_q6, rc_q7 2, rc_q8, rc_q9, rc_q10, a11, a12, a13, a14, rc_a15, rc_a16, rc_a17, rc_a18, rc_ups a19 rc_y2, rc_G2, a21, a22, a23)) : wpX_writeCycle post (nI 1, nI 2, nI 1, nI 153, nI 104, nI 116, nI 122, nI 128, nI 135, nI 141, nI 147, nI 148, nI 149, nI 150, nI 151, nI 152, cp, nI 146, nI 1, nI 46, nI 114, pc, od, cd, nc, ty, vl, pn, a1, a2, a3, a4, rc_q5, rc_q6, rc_q7 2, rc_q8, rc_q9, rc_q10, a11, a12, a13, a14, rc_a15, rc_a16, rc_a17, rc_a18, a19, rc_G2, a21, a22, a23) := by
  unfold wpX_writeCycle
  dsimp only
  refine rc_put (n := 146) (w := 13631488) (by decide) (by decide +kernel) ?_
  dsimp only
  refine rc_put (n := 147) (w := 25319424) (by decide) (by decide +kernel) ?_
  dsimp only
  refine rc_put (n := 148) (w := 4238377) (by decide) (by decide +kernel) ?_
  dsimp only
  refine rc_put (n := 149) (w := 8388608) (by decide) (by decide +kernel) ?_
  dsimp only
  refine rc_put (n := 150) (w := 19923084) (by decide) (by decide +kernel) ?_
  dsimp only
  refine rc_put (n := 151) (w := 19923085) (by decide) (by decide +kernel) ?_
  dsimp only
  refine rc_put (n := 152) (w := 5242880) (by decide) (by decide +kernel) ?_
  dsimp only
  refine rc_land (i := 149) (n := 153) (w0 := 8388608) (w := 8388761) (by decide) (by decide) rfl (by decide +kernel) ?_
  dsimp only
  refine rc_put (n := 153) (w := 4234277) (by decide) (by decide +kernel) ?_
  dsimp only
  refine rc_put (n := 154) (w := 8388608) (by decide) (by decide +kernel) ?_
  dsimp only
  refine rc_put (n := 155) (w := 19923084) (by decide) (by decide +kernel) ?_
  dsimp only
  refine rc_land (i := 147) (n := 156) (w0 := 25319424) (w := 25319580) (by decide) (by decide) rfl (by decide +kernel) ?_
  dsimp only
  refine rc_land (i := 152) (n := 156) (w0 := 5242880) (w := 5243036) (by decide) (by decide) rfl (by decide +kernel) ?_
  dsimp only
  refine rc_land (i := 154) (n := 156) (w0 := 8388608) (w := 8388764) (by decide) (by decide) rfl (by decide +kernel) ?_
  dsimp only
  refine ⟨5, ?_⟩
  refine br_f (by decide) ⟨vp_in_nI (n := 0) (by decide) (by decide), vp_in_nI (n := 0) (by decide) (by decide), ?_⟩
  refine rc_put (n := 156) (w := 1088549) (by decide) (by decide +kernel) ?_
  dsimp only
  refine nm_r (e' := nI 1) (by decide) ?_
  refine br_f (by decide) ⟨vp_in_nI (n := 1) (by decide) (by decide), vp_in_nI (n := 1) (by decide) (by decide), ?_⟩
  refine rc_put (n := 157) (w := 1092649) (by decide) (by decide +kernel) ?_
  dsimp only
  refine nm_r (e' := nI 2) (by decide) ?_
  refine br_f (by decide) ⟨vp_in_nI (n := 2) (by decide) (by decide), vp_in_nI (n := 2) (by decide) (by decide), ?_⟩
  refine rc_put (n := 158) (w := 1098798) (by decide) (by decide +kernel) ?_
  dsimp only
  refine nm_r (e' := nI 3) (by decide) ?_
  refine br_f (by decide) ⟨vp_in_nI (n := 3) (by decide) (by decide), vp_in_nI (n := 3) (by decide) (by decide), ?_⟩
  refine rc_put (n := 159) (w := 1104948) (by decide) (by decide +kernel) ?_
  dsimp only
  refine nm_r (e' := nI 4) (by decide) ?_
  refine br_t (by decide) ?_
  refine rc_put (n := 160) (w := 19030166) (by decide) (by decide +kernel) ?_
  dsimp only
  refine rc_put (n := 161) (w := 19923080) (by decide) (by decide +kernel) ?_
  dsimp only
  refine rc_put (n := 162) (w := 5243026) (by decide) (by decide +kernel) ?_
  dsimp only
  refine rc_land (i := 146) (n := 163) (w0 := 13631488) (w := 13631651) (by decide) (by decide) rfl (by decide +kernel) ?_
  dsimp only
  refine rc_put (n := 163) (w := 25319424) (by decide) (by decide +kernel) ?_
  dsimp only
  refine rc_put (n := 164) (w := 19923084) (by decide) (by decide +kernel) ?_
  dsimp only
  refine rc_put (n := 165) (w := 19923085) (by decide) (by decide +kernel) ?_
  dsimp only
  refine rc_land (i := 163) (n := 166) (w0 := 25319424) (w := 25319590) (by decide) (by decide) rfl (by decide +kernel) ?_
  dsimp only
  refine rc_put (n := 166) (w := 19923089) (by decide) (by decide +kernel) ?_
  dsimp only
  refine rc_put (n := 167) (w := 0) (by decide) (by decide +kernel) ?_
  dsimp only
  exact H
theorem rc_cmp2 {cp ce pc od cd nc ty vl pn : Int32} {a1 a2 a3 a4 a11 a12 a13 a14 a21 a22 a23 : Nat → Int32} {mu dv pr : Int32} {post : St2 → Prop} (H : post (nI 1, nI 2, nI 1, nI 153, nI 104, nI 116, nI 122, nI 128, nI 135, nI 141, nI 147, nI 148, nI 149, nI 150, nI 151, nI 152, 1, nI 168, nI 1, nI 46, nI 114, pc, od, cd, nc, ty, vl, pn, a1, a2, a3, a4, rc_q5, rc_q6, rc_q7 2, rc_q8, rc_q9, rc_q10, a11, a12, a13, a14, rc_a15, rc_a16, rc_a17, rc_a18, rc_ups rc_B2 rc_y2, rc_G2, a21, a22, a23)) : wpX_compile post (nI 1, nI 2, nI 1, nI 153, nI 104, nI 116, nI 122, nI 128, nI 135, nI 141, nI 147, nI 148, nI 149, nI 150, nI 151, nI 152, cp, ce, mu, dv, pr, pc, od, cd, nc, ty, vl, pn, a1, a2, a3, a4, rc_q5, rc_q6, rc_q7 2, rc_q8, rc_q9, rc_q10, a11, a12, a13, a14, rc_a15, rc_a16, rc_a17, rc_a18, (fun _ => 0), (fun _ => 0), a21, a22, a23) := by
  unfold wpX_compile
  dsimp only
  refine rc_put (n := 0) (w := 5242880) (by decide) (by decide +kernel) ?_
  dsimp only
  refine rc_wMul ?_
  dsimp only
  refine rc_wDiv ?_
  dsimp only
  refine rc_wPri ?_
  dsimp only
  refine ⟨5, ?_⟩
  refine br_f (by decide) (rc_wG20 ?_)
  dsimp only
  refine nm_r (e' := nI 1) (by decide) ?_
  refine br_f (by decide) (rc_wG21 ?_)
  dsimp only
  refine nm_r (e' := nI 2) (by decide) ?_
  refine br_f (by decide) (rc_wG22 ?_)
  dsimp only
  refine nm_r (e' := nI 3) (by decide) ?_
  refine br_f (by decide) (rc_wG23 ?_)
  dsimp only
  refine nm_r (e' := nI 4) (by decide) ?_
  refine br_t (by decide) ?_
  refine rc_land (i := 0) (n := 146) (w0 := 5242880) (w := 5243026) (by decide) (by decide) (by decide +kernel) (by decide +kernel) ?_
  dsimp only
  refine rc_wCy2 ?_
  exact H
end
section
def rc_g30 : List (Nat × Nat) := [(136, 27262976), (137, 1095802), (138, 1101952), (139, 19922945), (140, 1167389), (141, 20971520)]
theorem rc_wG30 {cp pc od cd nc ty vl pn : Int32} {a1 a2 a3 a4 a11 a12 a13 a14 a19 a20 a21 a22 a23 : Nat → Int32} {post : St2 → Prop} (H : post (nI 1, nI 2, nI 1, nI 153, nI 104, nI 116, nI 122, nI 128, nI 135, nI 141, nI 147, nI 148, nI 149, nI 150, nI 151, nI 152, cp, nI 142, nI 1, nI 46, nI 114, pc, od, cd, nc, ty, vl, pn, a1, a2, a3, a4, rc_q5, rc_q6, rc_q7 3, rc_q8, rc_q9, rc_q10, a11, a12, a13, a14, rc_a15, rc_a16, rc_a17, rc_a18, rc_ups a19 rc_g30, upd a20 0 (nI 136), a21, a22, a23)) : wpX_writeGroup post (nI 1, nI 2, nI 1, nI 153, nI 104, nI 116, nI 122, nI 128, nI 135, nI 141, nI 147, nI 148, nI 149, nI 150, nI 151, nI 152, cp, nI 136, nI 1, nI 46, nI 114, pc, od, cd, nc, ty, vl, pn, a1, a2, a3, a4, rc_q5, rc_q6, rc_q7 3, rc_q8, rc_q9, rc_q10, a11, a12, a13, a14, rc_a15, rc_a16, rc_a17, rc_a18, a19, a20, a21, a22, a23) (nI 0) := by
  unfold wpX_writeGroup
  dsimp only
  refine ⟨vp_in_nI (n := 0) (by decide) (by decide), nm_r (rc_ue (k' := 0) (v' := nI 136) (by decide +kernel) (by decide +kernel)) ⟨3, ?_⟩⟩
  refine br_f (by decide) ⟨vp_in_nI (n := 0) (by decide) (by decide), ?_⟩
  refine br_t (by decide +kernel) ?_
  unfold wpX_writeLine
  dsimp only
  refine ⟨vp_in_nI (n := 0) (by decide) (by decide), nm_r (e' := nI 0) (by decide +kernel) (br_t (by decide) (br_t (by decide) ?_))⟩
  refine rc_put (n := 136) (w := 27262976) (by decide) (by decide +kernel) ?_
  dsimp only
  refine ⟨vp_in_nI (n := 0) (by decide) (by decide), nm_r (e' := nI 3) (by decide +kernel) ⟨vp_in_nI (n := 0) (by decide) (by decide), ?_⟩⟩
  refine rc_sc1 (v := 46) (by decide +kernel) (by decide +kernel) (vp_in_iff.mpr (by decide +kernel)) (by decide +kernel) ?_
  refine ⟨vp_in_nI (n := 0) (by decide) (by decide), ?_⟩
  refine rc_sc1 (v := 52) (by decide +kernel) (by decide +kernel) (vp_in_iff.mpr (by decide +kernel)) (by decide +kernel) ?_
  refine br_f (by decide) (br_f (by decide) (br_f (by decide) (br_t (by decide) ?_)))
  refine ⟨vp_in_nI (n := 0) (by decide) (by decide), vp_in_iff.mpr (by decide +kernel), ?_⟩
  unfold wpX_writeProduct
  dsimp only
  refine rc_put (n := 137) (w := 1095802) (by decide) (by decide +kernel) ?_
  dsimp only
  refine rc_put (n := 138) (w := 1101952) (by decide) (by decide +kernel) ?_
  dsimp only
  refine br_t (by decide) ?_
  refine rc_put (n := 139) (w := 19922945) (by decide) (by decide +kernel) ?_
  dsimp only
  refine br_t (by decide) ?_
  refine rc_put (n := 140) (w := 1167389) (by decide) (by decide +kernel) ?_
  dsimp only
  refine br_t (by decide) ?_
  dsimp only
  refine nm_r (e' := nI 1) (by decide) ?_
  refine br_f (by decide) ⟨vp_in_nI (n := 1) (by decide) (by decide), ?_⟩
  refine br_f (by decide +kernel) ?_
  refine nm_r (e' := nI 2) (by decide) ?_
  refine br_t (by decide) ?_
  refine rc_put (n := 141) (w := 20971520) (by decide) (by decide +kernel) ?_
  dsimp only
  exact H
def rc_g31 : List (Nat × Nat) := [(142, 20971520)]
theorem rc_wG31 {cp pc od cd nc ty vl pn : Int32} {a1 a2 a3 a4 a11 a12 a13 a14 a19 a20 a21 a22 a23 : Nat → Int32} {post : St2 → Prop} (H : post (nI 1, nI 2, nI 1, nI 153, nI 104, nI 116, nI 122, nI 128, nI 135, nI 141, nI 147, nI 148, nI 149, nI 150, nI 151, nI 152, cp, nI 143, nI 1, nI 46, nI 114, pc, od, cd, nc, ty, vl, pn, a1, a2, a3, a4, rc_q5, rc_q6, rc_q7 3, rc_q8, rc_q9, rc_q10, a11, a12, a13, a14, rc_a15, rc_a16, rc_a17, rc_a18, rc_ups a19 rc_g31, upd a20 1 (nI 142), a21, a22, a23)) : wpX_writeGroup post (nI 1, nI 2, nI 1, nI 153, nI 104, nI 116, nI 122, nI 128, nI 135, nI 141, nI 147, nI 148, nI 149, nI 150, nI 151, nI 152, cp, nI 142, nI 1, nI 46, nI 114, pc, od, cd, nc, ty, vl, pn, a1, a2, a3, a4, rc_q5, rc_q6, rc_q7 3, rc_q8, rc_q9, rc_q10, a11, a12, a13, a14, rc_a15, rc_a16, rc_a17, rc_a18, a19, a20, a21, a22, a23) (nI 1) := by
  unfold wpX_writeGroup
  dsimp only
  refine ⟨vp_in_nI (n := 1) (by decide) (by decide), nm_r (rc_ue (k' := 1) (v' := nI 142) (by decide +kernel) (by decide +kernel)) ⟨3, ?_⟩⟩
  refine br_f (by decide) ⟨vp_in_nI (n := 0) (by decide) (by decide), ?_⟩
  refine br_f (by decide +kernel) ?_
  refine nm_r (e' := nI 1) (by decide) ?_
  refine br_f (by decide) ⟨vp_in_nI (n := 1) (by decide) (by decide), ?_⟩
  refine br_f (by decide +kernel) ?_
  refine nm_r (e' := nI 2) (by decide) ?_
  refine br_t (by decide) ?_
  refine rc_put (n := 142) (w := 20971520) (by decide) (by decide +kernel) ?_
  dsimp only
  exact H
def rc_g32 : List (Nat × Nat) := [(143, 27262976), (144, 1078419), (145, 19923058), (146, 20971520)]
theorem rc_wG32 {cp pc od cd nc ty vl pn : Int32} {a1 a2 a3 a4 a11 a12 a13 a14 a19 a20 a21 a22 a23 : Nat → Int32} {post : St2 → Prop} (H : post (nI 1, nI 2, nI 1, nI 153, nI 104, nI 116, nI 122, nI 128, nI 135, nI 141, nI 147, nI 148, nI 149, nI 150, nI 151, nI 152, cp, nI 147, nI 1, nI 46, nI 114, pc, od, cd, nc, ty, vl, pn, a1, a2, a3, a4, rc_q5, rc_q6, rc_q7 3, rc_q8, rc_q9, rc_q10, a11, a12, a13, a14, rc_a15, rc_a16, rc_a17, rc_a18, rc_ups a19 rc_g32, upd a20 2 (nI 143), a21, a22, a23)) : wpX_writeGroup post (nI 1, nI 2, nI 1, nI 153, nI 104, nI 116, nI 122, nI 128, nI 135, nI 141, nI 147, nI 148, nI 149, nI 150, nI 151, nI 152, cp, nI 143, nI 1, nI 46, nI 114, pc, od, cd, nc, ty, vl, pn, a1, a2, a3, a4, rc_q5, rc_q6, rc_q7 3, rc_q8, rc_q9, rc_q10, a11, a12, a13, a14, rc_a15, rc_a16, rc_a17, rc_a18, a19, a20, a21, a22, a23) (nI 2) := by
  unfold wpX_writeGroup
  dsimp only
  refine ⟨vp_in_nI (n := 2) (by decide) (by decide), nm_r (rc_ue (k' := 2) (v' := nI 143) (by decide +kernel) (by decide +kernel)) ⟨3, ?_⟩⟩
  refine br_f (by decide) ⟨vp_in_nI (n := 0) (by decide) (by decide), ?_⟩
  refine br_f (by decide +kernel) ?_
  refine nm_r (e' := nI 1) (by decide) ?_
  refine br_f (by decide) ⟨vp_in_nI (n := 1) (by decide) (by decide), ?_⟩
  refine br_t (by decide +kernel) ?_
  unfold wpX_writeLine
  dsimp only
  refine ⟨vp_in_nI (n := 1) (by decide) (by decide), nm_r (e' := nI 0) (by decide +kernel) (br_t (by decide) (br_t (by decide) ?_))⟩
  refine rc_put (n := 143) (w := 27262976) (by decide) (by decide +kernel) ?_
  dsimp only
  refine ⟨vp_in_nI (n := 1) (by decide) (by decide), nm_r (e' := nI 8) (by decide +kernel) ⟨vp_in_nI (n := 1) (by decide) (by decide), ?_⟩⟩
  refine rc_sc0 (v := 29) (by decide +kernel) (vp_in_iff.mpr (by decide +kernel)) (by decide +kernel) ?_
  refine ⟨vp_in_nI (n := 1) (by decide) (by decide), ?_⟩
  refine rc_sc0 (v := 5) (by decide +kernel) (vp_in_iff.mpr (by decide +kernel)) (by decide +kernel) ?_
  refine br_f (by decide) (br_f (by decide) (br_f (by decide) (br_f (by decide) (br_f (by decide) (br_f (by decide) (br_f (by decide) (br_f (by decide) (br_t (by decide) ?_))))))))
  refine rc_put (n := 144) (w := 1078419) (by decide) (by decide +kernel) ?_
  dsimp only
  refine rc_put (n := 145) (w := 19923058) (by decide) (by decide +kernel) ?_
  dsimp only
  refine br_t (by decide) ?_
  dsimp only
  refine nm_r (e' := nI 2) (by decide) ?_
  refine br_t (by decide) ?_
  refine rc_put (n := 146) (w := 20971520) (by decide) (by decide +kernel) ?_
  dsimp only
  exact H
def rc_g33 : List (Nat × Nat) := [(147, 20971520)]
theorem rc_wG33 {cp pc od cd nc ty vl pn : Int32} {a1 a2 a3 a4 a11 a12 a13 a14 a19 a20 a21 a22 a23 : Nat → Int32} {post : St2 → Prop} (H : post (nI 1, nI 2, nI 1, nI 153, nI 104, nI 116, nI 122, nI 128, nI 135, nI 141, nI 147, nI 148, nI 149, nI 150, nI 151, nI 152, cp, nI 148, nI 1, nI 46, nI 114, pc, od, cd, nc, ty, vl, pn, a1, a2, a3, a4, rc_q5, rc_q6, rc_q7 3, rc_q8, rc_q9, rc_q10, a11, a12, a13, a14, rc_a15, rc_a16, rc_a17, rc_a18, rc_ups a19 rc_g33, upd a20 3 (nI 147), a21, a22, a23)) : wpX_writeGroup post (nI 1, nI 2, nI 1, nI 153, nI 104, nI 116, nI 122, nI 128, nI 135, nI 141, nI 147, nI 148, nI 149, nI 150, nI 151, nI 152, cp, nI 147, nI 1, nI 46, nI 114, pc, od, cd, nc, ty, vl, pn, a1, a2, a3, a4, rc_q5, rc_q6, rc_q7 3, rc_q8, rc_q9, rc_q10, a11, a12, a13, a14, rc_a15, rc_a16, rc_a17, rc_a18, a19, a20, a21, a22, a23) (nI 3) := by
  unfold wpX_writeGroup
  dsimp only
  refine ⟨vp_in_nI (n := 3) (by decide) (by decide), nm_r (rc_ue (k' := 3) (v' := nI 147) (by decide +kernel) (by decide +kernel)) ⟨3, ?_⟩⟩
  refine br_f (by decide) ⟨vp_in_nI (n := 0) (by decide) (by decide), ?_⟩
  refine br_f (by decide +kernel) ?_
  refine nm_r (e' := nI 1) (by decide) ?_
  refine br_f (by decide) ⟨vp_in_nI (n := 1) (by decide) (by decide), ?_⟩
  refine br_f (by decide +kernel) ?_
  refine nm_r (e' := nI 2) (by decide) ?_
  refine br_t (by decide) ?_
  refine rc_put (n := 147) (w := 20971520) (by decide) (by decide +kernel) ?_
  dsimp only
  exact H
def rc_G3 : Nat → Int32 := (upd (upd (upd (upd (fun _ => 0) 0 (nI 136)) 1 (nI 142)) 2 (nI 143)) 3 (nI 147))
def rc_B3 : Nat → Int32 := upd (rc_ups (rc_ups (rc_ups (rc_ups rc_A136 rc_g30) rc_g31) rc_g32) rc_g33) 0 (nI 5243028)
def rc_y3 : List (Nat × Nat) := [(148, 13631488), (149, 25319424), (150, 4238377), (151, 8388608), (152, 19923086), (153, 19923087), (154, 5242880), (151, 8388763), (155, 4234277), (156, 8388608), (157, 19923086), (149, 25319582), (154, 5243038), (156, 8388766), (158, 1088549), (159, 1092649), (160, 1098798), (161, 1104948), (162, 19030166), (163, 19923080), (164, 5243028), (148, 13631653), (165, 25319424), (166, 19923086), (167, 19923087), (165, 25319592), (168, 19923091), (169, 0)]
theorem rc_wCy3 {cp pc od cd nc ty vl pn : Int32} {a1 a2 a3 a4 a11 a12 a13 a14 a19 a21 a22 a23 : Nat → Int32} {post : St2 → Prop} (H : post (nI 1, nI 2, nI 1, nI 153, nI 104, nI 116, nI 122, nI 128, nI 135, nI 141, nI 147, nI 148, nI 149, nI 150, nI 151, nI 152, cp, nI 170, nI 1, nI 46, nI 114, pc, od, cd, nc, ty, vl, pn, a1, a2, a3, a4, rc_q5, rc_q6, rc_q7 3, rc_q8, rc_q9, rc_q10, a11, a12, a13, a14, rc_a15, rc_a16, rc_a17, rc_a18, rc_ups a19 rc_y3, rc_G3, a21, a22, a23)) : wpX_writeCycle post (nI 1, nI 2, nI 1, nI 153, nI 104, nI 116, nI 122, nI 128, nI 135, nI 141, nI 147, nI 148, nI 149, nI 150, nI 151, nI 152, cp, nI 148, nI 1, nI 46, nI 114, pc, od, cd, nc, ty, vl, pn, a1, a2, a3, a4, rc_q5, rc_q6, rc_q7 3, rc_q8, rc_q9, rc_q10, a11, a12, a13, a14, rc_a15, rc_a16, rc_a17, rc_a18, a19, rc_G3, a21, a22, a23) := by
  unfold wpX_writeCycle
  dsimp only
  refine rc_put (n := 148) (w := 13631488) (by decide) (by decide +kernel) ?_
  dsimp only
  refine rc_put (n := 149) (w := 25319424) (by decide) (by decide +kernel) ?_
  dsimp only
  refine rc_put (n := 150) (w := 4238377) (by decide) (by decide +kernel) ?_
  dsimp only
  refine rc_put (n := 151) (w := 8388608) (by decide) (by decide +kernel) ?_
  dsimp only
  refine rc_put (n := 152) (w := 19923086) (by decide) (by decide +kernel) ?_
  dsimp only
  refine rc_put (n := 153) (w := 19923087) (by decide) (by decide +kernel) ?_
  dsimp only
  refine rc_put (n := 154) (w := 5242880) (by decide) (by decide +kernel) ?_
  dsimp only
  refine rc_land (i := 151) (n := 155) (w0 := 8388608) (w := 8388763) (by decide) (by decide) rfl (by decide +kernel) ?_
  dsimp only
  refine rc_put (n := 155) (w := 4234277) (by decide) (by decide +kernel) ?_
  dsimp only
  refine rc_put (n := 156) (w := 8388608) (by decide) (by decide +kernel) ?_
  dsimp only
  refine rc_put (n := 157) (w := 19923086) (by decide) (by decide +kernel) ?_
  dsimp only
  refine rc_land (i := 149) (n := 158) (w0 := 25319424) (w := 25319582) (by decide) (by decide) rfl (by decide +kernel) ?_
  dsimp only
  refine rc_land (i := 154) (n := 158) (w0 := 5242880) (w := 5243038) (by decide) (by decide) rfl (by decide +kernel) ?_
  dsimp only
  refine rc_land (i := 156) (n := 158) (w0 := 8388608) (w := 8388766) (by decide) (by decide) rfl (by decide +kernel) ?_
  dsimp only
  refine ⟨5, ?_⟩
  refine br_f (by decide) ⟨vp_in_nI (n := 0) (by decide) (by decide), vp_in_nI (n := 0) (by decide) (by decide), ?_⟩
  refine rc_put (n := 158) (w := 1088549) (by decide) (by decide +kernel) ?_
  dsimp only
  refine nm_r (e' := nI 1) (by decide) ?_
  refine br_f (by decide) ⟨vp_in_nI (n := 1) (by decide) (by decide), vp_in_nI (n := 1) (by decide) (by decide), ?_⟩
  refine rc_put (n := 159) (w := 1092649) (by decide) (by decide +kernel) ?_
  dsimp only
  refine nm_r (e' := nI 2) (by decide) ?_
  refine br_f (by decide) ⟨vp_in_nI (n := 2) (by decide) (by decide), vp_in_nI (n := 2) (by decide) (by decide), ?_⟩
  refine rc_put (n := 160) (w := 1098798) (by decide) (by decide +kernel) ?_
  dsimp only
  refine nm_r (e' := nI 3) (by decide) ?_
  refine br_f (by decide) ⟨vp_in_nI (n := 3) (by decide) (by decide), vp_in_nI (n := 3) (by decide) (by decide), ?_⟩
  refine rc_put (n := 161) (w := 1104948) (by decide) (by decide +kernel) ?_
  dsimp only
  refine nm_r (e' := nI 4) (by decide) ?_
  refine br_t (by decide) ?_
  refine rc_put (n := 162) (w := 19030166) (by decide) (by decide +kernel) ?_
  dsimp only
  refine rc_put (n := 163) (w := 19923080) (by decide) (by decide +kernel) ?_
  dsimp only
  refine rc_put (n := 164) (w := 5243028) (by decide) (by decide +kernel) ?_
  dsimp only
  refine rc_land (i := 148) (n := 165) (w0 := 13631488) (w := 13631653) (by decide) (by decide) rfl (by decide +kernel) ?_
  dsimp only
  refine rc_put (n := 165) (w := 25319424) (by decide) (by decide +kernel) ?_
  dsimp only
  refine rc_put (n := 166) (w := 19923086) (by decide) (by decide +kernel) ?_
  dsimp only
  refine rc_put (n := 167) (w := 19923087) (by decide) (by decide +kernel) ?_
  dsimp only
  refine rc_land (i := 165) (n := 168) (w0 := 25319424) (w := 25319592) (by decide) (by decide) rfl (by decide +kernel) ?_
  dsimp only
  refine rc_put (n := 168) (w := 19923091) (by decide) (by decide +kernel) ?_
  dsimp only
  refine rc_put (n := 169) (w := 0) (by decide) (by decide +kernel) ?_
  dsimp only
  exact H
theorem rc_cmp3 {cp ce pc od cd nc ty vl pn : Int32} {a1 a2 a3 a4 a11 a12 a13 a14 a21 a22 a23 : Nat → Int32} {mu dv pr : Int32} {post : St2 → Prop} (H : post (nI 1, nI 2, nI 1, nI 153, nI 104, nI 116, nI 122, nI 128, nI 135, nI 141, nI 147, nI 148, nI 149, nI 150, nI 151, nI 152, 1, nI 170, nI 1, nI 46, nI 114, pc, od, cd, nc, ty, vl, pn, a1, a2, a3, a4, rc_q5, rc_q6, rc_q7 3, rc_q8, rc_q9, rc_q10, a11, a12, a13, a14, rc_a15, rc_a16, rc_a17, rc_a18, rc_ups rc_B3 rc_y3, rc_G3, a21, a22, a23)) : wpX_compile post (nI 1, nI 2, nI 1, nI 153, nI 104, nI 116, nI 122, nI 128, nI 135, nI 141, nI 147, nI 148, nI 149, nI 150, nI 151, nI 152, cp, ce, mu, dv, pr, pc, od, cd, nc, ty, vl, pn, a1, a2, a3, a4, rc_q5, rc_q6, rc_q7 3, rc_q8, rc_q9, rc_q10, a11, a12, a13, a14, rc_a15, rc_a16, rc_a17, rc_a18, (fun _ => 0), (fun _ => 0), a21, a22, a23) := by
  unfold wpX_compile
  dsimp only
  refine rc_put (n := 0) (w := 5242880) (by decide) (by decide +kernel) ?_
  dsimp only
  refine rc_wMul ?_
  dsimp only
  refine rc_wDiv ?_
  dsimp only
  refine rc_wPri ?_
  dsimp only
  refine ⟨5, ?_⟩
  refine br_f (by decide) (rc_wG30 ?_)
  dsimp only
  refine nm_r (e' := nI 1) (by decide) ?_
  refine br_f (by decide) (rc_wG31 ?_)
  dsimp only
  refine nm_r (e' := nI 2) (by decide) ?_
  refine br_f (by decide) (rc_wG32 ?_)
  dsimp only
  refine nm_r (e' := nI 3) (by decide) ?_
  refine br_f (by decide) (rc_wG33 ?_)
  dsimp only
  refine nm_r (e' := nI 4) (by decide) ?_
  refine br_t (by decide) ?_
  refine rc_land (i := 0) (n := 148) (w0 := 5242880) (w := 5243028) (by decide) (by decide) (by decide +kernel) (by decide +kernel) ?_
  dsimp only
  refine rc_wCy3 ?_
  exact H
end
section
def rc_g40 : List (Nat × Nat) := [(136, 27262976), (137, 1095802), (138, 1101952), (139, 19922990), (140, 1192989), (141, 20971520)]
theorem rc_wG40 {cp pc od cd nc ty vl pn : Int32} {a1 a2 a3 a4 a11 a12 a13 a14 a19 a20 a21 a22 a23 : Nat → Int32} {post : St2 → Prop} (H : post (nI 1, nI 2, nI 1, nI 153, nI 104, nI 116, nI 122, nI 128, nI 135, nI 141, nI 147, nI 148, nI 149, nI 150, nI 151, nI 152, cp, nI 142, nI 1, nI 46, nI 114, pc, od, cd, nc, ty, vl, pn, a1, a2, a3, a4, rc_q5, rc_q6, rc_q7 4, rc_q8, rc_q9, rc_q10, a11, a12, a13, a14, rc_a15, rc_a16, rc_a17, rc_a18, rc_ups a19 rc_g40, upd a20 0 (nI 136), a21, a22, a23)) : wpX_writeGroup post (nI 1, nI 2, nI 1, nI 153, nI 104, nI 116, nI 122, nI 128, nI 135, nI 141, nI 147, nI 148, nI 149, nI 150, nI 151, nI 152, cp, nI 136, nI 1, nI 46, nI 114, pc, od, cd, nc, ty, vl, pn, a1, a2, a3, a4, rc_q5, rc_q6, rc_q7 4, rc_q8, rc_q9, rc_q10, a11, a12, a13, a14, rc_a15, rc_a16, rc_a17, rc_a18, a19, a20, a21, a22, a23) (nI 0) := by
  unfold wpX_writeGroup
  dsimp only
  refine ⟨vp_in_nI (n := 0) (by decide) (by decide), nm_r (rc_ue (k' := 0) (v' := nI 136) (by decide +kernel) (by decide +kernel)) ⟨3, ?_⟩⟩
  refine br_f (by decide) ⟨vp_in_nI (n := 0) (by decide) (by decide), ?_⟩
  refine br_t (by decide +kernel) ?_
  unfold wpX_writeLine
  dsimp only
  refine ⟨vp_in_nI (n := 0) (by decide) (by decide), nm_r (e' := nI 0) (by decide +kernel) (br_t (by decide) (br_t (by decide) ?_))⟩
  refine rc_put (n := 136) (w := 27262976) (by decide) (by decide +kernel) ?_
  dsimp only
  refine ⟨vp_in_nI (n := 0) (by decide) (by decide), nm_r (e' := nI 4) (by decide +kernel) ⟨vp_in_nI (n := 0) (by decide) (by decide), ?_⟩⟩
  refine rc_sc1 (v := 46) (by decide +kernel) (by decide +kernel) (vp_in_iff.mpr (by decide +kernel)) (by decide +kernel) ?_
  refine ⟨vp_in_nI (n := 0) (by decide) (by decide), ?_⟩
  refine rc_sc1 (v := 52) (by decide +kernel) (by decide +kernel) (vp_in_iff.mpr (by decide +kernel)) (by decide +kernel) ?_
  refine br_f (by decide) (br_f (by decide) (br_f (by decide) (br_f (by decide) (br_t (by decide) ?_))))
  refine ⟨vp_in_nI (n := 0) (by decide) (by decide), vp_in_iff.mpr (by decide +kernel), ?_⟩
  unfold wpX_writeProduct
  dsimp only
  refine rc_put (n := 137) (w := 1095802) (by decide) (by decide +kernel) ?_
  dsimp only
  refine rc_put (n := 138) (w := 1101952) (by decide) (by decide +kernel) ?_
  dsimp only
  refine br_f (by decide) ?_
  refine rc_put (n := 139) (w := 19922990) (by decide) (by decide +kernel) ?_
  dsimp only
  refine br_f (by decide) ?_
  refine rc_put (n := 140) (w := 1192989) (by decide) (by decide +kernel) ?_
  dsimp only
  refine br_t (by decide) ?_
  dsimp only
  refine nm_r (e' := nI 1) (by decide) ?_
  refine br_f (by decide) ⟨vp_in_nI (n := 1) (by decide) (by decide), ?_⟩
  refine br_f (by decide +kernel) ?_
  refine nm_r (e' := nI 2) (by decide) ?_
  refine br_t (by decide) ?_
  refine rc_put (n := 141) (w := 20971520) (by decide) (by decide +kernel) ?_
  dsimp only
  exact H
def rc_g41 : List (Nat × Nat) := [(142, 20971520)]
theorem rc_wG41 {cp pc od cd nc ty vl pn : Int32} {a1 a2 a3 a4 a11 a12 a13 a14 a19 a20 a21 a22 a23 : Nat → Int32} {post : St2 → Prop} (H : post (nI 1, nI 2, nI 1, nI 153, nI 104, nI 116, nI 122, nI 128, nI 135, nI 141, nI 147, nI 148, nI 149, nI 150, nI 151, nI 152, cp, nI 143, nI 1, nI 46, nI 114, pc, od, cd, nc, ty, vl, pn, a1, a2, a3, a4, rc_q5, rc_q6, rc_q7 4, rc_q8, rc_q9, rc_q10, a11, a12, a13, a14, rc_a15, rc_a16, rc_a17, rc_a18, rc_ups a19 rc_g41, upd a20 1 (nI 142), a21, a22, a23)) : wpX_writeGroup post (nI 1, nI 2, nI 1, nI 153, nI 104, nI 116, nI 122, nI 128, nI 135, nI 141, nI 147, nI 148, nI 149, nI 150, nI 151, nI 152, cp, nI 142, nI 1, nI 46, nI 114, pc, od, cd, nc, ty, vl, pn, a1, a2, a3, a4, rc_q5, rc_q6, rc_q7 4, rc_q8, rc_q9, rc_q10, a11, a12, a13, a14, rc_a15, rc_a16, rc_a17, rc_a18, a19, a20, a21, a22, a23) (nI 1) := by
  unfold wpX_writeGroup
  dsimp only
  refine ⟨vp_in_nI (n := 1) (by decide) (by decide), nm_r (rc_ue (k' := 1) (v' := nI 142) (by decide +kernel) (by decide +kernel)) ⟨3, ?_⟩⟩
  refine br_f (by decide) ⟨vp_in_nI (n := 0) (by decide) (by decide), ?_⟩
  refine br_f (by decide +kernel) ?_
  refine nm_r (e' := nI 1) (by decide) ?_
  refine br_f (by decide) ⟨vp_in_nI (n := 1) (by decide) (by decide), ?_⟩
  refine br_f (by decide +kernel) ?_
  refine nm_r (e' := nI 2) (by decide) ?_
  refine br_t (by decide) ?_
  refine rc_put (n := 142) (w := 20971520) (by decide) (by decide +kernel) ?_
  dsimp only
  exact H
def rc_g42 : List (Nat × Nat) := [(143, 27262976), (144, 1078419), (145, 19923058), (146, 20971520)]
theorem rc_wG42 {cp pc od cd nc ty vl pn : Int32} {a1 a2 a3 a4 a11 a12 a13 a14 a19 a20 a21 a22 a23 : Nat → Int32} {post : St2 → Prop} (H : post (nI 1, nI 2, nI 1, nI 153, nI 104, nI 116, nI 122, nI 128, nI 135, nI 141, nI 147, nI 148, nI 149, nI 150, nI 151, nI 152, cp, nI 147, nI 1, nI 46, nI 114, pc, od, cd, nc, ty, vl, pn, a1, a2, a3, a4, rc_q5, rc_q6, rc_q7 4, rc_q8, rc_q9, rc_q10, a11, a12, a13, a14, rc_a15, rc_a16, rc_a17, rc_a18, rc_ups a19 rc_g42, upd a20 2 (nI 143), a21, a22, a23)) : wpX_writeGroup post (nI 1, nI 2, nI 1, nI 153, nI 104, nI 116, nI 122, nI 128, nI 135, nI 141, nI 147, nI 148, nI 149, nI 150, nI 151, nI 152, cp, nI 143, nI 1, nI 46, nI 114, pc, od, cd, nc, ty, vl, pn, a1, a2, a3, a4, rc_q5, rc_q6, rc_q7 4, rc_q8, rc_q9, rc_q10, a11, a12, a13, a14, rc_a15, rc_a16, rc_a17, rc_a18, a19, a20, a21, a22, a23) (nI 2) := by
  unfold wpX_writeGroup
  dsimp only
  refine ⟨vp_in_nI (n := 2) (by decide) (by decide), nm_r (rc_ue (k' := 2) (v' := nI 143) (by decide +kernel) (by decide +kernel)) ⟨3, ?_⟩⟩
  refine br_f (by decide) ⟨vp_in_nI (n := 0) (by decide) (by decide), ?_⟩
  refine br_f (by decide +kernel) ?_
  refine nm_r (e' := nI 1) (by decide) ?_
  refine br_f (by decide) ⟨vp_in_nI (n := 1) (by decide) (by decide), ?_⟩
  refine br_t (by decide +kernel) ?_
  unfold wpX_writeLine
  dsimp only
  refine ⟨vp_in_nI (n := 1) (by decide) (by decide), nm_r (e' := nI 0) (by decide +kernel) (br_t (by decide) (br_t (by decide) ?_))⟩
  refine rc_put (n := 143) (w := 27262976) (by decide) (by decide +kernel) ?_
  dsimp only
  refine ⟨vp_in_nI (n := 1) (by decide) (by decide), nm_r (e' := nI 8) (by decide +kernel) ⟨vp_in_nI (n := 1) (by decide) (by decide), ?_⟩⟩
  refine rc_sc0 (v := 29) (by decide +kernel) (vp_in_iff.mpr (by decide +kernel)) (by decide +kernel) ?_
  refine ⟨vp_in_nI (n := 1) (by decide) (by decide), ?_⟩
  refine rc_sc0 (v := 5) (by decide +kernel) (vp_in_iff.mpr (by decide +kernel)) (by decide +kernel) ?_
  refine br_f (by decide) (br_f (by decide) (br_f (by decide) (br_f (by decide) (br_f (by decide) (br_f (by decide) (br_f (by decide) (br_f (by decide) (br_t (by decide) ?_))))))))
  refine rc_put (n := 144) (w := 1078419) (by decide) (by decide +kernel) ?_
  dsimp only
  refine rc_put (n := 145) (w := 19923058) (by decide) (by decide +kernel) ?_
  dsimp only
  refine br_t (by decide) ?_
  dsimp only
  refine nm_r (e' := nI 2) (by decide) ?_
  refine br_t (by decide) ?_
  refine rc_put (n := 146) (w := 20971520) (by decide) (by decide +kernel) ?_
  dsimp only
  exact H
def rc_g43 : List (Nat × Nat) := [(147, 20971520)]
theorem rc_wG43 {cp pc od cd nc ty vl pn : Int32} {a1 a2 a3 a4 a11 a12 a13 a14 a19 a20 a21 a22 a23 : Nat → Int32} {post : St2 → Prop} (H : post (nI 1, nI 2, nI 1, nI 153, nI 104, nI 116, nI 122, nI 128, nI 135, nI 141, nI 147, nI 148, nI 149, nI 150, nI 151, nI 152, cp, nI 148, nI 1, nI 46, nI 114, pc, od, cd, nc, ty, vl, pn, a1, a2, a3, a4, rc_q5, rc_q6, rc_q7 4, rc_q8, rc_q9, rc_q10, a11, a12, a13, a14, rc_a15, rc_a16, rc_a17, rc_a18, rc_ups a19 rc_g43, upd a20 3 (nI 147), a21, a22, a23)) : wpX_writeGroup post (nI 1, nI 2, nI 1, nI 153, nI 104, nI 116, nI 122, nI 128, nI 135, nI 141, nI 147, nI 148, nI 149, nI 150, nI 151, nI 152, cp, nI 147, nI 1, nI 46, nI 114, pc, od, cd, nc, ty, vl, pn, a1, a2, a3, a4, rc_q5, rc_q6, rc_q7 4, rc_q8, rc_q9, rc_q10, a11, a12, a13, a14, rc_a15, rc_a16, rc_a17, rc_a18, a19, a20, a21, a22, a23) (nI 3) := by
  unfold wpX_writeGroup
  dsimp only
  refine ⟨vp_in_nI (n := 3) (by decide) (by decide), nm_r (rc_ue (k' := 3) (v' := nI 147) (by decide +kernel) (by decide +kernel)) ⟨3, ?_⟩⟩
  refine br_f (by decide) ⟨vp_in_nI (n := 0) (by decide) (by decide), ?_⟩
  refine br_f (by decide +kernel) ?_
  refine nm_r (e' := nI 1) (by decide) ?_
  refine br_f (by decide) ⟨vp_in_nI (n := 1) (by decide) (by decide), ?_⟩
  refine br_f (by decide +kernel) ?_
  refine nm_r (e' := nI 2) (by decide) ?_
  refine br_t (by decide) ?_
  refine rc_put (n := 147) (w := 20971520) (by decide) (by decide +kernel) ?_
  dsimp only
  exact H
def rc_G4 : Nat → Int32 := (upd (upd (upd (upd (fun _ => 0) 0 (nI 136)) 1 (nI 142)) 2 (nI 143)) 3 (nI 147))
def rc_B4 : Nat → Int32 := upd (rc_ups (rc_ups (rc_ups (rc_ups rc_A136 rc_g40) rc_g41) rc_g42) rc_g43) 0 (nI 5243028)
def rc_y4 : List (Nat × Nat) := [(148, 13631488), (149, 25319424), (150, 4238377), (151, 8388608), (152, 19923086), (153, 19923087), (154, 5242880), (151, 8388763), (155, 4234277), (156, 8388608), (157, 19923086), (149, 25319582), (154, 5243038), (156, 8388766), (158, 1088549), (159, 1092649), (160, 1098798), (161, 1104948), (162, 19030166), (163, 19923080), (164, 5243028), (148, 13631653), (165, 25319424), (166, 19923086), (167, 19923087), (165, 25319592), (168, 19923091), (169, 0)]
theorem rc_wCy4 {cp pc od cd nc ty vl pn : Int32} {a1 a2 a3 a4 a11 a12 a13 a14 a19 a21 a22 a23 : Nat → Int32} {post : St2 → Prop} (H : post (nI 1, nI 2, nI 1, nI 153, nI 104, nI 116, nI 122, nI 128, nI 135, nI 141, nI 147, nI 148, nI 149, nI 150, nI 151, nI 152, cp, nI 170, nI 1, nI 46, nI 114, pc, od, cd, nc, ty, vl, pn, a1, a2, a3, a4, rc_q5, rc_q6, rc_q7 4, rc_q8, rc_q9, rc_q10, a11, a12, a13, a14, rc_a15, rc_a16, rc_a17, rc_a18, rc_ups a19 rc_y4, rc_G4, a21, a22, a23)) : wpX_writeCycle post (nI 1, nI 2, nI 1, nI 153, nI 104, nI 116, nI 122, nI 128, nI 135, nI 141, nI 147, nI 148, nI 149, nI 150, nI 151, nI 152, cp, nI 148, nI 1, nI 46, nI 114, pc, od, cd, nc, ty, vl, pn, a1, a2, a3, a4, rc_q5, rc_q6, rc_q7 4, rc_q8, rc_q9, rc_q10, a11, a12, a13, a14, rc_a15, rc_a16, rc_a17, rc_a18, a19, rc_G4, a21, a22, a23) := by
  unfold wpX_writeCycle
  dsimp only
  refine rc_put (n := 148) (w := 13631488) (by decide) (by decide +kernel) ?_
  dsimp only
  refine rc_put (n := 149) (w := 25319424) (by decide) (by decide +kernel) ?_
  dsimp only
  refine rc_put (n := 150) (w := 4238377) (by decide) (by decide +kernel) ?_
  dsimp only
  refine rc_put (n := 151) (w := 8388608) (by decide) (by decide +kernel) ?_
  dsimp only
  refine rc_put (n := 152) (w := 19923086) (by decide) (by decide +kernel) ?_
  dsimp only
  refine rc_put (n := 153) (w := 19923087) (by decide) (by decide +kernel) ?_
  dsimp only
  refine rc_put (n := 154) (w := 5242880) (by decide) (by decide +kernel) ?_
  dsimp only
  refine rc_land (i := 151) (n := 155) (w0 := 8388608) (w := 8388763) (by decide) (by decide) rfl (by decide +kernel) ?_
  dsimp only
  refine rc_put (n := 155) (w := 4234277) (by decide) (by decide +kernel) ?_
  dsimp only
  refine rc_put (n := 156) (w := 8388608) (by decide) (by decide +kernel) ?_
  dsimp only
  refine rc_put (n := 157) (w := 19923086) (by decide) (by decide +kernel) ?_
  dsimp only
  refine rc_land (i := 149) (n := 158) (w0 := 25319424) (w := 25319582) (by decide) (by decide) rfl (by decide +kernel) ?_
  dsimp only
  refine rc_land (i := 154) (n := 158) (w0 := 5242880) (w := 5243038) (by decide) (by decide) rfl (by decide +kernel) ?_
  dsimp only
  refine rc_land (i := 156) (n := 158) (w0 := 8388608) (w := 8388766) (by decide) (by decide) rfl (by decide +kernel) ?_
  dsimp only
  refine ⟨5, ?_⟩
  refine br_f (by decide) ⟨vp_in_nI (n := 0) (by decide) (by decide), vp_in_nI (n := 0) (by decide) (by decide), ?_⟩
  refine rc_put (n := 158) (w := 1088549) (by decide) (by decide +kernel) ?_
  dsimp only
  refine nm_r (e' := nI 1) (by decide) ?_
  refine br_f (by decide) ⟨vp_in_nI (n := 1) (by decide) (by decide), vp_in_nI (n := 1) (by decide) (by decide), ?_⟩
  refine rc_put (n := 159) (w := 1092649) (by decide) (by decide +kernel) ?_
  dsimp only
  refine nm_r (e' := nI 2) (by decide) ?_
  refine br_f (by decide) ⟨vp_in_nI (n := 2) (by decide) (by decide), vp_in_nI (n := 2) (by decide) (by decide), ?_⟩
  refine rc_put (n := 160) (w := 1098798) (by decide) (by decide +kernel) ?_
  dsimp only
  refine nm_r (e' := nI 3) (by decide) ?_
  refine br_f (by decide) ⟨vp_in_nI (n := 3) (by decide) (by decide), vp_in_nI (n := 3) (by decide) (by decide), ?_⟩
  refine rc_put (n := 161) (w := 1104948) (by decide) (by decide +kernel) ?_
  dsimp only
  refine nm_r (e' := nI 4) (by decide) ?_
  refine br_t (by decide) ?_
  refine rc_put (n := 162) (w := 19030166) (by decide) (by decide +kernel) ?_
  dsimp only
  refine rc_put (n := 163) (w := 19923080) (by decide) (by decide +kernel) ?_
  dsimp only
  refine rc_put (n := 164) (w := 5243028) (by decide) (by decide +kernel) ?_
  dsimp only
  refine rc_land (i := 148) (n := 165) (w0 := 13631488) (w := 13631653) (by decide) (by decide) rfl (by decide +kernel) ?_
  dsimp only
  refine rc_put (n := 165) (w := 25319424) (by decide) (by decide +kernel) ?_
  dsimp only
  refine rc_put (n := 166) (w := 19923086) (by decide) (by decide +kernel) ?_
  dsimp only
  refine rc_put (n := 167) (w := 19923087) (by decide) (by decide +kernel) ?_
  dsimp only
  refine rc_land (i := 165) (n := 168) (w0 := 25319424) (w := 25319592) (by decide) (by decide) rfl (by decide +kernel) ?_
  dsimp only
  refine rc_put (n := 168) (w := 19923091) (by decide) (by decide +kernel) ?_
  dsimp only
  refine rc_put (n := 169) (w := 0) (by decide) (by decide +kernel) ?_
  dsimp only
  exact H
theorem rc_cmp4 {cp ce pc od cd nc ty vl pn : Int32} {a1 a2 a3 a4 a11 a12 a13 a14 a21 a22 a23 : Nat → Int32} {mu dv pr : Int32} {post : St2 → Prop} (H : post (nI 1, nI 2, nI 1, nI 153, nI 104, nI 116, nI 122, nI 128, nI 135, nI 141, nI 147, nI 148, nI 149, nI 150, nI 151, nI 152, 1, nI 170, nI 1, nI 46, nI 114, pc, od, cd, nc, ty, vl, pn, a1, a2, a3, a4, rc_q5, rc_q6, rc_q7 4, rc_q8, rc_q9, rc_q10, a11, a12, a13, a14, rc_a15, rc_a16, rc_a17, rc_a18, rc_ups rc_B4 rc_y4, rc_G4, a21, a22, a23)) : wpX_compile post (nI 1, nI 2, nI 1, nI 153, nI 104, nI 116, nI 122, nI 128, nI 135, nI 141, nI 147, nI 148, nI 149, nI 150, nI 151, nI 152, cp, ce, mu, dv, pr, pc, od, cd, nc, ty, vl, pn, a1, a2, a3, a4, rc_q5, rc_q6, rc_q7 4, rc_q8, rc_q9, rc_q10, a11, a12, a13, a14, rc_a15, rc_a16, rc_a17, rc_a18, (fun _ => 0), (fun _ => 0), a21, a22, a23) := by
  unfold wpX_compile
  dsimp only
  refine rc_put (n := 0) (w := 5242880) (by decide) (by decide +kernel) ?_
  dsimp only
  refine rc_wMul ?_
  dsimp only
  refine rc_wDiv ?_
  dsimp only
  refine rc_wPri ?_
  dsimp only
  refine ⟨5, ?_⟩
  refine br_f (by decide) (rc_wG40 ?_)
  dsimp only
  refine nm_r (e' := nI 1) (by decide) ?_
  refine br_f (by decide) (rc_wG41 ?_)
  dsimp only
  refine nm_r (e' := nI 2) (by decide) ?_
  refine br_f (by decide) (rc_wG42 ?_)
  dsimp only
  refine nm_r (e' := nI 3) (by decide) ?_
  refine br_f (by decide) (rc_wG43 ?_)
  dsimp only
  refine nm_r (e' := nI 4) (by decide) ?_
  refine br_t (by decide) ?_
  refine rc_land (i := 0) (n := 148) (w0 := 5242880) (w := 5243028) (by decide) (by decide) (by decide +kernel) (by decide +kernel) ?_
  dsimp only
  refine rc_wCy4 ?_
  exact H
end
section
theorem rc_nf {cc lc lv sm pd lf rt rs qt tx ct sg ve zr on cp ce mu dv pr pc od cd nc ty vl pn : Int32} {a1 a2 a3 a4 a5 a6 a7 a8 a9 a10 a11 a12 a13 a14 a15 a16 a17 a18 a19 a20 a21 a22 a23 : Nat → Int32} {post : Int32 → St2 → Prop} {n l m r : Nat} {p0 : Int32} (hn : n < 240) (h0 : p0 = nI l) (hm : n + l = m) (hr : r + 1 = m) (H : post (nI r) (cc, lc, lv, nI m, sm, pd, lf, rt, rs, qt, tx, ct, sg, ve, zr, on, cp, ce, mu, dv, pr, pc, od, cd, nc, ty, vl, pn, a1, a2, a3, a4, a5, a6, a7, a8, a9, a10, a11, a12, upd a13 n 1, a14, a15, a16, a17, a18, a19, a20, a21, a22, a23)) : wpX_newField post (cc, lc, lv, nI n, sm, pd, lf, rt, rs, qt, tx, ct, sg, ve, zr, on, cp, ce, mu, dv, pr, pc, od, cd, nc, ty, vl, pn, a1, a2, a3, a4, a5, a6, a7, a8, a9, a10, a11, a12, a13, a14, a15, a16, a17, a18, a19, a20, a21, a22, a23) p0 := by
  subst h0 hm
  unfold wpX_newField
  dsimp only
  refine ⟨vp_in_nI hn (by omega), nm_r (rc_ue (nI_clamp (by omega)) rfl) (nm_r (nI_add n l) ?_)⟩
  rw [← hr, nI_pred, hr]
  exact H
theorem rc_nf_2 {cc lc lv sm pd lf rt rs qt tx ct sg ve zr on cp ce mu dv pr pc od cd nc ty vl pn : Int32} {a1 a2 a3 a4 a5 a6 a7 a8 a9 a10 a11 a12 a13 a14 a15 a16 a17 a18 a19 a20 a21 a22 a23 : Nat → Int32} {post : Int32 → St2 → Prop} {n l m r : Nat} {p0 : Int32} (hn : n < 240) (h0 : p0 = nI l) (hm : n + l = m) (hr : r + 1 = m) (H : post (nI r) (cc, lc, lv, nI m, sm, pd, lf, rt, rs, qt, tx, ct, sg, ve, zr, on, cp, ce, mu, dv, pr, pc, od, cd, nc, ty, vl, pn, a1, a2, a3, a4, a5, a6, a7, a8, a9, a10, a11, a12, upd a13 n 1, a14, a15, a16, a17, a18, a19, a20, a21, a22, a23)) : wpX_newField_2 post (cc, lc, lv, nI n, sm, pd, lf, rt, rs, qt, tx, ct, sg, ve, zr, on, cp, ce, mu, dv, pr, pc, od, cd, nc, ty, vl, pn, a1, a2, a3, a4, a5, a6, a7, a8, a9, a10, a11, a12, a13, a14, a15, a16, a17, a18, a19, a20, a21, a22, a23) p0 := by
  subst h0 hm
  unfold wpX_newField_2
  dsimp only
  refine ⟨vp_in_nI hn (by omega), nm_r (rc_ue (nI_clamp (by omega)) rfl) (nm_r (nI_add n l) ?_)⟩
  rw [← hr, nI_pred, hr]
  exact H
theorem rc_nf_3 {cc lc lv sm pd lf rt rs qt tx ct sg ve zr on cp ce mu dv pr pc od cd nc ty vl pn : Int32} {a1 a2 a3 a4 a5 a6 a7 a8 a9 a10 a11 a12 a13 a14 a15 a16 a17 a18 a19 a20 a21 a22 a23 : Nat → Int32} {post : Int32 → St2 → Prop} {n l m r : Nat} {p0 : Int32} (hn : n < 240) (h0 : p0 = nI l) (hm : n + l = m) (hr : r + 1 = m) (H : post (nI r) (cc, lc, lv, nI m, sm, pd, lf, rt, rs, qt, tx, ct, sg, ve, zr, on, cp, ce, mu, dv, pr, pc, od, cd, nc, ty, vl, pn, a1, a2, a3, a4, a5, a6, a7, a8, a9, a10, a11, a12, upd a13 n 1, a14, a15, a16, a17, a18, a19, a20, a21, a22, a23)) : wpX_newField_3 post (cc, lc, lv, nI n, sm, pd, lf, rt, rs, qt, tx, ct, sg, ve, zr, on, cp, ce, mu, dv, pr, pc, od, cd, nc, ty, vl, pn, a1, a2, a3, a4, a5, a6, a7, a8, a9, a10, a11, a12, a13, a14, a15, a16, a17, a18, a19, a20, a21, a22, a23) p0 := by
  subst h0 hm
  unfold wpX_newField_3
  dsimp only
  refine ⟨vp_in_nI hn (by omega), nm_r (rc_ue (nI_clamp (by omega)) rfl) (nm_r (nI_add n l) ?_)⟩
  rw [← hr, nI_pred, hr]
  exact H
theorem rc_nf_4 {cc lc lv sm pd lf rt rs qt tx ct sg ve zr on cp ce mu dv pr pc od cd nc ty vl pn : Int32} {a1 a2 a3 a4 a5 a6 a7 a8 a9 a10 a11 a12 a13 a14 a15 a16 a17 a18 a19 a20 a21 a22 a23 : Nat → Int32} {post : Int32 → St2 → Prop} {n l m r : Nat} {p0 : Int32} (hn : n < 240) (h0 : p0 = nI l) (hm : n + l = m) (hr : r + 1 = m) (H : post (nI r) (cc, lc, lv, nI m, sm, pd, lf, rt, rs, qt, tx, ct, sg, ve, zr, on, cp, ce, mu, dv, pr, pc, od, cd, nc, ty, vl, pn, a1, a2, a3, a4, a5, a6, a7, a8, a9, a10, a11, a12, upd a13 n 1, a14, a15, a16, a17, a18, a19, a20, a21, a22, a23)) : wpX_newField_4 post (cc, lc, lv, nI n, sm, pd, lf, rt, rs, qt, tx, ct, sg, ve, zr, on, cp, ce, mu, dv, pr, pc, od, cd, nc, ty, vl, pn, a1, a2, a3, a4, a5, a6, a7, a8, a9, a10, a11, a12, a13, a14, a15, a16, a17, a18, a19, a20, a21, a22, a23) p0 := by
  subst h0 hm
  unfold wpX_newField_4
  dsimp only
  refine ⟨vp_in_nI hn (by omega), nm_r (rc_ue (nI_clamp (by omega)) rfl) (nm_r (nI_add n l) ?_)⟩
  rw [← hr, nI_pred, hr]
  exact H
theorem rc_nf_5 {cc lc lv sm pd lf rt rs qt tx ct sg ve zr on cp ce mu dv pr pc od cd nc ty vl pn : Int32} {a1 a2 a3 a4 a5 a6 a7 a8 a9 a10 a11 a12 a13 a14 a15 a16 a17 a18 a19 a20 a21 a22 a23 : Nat → Int32} {post : Int32 → St2 → Prop} {n l m r : Nat} {p0 : Int32} (hn : n < 240) (h0 : p0 = nI l) (hm : n + l = m) (hr : r + 1 = m) (H : post (nI r) (cc, lc, lv, nI m, sm, pd, lf, rt, rs, qt, tx, ct, sg, ve, zr, on, cp, ce, mu, dv, pr, pc, od, cd, nc, ty, vl, pn, a1, a2, a3, a4, a5, a6, a7, a8, a9, a10, a11, a12, upd a13 n 1, a14, a15, a16, a17, a18, a19, a20, a21, a22, a23)) : wpX_newField_5 post (cc, lc, lv, nI n, sm, pd, lf, rt, rs, qt, tx, ct, sg, ve, zr, on, cp, ce, mu, dv, pr, pc, od, cd, nc, ty, vl, pn, a1, a2, a3, a4, a5, a6, a7, a8, a9, a10, a11, a12, a13, a14, a15, a16, a17, a18, a19, a20, a21, a22, a23) p0 := by
  subst h0 hm
  unfold wpX_newField_5
  dsimp only
  refine ⟨vp_in_nI hn (by omega), nm_r (rc_ue (nI_clamp (by omega)) rfl) (nm_r (nI_add n l) ?_)⟩
  rw [← hr, nI_pred, hr]
  exact H
theorem rc_lay {cc lc lv cp ce mu dv pr pc od cd nc ty vl pn : Int32} {a1 a2 a3 a4 a5 a6 a7 a8 a9 a10 a11 a14 a19 a20 a21 a22 a23 : Nat → Int32} {sm pd lf rt rs qt tx ct sg ve zr on : Int32} {post : St2 → Prop} (H : post (cc, lc, lv, nI 153, nI 104, nI 116, nI 122, nI 128, nI 135, nI 141, nI 147, nI 148, nI 149, nI 150, nI 151, nI 152, cp, ce, mu, dv, pr, pc, od, cd, nc, ty, vl, pn, a1, a2, a3, a4, a5, a6, a7, a8, a9, a10, a11, upd (fun _ => 0) 152 1, rc_mk, a14, rc_a15, rc_a16, rc_a17, rc_a18, a19, a20, a21, a22, a23)) : wpX_layOut post (cc, lc, lv, nI 0, sm, pd, lf, rt, rs, qt, tx, ct, sg, ve, zr, on, cp, ce, mu, dv, pr, pc, od, cd, nc, ty, vl, pn, a1, a2, a3, a4, a5, a6, a7, a8, a9, a10, a11, (fun _ => 0), (fun _ => 0), a14, (fun _ => 0), (fun _ => 0), (fun _ => 0), (fun _ => 0), a19, a20, a21, a22, a23) := by
  unfold wpX_layOut
  dsimp only
  refine ⟨7, ?_⟩
  refine br_f (by decide) (rc_nf_5 (n := 0) (l := 6) (m := 6) (r := 5) (by decide) (by decide) (by decide) (by decide) ?_)
  dsimp only
  refine ⟨vp_in_nI (n := 0) (by decide) (by decide), nm_r (rc_ue (k' := 0) (v' := nI 5) (by decide +kernel) (by decide +kernel)) (nm_r (e' := nI 1) (by decide) ?_)⟩
  refine br_f (by decide) (rc_nf_5 (n := 6) (l := 6) (m := 12) (r := 11) (by decide) (by decide) (by decide) (by decide) ?_)
  dsimp only
  refine ⟨vp_in_nI (n := 1) (by decide) (by decide), nm_r (rc_ue (k' := 1) (v' := nI 11) (by decide +kernel) (by decide +kernel)) (nm_r (e' := nI 2) (by decide) ?_)⟩
  refine br_f (by decide) (rc_nf_5 (n := 12) (l := 6) (m := 18) (r := 17) (by decide) (by decide) (by decide) (by decide) ?_)
  dsimp only
  refine ⟨vp_in_nI (n := 2) (by decide) (by decide), nm_r (rc_ue (k' := 2) (v' := nI 17) (by decide +kernel) (by decide +kernel)) (nm_r (e' := nI 3) (by decide) ?_)⟩
  refine br_f (by decide) (rc_nf_5 (n := 18) (l := 6) (m := 24) (r := 23) (by decide) (by decide) (by decide) (by decide) ?_)
  dsimp only
  refine ⟨vp_in_nI (n := 3) (by decide) (by decide), nm_r (rc_ue (k' := 3) (v' := nI 23) (by decide +kernel) (by decide +kernel)) (nm_r (e' := nI 4) (by decide) ?_)⟩
  refine br_f (by decide) (rc_nf_5 (n := 24) (l := 6) (m := 30) (r := 29) (by decide) (by decide) (by decide) (by decide) ?_)
  dsimp only
  refine ⟨vp_in_nI (n := 4) (by decide) (by decide), nm_r (rc_ue (k' := 4) (v' := nI 29) (by decide +kernel) (by decide +kernel)) (nm_r (e' := nI 5) (by decide) ?_)⟩
  refine br_f (by decide) (rc_nf_5 (n := 30) (l := 6) (m := 36) (r := 35) (by decide) (by decide) (by decide) (by decide) ?_)
  dsimp only
  refine ⟨vp_in_nI (n := 5) (by decide) (by decide), nm_r (rc_ue (k' := 5) (v' := nI 35) (by decide +kernel) (by decide +kernel)) (nm_r (e' := nI 6) (by decide) ?_)⟩
  refine br_t (by decide) ⟨5, ?_⟩
  refine br_f (by decide) (br_f (by decide) ?_)
  refine (rc_nf_3 (n := 36) (l := 2) (m := 38) (r := 37) (by decide) (by decide) (by decide) (by decide) ?_)
  dsimp only
  refine ⟨vp_in_nI (n := 0) (by decide) (by decide), nm_r (rc_ue (k' := 0) (v' := nI 37) (by decide +kernel) (by decide +kernel)) (br_f (by decide) ?_)⟩
  refine (rc_nf_4 (n := 38) (l := 2) (m := 40) (r := 39) (by decide) (by decide) (by decide) (by decide) ?_)
  dsimp only
  refine ⟨vp_in_nI (n := 0) (by decide) (by decide), nm_r (rc_ue (k' := 0) (v' := nI 39) (by decide +kernel) (by decide +kernel)) (nm_r (e' := nI 1) (by decide) ?_)⟩
  refine br_f (by decide) (br_f (by decide) ?_)
  refine (rc_nf_3 (n := 40) (l := 2) (m := 42) (r := 41) (by decide) (by decide) (by decide) (by decide) ?_)
  dsimp only
  refine ⟨vp_in_nI (n := 1) (by decide) (by decide), nm_r (rc_ue (k' := 1) (v' := nI 41) (by decide +kernel) (by decide +kernel)) (br_f (by decide) ?_)⟩
  refine (rc_nf_4 (n := 42) (l := 2) (m := 44) (r := 43) (by decide) (by decide) (by decide) (by decide) ?_)
  dsimp only
  refine ⟨vp_in_nI (n := 1) (by decide) (by decide), nm_r (rc_ue (k' := 1) (v' := nI 43) (by decide +kernel) (by decide +kernel)) (nm_r (e' := nI 2) (by decide) ?_)⟩
  refine br_f (by decide) (br_t (by decide) ?_)
  refine (rc_nf_3 (n := 44) (l := 3) (m := 47) (r := 46) (by decide) (by decide) (by decide) (by decide) ?_)
  dsimp only
  refine ⟨vp_in_nI (n := 2) (by decide) (by decide), nm_r (rc_ue (k' := 2) (v' := nI 46) (by decide +kernel) (by decide +kernel)) (br_t (by decide) ?_)⟩
  refine (rc_nf_4 (n := 47) (l := 3) (m := 50) (r := 49) (by decide) (by decide) (by decide) (by decide) ?_)
  dsimp only
  refine ⟨vp_in_nI (n := 2) (by decide) (by decide), nm_r (rc_ue (k' := 2) (v' := nI 49) (by decide +kernel) (by decide +kernel)) (nm_r (e' := nI 3) (by decide) ?_)⟩
  refine br_f (by decide) (br_t (by decide) ?_)
  refine (rc_nf_3 (n := 50) (l := 3) (m := 53) (r := 52) (by decide) (by decide) (by decide) (by decide) ?_)
  dsimp only
  refine ⟨vp_in_nI (n := 3) (by decide) (by decide), nm_r (rc_ue (k' := 3) (v' := nI 52) (by decide +kernel) (by decide +kernel)) (br_t (by decide) ?_)⟩
  refine (rc_nf_4 (n := 53) (l := 3) (m := 56) (r := 55) (by decide) (by decide) (by decide) (by decide) ?_)
  dsimp only
  refine ⟨vp_in_nI (n := 3) (by decide) (by decide), nm_r (rc_ue (k' := 3) (v' := nI 55) (by decide +kernel) (by decide +kernel)) (nm_r (e' := nI 4) (by decide) ?_)⟩
  refine br_t (by decide) ⟨15, ?_⟩
  refine br_f (by decide) (rc_nf_2 (n := 56) (l := 3) (m := 59) (r := 58) (by decide) (by decide) (by decide) (by decide) ?_)
  dsimp only
  refine ⟨vp_in_nI (n := 0) (by decide) (by decide), nm_r (rc_ue (k' := 0) (v' := nI 58) (by decide +kernel) (by decide +kernel)) (nm_r (e' := nI 1) (by decide) ?_)⟩
  refine br_f (by decide) (rc_nf_2 (n := 59) (l := 3) (m := 62) (r := 61) (by decide) (by decide) (by decide) (by decide) ?_)
  dsimp only
  refine ⟨vp_in_nI (n := 1) (by decide) (by decide), nm_r (rc_ue (k' := 1) (v' := nI 61) (by decide +kernel) (by decide +kernel)) (nm_r (e' := nI 2) (by decide) ?_)⟩
  refine br_f (by decide) (rc_nf_2 (n := 62) (l := 3) (m := 65) (r := 64) (by decide) (by decide) (by decide) (by decide) ?_)
  dsimp only
  refine ⟨vp_in_nI (n := 2) (by decide) (by decide), nm_r (rc_ue (k' := 2) (v' := nI 64) (by decide +kernel) (by decide +kernel)) (nm_r (e' := nI 3) (by decide) ?_)⟩
  refine br_f (by decide) (rc_nf_2 (n := 65) (l := 3) (m := 68) (r := 67) (by decide) (by decide) (by decide) (by decide) ?_)
  dsimp only
  refine ⟨vp_in_nI (n := 3) (by decide) (by decide), nm_r (rc_ue (k' := 3) (v' := nI 67) (by decide +kernel) (by decide +kernel)) (nm_r (e' := nI 4) (by decide) ?_)⟩
  refine br_f (by decide) (rc_nf_2 (n := 68) (l := 3) (m := 71) (r := 70) (by decide) (by decide) (by decide) (by decide) ?_)
  dsimp only
  refine ⟨vp_in_nI (n := 4) (by decide) (by decide), nm_r (rc_ue (k' := 4) (v' := nI 70) (by decide +kernel) (by decide +kernel)) (nm_r (e' := nI 5) (by decide) ?_)⟩
  refine br_f (by decide) (rc_nf_2 (n := 71) (l := 3) (m := 74) (r := 73) (by decide) (by decide) (by decide) (by decide) ?_)
  dsimp only
  refine ⟨vp_in_nI (n := 5) (by decide) (by decide), nm_r (rc_ue (k' := 5) (v' := nI 73) (by decide +kernel) (by decide +kernel)) (nm_r (e' := nI 6) (by decide) ?_)⟩
  refine br_f (by decide) (rc_nf_2 (n := 74) (l := 3) (m := 77) (r := 76) (by decide) (by decide) (by decide) (by decide) ?_)
  dsimp only
  refine ⟨vp_in_nI (n := 6) (by decide) (by decide), nm_r (rc_ue (k' := 6) (v' := nI 76) (by decide +kernel) (by decide +kernel)) (nm_r (e' := nI 7) (by decide) ?_)⟩
  refine br_f (by decide) (rc_nf_2 (n := 77) (l := 3) (m := 80) (r := 79) (by decide) (by decide) (by decide) (by decide) ?_)
  dsimp only
  refine ⟨vp_in_nI (n := 7) (by decide) (by decide), nm_r (rc_ue (k' := 7) (v' := nI 79) (by decide +kernel) (by decide +kernel)) (nm_r (e' := nI 8) (by decide) ?_)⟩
  refine br_f (by decide) (rc_nf_2 (n := 80) (l := 3) (m := 83) (r := 82) (by decide) (by decide) (by decide) (by decide) ?_)
  dsimp only
  refine ⟨vp_in_nI (n := 8) (by decide) (by decide), nm_r (rc_ue (k' := 8) (v' := nI 82) (by decide +kernel) (by decide +kernel)) (nm_r (e' := nI 9) (by decide) ?_)⟩
  refine br_f (by decide) (rc_nf_2 (n := 83) (l := 3) (m := 86) (r := 85) (by decide) (by decide) (by decide) (by decide) ?_)
  dsimp only
  refine ⟨vp_in_nI (n := 9) (by decide) (by decide), nm_r (rc_ue (k' := 9) (v' := nI 85) (by decide +kernel) (by decide +kernel)) (nm_r (e' := nI 10) (by decide) ?_)⟩
  refine br_f (by decide) (rc_nf_2 (n := 86) (l := 3) (m := 89) (r := 88) (by decide) (by decide) (by decide) (by decide) ?_)
  dsimp only
  refine ⟨vp_in_nI (n := 10) (by decide) (by decide), nm_r (rc_ue (k' := 10) (v' := nI 88) (by decide +kernel) (by decide +kernel)) (nm_r (e' := nI 11) (by decide) ?_)⟩
  refine br_f (by decide) (rc_nf_2 (n := 89) (l := 3) (m := 92) (r := 91) (by decide) (by decide) (by decide) (by decide) ?_)
  dsimp only
  refine ⟨vp_in_nI (n := 11) (by decide) (by decide), nm_r (rc_ue (k' := 11) (v' := nI 91) (by decide +kernel) (by decide +kernel)) (nm_r (e' := nI 12) (by decide) ?_)⟩
  refine br_f (by decide) (rc_nf_2 (n := 92) (l := 3) (m := 95) (r := 94) (by decide) (by decide) (by decide) (by decide) ?_)
  dsimp only
  refine ⟨vp_in_nI (n := 12) (by decide) (by decide), nm_r (rc_ue (k' := 12) (v' := nI 94) (by decide +kernel) (by decide +kernel)) (nm_r (e' := nI 13) (by decide) ?_)⟩
  refine br_f (by decide) (rc_nf_2 (n := 95) (l := 3) (m := 98) (r := 97) (by decide) (by decide) (by decide) (by decide) ?_)
  dsimp only
  refine ⟨vp_in_nI (n := 13) (by decide) (by decide), nm_r (rc_ue (k' := 13) (v' := nI 97) (by decide +kernel) (by decide +kernel)) (nm_r (e' := nI 14) (by decide) ?_)⟩
  refine br_t (by decide) ?_
  refine (rc_nf (n := 98) (l := 7) (m := 105) (r := 104) (by decide) (by decide) (by decide) (by decide) ?_)
  dsimp only
  refine (rc_nf (n := 105) (l := 12) (m := 117) (r := 116) (by decide) (by decide) (by decide) (by decide) ?_)
  dsimp only
  refine (rc_nf (n := 117) (l := 6) (m := 123) (r := 122) (by decide) (by decide) (by decide) (by decide) ?_)
  dsimp only
  refine (rc_nf (n := 123) (l := 6) (m := 129) (r := 128) (by decide) (by decide) (by decide) (by decide) ?_)
  dsimp only
  refine (rc_nf (n := 129) (l := 7) (m := 136) (r := 135) (by decide) (by decide) (by decide) (by decide) ?_)
  dsimp only
  refine (rc_nf (n := 136) (l := 6) (m := 142) (r := 141) (by decide) (by decide) (by decide) (by decide) ?_)
  dsimp only
  refine (rc_nf (n := 142) (l := 6) (m := 148) (r := 147) (by decide) (by decide) (by decide) (by decide) ?_)
  dsimp only
  refine (rc_nf (n := 148) (l := 1) (m := 149) (r := 148) (by decide) (by decide) (by decide) (by decide) ?_)
  dsimp only
  refine (rc_nf (n := 149) (l := 1) (m := 150) (r := 149) (by decide) (by decide) (by decide) (by decide) ?_)
  dsimp only
  refine (rc_nf (n := 150) (l := 1) (m := 151) (r := 150) (by decide) (by decide) (by decide) (by decide) ?_)
  dsimp only
  refine (rc_nf (n := 151) (l := 1) (m := 152) (r := 151) (by decide) (by decide) (by decide) (by decide) ?_)
  dsimp only
  refine (rc_nf (n := 152) (l := 1) (m := 153) (r := 152) (by decide) (by decide) (by decide) (by decide) ?_)
  dsimp only
  refine ⟨vp_in_nI (n := 152) (by decide) (by decide), nm_r (rc_ue (k' := 152) (v' := 1) (by decide +kernel) rfl) ?_⟩
  exact H
/-- the picture that the constructor leaves: one holds 1 -/
def rc_Z0 : Nat → Int := fun j => if j = 152 then 1 else 0
theorem rc_dm0 : upd (fun _ => 0) 152 1 = rc_dm rc_Z0 := by
  have e0 : (fun _ => 0 : Nat → Int32) = rc_dm (fun _ => 0) := by
    funext j
    show 0 = nI (rc_dg (0 : Int).natAbs (rc_fe j - j))
    rw [Int.natAbs_zero, rc_dg_zero]
    rfl
  rw [e0]
  exact rc_one (Z := fun _ => 0) (z := 1) (d := 1) rc_f152 rfl (by decide)
theorem rc_sm0 : (fun _ => 0 : Nat → Int32) = rc_sm rc_Z0 := by
  funext j
  show 0 = if (if j = 152 then (1 : Int) else 0) < 0 then (1 : Int32) else 0
  by_cases q : j = 152
  · rw [if_pos q]
    rfl
  · rw [if_neg q]
    rfl
theorem rc_init {post : St2 → Prop} (H : post (0, 0, 1, nI 153, nI 104, nI 116, nI 122, nI 128, nI 135, nI 141, nI 147, nI 148, nI 149, nI 150, nI 151, nI 152, 0, 0, 0, 0, 0, 0, 0, 0, 0, 0, 0, 0, (fun _ => 0), (fun _ => 0), (fun _ => 0), (fun _ => 0), (fun _ => 0), (fun _ => 0), (fun _ => 0), (fun _ => 0), (fun _ => 0), (fun _ => 0), (fun _ => 0), rc_dm rc_Z0, rc_mk, rc_sm rc_Z0, rc_a15, rc_a16, rc_a17, rc_a18, (fun _ => 0), (fun _ => 0), (fun _ => 0), (fun _ => 0), (fun _ => 0))) : wpX_init post 23 1422 (0, 0, 0, 0, 0, 0, 0, 0, 0, 0, 0, 0, 0, 0, 0, 0, 0, 0, 0, 0, 0, 0, 0, 0, 0, 0, 0, 0) := by
  unfold wpX_init
  dsimp only
  refine ⟨by decide, by decide, by decide, by decide, by decide, by decide, by decide, by decide, by decide, by decide, by decide, by decide, by decide, by decide, by decide, by decide, by decide, by decide, by decide, by decide, by decide, by decide, by decide, by decide, by decide, by decide, by decide, by decide, by decide, by decide, by decide, by decide, by decide, by decide, by decide, by decide, by decide, by decide, by decide, by decide, by decide, by decide, by decide, by decide, by decide, by decide, ?_⟩
  refine rc_lay ?_
  dsimp only
  rw [rc_dm0]
  have e := rc_sm0
  exact e ▸ H
end
section
theorem rc_amt {cc lc lv me sm pd lf rt rs qt tx ct sg ve zr on cp ce mu dv pr pc od cd nc ty vl pn : Int32} {a1 a2 a3 a4 a5 a6 a7 a8 a9 a10 a11 a12 a13 a14 a15 a16 a17 a18 a19 a20 a21 a22 a23 : Nat → Int32} {post : Int32 → Prop} {x : Int} {p0 : Int32} (h0 : p0 = rc_iI x) (hx : x.natAbs < 1000) (H : post 1) : wpX_isAmount post (cc, lc, lv, me, sm, pd, lf, rt, rs, qt, tx, ct, sg, ve, zr, on, cp, ce, mu, dv, pr, pc, od, cd, nc, ty, vl, pn, a1, a2, a3, a4, a5, a6, a7, a8, a9, a10, a11, a12, a13, a14, a15, a16, a17, a18, a19, a20, a21, a22, a23) p0 := by
  subst h0
  have t := rc_iI_toInt (z := x) (by omega)
  unfold wpX_isAmount
  dsimp only
  refine br_f ?_ (br_f ?_ H)
  · rw [Int32.lt_iff_toInt_lt, t, show (-999 : Int32).toInt = -999 from by decide]
    omega
  · rw [Int32.lt_iff_toInt_lt, t, show (999 : Int32).toInt = 999 from by decide]
    omega
theorem rc_nsm : ∀ q, q < 1000 → (-nI q).toInt16.toInt32 = -nI q := by decide +kernel
theorem rc_nsi {x : Int} (hx : x.natAbs < 1000) : (rc_iI x).toInt16.toInt32 = rc_iI x := by
  unfold rc_iI
  by_cases q : x < 0
  · rw [if_pos q]
    exact rc_nsm _ hx
  · rw [if_neg q]
    exact rc_ns _ hx
theorem rc_card {lc lv me sm pd lf rt rs qt tx ct sg ve zr on cp ce mu dv pr pc od cd nc ty vl pn : Int32} {a1 a2 a3 a4 a5 a6 a7 a8 a9 a10 a11 a12 a13 a14 a15 a16 a17 a18 a19 a20 a21 a22 a23 : Nat → Int32} {post : Int32 → St2 → Prop} {x y : Int} {p2 p3 : Int32} (h2 : p2 = rc_iI x) (h3 : p3 = rc_iI y) (hx : x.natAbs < 1000) (hy : y.natAbs < 1000)
    (H : post 1 (nI 1, lc, lv, me, sm, pd, lf, rt, rs, qt, tx, ct, sg, ve, zr, on, cp, ce, mu, dv, pr, pc, od, cd, nc, ty, vl, pn, upd a1 0 (nI 7), upd a2 0 (nI 7), upd a3 0 (rc_iI x), upd a4 0 (rc_iI y), a5, a6, a7, a8, a9, a10, a11, a12, a13, a14, a15, a16, a17, a18, a19, a20, a21, a22, a23)) : wpX_card post (0, lc, lv, me, sm, pd, lf, rt, rs, qt, tx, ct, sg, ve, zr, on, cp, ce, mu, dv, pr, pc, od, cd, nc, ty, vl, pn, a1, a2, a3, a4, a5, a6, a7, a8, a9, a10, a11, a12, a13, a14, a15, a16, a17, a18, a19, a20, a21, a22, a23) 7 7 p2 p3 := by
  unfold wpX_card
  dsimp only
  refine br_t (by decide) (br_f (by decide) (br_f (by decide) (br_f (by decide) (br_f (by decide) (rc_amt h2 hx (br_f (by decide) (rc_amt h3 hy (br_f (by decide) ?_))))))))
  exact ⟨vp_in_nI (n := 0) (by decide) (by decide), nm_r (rc_ue (k' := 0) (v' := nI 7) (by decide) (by decide)) ⟨vp_in_nI (n := 0) (by decide) (by decide), nm_r (rc_ue (k' := 0) (v' := nI 7) (by decide) (by decide)) ⟨vp_in_nI (n := 0) (by decide) (by decide), nm_r (rc_ue (k' := 0) (v' := rc_iI x) (by decide) (by rw [h2]; exact rc_nsi hx)) ⟨vp_in_nI (n := 0) (by decide) (by decide), nm_r (rc_ue (k' := 0) (v' := rc_iI y) (by decide) (by rw [h3]; exact rc_nsi hy)) (nm_r (e' := nI 1) (by decide) H)⟩⟩⟩⟩
theorem rc_line {cc lv me sm pd lf rt rs qt tx ct sg ve zr on cp ce mu dv pr pc od cd nc ty vl pn : Int32} {a1 a2 a3 a4 a5 a6 a7 a8 a9 a10 a11 a12 a13 a14 a15 a16 a17 a18 a19 a20 a21 a22 a23 : Nat → Int32} {post : Int32 → St2 → Prop} {i wh o w : Nat} {p0 p2 p3 : Int32} (h0 : p0 = nI wh) (h2 : p2 = nI o) (h3 : p3 = nI w) (hi : i < 14) (hwh : wh ≤ 3) (ho : o ≤ 9) (ho6 : o ≠ 6) (ho7 : o ≠ 7) (hw : w ≤ 5)
    (H : post (nI (i + 1)) (cc, nI (i + 1), lv, me, sm, pd, lf, rt, rs, qt, tx, ct, sg, ve, zr, on, 0, ce, mu, dv, pr, pc, od, cd, nc, ty, vl, pn, a1, a2, a3, a4, upd a5 i (nI wh), upd a6 i (nI 0), upd a7 i (nI o), upd a8 i (nI w), upd a9 i (nI 0), upd a10 i (nI 0), upd a11 i (nI 0), a12, a13, a14, a15, a16, a17, a18, a19, a20, a21, a22, a23)) : wpX_line post (cc, nI i, lv, me, sm, pd, lf, rt, rs, qt, tx, ct, sg, ve, zr, on, cp, ce, mu, dv, pr, pc, od, cd, nc, ty, vl, pn, a1, a2, a3, a4, a5, a6, a7, a8, a9, a10, a11, a12, a13, a14, a15, a16, a17, a18, a19, a20, a21, a22, a23) p0 0 p2 p3 := by
  subst h0 h2 h3
  unfold wpX_line
  dsimp only
  refine pk_lt i 14 (fun _ => pk_lt wh 0 (fun z => absurd z (by omega)) (fun _ => pk_lt 3 wh (fun z => absurd z (by omega)) (fun _ => br_f (by decide) (br_f (by decide) (pk_lt o 0 (fun z => absurd z (by omega)) (fun _ => pk_le o 9 (fun _ => pk_eq o 6 (fun z => absurd z ho6) (fun _ => pk_eq o 7 (fun z => absurd z ho7) (fun _ => ?_))) (fun z => absurd z (by omega)))))))) (fun z => absurd z (by omega))
  unfold wX_line_61
  refine pk_lt w 0 (fun z => absurd z (by omega)) (fun _ => pk_le w 5 (fun _ => ?_) (fun z => absurd z (by omega)))
  exact ⟨vp_in_nI hi (by decide), nm_r (rc_ue (nI_clamp (by omega)) (rc_nb _ (by omega))) ⟨vp_in_nI hi (by decide), nm_r (rc_ue (v' := nI 0) (nI_clamp (by omega)) (by decide)) ⟨vp_in_nI hi (by decide), nm_r (rc_ue (nI_clamp (by omega)) (rc_nb _ (by omega))) ⟨vp_in_nI hi (by decide), nm_r (rc_ue (nI_clamp (by omega)) (rc_nb _ (by omega))) ⟨vp_in_nI hi (by decide), nm_r (rc_ue (v' := nI 0) (nI_clamp (by omega)) (by decide)) ⟨vp_in_nI hi (by decide), nm_r (rc_ue (v' := nI 0) (nI_clamp (by omega)) (by decide)) ⟨vp_in_nI hi (by decide), nm_r (rc_ue (v' := nI 0) (nI_clamp (by omega)) (by decide)) (nm_r (nI_1 i) H)⟩⟩⟩⟩⟩⟩⟩
theorem rc_opd {cc lv me sm pd lf rt rs qt tx ct sg ve zr on cp ce mu dv pr pc od cd nc ty vl pn : Int32} {a1 a2 a3 a4 a5 a6 a7 a8 a9 a10 a11 a12 a13 a14 a15 a16 a17 a18 a19 a20 a21 a22 a23 : Nat → Int32} {post : Int32 → St2 → Prop} {i n x y : Nat} {p0 p1 p2 : Int32} (h0 : p0 = nI i) (h1 : p1 = nI x) (h2 : p2 = nI y) (hi : i < n) (hn : n ≤ 14) (hx : x ≤ 10) (hy : y ≤ 10)
    (H : post 1 (cc, nI n, lv, me, sm, pd, lf, rt, rs, qt, tx, ct, sg, ve, zr, on, 0, ce, mu, dv, pr, pc, od, cd, nc, ty, vl, pn, a1, a2, a3, a4, a5, a6, a7, a8, upd a9 i (nI x), upd a10 i (nI y), upd a11 i (nI 0), a12, a13, a14, a15, a16, a17, a18, a19, a20, a21, a22, a23)) : wpX_operands post (cc, nI n, lv, me, sm, pd, lf, rt, rs, qt, tx, ct, sg, ve, zr, on, cp, ce, mu, dv, pr, pc, od, cd, nc, ty, vl, pn, a1, a2, a3, a4, a5, a6, a7, a8, a9, a10, a11, a12, a13, a14, a15, a16, a17, a18, a19, a20, a21, a22, a23) p0 p1 p2 0 := by
  subst h0 h1 h2
  unfold wpX_operands
  dsimp only
  refine pk_lt i 0 (fun z => absurd z (by omega)) (fun _ => pk_le n i (fun z => absurd z (by omega)) (fun _ => pk_lt x 0 (fun z => absurd z (by omega)) (fun _ => pk_lt 10 x (fun z => absurd z (by omega)) (fun _ => pk_lt y 0 (fun z => absurd z (by omega)) (fun _ => pk_lt 10 y (fun z => absurd z (by omega)) (fun _ => rc_amt (x := 0) (by decide) (by decide) (br_f (by decide) ?_)))))))
  exact ⟨vp_in_nI (by omega) (by decide), nm_r (rc_ue (nI_clamp (by omega)) (rc_nb _ (by omega))) ⟨vp_in_nI (by omega) (by decide), nm_r (rc_ue (nI_clamp (by omega)) (rc_nb _ (by omega))) ⟨vp_in_nI (by omega) (by decide), nm_r (rc_ue (v' := nI 0) (nI_clamp (by omega)) (by decide)) H⟩⟩⟩
/-- a field that is nought is set to nought -/
theorem rc_set0 {cc lc lv me sm pd lf rt rs qt tx ct sg ve zr on cp ce mu dv pr pc od cd nc ty vl pn : Int32} {a1 a2 a3 a4 a5 a6 a7 a8 a9 a10 a11 a15 a16 a17 a18 a19 a20 a21 a22 a23 : Nat → Int32} {post : St2 → Prop} {Z : Nat → Int} {e l : Nat} {p0 p1 : Int32} (hf : rc_isF e l) (hz : Z e = 0) (h0 : p0 = nI e) (h1 : p1 = 0)
    (H : post (cc, lc, lv, me, sm, pd, lf, rt, rs, qt, tx, ct, sg, ve, zr, on, cp, ce, mu, dv, pr, pc, od, cd, nc, ty, vl, pn, a1, a2, a3, a4, a5, a6, a7, a8, a9, a10, a11, rc_dm Z, rc_mk, rc_sm Z, a15, a16, a17, a18, a19, a20, a21, a22, a23)) : wpX_setField post (cc, lc, lv, me, sm, pd, lf, rt, rs, qt, tx, ct, sg, ve, zr, on, cp, ce, mu, dv, pr, pc, od, cd, nc, ty, vl, pn, a1, a2, a3, a4, a5, a6, a7, a8, a9, a10, a11, rc_dm Z, rc_mk, rc_sm Z, a15, a16, a17, a18, a19, a20, a21, a22, a23) p0 p1 := by
  refine rc_set (z := 0) hf (by rw [Int.natAbs_zero]; exact rc_pow l) (by decide) h0 (by rw [h1]; decide) ?_
  rw [rc_zs_id Z hz]
  exact H
/-- run, up to the machine's loop -/
theorem rc_run13 {cc lv cp ce mu dv pr pc od cd nc ty vl pn : Int32} {a1 a2 a3 a4 a5 a6 a7 a8 a9 a10 a17 a19 a20 a21 a23 : Nat → Int32} {post : Int32 → St2 → Prop} (H : rc_Rn post (cc, nI 2, lv, nI 153, nI 104, nI 116, nI 122, nI 128, nI 135, nI 141, nI 147, nI 148, nI 149, nI 150, nI 151, nI 152, cp, ce, mu, dv, pr, 0, od, 0, 0, 0, 0, 0, a1, a2, a3, a4, a5, a6, a7, a8, a9, a10, rc_q11, rc_dm rc_Z0, rc_mk, rc_sm rc_Z0, rc_a15, rc_a16, a17, rc_a18, a19, a20, a21, upd (upd (upd (upd (fun _ => 0) 0 0) 1 0) 2 0) 3 0, a23)) :
    ∃ n, wX_run_13 post n 0 cc (nI 2) lv (nI 153) (nI 104) (nI 116) (nI 122) (nI 128) (nI 135) (nI 141) (nI 147) (nI 148) (nI 149) (nI 150) (nI 151) (nI 152) cp ce mu dv pr pc od cd nc ty vl pn a1 a2 a3 a4 a5 a6 a7 a8 a9 a10 rc_q11 (rc_dm rc_Z0) rc_mk (rc_sm rc_Z0) rc_a15 rc_a16 a17 rc_a18 a19 a20 a21 ((fun _ => 0)) a23 := by
  refine ⟨7, ?_⟩
  refine br_f (by decide) ⟨vp_in_nI (n := 0) (by decide) (by decide), rc_set0 rc_f5 rfl (by decide +kernel) rfl ?_⟩
  dsimp only
  refine nm_r (e' := nI 1) (by decide) ?_
  refine br_f (by decide) ⟨vp_in_nI (n := 1) (by decide) (by decide), rc_set0 rc_f11 rfl (by decide +kernel) rfl ?_⟩
  dsimp only
  refine nm_r (e' := nI 2) (by decide) ?_
  refine br_f (by decide) ⟨vp_in_nI (n := 2) (by decide) (by decide), rc_set0 rc_f17 rfl (by decide +kernel) rfl ?_⟩
  dsimp only
  refine nm_r (e' := nI 3) (by decide) ?_
  refine br_f (by decide) ⟨vp_in_nI (n := 3) (by decide) (by decide), rc_set0 rc_f23 rfl (by decide +kernel) rfl ?_⟩
  dsimp only
  refine nm_r (e' := nI 4) (by decide) ?_
  refine br_f (by decide) ⟨vp_in_nI (n := 4) (by decide) (by decide), rc_set0 rc_f29 rfl (by decide +kernel) rfl ?_⟩
  dsimp only
  refine nm_r (e' := nI 5) (by decide) ?_
  refine br_f (by decide) ⟨vp_in_nI (n := 5) (by decide) (by decide), rc_set0 rc_f35 rfl (by decide +kernel) rfl ?_⟩
  dsimp only
  refine nm_r (e' := nI 6) (by decide) ?_
  refine br_t (by decide) ⟨5, ?_⟩
  refine br_f (by decide) ⟨vp_in_nI (n := 0) (by decide) (by decide), rc_set0 rc_f37 rfl (by decide +kernel) rfl ?_⟩
  dsimp only
  refine ⟨vp_in_nI (n := 0) (by decide) (by decide), nm_r (rc_ue (k' := 0) (v' := 0) (by decide) rfl) (nm_r (e' := nI 1) (by decide) ?_)⟩
  refine br_f (by decide) ⟨vp_in_nI (n := 1) (by decide) (by decide), rc_set0 rc_f41 rfl (by decide +kernel) rfl ?_⟩
  dsimp only
  refine ⟨vp_in_nI (n := 1) (by decide) (by decide), nm_r (rc_ue (k' := 1) (v' := 0) (by decide) rfl) (nm_r (e' := nI 2) (by decide) ?_)⟩
  refine br_f (by decide) ⟨vp_in_nI (n := 2) (by decide) (by decide), rc_set0 rc_f46 rfl (by decide +kernel) rfl ?_⟩
  dsimp only
  refine ⟨vp_in_nI (n := 2) (by decide) (by decide), nm_r (rc_ue (k' := 2) (v' := 0) (by decide) rfl) (nm_r (e' := nI 3) (by decide) ?_)⟩
  refine br_f (by decide) ⟨vp_in_nI (n := 3) (by decide) (by decide), rc_set0 rc_f52 rfl (by decide +kernel) rfl ?_⟩
  dsimp only
  refine ⟨vp_in_nI (n := 3) (by decide) (by decide), nm_r (rc_ue (k' := 3) (v' := 0) (by decide) rfl) (nm_r (e' := nI 4) (by decide) ?_)⟩
  refine br_t (by decide) ⟨3, ?_⟩
  refine br_f (by decide) ⟨vp_in_nI (n := 0) (by decide) (by decide), vp_in_nI (n := 0) (by decide) (by decide), rc_set0 rc_f58 rfl (by decide +kernel) (by decide +kernel) ?_⟩
  dsimp only
  refine nm_r (e' := nI 1) (by decide) ?_
  refine br_f (by decide) ⟨vp_in_nI (n := 1) (by decide) (by decide), vp_in_nI (n := 1) (by decide) (by decide), rc_set0 rc_f61 rfl (by decide +kernel) (by decide +kernel) ?_⟩
  dsimp only
  refine nm_r (e' := nI 2) (by decide) ?_
  refine br_t (by decide) ⟨vp_in_nI (n := 150) (by decide) (by decide), nm_r (e' := rc_dm rc_Z0) ?_ H⟩
  have t := rc_one (Z := rc_Z0) (z := 0) (d := 0) rc_f150 rfl (by decide)
  rw [rc_zs_id rc_Z0 (e := 150) (z := 0) rfl] at t
  rw [nI_clamp (by decide)]
  exact t
end
section
def rc_h (e : Nat) : Nat → Int32 := fun i => nI (([1, 2, 1, 153, 104, 116, 122, 128, 135, 141, 147, 148, 149, 150, 151, 152, 1, e, 1, 46, 114] : List Nat).getD i 0)
def rc_g (x y : Int) (o : Nat) (C G : Nat → Int32) : Nat → Nat → Int32 := fun i => ([(fun _ => 0), upd (fun _ => 0) 0 (nI 7), upd (fun _ => 0) 0 (nI 7), upd (fun _ => 0) 0 (rc_iI x), upd (fun _ => 0) 0 (rc_iI y), rc_q5, rc_q6, rc_q7 o, rc_q8, rc_q9, rc_q10, rc_q11, (fun _ => 0), (fun _ => 0), (fun _ => 0), rc_a15, rc_a16, rc_a17, rc_a18, C, G] : List (Nat → Int32)).getD i (fun _ => 0)
/-- what a run shows -/
def rc_shows (post : Int32 → St2 → Prop) (h : Nat → Int32) (g : Nat → Nat → Int32) (due : Int) (f : Prop) : Prop :=
  ∀ pc od cd nc m Z' a21' a22' a23', Z' 29 = due → (¬ a22' 3 = 0 ↔ f) → 2 ≤ m → m ≤ 80 → (a23' 0 = 45 ↔ due < 0) → post (nI 2) (rc_st h g pc od cd nc (nI 2) 1 (nI m) Z' a21' a22' a23')
theorem rc_pC0 : ∀ i, i < 135 → (rc_ups rc_B0 rc_y0) (i + 1) = nI (rc_preT.getD i 0) := by decide +kernel
theorem rc_cC0 : rc_cyc (fun _ => (rc_ups rc_B0 rc_y0)) 139 := by unfold rc_cyc; decide +kernel
theorem rc_run0 {x y : Int} (hx : x.natAbs < 1000) (hy : y.natAbs < 1000) {post : Int32 → St2 → Prop} (H : rc_shows post (rc_h 167) (rc_g x y 0 (rc_ups rc_B0 rc_y0) rc_G0) x False) : wpX_run post (nI 1, nI 2, 1, nI 153, nI 104, nI 116, nI 122, nI 128, nI 135, nI 141, nI 147, nI 148, nI 149, nI 150, nI 151, nI 152, 0, 0, 0, 0, 0, 0, 0, 0, 0, 0, 0, 0, upd (fun _ => 0) 0 (nI 7), upd (fun _ => 0) 0 (nI 7), upd (fun _ => 0) 0 (rc_iI x), upd (fun _ => 0) 0 (rc_iI y), rc_q5, rc_q6, rc_q7 0, rc_q8, rc_q9, rc_q10, rc_q11, rc_dm rc_Z0, rc_mk, rc_sm rc_Z0, rc_a15, rc_a16, rc_a17, rc_a18, (fun _ => 0), (fun _ => 0), (fun _ => 0), (fun _ => 0), (fun _ => 0)) := by
  unfold wpX_run
  dsimp only
  refine br_t rfl (rc_cmp0 ?_)
  dsimp only
  refine rc_run13 ?_
  exact rm_main (h := rc_h 167) (g := rc_g x y 0 (rc_ups rc_B0 rc_y0) rc_G0) (q := 139) (x := x) (y := y) (due := x) (f := False) rc_pC0 rc_cC0 (by decide) (rm_g0 hx (show (rc_ups rc_B0 rc_y0) 136 = _ by decide +kernel) (show (rc_ups rc_B0 rc_y0) 137 = _ by decide +kernel) (show (rc_ups rc_B0 rc_y0) 138 = _ by decide +kernel)) (by omega) rfl rfl rfl rfl rfl rfl rfl rfl rfl hx hy rfl rfl rfl rfl rfl rfl rfl H
theorem rc_pC1 : ∀ i, i < 135 → (rc_ups rc_B1 rc_y1) (i + 1) = nI (rc_preT.getD i 0) := by decide +kernel
theorem rc_cC1 : rc_cyc (fun _ => (rc_ups rc_B1 rc_y1)) 140 := by unfold rc_cyc; decide +kernel
theorem rc_run1 {x y : Int} (hx : x.natAbs < 1000) (hy : y.natAbs < 1000) {post : Int32 → St2 → Prop} (H : rc_shows post (rc_h 168) (rc_g x y 1 (rc_ups rc_B1 rc_y1) rc_G1) (x + y) False) : wpX_run post (nI 1, nI 2, 1, nI 153, nI 104, nI 116, nI 122, nI 128, nI 135, nI 141, nI 147, nI 148, nI 149, nI 150, nI 151, nI 152, 0, 0, 0, 0, 0, 0, 0, 0, 0, 0, 0, 0, upd (fun _ => 0) 0 (nI 7), upd (fun _ => 0) 0 (nI 7), upd (fun _ => 0) 0 (rc_iI x), upd (fun _ => 0) 0 (rc_iI y), rc_q5, rc_q6, rc_q7 1, rc_q8, rc_q9, rc_q10, rc_q11, rc_dm rc_Z0, rc_mk, rc_sm rc_Z0, rc_a15, rc_a16, rc_a17, rc_a18, (fun _ => 0), (fun _ => 0), (fun _ => 0), (fun _ => 0), (fun _ => 0)) := by
  unfold wpX_run
  dsimp only
  refine br_t rfl (rc_cmp1 ?_)
  dsimp only
  refine rc_run13 ?_
  exact rm_main (h := rc_h 168) (g := rc_g x y 1 (rc_ups rc_B1 rc_y1) rc_G1) (q := 140) (x := x) (y := y) (due := (x + y)) (f := False) rc_pC1 rc_cC1 (by decide) (rm_g1 hx hy (show (rc_ups rc_B1 rc_y1) 136 = _ by decide +kernel) (show (rc_ups rc_B1 rc_y1) 137 = _ by decide +kernel) (show (rc_ups rc_B1 rc_y1) 138 = _ by decide +kernel) (show (rc_ups rc_B1 rc_y1) 139 = _ by decide +kernel)) (by omega) rfl rfl rfl rfl rfl rfl rfl rfl rfl hx hy rfl rfl rfl rfl rfl rfl rfl H
theorem rc_pC2 : ∀ i, i < 135 → (rc_ups rc_B2 rc_y2) (i + 1) = nI (rc_preT.getD i 0) := by decide +kernel
theorem rc_cC2 : rc_cyc (fun _ => (rc_ups rc_B2 rc_y2)) 140 := by unfold rc_cyc; decide +kernel
theorem rc_run2 {x y : Int} (hx : x.natAbs < 1000) (hy : y.natAbs < 1000) {post : Int32 → St2 → Prop} (H : rc_shows post (rc_h 168) (rc_g x y 2 (rc_ups rc_B2 rc_y2) rc_G2) (x - y) False) : wpX_run post (nI 1, nI 2, 1, nI 153, nI 104, nI 116, nI 122, nI 128, nI 135, nI 141, nI 147, nI 148, nI 149, nI 150, nI 151, nI 152, 0, 0, 0, 0, 0, 0, 0, 0, 0, 0, 0, 0, upd (fun _ => 0) 0 (nI 7), upd (fun _ => 0) 0 (nI 7), upd (fun _ => 0) 0 (rc_iI x), upd (fun _ => 0) 0 (rc_iI y), rc_q5, rc_q6, rc_q7 2, rc_q8, rc_q9, rc_q10, rc_q11, rc_dm rc_Z0, rc_mk, rc_sm rc_Z0, rc_a15, rc_a16, rc_a17, rc_a18, (fun _ => 0), (fun _ => 0), (fun _ => 0), (fun _ => 0), (fun _ => 0)) := by
  unfold wpX_run
  dsimp only
  refine br_t rfl (rc_cmp2 ?_)
  dsimp only
  refine rc_run13 ?_
  exact rm_main (h := rc_h 168) (g := rc_g x y 2 (rc_ups rc_B2 rc_y2) rc_G2) (q := 140) (x := x) (y := y) (due := (x - y)) (f := False) rc_pC2 rc_cC2 (by decide) (rm_g2 hx hy (show (rc_ups rc_B2 rc_y2) 136 = _ by decide +kernel) (show (rc_ups rc_B2 rc_y2) 137 = _ by decide +kernel) (show (rc_ups rc_B2 rc_y2) 138 = _ by decide +kernel) (show (rc_ups rc_B2 rc_y2) 139 = _ by decide +kernel)) (by omega) rfl rfl rfl rfl rfl rfl rfl rfl rfl hx hy rfl rfl rfl rfl rfl rfl rfl H
theorem rc_pC3 : ∀ i, i < 135 → (rc_ups rc_B3 rc_y3) (i + 1) = nI (rc_preT.getD i 0) := by decide +kernel
theorem rc_cC3 : rc_cyc (fun _ => (rc_ups rc_B3 rc_y3)) 142 := by unfold rc_cyc; decide +kernel
theorem rc_run3 {x y : Int} (hx : x.natAbs < 1000) (hy : y.natAbs < 1000) {post : Int32 → St2 → Prop} (H : rc_shows post (rc_h 170) (rc_g x y 3 (rc_ups rc_B3 rc_y3) rc_G3) (x * y) False) : wpX_run post (nI 1, nI 2, 1, nI 153, nI 104, nI 116, nI 122, nI 128, nI 135, nI 141, nI 147, nI 148, nI 149, nI 150, nI 151, nI 152, 0, 0, 0, 0, 0, 0, 0, 0, 0, 0, 0, 0, upd (fun _ => 0) 0 (nI 7), upd (fun _ => 0) 0 (nI 7), upd (fun _ => 0) 0 (rc_iI x), upd (fun _ => 0) 0 (rc_iI y), rc_q5, rc_q6, rc_q7 3, rc_q8, rc_q9, rc_q10, rc_q11, rc_dm rc_Z0, rc_mk, rc_sm rc_Z0, rc_a15, rc_a16, rc_a17, rc_a18, (fun _ => 0), (fun _ => 0), (fun _ => 0), (fun _ => 0), (fun _ => 0)) := by
  unfold wpX_run
  dsimp only
  refine br_t rfl (rc_cmp3 ?_)
  dsimp only
  refine rc_run13 ?_
  exact rm_main (h := rc_h 170) (g := rc_g x y 3 (rc_ups rc_B3 rc_y3) rc_G3) (q := 142) (x := x) (y := y) (due := (x * y)) (f := False) rc_pC3 rc_cC3 (by decide) (rm_g3 rc_pC3 hx hy (show (rc_ups rc_B3 rc_y3) 136 = _ by decide +kernel) (show (rc_ups rc_B3 rc_y3) 137 = _ by decide +kernel) (show (rc_ups rc_B3 rc_y3) 138 = _ by decide +kernel) (show (rc_ups rc_B3 rc_y3) 139 = _ by decide +kernel) (show (rc_ups rc_B3 rc_y3) 140 = _ by decide +kernel) (show (rc_ups rc_B3 rc_y3) 141 = _ by decide +kernel)) (rc_prodb hx hy) rfl rfl rfl rfl rfl rfl rfl rfl rfl hx hy rfl rfl rfl rfl rfl rfl rfl H
theorem rc_pC4 : ∀ i, i < 135 → (rc_ups rc_B4 rc_y4) (i + 1) = nI (rc_preT.getD i 0) := by decide +kernel
theorem rc_cC4 : rc_cyc (fun _ => (rc_ups rc_B4 rc_y4)) 142 := by unfold rc_cyc; decide +kernel
theorem rc_run4 {x y : Int} (hx : x.natAbs < 1000) (hy : y.natAbs < 1000) {post : Int32 → St2 → Prop} (H : rc_shows post (rc_h 170) (rc_g x y 4 (rc_ups rc_B4 rc_y4) rc_G4) (Int.tdiv x y) (y = 0)) : wpX_run post (nI 1, nI 2, 1, nI 153, nI 104, nI 116, nI 122, nI 128, nI 135, nI 141, nI 147, nI 148, nI 149, nI 150, nI 151, nI 152, 0, 0, 0, 0, 0, 0, 0, 0, 0, 0, 0, 0, upd (fun _ => 0) 0 (nI 7), upd (fun _ => 0) 0 (nI 7), upd (fun _ => 0) 0 (rc_iI x), upd (fun _ => 0) 0 (rc_iI y), rc_q5, rc_q6, rc_q7 4, rc_q8, rc_q9, rc_q10, rc_q11, rc_dm rc_Z0, rc_mk, rc_sm rc_Z0, rc_a15, rc_a16, rc_a17, rc_a18, (fun _ => 0), (fun _ => 0), (fun _ => 0), (fun _ => 0), (fun _ => 0)) := by
  unfold wpX_run
  dsimp only
  refine br_t rfl (rc_cmp4 ?_)
  dsimp only
  refine rc_run13 ?_
  exact rm_main (h := rc_h 170) (g := rc_g x y 4 (rc_ups rc_B4 rc_y4) rc_G4) (q := 142) (x := x) (y := y) (due := (Int.tdiv x y)) (f := (y = 0)) rc_pC4 rc_cC4 (by decide) (rm_g4 rc_pC4 hx hy (show (rc_ups rc_B4 rc_y4) 136 = _ by decide +kernel) (show (rc_ups rc_B4 rc_y4) 137 = _ by decide +kernel) (show (rc_ups rc_B4 rc_y4) 138 = _ by decide +kernel) (show (rc_ups rc_B4 rc_y4) 139 = _ by decide +kernel) (show (rc_ups rc_B4 rc_y4) 140 = _ by decide +kernel) (show (rc_ups rc_B4 rc_y4) 141 = _ by decide +kernel)) (Nat.lt_of_lt_of_le (rc_quotb hx) (by decide)) rfl rfl rfl rfl rfl rfl rfl rfl rfl hx hy rfl rfl rfl rfl rfl rfl rfl H
end
section
theorem rc_iI_0 {y : Int} (hy : y.natAbs < 1000) : rc_iI y = 0 ↔ y = 0 := by
  constructor
  · intro e
    have t := congrArg Int32.toInt e
    rw [rc_iI_toInt (by omega), show (0 : Int32).toInt = 0 from by decide] at t
    exact t
  · intro e
    rw [e]
    rfl
theorem rc_264 {mc ms kc ks m : Nat} {z0 z1 : Int32} {cc lc lv me sm pd lf rt rs qt tx ct sg ve zr on cp ce mu dv pr pc od cd nc ty vl : Int32} {a1 a2 a3 a4 a5 a6 a7 a8 a9 a10 a11 a12 a13 a14 a15 a16 a17 a18 a19 a20 a21 a22 a23 : Nat → Int32} (hz : z1 = z0) (h2 : 2 ≤ m) (h8 : m ≤ 80) : wL_lawOf_264 (fun r _ => r = 1) mc ms z0 z1 kc ks cc lc lv me sm pd lf rt rs qt tx ct sg ve zr on cp ce mu dv pr pc od cd nc ty vl (nI m) a1 a2 a3 a4 a5 a6 a7 a8 a9 a10 a11 a12 a13 a14 a15 a16 a17 a18 a19 a20 a21 a22 a23 := by
  unfold wL_lawOf_264
  refine br_t hz ?_
  unfold wpX_printed
  exact pk_le m 1 (fun z => absurd z (by omega)) (fun _ => rfl)
theorem rc_237 {mc ms kc ks m o : Nat} {y : Int} {f : Prop} {x4 x5 z0 z1 : Int32} {cc lc lv me sm pd lf rt rs qt tx ct sg ve zr on cp ce mu dv pr pc od cd nc ty vl : Int32} {a1 a2 a3 a4 a5 a6 a7 a8 a9 a10 a11 a12 a13 a14 a15 a16 a17 a18 a19 a20 a21 a22 a23 : Nat → Int32} (h4 : x4 = rc_iI y) (h5 : x5 = nI o) (ho : o < 5) (hy : y.natAbs < 1000) (hf : f ↔ (o = 4 ∧ y = 0)) (hz : z1 = z0) (h2 : 2 ≤ m) (h8 : m ≤ 80) (hi : ¬ a22 3 = 0 ↔ f) : wL_lawOf_237 (fun r _ => r = 1) mc ms x4 x5 z0 z1 kc ks cc lc lv me sm pd lf rt rs qt tx ct sg ve zr on cp ce mu dv pr pc od cd nc ty vl (nI m) a1 a2 a3 a4 a5 a6 a7 a8 a9 a10 a11 a12 a13 a14 a15 a16 a17 a18 a19 a20 a21 a22 a23 := by
  unfold wL_lawOf_237
  refine br_t hz ?_
  unfold wpX_indicator
  dsimp only
  refine br_f (by decide) (br_f (by decide) ⟨vp_in_nI (n := 3) (by decide) (by decide), br_c (fun t => ?_) (fun t => ?_)⟩)
  · have nf : ¬ (o = 4 ∧ y = 0) := fun z => (hi.mpr (hf.mpr z)) t
    refine pk_eq o 4 (fun q => br_f (fun z => nf ⟨q, (rc_iI_0 hy).mp (by rw [← h4]; exact z)⟩) ?_) (fun q => ?_) h5
    · unfold wL_lawOf_263
      exact rc_264 rfl h2 h8
    · unfold wL_lawOf_263
      exact rc_264 rfl h2 h8
  · have yf : o = 4 ∧ y = 0 := hf.mp (hi.mp t)
    refine pk_eq o 4 (fun q => br_t (by rw [h4]; exact (rc_iI_0 hy).mpr yf.2) (rc_264 rfl h2 h8)) (fun q => absurd yf.1 q) h5
theorem rc_96 {o : Nat} {x y due : Int} {f : Prop} {x3 x4 x5 z0 : Int32} {h : Nat → Int32} {g : Nat → Nat → Int32} (ho : o < 5) (h3 : x3 = rc_iI x) (h4 : x4 = rc_iI y) (h5 : x5 = nI o) (hz : z0 = rc_iI due) (hx : x.natAbs < 1000) (hy : y.natAbs < 1000) (hd : due.natAbs < 1000000) (hf : f ↔ (o = 4 ∧ y = 0)) (hg : g 15 = rc_a15)
    (hrun : ∀ post : Int32 → St2 → Prop, rc_shows post h g due f → wpX_run post (nI 1, nI 2, 1, nI 153, nI 104, nI 116, nI 122, nI 128, nI 135, nI 141, nI 147, nI 148, nI 149, nI 150, nI 151, nI 152, 0, 0, 0, 0, 0, 0, 0, 0, 0, 0, 0, 0, upd (fun _ => 0) 0 (nI 7), upd (fun _ => 0) 0 (nI 7), upd (fun _ => 0) 0 (rc_iI x), upd (fun _ => 0) 0 (rc_iI y), rc_q5, rc_q6, rc_q7 o, rc_q8, rc_q9, rc_q10, rc_q11, rc_dm rc_Z0, rc_mk, rc_sm rc_Z0, rc_a15, rc_a16, rc_a17, rc_a18, (fun _ => 0), (fun _ => 0), (fun _ => 0), (fun _ => 0), (fun _ => 0))) : wL_lawOf_96 (fun r _ => r = 1) 422 6752 x3 x4 x5 z0 0 0 := by
  unfold wL_lawOf_96
  refine ⟨by decide, by decide, 23, 1422, by decide, by decide, rc_init ?_⟩
  dsimp only
  refine rc_card h3 h4 hx hy ?_
  dsimp only
  refine br_t rfl (rc_line (i := 0) (wh := 0) (o := o) (w := 4) rfl h5 rfl (by decide) (by decide) (by omega) (by omega) (by omega) (by decide) ?_)
  dsimp only
  refine br_t (by decide) (rc_opd (i := 0) (n := 1) (x := 8) (y := 9) rfl rfl rfl (by decide) (by decide) (by decide) (by decide) ?_)
  dsimp only
  refine br_f (by decide) (rc_line (i := 1) (wh := 2) (o := 8) (w := 0) rfl rfl rfl (by decide) (by decide) (by decide) (by decide) (by decide) (by decide) ?_)
  dsimp only
  refine br_t (by decide) (rc_opd (i := 1) (n := 2) (x := 4) (y := 0) rfl rfl rfl (by decide) (by decide) (by decide) (by decide) ?_)
  dsimp only
  refine br_f (by decide) ?_
  refine hrun _ (fun pc od cd nc m Z' a21' a22' a23' e1 e2 e3 e4 e5 => ?_)
  unfold rc_st
  dsimp only
  refine br_t (by decide) ?_
  unfold wpX_work
  dsimp only
  refine br_f (by decide) (br_t (by decide) ⟨vp_in_nI (n := 4) (by decide) (by decide), ?_⟩)
  refine rc_fv (e := 29) (l := 6) rc_f29 (by rw [e1]; exact hd) (by rw [hg]; decide +kernel) ?_
  refine br_t (by rw [e1, hz]) ?_
  unfold wpX_text
  dsimp only
  refine br_f (by decide) (pk_le m 0 (fun z => absurd z (by omega)) (fun _ => br_t (by decide) ⟨vp_in_nI (n := 0) (by decide) (by decide), br_c (fun t => ?_) (fun t => ?_)⟩))
  · have q : due < 0 := e5.mp t
    refine br_f (by rw [hz, rc_iI_ge (by omega)]; omega) (rc_237 h4 h5 ho hy hf rfl e3 e4 e2)
  · have q : ¬ due < 0 := fun z => t (e5.mpr z)
    refine br_t (by rw [hz, rc_iI_ge (by omega)]; omega) (rc_237 h4 h5 ho hy hf rfl e3 e4 e2)
end
section
theorem rc_bm {z : Int} (h : z.natAbs < 2 ^ 31) : z.bmod (2 ^ 32) = z := Int.bmod_eq_of_le (by omega) (by omega)
theorem rc_mod (p : Int32) : ∃ x : Int, x.natAbs < 1000 ∧ p - p / 1000 * 1000 = rc_iI x := by
  have b1 := Int32.toInt_lt p
  have b2 := Int32.le_toInt p
  have hk : (1000 : Int32).toInt = 1000 := by decide
  have hb : (p.toInt.tmod 1000).natAbs < 1000 := by
    rw [Int.natAbs_tmod]
    exact Nat.mod_lt _ (by decide)
  have hd := Int.tmod_def p.toInt 1000
  have h0 : (Int.tdiv p.toInt 1000).natAbs ≤ p.toInt.natAbs := Int.natAbs_tdiv_le_natAbs _ _
  have e1 : (p / 1000).toInt = p.toInt.tdiv 1000 := by
    rw [Int32.toInt_div_of_ne_right p 1000 (by decide), hk]
  refine ⟨p.toInt.tmod 1000, hb, rc_iI_inj (by omega) ?_⟩
  generalize p.toInt.tdiv 1000 = q at *
  generalize p.toInt.tmod 1000 = r at *
  rcases Int.lt_trichotomy p.toInt 0 with s | s | s
  all_goals
    rw [Int32.toInt_sub, Int32.toInt_mul, e1, hk, hd]
    rw [show q * 1000 = 1000 * q by omega]
    generalize 1000 * q = w at *
    rw [Int.sub_bmod_bmod]
    exact rc_bm (by omega)
theorem rc_iadd {x y : Int} (hx : x.natAbs < 1000) (hy : y.natAbs < 1000) : rc_iI x + rc_iI y = rc_iI (x + y) := by
  refine rc_iI_inj (by omega) ?_
  rw [Int32.toInt_add, rc_iI_toInt (by omega), rc_iI_toInt (by omega)]
  exact rc_bm (by omega)
theorem rc_isub {x y : Int} (hx : x.natAbs < 1000) (hy : y.natAbs < 1000) : rc_iI x - rc_iI y = rc_iI (x - y) := by
  refine rc_iI_inj (by omega) ?_
  rw [Int32.toInt_sub, rc_iI_toInt (by omega), rc_iI_toInt (by omega)]
  exact rc_bm (by omega)
theorem rc_imul {x y : Int} (hx : x.natAbs < 1000) (hy : y.natAbs < 1000) : rc_iI x * rc_iI y = rc_iI (x * y) := by
  have b := rc_prodb hx hy
  refine rc_iI_inj (by omega) ?_
  rw [Int32.toInt_mul, rc_iI_toInt (by omega), rc_iI_toInt (by omega)]
  exact rc_bm (by omega)
theorem rc_idiv {x y : Int} (hx : x.natAbs < 1000) (hy : y.natAbs < 1000) : rc_iI x / rc_iI y = rc_iI (Int.tdiv x y) := by
  have b := @rc_quotb x y hx
  refine rc_iI_inj (by omega) ?_
  rw [Int32.toInt_div, rc_iI_toInt (by omega), rc_iI_toInt (by omega)]
  exact rc_bm (by omega)
theorem rc_op (p : Int32) : ∃ o : Nat, o < 5 ∧ (p &&& 255) - (p &&& 255) / 5 * 5 = nI o := by
  obtain ⟨j, hj, e⟩ := pk_andE p (m := 255) 8 (by decide)
  rw [e]
  exact ⟨j % 5, Nat.mod_lt _ (by decide), @pk_rem j 5 (by omega) (by decide) (by decide)⟩
theorem rc_33 {o : Nat} {x y : Int} {x3 x4 x5 z0 : Int32} (ho : o < 5) (h3 : x3 = rc_iI x) (h4 : x4 = rc_iI y) (h5 : x5 = nI o) (hx : x.natAbs < 1000) (hy : y.natAbs < 1000) (hz : ¬ x4 = 0 → z0 = x4) : wL_lawOf_33 (fun r _ => r = 1) 422 6752 x3 x4 x5 z0 0 0 := by
  unfold wL_lawOf_33
  refine pk_eq o 0 (fun q => ?_) (fun n0 => pk_eq o 1 (fun q => ?_) (fun n1 => pk_eq o 2 (fun q => ?_) (fun n2 => pk_eq o 3 (fun q => ?_) (fun n3 => br_c (fun q => ?_) (fun q => ?_)) h5) h5) h5) h5
  · subst q
    exact rc_96 (o := 0) (by decide) h3 h4 h5 h3 hx hy (by omega) ⟨fun z => z.elim, fun z => absurd z.1 (by decide)⟩ rfl (fun post H => rc_run0 hx hy H)
  · subst q
    exact rc_96 (o := 1) (by decide) h3 h4 h5 (by rw [h3, h4]; exact rc_iadd hx hy) hx hy (by omega) ⟨fun z => z.elim, fun z => absurd z.1 (by decide)⟩ rfl (fun post H => rc_run1 hx hy H)
  · subst q
    exact rc_96 (o := 2) (by decide) h3 h4 h5 (by rw [h3, h4]; exact rc_isub hx hy) hx hy (by omega) ⟨fun z => z.elim, fun z => absurd z.1 (by decide)⟩ rfl (fun post H => rc_run2 hx hy H)
  · subst q
    exact rc_96 (o := 3) (by decide) h3 h4 h5 (by rw [h3, h4]; exact rc_imul hx hy) hx hy (rc_prodb hx hy) ⟨fun z => z.elim, fun z => absurd z.1 (by decide)⟩ rfl (fun post H => rc_run3 hx hy H)
  · have e4 : o = 4 := by omega
    subst e4
    have y0 : y = 0 := (rc_iI_0 hy).mp (by rw [← h4]; exact q)
    exact rc_96 (o := 4) (due := Int.tdiv x y) (by decide) h3 h4 h5 (by rw [y0, Int.tdiv_zero]; rfl) hx hy (Nat.lt_of_lt_of_le (rc_quotb hx) (by decide)) ⟨fun z => ⟨rfl, z⟩, fun z => z.2⟩ rfl (fun post H => rc_run4 hx hy H)
  · have e4 : o = 4 := by omega
    subst e4
    refine ⟨by rw [hz q]; exact q, ?_⟩
    exact rc_96 (o := 4) (due := Int.tdiv x y) (by decide) h3 h4 h5 (by rw [hz q, h3, h4]; exact rc_idiv hx hy) hx hy (Nat.lt_of_lt_of_le (rc_quotb hx) (by decide)) ⟨fun z => ⟨rfl, z⟩, fun z => z.2⟩ rfl (fun post H => rc_run4 hx hy H)
theorem rc_lawOf (p0 p1 p2 : Int32) (u : St0) : wpL_lawOf (fun r _ => r = 1) 422 6752 u p0 p1 p2 := by
  obtain ⟨x, hx, ex⟩ := rc_mod p0
  obtain ⟨y, hy, ey⟩ := rc_mod p1
  obtain ⟨o, ho, eo⟩ := rc_op p2
  unfold wpL_lawOf
  refine ⟨by decide, nm_r ex ⟨by decide, nm_r ey ⟨by decide, nm_r eo (br_c (fun q => ?_) (fun q => ?_))⟩⟩⟩
  · exact rc_33 ho rfl rfl rfl hx hy (fun z => absurd q z)
  · exact rc_33 ho rfl rfl rfl hx hy (fun _ => rfl)
theorem rc_cell {post : Int32 → Prop} {L i : Nat} {xs : Nat → Int32} {u : St0} {p1 : Int32} (hL : L ≤ 3) (hp : p1 = nI i) (hi : i < 3) (H : ∀ r, post r) : wpL_cellAt post L xs u p1 := by
  subst hp
  unfold wpL_cellAt
  exact pk_le L i (fun _ => H _) (fun z => ⟨vp_in_nI z (by omega), H _⟩)
theorem i_vc (xs : Nat → Int32) (L : Nat) (hL : L ≤ 3) : wpL_law (fun r => r = 1) L xs := by
  unfold wpL_law
  exact rc_cell (i := 0) hL rfl (by decide) (fun r1 => rc_cell (i := 1) hL rfl (by decide) (fun r2 => rc_cell (i := 2) hL rfl (by decide) (fun r3 => ⟨422, 6752, by decide, by decide, rc_lawOf r1 r2 r3 ()⟩)))
end
