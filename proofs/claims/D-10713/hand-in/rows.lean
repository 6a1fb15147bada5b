section
/-! numberOf: what it answers, for any two ints; its table on the board of 16 by 16; which numbers lie in a square -/
def zn_st (p q m w : Int32) : Int32 × Int32 × Int32 :=
  if p &&& w = 0 then (if q &&& w = 0 then (q, p, (4 * m) + ((3 * 0) ^^^ 0)) else (p, q, (4 * m) + ((3 * 0) ^^^ 1)))
  else (if q &&& w = 0 then (15 - q, 15 - p, (4 * m) + ((3 * 1) ^^^ 0)) else (p, q, (4 * m) + ((3 * 1) ^^^ 1)))
def zn_num (x y : Int32) : Int32 :=
  let s1 := zn_st x y 0 8
  let s2 := zn_st s1.1 s1.2.1 s1.2.2 4
  let s3 := zn_st s2.1 s2.2.1 s2.2.2 2
  let s4 := zn_st s3.1 s3.2.1 s3.2.2 1
  s4.2.2
theorem zn_step {post : Int32 → Prop} {f0 f1 f2 : Int32} {a1 a2 a3 a4 a5 : Nat → Int32} (n : Nat) (p q m w w' : Int32) (hw : ¬ w ≤ 0) (hw' : w / 2 = w')
    (h : wX_numberOf_12 post f0 f1 f2 a1 a2 a3 a4 a5 n (zn_st p q m w).1 (zn_st p q m w).2.1 (zn_st p q m w).2.2 w') :
    wX_numberOf_12 post f0 f1 f2 a1 a2 a3 a4 a5 (n + 1) p q m w := by
  refine br_f hw ?_
  by_cases ha : p &&& w = 0
  · by_cases hb : q &&& w = 0
    · rw [show zn_st p q m w = (q, p, (4 * m) + ((3 * 0) ^^^ 0)) by unfold zn_st; rw [if_pos ha, if_pos hb]] at h
      exact br_t ha (br_t hb (nm_e (br_f (by decide) (br_t rfl (br_t rfl ⟨by decide, nm_r hw' h⟩)))))
    · rw [show zn_st p q m w = (p, q, (4 * m) + ((3 * 0) ^^^ 1)) by unfold zn_st; rw [if_pos ha, if_neg hb]] at h
      exact br_t ha (br_f hb (nm_e (br_t rfl ⟨by decide, nm_r hw' h⟩)))
  · by_cases hb : q &&& w = 0
    · rw [show zn_st p q m w = (15 - q, 15 - p, (4 * m) + ((3 * 1) ^^^ 0)) by unfold zn_st; rw [if_neg ha, if_pos hb]] at h
      exact br_f ha (br_t hb (nm_e (br_f (by decide) (br_f (by decide) (br_f (by decide) (nm_e ⟨by decide, nm_r hw' h⟩))))))
    · rw [show zn_st p q m w = (p, q, (4 * m) + ((3 * 1) ^^^ 1)) by unfold zn_st; rw [if_neg ha, if_neg hb]] at h
      exact br_f ha (br_f hb (nm_e (br_t rfl ⟨by decide, nm_r hw' h⟩)))
theorem zn_wp {post : Int32 → Prop} {f0 f1 f2 : Int32} {a1 a2 a3 a4 a5 : Nat → Int32} {x y : Int32} (h : post (zn_num x y)) :
    wpX_numberOf post (f0, f1, f2, a1, a2, a3, a4, a5) x y :=
  ⟨5, zn_step 4 _ _ _ 8 4 (by decide) (by decide) (zn_step 3 _ _ _ 4 2 (by decide) (by decide) (zn_step 2 _ _ _ 2 1 (by decide) (by decide) (zn_step 1 _ _ _ 1 0 (by decide) (by decide) (br_t (by decide) h))))⟩
def zn_T : List Nat := [0, 3, 4, 5, 58, 59, 60, 63, 64, 65, 78, 79, 80, 83, 84, 85, 1, 2, 7, 6, 57, 56, 61, 62, 67, 66, 77, 76, 81, 82, 87, 86, 14, 13, 8, 9, 54, 55, 50, 49, 68, 71, 72, 75, 94, 93, 88, 89, 15, 12, 11, 10, 53, 52, 51, 48, 69, 70, 73, 74, 95, 92, 91, 90, 16, 17, 30, 31, 32, 33, 46, 47, 122, 121, 118, 117, 96, 99, 100, 101, 19, 18, 29, 28, 35, 34, 45, 44, 123, 120, 119, 116, 97, 98, 103, 102, 20, 23, 24, 27, 36, 39, 40, 43, 124, 125, 114, 115, 110, 109, 104, 105, 21, 22, 25, 26, 37, 38, 41, 42, 127, 126, 113, 112, 111, 108, 107, 106, 234, 233, 230, 229, 218, 217, 214, 213, 128, 129, 142, 143, 144, 147, 148, 149, 235, 232, 231, 228, 219, 216, 215, 212, 131, 130, 141, 140, 145, 146, 151, 150, 236, 237, 226, 227, 220, 221, 210, 211, 132, 135, 136, 139, 158, 157, 152, 153, 239, 238, 225, 224, 223, 222, 209, 208, 133, 134, 137, 138, 159, 156, 155, 154, 240, 243, 244, 245, 202, 203, 204, 207, 186, 185, 182, 181, 160, 163, 164, 165, 241, 242, 247, 246, 201, 200, 205, 206, 187, 184, 183, 180, 161, 162, 167, 166, 254, 253, 248, 249, 198, 199, 194, 193, 188, 189, 178, 179, 174, 173, 168, 169, 255, 252, 251, 250, 197, 196, 195, 192, 191, 190, 177, 176, 175, 172, 171, 170]
def zn_I : List Nat := [0, 16, 17, 1, 2, 3, 19, 18, 34, 35, 51, 50, 49, 33, 32, 48, 64, 65, 81, 80, 96, 112, 113, 97, 98, 114, 115, 99, 83, 82, 66, 67, 68, 69, 85, 84, 100, 116, 117, 101, 102, 118, 119, 103, 87, 86, 70, 71, 55, 39, 38, 54, 53, 52, 36, 37, 21, 20, 4, 5, 6, 22, 23, 7, 8, 9, 25, 24, 40, 56, 57, 41, 42, 58, 59, 43, 27, 26, 10, 11, 12, 28, 29, 13, 14, 15, 31, 30, 46, 47, 63, 62, 61, 45, 44, 60, 76, 92, 93, 77, 78, 79, 95, 94, 110, 111, 127, 126, 125, 109, 108, 124, 123, 122, 106, 107, 91, 75, 74, 90, 89, 73, 72, 88, 104, 105, 121, 120, 136, 137, 153, 152, 168, 184, 185, 169, 170, 186, 187, 171, 155, 154, 138, 139, 140, 156, 157, 141, 142, 143, 159, 158, 174, 175, 191, 190, 189, 173, 172, 188, 204, 220, 221, 205, 206, 207, 223, 222, 238, 239, 255, 254, 253, 237, 236, 252, 251, 250, 234, 235, 219, 203, 202, 218, 217, 201, 200, 216, 232, 233, 249, 248, 247, 231, 230, 246, 245, 244, 228, 229, 213, 212, 196, 197, 198, 214, 215, 199, 183, 182, 166, 167, 151, 135, 134, 150, 149, 133, 132, 148, 164, 165, 181, 180, 179, 178, 162, 163, 147, 131, 130, 146, 145, 129, 128, 144, 160, 161, 177, 176, 192, 208, 209, 193, 194, 195, 211, 210, 226, 227, 243, 242, 241, 225, 224, 240]
def zn_n (x y : Nat) : Nat := zn_T.getD (16 * x + y) 0
theorem zn_tab : ∀ x, x < 16 → ∀ y, y < 16 → zn_num (nI x) (nI y) = nI (zn_n x y) ∧ zn_n x y < 256 := by decide +kernel
theorem zn_inv : ∀ x, x < 16 → ∀ y, y < 16 → zn_I.getD (zn_n x y) 0 = 16 * x + y := by decide +kernel
theorem zn_up : ∀ k, k < 5 → ∀ n, n < 256 →
    zn_I.getD n 0 / 16 / 2 ^ (4 - k) = zn_I.getD (n / 4 ^ (4 - k) * 4 ^ (4 - k)) 0 / 16 / 2 ^ (4 - k) ∧
    zn_I.getD n 0 % 16 / 2 ^ (4 - k) = zn_I.getD (n / 4 ^ (4 - k) * 4 ^ (4 - k)) 0 % 16 / 2 ^ (4 - k) := by decide +kernel
theorem zn_dn : ∀ k, k < 5 → ∀ x, x < 16 → ∀ y, y < 16 →
    zn_n x y / 4 ^ (4 - k) = zn_n (x / 2 ^ (4 - k) * 2 ^ (4 - k)) (y / 2 ^ (4 - k) * 2 ^ (4 - k)) / 4 ^ (4 - k) := by decide +kernel
theorem zn_fit {k u d : Nat} (hk : k ≤ 4) (hu : u < 2 ^ k) (hd : d = 2 ^ (4 - k)) : u * d + d ≤ 16 := by
  have h1 : (u + 1) * d ≤ 2 ^ k * d := Nat.mul_le_mul_right d hu
  have h2 : 2 ^ k * d = 16 := by
    rw [hd, ← Nat.pow_add, show k + (4 - k) = 4 by omega]
  rw [h2, Nat.succ_mul] at h1
  exact h1
theorem zn_cell {u x d : Nat} (hd : 0 < d) : x / d = u ↔ u * d ≤ x ∧ x < (u + 1) * d := by
  rw [Nat.div_eq_iff hd]
  have h : (u + 1) * d = u * d + d := Nat.succ_mul u d
  omega
theorem zn_run {n m z : Nat} (hz : 0 < z) : n / z = m / z ↔ m / z * z ≤ n ∧ n ≤ m / z * z + z - 1 := by
  rw [Nat.div_eq_iff hz]
theorem zn_mem {k u v x y : Nat} (hk : k ≤ 4) (hu : u < 2 ^ k) (hv : v < 2 ^ k) (hx : x < 16) (hy : y < 16) {d z m : Nat} (hd : d = 2 ^ (4 - k)) (hz : z = 4 ^ (4 - k)) (hm : m = zn_n (u * d) (v * d)) :
    (m / z * z ≤ zn_n x y ∧ zn_n x y ≤ m / z * z + z - 1) ↔ (u * d ≤ x ∧ x < (u + 1) * d ∧ v * d ≤ y ∧ y < (v + 1) * d) := by
  have d0 : 0 < d := by rw [hd]; exact Nat.pow_pos (by decide)
  have z0 : 0 < z := by rw [hz]; exact Nat.pow_pos (by decide)
  have fu := zn_fit hk hu hd
  have fv := zn_fit hk hv hd
  have hk' : k < 5 := by omega
  have eu : u * d / d = u := Nat.mul_div_cancel u d0
  have ev : v * d / d = v := Nat.mul_div_cancel v d0
  rw [← zn_run z0]
  have key : zn_n x y / z = m / z ↔ x / d = u ∧ y / d = v := by
    constructor
    · intro h
      have A := zn_up k hk' (zn_n x y) (zn_tab x hx y hy).2
      have B := zn_up k hk' m (by rw [hm]; exact (zn_tab _ (by omega) _ (by omega)).2)
      rw [← hd, ← hz] at A B
      rw [h] at A
      rw [← A.1, ← A.2] at B
      rw [hm, zn_inv _ (by omega) _ (by omega), zn_inv x hx y hy] at B
      rw [show (16 * (u * d) + v * d) / 16 = u * d by omega, show (16 * (u * d) + v * d) % 16 = v * d by omega, show (16 * x + y) / 16 = x by omega, show (16 * x + y) % 16 = y by omega, eu, ev] at B
      exact ⟨B.1.symm, B.2.symm⟩
    · intro h
      have A := zn_dn k hk' x hx y hy
      rw [← hd, ← hz, h.1, h.2] at A
      rw [A, hm]
  rw [key, zn_cell d0, zn_cell d0]
  constructor
  · intro h
    exact ⟨h.1.1, h.1.2, h.2.1, h.2.2⟩
  · intro h
    exact ⟨⟨h.1, h.2.1⟩, h.2.2.1, h.2.2.2⟩
theorem zn_mask : ∀ k, k < 5 → ∀ n, n < 256 → nI n &&& (-(nI (4 ^ (4 - k)))) = nI (n / 4 ^ (4 - k) * 4 ^ (4 - k)) := by decide +kernel
theorem zn_short : ∀ n, n < 256 → (nI n).toInt16.toInt32 = nI n := by decide +kernel
end
section
/-! make: a cursor in a set of at most one interval; one turn of the loop; the difference that is empty; the first interval of a set -/
def zm_b (b : Bool) : Int32 := if b = true then 1 else 0
def zm_cu (a2 a3 : Nat → Int32) (i e : Nat) (c : Option (Nat × Nat)) : Prop := match c with
  | none => e = i ∧ i ≤ 200
  | some w => e = i + 1 ∧ i < 200 ∧ a2 i = nI w.1 ∧ a3 i = nI w.2 ∧ w.1 ≤ w.2 ∧ w.2 ≤ 255
def zm_sk (c : Option (Nat × Nat)) (t : Nat) : Option (Nat × Nat) := match c with
  | none => none
  | some w => if w.2 < t then none else some w
def zm_in (c : Option (Nat × Nat)) (t : Nat) : Bool := match c with
  | none => false
  | some w => decide (w.1 ≤ t)
def zm_nx (c : Option (Nat × Nat)) (t : Nat) : Nat := match c with
  | none => 256
  | some w => if w.1 ≤ t then w.2 + 1 else w.1
def zm_op (h : Nat) (a b : Bool) : Bool := if h = 1 then a || b else a && !b
theorem zm_le {a2 a3 : Nat → Int32} {i e : Nat} {c : Option (Nat × Nat)} (h : zm_cu a2 a3 i e c) : i ≤ 200 ∧ e ≤ 201 := by
  cases c with
  | none => have h' : e = i ∧ i ≤ 200 := h
            omega
  | some w => have h' := h.1
              have h'' := h.2.1
              omega
theorem zm_nx_gt {a2 a3 : Nat → Int32} {i e t : Nat} {c : Option (Nat × Nat)} (h : zm_cu a2 a3 i e c) (ht : t < 256) : t < zm_nx (zm_sk c t) t ∧ zm_nx (zm_sk c t) t ≤ 256 := by
  cases c with
  | none => exact ⟨ht, Nat.le_refl _⟩
  | some w =>
    obtain ⟨h1, h2, h3, h4, h5, h6⟩ := h
    by_cases hs : w.2 < t
    · rw [show zm_sk (some w) t = none from if_pos hs]
      exact ⟨ht, Nat.le_refl _⟩
    · rw [show zm_sk (some w) t = some w from if_neg hs]
      by_cases hl : w.1 ≤ t
      · rw [show zm_nx (some w) t = w.2 + 1 from if_pos hl]
        omega
      · rw [show zm_nx (some w) t = w.1 from if_neg hl]
        omega
section
variable {post : Int32 → St2 → Prop} {J : Int32 → Int32 → Int32 → Int32 → Int32 → Int32 → (Nat → Int32) → (Nat → Int32) → (Nat → Int32) → (Nat → Int32) → (Nat → Int32) → Prop} {x1 f0 f1 f2 : Int32} {a1 a2 a3 a4 a5 : Nat → Int32}
theorem zm_241 {h : Nat} (hh : h = 1 ∨ h = 2) {x5 x6 x7 x8 x9 x12 : Int32} (a b : Bool) (H : wX_make_301 post J x1 (nI h) x5 x6 x7 x8 x9 x12 (zm_b (zm_op h a b)) f0 f1 f2 a1 a2 a3 a4 a5) :
    wX_make_241 post J x1 (nI h) x5 x6 x7 x8 x9 (zm_b a) (zm_b b) x12 f0 f1 f2 a1 a2 a3 a4 a5 := by
  rcases hh with rfl | rfl
  · cases a <;> cases b
    · exact br_f (by decide) (br_t rfl (br_t rfl (br_t rfl H)))
    · exact br_f (by decide) (br_t rfl (br_t rfl (br_f (by decide) H)))
    · exact br_f (by decide) (br_t rfl (br_f (by decide) H))
    · exact br_f (by decide) (br_t rfl (br_f (by decide) H))
  · cases a <;> cases b
    · exact br_f (by decide) (br_f (by decide) (br_t rfl H))
    · exact br_f (by decide) (br_f (by decide) (br_t rfl H))
    · exact br_f (by decide) (br_f (by decide) (br_f (by decide) (br_t rfl H)))
    · exact br_f (by decide) (br_f (by decide) (br_f (by decide) (br_f (by decide) H)))
theorem zm_230 {x2 x5 x6 x7 x8 x9 x10 x11 : Int32} {p q : Nat} (hp : p ≤ 256) (hq : q ≤ 256) (H : wX_make_241 post J x1 x2 x5 x6 x7 x8 x9 x10 x11 (nI (min p q)) f0 f1 f2 a1 a2 a3 a4 a5) :
    wX_make_230 post J x1 x2 x5 x6 x7 x8 x9 x10 x11 (nI p) (nI q) f0 f1 f2 a1 a2 a3 a4 a5 :=
  pk_le p q (fun z => by rw [Nat.min_eq_left z] at H; exact H) (fun z => by rw [Nat.min_eq_right (Nat.le_of_lt z)] at H; exact H)
theorem zm_192 {x2 x5 x7 x9 x10 x12 : Int32} {j e t : Nat} {c : Option (Nat × Nat)} (hc : zm_cu a2 a3 j e c) (H : wX_make_230 post J x1 x2 x5 (nI j) x7 (nI e) x9 x10 (zm_b (zm_in c t)) x12 (nI (zm_nx c t)) f0 f1 f2 a1 a2 a3 a4 a5) :
    wX_make_192 post J x1 x2 x5 (nI j) x7 (nI e) x9 x10 (zm_b (zm_in c t)) x12 f0 f1 f2 a1 a2 a3 a4 a5 := by
  have hl := zm_le hc
  cases c with
  | none =>
    have h' : e = j ∧ j ≤ 200 := hc
    exact pk_le e j (fun _ => H) (fun z => absurd z (by omega))
  | some w =>
    obtain ⟨h1, h2, h3, h4, h5, h6⟩ := hc
    refine pk_le e j (fun z => absurd z (by omega)) (fun _ => ?_)
    rw [nI_clamp (show j < 2 ^ 31 by omega), h3, h4]
    by_cases hb : w.1 ≤ t
    · rw [show zm_in (some w) t = true from decide_eq_true hb] at H ⊢
      rw [show zm_nx (some w) t = w.2 + 1 from if_pos hb, ← nI_1] at H
      exact br_f (by decide) ⟨pk_in j 200 (by omega), H⟩
    · rw [show zm_in (some w) t = false from decide_eq_false hb] at H ⊢
      rw [show zm_nx (some w) t = w.1 from if_neg hb] at H
      exact br_t rfl ⟨pk_in j 200 (by omega), H⟩
theorem zm_152 {x2 x6 x8 x9 z0 : Int32} {i e t : Nat} {c : Option (Nat × Nat)} (hc : zm_cu a2 a3 i e c) (H : wX_make_192 post J x1 x2 (nI i) x6 (nI e) x8 x9 (zm_b (zm_in c t)) z0 (nI (zm_nx c t)) f0 f1 f2 a1 a2 a3 a4 a5) :
    wX_make_152 post J x1 x2 (nI i) x6 (nI e) x8 x9 (zm_b (zm_in c t)) z0 f0 f1 f2 a1 a2 a3 a4 a5 := by
  have hl := zm_le hc
  cases c with
  | none =>
    have h' : e = i ∧ i ≤ 200 := hc
    exact pk_le e i (fun _ => H) (fun z => absurd z (by omega))
  | some w =>
    obtain ⟨h1, h2, h3, h4, h5, h6⟩ := hc
    refine pk_le e i (fun z => absurd z (by omega)) (fun _ => ?_)
    rw [nI_clamp (show i < 2 ^ 31 by omega), h3, h4]
    by_cases hb : w.1 ≤ t
    · rw [show zm_in (some w) t = true from decide_eq_true hb] at H ⊢
      rw [show zm_nx (some w) t = w.2 + 1 from if_pos hb, ← nI_1] at H
      exact br_f (by decide) ⟨pk_in i 200 (by omega), H⟩
    · rw [show zm_in (some w) t = false from decide_eq_false hb] at H ⊢
      rw [show zm_nx (some w) t = w.1 from if_neg hb] at H
      exact br_t rfl ⟨pk_in i 200 (by omega), H⟩
theorem zm_126 {x2 x5 x7 z0 : Int32} {j e t : Nat} {c : Option (Nat × Nat)} (ht : t < 256) (hc : zm_cu a2 a3 j e c) (H : wX_make_152 post J x1 x2 x5 (nI j) x7 (nI e) (nI t) z0 (zm_b (zm_in c t)) f0 f1 f2 a1 a2 a3 a4 a5) :
    wX_make_126 post J x1 x2 x5 (nI j) x7 (nI e) (nI t) z0 f0 f1 f2 a1 a2 a3 a4 a5 := by
  have hl := zm_le hc
  cases c with
  | none =>
    have h' : e = j ∧ j ≤ 200 := hc
    exact pk_le e j (fun _ => H) (fun z => absurd z (by omega))
  | some w =>
    obtain ⟨h1, h2, h3, h4, h5, h6⟩ := hc
    refine pk_le e j (fun z => absurd z (by omega)) (fun _ => ⟨pk_in j 200 (by omega), ?_⟩)
    rw [nI_clamp (show j < 2 ^ 31 by omega), h3]
    refine pk_lt t w.1 (fun z => ?_) (fun z => ?_)
    · rw [show zm_in (some w) t = false from decide_eq_false (by omega)] at H
      exact H
    · rw [show zm_in (some w) t = true from decide_eq_true z] at H
      exact H
theorem zm_102 {x2 x6 x8 : Int32} {i e t : Nat} {c : Option (Nat × Nat)} (ht : t < 256) (hc : zm_cu a2 a3 i e c) (H : wX_make_126 post J x1 x2 (nI i) x6 (nI e) x8 (nI t) (zm_b (zm_in c t)) f0 f1 f2 a1 a2 a3 a4 a5) :
    wX_make_102 post J x1 x2 (nI i) x6 (nI e) x8 (nI t) f0 f1 f2 a1 a2 a3 a4 a5 := by
  have hl := zm_le hc
  cases c with
  | none =>
    have h' : e = i ∧ i ≤ 200 := hc
    exact pk_le e i (fun _ => H) (fun z => absurd z (by omega))
  | some w =>
    obtain ⟨h1, h2, h3, h4, h5, h6⟩ := hc
    refine pk_le e i (fun z => absurd z (by omega)) (fun _ => ⟨pk_in i 200 (by omega), ?_⟩)
    rw [nI_clamp (show i < 2 ^ 31 by omega), h3]
    refine pk_lt t w.1 (fun z => ?_) (fun z => ?_)
    · rw [show zm_in (some w) t = false from decide_eq_false (by omega)] at H
      exact H
    · rw [show zm_in (some w) t = true from decide_eq_true z] at H
      exact H
theorem zm_77 {x2 x5 x7 : Int32} {j e t : Nat} {c : Option (Nat × Nat)} (ht : t < 256) (hc : zm_cu a2 a3 j e c)
    (H : ∀ j', zm_cu a2 a3 j' e (zm_sk c t) → wX_make_102 post J x1 x2 x5 (nI j') x7 (nI e) (nI t) f0 f1 f2 a1 a2 a3 a4 a5) :
    ∃ n, wX_make_77 post J x1 x2 x5 x7 (nI e) (nI t) f0 f1 f2 a1 a2 a3 a4 a5 n (nI j) := by
  have hl := zm_le hc
  cases c with
  | none =>
    have h' : e = j ∧ j ≤ 200 := hc
    exact ⟨1, pk_le e j (fun _ => H j hc) (fun z => absurd z (by omega))⟩
  | some w =>
    have hc' := hc
    obtain ⟨h1, h2, h3, h4, h5, h6⟩ := hc
    refine ⟨2, pk_le e j (fun z => absurd z (by omega)) (fun _ => ⟨pk_in j 200 (by omega), ?_⟩)⟩
    rw [nI_clamp (show j < 2 ^ 31 by omega), h4]
    refine pk_le t w.2 (fun z => ?_) (fun z => nm_r (nI_1 j) ?_)
    · refine H j ?_
      rw [show zm_sk (some w) t = some w from if_neg (by omega)]
      exact hc'
    · refine pk_le e (j + 1) (fun _ => H (j + 1) ?_) (fun z => absurd z (by omega))
      rw [show zm_sk (some w) t = none from if_pos z]
      exact ⟨h1, by omega⟩
theorem zm_52 {x2 x6 x8 : Int32} {i e t : Nat} {c : Option (Nat × Nat)} (ht : t < 256) (hc : zm_cu a2 a3 i e c)
    (H : ∀ i', zm_cu a2 a3 i' e (zm_sk c t) → ∃ n, wX_make_77 post J x1 x2 (nI i') (nI e) x8 (nI t) f0 f1 f2 a1 a2 a3 a4 a5 n x6) :
    ∃ n, wX_make_52 post J x1 x2 x6 (nI e) x8 (nI t) f0 f1 f2 a1 a2 a3 a4 a5 n (nI i) := by
  have hl := zm_le hc
  cases c with
  | none =>
    have h' : e = i ∧ i ≤ 200 := hc
    exact ⟨1, pk_le e i (fun _ => H i hc) (fun z => absurd z (by omega))⟩
  | some w =>
    have hc' := hc
    obtain ⟨h1, h2, h3, h4, h5, h6⟩ := hc
    refine ⟨2, pk_le e i (fun z => absurd z (by omega)) (fun _ => ⟨pk_in i 200 (by omega), ?_⟩)⟩
    rw [nI_clamp (show i < 2 ^ 31 by omega), h4]
    refine pk_le t w.2 (fun z => ?_) (fun z => nm_r (nI_1 i) ?_)
    · refine H i ?_
      rw [show zm_sk (some w) t = some w from if_neg (by omega)]
      exact hc'
    · refine pk_le e (i + 1) (fun _ => H (i + 1) ?_) (fun z => absurd z (by omega))
      rw [show zm_sk (some w) t = none from if_pos z]
      exact ⟨h1, by omega⟩
/-- one turn of the loop -/
theorem zm_step {h : Nat} (hh : h = 1 ∨ h = 2) {n i j eA eB t : Nat} {cA cB : Option (Nat × Nat)} (ht : t < 256) (hA : zm_cu a2 a3 i eA cA) (hB : zm_cu a2 a3 j eB cB)
    (H : ∀ i' j', zm_cu a2 a3 i' eA (zm_sk cA t) → zm_cu a2 a3 j' eB (zm_sk cB t) →
      wX_make_301 post (wX_make_44 post x1 (nI h) (nI eA) (nI eB) n) x1 (nI h) (nI i') (nI j') (nI eA) (nI eB) (nI t) (nI (min (zm_nx (zm_sk cA t) t) (zm_nx (zm_sk cB t) t)))
        (zm_b (zm_op h (zm_in (zm_sk cA t) t) (zm_in (zm_sk cB t) t))) f0 f1 f2 a1 a2 a3 a4 a5) :
    wX_make_44 post x1 (nI h) (nI eA) (nI eB) (n + 1) (nI i) (nI j) (nI t) f0 f1 f2 a1 a2 a3 a4 a5 :=
  pk_le 256 t (fun z => absurd z (by omega)) (fun _ => zm_52 ht hA (fun i' hi => zm_77 ht hB (fun j' hj => zm_102 ht hi (zm_126 ht hj (zm_152 hi (zm_192 hj (zm_230 (zm_nx_gt hA ht).2 (zm_nx_gt hB ht).2 (zm_241 hh _ _ (H i' j' hi hj)))))))))
end
end
section
/-! the ends of make: cells, the difference that is empty, the first interval of a set -/
def zk_at (a1 a2 a3 : Nat → Int32) (s : Nat) (c : Option (Nat × Nat)) : Prop := ∃ e : Nat, a1 s = nI e ∧ zm_cu a2 a3 (40 * s) (40 * s + e) c
def zk_sz (c : Option (Nat × Nat)) : Nat := match c with
  | none => 0
  | some w => w.2 - w.1 + 1
theorem zk_e (s c : Nat) : 40 * nI s + nI c = nI (40 * s + c) := by
  rw [show (40 : Int32) = nI 40 from rfl, pk_mul, nI_add]
theorem zk_m (s : Nat) : 40 * nI s = nI (40 * s) := pk_mul 40 s
section
variable {f0 f1 f2 : Int32} {a1 a2 a3 a4 a5 : Nat → Int32}
theorem zk_yes {post : Int32 → Prop} {s : Nat} (hs : s < 4) (hp : post 1) : wpX_isSet post (f0, f1, f2, a1, a2, a3, a4, a5) (nI s) :=
  pk_lt s 0 (fun z => absurd z (by omega)) (fun _ => pk_lt 3 s (fun z => absurd z (by omega)) (fun _ => hp))
theorem zk_no {post : Int32 → Prop} {x : Int32} (h : x < 0 ∨ 3 < x) (hp : post 0) : wpX_isSet post (f0, f1, f2, a1, a2, a3, a4, a5) x :=
  br_c (fun _ => hp) (fun z => br_t (h.resolve_left z) hp)
theorem zk_cells {post : Int32 → Prop} {s : Nat} {c : Option (Nat × Nat)} (hs : s < 4) (h : zk_at a1 a2 a3 s c) (hp : post (nI (zk_sz c))) :
    wpX_cells post (f0, f1, f2, a1, a2, a3, a4, a5) (nI s) := by
  obtain ⟨e, ha, hc⟩ := h
  unfold wpX_cells
  refine zk_yes hs (br_f (by decide) (nm_r (zk_m s) ?_))
  have q : (nI s).toNatClampNeg = s := nI_clamp (by omega)
  have q2 : (nI (40 * s)).toNatClampNeg = 40 * s := nI_clamp (by omega)
  cases c with
  | none =>
    have h' : 40 * s + e = 40 * s ∧ 40 * s ≤ 200 := hc
    refine ⟨1, pk_in s 5 (by omega), ?_⟩
    rw [q, ha]
    exact pk_le (40 * s + e) (40 * s) (fun _ => hp) (fun z => absurd z (by omega)) (zk_e s e)
  | some w =>
    obtain ⟨h1, h2, h3, h4, h5, h6⟩ := hc
    refine ⟨2, pk_in s 5 (by omega), ?_⟩
    rw [q, ha, q2, h3, h4]
    refine pk_le (40 * s + e) (40 * s) (fun z => absurd z (by omega)) (fun _ => ⟨pk_in (40 * s) 200 (by omega), pk_in (40 * s) 200 (by omega), nm_r (e' := nI (w.2 - w.1 + 1)) ?_ (nm_r (nI_1 _) ⟨pk_in s 5 (by omega), ?_⟩)⟩) (zk_e s e)
    · rw [pk_sub h5, nI_1, show (0 : Int32) = nI 0 from rfl, nI_add, Nat.zero_add]
    · rw [q, ha]
      exact pk_le (40 * s + e) (40 * s + 1) (fun _ => hp) (fun z => absurd z (by omega)) (zk_e s e)
theorem zk_fin0 {post : Int32 → St2 → Prop} {t n : Nat} {x2 x5 x6 x7 x8 : Int32} (ht : t < 4) (H : ∀ u, post 0 u) :
    wX_make_44 post (nI t) x2 x7 x8 (n + 1) x5 x6 (nI 256) (nI 0) f1 f2 a1 a2 a3 a4 a5 := by
  refine pk_le 256 256 (fun _ => pk_le 0 40 (fun _ => ⟨1, pk_le 0 0 (fun _ => ⟨pk_in t 5 (by omega), nm_r (e' := upd a1 t (nI 0)) ?_ ?_⟩) (fun z => absurd z (by omega))⟩) (fun z => absurd z (by omega))) (fun z => absurd z (by omega))
  · rw [nI_clamp (show t < 2 ^ 31 by omega), show (nI 0).toInt8.toInt32 = nI 0 by decide]
  · exact zk_cells (c := none) ht ⟨0, pk_us, rfl, by omega⟩ (H _)
theorem zk_fin1 {post : Int32 → St2 → Prop} {s n lo hi : Nat} {x2 x5 x6 x7 x8 : Int32} (hs : s < 4) (hl : lo ≤ hi) (hh : hi ≤ 255) (h4 : a4 0 = nI lo) (h5 : a5 0 = nI hi)
    (H : ∀ f0' a1' a2' a3' a4' a5', zk_at a1' a2' a3' s (some (lo, hi)) → (∀ t, t < 4 → t ≠ s → a1' t = a1 t) → post (nI (hi - lo + 1)) (f0', f1, f2, a1', a2', a3', a4', a5')) :
    wX_make_44 post (nI s) x2 x7 x8 (n + 1) x5 x6 (nI 256) (nI 1) f1 f2 a1 a2 a3 a4 a5 := by
  have e0 : ((40 : Int32) * nI s + 0).toNatClampNeg = 40 * s := pk_cl (40 * s) (zk_e s 0)
  have e1 : upd a2 ((40 : Int32) * nI s + 0).toNatClampNeg (vp_nar .short (a4 (0 : Int32).toNatClampNeg)) = upd a2 (40 * s) (nI lo) := by
    rw [e0, sb_cl0, h4, vp_nar_short, zn_short lo (by omega)]
  have e2 : upd a3 ((40 : Int32) * nI s + 0).toNatClampNeg (vp_nar .short (a5 (0 : Int32).toNatClampNeg)) = upd a3 (40 * s) (nI hi) := by
    rw [e0, sb_cl0, h5, vp_nar_short, zn_short hi (by omega)]
  have e3 : upd a1 (nI s).toNatClampNeg (nI 1).toInt8.toInt32 = upd a1 s (nI 1) := by
    rw [nI_clamp (show s < 2 ^ 31 by omega), show (nI 1).toInt8.toInt32 = nI 1 by decide]
  have K : zk_at (upd a1 s (nI 1)) (upd a2 (40 * s) (nI lo)) (upd a3 (40 * s) (nI hi)) s (some (lo, hi)) := ⟨1, pk_us, rfl, by omega, pk_us, pk_us, hl, hh⟩
  have I0 : vp_in ((40 : Int32) * nI s + 0) 200 := pk_in (40 * s) 200 (by omega) (zk_e s 0)
  refine pk_le 256 256 (fun _ => pk_le 1 40 (fun _ => ⟨2, pk_le 1 0 (fun z => absurd z (by omega)) (fun _ => ⟨pk_in 0 84 (by omega), I0, nm_r e1 ⟨pk_in 0 84 (by omega), I0, nm_r e2 (nm_r (nI_1 0) ?_)⟩⟩)⟩) (fun z => absurd z (by omega))) (fun z => absurd z (by omega))
  refine pk_le 1 (0 + 1) (fun _ => ⟨pk_in s 5 (by omega), nm_r e3 ?_⟩) (fun z => absurd z (by omega))
  exact zk_cells hs K (H _ _ _ _ _ _ K (fun t _ hn => pk_un hn))
theorem zk_u2 {post : Int32 → St2 → Prop} {s n lo hi i j eA eB t : Nat} {cB : Option (Nat × Nat)} (hs : s < 4) (hl : lo ≤ hi) (hh : hi ≤ 255) (h4 : a4 0 = nI lo) (h5 : a5 0 = nI hi) (hA : zm_cu a2 a3 i eA none) (hB : zm_cu a2 a3 j eB cB) (hn : zm_sk cB t = none) (ht : t ≤ 256)
    (H : ∀ f0' a1' a2' a3' a4' a5', zk_at a1' a2' a3' s (some (lo, hi)) → (∀ t, t < 4 → t ≠ s → a1' t = a1 t) → post (nI (hi - lo + 1)) (f0', f1, f2, a1', a2', a3', a4', a5')) :
    wX_make_44 post (nI s) (nI 1) (nI eA) (nI eB) (n + 2) (nI i) (nI j) (nI t) (nI 1) f1 f2 a1 a2 a3 a4 a5 := by
  rcases Nat.lt_or_eq_of_le ht with ht | rfl
  · refine zm_step (Or.inl rfl) ht hA hB (fun i' j' _ _ => ?_)
    rw [hn]
    exact br_t rfl (zk_fin1 hs hl hh h4 h5 H)
  · exact zk_fin1 hs hl hh h4 h5 H
theorem zk_u1 {post : Int32 → St2 → Prop} {s n lo hi i j eA eB : Nat} (hs : s < 4) (hl : lo ≤ hi) (hh : hi ≤ 255) (hA : zm_cu a2 a3 i eA none) (hB : zm_cu a2 a3 j eB (some (lo, hi)))
    (H : ∀ f0' a1' a2' a3' a4' a5', zk_at a1' a2' a3' s (some (lo, hi)) → (∀ t, t < 4 → t ≠ s → a1' t = a1 t) → post (nI (hi - lo + 1)) (f0', f1, f2, a1', a2', a3', a4', a5')) :
    wX_make_44 post (nI s) (nI 1) (nI eA) (nI eB) (n + 3) (nI i) (nI j) (nI lo) (nI 0) f1 f2 a1 a2 a3 a4 a5 := by
  refine zm_step (Or.inl rfl) (by omega) hA hB (fun i' j' hi' hj' => ?_)
  have k1 : zm_sk (some (lo, hi)) lo = some (lo, hi) := if_neg (Nat.not_lt.mpr hl)
  rw [k1] at hj' ⊢
  rw [show zm_op 1 (zm_in (zm_sk none lo) lo) (zm_in (some (lo, hi)) lo) = true by rw [show zm_in (some (lo, hi)) lo = true from decide_eq_true (Nat.le_refl lo)]; rfl,
    show zm_nx (some (lo, hi)) lo = hi + 1 from if_pos (Nat.le_refl lo), show zm_nx (zm_sk none lo) lo = 256 from rfl, show min 256 (hi + 1) = hi + 1 by omega]
  have g4 : upd a4 (nI 0).toNatClampNeg (nI lo).toInt16.toInt32 = upd a4 0 (nI lo) := by
    rw [nI_clamp (show 0 < 2 ^ 31 by omega), zn_short lo (by omega)]
  have g5 : upd a5 (nI 0).toNatClampNeg (nI (hi + 1) - 1).toInt16.toInt32 = upd a5 0 (nI hi) := by
    rw [nI_clamp (show 0 < 2 ^ 31 by omega), nI_pred, zn_short hi (by omega)]
  refine br_f (by decide) (pk_le 0 0 (fun _ => ⟨pk_in 0 84 (by omega), nm_r g4 ⟨pk_in 0 84 (by omega), nm_r g5 (nm_r (nI_1 0) ?_)⟩⟩) (fun z => absurd z (by omega)))
  exact zk_u2 hs hl hh pk_us pk_us hi' hj' (if_pos (Nat.lt_succ_self hi)) (by omega) H
theorem zk_u0 {post : Int32 → St2 → Prop} {s n lo hi i j eA eB : Nat} (hs : s < 4) (hl : lo ≤ hi) (hh : hi ≤ 255) (hA : zm_cu a2 a3 i eA none) (hB : zm_cu a2 a3 j eB (some (lo, hi)))
    (H : ∀ f0' a1' a2' a3' a4' a5', zk_at a1' a2' a3' s (some (lo, hi)) → (∀ t, t < 4 → t ≠ s → a1' t = a1 t) → post (nI (hi - lo + 1)) (f0', f1, f2, a1', a2', a3', a4', a5')) :
    wX_make_44 post (nI s) (nI 1) (nI eA) (nI eB) (n + 4) (nI i) (nI j) (nI 0) (nI 0) f1 f2 a1 a2 a3 a4 a5 := by
  rcases Nat.eq_zero_or_pos lo with rfl | hp
  · exact zk_u1 hs hl hh hA hB H
  · refine zm_step (Or.inl rfl) (by omega) hA hB (fun i' j' hi' hj' => ?_)
    have k1 : zm_sk (some (lo, hi)) 0 = some (lo, hi) := rfl
    rw [k1] at hj' ⊢
    rw [show zm_op 1 (zm_in (zm_sk none 0) 0) (zm_in (some (lo, hi)) 0) = false by rw [show zm_in (some (lo, hi)) 0 = false from decide_eq_false (Nat.not_le.mpr hp)]; rfl,
      show zm_nx (some (lo, hi)) 0 = lo from if_neg (Nat.not_le.mpr hp), show zm_nx (zm_sk none 0) 0 = 256 from rfl, show min 256 lo = lo by omega]
    exact br_t rfl (zk_u1 hs hl hh hi' hj' H)
/-- the set s was empty, the operand is one interval: their union -/
theorem zk_union {post : Int32 → St2 → Prop} {s lo hi : Nat} (hs : s < 4) (hl : lo ≤ hi) (hh : hi ≤ 255) (h1 : a1 s = nI 0) (h14 : a1 4 = nI 1) (h2 : a2 160 = nI lo) (h3 : a3 160 = nI hi)
    (H : ∀ f0' a1' a2' a3' a4' a5', zk_at a1' a2' a3' s (some (lo, hi)) → (∀ t, t < 4 → t ≠ s → a1' t = a1 t) → post (nI (hi - lo + 1)) (f0', f1, f2, a1', a2', a3', a4', a5')) :
    wpX_make post (f0, f1, f2, a1, a2, a3, a4, a5) (nI s) 1 (nI s) 4 := by
  unfold wpX_make
  refine nm_r (zk_m s) (nm_r (zk_m 4) ⟨pk_in s 5 (by omega), nm_r (e' := nI (40 * s + 0)) ?_ ⟨pk_in 4 5 (by omega), nm_r (e' := nI (160 + 1)) ?_ ⟨4, ?_⟩⟩⟩)
  · rw [nI_clamp (show s < 2 ^ 31 by omega), h1, nI_add]
  · rw [show (4 : Int32).toNatClampNeg = 4 by decide, h14, nI_add]
  · exact zk_u0 (n := 0) hs hl hh (i := 40 * s) (j := 160) ⟨rfl, by omega⟩ ⟨rfl, by omega, h2, h3, hl, hh⟩ H
/-- a difference that holds nothing -/
theorem zk_diff {post : Int32 → St2 → Prop} {t s : Nat} {cA cB : Option (Nat × Nat)} (ht : t < 4) (hs : s < 4) (hA : zk_at a1 a2 a3 t cA) (hB : zk_at a1 a2 a3 s cB) (hc : cA = none ∨ cA = cB) (H : ∀ u, post 0 u) :
    wpX_make post (f0, f1, f2, a1, a2, a3, a4, a5) (nI t) 2 (nI t) (nI s) := by
  obtain ⟨eA, ea, hA⟩ := hA
  obtain ⟨eB, eb, hB⟩ := hB
  unfold wpX_make
  refine nm_r (zk_m t) (nm_r (zk_m s) ⟨pk_in t 5 (by omega), nm_r (e' := nI (40 * t + eA)) ?_ ⟨pk_in s 5 (by omega), nm_r (e' := nI (40 * s + eB)) ?_ ?_⟩⟩)
  · rw [nI_clamp (show t < 2 ^ 31 by omega), ea, nI_add]
  · rw [nI_clamp (show s < 2 ^ 31 by omega), eb, nI_add]
  · refine lp3 (fun n x5 x6 x9 => wX_make_44 post (nI t) (nI 2) (nI (40 * t + eA)) (nI (40 * s + eB)) n x5 x6 x9 (nI 0) f1 f2 a1 a2 a3 a4 a5)
      (fun x5 x6 x9 => ∃ i j p dA dB, x5 = nI i ∧ x6 = nI j ∧ x9 = nI p ∧ p ≤ 256 ∧ zm_cu a2 a3 i (40 * t + eA) dA ∧ zm_cu a2 a3 j (40 * s + eB) dB ∧ (dA = none ∨ dA = dB))
      (fun _ _ x9 => 256 - x9.toNatClampNeg) ?_ (nI (40 * t)) (nI (40 * s)) (nI 0) ⟨40 * t, 40 * s, 0, cA, cB, rfl, rfl, rfl, by omega, hA, hB, hc⟩
    rintro n x5 x6 x9 ⟨i, j, p, dA, dB, rfl, rfl, rfl, hp, gA, gB, gc⟩ hw
    rcases Nat.lt_or_eq_of_le hp with hp | rfl
    · refine zm_step (Or.inr rfl) hp gA gB (fun i' j' hi' hj' => ?_)
      have kA := zm_nx_gt gA hp
      have kB := zm_nx_gt gB hp
      have ko : zm_op 2 (zm_in (zm_sk dA p) p) (zm_in (zm_sk dB p) p) = false := by
        rcases gc with rfl | rfl
        · rfl
        · cases zm_in (zm_sk dA p) p <;> rfl
      rw [ko]
      refine br_t rfl (hw _ _ _ ⟨i', j', _, zm_sk dA p, zm_sk dB p, rfl, rfl, rfl, by omega, hi', hj', ?_⟩ ?_)
      · rcases gc with rfl | rfl
        · exact Or.inl rfl
        · exact Or.inr rfl
      · rw [nI_clamp (by omega), nI_clamp (by omega)]
        omega
    · exact zk_fin0 ht H
end
end
section
/-! has, touched, stretches, pieces, combine over a set of at most one interval -/
def zr_has (c : Option (Nat × Nat)) (x y : Int32) : Int32 :=
  if x < 0 ∨ 15 < x ∨ y < 0 ∨ 15 < y then 0 else match c with
  | none => 0
  | some w => if ¬ zn_num x y < nI w.1 ∧ zn_num x y ≤ nI w.2 then 1 else 0
def zr_tou (c : Option (Nat × Nat)) (l : Nat) : Nat := match c with
  | none => 0
  | some w => w.2 / 2 ^ (8 - 2 * l) - w.1 / 2 ^ (8 - 2 * l) + 1
def zr_la : Nat → Int32 → Int32 → Int32 → Option Int32
  | 0, _, _, _ => none
  | n + 1, x1, x2, x3 => if 256 ≤ x3 then some x3 else if (4 * x3) = 0 then none else
      if (x1 - x1 / (4 * x3) * (4 * x3)) = 0 then (if x2 < ((x1 + (4 * x3)) - 1) then some x3 else zr_la n x1 x2 (x3 * 4)) else some x3
theorem zr_sm : ∀ l, l < 5 → ((nI (8 - 2 * l) &&& 31).toBitVec.smod 32).toNat = 8 - 2 * l := by decide +kernel
theorem zr_ne : ∀ n, n < 256 → ¬ nI n = -1 := by decide +kernel
section
variable {f0 f1 f2 : Int32} {a1 a2 a3 a4 a5 : Nat → Int32}
theorem zr_cell_no {post : Int32 → Prop} {x y : Int32} (h : x < 0 ∨ 15 < x ∨ y < 0 ∨ 15 < y) (hp : post 0) : wpX_isCell post (f0, f1, f2, a1, a2, a3, a4, a5) x y :=
  br_c (fun _ => hp) (fun z1 => br_c (fun _ => hp) (fun z2 => br_c (fun _ => hp) (fun z3 => br_t (((h.resolve_left z1).resolve_left z2).resolve_left z3) hp)))
theorem zr_cell_yes {post : Int32 → Prop} {x y : Int32} (h : ¬ (x < 0 ∨ 15 < x ∨ y < 0 ∨ 15 < y)) (hp : post 1) : wpX_isCell post (f0, f1, f2, a1, a2, a3, a4, a5) x y :=
  br_f (fun z => h (Or.inl z)) (br_f (fun z => h (Or.inr (Or.inl z))) (br_f (fun z => h (Or.inr (Or.inr (Or.inl z)))) (br_f (fun z => h (Or.inr (Or.inr (Or.inr z)))) hp)))
theorem zr_has_wp {post : Int32 → Prop} {s : Nat} {c : Option (Nat × Nat)} {x y : Int32} (hs : s < 4) (h : zk_at a1 a2 a3 s c) (hp : post (zr_has c x y)) :
    wpX_has post (f0, f1, f2, a1, a2, a3, a4, a5) (nI s) x y := by
  obtain ⟨e, ha, hc⟩ := h
  have q : (nI s).toNatClampNeg = s := nI_clamp (by omega)
  have q2 : (nI (40 * s)).toNatClampNeg = 40 * s := nI_clamp (by omega)
  unfold wpX_has
  refine zk_yes hs (br_f (by decide) ?_)
  by_cases hx : x < 0 ∨ 15 < x ∨ y < 0 ∨ 15 < y
  · rw [show zr_has c x y = 0 from if_pos hx] at hp
    exact zr_cell_no hx (br_t rfl hp)
  · refine zr_cell_yes hx (br_f (by decide) (zn_wp (nm_r (zk_m s) ⟨pk_in s 5 (by omega), nm_r (e' := nI (40 * s + e)) ?_ ?_⟩)))
    · rw [q, ha, nI_add]
    · cases c with
      | none =>
        rw [show zr_has none x y = 0 from if_neg hx] at hp
        have h' : 40 * s + e = 40 * s ∧ 40 * s ≤ 200 := hc
        refine ⟨1, pk_le (40 * s + e) (40 * s) (fun _ => ⟨pk_in s 5 (by omega), ?_⟩) (fun z => absurd z (by omega))⟩
        rw [q, ha]
        exact pk_le (40 * s + e) (40 * s) (fun _ => hp) (fun z => absurd z (by omega)) (zk_e s e)
      | some w =>
        rw [show zr_has (some w) x y = if ¬ zn_num x y < nI w.1 ∧ zn_num x y ≤ nI w.2 then 1 else 0 from if_neg hx] at hp
        obtain ⟨h1, h2, h3, h4, h5, h6⟩ := hc
        refine ⟨2, pk_le (40 * s + e) (40 * s) (fun z => absurd z (by omega)) (fun _ => ⟨by decide, nm_r (e' := nI (40 * s)) ?_ ⟨pk_in (40 * s) 200 (by omega), ?_⟩⟩)⟩
        · rw [nI_add, show (2 : Int32) = nI 2 from rfl, pk_div (by omega) (by omega) (by omega), show (40 * s + (40 * s + e)) / 2 = 40 * s by omega]
        · rw [q2, h4]
          refine br_c (fun hn => ?_) (fun hn => nm_r (nI_1 (40 * s)) ?_)
          · refine pk_le (40 * s) (40 * s) (fun _ => ⟨pk_in s 5 (by omega), ?_⟩) (fun z => absurd z (by omega))
            rw [q, ha]
            refine pk_le (40 * s + e) (40 * s) (fun z => absurd z (by omega)) (fun _ => ⟨pk_in (40 * s) 200 (by omega), ?_⟩) (zk_e s e)
            rw [q2, h3]
            refine br_c (fun hl => ?_) (fun hl => ?_)
            · rw [if_neg (fun g => g.1 hl)] at hp
              exact hp
            · rw [if_pos ⟨hl, hn⟩] at hp
              exact hp
          · rw [if_neg (fun g => hn g.2)] at hp
            refine pk_le (40 * s + e) (40 * s + 1) (fun _ => ⟨pk_in s 5 (by omega), ?_⟩) (fun z => absurd z (by omega))
            rw [q, ha]
            exact pk_le (40 * s + e) (40 * s + 1) (fun _ => hp) (fun z => absurd z (by omega)) (zk_e s e)
theorem zr_has_no {post : Int32 → Prop} {x y z : Int32} (h : x < 0 ∨ 3 < x) (hp : post 0) : wpX_has post (f0, f1, f2, a1, a2, a3, a4, a5) x y z := by
  unfold wpX_has
  exact zk_no h (br_t rfl hp)
theorem zr_tou_wp {post : Int32 → Prop} {s l : Nat} {c : Option (Nat × Nat)} (hs : s < 4) (hl : l ≤ 4) (h : zk_at a1 a2 a3 s c) (hp : post (nI (zr_tou c l))) :
    wpX_touched post (f0, f1, f2, a1, a2, a3, a4, a5) (nI s) (nI l) := by
  obtain ⟨e, ha, hc⟩ := h
  have q : (nI s).toNatClampNeg = s := nI_clamp (by omega)
  have q2 : (nI (40 * s)).toNatClampNeg = 40 * s := nI_clamp (by omega)
  unfold wpX_touched
  refine zk_yes hs (br_f (by decide) (pk_lt l 0 (fun z => absurd z (by omega)) (fun _ => pk_le l 4 (fun _ => nm_r (e' := nI (8 - 2 * l)) ?_ (nm_r (zk_m s) ?_)) (fun z => absurd z (by omega)))))
  · rw [show (2 : Int32) = nI 2 from rfl, pk_mul, show (8 : Int32) = nI 8 from rfl, pk_sub (by omega)]
  · cases c with
    | none =>
      have h' : 40 * s + e = 40 * s ∧ 40 * s ≤ 200 := hc
      refine ⟨1, pk_in s 5 (by omega), ?_⟩
      rw [q, ha]
      exact pk_le (40 * s + e) (40 * s) (fun _ => hp) (fun z => absurd z (by omega)) (zk_e s e)
    | some w =>
      obtain ⟨h1, h2, h3, h4, h5, h6⟩ := hc
      have b1 : w.1 / 2 ^ (8 - 2 * l) ≤ w.1 := Nat.div_le_self _ _
      have b2 : w.1 / 2 ^ (8 - 2 * l) ≤ w.2 / 2 ^ (8 - 2 * l) := Nat.div_le_div_right h5
      refine ⟨2, pk_in s 5 (by omega), ?_⟩
      rw [q, ha, q2, h3, h4]
      refine pk_le (40 * s + e) (40 * s) (fun z => absurd z (by omega)) (fun _ => ⟨pk_in (40 * s) 200 (by omega), nm_r (pk_shrN (by omega) _ (8 - 2 * l) (zr_sm l (by omega))) ⟨pk_in (40 * s) 200 (by omega), nm_r (pk_shrN (by omega) _ (8 - 2 * l) (zr_sm l (by omega))) (br_f (zr_ne _ (by omega)) (nm_r (e' := nI (w.2 / 2 ^ (8 - 2 * l) - w.1 / 2 ^ (8 - 2 * l) + 1)) ?_ (nm_r (nI_1 (40 * s)) ⟨pk_in s 5 (by omega), ?_⟩)))⟩⟩) (zk_e s e)
      · rw [pk_sub b2, nI_1, show (0 : Int32) = nI 0 from rfl, nI_add, Nat.zero_add]
      · rw [q, ha]
        exact pk_le (40 * s + e) (40 * s + 1) (fun _ => hp) (fun z => absurd z (by omega)) (zk_e s e)
theorem zr_tou_bad {post : Int32 → Prop} {s : Nat} {x : Int32} (hs : s < 4) (h : x < 0 ∨ ¬ x ≤ 4) (hp : post (-1)) :
    wpX_touched post (f0, f1, f2, a1, a2, a3, a4, a5) (nI s) x := by
  unfold wpX_touched
  exact zk_yes hs (br_f (by decide) (br_c (fun _ => hp) (fun z => br_f (h.resolve_left z) hp)))
theorem zr_tou_no {post : Int32 → Prop} {x y : Int32} (h : x < 0 ∨ 3 < x) (hp : post (-1)) : wpX_touched post (f0, f1, f2, a1, a2, a3, a4, a5) x y := by
  unfold wpX_touched
  exact zk_no h (br_t rfl hp)
theorem zr_str_wp {post : Int32 → Prop} {s : Nat} {c : Option (Nat × Nat)} (hs : s < 4) (h : zk_at a1 a2 a3 s c) (hp : post (zm_b c.isSome)) :
    wpX_stretches post (f0, f1, f2, a1, a2, a3, a4, a5) (nI s) := by
  obtain ⟨e, ha, hc⟩ := h
  unfold wpX_stretches
  refine zk_yes hs (br_f (by decide) ⟨pk_in s 5 (by omega), ?_⟩)
  rw [nI_clamp (show s < 2 ^ 31 by omega), ha]
  cases c with
  | none =>
    have h' : 40 * s + e = 40 * s ∧ 40 * s ≤ 200 := hc
    rw [show e = 0 by omega]
    exact hp
  | some w =>
    have h' := hc.1
    rw [show e = 1 by omega]
    exact hp
theorem zr_str_no {post : Int32 → Prop} {x : Int32} (h : x < 0 ∨ 3 < x) (hp : post (-1)) : wpX_stretches post (f0, f1, f2, a1, a2, a3, a4, a5) x := by
  unfold wpX_stretches
  exact zk_no h (br_t rfl hp)
theorem zr_la_wp {post : Int32 → Prop} {x1 x2 : Int32} : ∀ (n : Nat) (x3 r : Int32), zr_la n x1 x2 x3 = some r → post r → wX_largestAt_2 post x1 x2 f0 f1 f2 a1 a2 a3 a4 a5 n x3 := by
  intro n
  induction n with
  | zero =>
    intro x3 r h _
    exact absurd h (by intro g; cases g)
  | succ n ih =>
    intro x3 r h hp
    unfold zr_la at h
    by_cases c1 : 256 ≤ x3
    · rw [if_pos c1] at h
      rw [← Option.some.inj h] at hp
      exact br_t c1 hp
    · rw [if_neg c1] at h
      by_cases c2 : (4 * x3) = 0
      · rw [if_pos c2] at h
        cases h
      · rw [if_neg c2] at h
        refine br_f c1 ⟨c2, ?_⟩
        by_cases c3 : (x1 - x1 / (4 * x3) * (4 * x3)) = 0
        · rw [if_pos c3] at h
          by_cases c4 : x2 < ((x1 + (4 * x3)) - 1)
          · rw [if_pos c4] at h
            rw [← Option.some.inj h] at hp
            exact br_t c3 (br_t c4 hp)
          · rw [if_neg c4] at h
            exact br_t c3 (br_f c4 (nm_e (ih _ r h hp)))
        · rw [if_neg c3] at h
          rw [← Option.some.inj h] at hp
          exact br_f c3 hp
theorem zr_pie_0 {post : Int32 → Prop} {s : Nat} (hs : s < 4) (h : zk_at a1 a2 a3 s none) (hp : post 0) :
    wpX_pieces post (f0, f1, f2, a1, a2, a3, a4, a5) (nI s) := by
  obtain ⟨e, ha, hc⟩ := h
  have h' : 40 * s + e = 40 * s ∧ 40 * s ≤ 200 := hc
  unfold wpX_pieces
  refine zk_yes hs (br_f (by decide) (nm_r (zk_m s) ⟨1, pk_in s 5 (by omega), ?_⟩))
  rw [nI_clamp (show s < 2 ^ 31 by omega), ha]
  exact pk_le (40 * s + e) (40 * s) (fun _ => hp) (fun z => absurd z (by omega)) (zk_e s e)
theorem zr_pie_1 {post : Int32 → Prop} {s : Nat} {w : Nat × Nat} (hs : s < 4) (h : zk_at a1 a2 a3 s (some w)) (hla : zr_la 5 (nI w.1) (nI w.2) 1 = some (nI (w.2 - w.1 + 1))) (hp : post 1) :
    wpX_pieces post (f0, f1, f2, a1, a2, a3, a4, a5) (nI s) := by
  obtain ⟨e, ha, h1, h2, h3, h4, h5, h6⟩ := h
  have q : (nI s).toNatClampNeg = s := nI_clamp (by omega)
  have q2 : (nI (40 * s)).toNatClampNeg = 40 * s := nI_clamp (by omega)
  unfold wpX_pieces
  refine zk_yes hs (br_f (by decide) (nm_r (zk_m s) ⟨2, pk_in s 5 (by omega), ?_⟩))
  rw [q, ha, q2, h3]
  refine pk_le (40 * s + e) (40 * s) (fun z => absurd z (by omega)) (fun _ => ⟨pk_in (40 * s) 200 (by omega), nm_e ⟨2, pk_in (40 * s) 200 (by omega), ?_⟩⟩) (zk_e s e)
  rw [q2, h4]
  refine pk_lt w.2 w.1 (fun z => absurd z (by omega)) (fun _ => ⟨pk_in (40 * s) 200 (by omega), ⟨5, zr_la_wp 5 1 _ hla (nm_r (e' := nI (w.2 + 1)) ?_ (nm_r (nI_1 0) ⟨pk_in (40 * s) 200 (by omega), ?_⟩))⟩⟩)
  · rw [nI_add, show w.1 + (w.2 - w.1 + 1) = w.2 + 1 by omega]
  · rw [q2, h4]
    refine pk_lt w.2 (w.2 + 1) (fun _ => nm_r (nI_1 (40 * s)) ⟨pk_in s 5 (by omega), ?_⟩) (fun z => absurd z (by omega))
    rw [q, ha]
    exact pk_le (40 * s + e) (40 * s + 1) (fun _ => hp) (fun z => absurd z (by omega)) (zk_e s e)
theorem zr_pie_no {post : Int32 → Prop} {x : Int32} (h : x < 0 ∨ 3 < x) (hp : post (-1)) : wpX_pieces post (f0, f1, f2, a1, a2, a3, a4, a5) x := by
  unfold wpX_pieces
  exact zk_no h (br_t rfl hp)
theorem zr_com_wp {post : Int32 → St2 → Prop} {t s : Nat} {cA cB : Option (Nat × Nat)} (ht : t < 4) (hs : s < 4) (hA : zk_at a1 a2 a3 t cA) (hB : zk_at a1 a2 a3 s cB) (hc : cA = none ∨ cA = cB) (H : ∀ u, post 0 u) :
    wpX_combine post (f0, f1, f2, a1, a2, a3, a4, a5) (nI t) 2 (nI t) (nI s) := by
  unfold wpX_combine
  exact zk_yes ht (br_f (by decide) (zk_yes ht (br_f (by decide) (zk_yes hs (br_f (by decide) (br_f (by decide) (br_t (by decide) (zk_diff ht hs hA hB hc (fun u => H u)))))))))
theorem zr_com_no {post : Int32 → St2 → Prop} {x y : Int32} (h : x < 0 ∨ 3 < x) (H : ∀ u, post (-1) u) : wpX_combine post (f0, f1, f2, a1, a2, a3, a4, a5) x 2 x y := by
  unfold wpX_combine
  exact zk_no h (br_t rfl (H _))
theorem zr_com_no2 {post : Int32 → St2 → Prop} {x : Int32} {t : Nat} (ht : t < 4) (h : x < 0 ∨ 3 < x) (H : ∀ u, post (-1) u) : wpX_combine post (f0, f1, f2, a1, a2, a3, a4, a5) (nI t) 2 (nI t) x := by
  unfold wpX_combine
  exact zk_yes ht (br_f (by decide) (zk_yes ht (br_f (by decide) (zk_no h (br_t rfl (H _))))))
end
end
section
/-! change; the law's roads -/
theorem zl_b1 : ¬ zm_b true = 0 := by decide
theorem zl_pow : ∀ k, k < 5 → (1 : Int32) <<< (nI k &&& 31) = nI (2 ^ k) ∧ (1 : Int32) <<< ((nI k &&& 7) &&& 31) = nI (2 ^ k) ∧ (1 : Int32) <<< ((4 - nI k) &&& 31) = nI (2 ^ (4 - k)) ∧ (16 : Int32) >>> (nI k &&& 31) = nI (2 ^ (4 - k)) ∧ 2 ^ (4 - k) * 2 ^ (4 - k) = 4 ^ (4 - k) ∧ 4 ^ (4 - k) ≤ 256 ∧ 2 ^ k ≤ 16 := by decide +kernel
theorem zl_la_tab : ∀ k, k < 5 → ∀ q, q < 4 ^ k → zr_la 5 (nI (q * 4 ^ (4 - k))) (nI (q * 4 ^ (4 - k) + 4 ^ (4 - k) - 1)) 1 = some (nI (4 ^ (4 - k))) := by decide +kernel
theorem zl_tou_tab : ∀ k, k < 5 → ∀ q, q < 4 ^ k → ∀ l, l < 5 →
    (k < l → (1 : Int32) <<< ((2 * (nI l - nI k)) &&& 31) = nI (zr_tou (some (q * 4 ^ (4 - k), q * 4 ^ (4 - k) + 4 ^ (4 - k) - 1)) l)) ∧
    (¬ k < l → zr_tou (some (q * 4 ^ (4 - k), q * 4 ^ (4 - k) + 4 ^ (4 - k) - 1)) l = 1) := by decide +kernel
theorem zl_q {k n : Nat} (hk : k < 5) (hn : n < 256) : n / 4 ^ (4 - k) < 4 ^ k := by
  rw [Nat.div_lt_iff_lt_mul (Nat.pow_pos (by decide)), ← Nat.pow_add, show k + (4 - k) = 4 by omega]
  exact hn
theorem zl_sq {m : Nat} (hm : m < 2 ^ 31) : nI m >>> ((10 : Int32) &&& 31) = nI (m / 1024) ∧ (nI m >>> ((5 : Int32) &&& 31)) &&& 31 = nI (m / 32 % 32) ∧ nI m &&& 31 = nI (m % 32) := by
  refine ⟨pk_shrN hm _ 10 (by decide), ?_, pk_andN (by omega) 5 (by decide)⟩
  rw [pk_shrN hm _ 5 (by decide)]
  exact pk_andN (by omega) 5 (by decide)
section
variable {f0 f1 f2 : Int32} {a1 a2 a3 a4 a5 : Nat → Int32}
theorem zl_chg_no {post : Int32 → St2 → Prop} {x p1 p2 : Int32} (h : x < 0 ∨ 3 < x) (hp : post (-1) (f0, f1, f2, a1, a2, a3, a4, a5)) : wpX_change post (f0, f1, f2, a1, a2, a3, a4, a5) x p1 p2 := by
  unfold wpX_change
  exact zk_no h (br_t rfl hp)
theorem zl_chg_neg {post : Int32 → St2 → Prop} {s : Nat} {p1 p2 : Int32} (hs : s < 4) (h : p1 < 0) (hp : post (-1) (f0, f1, f2, a1, a2, a3, a4, a5)) : wpX_change post (f0, f1, f2, a1, a2, a3, a4, a5) (nI s) p1 p2 := by
  unfold wpX_change
  exact zk_yes hs (br_f (by decide) (br_f (Int32.not_le.mpr h) hp))
theorem zl_chg_bad {post : Int32 → St2 → Prop} {s m k u v : Nat} {p2 : Int32} (hs : s < 4) (hm : m < 2 ^ 31) (hk : k = m / 1024) (hu : u = m / 32 % 32) (hv : v = m % 32) (h : ¬ (k ≤ 4 ∧ u < 2 ^ k ∧ v < 2 ^ k))
    (hp : post (-1) (f0, f1, f2, a1, a2, a3, a4, a5)) : wpX_change post (f0, f1, f2, a1, a2, a3, a4, a5) (nI s) (nI m) p2 := by
  obtain ⟨g1, g2, g3⟩ := zl_sq hm
  rw [← hk] at g1
  rw [← hu] at g2
  rw [← hv] at g3
  unfold wpX_change
  refine zk_yes hs (br_f (by decide) (br_t (nI_pos' hm) (nm_r g1 (nm_r g2 (nm_r g3 (pk_lt 4 k (fun _ => hp) (fun z => ?_)))))))
  have P := zl_pow k (by omega)
  rw [P.1]
  have b := P.2.2.2.2.2.2
  exact pk_le (2 ^ k) u (fun _ => hp) (fun z2 => pk_lt v (2 ^ k) (fun z3 => absurd ⟨z, z2, z3⟩ h) (fun _ => hp))
theorem zl_chg_put {post : Int32 → St2 → Prop} {s m k u v d z n : Nat} (hs : s < 4) (hm : m < 2 ^ 31) (hk : k = m / 1024) (hu : u = m / 32 % 32) (hv : v = m % 32) (h : k ≤ 4 ∧ u < 2 ^ k ∧ v < 2 ^ k)
    (hd : d = 2 ^ (4 - k)) (hz : z = 4 ^ (4 - k)) (hn : n = zn_n (u * d) (v * d)) (h1 : a1 s = nI 0)
    (H : ∀ f0' a1' a2' a3' a4' a5', zk_at a1' a2' a3' s (some (n / z * z, n / z * z + z - 1)) → (∀ t, t < 4 → t ≠ s → a1' t = a1 t) → post (nI z) (f0', f1, f2, a1', a2', a3', a4', a5')) :
    wpX_change post (f0, f1, f2, a1, a2, a3, a4, a5) (nI s) (nI m) 1 := by
  obtain ⟨g1, g2, g3⟩ := zl_sq hm
  rw [← hk] at g1
  rw [← hu] at g2
  rw [← hv] at g3
  obtain ⟨P1, P2, P3, P4, P5, P6, P7⟩ := zl_pow k (by omega)
  have fu := zn_fit h.1 h.2.1 hd
  have fv := zn_fit h.1 h.2.2 hd
  have z0 : 0 < z := by rw [hz]; exact Nat.pow_pos (by decide)
  have d0 : 0 < d := by rw [hd]; exact Nat.pow_pos (by decide)
  have T := zn_tab (u * d) (by omega) (v * d) (by omega)
  have hn2 : n < 256 := by rw [hn]; exact T.2
  have hq : n / z < 4 ^ k := by rw [hz]; exact zl_q (by omega) hn2
  have hqz : n / z * z + z ≤ 256 := by
    have a : (n / z + 1) * z ≤ 4 ^ k * z := Nat.mul_le_mul_right z hq
    have b : 4 ^ k * z = 256 := by rw [hz, ← Nat.pow_add, show k + (4 - k) = 4 by omega]
    rw [b, Nat.succ_mul] at a
    exact a
  have M : zn_num (nI u * nI d) (nI v * nI d) &&& (-nI z) = nI (n / z * z) := by
    rw [pk_mul, pk_mul, T.1, ← hn, hz]
    exact zn_mask k (by omega) n hn2
  have E1 : nI d * nI d = nI z := by rw [pk_mul, hd, hz, P5]
  have E2 : (nI (n / z * z)).toInt16.toInt32 = nI (n / z * z) := zn_short _ (by omega)
  have E3 : ((nI (n / z * z) + nI z) - 1).toInt16.toInt32 = nI (n / z * z + z - 1) := by
    rw [nI_add, show n / z * z + z = (n / z * z + z - 1) + 1 by omega, nI_pred]
    exact zn_short _ (by omega)
  rw [← hd] at P3
  unfold wpX_change
  refine zk_yes hs (br_f (by decide) (br_t (nI_pos' hm) (nm_r g1 (nm_r g2 (nm_r g3 (pk_lt 4 k (fun y => absurd y (by omega)) (fun _ => ?_)))))))
  rw [P1]
  refine pk_le (2 ^ k) u (fun y => absurd y (by omega)) (fun _ => pk_lt v (2 ^ k) (fun _ => nm_r P3 (nm_r E1 (zn_wp (nm_r M (nm_e (nm_r (congrArg (upd a2 160) E2) (nm_r (congrArg (upd a3 160) E3) (br_f (by decide) ?_)))))))) (fun y => absurd y (by omega)))
  unfold wX_change_140
  refine zk_union hs (lo := n / z * z) (hi := n / z * z + z - 1) (by omega) (by omega) ?_ ?_ pk_us pk_us ?_
  · rw [pk_un (by omega)]
    exact h1
  · exact pk_us
  · intro f0' a1' a2' a3' a4' a5' K O
    rw [show n / z * z + z - 1 - n / z * z + 1 = z by omega]
    exact H f0' a1' a2' a3' a4' a5' K (fun t ht hn => by rw [O t ht hn, pk_un (by omega)])
section
variable {post : Int32 → St0 → Prop} {mc ms kc ks : Nat}
theorem zl_326 {s : Nat} {c : Option (Nat × Nat)} {x5 z : Int32} (hp : post 1 ()) (hs : s < 4) (h : zk_at a1 a2 a3 s c) (ho : ∀ t, t < 4 → t ≠ s → a1 t = nI 0) :
    wL_lawOf_326 post mc ms (nI s) x5 1 z z kc ks f0 f1 f2 a1 a2 a3 a4 a5 := by
  refine br_t rfl (br_c (fun g => ?_) (fun g => br_c (fun g2 => ?_) (fun g2 => ?_)))
  · unfold wL_lawOf_346 wL_lawOf_347
    exact zr_com_no (Or.inl g) (fun _ => br_t rfl (br_t rfl hp))
  · unfold wL_lawOf_346 wL_lawOf_347
    exact zr_com_no (Or.inr g2) (fun _ => br_t rfl (br_t rfl hp))
  · obtain ⟨t, ht, rfl⟩ := nI_of2 (M := 3) (n := 3) (by decide) g (Int32.not_lt.mp g2)
    unfold wL_lawOf_347
    by_cases e : t = s
    · rw [e]
      exact zr_com_wp hs hs h h (Or.inr rfl) (fun _ => br_f (by decide) (br_f (by decide) (br_t rfl hp)))
    · exact zr_com_wp (cA := none) (by omega) hs ⟨0, ho t (by omega) e, rfl, by omega⟩ h (Or.inl rfl) (fun _ => br_f (by decide) (br_f (by decide) (br_t rfl hp)))
theorem zl_296 {s : Nat} {c : Option (Nat × Nat)} {x5 z : Int32} (hp : post 1 ()) (hs : s < 4) (h : zk_at a1 a2 a3 s c) (ho : ∀ t, t < 4 → t ≠ s → a1 t = nI 0) (hla : ∀ w, c = some w → zr_la 5 (nI w.1) (nI w.2) 1 = some (nI (w.2 - w.1 + 1))) :
    wL_lawOf_296 post mc ms (nI s) x5 (zm_b c.isSome) 1 z z kc ks f0 f1 f2 a1 a2 a3 a4 a5 := by
  refine br_t rfl ?_
  cases c with
  | none => exact zr_pie_0 hs h (br_f (by decide) (br_t rfl (zl_326 hp hs h ho)))
  | some w => exact zr_pie_1 hs h (hla w rfl) (br_f (by decide) (br_f zl_b1 (zl_326 hp hs h ho)))
theorem zl_266 {s : Nat} {c : Option (Nat × Nat)} {x5 z : Int32} (hp : post 1 ()) (hs : s < 4) (h : zk_at a1 a2 a3 s c) (ho : ∀ t, t < 4 → t ≠ s → a1 t = nI 0) (hla : ∀ w, c = some w → zr_la 5 (nI w.1) (nI w.2) 1 = some (nI (w.2 - w.1 + 1))) :
    wL_lawOf_266 post mc ms (nI s) x5 (zm_b c.isSome) 1 z z kc ks f0 f1 f2 a1 a2 a3 a4 a5 := by
  refine br_t rfl (zr_str_wp hs h (br_f (by decide) ?_))
  have L := @zl_296 f0 f1 f2 a1 a2 a3 a4 a5 post mc ms kc ks s c x5 (zm_b c.isSome) hp hs h ho hla
  cases c with
  | none => exact br_t rfl L
  | some w => exact br_f zl_b1 L
theorem zl_234 {s : Nat} {c : Option (Nat × Nat)} {x4 x5 z : Int32} (hp : post 1 ()) (hs : s < 4) (h : zk_at a1 a2 a3 s c) (ho : ∀ t, t < 4 → t ≠ s → a1 t = nI 0) (hla : ∀ w, c = some w → zr_la 5 (nI w.1) (nI w.2) 1 = some (nI (w.2 - w.1 + 1)))
    (hz : ∀ l, l ≤ 4 → x4 = nI l → z = nI (zr_tou c l)) :
    wL_lawOf_234 post mc ms (nI s) x4 x5 (zm_b c.isSome) 1 z kc ks f0 f1 f2 a1 a2 a3 a4 a5 := by
  unfold wL_lawOf_234
  by_cases g : x4 < 0
  · exact zr_tou_bad hs (Or.inl g) (br_f (by decide) (br_t g (zl_266 hp hs h ho hla)))
  · by_cases g2 : x4 ≤ 4
    · obtain ⟨l, hl, e⟩ := nI_of2 (M := 4) (n := 4) (by decide) g g2
      rw [hz l hl e]
      subst e
      exact zr_tou_wp hs hl h (br_f (by decide) (br_f g (br_t g2 (zl_266 hp hs h ho hla))))
    · exact zr_tou_bad hs (Or.inr g2) (br_f (by decide) (br_f g (br_f g2 (zl_266 hp hs h ho hla))))
theorem zl_185 {s : Nat} {c : Option (Nat × Nat)} {x2 x3 x4 x5 x6 z : Int32} (hp : post 1 ()) (hs : s < 4) (h : zk_at a1 a2 a3 s c) (ho : ∀ t, t < 4 → t ≠ s → a1 t = nI 0) (hla : ∀ w, c = some w → zr_la 5 (nI w.1) (nI w.2) 1 = some (nI (w.2 - w.1 + 1)))
    (hz : ∀ w l, c = some w → l ≤ 4 → x4 = nI l → (x6 < x4 → (1 : Int32) <<< ((2 * (x4 - x6)) &&& 31) = nI (zr_tou c l)) ∧ (¬ x6 < x4 → (1 : Int32) = nI (zr_tou c l))) :
    wL_lawOf_185 post mc ms (nI s) x2 x3 x4 x5 x6 (zm_b c.isSome) (zr_has c x2 x3) 1 z z kc ks f0 f1 f2 a1 a2 a3 a4 a5 := by
  refine br_t rfl (zr_has_wp hs h (br_t rfl ?_))
  have L := fun z hz => @zl_234 f0 f1 f2 a1 a2 a3 a4 a5 post mc ms kc ks s c x4 x5 z hp hs h ho hla hz
  cases c with
  | none => exact br_t rfl (L 0 (fun l _ _ => rfl))
  | some w => exact br_f zl_b1 (br_c (fun g => L _ (fun l hl e => (hz w l rfl hl e).1 g)) (fun g => L _ (fun l hl e => (hz w l rfl hl e).2 g)))
/-- s names no set -/
theorem zl_185_no {x0 x2 x3 x4 x5 x6 : Int32} (hp : post 1 ()) (h : x0 < 0 ∨ 3 < x0) : wL_lawOf_185 post mc ms x0 x2 x3 x4 x5 x6 0 0 0 (-1) (-1) kc ks f0 f1 f2 a1 a2 a3 a4 a5 := by
  refine br_t rfl (zr_has_no h (br_t rfl (br_t rfl ?_)))
  unfold wL_lawOf_234
  refine zr_tou_no h (br_t rfl (br_t rfl (zr_str_no h (br_t rfl (br_t rfl (zr_pie_no h (br_t rfl (br_t rfl ?_))))))))
  refine br_c (fun g => ?_) (fun g => br_c (fun g2 => ?_) (fun g2 => ?_))
  · unfold wL_lawOf_346 wL_lawOf_347
    exact zr_com_no (Or.inl g) (fun _ => br_t rfl (br_t rfl hp))
  · unfold wL_lawOf_346 wL_lawOf_347
    exact zr_com_no (Or.inr g2) (fun _ => br_t rfl (br_t rfl hp))
  · obtain ⟨t, ht, rfl⟩ := nI_of2 (M := 3) (n := 3) (by decide) g (Int32.not_lt.mp g2)
    unfold wL_lawOf_347
    exact zr_com_no2 (by omega) h (fun _ => br_f (by decide) (br_t rfl (br_t rfl hp)))
end
end
end
section
/-! the law's entry: the three kinds of script -/
theorem zl_hi {x : Int32} {b : Nat} (hb : b ≤ 16) (h : 15 < x) : nI b ≤ x := by
  rw [Int32.lt_iff_toInt_lt, show (15 : Int32).toInt = 15 by decide] at h
  rw [Int32.le_iff_toInt_le, nI_toInt (show b < 2 ^ 31 by omega)]
  omega
theorem zl_lo {x : Int32} {b : Nat} (hb : b ≤ 16) (h : x < 0) : x < nI b := by
  rw [Int32.lt_iff_toInt_lt, show (0 : Int32).toInt = 0 by decide] at h
  rw [Int32.lt_iff_toInt_lt, nI_toInt (show b < 2 ^ 31 by omega)]
  omega
theorem zl_ite {A B : Prop} [Decidable A] [Decidable B] (h : A ↔ B) : (if A then (1 : Int32) else 0) = if B then 1 else 0 := by
  by_cases a : A
  · rw [if_pos a, if_pos (h.mp a)]
  · rw [if_neg a, if_neg (fun b => a (h.mpr b))]
theorem zl_in {k u v d z n : Nat} (hk : k ≤ 4) (hu : u < 2 ^ k) (hv : v < 2 ^ k) (hd : d = 2 ^ (4 - k)) (hz : z = 4 ^ (4 - k)) (hn : n = zn_n (u * d) (v * d)) (hb : n / z * z + z ≤ 256) (x y : Int32) :
    zr_has (some (n / z * z, n / z * z + z - 1)) x y = if ¬ x < nI (u * d) ∧ ¬ nI ((u + 1) * d) ≤ x ∧ ¬ y < nI (v * d) ∧ ¬ nI ((v + 1) * d) ≤ y then 1 else 0 := by
  have fu := zn_fit hk hu hd
  have fv := zn_fit hk hv hd
  have su : (u + 1) * d ≤ 16 := by rw [Nat.succ_mul]; exact fu
  have sv : (v + 1) * d ≤ 16 := by rw [Nat.succ_mul]; exact fv
  by_cases hx : x < 0 ∨ 15 < x ∨ y < 0 ∨ 15 < y
  · rw [show zr_has (some (n / z * z, n / z * z + z - 1)) x y = 0 from if_pos hx, if_neg]
    intro g
    rcases hx with h | h | h | h
    · exact g.1 (zl_lo (by omega) h)
    · exact g.2.1 (zl_hi su h)
    · exact g.2.2.1 (zl_lo (by omega) h)
    · exact g.2.2.2 (zl_hi sv h)
  · obtain ⟨X, hX, rfl⟩ := nI_of2 (M := 15) (n := 15) (by decide) (fun g => hx (Or.inl g)) (Int32.not_lt.mp (fun g => hx (Or.inr (Or.inl g))))
    obtain ⟨Y, hY, rfl⟩ := nI_of2 (M := 15) (n := 15) (by decide) (fun g => hx (Or.inr (Or.inr (Or.inl g)))) (Int32.not_lt.mp (fun g => hx (Or.inr (Or.inr (Or.inr g)))))
    have T := zn_tab X (by omega) Y (by omega)
    have key := zn_mem hk hu hv (show X < 16 by omega) (show Y < 16 by omega) hd hz hn
    have hN := T.2
    rw [show zr_has (some (n / z * z, n / z * z + z - 1)) (nI X) (nI Y) = if ¬ zn_num (nI X) (nI Y) < nI (n / z * z) ∧ zn_num (nI X) (nI Y) ≤ nI (n / z * z + z - 1) then 1 else 0 from if_neg hx]
    rw [T.1]
    refine zl_ite ?_
    rw [nI_ltI (by omega) (by omega), nI_leI (by omega) (by omega), nI_ltI (by omega) (by omega), nI_leI (by omega) (by omega), nI_ltI (by omega) (by omega), nI_leI (by omega) (by omega)]
    simp only [Nat.not_lt, Nat.not_le]
    exact key
section
variable {post : Int32 → St0 → Prop}
theorem zl_152_put {s m k u v d z n : Nat} {x2 x3 x4 x5 b : Int32} (hp : post 1 ()) (hs : s < 4) (hm : m < 2 ^ 31) (hk : k = m / 1024) (hu : u = m / 32 % 32) (hv : v = m % 32) (h : k ≤ 4 ∧ u < 2 ^ k ∧ v < 2 ^ k)
    (hd : d = 2 ^ (4 - k)) (hz : z = 4 ^ (4 - k)) (hn : n = zn_n (u * d) (v * d)) (hn2 : n < 256) (hb : zr_has (some (n / z * z, n / z * z + z - 1)) x2 x3 = b) :
    wL_lawOf_152 post 160 2544 (nI s) (nI m) x2 x3 x4 x5 (nI k) 1 (nI d) b 1 0 0 := by
  have k5 : k < 5 := by omega
  have z0 : 0 < z := by rw [hz]; exact Nat.pow_pos (by decide)
  have hq : n / z < 4 ^ k := by rw [hz]; exact zl_q k5 hn2
  have E1 : nI d * nI d = nI z := by rw [pk_mul, hd, hz, (zl_pow k k5).2.2.2.2.1]
  refine ⟨by decide, by decide, 5, 573, by decide, by decide, by decide, by decide, by decide, by decide, by decide, by decide, by decide, by decide, by decide, by decide, ?_⟩
  refine zl_chg_put hs hm hk hu hv h hd hz hn rfl (fun f0' a1' a2' a3' a4' a5' K O => br_f (by decide) ?_)
  rw [E1, ← hb]
  refine zl_185 (c := some (n / z * z, n / z * z + z - 1)) hp hs K (fun t ht hne => O t ht hne) (fun w e => ?_) (fun w l _ hl e => ?_)
  · have e' := Option.some.inj e
    subst e'
    show zr_la 5 (nI (n / z * z)) (nI (n / z * z + z - 1)) 1 = some (nI (n / z * z + z - 1 - n / z * z + 1))
    rw [show n / z * z + z - 1 - n / z * z + 1 = z by omega, hz]
    exact zl_la_tab k k5 _ (by rw [← hz]; exact hq)
  · have t := zl_tou_tab k k5 (n / z) hq l (by omega)
    rw [← hz] at t
    subst e
    rw [nI_ltI (by omega) (by omega)]
    exact ⟨t.1, fun g => by rw [t.2 g]; rfl⟩
theorem zl_84_put {s m k u v d : Nat} {x2 x3 x4 x5 : Int32} (hp : post 1 ()) (hs : s < 4) (hm : m < 2 ^ 31) (hk : k = m / 1024) (hu : u = m / 32 % 32) (hv : v = m % 32) (h : k ≤ 4 ∧ u < 2 ^ k ∧ v < 2 ^ k)
    (hd : d = 2 ^ (4 - k)) : wL_lawOf_84 post 160 2544 (nI s) (nI m) x2 x3 x4 x5 (nI k) (nI u) (nI v) 1 (nI d) 0 0 := by
  have k5 : k < 5 := by omega
  have fu := zn_fit h.1 h.2.1 hd
  have fv := zn_fit h.1 h.2.2 hd
  have d0 : 0 < d := by rw [hd]; exact Nat.pow_pos (by decide)
  obtain ⟨z, hz⟩ : ∃ z, z = 4 ^ (4 - k) := ⟨_, rfl⟩
  obtain ⟨n, hn⟩ : ∃ n, n = zn_n (u * d) (v * d) := ⟨_, rfl⟩
  have z0 : 0 < z := by rw [hz]; exact Nat.pow_pos (by decide)
  have hn2 : n < 256 := by rw [hn]; exact (zn_tab (u * d) (by omega) (v * d) (by omega)).2
  have hq : n / z < 4 ^ k := by rw [hz]; exact zl_q k5 hn2
  have hqz : n / z * z + z ≤ 256 := by
    have a : (n / z + 1) * z ≤ 4 ^ k * z := Nat.mul_le_mul_right z hq
    have b : 4 ^ k * z = 256 := by rw [hz, ← Nat.pow_add, show k + (4 - k) = 4 by omega]
    rw [b, Nat.succ_mul] at a
    exact a
  have I := zl_in h.1 h.2.1 h.2.2 hd hz hn hqz x2 x3
  have go : ∀ b, zr_has (some (n / z * z, n / z * z + z - 1)) x2 x3 = b → wL_lawOf_136 post 160 2544 (nI s) (nI m) x2 x3 x4 x5 (nI k) 1 (nI d) b 0 0 :=
    fun b hb => pk_lt s 0 (fun y => absurd y (by omega)) (fun _ => pk_lt 3 s (fun y => absurd y (by omega)) (fun _ => zl_152_put hp hs hm hk hu hv h hd hz hn hn2 hb))
  unfold wL_lawOf_84
  rw [nI_1 u, nI_1 v, pk_mul u d, pk_mul (u + 1) d, pk_mul v d, pk_mul (v + 1) d]
  exact br_f (by decide) (br_c (fun g => go 0 (I.trans (if_neg (fun c => c.1 g)))) (fun g1 => br_c (fun g => go 0 (I.trans (if_neg (fun c => c.2.1 g)))) (fun g2 => br_c (fun g => go 0 (I.trans (if_neg (fun c => c.2.2.1 g)))) (fun g3 => br_c (fun g => go 0 (I.trans (if_neg (fun c => c.2.2.2 g)))) (fun g4 => go 1 (I.trans (if_pos ⟨g1, g2, g3, g4⟩)))))))
theorem zl_67_np {s : Nat} {p1 x2 x3 x4 x5 x6 x7 x8 : Int32} (hp : post 1 ()) (hs : s < 4)
    (hc : ∀ ψ : Int32 → St2 → Prop, ψ (-1) (0, 0, 0, (fun _ => 0), (fun _ => 0), (fun _ => 0), (fun _ => 0), (fun _ => 0)) → wpX_change ψ (0, 0, 0, (fun _ => 0), (fun _ => 0), (fun _ => 0), (fun _ => 0), (fun _ => 0)) (nI s) p1 1) :
    wL_lawOf_67 post 160 2544 (nI s) p1 x2 x3 x4 x5 x6 x7 x8 0 0 := by
  refine br_t rfl (br_t rfl (pk_lt s 0 (fun y => absurd y (by omega)) (fun _ => pk_lt 3 s (fun y => absurd y (by omega)) (fun _ => ?_))))
  refine ⟨by decide, by decide, 5, 573, by decide, by decide, by decide, by decide, by decide, by decide, by decide, by decide, by decide, by decide, by decide, by decide, ?_⟩
  refine hc _ (br_t rfl ?_)
  have e : zr_has none x2 x3 = 0 := by
    unfold zr_has
    split <;> rfl
  have l : wL_lawOf_185 post 160 2544 (nI s) x2 x3 x4 x5 x6 0 (zr_has none x2 x3) 1 (-1) (-1) (0 + 1 + 5) (0 + 8 + 573) 0 0 0 (fun _ => 0) (fun _ => 0) (fun _ => 0) (fun _ => 0) (fun _ => 0) :=
    zl_185 (c := none) hp hs ⟨0, rfl, rfl, by omega⟩ (fun t _ _ => rfl) (fun w g => absurd g (by intro y; cases y)) (fun w l g => absurd g (by intro y; cases y))
  rw [e] at l
  exact l
theorem zl_67_no {p0 p1 x2 x3 x4 x5 x6 x7 x8 : Int32} (hp : post 1 ()) (h : p0 < 0 ∨ 3 < p0) : wL_lawOf_67 post 160 2544 p0 p1 x2 x3 x4 x5 x6 x7 x8 0 0 := by
  have go : wL_lawOf_151 post 160 2544 p0 p1 x2 x3 x4 x5 x6 0 0 0 0 0 := by
    refine ⟨by decide, by decide, 5, 573, by decide, by decide, by decide, by decide, by decide, by decide, by decide, by decide, by decide, by decide, by decide, by decide, ?_⟩
    exact zl_chg_no h (br_t rfl (zl_185_no hp h))
  exact br_t rfl (br_t rfl (br_c (fun _ => go) (fun g => br_t (h.resolve_left g) go)))
theorem zl_law (hp : post 1 ()) (p0 p1 p2 p3 p4 p5 : Int32) : wpL_lawOf post 160 2544 () p0 p1 p2 p3 p4 p5 := by
  unfold wpL_lawOf
  by_cases h0 : p0 < 0 ∨ 3 < p0
  · exact nm_e (nm_e (nm_e (br_c (fun _ => zl_67_no hp h0) (fun g => br_t (h0.resolve_left g) (zl_67_no hp h0)))))
  · have a1 : ¬ p0 < 0 := fun g => h0 (Or.inl g)
    have a2 : ¬ 3 < p0 := fun g => h0 (Or.inr g)
    obtain ⟨s, hs, rfl⟩ := nI_of2 (M := 3) (n := 3) (by decide) a1 (Int32.not_lt.mp a2)
    by_cases h1 : p1 < 0
    · exact nm_e (nm_e (nm_e (br_f a1 (br_f a2 (br_t h1 (zl_67_np hp (by omega) (fun ψ hψ => zl_chg_neg (by omega) h1 hψ)))))))
    · obtain ⟨m, hm, rfl⟩ := nI_of h1
      obtain ⟨g1, g2, g3⟩ := zl_sq hm
      have np : ∀ x6 x7 x8, ¬ (m / 1024 ≤ 4 ∧ m / 32 % 32 < 2 ^ (m / 1024) ∧ m % 32 < 2 ^ (m / 1024)) → wL_lawOf_67 post 160 2544 (nI s) (nI m) p2 p3 p4 p5 x6 x7 x8 0 0 :=
        fun _ _ _ h => zl_67_np hp (by omega) (fun ψ hψ => zl_chg_bad (by omega) hm rfl rfl rfl h hψ)
      refine nm_r g1 (nm_r g2 (nm_r g3 (br_f a1 (br_f a2 (br_f h1 (pk_lt 4 (m / 1024) (fun z => np _ _ _ (fun c => absurd c.1 (by omega))) (fun z => ?_)))))))
      obtain ⟨P1, P2, P3, P4, P5, P6, P7⟩ := zl_pow (m / 1024) (by omega)
      rw [P2]
      refine pk_le (2 ^ (m / 1024)) (m / 32 % 32) (fun z2 => np _ _ _ (fun c => absurd c.2.1 (by omega))) (fun z2 => pk_le (2 ^ (m / 1024)) (m % 32) (fun z3 => np _ _ _ (fun c => absurd c.2.2 (by omega))) (fun z3 => ?_))
      refine br_f (by decide) ?_
      rw [P4]
      exact zl_84_put hp (by omega) hm rfl rfl rfl ⟨z, z2, z3⟩ rfl
end
theorem zl_cell {post : Int32 → Prop} {L : Nat} {xs : Nat → Int32} (hL : L ≤ 6) (i : Nat) (hi : i < 6) (h : ∀ v, post v) : wpL_cellAt post L xs () (nI i) :=
  pk_le L i (fun _ => h 0) (fun z => ⟨pk_in i L z, h _⟩)
theorem i_vc (xs : Nat → Int32) (L : Nat) (hL : L ≤ 6) : wpL_law (fun r => r = 1) L xs := by
  unfold wpL_law
  exact zl_cell hL 0 (by omega) (fun r1 => zl_cell hL 1 (by omega) (fun r2 => zl_cell hL 2 (by omega) (fun r3 => zl_cell hL 3 (by omega) (fun r4 => zl_cell hL 4 (by omega) (fun r5 => zl_cell hL 5 (by omega) (fun r6 =>
    ⟨160, 2544, by decide, by decide, zl_law rfl r1 r2 r3 r4 r5 r6⟩))))))
end
