section
/-! ===== pure rows: the free array as a count of runs over a frame ===== -/
def pr_v (a : Nat → Int32) (x : Nat) : Nat := if a x = 0 then 0 else 1
def pr_fs (a : Nat → Int32) (g : Nat) : Nat := pr_v a g + pr_v a (48 + g / 2 * 2) + pr_v a (96 + g / 4 * 4) + pr_v a (144 + g / 8 * 8)
/-- order and width of a run -/
def pr_ow (o w : Nat) : Prop := (o = 0 ∧ w = 1) ∨ (o = 1 ∧ w = 2) ∨ (o = 2 ∧ w = 4) ∨ (o = 3 ∧ w = 8)
/-- a' is a, but over the frames f .. f + w - 1 the count is v -/
def pr_up (F : Nat) (a a' : Nat → Int32) (f w v : Nat) : Prop := (∀ g, g < F → f ≤ g → g < f + w → pr_fs a' g = v) ∧ ∀ g, g < F → (g < f ∨ f + w ≤ g) → pr_fs a' g = pr_fs a g
theorem pr_v0 {a : Nat → Int32} {k j : Nat} (h : j = k) : pr_v (upd a k 0) j = 0 := by
  subst h
  unfold pr_v
  rw [pk_us]
  exact if_pos rfl
theorem pr_v1 {a : Nat → Int32} {k j : Nat} (h : j = k) : pr_v (upd a k 1) j = 1 := by
  subst h
  unfold pr_v
  rw [pk_us]
  exact if_neg (by decide)
theorem pr_vn {a : Nat → Int32} {k j : Nat} {x : Int32} (h : j ≠ k) : pr_v (upd a k x) j = pr_v a j := by
  unfold pr_v
  rw [pk_un h]
theorem pr_v_le (a : Nat → Int32) (x : Nat) : pr_v a x ≤ 1 := by
  unfold pr_v
  split <;> omega
theorem pr_v_z {a : Nat → Int32} {x : Nat} (h : a x = 0) : pr_v a x = 0 := if_pos h
theorem pr_v_o {a : Nat → Int32} {x : Nat} (h : ¬ a x = 0) : pr_v a x = 1 := if_neg h
theorem pr_ow_inj {o w w' : Nat} (h : pr_ow o w) (h' : pr_ow o w') : w = w' := by
  unfold pr_ow at h h'
  omega
theorem pr_ow_le {o w : Nat} (h : pr_ow o w) : o ≤ 3 ∧ 0 < w ∧ w ≤ 8 := by
  unfold pr_ow at h
  omega
theorem pr_ow_ex {o : Nat} (h : o ≤ 3) : ∃ w, pr_ow o w := by
  unfold pr_ow
  rcases (by omega : o = 0 ∨ o = 1 ∨ o = 2 ∨ o = 3) with rfl | rfl | rfl | rfl
  · exact ⟨1, by omega⟩
  · exact ⟨2, by omega⟩
  · exact ⟨4, by omega⟩
  · exact ⟨8, by omega⟩
theorem pr_half {i w : Nat} (h : pr_ow (i + 1) w) : ∃ w', pr_ow i w' ∧ w = 2 * w' := by
  unfold pr_ow at h
  rcases (by omega : (i = 0 ∧ w = 2) ∨ (i = 1 ∧ w = 4) ∨ (i = 2 ∧ w = 8)) with ⟨rfl, rfl⟩ | ⟨rfl, rfl⟩ | ⟨rfl, rfl⟩
  · exact ⟨1, by unfold pr_ow; omega, rfl⟩
  · exact ⟨2, by unfold pr_ow; omega, rfl⟩
  · exact ⟨4, by unfold pr_ow; omega, rfl⟩
theorem pr_al {o w f : Nat} (ho : pr_ow o w) (h : f % (2 * w) = 0) : f % w = 0 ∧ (f + w) % w = 0 := by
  rcases ho with ⟨rfl, rfl⟩ | ⟨rfl, rfl⟩ | ⟨rfl, rfl⟩ | ⟨rfl, rfl⟩ <;> omega
theorem pr_room {o w f F : Nat} (ho : pr_ow o w) (h : f % w = 0) (hF : F % 8 = 0) (hf : f < F) : f + w ≤ F := by
  rcases ho with ⟨rfl, rfl⟩ | ⟨rfl, rfl⟩ | ⟨rfl, rfl⟩ | ⟨rfl, rfl⟩ <;> omega
theorem pr_fs_out {a : Nat → Int32} {o w f g : Nat} {x : Int32} (ho : pr_ow o w) (hf : f % w = 0) (hf2 : f < 48) (hg : g < 48) (h : g < f ∨ f + w ≤ g) : pr_fs (upd a (48 * o + f) x) g = pr_fs a g := by
  unfold pr_fs
  rcases ho with ⟨rfl, rfl⟩ | ⟨rfl, rfl⟩ | ⟨rfl, rfl⟩ | ⟨rfl, rfl⟩
  · rw [pr_vn (show g ≠ 48 * 0 + f by omega), pr_vn (show 48 + g / 2 * 2 ≠ 48 * 0 + f by omega), pr_vn (show 96 + g / 4 * 4 ≠ 48 * 0 + f by omega), pr_vn (show 144 + g / 8 * 8 ≠ 48 * 0 + f by omega)]
  · rw [pr_vn (show g ≠ 48 * 1 + f by omega), pr_vn (show 48 + g / 2 * 2 ≠ 48 * 1 + f by omega), pr_vn (show 96 + g / 4 * 4 ≠ 48 * 1 + f by omega), pr_vn (show 144 + g / 8 * 8 ≠ 48 * 1 + f by omega)]
  · rw [pr_vn (show g ≠ 48 * 2 + f by omega), pr_vn (show 48 + g / 2 * 2 ≠ 48 * 2 + f by omega), pr_vn (show 96 + g / 4 * 4 ≠ 48 * 2 + f by omega), pr_vn (show 144 + g / 8 * 8 ≠ 48 * 2 + f by omega)]
  · rw [pr_vn (show g ≠ 48 * 3 + f by omega), pr_vn (show 48 + g / 2 * 2 ≠ 48 * 3 + f by omega), pr_vn (show 96 + g / 4 * 4 ≠ 48 * 3 + f by omega), pr_vn (show 144 + g / 8 * 8 ≠ 48 * 3 + f by omega)]
theorem pr_fs_set {a : Nat → Int32} {o w f g : Nat} (ho : pr_ow o w) (hf : f % w = 0) (hf2 : f < 48) (hg : g < 48) (h1 : f ≤ g) (h2 : g < f + w) (h0 : pr_fs a g = 0) : pr_fs (upd a (48 * o + f) 1) g = 1 := by
  unfold pr_fs at h0 ⊢
  rcases ho with ⟨rfl, rfl⟩ | ⟨rfl, rfl⟩ | ⟨rfl, rfl⟩ | ⟨rfl, rfl⟩
  · rw [pr_v1 (show g = 48 * 0 + f by omega), pr_vn (show 48 + g / 2 * 2 ≠ 48 * 0 + f by omega), pr_vn (show 96 + g / 4 * 4 ≠ 48 * 0 + f by omega), pr_vn (show 144 + g / 8 * 8 ≠ 48 * 0 + f by omega)]
    omega
  · rw [pr_vn (show g ≠ 48 * 1 + f by omega), pr_v1 (show 48 + g / 2 * 2 = 48 * 1 + f by omega), pr_vn (show 96 + g / 4 * 4 ≠ 48 * 1 + f by omega), pr_vn (show 144 + g / 8 * 8 ≠ 48 * 1 + f by omega)]
    omega
  · rw [pr_vn (show g ≠ 48 * 2 + f by omega), pr_vn (show 48 + g / 2 * 2 ≠ 48 * 2 + f by omega), pr_v1 (show 96 + g / 4 * 4 = 48 * 2 + f by omega), pr_vn (show 144 + g / 8 * 8 ≠ 48 * 2 + f by omega)]
    omega
  · rw [pr_vn (show g ≠ 48 * 3 + f by omega), pr_vn (show 48 + g / 2 * 2 ≠ 48 * 3 + f by omega), pr_vn (show 96 + g / 4 * 4 ≠ 48 * 3 + f by omega), pr_v1 (show 144 + g / 8 * 8 = 48 * 3 + f by omega)]
    omega
theorem pr_fs_v {a : Nat → Int32} {o w f g : Nat} (ho : pr_ow o w) (hf : f % w = 0) (h1 : f ≤ g) (h2 : g < f + w) (hv : pr_v a (48 * o + f) = 1) : 1 ≤ pr_fs a g := by
  unfold pr_fs
  rcases ho with ⟨rfl, rfl⟩ | ⟨rfl, rfl⟩ | ⟨rfl, rfl⟩ | ⟨rfl, rfl⟩
  · rw [show 48 * 0 + f = g by omega] at hv
    omega
  · rw [show 48 * 1 + f = 48 + g / 2 * 2 by omega] at hv
    omega
  · rw [show 48 * 2 + f = 96 + g / 4 * 4 by omega] at hv
    omega
  · rw [show 48 * 3 + f = 144 + g / 8 * 8 by omega] at hv
    omega
theorem pr_fs_clr {a : Nat → Int32} {o w f g : Nat} (ho : pr_ow o w) (hf : f % w = 0) (hf2 : f < 48) (hg : g < 48) (h1 : f ≤ g) (h2 : g < f + w) (hv : pr_v a (48 * o + f) = 1) (h0 : pr_fs a g ≤ 1) : pr_fs (upd a (48 * o + f) 0) g = 0 := by
  unfold pr_fs at h0 ⊢
  rcases ho with ⟨rfl, rfl⟩ | ⟨rfl, rfl⟩ | ⟨rfl, rfl⟩ | ⟨rfl, rfl⟩
  · rw [pr_v0 (show g = 48 * 0 + f by omega), pr_vn (show 48 + g / 2 * 2 ≠ 48 * 0 + f by omega), pr_vn (show 96 + g / 4 * 4 ≠ 48 * 0 + f by omega), pr_vn (show 144 + g / 8 * 8 ≠ 48 * 0 + f by omega)]
    rw [show 48 * 0 + f = g by omega] at hv
    omega
  · rw [pr_vn (show g ≠ 48 * 1 + f by omega), pr_v0 (show 48 + g / 2 * 2 = 48 * 1 + f by omega), pr_vn (show 96 + g / 4 * 4 ≠ 48 * 1 + f by omega), pr_vn (show 144 + g / 8 * 8 ≠ 48 * 1 + f by omega)]
    rw [show 48 * 1 + f = 48 + g / 2 * 2 by omega] at hv
    omega
  · rw [pr_vn (show g ≠ 48 * 2 + f by omega), pr_vn (show 48 + g / 2 * 2 ≠ 48 * 2 + f by omega), pr_v0 (show 96 + g / 4 * 4 = 48 * 2 + f by omega), pr_vn (show 144 + g / 8 * 8 ≠ 48 * 2 + f by omega)]
    rw [show 48 * 2 + f = 96 + g / 4 * 4 by omega] at hv
    omega
  · rw [pr_vn (show g ≠ 48 * 3 + f by omega), pr_vn (show 48 + g / 2 * 2 ≠ 48 * 3 + f by omega), pr_vn (show 96 + g / 4 * 4 ≠ 48 * 3 + f by omega), pr_v0 (show 144 + g / 8 * 8 = 48 * 3 + f by omega)]
    rw [show 48 * 3 + f = 144 + g / 8 * 8 by omega] at hv
    omega
/-- no run at all: the count is 0 -/
theorem pr_fs_none {a : Nat → Int32} {F : Nat} (h : ∀ o w, 0 ≤ o → pr_ow o w → ∀ f, f < F → f % w = 0 → pr_v a (48 * o + f) = 0) {g : Nat} (hg : g < F) : pr_fs a g = 0 := by
  have h0 := h 0 1 (by omega) (by unfold pr_ow; omega) g hg (by omega)
  have h1 := h 1 2 (by omega) (by unfold pr_ow; omega) (g / 2 * 2) (by omega) (by omega)
  have h2 := h 2 4 (by omega) (by unfold pr_ow; omega) (g / 4 * 4) (by omega) (by omega)
  have h3 := h 3 8 (by omega) (by unfold pr_ow; omega) (g / 8 * 8) (by omega) (by omega)
  rw [show 48 * 0 + g = g by omega] at h0
  rw [show 48 * 1 = 48 from rfl] at h1
  rw [show 48 * 2 = 96 from rfl] at h2
  rw [show 48 * 3 = 144 from rfl] at h3
  unfold pr_fs
  omega
/-! ===== tables ===== -/
theorem pr_shl {o w : Nat} (h : pr_ow o w) : (1 : Int32) <<< (nI o &&& 31) = nI w := by
  rcases h with ⟨rfl, rfl⟩ | ⟨rfl, rfl⟩ | ⟨rfl, rfl⟩ | ⟨rfl, rfl⟩ <;> decide +kernel
theorem pr_ix (o f : Nat) : (48 : Int32) * nI o + nI f = nI (48 * o + f) := by
  show nI 48 * nI o + nI f = _
  rw [pk_mul, nI_add]
def pr_bud (s w : Nat) : Nat := if s / w % 2 = 0 then s + w else s - w
theorem pr_xor0 : ∀ s, s < 48 → s % 1 = 0 → nI s ^^^ nI 1 = nI (pr_bud s 1) := by decide +kernel
theorem pr_xor1 : ∀ s, s < 48 → s % 2 = 0 → nI s ^^^ nI 2 = nI (pr_bud s 2) := by decide +kernel
theorem pr_xor2 : ∀ s, s < 48 → s % 4 = 0 → nI s ^^^ nI 4 = nI (pr_bud s 4) := by decide +kernel
theorem pr_xor {o w s : Nat} (h : pr_ow o w) (ho : o < 3) (hs : s < 48) (hw : s % w = 0) : nI s ^^^ ((1 : Int32) <<< (nI o &&& 31)) = nI (pr_bud s w) := by
  rw [pr_shl h]
  rcases h with ⟨rfl, rfl⟩ | ⟨rfl, rfl⟩ | ⟨rfl, rfl⟩ | ⟨rfl, rfl⟩
  · exact pr_xor0 s hs hw
  · exact pr_xor1 s hs hw
  · exact pr_xor2 s hs hw
  · omega
/-- the neighbour run of s: both of them in an aligned run of twice the width -/
theorem pr_bud_in {o w s F : Nat} (h : pr_ow o w) (ho : o < 3) (hw : s % w = 0) (hF : F % 8 = 0) (hs : s + w ≤ F) : pr_bud s w % w = 0 ∧ pr_bud s w + w ≤ F ∧ ((pr_bud s w = s + w ∧ s % (2 * w) = 0) ∨ (pr_bud s w + w = s ∧ pr_bud s w % (2 * w) = 0)) ∧ s % w = 0 := by
  unfold pr_bud
  rcases h with ⟨rfl, rfl⟩ | ⟨rfl, rfl⟩ | ⟨rfl, rfl⟩ | ⟨rfl, rfl⟩
  · split <;> omega
  · split <;> omega
  · split <;> omega
  · omega
theorem pr_dbl {o w : Nat} (h : pr_ow o w) (ho : o < 3) : pr_ow (o + 1) (2 * w) := by
  unfold pr_ow at h ⊢
  omega
/-! ===== booleans ===== -/
def pr_bo (x : Int32) : Prop := x = 0 ∨ x = 1
theorem pr_bo_nar (x : Int32) : pr_bo (vp_nar .boolean x) := by
  show pr_bo (x &&& 1)
  obtain ⟨j, hj, e⟩ := pk_andE x (m := 1) 1 (by decide)
  rw [e]
  rcases (by omega : j = 0 ∨ j = 1) with rfl | rfl
  · exact Or.inl rfl
  · exact Or.inr rfl
theorem pr_bo_n {x : Int32} (h : pr_bo x) : narrow .boolean (.int x) = .int x := by
  rcases h with rfl | rfl
  · rfl
  · rfl
/-! ===== the held pages: bits of a block, their number ===== -/
def pr_h4 (x y z w : Bool) : Nat := x.toNat + 2 * y.toNat + 4 * z.toNat + 8 * w.toNat
def pr_hb (H : Nat → Bool) (b : Nat) : Nat := pr_h4 (H (4 * b)) (H (4 * b + 1)) (H (4 * b + 2)) (H (4 * b + 3))
def pr_cn (H : Nat → Bool) : Nat → Nat
  | 0 => 0
  | n + 1 => pr_cn H n + (H n).toNat
def pr_uH (H : Nat → Bool) (p : Nat) (x : Bool) : Nat → Bool := fun q => if q = p then x else H q
def pr_uT (T : Nat → Nat) (p x : Nat) : Nat → Nat := fun q => if q = p then x else T q
theorem pr_uHs {H : Nat → Bool} {p : Nat} {x : Bool} : pr_uH H p x p = x := if_pos rfl
theorem pr_uHn {H : Nat → Bool} {p q : Nat} {x : Bool} (h : q ≠ p) : pr_uH H p x q = H q := if_neg h
theorem pr_uTs {T : Nat → Nat} {p x : Nat} : pr_uT T p x p = x := if_pos rfl
theorem pr_uTn {T : Nat → Nat} {p q x : Nat} (h : q ≠ p) : pr_uT T p x q = T q := if_neg h
theorem pr_h4_lt (x y z w : Bool) : pr_h4 x y z w < 16 := by
  unfold pr_h4
  have := Bool.toNat_le x
  have := Bool.toNat_le y
  have := Bool.toNat_le z
  have := Bool.toNat_le w
  omega
theorem pr_hb_lt (H : Nat → Bool) (b : Nat) : pr_hb H b < 16 := pr_h4_lt _ _ _ _
theorem pr_b4 : ∀ x y z w : Bool, ((nI (pr_h4 x y z w) >>> (nI 0 &&& 31)) &&& 1) = nI x.toNat ∧ ((nI (pr_h4 x y z w) >>> (nI 1 &&& 31)) &&& 1) = nI y.toNat ∧ ((nI (pr_h4 x y z w) >>> (nI 2 &&& 31)) &&& 1) = nI z.toNat ∧ ((nI (pr_h4 x y z w) >>> (nI 3 &&& 31)) &&& 1) = nI w.toNat := by decide +kernel
theorem pr_bit (H : Nat → Bool) (b : Nat) {k : Nat} (hk : k < 4) : ((nI (pr_hb H b) >>> (nI k &&& 31)) &&& 1) = nI (H (4 * b + k)).toNat := by
  obtain ⟨h0, h1, h2, h3⟩ := pr_b4 (H (4 * b)) (H (4 * b + 1)) (H (4 * b + 2)) (H (4 * b + 3))
  rcases (by omega : k = 0 ∨ k = 1 ∨ k = 2 ∨ k = 3) with rfl | rfl | rfl | rfl
  · exact h0
  · exact h1
  · exact h2
  · exact h3
theorem pr_or4 : ∀ x y z w : Bool, nI (pr_h4 x y z w) ||| ((1 : Int32) <<< (nI 0 &&& 31)) = nI (pr_h4 true y z w) ∧ nI (pr_h4 x y z w) ||| ((1 : Int32) <<< (nI 1 &&& 31)) = nI (pr_h4 x true z w) ∧ nI (pr_h4 x y z w) ||| ((1 : Int32) <<< (nI 2 &&& 31)) = nI (pr_h4 x y true w) ∧ nI (pr_h4 x y z w) ||| ((1 : Int32) <<< (nI 3 &&& 31)) = nI (pr_h4 x y z true) := by decide +kernel
theorem pr_an4 : ∀ x y z w : Bool, nI (pr_h4 x y z w) &&& (((1 : Int32) <<< (nI 0 &&& 31)) ^^^ (-1)) = nI (pr_h4 false y z w) ∧ nI (pr_h4 x y z w) &&& (((1 : Int32) <<< (nI 1 &&& 31)) ^^^ (-1)) = nI (pr_h4 x false z w) ∧ nI (pr_h4 x y z w) &&& (((1 : Int32) <<< (nI 2 &&& 31)) ^^^ (-1)) = nI (pr_h4 x y false w) ∧ nI (pr_h4 x y z w) &&& (((1 : Int32) <<< (nI 3 &&& 31)) ^^^ (-1)) = nI (pr_h4 x y z false) := by decide +kernel
theorem pr_hb_u (H : Nat → Bool) (b : Nat) (x : Bool) : pr_hb (pr_uH H (4 * b + 0) x) b = pr_h4 x (H (4 * b + 1)) (H (4 * b + 2)) (H (4 * b + 3)) ∧ pr_hb (pr_uH H (4 * b + 1) x) b = pr_h4 (H (4 * b)) x (H (4 * b + 2)) (H (4 * b + 3)) ∧ pr_hb (pr_uH H (4 * b + 2) x) b = pr_h4 (H (4 * b)) (H (4 * b + 1)) x (H (4 * b + 3)) ∧ pr_hb (pr_uH H (4 * b + 3) x) b = pr_h4 (H (4 * b)) (H (4 * b + 1)) (H (4 * b + 2)) x := by
  unfold pr_hb
  refine ⟨?_, ?_, ?_, ?_⟩
  · rw [Nat.add_zero, pr_uHs, pr_uHn (by omega), pr_uHn (by omega), pr_uHn (by omega)]
  · rw [pr_uHn (by omega), pr_uHs, pr_uHn (by omega), pr_uHn (by omega)]
  · rw [pr_uHn (by omega), pr_uHn (by omega), pr_uHs, pr_uHn (by omega)]
  · rw [pr_uHn (by omega), pr_uHn (by omega), pr_uHn (by omega), pr_uHs]
theorem pr_or (H : Nat → Bool) (b : Nat) {k : Nat} (hk : k < 4) : nI (pr_hb H b) ||| ((1 : Int32) <<< (nI k &&& 31)) = nI (pr_hb (pr_uH H (4 * b + k) true) b) := by
  obtain ⟨h0, h1, h2, h3⟩ := pr_or4 (H (4 * b)) (H (4 * b + 1)) (H (4 * b + 2)) (H (4 * b + 3))
  obtain ⟨u0, u1, u2, u3⟩ := pr_hb_u H b true
  rcases (by omega : k = 0 ∨ k = 1 ∨ k = 2 ∨ k = 3) with rfl | rfl | rfl | rfl
  · rw [u0]; exact h0
  · rw [u1]; exact h1
  · rw [u2]; exact h2
  · rw [u3]; exact h3
theorem pr_an (H : Nat → Bool) (b : Nat) {k : Nat} (hk : k < 4) : nI (pr_hb H b) &&& (((1 : Int32) <<< (nI k &&& 31)) ^^^ (-1)) = nI (pr_hb (pr_uH H (4 * b + k) false) b) := by
  obtain ⟨h0, h1, h2, h3⟩ := pr_an4 (H (4 * b)) (H (4 * b + 1)) (H (4 * b + 2)) (H (4 * b + 3))
  obtain ⟨u0, u1, u2, u3⟩ := pr_hb_u H b false
  rcases (by omega : k = 0 ∨ k = 1 ∨ k = 2 ∨ k = 3) with rfl | rfl | rfl | rfl
  · rw [u0]; exact h0
  · rw [u1]; exact h1
  · rw [u2]; exact h2
  · rw [u3]; exact h3
theorem pr_hb_cg {H H' : Nat → Bool} {b : Nat} (h : ∀ k, k < 4 → H' (4 * b + k) = H (4 * b + k)) : pr_hb H' b = pr_hb H b := by
  have h0 := h 0 (by omega)
  have h1 := h 1 (by omega)
  have h2 := h 2 (by omega)
  have h3 := h 3 (by omega)
  rw [Nat.add_zero] at h0
  unfold pr_hb
  rw [h0, h1, h2, h3]
theorem pr_h4_t : ∀ x y z w : Bool, (pr_h4 x y z w = 0 → x = false ∧ y = false ∧ z = false ∧ w = false) ∧ (pr_h4 x y z w = 15 → x = true ∧ y = true ∧ z = true ∧ w = true) := by decide +kernel
theorem pr_hb0 {H : Nat → Bool} {b : Nat} (h : pr_hb H b = 0) {k : Nat} (hk : k < 4) : H (4 * b + k) = false := by
  obtain ⟨h0, h1, h2, h3⟩ := (pr_h4_t _ _ _ _).1 h
  rcases (by omega : k = 0 ∨ k = 1 ∨ k = 2 ∨ k = 3) with rfl | rfl | rfl | rfl
  · exact h0
  · exact h1
  · exact h2
  · exact h3
theorem pr_hb15 {H : Nat → Bool} {b : Nat} (h : pr_hb H b = 15) {k : Nat} (hk : k < 4) : H (4 * b + k) = true := by
  obtain ⟨h0, h1, h2, h3⟩ := (pr_h4_t _ _ _ _).2 h
  rcases (by omega : k = 0 ∨ k = 1 ∨ k = 2 ∨ k = 3) with rfl | rfl | rfl | rfl
  · exact h0
  · exact h1
  · exact h2
  · exact h3
theorem pr_pg {p : Nat} : 4 * (p / 4) + p % 4 = p := by omega
theorem pr_hbp0 {H : Nat → Bool} {p : Nat} (h : pr_hb H (p / 4) = 0) : H p = false := by
  have := pr_hb0 h (k := p % 4) (by omega)
  rwa [pr_pg] at this
theorem pr_hbp15 {H : Nat → Bool} {p : Nat} (h : pr_hb H (p / 4) = 15) : H p = true := by
  have := pr_hb15 h (k := p % 4) (by omega)
  rwa [pr_pg] at this
theorem pr_cn_cg {H H' : Nat → Bool} : ∀ n, (∀ q, q < n → H' q = H q) → pr_cn H' n = pr_cn H n := by
  intro n
  induction n with
  | zero => intro _; rfl
  | succ n ih =>
    intro h
    show pr_cn H' n + (H' n).toNat = pr_cn H n + (H n).toNat
    rw [ih (fun q hq => h q (by omega)), h n (by omega)]
theorem pr_cn_u {H : Nat → Bool} {p : Nat} {x : Bool} : ∀ n, p < n → pr_cn (pr_uH H p x) n + (H p).toNat = pr_cn H n + x.toNat := by
  intro n
  induction n with
  | zero => intro h; omega
  | succ n ih =>
    intro h
    show pr_cn (pr_uH H p x) n + (pr_uH H p x n).toNat + (H p).toNat = pr_cn H n + (H n).toNat + x.toNat
    by_cases e : p = n
    · subst e
      rw [pr_uHs, pr_cn_cg (H := H) p (fun q hq => pr_uHn (by omega))]
      omega
    · rw [pr_uHn (by omega)]
      have := ih (by omega)
      omega
theorem pr_cn_t {H : Nat → Bool} {p : Nat} (hp : p < 64) (h : H p = false) : pr_cn (pr_uH H p true) 64 = pr_cn H 64 + 1 := by
  have := pr_cn_u (H := H) (x := true) 64 hp
  rw [h] at this
  exact this
theorem pr_cn_f {H : Nat → Bool} {p : Nat} (hp : p < 64) (h : H p = true) : pr_cn (pr_uH H p false) 64 + 1 = pr_cn H 64 := by
  have := pr_cn_u (H := H) (x := false) 64 hp
  rw [h] at this
  exact this
theorem pr_cn_le (H : Nat → Bool) : ∀ n, pr_cn H n ≤ n := by
  intro n
  induction n with
  | zero => exact Nat.le_refl 0
  | succ n ih =>
    have := Bool.toNat_le (H n)
    show pr_cn H n + (H n).toNat ≤ n + 1
    omega
/-- as many held pages as there are frames behind them -/
theorem pr_pig {T : Nat → Nat} : ∀ (n : Nat) (H : Nat → Bool), (∀ g, g < n → ∃ p, p < 64 ∧ H p = true ∧ T p = g) → n ≤ pr_cn H 64 := by
  intro n
  induction n with
  | zero => intro H _; omega
  | succ n ih =>
    intro H h
    obtain ⟨p, hp, hH, hT⟩ := h n (by omega)
    have := ih (pr_uH H p false) (fun g hg => by
      obtain ⟨q, hq, hqH, hqT⟩ := h g (by omega)
      have hne : q ≠ p := fun z => by
        subst z
        omega
      exact ⟨q, hq, by rw [pr_uHn hne]; exact hqH, hqT⟩)
    have := pr_cn_f hp hH
    omega
end
section
/-! ===== split and allocate, in their two printed copies ===== -/
theorem pr_m1lt {j : Nat} (h : j ≤ 3) : nI j - 1 < nI j := by
  rcases (by omega : j = 0 ∨ j = 1 ∨ j = 2 ∨ j = 3) with rfl | rfl | rfl | rfl <;> decide +kernel
theorem pr_split5 {post : St2 → Prop} {fc uc ck : Int32} {a1 a3 a4 a5 a6 a7 a8 a9 A : Nat → Int32} {F f r wr : Nat} (hF : F ≤ 48) (hr : pr_ow r wr)
    (hp : ∀ a2', pr_up F A a2' f wr 0 → post (fc, uc, ck, a1, a2', a3, a4, a5, a6, a7, a8, a9)) :
    ∀ d j wj a2, j = r + d → pr_ow j wj → f % wj = 0 → f + wj ≤ F → pr_up F A a2 f wj 0 → (∀ g, f ≤ g → g < f + wj → pr_fs A g = 1) →
      wX_split_5 post (nI f) (nI r) fc uc ck (d + 1) (nI j - 1) a1 a2 a3 a4 a5 a6 a7 a8 a9 := by
  intro d
  induction d with
  | zero =>
    intro j wj a2 e hj _ _ h _
    have e' : j = r := by omega
    subst e'
    have e2 := pr_ow_inj hj hr
    subst e2
    exact br_t (pr_m1lt (pr_ow_le hj).1) (hp a2 h)
  | succ d ih =>
    intro j wj a2 e hj hf hfF h h1
    obtain ⟨i, rfl⟩ : ∃ i, j = i + 1 := ⟨j - 1, by omega⟩
    obtain ⟨w, hw, rfl⟩ := pr_half hj
    have hi := pr_ow_le hw
    have ha := pr_al hw hf
    have ex : (48 : Int32) * nI i + nI f + (1 : Int32) <<< (nI i &&& 31) = nI (48 * i + (f + w)) := by
      rw [pr_ix, pr_shl hw, nI_add, Nat.add_assoc]
    rw [nI_pred]
    refine br_f (nI_nlt (by omega) (by omega)) ⟨pk_in (48 * i + (f + w)) 192 (by omega) ex, nm_r (by rw [pk_cl _ ex (by omega)]) (nm_r (Int32.sub_eq_add_neg (nI i) 1).symm ?_)⟩
    refine ih i w _ (by omega) hw ha.1 (by omega) ⟨fun g hg h2 h3 => ?_, fun g hg h2 => ?_⟩ (fun g h2 h3 => h1 g h2 (by omega))
    · rw [pr_fs_out hw ha.2 (by omega) (by omega) (by omega)]
      exact h.1 g hg h2 (by omega)
    · by_cases hin : f + w ≤ g ∧ g < f + w + w
      · rw [pr_fs_set hw ha.2 (by omega) (by omega) hin.1 hin.2 (h.1 g hg (by omega) (by omega)), h1 g (by omega) (by omega)]
      · rw [pr_fs_out hw ha.2 (by omega) (by omega) (by omega)]
        exact h.2 g hg (by omega)
theorem pr_split {post : St2 → Prop} {fc uc ck : Int32} {a1 a2 a3 a4 a5 a6 a7 a8 a9 A : Nat → Int32} {F f r wr o w : Nat} (hF : F ≤ 48) (hr : pr_ow r wr) (ho : pr_ow o w) (hro : r ≤ o) (hf : f % w = 0) (hfF : f + w ≤ F)
    (h : pr_up F A a2 f w 0) (h1 : ∀ g, f ≤ g → g < f + w → pr_fs A g = 1)
    (hp : ∀ a2', pr_up F A a2' f wr 0 → post (fc, uc, ck, a1, a2', a3, a4, a5, a6, a7, a8, a9)) : wpX_split post (fc, uc, ck, a1, a2, a3, a4, a5, a6, a7, a8, a9) (nI f) (nI o) (nI r) :=
  nm_e ⟨o - r + 1, pr_split5 hF hr hp (o - r) o w a2 (by omega) ho hf hfF h h1⟩
theorem pr_alloc9 {post : Int32 → St2 → Prop} {J2 : Int32 → Prop} {uc ck : Int32} {a1 a2 a3 a4 a5 a6 a7 a8 a9 : Nat → Int32} {F r wr o w : Nat} (hF : F ≤ 48) (hF8 : F % 8 = 0) (hr : pr_ow r wr) (ho : pr_ow o w) (hro : r ≤ o) (h1 : ∀ g, g < F → pr_fs a2 g ≤ 1)
    (hJ : (∀ f, f < F → f % w = 0 → pr_v a2 (48 * o + f) = 0) → J2 (nI (o + 1)))
    (hP : ∀ f a2', f % wr = 0 → f + wr ≤ F → (∀ g, f ≤ g → g < f + wr → pr_fs a2 g = 1) → pr_up F a2 a2' f wr 0 → post (nI f) (nI F, uc, ck, a1, a2', a3, a4, a5, a6, a7, a8, a9)) :
    ∀ n f, f % w = 0 → f ≤ F → F - f < n → (∀ f', f' < f → f' % w = 0 → pr_v a2 (48 * o + f') = 0) →
      wX_allocate_9 post J2 (nI r) (nI o) (nI F) uc ck a1 a2 a3 a4 a5 a6 a7 a8 a9 n (nI f) := by
  have hol := pr_ow_le ho
  have hrl := pr_ow_le hr
  intro n
  induction n with
  | zero => intro f _ _ z _; omega
  | succ n ih =>
    intro f hf hfF hn hz
    refine pk_le F f (fun z => nm_r (nI_1 o) (hJ (fun f' hf' => hz f' (by omega)))) (fun z => ⟨pk_in (48 * o + f) 192 (by omega) (pr_ix o f), ?_⟩)
    have hfw := pr_room ho hf hF8 z
    rw [pr_ix, nI_clamp (show 48 * o + f < 2 ^ 31 by omega)]
    refine br_c (fun z2 => nm_r (by rw [pr_shl ho, nI_add]) (ih (f + w) ?_ hfw (by omega) ?_)) (fun z2 => ⟨pk_in (48 * o + f) 192 (by omega), nm_e ?_⟩)
    · rw [Nat.add_mod_right]
      exact hf
    · intro f' h2 h3
      rcases Nat.lt_or_ge f' f with h4 | h4
      · exact hz f' h4 h3
      · have : f' = f := by
          rcases ho with ⟨rfl, rfl⟩ | ⟨rfl, rfl⟩ | ⟨rfl, rfl⟩ | ⟨rfl, rfl⟩ <;> omega
        rw [this]
        exact pr_v_z z2
    · have hv := pr_v_o z2
      have hrun : ∀ g, f ≤ g → g < f + w → pr_fs a2 g = 1 := fun g h2 h3 => Nat.le_antisymm (h1 g (by omega)) (pr_fs_v ho hf h2 h3 hv)
      have hwr : wr ≤ w ∧ f % wr = 0 := by
        rcases ho with ⟨rfl, rfl⟩ | ⟨rfl, rfl⟩ | ⟨rfl, rfl⟩ | ⟨rfl, rfl⟩ <;> rcases hr with ⟨rfl, rfl⟩ | ⟨rfl, rfl⟩ | ⟨rfl, rfl⟩ | ⟨rfl, rfl⟩ <;> omega
      refine pr_split hF hr ho hro hf hfw ⟨fun g hg h2 h3 => ?_, fun g hg h2 => ?_⟩ hrun (fun a2' h => hP f a2' hwr.2 (by omega) (fun g h2 h3 => hrun g h2 (by omega)) h)
      · exact pr_fs_clr ho hf (by omega) (by omega) h2 h3 hv (h1 g hg)
      · exact pr_fs_out ho hf (by omega) (by omega) h2
theorem pr_alloc2 {post : Int32 → St2 → Prop} {uc ck : Int32} {a1 a2 a3 a4 a5 a6 a7 a8 a9 : Nat → Int32} {F r wr : Nat} (hF : F ≤ 48) (hF8 : F % 8 = 0) (hr : pr_ow r wr) (h1 : ∀ g, g < F → pr_fs a2 g ≤ 1)
    (hN : (∀ o w, r ≤ o → pr_ow o w → ∀ f, f < F → f % w = 0 → pr_v a2 (48 * o + f) = 0) → post (-1) (nI F, uc, ck, a1, a2, a3, a4, a5, a6, a7, a8, a9))
    (hP : ∀ f a2', f % wr = 0 → f + wr ≤ F → (∀ g, f ≤ g → g < f + wr → pr_fs a2 g = 1) → pr_up F a2 a2' f wr 0 → post (nI f) (nI F, uc, ck, a1, a2', a3, a4, a5, a6, a7, a8, a9)) :
    ∀ n o, r ≤ o → o ≤ 4 → 4 - o < n → (∀ o' w', r ≤ o' → o' < o → pr_ow o' w' → ∀ f, f < F → f % w' = 0 → pr_v a2 (48 * o' + f) = 0) →
      wX_allocate_2 post (nI r) (nI F) uc ck a1 a2 a3 a4 a5 a6 a7 a8 a9 n (nI o) := by
  intro n
  induction n with
  | zero => intro o _ _ z _; omega
  | succ n ih =>
    intro o hro ho4 hn hz
    refine pk_lt 3 o (fun z => hN (fun o' w' h2 h3 => hz o' w' h2 (by have := (pr_ow_le h3).1; omega) h3)) (fun z => ⟨F + 1, ?_⟩)
    obtain ⟨w, ho⟩ := pr_ow_ex z
    refine pr_alloc9 hF hF8 hr ho hro h1 (fun hh => ih (o + 1) (by omega) (by omega) (by omega) (fun o' w' h2 h3 h4 => ?_)) hP (F + 1) 0 (Nat.zero_mod w) (by omega) (by omega) (fun f' z2 => absurd z2 (by omega))
    rcases Nat.lt_or_ge o' o with h5 | h5
    · exact hz o' w' h2 h5 h4
    · have e : o' = o := by omega
      subst e
      have e2 := pr_ow_inj h4 ho
      subst e2
      exact hh
theorem pr_alloc {post : Int32 → St2 → Prop} {fc uc ck : Int32} {a1 a2 a3 a4 a5 a6 a7 a8 a9 : Nat → Int32} {F r wr : Nat} (hfc : fc = nI F) (hF : F ≤ 48) (hF8 : F % 8 = 0) (hr : pr_ow r wr) (h1 : ∀ g, g < F → pr_fs a2 g ≤ 1)
    (hN : (∀ o w, r ≤ o → pr_ow o w → ∀ f, f < F → f % w = 0 → pr_v a2 (48 * o + f) = 0) → post (-1) (fc, uc, ck, a1, a2, a3, a4, a5, a6, a7, a8, a9))
    (hP : ∀ f a2', f % wr = 0 → f + wr ≤ F → (∀ g, f ≤ g → g < f + wr → pr_fs a2 g = 1) → pr_up F a2 a2' f wr 0 → post (nI f) (fc, uc, ck, a1, a2', a3, a4, a5, a6, a7, a8, a9)) :
    wpX_allocate post (fc, uc, ck, a1, a2, a3, a4, a5, a6, a7, a8, a9) (nI r) := by
  subst hfc
  exact ⟨5, pr_alloc2 hF hF8 hr h1 hN hP 5 r (Nat.le_refl r) (by have := (pr_ow_le hr).1; omega) (by omega) (fun o' w' h2 h3 => absurd h3 (by omega))⟩
theorem pr_split5b {post : St2 → Prop} {fc uc ck : Int32} {a1 a3 a4 a5 a6 a7 a8 a9 A : Nat → Int32} {F f r wr : Nat} (hF : F ≤ 48) (hr : pr_ow r wr)
    (hp : ∀ a2', pr_up F A a2' f wr 0 → post (fc, uc, ck, a1, a2', a3, a4, a5, a6, a7, a8, a9)) :
    ∀ d j wj a2, j = r + d → pr_ow j wj → f % wj = 0 → f + wj ≤ F → pr_up F A a2 f wj 0 → (∀ g, f ≤ g → g < f + wj → pr_fs A g = 1) →
      wX_split_2_5 post (nI f) (nI r) fc uc ck (d + 1) (nI j - 1) a1 a2 a3 a4 a5 a6 a7 a8 a9 := by
  intro d
  induction d with
  | zero =>
    intro j wj a2 e hj _ _ h _
    have e' : j = r := by omega
    subst e'
    have e2 := pr_ow_inj hj hr
    subst e2
    exact br_t (pr_m1lt (pr_ow_le hj).1) (hp a2 h)
  | succ d ih =>
    intro j wj a2 e hj hf hfF h h1
    obtain ⟨i, rfl⟩ : ∃ i, j = i + 1 := ⟨j - 1, by omega⟩
    obtain ⟨w, hw, rfl⟩ := pr_half hj
    have hi := pr_ow_le hw
    have ha := pr_al hw hf
    have ex : (48 : Int32) * nI i + nI f + (1 : Int32) <<< (nI i &&& 31) = nI (48 * i + (f + w)) := by
      rw [pr_ix, pr_shl hw, nI_add, Nat.add_assoc]
    rw [nI_pred]
    refine br_f (nI_nlt (by omega) (by omega)) ⟨pk_in (48 * i + (f + w)) 192 (by omega) ex, nm_r (by rw [pk_cl _ ex (by omega)]) (nm_r (Int32.sub_eq_add_neg (nI i) 1).symm ?_)⟩
    refine ih i w _ (by omega) hw ha.1 (by omega) ⟨fun g hg h2 h3 => ?_, fun g hg h2 => ?_⟩ (fun g h2 h3 => h1 g h2 (by omega))
    · rw [pr_fs_out hw ha.2 (by omega) (by omega) (by omega)]
      exact h.1 g hg h2 (by omega)
    · by_cases hin : f + w ≤ g ∧ g < f + w + w
      · rw [pr_fs_set hw ha.2 (by omega) (by omega) hin.1 hin.2 (h.1 g hg (by omega) (by omega)), h1 g (by omega) (by omega)]
      · rw [pr_fs_out hw ha.2 (by omega) (by omega) (by omega)]
        exact h.2 g hg (by omega)
theorem pr_splitb {post : St2 → Prop} {fc uc ck : Int32} {a1 a2 a3 a4 a5 a6 a7 a8 a9 A : Nat → Int32} {F f r wr o w : Nat} (hF : F ≤ 48) (hr : pr_ow r wr) (ho : pr_ow o w) (hro : r ≤ o) (hf : f % w = 0) (hfF : f + w ≤ F)
    (h : pr_up F A a2 f w 0) (h1 : ∀ g, f ≤ g → g < f + w → pr_fs A g = 1)
    (hp : ∀ a2', pr_up F A a2' f wr 0 → post (fc, uc, ck, a1, a2', a3, a4, a5, a6, a7, a8, a9)) : wpX_split_2 post (fc, uc, ck, a1, a2, a3, a4, a5, a6, a7, a8, a9) (nI f) (nI o) (nI r) :=
  nm_e ⟨o - r + 1, pr_split5b hF hr hp (o - r) o w a2 (by omega) ho hf hfF h h1⟩
theorem pr_alloc9b {post : Int32 → St2 → Prop} {J2 : Int32 → Prop} {uc ck : Int32} {a1 a2 a3 a4 a5 a6 a7 a8 a9 : Nat → Int32} {F r wr o w : Nat} (hF : F ≤ 48) (hF8 : F % 8 = 0) (hr : pr_ow r wr) (ho : pr_ow o w) (hro : r ≤ o) (h1 : ∀ g, g < F → pr_fs a2 g ≤ 1)
    (hJ : (∀ f, f < F → f % w = 0 → pr_v a2 (48 * o + f) = 0) → J2 (nI (o + 1)))
    (hP : ∀ f a2', f % wr = 0 → f + wr ≤ F → (∀ g, f ≤ g → g < f + wr → pr_fs a2 g = 1) → pr_up F a2 a2' f wr 0 → post (nI f) (nI F, uc, ck, a1, a2', a3, a4, a5, a6, a7, a8, a9)) :
    ∀ n f, f % w = 0 → f ≤ F → F - f < n → (∀ f', f' < f → f' % w = 0 → pr_v a2 (48 * o + f') = 0) →
      wX_allocate_2_9 post J2 (nI r) (nI o) (nI F) uc ck a1 a2 a3 a4 a5 a6 a7 a8 a9 n (nI f) := by
  have hol := pr_ow_le ho
  have hrl := pr_ow_le hr
  intro n
  induction n with
  | zero => intro f _ _ z _; omega
  | succ n ih =>
    intro f hf hfF hn hz
    refine pk_le F f (fun z => nm_r (nI_1 o) (hJ (fun f' hf' => hz f' (by omega)))) (fun z => ⟨pk_in (48 * o + f) 192 (by omega) (pr_ix o f), ?_⟩)
    have hfw := pr_room ho hf hF8 z
    rw [pr_ix, nI_clamp (show 48 * o + f < 2 ^ 31 by omega)]
    refine br_c (fun z2 => nm_r (by rw [pr_shl ho, nI_add]) (ih (f + w) ?_ hfw (by omega) ?_)) (fun z2 => ⟨pk_in (48 * o + f) 192 (by omega), nm_e ?_⟩)
    · rw [Nat.add_mod_right]
      exact hf
    · intro f' h2 h3
      rcases Nat.lt_or_ge f' f with h4 | h4
      · exact hz f' h4 h3
      · have : f' = f := by
          rcases ho with ⟨rfl, rfl⟩ | ⟨rfl, rfl⟩ | ⟨rfl, rfl⟩ | ⟨rfl, rfl⟩ <;> omega
        rw [this]
        exact pr_v_z z2
    · have hv := pr_v_o z2
      have hrun : ∀ g, f ≤ g → g < f + w → pr_fs a2 g = 1 := fun g h2 h3 => Nat.le_antisymm (h1 g (by omega)) (pr_fs_v ho hf h2 h3 hv)
      have hwr : wr ≤ w ∧ f % wr = 0 := by
        rcases ho with ⟨rfl, rfl⟩ | ⟨rfl, rfl⟩ | ⟨rfl, rfl⟩ | ⟨rfl, rfl⟩ <;> rcases hr with ⟨rfl, rfl⟩ | ⟨rfl, rfl⟩ | ⟨rfl, rfl⟩ | ⟨rfl, rfl⟩ <;> omega
      refine pr_splitb hF hr ho hro hf hfw ⟨fun g hg h2 h3 => ?_, fun g hg h2 => ?_⟩ hrun (fun a2' h => hP f a2' hwr.2 (by omega) (fun g h2 h3 => hrun g h2 (by omega)) h)
      · exact pr_fs_clr ho hf (by omega) (by omega) h2 h3 hv (h1 g hg)
      · exact pr_fs_out ho hf (by omega) (by omega) h2
theorem pr_alloc2b {post : Int32 → St2 → Prop} {uc ck : Int32} {a1 a2 a3 a4 a5 a6 a7 a8 a9 : Nat → Int32} {F r wr : Nat} (hF : F ≤ 48) (hF8 : F % 8 = 0) (hr : pr_ow r wr) (h1 : ∀ g, g < F → pr_fs a2 g ≤ 1)
    (hN : (∀ o w, r ≤ o → pr_ow o w → ∀ f, f < F → f % w = 0 → pr_v a2 (48 * o + f) = 0) → post (-1) (nI F, uc, ck, a1, a2, a3, a4, a5, a6, a7, a8, a9))
    (hP : ∀ f a2', f % wr = 0 → f + wr ≤ F → (∀ g, f ≤ g → g < f + wr → pr_fs a2 g = 1) → pr_up F a2 a2' f wr 0 → post (nI f) (nI F, uc, ck, a1, a2', a3, a4, a5, a6, a7, a8, a9)) :
    ∀ n o, r ≤ o → o ≤ 4 → 4 - o < n → (∀ o' w', r ≤ o' → o' < o → pr_ow o' w' → ∀ f, f < F → f % w' = 0 → pr_v a2 (48 * o' + f) = 0) →
      wX_allocate_2_2 post (nI r) (nI F) uc ck a1 a2 a3 a4 a5 a6 a7 a8 a9 n (nI o) := by
  intro n
  induction n with
  | zero => intro o _ _ z _; omega
  | succ n ih =>
    intro o hro ho4 hn hz
    refine pk_lt 3 o (fun z => hN (fun o' w' h2 h3 => hz o' w' h2 (by have := (pr_ow_le h3).1; omega) h3)) (fun z => ⟨F + 1, ?_⟩)
    obtain ⟨w, ho⟩ := pr_ow_ex z
    refine pr_alloc9b hF hF8 hr ho hro h1 (fun hh => ih (o + 1) (by omega) (by omega) (by omega) (fun o' w' h2 h3 h4 => ?_)) hP (F + 1) 0 (Nat.zero_mod w) (by omega) (by omega) (fun f' z2 => absurd z2 (by omega))
    rcases Nat.lt_or_ge o' o with h5 | h5
    · exact hz o' w' h2 h5 h4
    · have e : o' = o := by omega
      subst e
      have e2 := pr_ow_inj h4 ho
      subst e2
      exact hh
theorem pr_allocb {post : Int32 → St2 → Prop} {fc uc ck : Int32} {a1 a2 a3 a4 a5 a6 a7 a8 a9 : Nat → Int32} {F r wr : Nat} (hfc : fc = nI F) (hF : F ≤ 48) (hF8 : F % 8 = 0) (hr : pr_ow r wr) (h1 : ∀ g, g < F → pr_fs a2 g ≤ 1)
    (hN : (∀ o w, r ≤ o → pr_ow o w → ∀ f, f < F → f % w = 0 → pr_v a2 (48 * o + f) = 0) → post (-1) (fc, uc, ck, a1, a2, a3, a4, a5, a6, a7, a8, a9))
    (hP : ∀ f a2', f % wr = 0 → f + wr ≤ F → (∀ g, f ≤ g → g < f + wr → pr_fs a2 g = 1) → pr_up F a2 a2' f wr 0 → post (nI f) (fc, uc, ck, a1, a2', a3, a4, a5, a6, a7, a8, a9)) :
    wpX_allocate_2 post (fc, uc, ck, a1, a2, a3, a4, a5, a6, a7, a8, a9) (nI r) := by
  subst hfc
  exact ⟨5, pr_alloc2b hF hF8 hr h1 hN hP 5 r (Nat.le_refl r) (by have := (pr_ow_le hr).1; omega) (by omega) (fun o' w' h2 h3 => absurd h3 (by omega))⟩
/-! ===== giveBack ===== -/
theorem pr_give83 {post : St2 → Prop} {fc uc ck : Int32} {a1 a2 a3 a4 a5 a6 a7 a8 a9 A : Nat → Int32} {F f wf s o w : Nat} (hF : F ≤ 48) (ho : pr_ow o w) (hs : s % w = 0) (hsF : s + w ≤ F)
    (hin : s ≤ f ∧ f + wf ≤ s + w) (h0 : ∀ g, s ≤ g → g < s + w → pr_fs a2 g = 0) (hout : ∀ g, g < F → (g < s ∨ s + w ≤ g) → pr_fs a2 g = pr_fs A g) (h1 : ∀ g, s ≤ g → g < s + w → (g < f ∨ f + wf ≤ g) → pr_fs A g = 1)
    (hp : ∀ a2', pr_up F A a2' f wf 1 → post (fc, uc, ck, a1, a2', a3, a4, a5, a6, a7, a8, a9)) : wX_giveBack_83 post (nI s) (nI o) fc uc ck a1 a2 a3 a4 a5 a6 a7 a8 a9 := by
  have hol := pr_ow_le ho
  refine ⟨pk_in (48 * o + s) 192 (by omega) (pr_ix o s), nm_r (by rw [pr_ix, nI_clamp (show 48 * o + s < 2 ^ 31 by omega)]) (hp _ ⟨fun g hg h2 h3 => ?_, fun g hg h2 => ?_⟩)⟩
  · exact pr_fs_set ho hs (by omega) (by omega) (by omega) (by omega) (h0 g (by omega) (by omega))
  · by_cases hi : s ≤ g ∧ g < s + w
    · rw [pr_fs_set ho hs (by omega) (by omega) hi.1 hi.2 (h0 g hi.1 hi.2), h1 g hi.1 hi.2 h2]
    · rw [pr_fs_out ho hs (by omega) (by omega) (by omega)]
      exact hout g hg (by omega)
theorem pr_give8 {post : St2 → Prop} {fc uc ck : Int32} {a1 a3 a4 a5 a6 a7 a8 a9 A : Nat → Int32} {F f wf : Nat} (hF : F ≤ 48) (hF8 : F % 8 = 0) (hA : ∀ g, g < F → pr_fs A g ≤ 1)
    (hp : ∀ a2', pr_up F A a2' f wf 1 → post (fc, uc, ck, a1, a2', a3, a4, a5, a6, a7, a8, a9)) :
    ∀ n k o w s a2, 3 - k < n → k ≤ 3 → pr_ow o w → s % w = 0 → s + w ≤ F → (s ≤ f ∧ f + wf ≤ s + w) → (∀ g, s ≤ g → g < s + w → pr_fs a2 g = 0) → (∀ g, g < F → (g < s ∨ s + w ≤ g) → pr_fs a2 g = pr_fs A g) →
      (∀ g, s ≤ g → g < s + w → (g < f ∨ f + wf ≤ g) → pr_fs A g = 1) → wX_giveBack_8 post fc uc ck n (nI s) (nI o) (nI k) a1 a2 a3 a4 a5 a6 a7 a8 a9 := by
  intro n
  induction n with
  | zero => intro k o w s a2 z; omega
  | succ n ih =>
    intro k o w s a2 hn hk ho hs hsF hin h0 hout h1
    have hol := pr_ow_le ho
    have hE : wX_giveBack_83 post (nI s) (nI o) fc uc ck a1 a2 a3 a4 a5 a6 a7 a8 a9 := pr_give83 hF ho hs hsF hin h0 hout h1 hp
    refine pk_le 3 k (fun _ => hE) (fun hk3 => pk_le 3 o (fun _ => hE) (fun ho3 => nm_r (pr_xor ho ho3 (by omega) hs) ?_))
    obtain ⟨b1, b2, b3, _⟩ := pr_bud_in ho ho3 hs hF8 hsF
    have hd := pr_dbl ho ho3
    generalize pr_bud s w = t at b1 b2 b3 ⊢
    refine ⟨pk_in (48 * o + t) 192 (by omega) (pr_ix o t), ?_⟩
    rw [pr_ix, nI_clamp (show 48 * o + t < 2 ^ 31 by omega)]
    refine br_c (fun _ => hE) (fun z => ⟨pk_in (48 * o + t) 192 (by omega), nm_e ?_⟩)
    have hv := pr_v_o z
    have ht1 : ∀ g, t ≤ g → g < t + w → pr_fs a2 g ≤ 1 := fun g h2 h3 => by
      rw [hout g (by omega) (by omega)]
      exact hA g (by omega)
    have htA : ∀ g, t ≤ g → g < t + w → pr_fs A g = 1 := fun g h2 h3 => by
      rw [← hout g (by omega) (by omega)]
      exact Nat.le_antisymm (ht1 g h2 h3) (pr_fs_v ho b1 h2 h3 hv)
    have hc0 : ∀ g, t ≤ g → g < t + w → pr_fs (upd a2 (48 * o + t) 0) g = 0 := fun g h2 h3 => pr_fs_clr ho b1 (by omega) (by omega) h2 h3 hv (ht1 g h2 h3)
    have hcn : ∀ g, g < F → (g < t ∨ t + w ≤ g) → pr_fs (upd a2 (48 * o + t) 0) g = pr_fs a2 g := fun g h2 h3 => pr_fs_out ho b1 (by omega) (by omega) h3
    refine pk_le t s (fun hts => nm_r (nI_1 o) (nm_r (nI_1 k) ?_)) (fun hts => nm_r (nI_1 o) (nm_r (nI_1 k) ?_))
    · have e : t + w = s ∧ t % (2 * w) = 0 := by omega
      refine ih (k + 1) (o + 1) (2 * w) t _ (by omega) (by omega) hd e.2 (by omega) (by omega) (fun g h2 h3 => ?_) (fun g h2 h3 => ?_) (fun g h2 h3 h4 => ?_)
      · rcases Nat.lt_or_ge g (t + w) with h5 | h5
        · exact hc0 g h2 h5
        · rw [hcn g (by omega) (by omega)]
          exact h0 g (by omega) (by omega)
      · rw [hcn g h2 (by omega)]
        exact hout g h2 (by omega)
      · rcases Nat.lt_or_ge g (t + w) with h5 | h5
        · exact htA g h2 h5
        · exact h1 g (by omega) (by omega) h4
    · have e : t = s + w ∧ s % (2 * w) = 0 := by omega
      refine ih (k + 1) (o + 1) (2 * w) s _ (by omega) (by omega) hd e.2 (by omega) (by omega) (fun g h2 h3 => ?_) (fun g h2 h3 => ?_) (fun g h2 h3 h4 => ?_)
      · rcases Nat.lt_or_ge g t with h5 | h5
        · rw [hcn g (by omega) (by omega)]
          exact h0 g (by omega) (by omega)
        · exact hc0 g h5 (by omega)
      · rw [hcn g h2 (by omega)]
        exact hout g h2 (by omega)
      · rcases Nat.lt_or_ge g t with h5 | h5
        · exact h1 g (by omega) (by omega) h4
        · exact htA g h5 (by omega)
theorem pr_give {post : St2 → Prop} {fc uc ck : Int32} {a1 a2 a3 a4 a5 a6 a7 a8 a9 : Nat → Int32} {F f r w : Nat} (hF : F ≤ 48) (hF8 : F % 8 = 0) (hA : ∀ g, g < F → pr_fs a2 g ≤ 1) (hr : pr_ow r w) (hf : f % w = 0) (hfF : f + w ≤ F) (h0 : ∀ g, f ≤ g → g < f + w → pr_fs a2 g = 0)
    (hp : ∀ a2', pr_up F a2 a2' f w 1 → post (fc, uc, ck, a1, a2', a3, a4, a5, a6, a7, a8, a9)) : wpX_giveBack post (fc, uc, ck, a1, a2, a3, a4, a5, a6, a7, a8, a9) (nI f) (nI r) :=
  ⟨4, pr_give8 hF hF8 hA hp 4 0 r w f a2 (by omega) (by omega) hr hf hfF (by omega) h0 (fun _ _ _ => rfl) (fun g h2 h3 h4 => absurd h4 (by omega))⟩
end
section
/-! ===== the invariant ===== -/
/-- frames: each is free once, or behind just one slot -/
def pr_A (F : Nat) (T : Nat → Nat) (a2 : Nat → Int32) : Prop := (∀ g, g < F → pr_fs a2 g ≤ 1) ∧ (∀ p, p < 64 → T p < F → pr_fs a2 (T p) = 0) ∧ (∀ p q, p < 64 → q < 64 → T p < F → T p = T q → p = q) ∧ ∀ g, g < F → pr_fs a2 g = 0 → ∃ p, p < 64 ∧ T p = g
/-- a block: not reserved, its slots are its held pages; or reserved, four slots side by side -/
def pr_Bb (F : Nat) (H : Nat → Bool) (T : Nat → Nat) (b : Nat) (x5 x6 x7 : Int32) : Prop := x6 = nI (pr_hb H b) ∧ ((x5 = -1 ∧ x7 = 0 ∧ ∀ k, k < 4 → (T (4 * b + k) < F ↔ H (4 * b + k) = true)) ∨ ∃ t, x5 = nI t ∧ t % 4 = 0 ∧ t + 4 ≤ F ∧ (∀ k, k < 4 → T (4 * b + k) = t + k) ∧ (x7 = 0 ∨ (x7 = 1 ∧ pr_hb H b = 15)))
def pr_B (F : Nat) (H : Nat → Bool) (T : Nat → Nat) (a5 a6 a7 : Nat → Int32) : Prop := ∀ b, b < 16 → pr_Bb F H T b (a5 b) (a6 b) (a7 b)
def pr_C (H : Nat → Bool) (T : Nat → Nat) (a3 a7 : Nat → Int32) : Prop := ∀ p, p < 64 → H p = true → a7 (p / 4) = 0 → a3 p = nI (T p)
def pr_W (a4 a8 : Nat → Int32) : Prop := (∀ p, p < 64 → pr_bo (a4 p)) ∧ ∀ b, b < 16 → pr_bo (a8 b)
def pr_N (H : Nat → Bool) (a5 : Nat → Int32) : Prop := ∀ b, b < 16 → a5 b ≠ -1 → pr_hb H b ≠ 0
def pr_G (F : Nat) (H : Nat → Bool) (fc uc : Int32) : Prop := F ≤ 48 ∧ F % 8 = 0 ∧ fc = nI F ∧ uc = nI (pr_cn H 64) ∧ pr_cn H 64 ≤ F
def pr_M (F : Nat) (H : Nat → Bool) (T : Nat → Nat) (fc uc : Int32) (a2 a3 a4 a5 a6 a7 a8 : Nat → Int32) : Prop := pr_G F H fc uc ∧ pr_A F T a2 ∧ pr_B F H T a5 a6 a7 ∧ pr_C H T a3 a7 ∧ pr_W a4 a8
def pr_K (F : Nat) (H : Nat → Bool) (T : Nat → Nat) : St2 → Prop
  | (fc, uc, _, _, a2, a3, a4, a5, a6, a7, a8, _) => pr_M F H T fc uc a2 a3 a4 a5 a6 a7 a8 ∧ pr_N H a5
def pr_J (F : Nat) (H : Nat → Bool) (s : St2) : Prop := ∃ T, pr_K F H T s
/-- what lies in a frame -/
def pr_dt (s : St2) : Nat → Int32 := s.2.2.2.1
theorem pr_nm1 {t : Nat} (h : t < 2 ^ 31) : nI t ≠ -1 := by
  intro e
  have h2 := congrArg Int32.toInt e
  rw [nI_toInt h] at h2
  have h3 : (-1 : Int32).toInt = -1 := by decide
  omega
theorem pr_Bb_cg {F : Nat} {H H' : Nat → Bool} {T T' : Nat → Nat} {b : Nat} {x5 x6 x7 : Int32} (hH : ∀ k, k < 4 → H' (4 * b + k) = H (4 * b + k)) (hT : ∀ k, k < 4 → T' (4 * b + k) = T (4 * b + k)) (h : pr_Bb F H T b x5 x6 x7) : pr_Bb F H' T' b x5 x6 x7 := by
  unfold pr_Bb at h ⊢
  rw [pr_hb_cg hH]
  obtain ⟨h1, h2⟩ := h
  refine ⟨h1, ?_⟩
  rcases h2 with ⟨e1, e2, e3⟩ | ⟨t, e1, e2, e3, e4, e5⟩
  · exact Or.inl ⟨e1, e2, fun k hk => by rw [hT k hk, hH k hk]; exact e3 k hk⟩
  · exact Or.inr ⟨t, e1, e2, e3, fun k hk => by rw [hT k hk]; exact e4 k hk, e5⟩
theorem pr_Bb_TF {F : Nat} {H : Nat → Bool} {T : Nat → Nat} {b : Nat} {x5 x6 x7 : Int32} (h : pr_Bb F H T b x5 x6 x7) {k : Nat} (hk : k < 4) (hH : H (4 * b + k) = true) : T (4 * b + k) < F := by
  obtain ⟨_, h2⟩ := h
  rcases h2 with ⟨_, _, e3⟩ | ⟨t, _, _, e3, e4, _⟩
  · exact (e3 k hk).mpr hH
  · rw [e4 k hk]
    omega
theorem pr_TF {F : Nat} {H : Nat → Bool} {T : Nat → Nat} {a5 a6 a7 : Nat → Int32} (h : pr_B F H T a5 a6 a7) {p : Nat} (hp : p < 64) (hH : H p = true) : T p < F := by
  have := pr_Bb_TF (h (p / 4) (by omega)) (k := p % 4) (by omega)
  rw [pr_pg] at this
  exact this hH
theorem pr_hb_ne {H : Nat → Bool} {p : Nat} (h : H p = true) : pr_hb H (p / 4) ≠ 0 := fun z => by
  rw [pr_hbp0 z] at h
  exact absurd h (by decide)
theorem pr_hb_n15 {H : Nat → Bool} {p : Nat} (h : H p = false) : pr_hb H (p / 4) ≠ 15 := fun z => by
  rw [pr_hbp15 z] at h
  exact absurd h (by decide)
/-! ===== frames: one slot less, one slot more, a block reserved, a block released ===== -/
theorem pr_A_take {F : Nat} {T : Nat → Nat} {a2 a2' : Nat → Int32} {p : Nat} (hF : F ≤ 48) (h : pr_A F T a2) (hp : p < 64) (hT : T p < F) (hu : pr_up F a2 a2' (T p) 1 1) : pr_A F (pr_uT T p 99) a2' := by
  obtain ⟨h1, h2, h3, h4⟩ := h
  obtain ⟨u1, u2⟩ := hu
  have un : ∀ g, g < F → g ≠ T p → pr_fs a2' g = pr_fs a2 g := fun g hg hne => u2 g hg (by omega)
  have us : pr_fs a2' (T p) = 1 := u1 (T p) hT (by omega) (by omega)
  have hx : ∀ q, pr_uT T p 99 q < F → q ≠ p ∧ pr_uT T p 99 q = T q := fun q hq => by
    by_cases e : q = p
    · rw [e, pr_uTs] at hq
      omega
    · exact ⟨e, pr_uTn e⟩
  refine ⟨fun g hg => ?_, fun q hq hqF => ?_, fun q r hq hr hqF e => ?_, fun g hg h0 => ?_⟩
  · by_cases e : g = T p
    · rw [e, us]
      omega
    · rw [un g hg e]
      exact h1 g hg
  · obtain ⟨x1, x2⟩ := hx q hqF
    rw [x2] at hqF ⊢
    rw [un _ hqF (fun z => x1 (h3 q p hq hp hqF z))]
    exact h2 q hq hqF
  · have hrF : pr_uT T p 99 r < F := e ▸ hqF
    obtain ⟨x1, x2⟩ := hx q hqF
    obtain ⟨y1, y2⟩ := hx r hrF
    rw [x2, y2] at e
    rw [x2] at hqF
    exact h3 q r hq hr hqF e
  · have hne : g ≠ T p := fun z => by
      rw [z, us] at h0
      omega
    rw [un g hg hne] at h0
    obtain ⟨q, hq, e⟩ := h4 g hg h0
    have hqp : q ≠ p := fun z => hne (by rw [← e, z])
    exact ⟨q, hq, by rw [pr_uTn hqp]; exact e⟩
theorem pr_A_put {F : Nat} {T : Nat → Nat} {a2 a2' : Nat → Int32} {p f : Nat} (h : pr_A F T a2) (hp : p < 64) (hT : F ≤ T p) (hf : f < F) (hf1 : pr_fs a2 f = 1) (hu : pr_up F a2 a2' f 1 0) : pr_A F (pr_uT T p f) a2' := by
  obtain ⟨h1, h2, h3, h4⟩ := h
  obtain ⟨u1, u2⟩ := hu
  have un : ∀ g, g < F → g ≠ f → pr_fs a2' g = pr_fs a2 g := fun g hg hne => u2 g hg (by omega)
  have us : pr_fs a2' f = 0 := u1 f hf (by omega) (by omega)
  have tn : ∀ q, q < 64 → T q < F → T q ≠ f := fun q hq hqF z => by
    have := h2 q hq hqF
    rw [z] at this
    omega
  refine ⟨fun g hg => ?_, fun q hq hqF => ?_, fun q r hq hr hqF e => ?_, fun g hg h0 => ?_⟩
  · by_cases e : g = f
    · rw [e, us]
      omega
    · rw [un g hg e]
      exact h1 g hg
  · by_cases e : q = p
    · rw [e, pr_uTs]
      exact us
    · rw [pr_uTn e] at hqF ⊢
      rw [un _ hqF (tn q hq hqF)]
      exact h2 q hq hqF
  · by_cases eq : q = p
    · by_cases er : r = p
      · rw [eq, er]
      · rw [eq, pr_uTs, pr_uTn er] at e
        exact absurd e.symm (tn r hr (by omega))
    · rw [pr_uTn eq] at e hqF
      by_cases er : r = p
      · rw [er, pr_uTs] at e
        exact absurd e (tn q hq hqF)
      · rw [pr_uTn er] at e
        exact h3 q r hq hr hqF e
  · by_cases e : g = f
    · exact ⟨p, hp, by rw [pr_uTs, e]⟩
    · rw [un g hg e] at h0
      obtain ⟨q, hq, e2⟩ := h4 g hg h0
      have hqp : q ≠ p := fun z => by
        rw [z] at e2
        omega
      exact ⟨q, hq, by rw [pr_uTn hqp]; exact e2⟩
def pr_rT (T : Nat → Nat) (b f : Nat) : Nat → Nat := fun q => if q / 4 = b then f + q % 4 else T q
def pr_zT (T : Nat → Nat) (b : Nat) : Nat → Nat := fun q => if q / 4 = b then 99 else T q
theorem pr_rTs {T : Nat → Nat} {b f q : Nat} (h : q / 4 = b) : pr_rT T b f q = f + q % 4 := if_pos h
theorem pr_rTn {T : Nat → Nat} {b f q : Nat} (h : q / 4 ≠ b) : pr_rT T b f q = T q := if_neg h
theorem pr_zTs {T : Nat → Nat} {b q : Nat} (h : q / 4 = b) : pr_zT T b q = 99 := if_pos h
theorem pr_zTn {T : Nat → Nat} {b q : Nat} (h : q / 4 ≠ b) : pr_zT T b q = T q := if_neg h
theorem pr_A_res {F : Nat} {T : Nat → Nat} {a2 a2' : Nat → Int32} {b f : Nat} (h : pr_A F T a2) (hb : b < 16) (hT : ∀ q, q / 4 = b → F ≤ T q) (hf : f + 4 ≤ F) (hf1 : ∀ g, f ≤ g → g < f + 4 → pr_fs a2 g = 1) (hu : pr_up F a2 a2' f 4 0) : pr_A F (pr_rT T b f) a2' := by
  obtain ⟨h1, h2, h3, h4⟩ := h
  obtain ⟨u1, u2⟩ := hu
  have tn : ∀ q, q < 64 → T q < F → (T q < f ∨ f + 4 ≤ T q) := fun q hq hqF => by
    have g1 := h2 q hq hqF
    rcases Nat.lt_or_ge (T q) f with z | z
    · exact Or.inl z
    · rcases Nat.lt_or_ge (T q) (f + 4) with z2 | z2
      · have := hf1 (T q) z z2
        omega
      · exact Or.inr z2
  refine ⟨fun g hg => ?_, fun q hq hqF => ?_, fun q r hq hr hqF e => ?_, fun g hg h0 => ?_⟩
  · by_cases e : f ≤ g ∧ g < f + 4
    · rw [u1 g hg e.1 e.2]
      omega
    · rw [u2 g hg (by omega)]
      exact h1 g hg
  · by_cases e : q / 4 = b
    · rw [pr_rTs e] at hqF ⊢
      exact u1 _ hqF (by omega) (by omega)
    · rw [pr_rTn e] at hqF ⊢
      rw [u2 _ hqF (tn q hq hqF)]
      exact h2 q hq hqF
  · by_cases eq : q / 4 = b
    · by_cases er : r / 4 = b
      · rw [pr_rTs eq, pr_rTs er] at e
        omega
      · rw [pr_rTs eq, pr_rTn er] at e
        have := tn r hr (by omega)
        omega
    · rw [pr_rTn eq] at e hqF
      by_cases er : r / 4 = b
      · rw [pr_rTs er] at e
        have := tn q hq hqF
        omega
      · rw [pr_rTn er] at e
        exact h3 q r hq hr hqF e
  · by_cases e : f ≤ g ∧ g < f + 4
    · refine ⟨4 * b + (g - f), by omega, ?_⟩
      rw [pr_rTs (by omega)]
      omega
    · rw [u2 g hg (by omega)] at h0
      obtain ⟨q, hq, e2⟩ := h4 g hg h0
      have hqp : q / 4 ≠ b := fun z => by
        have := hT q z
        omega
      exact ⟨q, hq, by rw [pr_rTn hqp]; exact e2⟩
theorem pr_A_rel {F : Nat} {T : Nat → Nat} {a2 a2' : Nat → Int32} {b t : Nat} (hF : F ≤ 48) (h : pr_A F T a2) (hb : b < 16) (ht : t + 4 ≤ F) (hT : ∀ q, q / 4 = b → T q = t + q % 4) (hu : pr_up F a2 a2' t 4 1) : pr_A F (pr_zT T b) a2' := by
  obtain ⟨h1, h2, h3, h4⟩ := h
  obtain ⟨u1, u2⟩ := hu
  have hx : ∀ q, pr_zT T b q < F → q / 4 ≠ b ∧ pr_zT T b q = T q := fun q hq => by
    by_cases e : q / 4 = b
    · rw [pr_zTs e] at hq
      omega
    · exact ⟨e, pr_zTn e⟩
  have tn : ∀ q, q < 64 → q / 4 ≠ b → T q < F → (T q < t ∨ t + 4 ≤ T q) := fun q hq hne hqF => by
    rcases Nat.lt_or_ge (T q) t with z | z
    · exact Or.inl z
    · rcases Nat.lt_or_ge (T q) (t + 4) with z2 | z2
      · have e := hT (4 * b + (T q - t)) (by omega)
        have := h3 q (4 * b + (T q - t)) hq (by omega) hqF (by omega)
        omega
      · exact Or.inr z2
  refine ⟨fun g hg => ?_, fun q hq hqF => ?_, fun q r hq hr hqF e => ?_, fun g hg h0 => ?_⟩
  · by_cases e : t ≤ g ∧ g < t + 4
    · rw [u1 g hg e.1 e.2]
      omega
    · rw [u2 g hg (by omega)]
      exact h1 g hg
  · obtain ⟨x1, x2⟩ := hx q hqF
    rw [x2] at hqF ⊢
    rw [u2 _ hqF (tn q hq x1 hqF)]
    exact h2 q hq hqF
  · have hrF : pr_zT T b r < F := e ▸ hqF
    obtain ⟨x1, x2⟩ := hx q hqF
    obtain ⟨y1, y2⟩ := hx r hrF
    rw [x2, y2] at e
    rw [x2] at hqF
    exact h3 q r hq hr hqF e
  · by_cases e : t ≤ g ∧ g < t + 4
    · rw [u1 g hg e.1 e.2] at h0
      omega
    · rw [u2 g hg (by omega)] at h0
      obtain ⟨q, hq, e2⟩ := h4 g hg h0
      have hqp : q / 4 ≠ b := fun z => by
        have := hT q z
        omega
      exact ⟨q, hq, by rw [pr_zTn hqp]; exact e2⟩
/-! ===== blocks and pages: one page's bit set or cleared; a block's base changed ===== -/
theorem pr_set {F : Nat} {H : Nat → Bool} {T T' : Nat → Nat} {a3 a5 a6 a7 : Nat → Int32} {p : Nat} {x : Bool} {v3 : Int32} (hF : F ≤ 48) (hB : pr_B F H T a5 a6 a7) (hC : pr_C H T a3 a7) (hp : p < 64) (h7 : a7 (p / 4) = 0) (hT : ∀ q, q ≠ p → T' q = T q)
    (hc : (a5 (p / 4) = -1 ∧ (T' p < F ↔ x = true)) ∨ (a5 (p / 4) ≠ -1 ∧ T' p = T p)) (h3 : x = true → v3 = nI (T' p)) :
    pr_B F (pr_uH H p x) T' a5 (upd a6 (p / 4) (nI (pr_hb (pr_uH H p x) (p / 4)))) a7 ∧ pr_C (pr_uH H p x) T' (upd a3 p v3) a7 := by
  refine ⟨fun b hb => ?_, fun q hq hH h0 => ?_⟩
  · by_cases e : b = p / 4
    · subst e
      rw [pk_us]
      refine ⟨rfl, ?_⟩
      obtain ⟨_, g⟩ := hB (p / 4) hb
      rcases g with ⟨e1, e2, e3⟩ | ⟨t, e1, e2, e3, e4, e5⟩
      · rcases hc with ⟨_, c2⟩ | ⟨c1, _⟩
        · refine Or.inl ⟨e1, e2, fun k hk => ?_⟩
          by_cases ek : 4 * (p / 4) + k = p
          · rw [ek, pr_uHs]
            exact c2
          · rw [hT _ ek, pr_uHn ek]
            exact e3 k hk
        · exact absurd e1 c1
      · rcases hc with ⟨c1, _⟩ | ⟨_, c2⟩
        · exact absurd (e1.symm.trans c1) (pr_nm1 (t := t) (by omega))
        · refine Or.inr ⟨t, e1, e2, e3, fun k hk => ?_, Or.inl h7⟩
          by_cases ek : 4 * (p / 4) + k = p
          · rw [ek, c2, ← ek]
            exact e4 k hk
          · rw [hT _ ek]
            exact e4 k hk
    · rw [pk_un e]
      exact pr_Bb_cg (fun k hk => pr_uHn (by omega)) (fun k hk => hT _ (by omega)) (hB b hb)
  · by_cases e : q = p
    · subst e
      rw [pk_us]
      rw [pr_uHs] at hH
      exact h3 hH
    · rw [pk_un e, hT q e]
      rw [pr_uHn e] at hH
      exact hC q hq hH h0
theorem pr_B_blk {F : Nat} {H : Nat → Bool} {T T' : Nat → Nat} {a5 a6 a7 : Nat → Int32} {b : Nat} {x5 : Int32} (hB : pr_B F H T a5 a6 a7) (hT : ∀ q, q / 4 ≠ b → T' q = T q) (hb : pr_Bb F H T' b x5 (a6 b) (a7 b)) : pr_B F H T' (upd a5 b x5) a6 a7 := by
  intro c hc
  by_cases e : c = b
  · subst e
    rw [pk_us]
    exact hb
  · rw [pk_un e]
    exact pr_Bb_cg (fun _ _ => rfl) (fun k hk => hT _ (by omega)) (hB c hc)
theorem pr_C_cg {H : Nat → Bool} {T T' : Nat → Nat} {a3 a7 : Nat → Int32} (hC : pr_C H T a3 a7) (h : ∀ q, q < 64 → H q = true → T' q = T q) : pr_C H T' a3 a7 := fun q hq hH h0 => by
  rw [h q hq hH]
  exact hC q hq hH h0
theorem pr_N_u {H : Nat → Bool} {a5 : Nat → Int32} {p : Nat} {x : Bool} (hp : p < 64) (hN : ∀ b, b < 16 → b ≠ p / 4 → a5 b ≠ -1 → pr_hb H b ≠ 0) (h : a5 (p / 4) ≠ -1 → pr_hb (pr_uH H p x) (p / 4) ≠ 0) : pr_N (pr_uH H p x) a5 := by
  intro b hb h5
  by_cases e : b = p / 4
  · subst e
    exact h h5
  · rw [pr_hb_cg (fun k hk => pr_uHn (show 4 * b + k ≠ p by omega))]
    exact hN b hb e h5
theorem pr_W_4 {a4 a8 : Nat → Int32} {p : Nat} {x : Int32} (h : pr_W a4 a8) (hx : pr_bo x) : pr_W (upd a4 p x) a8 := ⟨fun q hq => by
  by_cases e : q = p
  · rw [e, pk_us]
    exact hx
  · rw [pk_un e]
    exact h.1 q hq, h.2⟩
theorem pr_W_8 {a4 a8 : Nat → Int32} {b : Nat} {x : Int32} (h : pr_W a4 a8) (hx : pr_bo x) : pr_W a4 (upd a8 b x) := ⟨h.1, fun q hq => by
  by_cases e : q = b
  · rw [e, pk_us]
    exact hx
  · rw [pk_un e]
    exact h.2 q hq⟩
end
section
/-! ===== small methods ===== -/
theorem pr_s2 {p : Nat} (hp : p < 64) : nI p >>> ((2 : Int32) &&& 31) = nI (p / 4) := pk_shrN (by omega) _ 2 (by decide)
theorem pr_a3 {p : Nat} (hp : p < 64) : nI p &&& 3 = nI (p % 4) := pk_andN (by omega) 2 (by decide)
theorem pr_m4 (b : Nat) : (4 : Int32) * nI b = nI (4 * b) := pk_mul 4 b
theorem pr_m4k (b k : Nat) : (4 : Int32) * nI b + nI k = nI (4 * b + k) := by rw [pr_m4, nI_add]
theorem pr_sp (s x : Nat) : (32 : Int32) * nI s + nI x = nI (32 * s + x) := by
  show nI 32 * nI s + nI x = _
  rw [pk_mul, nI_add]
theorem pr_space {post : Int32 → Prop} {u : St0} {s : Nat} (hs : s < 2) (h : post 1) : wpX_isSpace post u (nI s) := by
  rcases (by omega : s = 0 ∨ s = 1) with rfl | rfl
  · exact br_t rfl h
  · exact br_f (by decide) (br_t rfl h)
theorem pr_page {post : Int32 → Prop} {u : St0} {x : Nat} (hx : x < 32) (h : post 1) : wpX_isPage post u (nI x) :=
  br_f (nI_pos (by omega)) (br_f (nI_ge (b := 32) hx (by decide)) h)
theorem pr_range {post : Int32 → Prop} {u : St0} {p q : Nat} (hp : p < 2 ^ 30) (hq : q < 2 ^ 30) (h1 : 1 ≤ q → p + q ≤ 32 → post 1) (h0 : ¬ (1 ≤ q ∧ p + q ≤ 32) → post 0) : wpX_isRange post u (nI p) (nI q) := by
  refine pk_lt q 1 (fun z => h0 (by omega)) (fun z => pk_lt 32 q (fun z2 => h0 (by omega)) (fun z2 => br_f (nI_pos (by omega)) ?_))
  refine pk_lt (32 - q) p (fun z3 => h0 (by omega)) (fun z3 => h1 z (by omega)) ?_
  show nI 32 - nI q = _
  exact pk_sub z2
theorem pr_has {post : Int32 → Prop} {fc uc ck : Int32} {a1 a2 a3 a4 a5 a6 a7 a8 a9 : Nat → Int32} {F : Nat} {H : Nat → Bool} {T : Nat → Nat} {p : Nat} (hB : pr_B F H T a5 a6 a7) (hp : p < 64) (h1 : H p = true → post 1) (h0 : H p = false → post 0) :
    wpX_has post (fc, uc, ck, a1, a2, a3, a4, a5, a6, a7, a8, a9) (nI p) := by
  refine ⟨pk_in (p / 4) 16 (by omega) (pr_s2 hp), ?_⟩
  rw [pr_s2 hp, nI_clamp (show p / 4 < 2 ^ 31 by omega), pr_a3 hp, (hB (p / 4) (by omega)).1, pr_bit H (p / 4) (show p % 4 < 4 by omega), pr_pg]
  cases hH : H p
  · exact br_f (by decide) (h0 hH)
  · exact br_t rfl (h1 hH)
theorem pr_mapped {post : Int32 → Prop} {fc uc ck : Int32} {a1 a2 a3 a4 a5 a6 a7 a8 a9 : Nat → Int32} {F : Nat} {H : Nat → Bool} {T : Nat → Nat} {s x : Nat} (hB : pr_B F H T a5 a6 a7) (hs : s < 2) (hx : x < 32) (h1 : H (32 * s + x) = true → post 1) (h0 : H (32 * s + x) = false → post 0) :
    wpX_mapped post (fc, uc, ck, a1, a2, a3, a4, a5, a6, a7, a8, a9) (nI s) (nI x) := by
  unfold wpX_mapped
  dsimp only
  refine pr_space hs (br_f (by decide) (pr_page hx (br_f (by decide) ?_)))
  rw [pr_sp]
  exact pr_has hB (by omega) (fun h => br_f (by decide) (h1 h)) (fun h => br_t rfl (h0 h))
theorem pr_trans {post : Int32 → Prop} {fc uc ck : Int32} {a1 a2 a3 a4 a5 a6 a7 a8 a9 : Nat → Int32} {F : Nat} {H : Nat → Bool} {T : Nat → Nat} {p : Nat} (hB : pr_B F H T a5 a6 a7) (hC : pr_C H T a3 a7) (hp : p < 64) (hH : H p = true) (h : post (nI (T p))) :
    wpX_translate post (fc, uc, ck, a1, a2, a3, a4, a5, a6, a7, a8, a9) (nI p) := by
  refine nm_r (pr_s2 hp) ⟨pk_in (p / 4) 16 (by omega), ?_⟩
  rw [nI_clamp (show p / 4 < 2 ^ 31 by omega), nI_clamp (show p < 2 ^ 31 by omega), pr_a3 hp]
  refine br_c (fun z => ⟨pk_in p 64 hp, ?_⟩) (fun z => ⟨pk_in (p / 4) 16 (by omega), ?_⟩)
  · rw [hC p hp hH z]
    exact h
  · obtain ⟨_, g⟩ := hB (p / 4) (by omega)
    rcases g with ⟨_, e2, _⟩ | ⟨t, e1, e2, e3, e4, _⟩
    · exact absurd e2 z
    · have e := e4 (p % 4) (by omega)
      rw [pr_pg] at e
      rw [e1, nI_add, ← e]
      exact h
theorem pr_cont {post : Int32 → Prop} {fc uc ck : Int32} {a1 a2 a3 a4 a5 a6 a7 a8 a9 : Nat → Int32} {F : Nat} {H : Nat → Bool} {T : Nat → Nat} {p : Nat} (hF : F ≤ 48) (hB : pr_B F H T a5 a6 a7) (hC : pr_C H T a3 a7) (hp : p < 64) (hH : H p = true) (h : post (a1 (T p))) :
    wpX_content post (fc, uc, ck, a1, a2, a3, a4, a5, a6, a7, a8, a9) (nI p) := by
  have hT := pr_TF hB hp hH
  unfold wpX_content
  dsimp only
  refine pr_trans hB hC hp hH ⟨pk_in (T p) 48 (by omega), ?_⟩
  rw [nI_clamp (show T p < 2 ^ 31 by omega)]
  exact h
theorem pr_read {post : Int32 → Prop} {fc uc ck : Int32} {a1 a2 a3 a4 a5 a6 a7 a8 a9 : Nat → Int32} {F : Nat} {H : Nat → Bool} {T : Nat → Nat} {s x : Nat} (hF : F ≤ 48) (hB : pr_B F H T a5 a6 a7) (hC : pr_C H T a3 a7) (hs : s < 2) (hx : x < 32) (h1 : H (32 * s + x) = true → post (a1 (T (32 * s + x)))) (h0 : H (32 * s + x) = false → post 0) :
    wpX_read post (fc, uc, ck, a1, a2, a3, a4, a5, a6, a7, a8, a9) (nI s) (nI x) := by
  unfold wpX_read
  dsimp only
  refine pr_space hs (br_f (by decide) (pr_page hx (br_f (by decide) (nm_r (pr_sp s x) ?_))))
  exact pr_has hB (by omega) (fun h => br_f (by decide) (pr_cont hF hB hC (by omega) h (h1 h))) (fun h => br_t rfl (h0 h))
theorem pr_mayw {post : Int32 → Prop} {fc uc ck : Int32} {a1 a2 a3 a4 a5 a6 a7 a8 a9 : Nat → Int32} {p : Nat} (hW : pr_W a4 a8) (hp : p < 64) (h : ∀ r, pr_bo r → post r) :
    wpX_mayWrite post (fc, uc, ck, a1, a2, a3, a4, a5, a6, a7, a8, a9) (nI p) := by
  refine ⟨pk_in (p / 4) 16 (by omega) (pr_s2 hp), ?_⟩
  rw [pr_s2 hp, nI_clamp (show p / 4 < 2 ^ 31 by omega), nI_clamp (show p < 2 ^ 31 by omega)]
  exact br_c (fun z => ⟨pk_in p 64 hp, pr_bo_n (hW.1 p hp), h _ (hW.1 p hp)⟩) (fun z => ⟨pk_in (p / 4) 16 (by omega), pr_bo_n (hW.2 (p / 4) (by omega)), h _ (hW.2 (p / 4) (by omega))⟩)
theorem pr_use {post : St2 → Prop} {fc uc ck : Int32} {a1 a2 a3 a4 a5 a6 a7 a8 a9 : Nat → Int32} {b : Nat} (hb : b < 16) (h : ∀ ck' a9', post (fc, uc, ck', a1, a2, a3, a4, a5, a6, a7, a8, a9')) :
    wpX_use post (fc, uc, ck, a1, a2, a3, a4, a5, a6, a7, a8, a9) (nI b) := nm_e ⟨pk_in b 16 hb, nm_e (h _ _)⟩
theorem pr_setc {post : St2 → Prop} {fc uc ck : Int32} {a1 a2 a3 a4 a5 a6 a7 a8 a9 : Nat → Int32} {F : Nat} {H : Nat → Bool} {T : Nat → Nat} {p : Nat} {v : Int32} (hF : F ≤ 48) (hB : pr_B F H T a5 a6 a7) (hC : pr_C H T a3 a7) (hp : p < 64) (hH : H p = true)
    (h : ∀ ck' a9', post (fc, uc, ck', upd a1 (T p) v, a2, a3, a4, a5, a6, a7, a8, a9')) : wpX_setContent post (fc, uc, ck, a1, a2, a3, a4, a5, a6, a7, a8, a9) (nI p) v := by
  have hT := pr_TF hB hp hH
  unfold wpX_setContent
  dsimp only
  refine pr_trans hB hC hp hH ⟨pk_in (T p) 48 (by omega), nm_r (by rw [nI_clamp (show T p < 2 ^ 31 by omega)]) ?_⟩
  rw [pr_s2 hp]
  exact pr_use (by omega) h
/-! ===== joinUp ===== -/
theorem pr_join89 {post : St2 → Prop} {fc uc ck : Int32} {a1 a2 a3 a4 a5 a6 a7 a8 a9 : Nat → Int32} {b : Nat} (hb : b < 16) (h : ∀ a3', (∀ q, q < 64 → q / 4 ≠ b → a3' q = a3 q) → post (fc, uc, ck, a1, a2, a3', a4, a5, a6, a7, a8, a9)) :
    ∀ n k c3, k ≤ 4 → 4 - k < n → (∀ q, q < 64 → q / 4 ≠ b → c3 q = a3 q) → wX_joinUp_89 post (nI b) fc uc ck n (nI k) a1 a2 c3 a4 a5 a6 a7 a8 a9 := by
  intro n
  induction n with
  | zero => intro k c3 _ z; omega
  | succ n ih =>
    intro k c3 hk hn hc
    refine pk_le 4 k (fun _ => h c3 hc) (fun z => ⟨pk_in (4 * b + k) 64 (by omega) (pr_m4k b k), nm_r (by rw [pr_m4k, nI_clamp (show 4 * b + k < 2 ^ 31 by omega)]) (nm_r (nI_1 k) (ih (k + 1) _ (by omega) (by omega) (fun q hq hne => ?_)))⟩)
    rw [pk_un (by omega)]
    exact hc q hq hne
theorem pr_join33 {post : St2 → Prop} {fc uc ck : Int32} {a1 a2 a3 a4 a5 a6 a7 a8 a9 : Nat → Int32} {b : Nat} (hb : b < 16) (hS : post (fc, uc, ck, a1, a2, a3, a4, a5, a6, a7, a8, a9))
    (h : ∀ a3', (∀ q, q < 64 → q / 4 ≠ b → a3' q = a3 q) → post (fc, uc, ck, a1, a2, a3', a4, a5, a6, upd a7 b 1, upd a8 b (vp_nar .boolean (a4 (4 * b))), a9)) :
    ∀ n k, k ≤ 4 → 4 - k < n → wX_joinUp_33 post (nI b) fc uc ck a1 a2 a3 a4 a5 a6 a7 a8 a9 n (nI k) := by
  intro n
  induction n with
  | zero => intro k _ z; omega
  | succ n ih =>
    intro k hk hn
    refine pk_le 4 k (fun _ => ⟨pk_in b 16 hb, nm_r (by rw [nI_clamp (show b < 2 ^ 31 by omega)]) ⟨pk_in (4 * b) 64 (by omega) (pr_m4 b), pk_in b 16 hb, nm_r (by rw [nI_clamp (show b < 2 ^ 31 by omega), pr_m4, nI_clamp (show 4 * b < 2 ^ 31 by omega)]) ⟨5, ?_⟩⟩⟩) (fun z => ⟨pk_in (4 * b + k) 64 (by omega) (pr_m4k b k), pk_in (4 * b) 64 (by omega) (pr_m4 b), ?_⟩)
    · exact pr_join89 (a3 := a3) hb h 5 0 a3 (by omega) (by omega) (fun _ _ _ => rfl)
    · exact br_c (fun _ => nm_r (nI_1 k) (ih (k + 1) (by omega) (by omega))) (fun _ => hS)
theorem pr_B_7 {F : Nat} {H : Nat → Bool} {T : Nat → Nat} {a5 a6 a7 : Nat → Int32} {b : Nat} {x : Int32} (hB : pr_B F H T a5 a6 a7) (hb : pr_Bb F H T b (a5 b) (a6 b) x) : pr_B F H T a5 a6 (upd a7 b x) := by
  intro c hc
  by_cases e : c = b
  · subst e
    rw [pk_us]
    exact hb
  · rw [pk_un e]
    exact hB c hc
theorem pr_join {post : St2 → Prop} {fc uc ck : Int32} {a1 a2 a3 a4 a5 a6 a7 a8 a9 : Nat → Int32} {F : Nat} {H : Nat → Bool} {T : Nat → Nat} {b : Nat} (hM : pr_M F H T fc uc a2 a3 a4 a5 a6 a7 a8) (hb : b < 16)
    (h : ∀ a3' a7' a8', pr_M F H T fc uc a2 a3' a4 a5 a6 a7' a8' → post (fc, uc, ck, a1, a2, a3', a4, a5, a6, a7', a8', a9)) : wpX_joinUp post (fc, uc, ck, a1, a2, a3, a4, a5, a6, a7, a8, a9) (nI b) := by
  have hS := h a3 a7 a8 hM
  obtain ⟨hG, hA, hB, hC, hW⟩ := hM
  refine ⟨pk_in b 16 hb, ?_⟩
  rw [nI_clamp (show b < 2 ^ 31 by omega)]
  refine br_c (fun _ => hS) (fun z5 => ⟨pk_in b 16 hb, br_c (fun z6 => ⟨pk_in b 16 hb, br_c (fun z7 => ⟨4, pr_join33 hb hS (fun a3' h3 => h a3' _ _ ⟨hG, hA, ?_, ?_, ?_⟩) 4 1 (by omega) (by omega)⟩) (fun _ => hS)⟩) (fun _ => hS)⟩)
  · refine pr_B_7 hB ?_
    obtain ⟨g1, g2⟩ := hB b hb
    have e15 : pr_hb H b = 15 := (nI_eq (by have := pr_hb_lt H b; omega) (by omega)).mp (g1.symm.trans z6)
    refine ⟨g1, ?_⟩
    rcases g2 with ⟨e1, _⟩ | ⟨t, e1, e2, e3, e4, _⟩
    · exact absurd e1 z5
    · exact Or.inr ⟨t, e1, e2, e3, e4, Or.inr ⟨rfl, e15⟩⟩
  · intro q hq hH h0
    by_cases e : q / 4 = b
    · rw [e, pk_us] at h0
      exact absurd h0 (by decide)
    · rw [pk_un e] at h0
      rw [h3 q hq e]
      exact hC q hq hH h0
  · exact pr_W_8 hW (pr_bo_nar _)
/-! ===== breakUp, setWrite ===== -/
theorem pr_break12 {post : St2 → Prop} {fc uc ck : Int32} {a1 a2 a3 a5 a6 a7 a8 a9 : Nat → Int32} {b t : Nat} (hb : b < 16) (h5 : a5 b = nI t)
    (h : ∀ a3' a4', (∀ q, q < 64 → q / 4 ≠ b → a3' q = a3 q) → (∀ j, j < 4 → a3' (4 * b + j) = nI (t + j)) → (∀ q, q < 64 → pr_bo (a4' q)) → post (fc, uc, ck, a1, a2, a3', a4', a5, a6, upd a7 b 0, a8, a9)) :
    ∀ n k c3 c4, k ≤ 4 → 4 - k < n → (∀ q, q < 64 → q / 4 ≠ b → c3 q = a3 q) → (∀ j, j < k → c3 (4 * b + j) = nI (t + j)) → (∀ q, q < 64 → pr_bo (c4 q)) → wX_breakUp_12 post (nI b) fc uc ck n (nI k) a1 a2 c3 c4 a5 a6 a7 a8 a9 := by
  intro n
  induction n with
  | zero => intro k c3 c4 _ z; omega
  | succ n ih =>
    intro k c3 c4 hk hn h1 h2 h4
    refine pk_le 4 k (fun z => ⟨pk_in b 16 hb, nm_r (by rw [nI_clamp (show b < 2 ^ 31 by omega)]) (h c3 c4 h1 (fun j hj => h2 j (by omega)) h4)⟩) (fun z => ⟨pk_in b 16 hb, pk_in (4 * b + k) 64 (by omega) (pr_m4k b k), nm_r (e' := upd c3 (4 * b + k) (nI (t + k))) ?_ ⟨pk_in b 16 hb, pk_in (4 * b + k) 64 (by omega) (pr_m4k b k), nm_r (e' := upd c4 (4 * b + k) (vp_nar .boolean (a8 b))) ?_ (nm_r (nI_1 k) (ih (k + 1) _ _ (by omega) (by omega) (fun q hq hne => ?_) (fun j hj => ?_) (fun q hq => ?_)))⟩⟩)
    · rw [pr_m4k, nI_clamp (show 4 * b + k < 2 ^ 31 by omega), nI_clamp (show b < 2 ^ 31 by omega), h5, nI_add]
    · rw [pr_m4k, nI_clamp (show 4 * b + k < 2 ^ 31 by omega), nI_clamp (show b < 2 ^ 31 by omega)]
    · rw [pk_un (by omega)]
      exact h1 q hq hne
    · by_cases e : j = k
      · rw [e, pk_us]
      · rw [pk_un (by omega)]
        exact h2 j (by omega)
    · by_cases e : q = 4 * b + k
      · rw [e, pk_us]
        exact pr_bo_nar _
      · rw [pk_un e]
        exact h4 q hq
theorem pr_break {post : St2 → Prop} {fc uc ck : Int32} {a1 a2 a3 a4 a5 a6 a7 a8 a9 : Nat → Int32} {F : Nat} {H : Nat → Bool} {T : Nat → Nat} {b : Nat} (hM : pr_M F H T fc uc a2 a3 a4 a5 a6 a7 a8) (hb : b < 16)
    (h : ∀ a3' a4' a7', pr_M F H T fc uc a2 a3' a4' a5 a6 a7' a8 → a7' b = 0 → post (fc, uc, ck, a1, a2, a3', a4', a5, a6, a7', a8, a9)) : wpX_breakUp post (fc, uc, ck, a1, a2, a3, a4, a5, a6, a7, a8, a9) (nI b) := by
  have hM' := hM
  obtain ⟨hG, hA, hB, hC, hW⟩ := hM
  refine ⟨pk_in b 16 hb, ?_⟩
  rw [nI_clamp (show b < 2 ^ 31 by omega)]
  refine br_c (fun z => h _ _ _ hM' z) (fun z => ?_)
  obtain ⟨g1, g2⟩ := hB b hb
  rcases g2 with ⟨_, e2, _⟩ | ⟨t, e1, e2, e3, e4, e5⟩
  · exact absurd e2 z
  · refine ⟨5, pr_break12 (a3 := a3) hb e1 (fun a3' a4' k1 k2 k3 => h _ _ _ ⟨hG, hA, ?_, ?_, ⟨k3, hW.2⟩⟩ pk_us) 5 0 a3 a4 (by omega) (by omega) (fun _ _ _ => rfl) (fun j hj => absurd hj (by omega)) hW.1⟩
    · exact pr_B_7 hB ⟨g1, Or.inr ⟨t, e1, e2, e3, e4, Or.inl rfl⟩⟩
    · intro q hq hH h0
      by_cases e : q / 4 = b
      · have k := k2 (q % 4) (by omega)
        have k' := e4 (q % 4) (by omega)
        rw [← e, pr_pg] at k k'
        rw [k, k']
      · rw [pk_un e] at h0
        rw [k1 q hq e]
        exact hC q hq hH h0
theorem pr_setw29 {post : St2 → Prop} {fc uc ck : Int32} {a1 a2 a3 a4 a5 a6 a7 a8 a9 : Nat → Int32} {F : Nat} {H : Nat → Bool} {T : Nat → Nat} {p : Nat} {w : Int32} (hM : pr_M F H T fc uc a2 a3 a4 a5 a6 a7 a8) (hp : p < 64)
    (h : ∀ a3' a4' a7' a8', pr_M F H T fc uc a2 a3' a4' a5 a6 a7' a8' → post (fc, uc, ck, a1, a2, a3', a4', a5, a6, a7', a8', a9)) : wX_setWrite_29 post (nI p) w (nI (p / 4)) fc uc ck a1 a2 a3 a4 a5 a6 a7 a8 a9 := by
  obtain ⟨hG, hA, hB, hC, hW⟩ := hM
  refine ⟨pk_in p 64 hp, nm_r (by rw [nI_clamp (show p < 2 ^ 31 by omega)]) ?_⟩
  exact pr_join ⟨hG, hA, hB, hC, pr_W_4 hW (pr_bo_nar w)⟩ (by omega) (fun a3' a7' a8' hM' => h _ _ _ _ hM')
theorem pr_setw {post : St2 → Prop} {fc uc ck : Int32} {a1 a2 a3 a4 a5 a6 a7 a8 a9 : Nat → Int32} {F : Nat} {H : Nat → Bool} {T : Nat → Nat} {p : Nat} {w : Int32} (hM : pr_M F H T fc uc a2 a3 a4 a5 a6 a7 a8) (hp : p < 64)
    (h : ∀ a3' a4' a7' a8', pr_M F H T fc uc a2 a3' a4' a5 a6 a7' a8' → post (fc, uc, ck, a1, a2, a3', a4', a5, a6, a7', a8', a9)) : wpX_setWrite post (fc, uc, ck, a1, a2, a3, a4, a5, a6, a7, a8, a9) (nI p) w := by
  refine nm_r (pr_s2 hp) ⟨pk_in (p / 4) 16 (by omega), ?_⟩
  refine br_c (fun _ => pr_setw29 hM hp h) (fun _ => ⟨pk_in (p / 4) 16 (by omega), br_c (fun _ => h _ _ _ _ hM) (fun _ => ?_)⟩)
  exact pr_break hM (by omega) (fun a3' a4' a7' hM' _ => pr_setw29 hM' hp h)
end
section
/-! ===== preempt ===== -/
theorem pr_pre67 {post : St2 → Prop} {fc uc ck : Int32} {a1 a3 a4 a5 a6 a7 a8 a9 : Nat → Int32} {F : Nat} {H : Nat → Bool} {T : Nat → Nat} {b t : Nat} (hF : F ≤ 48) (hF8 : F % 8 = 0) (hb : b < 16) (h5 : a5 b = nI t) (ht : t + 4 ≤ F) (h6 : a6 b = nI (pr_hb H b))
    (hp : ∀ T' a2', pr_A F T' a2' → (∀ j, j < 4 → H (4 * b + j) = true → T' (4 * b + j) = t + j) → (∀ j, j < 4 → H (4 * b + j) = false → F ≤ T' (4 * b + j)) → (∀ q, q / 4 ≠ b → T' q = T q) → (∀ j, j < 4 → H (4 * b + j) = false → ∃ g, g < F ∧ pr_fs a2' g = 1) →
      post (fc, uc, ck, a1, a2', a3, a4, upd a5 b (-1), a6, a7, a8, a9)) :
    ∀ n k Tk a2, k ≤ 4 → 4 - k < n → pr_A F Tk a2 → (∀ j, j < 4 → (k ≤ j ∨ H (4 * b + j) = true) → Tk (4 * b + j) = t + j) → (∀ j, j < k → H (4 * b + j) = false → F ≤ Tk (4 * b + j)) → (∀ q, q / 4 ≠ b → Tk q = T q) → (∀ j, j < k → H (4 * b + j) = false → ∃ g, g < F ∧ pr_fs a2 g = 1) →
      wX_preempt_67 post (nI b) n (nI k) fc uc ck a1 a2 a3 a4 a5 a6 a7 a8 a9 := by
  intro n
  induction n with
  | zero => intro k Tk a2 _ z; omega
  | succ n ih =>
    intro k Tk a2 hk hn i1 i2 i3 i4 i5
    refine pk_le 4 k (fun z => ⟨pk_in b 16 hb, nm_r (by rw [nI_clamp (show b < 2 ^ 31 by omega)]) ?_⟩) (fun z => ⟨pk_in b 16 hb, ?_⟩)
    · exact hp Tk a2 i1 (fun j hj h => i2 j hj (Or.inr h)) (fun j hj h => i3 j (by omega) h) i4 (fun j hj h => i5 j (by omega) h)
    · rw [nI_clamp (show b < 2 ^ 31 by omega), h6, pr_bit H b z]
      cases hH : H (4 * b + k)
      · refine br_t rfl ⟨pk_in b 16 hb, ?_⟩
        rw [h5, nI_add]
        have eT := i2 k z (Or.inl (Nat.le_refl k))
        have hk64 : 4 * b + k < 64 := by omega
        have h0 := i1.2.1 (4 * b + k) hk64 (by omega)
        rw [eT] at h0
        refine pr_give (r := 0) (w := 1) hF hF8 i1.1 (Or.inl ⟨rfl, rfl⟩) (Nat.mod_one _) (by omega) (fun g h2 h3 => by rw [show g = t + k by omega]; exact h0) (fun a2' hu => nm_r (nI_1 k) ?_)
        have hg1 : pr_fs a2' (t + k) = 1 := hu.1 (t + k) (by omega) (by omega) (by omega)
        rw [← eT] at hu
        refine ih (k + 1) (pr_uT Tk (4 * b + k) 99) a2' (by omega) (by omega) (pr_A_take hF i1 hk64 (by omega) hu) (fun j hj hc => ?_) (fun j hj hc => ?_) (fun q hq => ?_) (fun j hj hc => ⟨t + k, by omega, hg1⟩)
        · have hne : j ≠ k := fun e => by
            subst e
            rcases hc with c | c
            · omega
            · rw [hH] at c
              exact absurd c (by decide)
          rw [pr_uTn (by omega)]
          exact i2 j hj (hc.imp (fun c => by omega) id)
        · by_cases e : j = k
          · rw [e, pr_uTs]
            omega
          · rw [pr_uTn (by omega)]
            exact i3 j (by omega) hc
        · rw [pr_uTn (by omega)]
          exact i4 q hq
      · refine br_f (by decide) (nm_r (nI_1 k) ?_)
        refine ih (k + 1) Tk a2 (by omega) (by omega) i1 (fun j hj hc => i2 j hj (hc.imp (fun c => by omega) id)) (fun j hj hc => ?_) i4 (fun j hj hc => ?_)
        · by_cases e : j = k
          · rw [e, hH] at hc
            exact absurd hc (by decide)
          · exact i3 j (by omega) hc
        · by_cases e : j = k
          · rw [e, hH] at hc
            exact absurd hc (by decide)
          · exact i5 j (by omega) hc
theorem pr_pre4 {post : St2 → Prop} {fc uc ck : Int32} {a1 a2 a3 a4 a5 a6 a7 a8 a9 : Nat → Int32} (hno : ¬ ∀ b, b < 16 → a5 b = -1 ∨ a6 b = 15)
    (h : ∀ c, c < 16 → a5 c ≠ -1 → a6 c ≠ 15 → ∃ n, wX_preempt_67 post (nI c) n 0 fc uc ck a1 a2 a3 a4 a5 a6 a7 a8 a9) :
    ∀ n i x, i ≤ 16 → 16 - i < n → ((x = -1 ∧ ∀ b, b < i → a5 b = -1 ∨ a6 b = 15) ∨ ∃ c, c < 16 ∧ x = nI c ∧ a5 c ≠ -1 ∧ a6 c ≠ 15) → wX_preempt_4 post fc uc ck a1 a2 a3 a4 a5 a6 a7 a8 a9 n x (nI i) := by
  intro n
  induction n with
  | zero => intro i x _ z; omega
  | succ n ih =>
    intro i x hi hn hQ
    refine pk_le 16 i (fun z => ?_) (fun z => ⟨pk_in i 16 z, ?_⟩)
    · rcases hQ with ⟨_, q2⟩ | ⟨c, c1, rfl, c3, c4⟩
      · exact absurd (fun b hb => q2 b (by omega)) hno
      · exact br_f (pr_nm1 (by omega)) (h c c1 c3 c4)
    · rw [nI_clamp (show i < 2 ^ 31 by omega)]
      have keep : (a5 i = -1 ∨ a6 i = 15) → ∀ y, y = nI i + 1 → wX_preempt_4 post fc uc ck a1 a2 a3 a4 a5 a6 a7 a8 a9 n x y := fun hk => nm_r (nI_1 i) (ih (i + 1) x (by omega) (by omega) (hQ.imp (fun q => ⟨q.1, fun b hb => by
        by_cases e : b = i
        · rw [e]
          exact hk
        · exact q.2 b (by omega)⟩) id))
      refine br_c (fun g => keep (Or.inl g)) (fun g5 => ⟨pk_in i 16 z, br_c (fun g => keep (Or.inr g)) (fun g6 => ?_)⟩)
      have take : ∀ y, y = nI i + 1 → wX_preempt_4 post fc uc ck a1 a2 a3 a4 a5 a6 a7 a8 a9 n (nI i) y := nm_r (nI_1 i) (ih (i + 1) (nI i) (by omega) (by omega) (Or.inr ⟨i, z, rfl, g5, g6⟩))
      rcases hQ with ⟨rfl, q2⟩ | ⟨c, c1, rfl, c3, c4⟩
      · exact br_t rfl take
      · refine br_f (pr_nm1 (by omega)) ⟨pk_in i 16 z, pk_in c 16 c1, br_c (fun _ => nm_r (nI_1 i) (ih (i + 1) _ (by omega) (by omega) (Or.inr ⟨c, c1, rfl, c3, c4⟩))) (fun _ => take)⟩
theorem pr_h4_n15 : ∀ x y z w : Bool, pr_h4 x y z w ≠ 15 → x = false ∨ y = false ∨ z = false ∨ w = false := by decide +kernel
theorem pr_hb_gap {H : Nat → Bool} {b : Nat} (h : pr_hb H b ≠ 15) : ∃ j, j < 4 ∧ H (4 * b + j) = false := by
  rcases pr_h4_n15 _ _ _ _ h with e | e | e | e
  · exact ⟨0, by omega, e⟩
  · exact ⟨1, by omega, e⟩
  · exact ⟨2, by omega, e⟩
  · exact ⟨3, by omega, e⟩
theorem pr_preempt {post : St2 → Prop} {fc uc ck : Int32} {a1 a2 a3 a4 a5 a6 a7 a8 a9 : Nat → Int32} {F : Nat} {H : Nat → Bool} {T : Nat → Nat} (hM : pr_M F H T fc uc a2 a3 a4 a5 a6 a7 a8) (hN : pr_N H a5) (hfree : ∀ g, g < F → pr_fs a2 g = 0) (hU : pr_cn H 64 < F)
    (h : ∀ T' a2' a5', pr_M F H T' fc uc a2' a3 a4 a5' a6 a7 a8 → pr_N H a5' → (∀ q, q < 64 → H q = true → T' q = T q) → (∀ b, b < 16 → a5 b = -1 → a5' b = -1) → (∃ g, g < F ∧ pr_fs a2' g = 1) → post (fc, uc, ck, a1, a2', a3, a4, a5', a6, a7, a8, a9)) :
    wpX_preempt post (fc, uc, ck, a1, a2, a3, a4, a5, a6, a7, a8, a9) := by
  obtain ⟨hG, hA, hB, hC, hW⟩ := hM
  have hF := hG.1
  have h15 : ∀ b, b < 16 → a6 b = 15 → pr_hb H b = 15 := fun b hb e => (nI_eq (by have := pr_hb_lt H b; omega) (by omega)).mp ((hB b hb).1.symm.trans e)
  refine ⟨17, pr_pre4 (fun hall => ?_) (fun c hc h5 h6 => ?_) 17 0 (-1) (by omega) (by omega) (Or.inl ⟨rfl, fun b hb => absurd hb (by omega)⟩)⟩
  · have := pr_pig (T := T) F H (fun g hg => by
      obtain ⟨p, hp, e⟩ := hA.2.2.2 g hg (hfree g hg)
      refine ⟨p, hp, ?_, e⟩
      rcases hall (p / 4) (by omega) with z | z
      · obtain ⟨_, g2⟩ := hB (p / 4) (by omega)
        rcases g2 with ⟨_, _, e3⟩ | ⟨t, e1, _, e3, _⟩
        · have := e3 (p % 4) (by omega)
          rw [pr_pg] at this
          exact this.mp (by omega)
        · exact absurd (e1.symm.trans z) (pr_nm1 (by omega))
      · exact pr_hbp15 (h15 (p / 4) (by omega) z))
    omega
  · obtain ⟨g1, g2⟩ := hB c hc
    rcases g2 with ⟨e1, _⟩ | ⟨t, e1, e2, e3, e4, e5⟩
    · exact absurd e1 h5
    · have hn15 : pr_hb H c ≠ 15 := fun z => h6 (by rw [g1, z]; rfl)
      have h7 : a7 c = 0 := e5.elim id (fun z => absurd z.2 hn15)
      refine ⟨5, pr_pre67 (T := T) hF hG.2.1 hc e1 e3 g1 (fun T' a2' k1 k2 k3 k4 k5 => ?_) 5 0 T a2 (by omega) (by omega) hA (fun j hj _ => e4 j hj) (fun j hj => absurd hj (by omega)) (fun _ _ => rfl) (fun j hj => absurd hj (by omega))⟩
      have hTT : ∀ q, q < 64 → H q = true → T' q = T q := fun q hq hH => by
        by_cases e : q / 4 = c
        · have x1 := k2 (q % 4) (by omega)
          have x2 := e4 (q % 4) (by omega)
          rw [← e, pr_pg] at x1 x2
          rw [x1 hH, x2]
        · exact k4 q e
      refine h T' a2' _ ⟨hG, k1, pr_B_blk hB k4 ⟨g1, Or.inl ⟨rfl, h7, fun k hk => ?_⟩⟩, pr_C_cg hC hTT, hW⟩ (fun b hb hb5 => ?_) hTT (fun b hb hb5 => ?_) ?_
      · cases hH : H (4 * c + k)
        · have := k3 k hk hH
          exact ⟨fun z => absurd z (by omega), fun z => absurd z (by decide)⟩
        · have := k2 k hk hH
          exact ⟨fun _ => rfl, fun _ => by omega⟩
      · by_cases e : b = c
        · rw [e, pk_us] at hb5
          exact absurd rfl hb5
        · rw [pk_un e] at hb5
          exact hN b hb hb5
      · by_cases e : b = c
        · rw [e, pk_us]
        · rw [pk_un e]
          exact hb5
      · obtain ⟨j, hj, hH⟩ := pr_hb_gap hn15
        exact k5 j hj hH
/-! ===== bringIn ===== -/
theorem pr_br78 {post : St2 → Prop} {fc uc ck w v x6 : Int32} {a1 a2 a3 a4 a5 a6 a7 a8 a9 : Nat → Int32} {F : Nat} {H : Nat → Bool} {T : Nat → Nat} {p f : Nat} (hp : p < 64) (hf : f < 48) (hx : a6 (p / 4) ||| ((1 : Int32) <<< ((nI p &&& 3) &&& 31)) = x6)
    (hM : pr_M F H T fc (uc + 1) a2 (upd a3 p (nI f)) (upd a4 p (vp_nar .boolean w)) a5 (upd a6 (p / 4) x6) a7 a8)
    (h : ∀ ck' a3' a4' a6' a7' a8' a9', pr_M F H T fc (uc + 1) a2 a3' a4' a5 a6' a7' a8' → post (fc, uc + 1, ck', upd a1 f v, a2, a3', a4', a5, a6', a7', a8', a9')) :
    wX_bringIn_78 post (nI p) w v (nI (p / 4)) (nI f) fc uc ck a1 a2 a3 a4 a5 a6 a7 a8 a9 := by
  refine br_f (pr_nm1 (by omega)) ⟨pk_in p 64 hp, nm_r (e' := upd a3 p (nI f)) (by rw [nI_clamp (show p < 2 ^ 31 by omega)]) ⟨pk_in p 64 hp, nm_r (e' := upd a4 p (vp_nar .boolean w)) (by rw [nI_clamp (show p < 2 ^ 31 by omega)]) ⟨pk_in f 48 hf, nm_r (e' := upd a1 f v) (by rw [nI_clamp (show f < 2 ^ 31 by omega)]) ⟨pk_in (p / 4) 16 (by omega), pk_in (p / 4) 16 (by omega), nm_r (e' := upd a6 (p / 4) x6) (by rw [nI_clamp (show p / 4 < 2 ^ 31 by omega), hx]) (nm_e ?_)⟩⟩⟩⟩
  refine pr_use (by omega) (fun ck' a9' => ?_)
  exact pr_join hM (by omega) (fun a3' a7' a8' hM' => h ck' a3' _ _ a7' a8' a9' hM')
theorem pr_brfin {post : St2 → Prop} {fc uc ck w v : Int32} {a1 a2 a3 a4 a5 a6 a7 a8 a9 : Nat → Int32} {F : Nat} {H : Nat → Bool} {T T' : Nat → Nat} {p f : Nat} (hG : pr_G F H fc uc) (hU : pr_cn H 64 < F) (hA : pr_A F T' a2) (hB : pr_B F H T a5 a6 a7) (hC : pr_C H T a3 a7) (hW : pr_W a4 a8)
    (hN : ∀ b, b < 16 → b ≠ p / 4 → a5 b ≠ -1 → pr_hb H b ≠ 0) (hp : p < 64) (hH : H p = false) (hT : ∀ q, q ≠ p → T' q = T q) (hf : T' p = f) (hc : (a5 (p / 4) = -1 ∧ f < F) ∨ (a5 (p / 4) ≠ -1 ∧ f = T p))
    (h : ∀ s', pr_K F (pr_uH H p true) T' s' → pr_dt s' = upd a1 f v → post s') : wX_bringIn_78 post (nI p) w v (nI (p / 4)) (nI f) fc uc ck a1 a2 a3 a4 a5 a6 a7 a8 a9 := by
  obtain ⟨g1, g2, g3, g4, g5⟩ := hG
  have hb16 : p / 4 < 16 := by omega
  obtain ⟨b1, b2⟩ := hB (p / 4) hb16
  have h7 : a7 (p / 4) = 0 ∧ f < F := by
    rcases b2 with ⟨e1, e2, _⟩ | ⟨t, e1, e2, e3, e4, e5⟩
    · rcases hc with c | c
      · exact ⟨e2, c.2⟩
      · exact absurd e1 c.1
    · rcases hc with c | c
      · exact absurd (e1.symm.trans c.1) (pr_nm1 (by omega))
      · have x := e4 (p % 4) (by omega)
        rw [pr_pg] at x
        exact ⟨e5.elim id (fun z => absurd z.2 (pr_hb_n15 hH)), by omega⟩
  have hs := pr_set (x := true) (v3 := nI f) g1 hB hC hp h7.1 hT (hc.imp (fun c => ⟨c.1, ⟨fun _ => rfl, fun _ => by omega⟩⟩) (fun c => ⟨c.1, by omega⟩)) (fun _ => by rw [hf])
  have hx : a6 (p / 4) ||| ((1 : Int32) <<< ((nI p &&& 3) &&& 31)) = nI (pr_hb (pr_uH H p true) (p / 4)) := by
    rw [b1, pr_a3 hp, pr_or H (p / 4) (show p % 4 < 4 by omega), pr_pg]
  have hcn := pr_cn_t hp hH
  refine pr_br78 hp (by omega) hx ⟨⟨g1, g2, g3, by rw [g4, nI_1, hcn], by omega⟩, hA, hs.1, hs.2, pr_W_4 hW (pr_bo_nar w)⟩ (fun ck' a3' a4' a6' a7' a8' a9' hM => h _ ⟨hM, ?_⟩ rfl)
  exact pr_N_u hp hN (fun _ => pr_hb_ne pr_uHs)
theorem pr_br_one {post : St2 → Prop} {fc uc ck w v : Int32} {a1 a2 a2' a3 a4 a5 a6 a7 a8 a9 : Nat → Int32} {F : Nat} {H : Nat → Bool} {T : Nat → Nat} {p f : Nat} (hM : pr_M F H T fc uc a2 a3 a4 a5 a6 a7 a8) (hU : pr_cn H 64 < F)
    (hN : ∀ b, b < 16 → b ≠ p / 4 → a5 b ≠ -1 → pr_hb H b ≠ 0) (hp : p < 64) (hH : H p = false) (h5 : a5 (p / 4) = -1) (hf : f < F) (hf1 : pr_fs a2 f = 1) (hu : pr_up F a2 a2' f 1 0)
    (h : ∀ s' T', pr_K F (pr_uH H p true) T' s' → (∀ q, q < 64 → H q = true → pr_dt s' (T' q) = a1 (T q)) → pr_dt s' (T' p) = v → post s') : wX_bringIn_78 post (nI p) w v (nI (p / 4)) (nI f) fc uc ck a1 a2' a3 a4 a5 a6 a7 a8 a9 := by
  obtain ⟨hG, hA, hB, hC, hW⟩ := hM
  have hTp : F ≤ T p := by
    obtain ⟨_, g2⟩ := hB (p / 4) (by omega)
    have hF := hG.1
    rcases g2 with ⟨_, _, e3⟩ | ⟨t, e1, _, e3, _⟩
    · have := e3 (p % 4) (by omega)
      rw [pr_pg, hH] at this
      rcases Nat.lt_or_ge (T p) F with z | z
      · exact absurd (this.mp z) (by decide)
      · exact z
    · exact absurd (e1.symm.trans h5) (pr_nm1 (by omega))
  refine pr_brfin (T := T) (T' := pr_uT T p f) hG hU (pr_A_put hA hp hTp hf hf1 hu) hB hC hW hN hp hH (fun q hq => pr_uTn hq) pr_uTs (Or.inl ⟨h5, hf⟩) (fun s' hK hd => h s' _ hK (fun q hq hqH => ?_) ?_)
  · have hqp : q ≠ p := fun e => by
      rw [e, hH] at hqH
      exact absurd hqH (by decide)
    have hqf : T q ≠ f := fun e => by
      have := hA.2.1 q hq (pr_TF hB hq hqH)
      rw [e] at this
      omega
    rw [hd, pr_uTn hqp, pk_un hqf]
  · rw [hd, pr_uTs, pk_us]
theorem pr_br27 {post : St2 → Prop} {fc uc ck w v : Int32} {a1 a2 a3 a4 a5 a6 a7 a8 a9 : Nat → Int32} {F : Nat} {H : Nat → Bool} {T : Nat → Nat} {p : Nat} (hM : pr_M F H T fc uc a2 a3 a4 a5 a6 a7 a8) (hU : pr_cn H 64 < F)
    (hN : ∀ b, b < 16 → b ≠ p / 4 → a5 b ≠ -1 → pr_hb H b ≠ 0) (hp : p < 64) (hH : H p = false)
    (h : ∀ s' T', pr_K F (pr_uH H p true) T' s' → (∀ q, q < 64 → H q = true → pr_dt s' (T' q) = a1 (T q)) → pr_dt s' (T' p) = v → post s') : wX_bringIn_27 post (nI p) w v (nI (p / 4)) fc uc ck a1 a2 a3 a4 a5 a6 a7 a8 a9 := by
  have hM' := hM
  obtain ⟨hG, hA, hB, hC, hW⟩ := hM
  have hF := hG.1
  have hF8 := hG.2.1
  have hfc := hG.2.2.1
  have how : pr_ow 0 1 := Or.inl ⟨rfl, rfl⟩
  refine ⟨pk_in (p / 4) 16 (by omega), ?_⟩
  rw [nI_clamp (show p / 4 < 2 ^ 31 by omega)]
  refine br_c (fun z => ?_) (fun z => ⟨pk_in (p / 4) 16 (by omega), ?_⟩)
  · refine pr_alloc (r := 0) (wr := 1) hfc hF hF8 how hA.1 (fun hz => ?_) (fun f a2' _ hfF hrun hu => ?_)
    · have hfree : ∀ g, g < F → pr_fs a2 g = 0 := fun g hg => pr_fs_none hz hg
      have hNN : pr_N H a5 := fun b hb h5 => by
        by_cases e : b = p / 4
        · rw [e] at h5
          exact absurd z h5
        · exact hN b hb e h5
      refine br_t rfl (pr_preempt hM' hNN hfree hU (fun T' a2' a5' hM2 hN2 k1 k2 k3 => ?_))
      refine pr_alloc (r := 0) (wr := 1) hfc hF hF8 how hM2.2.1.1 (fun hz2 => ?_) (fun f a2'' _ hfF hrun hu => ?_)
      · obtain ⟨g, hg, hg1⟩ := k3
        have := pr_fs_none hz2 hg
        omega
      · refine pr_br_one hM2 hU (fun b hb _ h5 => hN2 b hb h5) hp hH (k2 _ (by omega) z) (by omega) (hrun f (by omega) (by omega)) hu (fun s' T'' hK hd hv => h s' T'' hK (fun q hq hqH => ?_) hv)
        rw [hd q hq hqH, k1 q hq hqH]
    · exact br_f (pr_nm1 (by omega)) (pr_br_one hM' hU hN hp hH z (by omega) (hrun f (by omega) (by omega)) hu h)
  · obtain ⟨_, g2⟩ := hB (p / 4) (by omega)
    rcases g2 with ⟨e1, _⟩ | ⟨t, e1, e2, e3, e4, e5⟩
    · exact absurd e1 z
    · have x := e4 (p % 4) (by omega)
      rw [pr_pg] at x
      refine nm_r (e' := nI (T p)) (by rw [e1, pr_a3 hp, nI_add, x]) ?_
      refine pr_brfin (T := T) (T' := T) hG hU hA hB hC hW hN hp hH (fun _ _ => rfl) rfl (Or.inr ⟨z, rfl⟩) (fun s' hK hd => h s' T hK (fun q hq hqH => ?_) ?_)
      · have hqf : T q ≠ T p := fun e => by
          have e' := hA.2.2.1 q p hq hp (pr_TF hB hq hqH) e
          rw [e', hH] at hqH
          exact absurd hqH (by decide)
        rw [hd, pk_un hqf]
      · rw [hd, pk_us]
theorem pr_bring {post : St2 → Prop} {w v : Int32} {s : St2} {F : Nat} {H : Nat → Bool} {T : Nat → Nat} {p : Nat} (hK : pr_K F H T s) (hU : pr_cn H 64 < F) (hp : p < 64) (hH : H p = false)
    (h : ∀ s' T', pr_K F (pr_uH H p true) T' s' → (∀ q, q < 64 → H q = true → pr_dt s' (T' q) = pr_dt s (T q)) → pr_dt s' (T' p) = v → post s') : wpX_bringIn post s (nI p) w v := by
  obtain ⟨fc, uc, ck, a1, a2, a3, a4, a5, a6, a7, a8, a9⟩ := s
  obtain ⟨hM, hN⟩ := hK
  have hM' := hM
  obtain ⟨hG, hA, hB, hC, hW⟩ := hM
  have hb16 : p / 4 < 16 := by omega
  refine nm_r (pr_s2 hp) ⟨pk_in (p / 4) 16 hb16, ?_⟩
  rw [nI_clamp (show p / 4 < 2 ^ 31 by omega)]
  refine br_c (fun z => ?_) (fun z => pr_br27 hM' hU (fun b hb _ h5 => hN b hb h5) hp hH h)
  have hb0 : pr_hb H (p / 4) = 0 := (nI_eq (by have := pr_hb_lt H (p / 4); omega) (by omega)).mp ((hB (p / 4) hb16).1.symm.trans z)
  obtain ⟨g1, g2⟩ := hB (p / 4) hb16
  rcases g2 with ⟨e1, e2, e3⟩ | ⟨t, e1, _, e3, _⟩
  · refine pr_allocb (r := 2) (wr := 4) hG.2.2.1 hG.1 hG.2.1 (Or.inr (Or.inr (Or.inl ⟨rfl, rfl⟩))) hA.1 (fun _ => ⟨pk_in (p / 4) 16 hb16, nm_r (e' := a5) ?_ (pr_br27 hM' hU (fun b hb _ h5 => hN b hb h5) hp hH h)⟩) (fun f a2' hf4 hfF hrun hu => ⟨pk_in (p / 4) 16 hb16, nm_r (e' := upd a5 (p / 4) (nI f)) ?_ ?_⟩)
    · funext j
      by_cases e : j = p / 4
      · rw [e, pk_us, e1]
      · rw [pk_un e]
    · rfl
    · have hTb : ∀ q, q / 4 = p / 4 → F ≤ T q := fun q hq => by
        have x := e3 (q % 4) (by omega)
        rw [← hq, pr_pg, pr_hbp0 (H := H) (p := q) (by rw [hq]; exact hb0)] at x
        rcases Nat.lt_or_ge (T q) F with z2 | z2
        · exact absurd (x.mp z2) (by decide)
        · exact z2
      have hTT : ∀ q, q < 64 → H q = true → pr_rT T (p / 4) f q = T q := fun q hq hqH => pr_rTn (fun e => by
        rw [pr_hbp0 (H := H) (p := q) (by rw [e]; exact hb0)] at hqH
        exact absurd hqH (by decide))
      refine pr_br27 (T := pr_rT T (p / 4) f) ⟨hG, pr_A_res hA hb16 hTb hfF hrun hu, pr_B_blk hB (fun q hq => pr_rTn hq) ⟨g1, Or.inr ⟨f, rfl, hf4, hfF, fun k hk => ?_, Or.inl e2⟩⟩, pr_C_cg hC hTT, hW⟩ hU (fun b hb hne h5 => ?_) hp hH (fun s' T' hK' hd hv => h s' T' hK' (fun q hq hqH => ?_) hv)
      · rw [pr_rTs (by omega)]
        omega
      · rw [pk_un hne] at h5
        exact hN b hb h5
      · rw [hd q hq hqH, hTT q hq hqH]
        rfl
  · exact absurd hb0 (hN (p / 4) hb16 (by rw [e1]; exact pr_nm1 (by have := hG.1; omega)))
/-! ===== takeOut, carry ===== -/
theorem pr_take {post : St2 → Prop} {s : St2} {F : Nat} {H : Nat → Bool} {T : Nat → Nat} {p : Nat} (hK : pr_K F H T s) (hp : p < 64) (hH : H p = true) (h : ∀ s', pr_J F (pr_uH H p false) s' → post s') : wpX_takeOut post s (nI p) := by
  obtain ⟨fc, uc, ck, a1, a2, a3, a4, a5, a6, a7, a8, a9⟩ := s
  obtain ⟨hM, hN⟩ := hK
  have hb16 : p / 4 < 16 := by omega
  refine nm_r (pr_s2 hp) (pr_break hM hb16 (fun a3' a4' a7' hM' h7 => ?_))
  obtain ⟨hG, hA, hB, hC, hW⟩ := hM'
  obtain ⟨g1, g2, g3, g4, g5⟩ := hG
  have hTF := pr_TF hB hp hH
  have hcn := pr_cn_f hp hH
  have hx : a6 (p / 4) &&& (((1 : Int32) <<< ((nI p &&& 3) &&& 31)) ^^^ (-1)) = nI (pr_hb (pr_uH H p false) (p / 4)) := by
    rw [(hB (p / 4) hb16).1, pr_a3 hp, pr_an H (p / 4) (show p % 4 < 4 by omega), pr_pg]
  have hG' : pr_G F (pr_uH H p false) fc (nI (pr_cn (pr_uH H p false) 64)) := ⟨g1, g2, g3, rfl, by omega⟩
  refine ⟨pk_in p 64 hp, nm_r (e' := nI (T p)) (by rw [nI_clamp (show p < 2 ^ 31 by omega)]; exact hC p hp hH h7) ⟨pk_in p 64 hp, nm_r (e' := upd a3' p (-1)) (by rw [nI_clamp (show p < 2 ^ 31 by omega)]) ⟨pk_in (p / 4) 16 hb16, pk_in (p / 4) 16 hb16, nm_r (e' := upd a6 (p / 4) (nI (pr_hb (pr_uH H p false) (p / 4)))) (by rw [nI_clamp (show p / 4 < 2 ^ 31 by omega), hx]) (nm_r (e' := nI (pr_cn (pr_uH H p false) 64)) (by rw [g4, ← hcn, nI_pred]) ⟨pk_in (T p) 48 (by omega), nm_e ⟨pk_in (p / 4) 16 hb16, ?_⟩⟩)⟩⟩⟩
  rw [nI_clamp (show p / 4 < 2 ^ 31 by omega), pk_us]
  refine br_c (fun z => ?_) (fun z => ⟨pk_in (p / 4) 16 hb16, ?_⟩)
  · refine pr_give (r := 0) (w := 1) g1 g2 hA.1 (Or.inl ⟨rfl, rfl⟩) (Nat.mod_one _) (by omega) (fun g h2 h3 => by rw [show g = T p by omega]; exact hA.2.1 p hp hTF) (fun a2' hu => ?_)
    have hs := pr_set (T' := pr_uT T p 99) (x := false) (v3 := -1) g1 hB hC hp h7 (fun q hq => pr_uTn hq) (Or.inl ⟨z, by rw [pr_uTs]; exact ⟨fun z2 => absurd z2 (by omega), fun z2 => absurd z2 (by decide)⟩⟩) (fun z2 => absurd z2 (by decide))
    exact h _ ⟨pr_uT T p 99, ⟨hG', pr_A_take g1 hA hp hTF hu, hs.1, hs.2, hW⟩, pr_N_u hp (fun b hb _ h5 => hN b hb h5) (fun z2 => absurd z z2)⟩
  · have hs := pr_set (T' := T) (x := false) (v3 := -1) g1 hB hC hp h7 (fun _ _ => rfl) (Or.inr ⟨z, rfl⟩) (fun z2 => absurd z2 (by decide))
    refine br_c (fun z6 => ⟨pk_in (p / 4) 16 hb16, ?_⟩) (fun z6 => ?_)
    · have hb0 : pr_hb (pr_uH H p false) (p / 4) = 0 := (nI_eq (by have := pr_hb_lt (pr_uH H p false) (p / 4); omega) (by omega)).mp z6
      obtain ⟨_, g2'⟩ := hB (p / 4) hb16
      rcases g2' with ⟨e1, _⟩ | ⟨t, e1, e2, e3, e4, _⟩
      · exact absurd e1 z
      · have hTb : ∀ q, q / 4 = p / 4 → T q = t + q % 4 := fun q hq => by
          have x := e4 (q % 4) (by omega)
          rwa [← hq, pr_pg] at x
        rw [e1]
        refine pr_give (r := 2) (w := 4) g1 g2 hA.1 (Or.inr (Or.inr (Or.inl ⟨rfl, rfl⟩))) e2 e3 (fun g h2 h3 => ?_) (fun a2' hu => ⟨pk_in (p / 4) 16 hb16, nm_r (e' := upd a5 (p / 4) (-1)) rfl ?_⟩)
        · have x := e4 (g - t) (by omega)
          have y := hA.2.1 (4 * (p / 4) + (g - t)) (by omega) (by omega)
          rw [x, show t + (g - t) = g by omega] at y
          exact y
        · refine h _ ⟨pr_zT T (p / 4), ⟨hG', pr_A_rel g1 hA hb16 e3 hTb hu, pr_B_blk hs.1 (fun q hq => pr_zTn hq) ⟨(hs.1 (p / 4) hb16).1, Or.inl ⟨rfl, h7, fun k hk => ?_⟩⟩, pr_C_cg hs.2 (fun q hq hqH => pr_zTn (fun e => ?_)), hW⟩, ?_⟩
          · rw [pr_zTs (by omega), pr_hb0 hb0 hk]
            exact ⟨fun z2 => absurd z2 (by omega), fun z2 => absurd z2 (by decide)⟩
          · rw [pr_hbp0 (H := pr_uH H p false) (p := q) (by rw [e]; exact hb0)] at hqH
            exact absurd hqH (by decide)
          · refine pr_N_u hp (fun b hb hne h5 => hN b hb ?_) (fun z2 => absurd pk_us z2)
            rwa [pk_un hne] at h5
    · exact h _ ⟨T, ⟨hG', hA, hs.1, hs.2, hW⟩, pr_N_u hp (fun b hb _ h5 => hN b hb h5) (fun _ z2 => z6 (by rw [z2]; rfl))⟩
theorem pr_carry {post : St2 → Prop} {s : St2} {F : Nat} {H : Nat → Bool} {p q : Nat} (hJ : pr_J F H s) (hp : p < 64) (hq : q < 64) (hH : H p = true) (hHq : H q = false) (h : ∀ s' H', pr_J F H' s' → post s') : wpX_carry post s (nI p) (nI q) := by
  obtain ⟨T, hK⟩ := hJ
  have hK' := hK
  obtain ⟨fc, uc, ck, a1, a2, a3, a4, a5, a6, a7, a8, a9⟩ := s
  obtain ⟨⟨hG, hA, hB, hC, hW⟩, hN⟩ := hK
  unfold wpX_carry
  dsimp only
  refine pr_mayw hW hp (fun r _ => pr_cont hG.1 hB hC hp hH (pr_take hK' hp hH (fun s1 hJ1 => ?_)))
  obtain ⟨T1, hK1⟩ := hJ1
  obtain ⟨fc1, uc1, ck1, c1, c2, c3, c4, c5, c6, c7, c8, c9⟩ := s1
  have hqp : q ≠ p := fun e => by
    rw [e, hH] at hHq
    exact absurd hHq (by decide)
  have hcn := pr_cn_f hp hH
  have hg5 := hG.2.2.2.2
  exact pr_bring hK1 (by omega) hq (by rw [pr_uHn hqp]; exact hHq) (fun s2 T2 hK2 _ _ => by
    obtain ⟨fc2, uc2, ck2, d1, d2, d3, d4, d5, d6, d7, d8, d9⟩ := s2
    exact h _ _ ⟨T2, hK2⟩)
end
section
/-! ===== write, touch ===== -/
/-- what write and touch of page P leave behind: every page held before is held and keeps what it holds (P only if the answer is negative); P holds v if the answer isn't negative -/
def pr_R (F : Nat) (H : Nat → Bool) (T : Nat → Nat) (s : St2) (P : Nat) (v r : Int32) (s' : St2) : Prop := ∃ H' T', pr_K F H' T' s' ∧ (∀ q, q < 64 → H q = true → (q ≠ P ∨ r < 0) → H' q = true ∧ pr_dt s' (T' q) = pr_dt s (T q)) ∧ (¬ r < 0 → H' P = true ∧ pr_dt s' (T' P) = v)
theorem pr_R_neg {F : Nat} {H : Nat → Bool} {T : Nat → Nat} {s : St2} {P : Nat} {v r : Int32} (hK : pr_K F H T s) (hr : r < 0) : pr_R F H T s P v r s := ⟨H, T, hK, fun q _ hq _ => ⟨hq, rfl⟩, fun z => absurd hr z⟩
theorem pr_R_put {F : Nat} {H : Nat → Bool} {T : Nat → Nat} {fc uc ck ck' : Int32} {a1 a2 a3 a4 a5 a6 a7 a8 a9 a9' : Nat → Int32} {P : Nat} {v : Int32} (hK : pr_K F H T (fc, uc, ck, a1, a2, a3, a4, a5, a6, a7, a8, a9)) (hP : P < 64) (hH : H P = true) :
    pr_R F H T (fc, uc, ck, a1, a2, a3, a4, a5, a6, a7, a8, a9) P v 0 (fc, uc, ck', upd a1 (T P) v, a2, a3, a4, a5, a6, a7, a8, a9') := by
  refine ⟨H, T, hK, fun q hq hqH hc => ⟨hqH, ?_⟩, fun _ => ⟨hH, pk_us⟩⟩
  obtain ⟨⟨_, hA, hB, _, _⟩, _⟩ := hK
  rcases hc with c | c
  · exact pk_un (fun e => c (hA.2.2.1 q P hq hP (pr_TF hB hq hqH) e))
  · exact absurd c (by decide)
theorem pr_write {post : Int32 → St2 → Prop} {s : St2} {F : Nat} {H : Nat → Bool} {T : Nat → Nat} {sp x : Nat} {v : Int32} (hK : pr_K F H T s) (hs : sp < 2) (hx : x < 32) (h : ∀ r s', pr_R F H T s (32 * sp + x) v r s' → post r s') : wpX_write post s (nI sp) (nI x) v := by
  have hK' := hK
  obtain ⟨fc, uc, ck, a1, a2, a3, a4, a5, a6, a7, a8, a9⟩ := s
  obtain ⟨⟨hG, hA, hB, hC, hW⟩, hN⟩ := hK
  have hP : 32 * sp + x < 64 := by omega
  unfold wpX_write
  dsimp only
  refine pr_space hs (br_f (by decide) (pr_page hx (br_f (by decide) (nm_r (pr_sp sp x) (pr_has hB hP (fun hH => br_f (by decide) ?_) (fun hH => br_t rfl (h _ _ (pr_R_neg hK' (by decide)))))))))
  exact pr_mayw hW hP (fun r _ => br_c (fun _ => h _ _ (pr_R_neg hK' (by decide))) (fun _ => pr_setc hG.1 hB hC hP hH (fun ck' a9' => h _ _ (pr_R_put hK' hP hH))))
theorem pr_touch {post : Int32 → St2 → Prop} {s : St2} {F : Nat} {H : Nat → Bool} {T : Nat → Nat} {sp x : Nat} {v : Int32} (hK : pr_K F H T s) (hs : sp < 2) (hx : x < 32) (h : ∀ r s', pr_R F H T s (32 * sp + x) v r s' → post r s') : wpX_touch post s (nI sp) (nI x) v := by
  have hK' := hK
  obtain ⟨fc, uc, ck, a1, a2, a3, a4, a5, a6, a7, a8, a9⟩ := s
  obtain ⟨⟨hG, hA, hB, hC, hW⟩, hN⟩ := hK
  have hP : 32 * sp + x < 64 := by omega
  unfold wpX_touch
  dsimp only
  refine pr_space hs (br_f (by decide) (pr_page hx (br_f (by decide) (nm_r (pr_sp sp x) (pr_has hB hP (fun hH => br_f (by decide) ?_) (fun hH => br_t rfl (br_c (fun _ => h _ _ (pr_R_neg hK' (by decide))) (fun z => ?_))))))))
  · exact pr_mayw hW hP (fun r _ => br_c (fun _ => h _ _ (pr_R_neg hK' (by decide))) (fun _ => pr_setc hG.1 hB hC hP hH (fun ck' a9' => h _ _ (pr_R_put hK' hP hH))))
  · obtain ⟨g1, g2, g3, g4, g5⟩ := hG
    have hU : pr_cn H 64 < F := by
      rcases Nat.lt_or_ge (pr_cn H 64) F with c | c
      · exact c
      · exact absurd (by rw [g3, g4, show pr_cn H 64 = F by omega]) z
    refine pr_bring hK' hU hP hH (fun s' T' hK2 hd hv => ?_)
    obtain ⟨fc2, uc2, ck2, d1, d2, d3, d4, d5, d6, d7, d8, d9⟩ := s'
    refine h _ _ ⟨_, T', hK2, fun q hq hqH _ => ⟨?_, hd q hq hqH⟩, fun _ => ⟨pr_uHs, hv⟩⟩
    by_cases e : q = 32 * sp + x
    · rw [e, pr_uHs]
    · rw [pr_uHn e]
      exact hqH
/-! ===== map ===== -/
/-- the pages not held among c pages from a on -/
def pr_nr (H : Nat → Bool) : Nat → Nat → Nat
  | 0, _ => 0
  | c + 1, a => (!H a).toNat + pr_nr H c (a + 1)
theorem pr_nr_cg {H H' : Nat → Bool} : ∀ c a, (∀ q, a ≤ q → H' q = H q) → pr_nr H' c a = pr_nr H c a := by
  intro c
  induction c with
  | zero => intro a _; rfl
  | succ c ih =>
    intro a h
    show (!H' a).toNat + pr_nr H' c (a + 1) = (!H a).toNat + pr_nr H c (a + 1)
    rw [h a (by omega), ih (a + 1) (fun q hq => h q (by omega))]
theorem pr_nr_t {H : Nat → Bool} {a c : Nat} (h : H a = true) : pr_nr H (c + 1) a = pr_nr H c (a + 1) := by
  show (!H a).toNat + pr_nr H c (a + 1) = _
  rw [h]
  exact Nat.zero_add _
theorem pr_nr_f {H : Nat → Bool} {a c : Nat} (h : H a = false) : pr_nr H (c + 1) a = 1 + pr_nr H c (a + 1) := by
  show (!H a).toNat + pr_nr H c (a + 1) = _
  rw [h]
  rfl
theorem pr_nr_le (H : Nat → Bool) : ∀ c a, pr_nr H c a ≤ c := by
  intro c
  induction c with
  | zero => intro a; exact Nat.le_refl 0
  | succ c ih =>
    intro a
    have := ih (a + 1)
    have := Bool.toNat_le (!H a)
    show (!H a).toNat + pr_nr H c (a + 1) ≤ c + 1
    omega
/-- every page held before is held, and holds what it held -/
def pr_Q (F : Nat) (H : Nat → Bool) (d : Nat → Int32) (s' : St2) : Prop := ∃ H' T', pr_K F H' T' s' ∧ ∀ q, q < 64 → H q = true → H' q = true ∧ pr_dt s' (T' q) = d q
theorem pr_map83 {post : Int32 → St2 → Prop} {F : Nat} {H : Nat → Bool} {d : Nat → Int32} {a c : Nat} {x5 : Int32} (hac : a + c ≤ 64) (h : ∀ s', pr_Q F H d s' → post x5 s') :
    ∀ m i Hi Ti fc uc ck a1 a2 a3 a4 a5 a6 a7 a8 a9, i + m = a + c → pr_K F Hi Ti (fc, uc, ck, a1, a2, a3, a4, a5, a6, a7, a8, a9) → pr_cn Hi 64 + pr_nr Hi m i ≤ F → (∀ q, q < 64 → H q = true → Hi q = true ∧ a1 (Ti q) = d q) →
      wX_map_83 post (nI c) (nI a) x5 (m + 1) (nI i) fc uc ck a1 a2 a3 a4 a5 a6 a7 a8 a9 := by
  intro m
  induction m with
  | zero =>
    intro i Hi Ti fc uc ck a1 a2 a3 a4 a5 a6 a7 a8 a9 hi hK _ hd
    exact br_t (by rw [nI_add, show i = a + c by omega]; exact nI_le (Nat.le_refl _) (by omega)) (h _ ⟨Hi, Ti, hK, hd⟩)
  | succ m ih =>
    intro i Hi Ti fc uc ck a1 a2 a3 a4 a5 a6 a7 a8 a9 hi hK hcn hd
    have hK' := hK
    obtain ⟨⟨hG, hA, hB, hC, hW⟩, hN⟩ := hK
    refine br_f (by rw [nI_add]; exact nI_ge (by omega) (by omega)) (pr_has hB (by omega) (fun hH => br_f (by decide) (nm_r (nI_1 i) ?_)) (fun hH => br_t rfl ?_))
    · rw [pr_nr_t hH] at hcn
      exact ih (i + 1) Hi Ti _ _ _ _ _ _ _ _ _ _ _ _ (by omega) hK' hcn hd
    · rw [pr_nr_f hH] at hcn
      refine pr_bring hK' (by omega) (by omega) hH (fun s' T' hK2 hd2 _ => ?_)
      obtain ⟨fc2, uc2, ck2, d1, d2, d3, d4, d5, d6, d7, d8, d9⟩ := s'
      have ecn := pr_cn_t (show i < 64 by omega) hH
      have enr : pr_nr (pr_uH Hi i true) m (i + 1) = pr_nr Hi m (i + 1) := pr_nr_cg m (i + 1) (fun q hq => pr_uHn (by omega))
      refine nm_r (nI_1 i) (ih (i + 1) _ T' _ _ _ _ _ _ _ _ _ _ _ _ (by omega) hK2 (by omega) (fun q hq hqH => ?_))
      obtain ⟨q1, q2⟩ := hd q hq hqH
      refine ⟨?_, (hd2 q hq q1).trans q2⟩
      by_cases e : q = i
      · rw [e, pr_uHs]
      · rw [pr_uHn e]
        exact q1
theorem pr_map35 {post : Int32 → St2 → Prop} {F : Nat} {H : Nat → Bool} {T : Nat → Nat} {fc uc ck : Int32} {a1 a2 a3 a4 a5 a6 a7 a8 a9 : Nat → Int32} {a c N : Nat} (hac : a + c ≤ 64) (hN64 : N ≤ 64) (hK : pr_K F H T (fc, uc, ck, a1, a2, a3, a4, a5, a6, a7, a8, a9)) (hNr : pr_nr H c a = N)
    (hfull : F < pr_cn H 64 + N → post (-3) (fc, uc, ck, a1, a2, a3, a4, a5, a6, a7, a8, a9)) (hok : pr_cn H 64 + N ≤ F → ∀ s', pr_Q F H (fun q => a1 (T q)) s' → post (nI N) s') :
    ∀ m i y, i + m = a + c → y + pr_nr H m i = N → wX_map_35 post (nI c) (nI a) fc uc ck a1 a2 a3 a4 a5 a6 a7 a8 a9 (m + 1) (nI y) (nI i) := by
  have hK' := hK
  obtain ⟨⟨⟨g1, g2, g3, g4, g5⟩, hA, hB, hC, hW⟩, hN⟩ := hK
  intro m
  induction m with
  | zero =>
    intro i y hi hy
    have ey : y = N := by
      have : pr_nr H 0 i = 0 := rfl
      omega
    subst ey
    refine br_t (by rw [nI_add, show i = a + c by omega]; exact nI_le (Nat.le_refl _) (by omega)) ?_
    refine pk_le (pr_cn H 64 + y) F (fun z => ⟨c + 1, ?_⟩) (fun z => hfull z) (by rw [g4, nI_add]) g3 (by omega) (by omega)
    exact pr_map83 hac (hok z) c a H T _ _ _ _ _ _ _ _ _ _ _ _ rfl hK' (by omega) (fun q _ hq => ⟨hq, rfl⟩)
  | succ m ih =>
    intro i y hi hy
    refine br_f (by rw [nI_add]; exact nI_ge (by omega) (by omega)) (pr_has hB (by omega) (fun hH => br_f (by decide) (nm_r (nI_1 i) ?_)) (fun hH => br_t rfl (nm_r (nI_1 y) (nm_r (nI_1 i) ?_))))
    · rw [pr_nr_t hH] at hy
      exact ih (i + 1) y (by omega) hy
    · rw [pr_nr_f hH] at hy
      exact ih (i + 1) (y + 1) (by omega) (by omega)
theorem pr_map {post : Int32 → St2 → Prop} {s : St2} {F : Nat} {H : Nat → Bool} {T : Nat → Nat} {sp p c : Nat} (hK : pr_K F H T s) (hs : sp < 2) (hp : p < 32) (hc : c < 64) (hbad : ¬ (1 ≤ c ∧ p + c ≤ 32) → post (-2) s)
    (hfull : 1 ≤ c → p + c ≤ 32 → F < pr_cn H 64 + pr_nr H c (32 * sp + p) → post (-3) s) (hok : 1 ≤ c → p + c ≤ 32 → pr_cn H 64 + pr_nr H c (32 * sp + p) ≤ F → ∀ s', pr_Q F H (fun q => pr_dt s (T q)) s' → post (nI (pr_nr H c (32 * sp + p))) s') :
    wpX_map post s (nI sp) (nI p) (nI c) := by
  have hK' := hK
  obtain ⟨fc, uc, ck, a1, a2, a3, a4, a5, a6, a7, a8, a9⟩ := s
  unfold wpX_map
  dsimp only
  refine pr_space hs (br_f (by decide) (pr_range (by omega) (by omega) (fun h1 h2 => br_f (by decide) (nm_r (pr_sp sp p) ⟨c + 1, ?_⟩)) (fun h => br_t rfl (hbad h))))
  have hle := pr_nr_le H c (32 * sp + p)
  have k := pr_map35 (c := c) (a := 32 * sp + p) (by omega) (by omega) hK' rfl (hfull h1 h2) (hok h1 h2) c (32 * sp + p) 0 rfl (by omega)
  rw [nI_0] at k
  exact k
/-! ===== unmap, protect, stamp ===== -/
theorem pr_unmap35 {post : Int32 → St2 → Prop} {F : Nat} {a c : Nat} (hac : a + c ≤ 64) (h : ∀ r s' H', pr_J F H' s' → post r s') :
    ∀ m i y H fc uc ck a1 a2 a3 a4 a5 a6 a7 a8 a9, i + m = a + c → pr_J F H (fc, uc, ck, a1, a2, a3, a4, a5, a6, a7, a8, a9) →
      wX_unmap_35 post (nI c) (nI a) (m + 1) y (nI i) fc uc ck a1 a2 a3 a4 a5 a6 a7 a8 a9 := by
  intro m
  induction m with
  | zero =>
    intro i y H fc uc ck a1 a2 a3 a4 a5 a6 a7 a8 a9 hi hJ
    exact br_t (by rw [nI_add, show i = a + c by omega]; exact nI_le (Nat.le_refl _) (by omega)) (h _ _ _ hJ)
  | succ m ih =>
    intro i y H fc uc ck a1 a2 a3 a4 a5 a6 a7 a8 a9 hi hJ
    have hJ' := hJ
    obtain ⟨T, hK⟩ := hJ
    have hK' := hK
    obtain ⟨⟨hG, hA, hB, hC, hW⟩, hN⟩ := hK
    refine br_f (by rw [nI_add]; exact nI_ge (by omega) (by omega)) (pr_has hB (by omega) (fun hH => br_f (by decide) (pr_take hK' (by omega) hH (fun s' hJ2 => ?_))) (fun hH => br_t rfl (nm_r (nI_1 i) (ih (i + 1) y H _ _ _ _ _ _ _ _ _ _ _ _ (by omega) hJ'))))
    obtain ⟨fc2, uc2, ck2, d1, d2, d3, d4, d5, d6, d7, d8, d9⟩ := s'
    exact nm_e (nm_r (nI_1 i) (ih (i + 1) _ _ _ _ _ _ _ _ _ _ _ _ _ _ (by omega) hJ2))
theorem pr_unmap {post : Int32 → St2 → Prop} {s : St2} {F : Nat} {H : Nat → Bool} {sp p c : Nat} (hJ : pr_J F H s) (hs : sp < 2) (hp : p < 32) (hc : c < 64) (h : ∀ r s' H', pr_J F H' s' → post r s') : wpX_unmap post s (nI sp) (nI p) (nI c) := by
  obtain ⟨fc, uc, ck, a1, a2, a3, a4, a5, a6, a7, a8, a9⟩ := s
  unfold wpX_unmap
  dsimp only
  exact pr_space hs (br_f (by decide) (pr_range (by omega) (by omega) (fun h1 h2 => br_f (by decide) (nm_r (pr_sp sp p) ⟨c + 1, pr_unmap35 (by omega) h c (32 * sp + p) 0 H _ _ _ _ _ _ _ _ _ _ _ _ rfl hJ⟩)) (fun _ => br_t rfl (h _ _ _ hJ))))
theorem pr_prot89 {post : Int32 → St2 → Prop} {J35 : Int32 → Int32 → Int32 → Int32 → Int32 → (Nat → Int32) → (Nat → Int32) → (Nat → Int32) → (Nat → Int32) → (Nat → Int32) → (Nat → Int32) → (Nat → Int32) → (Nat → Int32) → (Nat → Int32) → Prop} {x3 x4 x5 x6 w : Int32} {F : Nat} {H : Nat → Bool} {T : Nat → Nat} {i : Nat} {fc uc ck : Int32} {a1 a2 a3 a4 a5 a6 a7 a8 a9 : Nat → Int32} (hi : i < 64)
    (hK : pr_K F H T (fc, uc, ck, a1, a2, a3, a4, a5, a6, a7, a8, a9)) (h : ∀ y fc uc ck a1 a2 a3 a4 a5 a6 a7 a8 a9, pr_K F H T (fc, uc, ck, a1, a2, a3, a4, a5, a6, a7, a8, a9) → J35 y (nI (i + 1)) fc uc ck a1 a2 a3 a4 a5 a6 a7 a8 a9) :
    wX_protect_89 post J35 x3 x4 x5 x6 (nI i) w (nI i) fc uc ck a1 a2 a3 a4 a5 a6 a7 a8 a9 := by
  obtain ⟨hM, hN⟩ := hK
  unfold wX_protect_89
  exact pr_setw hM hi (fun a3' a4' a7' a8' hM' => nm_e (nm_r (nI_1 i) (h _ _ _ _ _ _ _ _ _ _ _ _ _ ⟨hM', hN⟩)))
theorem pr_prot35 {post : Int32 → St2 → Prop} {F : Nat} {H : Nat → Bool} {T : Nat → Nat} {a c : Nat} {x4 : Int32} (hac : a + c ≤ 64) (h : ∀ r s', pr_K F H T s' → post r s') :
    ∀ m i y fc uc ck a1 a2 a3 a4 a5 a6 a7 a8 a9, i + m = a + c → pr_K F H T (fc, uc, ck, a1, a2, a3, a4, a5, a6, a7, a8, a9) →
      wX_protect_35 post (nI c) x4 (nI a) (m + 1) y (nI i) fc uc ck a1 a2 a3 a4 a5 a6 a7 a8 a9 := by
  intro m
  induction m with
  | zero =>
    intro i y fc uc ck a1 a2 a3 a4 a5 a6 a7 a8 a9 hi hK
    exact br_t (by rw [nI_add, show i = a + c by omega]; exact nI_le (Nat.le_refl _) (by omega)) (h _ _ hK)
  | succ m ih =>
    intro i y fc uc ck a1 a2 a3 a4 a5 a6 a7 a8 a9 hi hK
    have hK' := hK
    obtain ⟨⟨hG, hA, hB, hC, hW⟩, hN⟩ := hK
    have nx : ∀ y fc uc ck a1 a2 a3 a4 a5 a6 a7 a8 a9, pr_K F H T (fc, uc, ck, a1, a2, a3, a4, a5, a6, a7, a8, a9) → wX_protect_35 post (nI c) x4 (nI a) (m + 1) y (nI (i + 1)) fc uc ck a1 a2 a3 a4 a5 a6 a7 a8 a9 := fun y fc uc ck a1 a2 a3 a4 a5 a6 a7 a8 a9 hK2 => ih (i + 1) y _ _ _ _ _ _ _ _ _ _ _ _ (by omega) hK2
    refine br_f (by rw [nI_add]; exact nI_ge (by omega) (by omega)) (pr_has hB (by omega) (fun hH => br_f (by decide) (pr_mayw hW (by omega) (fun r _ => ?_))) (fun hH => br_t rfl (nm_r (nI_1 i) (nx y _ _ _ _ _ _ _ _ _ _ _ _ hK'))))
    have p73 : ∀ z, wX_protect_73 post (wX_protect_35 post (nI c) x4 (nI a) (m + 1)) (nI c) x4 (nI a) y (nI i) z r fc uc ck a1 a2 a3 a4 a5 a6 a7 a8 a9 := fun z =>
      br_c (fun _ => nm_r (nI_1 i) (nx y _ _ _ _ _ _ _ _ _ _ _ _ hK')) (fun _ => br_c (fun _ => pr_prot89 (by omega) hK' nx) (fun _ => pr_prot89 (by omega) hK' nx))
    exact br_c (fun _ => p73 0) (fun _ => p73 1)
theorem pr_protect {post : Int32 → St2 → Prop} {s : St2} {F : Nat} {H : Nat → Bool} {sp p c : Nat} {w : Int32} (hJ : pr_J F H s) (hs : sp < 2) (hp : p < 32) (hc : c < 64) (h : ∀ r s' H', pr_J F H' s' → post r s') : wpX_protect post s (nI sp) (nI p) (nI c) w := by
  have hJ' := hJ
  obtain ⟨T, hK⟩ := hJ
  obtain ⟨fc, uc, ck, a1, a2, a3, a4, a5, a6, a7, a8, a9⟩ := s
  unfold wpX_protect
  dsimp only
  exact pr_space hs (br_f (by decide) (pr_range (by omega) (by omega) (fun h1 h2 => br_f (by decide) (nm_r (pr_sp sp p) ⟨c + 1, pr_prot35 (by omega) (fun r s' hK2 => h r s' H ⟨T, hK2⟩) c (32 * sp + p) 0 _ _ _ _ _ _ _ _ _ _ _ _ rfl hK⟩)) (fun _ => br_t rfl (h _ _ _ hJ'))))
theorem pr_stamp48 {post : Int32 → St2 → Prop} {F : Nat} {H : Nat → Bool} {T : Nat → Nat} {a c : Nat} {x2 x3 : Int32} (hac : a + c ≤ 64) (hx : x2 &&& 63 = nI c) (h : ∀ r s', pr_K F H T s' → post r s') :
    ∀ m i y fc uc ck a1 a2 a3 a4 a5 a6 a7 a8 a9, i + m = a + c → pr_K F H T (fc, uc, ck, a1, a2, a3, a4, a5, a6, a7, a8, a9) →
      wX_stamp_48 post x2 x3 (nI a) (m + 1) y (nI i) fc uc ck a1 a2 a3 a4 a5 a6 a7 a8 a9 := by
  intro m
  induction m with
  | zero =>
    intro i y fc uc ck a1 a2 a3 a4 a5 a6 a7 a8 a9 hi hK
    exact br_t (by rw [hx, nI_add, show i = a + c by omega]; exact nI_le (Nat.le_refl _) (by omega)) (h _ _ hK)
  | succ m ih =>
    intro i y fc uc ck a1 a2 a3 a4 a5 a6 a7 a8 a9 hi hK
    have hK' := hK
    obtain ⟨⟨hG, hA, hB, hC, hW⟩, hN⟩ := hK
    refine br_f (by rw [hx, nI_add]; exact nI_ge (by omega) (by omega)) (pr_has hB (by omega) (fun hH => br_f (by decide) (pr_setc hG.1 hB hC (by omega) hH (fun ck' a9' => nm_e (nm_r (nI_1 i) (ih (i + 1) _ _ _ _ _ _ _ _ _ _ _ _ _ (by omega) hK'))))) (fun hH => br_t rfl (nm_r (nI_1 i) (ih (i + 1) y _ _ _ _ _ _ _ _ _ _ _ _ (by omega) hK'))))
theorem pr_stamp {post : Int32 → St2 → Prop} {s : St2} {F : Nat} {H : Nat → Bool} {sp p c : Nat} {v : Int32} (hJ : pr_J F H s) (hs : sp < 2) (hp : p < 32) (hc : c < 64) (h : ∀ r s' H', pr_J F H' s' → post r s') : wpX_stamp post s (nI sp) (nI (64 * p + c)) v := by
  have hJ' := hJ
  obtain ⟨T, hK⟩ := hJ
  obtain ⟨fc, uc, ck, a1, a2, a3, a4, a5, a6, a7, a8, a9⟩ := s
  have e1 : nI (64 * p + c) >>> ((6 : Int32) &&& 31) = nI p := by
    rw [pk_shrN (show 64 * p + c < 2 ^ 31 by omega) _ 6 (by decide)]
    exact congrArg nI (by omega)
  have e2 : nI (64 * p + c) &&& 63 = nI c := by
    rw [pk_andN (show 64 * p + c < 2 ^ 32 by omega) 6 (by decide)]
    exact congrArg nI (by omega)
  unfold wpX_stamp
  dsimp only
  refine pr_space hs (br_f (by decide) (br_f (nI_pos (by omega)) ?_))
  rw [e1, e2]
  exact pr_range (by omega) (by omega) (fun h1 h2 => br_f (by decide) (nm_r (pr_sp sp p) ⟨c + 1, pr_stamp48 (by omega) e2 (fun r s' hK2 => h r s' H ⟨T, hK2⟩) c (32 * sp + p) 0 _ _ _ _ _ _ _ _ _ _ _ _ rfl hK⟩)) (fun _ => br_t rfl (h _ _ _ hJ'))
/-! ===== remap, duplicate, exchange ===== -/
theorem pr_remap {post : Int32 → St2 → Prop} {s : St2} {F : Nat} {H : Nat → Bool} {sp p q : Nat} (hJ : pr_J F H s) (hs : sp < 2) (hp : p < 32) (hq : q < 32) (h : ∀ r s' H', pr_J F H' s' → post r s') : wpX_remap post s (nI sp) (nI p) (nI q) := by
  have hJ' := hJ
  obtain ⟨T, hK⟩ := hJ
  obtain ⟨fc, uc, ck, a1, a2, a3, a4, a5, a6, a7, a8, a9⟩ := s
  obtain ⟨⟨hG, hA, hB, hC, hW⟩, hN⟩ := hK
  have h0 : ∀ r, post r (fc, uc, ck, a1, a2, a3, a4, a5, a6, a7, a8, a9) := fun r => h r _ _ hJ'
  unfold wpX_remap
  dsimp only
  refine pr_space hs (br_f (by decide) (pr_page hp (br_f (by decide) (pr_page hq (br_f (by decide) (nm_r (pr_sp sp p) (nm_r (pr_sp sp q) (pr_has hB (by omega) (fun hH => br_f (by decide) (pr_has hB (by omega) (fun _ => br_f (by decide) (h0 _)) (fun hHq => br_t rfl (pr_carry hJ' (by omega) (by omega) hH hHq (fun s' H' hJ2 => ?_))))) (fun _ => br_t rfl (h0 _))))))))))
  obtain ⟨fc2, uc2, ck2, d1, d2, d3, d4, d5, d6, d7, d8, d9⟩ := s'
  exact h _ _ _ hJ2
theorem pr_dup {post : Int32 → St2 → Prop} {s : St2} {F : Nat} {H : Nat → Bool} {sp p : Nat} (hJ : pr_J F H s) (hs : sp < 2) (hp : p < 32) (h : ∀ r s' H', pr_J F H' s' → post r s') : wpX_duplicate post s (nI sp) (nI p) := by
  have hJ' := hJ
  obtain ⟨T, hK⟩ := hJ
  have hK' := hK
  obtain ⟨fc, uc, ck, a1, a2, a3, a4, a5, a6, a7, a8, a9⟩ := s
  obtain ⟨⟨hG, hA, hB, hC, hW⟩, hN⟩ := hK
  have h0 : ∀ r, post r (fc, uc, ck, a1, a2, a3, a4, a5, a6, a7, a8, a9) := fun r => h r _ _ hJ'
  have e1 : (32 : Int32) * (1 - nI sp) + nI p = nI (32 * (1 - sp) + p) := by
    rw [show (1 : Int32) - nI sp = nI (1 - sp) from pk_sub (a := 1) (by omega), pr_sp]
  unfold wpX_duplicate
  dsimp only
  refine pr_space hs (br_f (by decide) (pr_page hp (br_f (by decide) (nm_r (pr_sp sp p) (nm_r e1 (pr_has hB (by omega) (fun hH => br_f (by decide) (pr_has hB (by omega) (fun _ => br_f (by decide) (h0 _)) (fun hHq => br_t rfl (br_c (fun _ => h0 _) (fun z => ?_))))) (fun _ => br_t rfl (h0 _))))))))
  obtain ⟨g1, g2, g3, g4, g5⟩ := hG
  have hU : pr_cn H 64 < F := by
    rcases Nat.lt_or_ge (pr_cn H 64) F with c | c
    · exact c
    · exact absurd (by rw [g3, g4, show pr_cn H 64 = F by omega]) z
  refine pr_mayw hW (by omega) (fun r _ => pr_cont g1 hB hC (by omega) hH (pr_bring hK' hU (by omega) hHq (fun s' T' hK2 _ _ => ?_)))
  obtain ⟨fc2, uc2, ck2, d1, d2, d3, d4, d5, d6, d7, d8, d9⟩ := s'
  exact h _ _ _ ⟨T', hK2⟩
theorem pr_exch92 {post : Int32 → St2 → Prop} {fc uc ck : Int32} {a1 a2 a3 a4 a5 a6 a7 a8 a9 : Nat → Int32} {F : Nat} {H : Nat → Bool} {p q : Nat} (hJ : pr_J F H (fc, uc, ck, a1, a2, a3, a4, a5, a6, a7, a8, a9)) (hp : p < 64) (hq : q < 64) (hn : ¬ (H p = true ∧ H q = true)) (h : ∀ r s' H', pr_J F H' s' → post r s') :
    wX_exchange_92 post (nI p) (nI q) fc uc ck a1 a2 a3 a4 a5 a6 a7 a8 a9 := by
  have hJ' := hJ
  obtain ⟨T, ⟨⟨hG, hA, hB, hC, hW⟩, hN⟩⟩ := hJ
  unfold wX_exchange_92
  refine pr_has hB hp (fun hH => br_f (by decide) (pr_carry hJ' hp hq hH ?_ (fun s' H' hJ2 => ?_))) (fun hH => br_t rfl (pr_has hB hq (fun hHq => br_f (by decide) (pr_carry hJ' hq hp hHq hH (fun s' H' hJ2 => ?_))) (fun _ => br_t rfl (h _ _ _ hJ'))))
  · cases hHq : H q
    · rfl
    · exact absurd ⟨hH, hHq⟩ hn
  · obtain ⟨fc2, uc2, ck2, d1, d2, d3, d4, d5, d6, d7, d8, d9⟩ := s'
    exact h _ _ _ hJ2
  · obtain ⟨fc2, uc2, ck2, d1, d2, d3, d4, d5, d6, d7, d8, d9⟩ := s'
    exact h _ _ _ hJ2
theorem pr_exch {post : Int32 → St2 → Prop} {s : St2} {F : Nat} {H : Nat → Bool} {p : Nat} (hJ : pr_J F H s) (hp : p < 32) (h : ∀ r s' H', pr_J F H' s' → post r s') : wpX_exchange post s (nI p) := by
  have hJ' := hJ
  obtain ⟨T, hK⟩ := hJ
  obtain ⟨fc, uc, ck, a1, a2, a3, a4, a5, a6, a7, a8, a9⟩ := s
  obtain ⟨hM, hN⟩ := hK
  have hM' := hM
  obtain ⟨hG, hA, hB, hC, hW⟩ := hM
  have e1 : (32 : Int32) + nI p = nI (32 + p) := nI_add 32 p
  have ff : ∀ {q : Nat}, H q = false → ¬ H q = true := fun h z => by
    rw [h] at z
    exact absurd z (by decide)
  unfold wpX_exchange
  dsimp only
  refine pr_page hp (br_f (by decide) (nm_r e1 (pr_has hB (by omega) (fun hH => br_f (by decide) (pr_has hB (by omega) (fun hHq => br_f (by decide) ?_) (fun hHq => br_t rfl (pr_exch92 hJ' (by omega) (by omega) (fun z => ff hHq z.2) h)))) (fun hH => br_t rfl (pr_exch92 hJ' (by omega) (by omega) (fun z => ff hH z.1) h)))))
  have hTp := pr_TF hB (show p < 64 by omega) hH
  have g1 := hG.1
  refine pr_cont g1 hB hC (by omega) hH (pr_mayw hW (by omega) (fun r1 _ => pr_mayw hW (by omega) (fun r2 _ => pr_trans hB hC (by omega) hH (pr_cont g1 hB hC (by omega) hHq ⟨pk_in (T p) 48 (by omega), nm_e (pr_setc g1 hB hC (by omega) hHq (fun ck' a9' => ?_))⟩))))
  refine pr_setw hM' (by omega) (fun c3 c4 c7 c8 hM2 => ?_)
  exact pr_setw hM2 (by omega) (fun d3 d4 d7 d8 hM3 => h _ _ _ ⟨T, hM3, hN⟩)
/-! ===== turn ===== -/
theorem pr_a24 : ∀ p, p < 32 → ∃ q, q < 32 ∧ nI p &&& 24 = nI q := by
  intro p hp
  have t : ∀ p, p < 32 → nI p &&& 24 = nI (p / 8 * 8) := by decide +kernel
  exact ⟨p / 8 * 8, by omega, t p hp⟩
theorem pr_turn {post : St2 → Prop} {s : St2} {F : Nat} {H : Nat → Bool} {op sp p q : Nat} {v : Int32} (hJ : pr_J F H s) (hop : op < 7) (hs : sp < 2) (hp : p < 32) (hq : q < 64) (h : ∀ s' H', pr_J F H' s' → post s') : wpL_turn post s (nI op) (nI sp) (nI p) (nI q) v := by
  have hh : ∀ (r : Int32) (s' : St2) (H' : Nat → Bool), pr_J F H' s' → (match s' with | (f1, f2, f3, c1, c2, c3, c4, c5, c6, c7, c8, c9) => post (f1, f2, f3, c1, c2, c3, c4, c5, c6, c7, c8, c9)) := fun r s' H' hJ2 => by
    obtain ⟨fc2, uc2, ck2, d1, d2, d3, d4, d5, d6, d7, d8, d9⟩ := s'
    exact h _ _ hJ2
  obtain ⟨fc, uc, ck, a1, a2, a3, a4, a5, a6, a7, a8, a9⟩ := s
  unfold wpL_turn
  dsimp only
  rcases (by omega : op = 0 ∨ op = 1 ∨ op = 2 ∨ op = 3 ∨ op = 4 ∨ op = 5 ∨ op = 6) with rfl | rfl | rfl | rfl | rfl | rfl | rfl
  · exact br_t rfl (pr_unmap hJ hs hp hq hh)
  · exact br_f (by decide) (br_t rfl (pr_protect hJ hs hp hq hh))
  · refine br_f (by decide) (br_f (by decide) (br_t rfl ?_))
    rw [show (64 : Int32) * nI p + nI q = nI (64 * p + q) by rw [show (64 : Int32) * nI p = nI (64 * p) from pk_mul 64 p, nI_add]]
    exact pr_stamp hJ hs hp hq hh
  · refine br_f (by decide) (br_f (by decide) (br_f (by decide) (br_t rfl ?_)))
    rw [show nI q &&& 31 = nI (q % 2 ^ 5) from pk_andN (by omega) 5 (by decide)]
    exact pr_remap hJ hs hp (by omega) hh
  · exact br_f (by decide) (br_f (by decide) (br_f (by decide) (br_f (by decide) (br_t rfl (pr_dup hJ hs hp hh)))))
  · exact br_f (by decide) (br_f (by decide) (br_f (by decide) (br_f (by decide) (br_f (by decide) (br_t rfl (pr_exch hJ hp hh))))))
  · refine br_f (by decide) (br_f (by decide) (br_f (by decide) (br_f (by decide) (br_f (by decide) (br_f (by decide) ?_)))))
    obtain ⟨p', hp', e⟩ := pr_a24 p hp
    rw [e]
    exact pr_unmap (c := 8) hJ hs hp' (by omega) hh
end
section
/-! ===== unmappedIn ===== -/
theorem pr_um6 {post : Int32 → Prop} {fc uc ck : Int32} {a1 a2 a3 a4 a5 a6 a7 a8 a9 : Nat → Int32} {F : Nat} {H : Nat → Bool} {T : Nat → Nat} {sp p c N : Nat} (hB : pr_B F H T a5 a6 a7) (hs : sp < 2) (hpc : p + c ≤ 32) (h : post (nI N)) :
    ∀ m i y, i + m = 32 → y + pr_nr H (c - i) (32 * sp + (p + i)) = N → wL_unmappedIn_6 post (nI sp) (nI p) (nI c) fc uc ck a1 a2 a3 a4 a5 a6 a7 a8 a9 (m + 1) (nI y) (nI i) := by
  intro m
  induction m with
  | zero =>
    intro i y hi hy
    rw [show c - i = 0 by omega] at hy
    have e : y = N := hy
    rw [e]
    exact br_t (nI_le (a := 32) (by omega) (by omega)) h
  | succ m ih =>
    intro i y hi hy
    refine br_f (nI_ge (b := 32) (by omega) (by decide)) (pk_le c i (fun z => nm_r (nI_1 i) ?_) (fun z => ?_))
    · refine ih (i + 1) y (by omega) ?_
      rw [show c - i = 0 by omega] at hy
      rw [show c - (i + 1) = 0 by omega]
      exact hy
    · rw [nI_add]
      rw [show c - i = (c - (i + 1)) + 1 by omega] at hy
      refine pr_mapped hB hs (by omega) (fun hH => br_f (by decide) (nm_r (nI_1 i) ?_)) (fun hH => br_t rfl (nm_r (nI_1 y) (nm_r (nI_1 i) ?_)))
      · rw [pr_nr_t hH] at hy
        exact ih (i + 1) y (by omega) hy
      · rw [pr_nr_f hH] at hy
        refine ih (i + 1) (y + 1) (by omega) ?_
        rw [show 32 * sp + (p + (i + 1)) = 32 * sp + (p + i) + 1 by omega]
        omega
/-! ===== watched ===== -/
theorem pr_w228 {post : Int32 → St2 → Prop} {fc uc ck x9 x10 : Int32} {a1 a2 a3 a4 a5 a6 a7 a8 a9 : Nat → Int32} {F : Nat} {H : Nat → Bool} {T : Nat → Nat} {w x : Nat} (hK : pr_K F H T (fc, uc, ck, a1, a2, a3, a4, a5, a6, a7, a8, a9)) (hw : w < 2) (hx : x < 32)
    (hk : x9 = 1 → H (32 * w + x) = true ∧ a1 (T (32 * w + x)) = x10) (h : post 1 (fc, uc, ck, a1, a2, a3, a4, a5, a6, a7, a8, a9)) : wL_watched_228 post (nI w) (nI x) x9 x10 fc uc ck a1 a2 a3 a4 a5 a6 a7 a8 a9 := by
  obtain ⟨⟨hG, hA, hB, hC, hW⟩, hN⟩ := hK
  refine br_c (fun z => ?_) (fun _ => h)
  obtain ⟨k1, k2⟩ := hk z
  have ff : ¬ H (32 * w + x) = false := fun e => by
    rw [e] at k1
    exact absurd k1 (by decide)
  exact pr_mapped hB hw hx (fun _ => br_t rfl (pr_read hG.1 hB hC hw hx (fun _ => br_t k2 h) (fun e => absurd e ff))) (fun e => absurd e ff)
theorem pr_w199 {post : Int32 → St2 → Prop} {fc uc ck x5 x9 x10 x11 x12 : Int32} {a1 a2 a3 a4 a5 a6 a7 a8 a9 : Nat → Int32} {F : Nat} {H : Nat → Bool} {T : Nat → Nat} {w x : Nat} (hK : pr_K F H T (fc, uc, ck, a1, a2, a3, a4, a5, a6, a7, a8, a9)) (hw : w < 2) (hx : x < 32)
    (hk : (x11 = 0 ∨ x12 < 0) → x9 = 1 → H (32 * w + x) = true ∧ a1 (T (32 * w + x)) = x10) (hv : ¬ x11 = 0 → ¬ x12 < 0 → H (32 * w + x) = true ∧ a1 (T (32 * w + x)) = x5) (h : post 1 (fc, uc, ck, a1, a2, a3, a4, a5, a6, a7, a8, a9)) :
    wL_watched_199 post x5 (nI w) (nI x) x9 x10 x11 x12 fc uc ck a1 a2 a3 a4 a5 a6 a7 a8 a9 := by
  refine br_c (fun z => pr_w228 hK hw hx (hk (Or.inl z)) h) (fun z => br_c (fun z2 => pr_w228 hK hw hx (hk (Or.inr z2)) h) (fun z2 => ?_))
  obtain ⟨⟨hG, hA, hB, hC, hW⟩, hN⟩ := hK
  obtain ⟨k1, k2⟩ := hv z z2
  exact pr_read hG.1 hB hC hw hx (fun _ => br_t k2 h) (fun e => by
    rw [e] at k1
    exact absurd k1 (by decide))
theorem pr_w123 {post : Int32 → St2 → Prop} {fc uc ck x5 x9 x10 x13 x14 z0 : Int32} {a1 a2 a3 a4 a5 a6 a7 a8 a9 : Nat → Int32} {F : Nat} {H : Nat → Bool} {T : Nat → Nat} {sp p c w x : Nat} (hK : pr_K F H T (fc, uc, ck, a1, a2, a3, a4, a5, a6, a7, a8, a9)) (hs : sp < 2) (hp : p < 32) (hc : c < 64) (hw : w < 2) (hx : x < 32)
    (hcase : (¬ (1 ≤ c ∧ p + c ≤ 32) ∧ x13 = 0) ∨ ((1 ≤ c ∧ p + c ≤ 32) ∧ x13 = 1 ∧ x14 = nI (pr_nr H c (32 * sp + p)) ∧ ((F < pr_cn H 64 + pr_nr H c (32 * sp + p) ∧ z0 = 0) ∨ (pr_cn H 64 + pr_nr H c (32 * sp + p) ≤ F ∧ z0 = 1))))
    (hk : x9 = 1 → H (32 * w + x) = true ∧ a1 (T (32 * w + x)) = x10) (h : ∀ s' H', pr_J F H' s' → post 1 s') :
    wL_watched_123 post (nI sp) (nI p) (nI c) x5 (nI w) (nI x) x9 x10 x13 x14 z0 fc uc ck a1 a2 a3 a4 a5 a6 a7 a8 a9 := by
  have hs0 := h _ _ ⟨T, hK⟩
  have ok0 : ∀ y, wL_watched_199 post x5 (nI w) (nI x) x9 x10 0 y fc uc ck a1 a2 a3 a4 a5 a6 a7 a8 a9 := fun y => pr_w199 hK hw hx (fun _ => hk) (fun z => absurd rfl z) hs0
  unfold wL_watched_123
  refine pr_map hK hs hp hc (fun hb => ?_) (fun h1 h2 h3 => ?_) (fun h1 h2 h3 s' hQ => ?_)
  · rcases hcase with ⟨_, rfl⟩ | ⟨c1, _⟩
    · exact br_t rfl (br_t rfl (ok0 _))
    · exact absurd c1 hb
  · rcases hcase with ⟨c1, _⟩ | ⟨_, rfl, _, c4⟩
    · exact absurd ⟨h1, h2⟩ c1
    · rcases c4 with ⟨_, rfl⟩ | ⟨c4, _⟩
      · exact br_f (by decide) (br_t rfl (br_t rfl (ok0 _)))
      · exact absurd h3 (by omega)
  · rcases hcase with ⟨c1, _⟩ | ⟨_, rfl, rfl, c4⟩
    · exact absurd ⟨h1, h2⟩ c1
    · rcases c4 with ⟨c4, _⟩ | ⟨_, rfl⟩
      · exact absurd h3 (by omega)
      · obtain ⟨fc2, uc2, ck2, d1, d2, d3, d4, d5, d6, d7, d8, d9⟩ := s'
        obtain ⟨H', T', hK2, hd⟩ := hQ
        refine br_f (by decide) (br_f (by decide) (br_t rfl (pr_w199 hK2 hw hx (fun _ z => ?_) (fun z => absurd rfl z) (h _ _ ⟨T', hK2⟩))))
        obtain ⟨k1, k2⟩ := hk z
        obtain ⟨q1, q2⟩ := hd _ (show 32 * w + x < 64 by omega) k1
        exact ⟨q1, q2.trans k2⟩
theorem pr_w52 {post : Int32 → St2 → Prop} {fc uc ck v x9 x10 z0 : Int32} {a1 a2 a3 a4 a5 a6 a7 a8 a9 : Nat → Int32} {F : Nat} {H : Nat → Bool} {T : Nat → Nat} {op sp p c w x : Nat} (hK : pr_K F H T (fc, uc, ck, a1, a2, a3, a4, a5, a6, a7, a8, a9)) (hop : op < 16) (hs : sp < 2) (hp : p < 32) (hc : c < 64) (hw : w < 2) (hx : x < 32)
    (hz : ¬ z0 = 0 → 32 * w + x = 32 * sp + p) (hz2 : z0 = 0 → 32 * w + x ≠ 32 * sp + p) (hk : x9 = 1 → H (32 * w + x) = true ∧ a1 (T (32 * w + x)) = x10) (h : ∀ s' H', pr_J F H' s' → post 1 s') :
    wL_watched_52 post (nI op) (nI sp) (nI p) (nI c) v (nI w) (nI x) x9 x10 z0 fc uc ck a1 a2 a3 a4 a5 a6 a7 a8 a9 := by
  have hR : ∀ r s', pr_R F H T (fc, uc, ck, a1, a2, a3, a4, a5, a6, a7, a8, a9) (32 * sp + p) v r s' → (match s' with | (f1, f2, f3, c1, c2, c3, c4, c5, c6, c7, c8, c9) => wL_watched_199 post v (nI w) (nI x) x9 x10 z0 r f1 f2 f3 c1 c2 c3 c4 c5 c6 c7 c8 c9) := fun r s' hr => by
    obtain ⟨fc2, uc2, ck2, d1, d2, d3, d4, d5, d6, d7, d8, d9⟩ := s'
    obtain ⟨H', T', hK2, r1, r2⟩ := hr
    refine pr_w199 hK2 hw hx (fun hc1 h9 => ?_) (fun hc1 hc2 => ?_) (h _ _ ⟨T', hK2⟩)
    · obtain ⟨k1, k2⟩ := hk h9
      obtain ⟨q1, q2⟩ := r1 _ (show 32 * w + x < 64 by omega) k1 (hc1.imp hz2 id)
      exact ⟨q1, q2.trans k2⟩
    · rw [hz hc1]
      exact r2 hc2
  have hM := hK
  obtain ⟨⟨⟨g1, g2, g3, g4, g5⟩, hA, hB, hC, hW⟩, hN⟩ := hM
  have hbad : ¬ (1 ≤ c ∧ p + c ≤ 32) → wL_watched_82 post (nI sp) (nI p) (nI c) v (nI w) (nI x) x9 x10 fc uc ck a1 a2 a3 a4 a5 a6 a7 a8 a9 := fun hb => by
    unfold wL_watched_82
    refine br_t rfl ?_
    unfold wL_watched_102
    exact br_c (fun _ => pr_w123 hK hs hp hc hw hx (Or.inl ⟨hb, rfl⟩) hk h) (fun _ => pr_w123 hK hs hp hc hw hx (Or.inl ⟨hb, rfl⟩) hk h)
  refine pk_le 11 op (fun _ => pk_le 14 op (fun _ => pr_write hK hs hp hR) (fun _ => pr_touch hK hs hp hR)) (fun _ => pk_lt c 1 (fun z => hbad (by omega)) (fun z => ?_))
  rw [nI_add]
  refine pk_lt 32 (p + c) (fun z2 => hbad (by omega)) (fun z2 => br_f (by decide) ?_)
  have hle := pr_nr_le H c (32 * sp + p)
  refine ⟨33, pr_um6 (N := pr_nr H c (32 * sp + p)) hB hs z2 ?_ 32 0 0 (by omega) (by rw [Nat.zero_add]; rfl)⟩
  unfold wL_watched_102
  refine pk_lt F (pr_cn H 64 + pr_nr H c (32 * sp + p)) (fun z3 => ?_) (fun z3 => ?_) g3 (by rw [g4, nI_add]) (by omega) (by omega)
  · exact pr_w123 hK hs hp hc hw hx (Or.inr ⟨⟨z, z2⟩, rfl, rfl, Or.inl ⟨z3, rfl⟩⟩) hk h
  · exact pr_w123 hK hs hp hc hw hx (Or.inr ⟨⟨z, z2⟩, rfl, rfl, Or.inr ⟨z3, rfl⟩⟩) hk h
theorem pr_watched {post : Int32 → St2 → Prop} {s : St2} {v : Int32} {F : Nat} {H : Nat → Bool} {op sp p c a : Nat} (hJ : pr_J F H s) (hop : op < 16) (hs : sp < 2) (hp : p < 32) (hc : c < 64) (ha : a < 64) (h : ∀ s' H', pr_J F H' s' → post 1 s') :
    wpL_watched post s (nI op) (nI sp) (nI p) (nI c) v (nI a) := by
  obtain ⟨T, hK⟩ := hJ
  obtain ⟨fc, uc, ck, a1, a2, a3, a4, a5, a6, a7, a8, a9⟩ := s
  have e1 : (nI a >>> ((5 : Int32) &&& 31)) &&& 1 = nI (a / 32) := by
    rw [pk_shrN (show a < 2 ^ 31 by omega) _ 5 (by decide), pk_andN (show a / 2 ^ 5 < 2 ^ 32 by omega) 1 (by decide)]
    exact congrArg nI (by omega)
  have e2 : nI a &&& 31 = nI (a % 32) := pk_andN (by omega) 5 (by decide)
  have hw : a / 32 < 2 := by omega
  have hx : a % 32 < 32 := by omega
  generalize a / 32 = w at e1 hw
  generalize a % 32 = x at e2 hx
  have hM := hK
  obtain ⟨⟨hG, hA, hB, hC, hW⟩, hN⟩ := hM
  have main : ∀ x9 x10, (x9 = 1 → H (32 * w + x) = true ∧ a1 (T (32 * w + x)) = x10) → ((nI w = nI sp → ((nI x = nI p → wL_watched_52 post (nI op) (nI sp) (nI p) (nI c) v (nI w) (nI x) x9 x10 1 fc uc ck a1 a2 a3 a4 a5 a6 a7 a8 a9) ∧ (¬ nI x = nI p → wL_watched_51 post (nI op) (nI sp) (nI p) (nI c) v (nI w) (nI x) x9 x10 fc uc ck a1 a2 a3 a4 a5 a6 a7 a8 a9))) ∧ (¬ nI w = nI sp → wL_watched_51 post (nI op) (nI sp) (nI p) (nI c) v (nI w) (nI x) x9 x10 fc uc ck a1 a2 a3 a4 a5 a6 a7 a8 a9)) := fun x9 x10 hk =>
    pk_eq w sp (fun z => pk_eq x p (fun z2 => pr_w52 hK hop hs hp hc hw hx (fun _ => by omega) (fun z3 => absurd z3 (by decide)) hk h) (fun z2 => pr_w52 (z0 := 0) hK hop hs hp hc hw hx (fun z3 => absurd rfl z3) (fun _ => by omega) hk h)) (fun z => pr_w52 (z0 := 0) hK hop hs hp hc hw hx (fun z3 => absurd rfl z3) (fun _ => by omega) hk h)
  refine nm_r e1 (nm_r e2 ?_)
  refine pr_mapped hB hw hx (fun k1 => pr_read hG.1 hB hC hw hx (fun k2 => main _ _ (fun _ => ⟨k1, rfl⟩)) (fun k2 => ?_)) (fun k1 => pr_read hG.1 hB hC hw hx (fun k2 => ?_) (fun k2 => main _ _ (fun z => absurd z (by decide))))
  · rw [k1] at k2
    exact absurd k2 (by decide)
  · rw [k1] at k2
    exact absurd k2 (by decide)
/-! ===== bits, mappedIn ===== -/
theorem pr_bits4 {post : Int32 → Prop} {H : Nat → Bool} {b : Nat} (h : ∀ y, y + pr_cn H (4 * b) = pr_cn H (4 * b + 4) → post (nI y)) :
    ∀ m k y, k + m = 4 → y + pr_cn H (4 * b) = pr_cn H (4 * b + k) → wX_bits_4 post (nI (pr_hb H b)) (m + 1) (nI y) (nI k) := by
  intro m
  induction m with
  | zero =>
    intro k y hk hy
    have e : k = 4 := by omega
    subst e
    exact br_t (nI_le (a := 4) (by omega) (by omega)) (h y hy)
  | succ m ih =>
    intro k y hk hy
    refine br_f (nI_ge (b := 4) (by omega) (by decide)) (nm_r (e' := nI (y + (H (4 * b + k)).toNat)) (by rw [pr_bit H b (show k < 4 by omega), nI_add]) (nm_r (nI_1 k) (ih (k + 1) _ (by omega) ?_)))
    show y + (H (4 * b + k)).toNat + pr_cn H (4 * b) = pr_cn H (4 * b + k) + (H (4 * b + k)).toNat
    omega
theorem pr_bits {post : Int32 → Prop} {u : St0} {H : Nat → Bool} {b : Nat} (h : ∀ y, y + pr_cn H (4 * b) = pr_cn H (4 * b + 4) → post (nI y)) : wpX_bits post u (nI (pr_hb H b)) :=
  ⟨5, pr_bits4 h 4 0 0 (by omega) (by rw [Nat.zero_add, Nat.add_zero])⟩
theorem pr_mi16 {post : Int32 → Prop} {fc uc ck : Int32} {a1 a2 a3 a4 a5 a6 a7 a8 a9 : Nat → Int32} {F : Nat} {H : Nat → Bool} {T : Nat → Nat} {sp : Nat} (hB : pr_B F H T a5 a6 a7) (hs : sp < 2) (h : ∀ y, y + pr_cn H (32 * sp) = pr_cn H (32 * sp + 32) → post (nI y)) :
    ∀ m b y, b + m = 8 * sp + 8 → y + pr_cn H (32 * sp) = pr_cn H (4 * b) → wX_mappedIn_16 post (nI sp) fc uc ck a1 a2 a3 a4 a5 a6 a7 a8 a9 (m + 1) (nI y) (nI b) := by
  have e8 : (8 : Int32) * nI sp + 8 = nI (8 * sp + 8) := by
    show nI 8 * nI sp + nI 8 = _
    rw [pk_mul, nI_add]
  intro m
  induction m with
  | zero =>
    intro b y hb hy
    refine br_t (by rw [e8]; exact nI_le (by omega) (by omega)) (h y ?_)
    rw [show 32 * sp + 32 = 4 * b by omega]
    exact hy
  | succ m ih =>
    intro b y hb hy
    refine br_f (by rw [e8]; exact nI_ge (by omega) (by omega)) ⟨pk_in b 16 (by omega), ?_⟩
    rw [nI_clamp (show b < 2 ^ 31 by omega), (hB b (by omega)).1]
    refine pr_bits (fun z hz => nm_r (nI_add y z) (nm_r (nI_1 b) (ih (b + 1) (y + z) (by omega) ?_)))
    rw [show 4 * (b + 1) = 4 * b + 4 by omega]
    omega
theorem pr_mi {post : Int32 → Prop} {fc uc ck : Int32} {a1 a2 a3 a4 a5 a6 a7 a8 a9 : Nat → Int32} {F : Nat} {H : Nat → Bool} {T : Nat → Nat} {sp : Nat} (hB : pr_B F H T a5 a6 a7) (hs : sp < 2) (h : ∀ y, y + pr_cn H (32 * sp) = pr_cn H (32 * sp + 32) → post (nI y)) :
    wpX_mappedIn post (fc, uc, ck, a1, a2, a3, a4, a5, a6, a7, a8, a9) (nI sp) := by
  unfold wpX_mappedIn
  dsimp only
  refine pr_space hs (br_f (by decide) (nm_r (e' := nI (8 * sp)) (pk_mul 8 sp) ⟨9, pr_mi16 hB hs h 8 (8 * sp) 0 (by omega) ?_⟩))
  rw [Nat.zero_add, show 4 * (8 * sp) = 32 * sp by omega]
/-! ===== the constructor ===== -/
theorem pr_in159 {post : St2 → Prop} {mc ms kc ks : Nat} {fc uc ck : Int32} {a1 a2 a3 a4 a6 a7 a8 a9 : Nat → Int32} (h : ∀ a5, (∀ b, b < 16 → a5 b = -1) → post (fc, uc, ck, a1, a2, a3, a4, a5, a6, a7, a8, a9)) :
    ∀ m i a5, i + m = 16 → (∀ b, b < i → a5 b = -1) → wX_init_159 post mc ms kc ks fc uc ck (m + 1) (nI i) a1 a2 a3 a4 a5 a6 a7 a8 a9 := by
  intro m
  induction m with
  | zero =>
    intro i a5 hi h5
    exact br_t (nI_le (a := 16) (by omega) (by omega)) (h a5 (fun b hb => h5 b (by omega)))
  | succ m ih =>
    intro i a5 hi h5
    refine br_f (nI_ge (b := 16) (by omega) (by decide)) ⟨pk_in i 16 (by omega), nm_r (by rw [nI_clamp (show i < 2 ^ 31 by omega)]) (nm_r (nI_1 i) (ih (i + 1) _ (by omega) (fun b hb => ?_)))⟩
    by_cases e : b = i
    · rw [e, pk_us]
    · rw [pk_un e]
      exact h5 b (by omega)
theorem pr_in138 {post : St2 → Prop} {mc ms kc ks : Nat} {fc uc ck : Int32} {a1 a2 a4 a5 a6 a7 a8 a9 : Nat → Int32} (h : ∀ a3, ∃ n, wX_init_159 post mc ms kc ks fc uc ck n 0 a1 a2 a3 a4 a5 a6 a7 a8 a9) :
    ∀ m i a3, i + m = 64 → wX_init_138 post mc ms kc ks fc uc ck (m + 1) (nI i) a1 a2 a3 a4 a5 a6 a7 a8 a9 := by
  intro m
  induction m with
  | zero =>
    intro i a3 hi
    exact br_t (nI_le (a := 64) (by omega) (by omega)) (h a3)
  | succ m ih =>
    intro i a3 hi
    exact br_f (nI_ge (b := 64) (by omega) (by decide)) ⟨pk_in i 64 (by omega), nm_e (nm_r (nI_1 i) (ih (i + 1) _ (by omega)))⟩
theorem pr_in111 {post : St2 → Prop} {mc ms kc ks : Nat} {uc ck : Int32} {a1 a3 a4 a5 a6 a7 a8 a9 : Nat → Int32} {F : Nat} (hF : F ≤ 48) (hF8 : F % 8 = 0) (h : ∀ a2, (∀ j, j < F → j % 8 = 0 → pr_v a2 (144 + j) = 1) → (∀ x, x < 144 → pr_v a2 x = 0) → ∃ n, wX_init_138 post mc ms kc ks (nI F) uc ck n 0 a1 a2 a3 a4 a5 a6 a7 a8 a9) :
    ∀ n f a2, f % 8 = 0 → f ≤ F → F - f < n → (∀ j, j < f → j % 8 = 0 → pr_v a2 (144 + j) = 1) → (∀ x, x < 144 → pr_v a2 x = 0) → wX_init_111 post mc ms kc ks (nI F) uc ck n (nI f) a1 a2 a3 a4 a5 a6 a7 a8 a9 := by
  intro n
  induction n with
  | zero => intro f a2 _ _ z; omega
  | succ n ih =>
    intro f a2 hf hfF hn h1 h0
    have e : (144 : Int32) + nI f = nI (144 + f) := nI_add 144 f
    refine pk_le F f (fun z => h a2 (fun j hj => h1 j (by omega)) h0) (fun z => ⟨pk_in (144 + f) 192 (by omega) e, nm_r (by rw [e, nI_clamp (show 144 + f < 2 ^ 31 by omega)]) (nm_r (nI_add f 8) (ih (f + 8) _ (by omega) (by omega) (by omega) (fun j hj h8 => ?_) (fun x hx => ?_)))⟩)
    · by_cases ej : j = f
      · exact pr_v1 (by rw [ej])
      · rw [pr_vn (by omega)]
        exact h1 j (by omega) h8
    · rw [pr_vn (by omega)]
      exact h0 x hx
theorem pr_J0 {F : Nat} {fc : Int32} {a1 a2 a3 a5 a9 : Nat → Int32} (hF : F ≤ 48) (hF8 : F % 8 = 0) (hfc : fc = nI F) (h2 : ∀ j, j < F → j % 8 = 0 → pr_v a2 (144 + j) = 1) (h0 : ∀ x, x < 144 → pr_v a2 x = 0) (h5 : ∀ b, b < 16 → a5 b = -1) :
    pr_J F (fun _ => false) (fc, 0, 0, a1, a2, a3, fun _ => 0, a5, fun _ => 0, fun _ => 0, fun _ => 0, a9) := by
  have hfs : ∀ g, g < F → pr_fs a2 g = 1 := fun g hg => by
    unfold pr_fs
    rw [h0 g (by omega), h0 (48 + g / 2 * 2) (by omega), h0 (96 + g / 4 * 4) (by omega), h2 (g / 8 * 8) (by omega) (by omega)]
  have hcn : pr_cn (fun _ => false) 64 = 0 := by decide
  refine ⟨fun _ => 99, ⟨⟨hF, hF8, hfc, by rw [hcn]; rfl, by omega⟩, ⟨fun g hg => by rw [hfs g hg]; omega, fun p _ z => ?_, fun p q _ _ z => ?_, fun g hg z => ?_⟩, fun b hb => ⟨rfl, Or.inl ⟨h5 b hb, rfl, fun k hk => ?_⟩⟩, fun p _ z => absurd z Bool.false_ne_true, ⟨fun _ _ => Or.inl rfl, fun _ _ => Or.inl rfl⟩⟩, fun b hb z => absurd (h5 b hb) z⟩
  · have z' : 99 < F := z
    omega
  · have z' : 99 < F := z
    omega
  · rw [hfs g hg] at z
    omega
  · exact ⟨fun z => by
      have z' : 99 < F := z
      omega, fun z => absurd z Bool.false_ne_true⟩
theorem pr_in99 {post : St2 → Prop} {mc ms kc ks : Nat} {fc : Int32} {c : Nat} (hc : c ≤ 48) (h : ∀ s F, pr_J F (fun _ => false) s → post s) :
    wX_init_99 post mc ms (nI c) kc ks fc 0 0 (fun _ => 0) (fun _ => 0) (fun _ => 0) (fun _ => 0) (fun _ => 0) (fun _ => 0) (fun _ => 0) (fun _ => 0) (fun _ => 0) := by
  have e : nI c - (nI c - nI c / 8 * 8) = nI (c - c % 8) := by
    rw [show nI c - nI c / 8 * 8 = nI (c % 8) from pk_rem (d := 8) (by omega) (by omega) (by omega)]
    exact pk_sub (Nat.mod_le c 8)
  refine ⟨by decide, nm_r e ⟨c - c % 8 + 1, ?_⟩⟩
  refine pr_in111 (F := c - c % 8) (by omega) (by omega) (fun a2 k1 k0 => ⟨65, ?_⟩) (c - c % 8 + 1) 0 _ (by omega) (by omega) (by omega) (fun j hj => absurd hj (by omega)) (fun x _ => rfl)
  refine pr_in138 (fun a3 => ⟨17, ?_⟩) 64 0 _ (by omega)
  exact pr_in159 (fun a5 k5 => h _ (c - c % 8) (pr_J0 (by omega) (by omega) rfl k1 k0 k5)) 16 0 _ (by omega) (fun b hb => absurd hb (by omega))
theorem pr_init {post : St2 → Prop} {p0 : Int32} (h : ∀ s F, pr_J F (fun _ => false) s → post s) : wpX_init post 9 448 (0, 0, 0) p0 := by
  refine ⟨by decide, by decide, by decide, by decide, by decide, by decide, by decide, by decide, by decide, by decide, by decide, by decide, by decide, by decide, by decide, by decide, by decide, by decide, ?_⟩
  refine br_c (fun z => br_c (fun z2 => ?_) (fun z2 => pr_in99 (c := 48) (by omega) h)) (fun z => br_t (by decide) (pr_in99 (c := 8) (by omega) h))
  have hp : ¬ p0 < 0 := fun hlt => by
    rw [Int32.lt_iff_toInt_lt] at hlt
    rw [Int32.le_iff_toInt_le] at z
    have e8 : (8 : Int32).toInt = 8 := by decide
    have e0 : (0 : Int32).toInt = 0 := by decide
    omega
  obtain ⟨c, hc, rfl⟩ := nI_of2 (M := 48) (n := 48) (by decide) hp z2
  exact pr_in99 hc h
/-! ===== the law ===== -/
theorem pr_147 {post : Int32 → Prop} {L : Nat} {xs : Nat → Int32} {J17 : Int32 → Int32 → Int32 → Int32 → (Nat → Int32) → (Nat → Int32) → (Nat → Int32) → (Nat → Int32) → (Nat → Int32) → (Nat → Int32) → (Nat → Int32) → (Nat → Int32) → (Nat → Int32) → Prop} {k kc ks : Nat} {fc uc ck : Int32} {a1 a2 a3 a4 a5 a6 a7 a8 a9 : Nat → Int32} {F : Nat} {H : Nat → Bool}
    (hJ : pr_J F H (fc, uc, ck, a1, a2, a3, a4, a5, a6, a7, a8, a9)) (h : J17 (nI (k + 3)) fc uc ck a1 a2 a3 a4 a5 a6 a7 a8 a9) : wL_law_147 post L xs J17 (nI k) kc ks fc uc ck a1 a2 a3 a4 a5 a6 a7 a8 a9 := by
  obtain ⟨T, ⟨⟨⟨g1, g2, g3, g4, g5⟩, hA, hB, hC, hW⟩, hN⟩⟩ := hJ
  refine pk_le (pr_cn H 64) F (fun _ => ?_) (fun z => absurd g5 (by omega)) g4 g3 (by omega) (by omega)
  refine pr_mi (sp := 0) hB (by omega) (fun y hy => pr_mi (sp := 1) hB (by omega) (fun y2 hy2 => br_t ?_ (nm_r (nI_add k 3) h)))
  rw [nI_add, g4]
  have e0 : pr_cn H (32 * 0) = 0 := rfl
  have e1 : pr_cn H (32 * 0 + 32) = pr_cn H (32 * 1) := rfl
  have e2 : pr_cn H (32 * 1 + 32) = pr_cn H 64 := rfl
  exact congrArg nI (by omega)
theorem pr_96 {post : Int32 → Prop} {L : Nat} {xs : Nat → Int32} {J17 : Int32 → Int32 → Int32 → Int32 → (Nat → Int32) → (Nat → Int32) → (Nat → Int32) → (Nat → Int32) → (Nat → Int32) → (Nat → Int32) → (Nat → Int32) → (Nat → Int32) → (Nat → Int32) → Prop} {k kc ks op sp p q : Nat} {d v fc uc ck : Int32} {a1 a2 a3 a4 a5 a6 a7 a8 a9 : Nat → Int32} {F : Nat} {H : Nat → Bool}
    (hop : op < 16) (hs : sp < 2) (hp : p < 32) (hq : q < 64) (hJ : pr_J F H (fc, uc, ck, a1, a2, a3, a4, a5, a6, a7, a8, a9)) (h : ∀ H fc uc ck a1 a2 a3 a4 a5 a6 a7 a8 a9, pr_J F H (fc, uc, ck, a1, a2, a3, a4, a5, a6, a7, a8, a9) → J17 (nI (k + 3)) fc uc ck a1 a2 a3 a4 a5 a6 a7 a8 a9) :
    wL_law_96 post L xs J17 (nI k) d v (nI op) (nI sp) (nI p) (nI q) kc ks fc uc ck a1 a2 a3 a4 a5 a6 a7 a8 a9 := by
  refine pk_le 7 op (fun _ => ?_) (fun z => pr_turn hJ z hs hp hq (fun s' H' hJ2 => ?_))
  · obtain ⟨t, ht, e⟩ := pk_andE (d >>> ((8 : Int32) &&& 31)) (m := 63) 6 (by decide)
    rw [e]
    refine pr_watched hJ hop hs hp hq ht (fun s' H' hJ2 => ?_)
    obtain ⟨fc2, uc2, ck2, d1, d2, d3, d4, d5, d6, d7, d8, d9⟩ := s'
    exact br_f (by decide) (pr_147 hJ2 (h _ _ _ _ _ _ _ _ _ _ _ _ _ hJ2))
  · obtain ⟨fc2, uc2, ck2, d1, d2, d3, d4, d5, d6, d7, d8, d9⟩ := s'
    exact pr_147 hJ2 (h _ _ _ _ _ _ _ _ _ _ _ _ _ hJ2)
theorem pr_cell {post : Int32 → Prop} {L : Nat} {xs : Nat → Int32} {u : St0} {x : Int32} {k : Nat} (hL : L ≤ 260) (hk : k < 2 ^ 30) (hx : x = nI k) (h : ∀ r, post r) : wpL_cell post L xs u x := by
  subst hx
  exact pk_le L k (fun _ => h 0) (fun z => ⟨pk_in k L z, h _⟩)
theorem pr_17 {L : Nat} {xs : Nat → Int32} {kc ks F : Nat} (hL : L ≤ 260) :
    ∀ n k H fc uc ck a1 a2 a3 a4 a5 a6 a7 a8 a9, k ≤ 300 → L - k < n → pr_J F H (fc, uc, ck, a1, a2, a3, a4, a5, a6, a7, a8, a9) → wL_law_17 (fun r => r = 1) L xs kc ks n (nI k) fc uc ck a1 a2 a3 a4 a5 a6 a7 a8 a9 := by
  intro n
  induction n with
  | zero => intro k H fc uc ck a1 a2 a3 a4 a5 a6 a7 a8 a9 _ z; omega
  | succ n ih =>
    intro k H fc uc ck a1 a2 a3 a4 a5 a6 a7 a8 a9 hk hn hJ
    refine pk_le L k (fun _ => rfl) (fun z => ?_)
    refine pr_cell hL (k := k) (by omega) rfl (fun r1 => pr_cell hL (k := k + 1) (by omega) (nI_1 k) (fun r2 => pr_cell hL (k := k + 2) (by omega) (nI_add k 2) (fun v => ?_)))
    obtain ⟨op, hop, eop⟩ := pk_andE r1 (m := 15) 4 (by decide)
    obtain ⟨sp, hs, es⟩ := pk_andE (r1 >>> ((4 : Int32) &&& 31)) (m := 1) 1 (by decide)
    obtain ⟨p, hp, ep⟩ := pk_andE (r1 >>> ((5 : Int32) &&& 31)) (m := 31) 5 (by decide)
    obtain ⟨q, hq, eq⟩ := pk_andE r2 (m := 63) 6 (by decide)
    have nx : ∀ H fc uc ck a1 a2 a3 a4 a5 a6 a7 a8 a9, pr_J F H (fc, uc, ck, a1, a2, a3, a4, a5, a6, a7, a8, a9) → wL_law_17 (fun r => r = 1) L xs kc ks n (nI (k + 3)) fc uc ck a1 a2 a3 a4 a5 a6 a7 a8 a9 := fun H fc uc ck a1 a2 a3 a4 a5 a6 a7 a8 a9 hJ2 => ih (k + 3) H _ _ _ _ _ _ _ _ _ _ _ _ (by omega) (by omega) hJ2
    refine nm_r eop (nm_r es (nm_r ep (nm_r eq (br_c (fun _ => pr_96 hop hs hp hq hJ nx) (fun _ => nm_r (e' := nI (q % 2 ^ 3)) (pk_andN (by omega) 3 (by decide)) (pr_96 hop hs hp (by omega) hJ nx))))))
end
section
theorem i_vc (xs : Nat → Int32) (L : Nat) (hL : L ≤ 260) : wpL_law (fun r => r = 1) L xs := by
  unfold wpL_law
  refine pr_cell hL (k := 0) (by omega) rfl (fun r => ⟨9, 448, by omega, by omega, pr_init (fun s F hJ => ?_)⟩)
  obtain ⟨fc, uc, ck, a1, a2, a3, a4, a5, a6, a7, a8, a9⟩ := s
  exact ⟨L + 1, pr_17 hL (L + 1) 1 _ _ _ _ _ _ _ _ _ _ _ _ _ (by omega) (by omega) hJ⟩
end
