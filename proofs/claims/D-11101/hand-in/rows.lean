section
/-! ===== the picture: three points, the weights p (0-1), q (1-2), r (2-0); source 0, drain 1 ===== -/
def nc_m (p q r : Nat) : Nat → Int32 := fun k => if k = 1 ∨ k = 6 then nI p else if k = 8 ∨ k = 13 then nI q else if k = 2 ∨ k = 12 then nI r else 0
theorem nc_m0 : (fun _ => (0 : Int32)) = nc_m 0 0 0 := by
  funext k
  unfold nc_m
  rw [nI_0]
  simp
theorem nc_z {p q r : Nat} (j : Nat) (h : j ≠ 1 ∧ j ≠ 2 ∧ j ≠ 6 ∧ j ≠ 8 ∧ j ≠ 12 ∧ j ≠ 13) : nc_m p q r j = 0 := by
  unfold nc_m
  rw [if_neg (by omega), if_neg (by omega), if_neg (by omega)]
theorem nc_u1 (p q r v : Nat) : upd (upd (nc_m p q r) 1 (nI v)) 6 (nI v) = nc_m v q r := by
  funext k
  unfold upd nc_m
  by_cases h1 : k = 1
  · simp [h1]
  · by_cases h6 : k = 6
    · simp [h6]
    · simp [h1, h6]
theorem nc_u8 (p q r v : Nat) : upd (upd (nc_m p q r) 8 (nI v)) 13 (nI v) = nc_m p v r := by
  funext k
  unfold upd nc_m
  by_cases h1 : k = 8
  · simp [h1]
  · by_cases h6 : k = 13
    · simp [h6]
    · simp [h1, h6]
theorem nc_u2 (p q r v : Nat) : upd (upd (nc_m p q r) 2 (nI v)) 12 (nI v) = nc_m p q v := by
  funext k
  unfold upd nc_m
  by_cases h1 : k = 2
  · simp [h1]
  · by_cases h6 : k = 12
    · simp [h6]
    · simp [h1, h6]
theorem nc_u12 (p q r v : Nat) : upd (upd (nc_m p q r) 12 (nI v)) 2 (nI v) = nc_m p q v := by
  funext k
  unfold upd nc_m
  by_cases h1 : k = 2
  · simp [h1]
  · by_cases h6 : k = 12
    · simp [h6]
    · simp [h1, h6]
/-! reading and writing at a counted place -/
theorem nc_rd {α : Type} {f : Nat → α} {x : Int32} {v : α} (k : Nat) (hv : f k = v) (hx : x = nI k := by rfl) (hk : k < 2 ^ 31 := by decide) : f x.toNatClampNeg = v := by
  rw [pk_cl k hx hk]
  exact hv
theorem nc_wr {f : Nat → Int64} {x : Int32} {v w : Int64} (k : Nat) (hv : v = w) (hx : x = nI k := by rfl) (hk : k < 2 ^ 31 := by decide) : vp_updL f x.toNatClampNeg v = vp_updL f k w := by
  rw [pk_cl k hx hk, hv]
theorem nc_wi {f : Nat → Int32} {x : Int32} {v w : Int32} (k : Nat) (hv : v = w) (hx : x = nI k := by rfl) (hk : k < 2 ^ 31 := by decide) : upd f x.toNatClampNeg v = upd f k w := by
  rw [pk_cl k hx hk, hv]
theorem nc_acc {f : Nat → Int32} {x : Int32} {s w : Nat} (k : Nat) (hf : f k = nI w) (hw : w < 2 ^ 31) (hx : x = nI k := by rfl) (hk : k < 2 ^ 31 := by decide) : lN s + (f x.toNatClampNeg).toInt64 = lN (s + w) := by
  rw [pk_cl k hx hk, hf, nI_l hw, lN_add]
theorem nc_ng : ∀ w, w < 10 → (-(nI w)).toInt64 = -lN w := by decide +kernel
theorem nc_neg {f : Nat → Int32} {x : Int32} {w : Nat} (k : Nat) (hf : f k = nI w) (hw : w < 10) (hx : x = nI k := by rfl) (hk : k < 2 ^ 31 := by decide) : (-(f x.toNatClampNeg)).toInt64 = -lN w := by
  rw [pk_cl k hx hk, hf]
  exact nc_ng w hw
theorem nc_l0 {x : Nat} (hx : x < 2 ^ 31) (h : x ≠ 0) : ¬ lN x = 0 := fun z => h ((lN_eq (b := 0) hx (by decide)).mp z)
section
variable {bo tn bn : Int64} {p q r : Nat} {a1 a1' a2 : Nat → Int32} {a3 : Nat → Int64} {a4 : Nat → Int32} {a5 : Nat → Int64}
theorem nc_set {post : St2 → Prop} {i j v : Int32} (hij : ¬ i = j) (k l : Nat) (hk : 6 * i + j = nI k) (hl : 6 * j + i = nI l) (hk' : k < 36) (hl' : l < 36) (he : upd (upd a1 k v) l v = a1')
    (H : post (3, 0, 1, bo, tn, bn, a1', a2, a3, a4, a5)) : wpX_set post (3, 0, 1, bo, tn, bn, a1, a2, a3, a4, a5) i j v :=
  br_f hij ⟨pk_in k 36 hk' hk, nm_e ⟨pk_in l 36 hl' hl, nm_r (by rw [pk_cl k hk (by omega), pk_cl l hl (by omega)]; exact he) H⟩⟩
theorem nc_join {post : Int32 → St2 → Prop} {i j : Int32} {w : Nat} (hi0 : ¬ i < 0) (hi : ¬ 3 ≤ i) (hj0 : ¬ j < 0) (hj : ¬ 3 ≤ j) (hij : ¬ i = j) (k l : Nat) (hk : 6 * i + j = nI k) (hl : 6 * j + i = nI l) (hk' : k < 36) (hl' : l < 36) (hw : w < 10)
    (he : upd (upd a1 k (nI w)) l (nI w) = a1') (H : ∀ x, post x (3, 0, 1, bo, tn, bn, a1', a2, a3, a4, a5)) : wpX_join post (3, 0, 1, bo, tn, bn, a1, a2, a3, a4, a5) i j (nI w) := by
  unfold wpX_join
  refine br_f hi0 (br_f hi (br_f (by decide) ?_))
  refine br_f hj0 (br_f hj (br_f (by decide) (br_f hij (br_f (nI_pos (by omega)) (br_t (nI_le (b := 9) (by omega) (by decide)) ⟨pk_in k 36 hk' hk, nm_e ?_⟩)))))
  exact nc_set hij k l hk hl hk' hl' he (H _)
theorem nc_deg1 {post : Int64 → Prop} (hp : p < 10) (hq : q < 10) (H : post (lN (p + q))) : wpX_degree post (3, 0, 1, bo, tn, bn, nc_m p q r, a2, a3, a4, a5) 1 := by
  have e : p + q = 0 + p + 0 + q := by omega
  rw [e] at H
  refine ⟨4, br_f (by decide) ⟨pk_in 6 36 (by decide), nm_r (nc_acc (s := 0) (w := p) 6 rfl (by omega)) (nm_r (e' := 1) (by decide) ?_)⟩⟩
  refine br_f (by decide) ⟨pk_in 7 36 (by decide), nm_r (nc_acc (w := 0) 7 rfl (by omega)) (nm_r (e' := 2) (by decide) ?_)⟩
  exact br_f (by decide) ⟨pk_in 8 36 (by decide), nm_r (nc_acc (w := q) 8 rfl (by omega)) (nm_r (e' := 3) (by decide) (br_t (by decide) H))⟩
theorem nc_deg2 {post : Int64 → Prop} (hq : q < 10) (hr : r < 10) (H : post (lN (q + r))) : wpX_degree post (3, 0, 1, bo, tn, bn, nc_m p q r, a2, a3, a4, a5) 2 := by
  have e : q + r = 0 + r + q + 0 := by omega
  rw [e] at H
  refine ⟨4, br_f (by decide) ⟨pk_in 12 36 (by decide), nm_r (nc_acc (s := 0) (w := r) 12 rfl (by omega)) (nm_r (e' := 1) (by decide) ?_)⟩⟩
  refine br_f (by decide) ⟨pk_in 13 36 (by decide), nm_r (nc_acc (w := q) 13 rfl (by omega)) (nm_r (e' := 2) (by decide) ?_)⟩
  exact br_f (by decide) ⟨pk_in 14 36 (by decide), nm_r (nc_acc (w := 0) 14 rfl (by omega)) (nm_r (e' := 3) (by decide) (br_t (by decide) H))⟩
end
end
section
theorem nc_dv : ∀ p, p < 10 → ∀ q, q < 10 → ∀ r, r < 10 → (lN (p + q) * lN (q + r) - (-lN q) * (-lN q)) / 1 = lN (p * q + q * r + r * p) := by decide +kernel
section
variable {bo tn bn : Int64} {p q r : Nat} {a1 a2 : Nat → Int32} {a3 : Nat → Int64} {a4 : Nat → Int32} {a5 : Nat → Int64}
theorem nc_d19a {post : Int64 → St2 → Prop} {J : Int32 → (Nat → Int32) → (Nat → Int32) → (Nat → Int64) → (Nat → Int32) → (Nat → Int64) → Prop} (hp : p < 10) (hq : q < 10)
    (H : ∀ t, t 0 = lN (p + q) → t 1 = -lN q → J 2 (nc_m p q r) a2 t a4 a5) : ∃ n, wX_determinant_19 post J 2 1 3 0 1 bo tn bn n 1 (nc_m p q r) a2 a3 a4 a5 := by
  refine ⟨3, br_f (by decide) (br_t rfl (nc_deg1 hp hq ⟨pk_in 0 42 (by decide), nm_r (nc_wr 0 rfl) (nm_r (e' := 2) (by decide) ?_)⟩))⟩
  refine br_f (by decide) (br_f (by decide) ⟨pk_in 8 36 (by decide), pk_in 1 42 (by decide), nm_r (nc_wr 1 (nc_neg (w := q) 8 rfl hq)) (nm_r (e' := 3) (by decide) ?_)⟩)
  exact br_t (by decide) (nm_r (e' := 2) (by decide) (H _ ((pk_uLn (by decide)).trans pk_uLs) pk_uLs))
theorem nc_d19b {post : Int64 → St2 → Prop} {J : Int32 → (Nat → Int32) → (Nat → Int32) → (Nat → Int64) → (Nat → Int32) → (Nat → Int64) → Prop} (hq : q < 10) (hr : r < 10)
    (H : ∀ t, t 0 = a3 0 → t 1 = a3 1 → t 7 = -lN q → t 8 = lN (q + r) → J 3 (nc_m p q r) a2 t a4 a5) : ∃ n, wX_determinant_19 post J 2 2 3 0 1 bo tn bn n 1 (nc_m p q r) a2 a3 a4 a5 := by
  refine ⟨3, br_f (by decide) (br_f (by decide) ⟨pk_in 13 36 (by decide), pk_in 7 42 (by decide), nm_r (nc_wr 7 (nc_neg (w := q) 13 rfl hq)) (nm_r (e' := 2) (by decide) ?_)⟩)⟩
  refine br_f (by decide) (br_t rfl (nc_deg2 hq hr ⟨pk_in 8 42 (by decide), nm_r (nc_wr 8 rfl) (nm_r (e' := 3) (by decide) ?_)⟩))
  exact br_t (by decide) (nm_r (e' := 3) (by decide) (H _ ((pk_uLn (by decide)).trans (pk_uLn (by decide))) ((pk_uLn (by decide)).trans (pk_uLn (by decide))) ((pk_uLn (by decide)).trans pk_uLs) pk_uLs))
theorem nc_red {post : St2 → Prop} {A B C D : Int64} (h0 : a3 0 = A) (h1 : a3 1 = B) (h7 : a3 7 = C) (h8 : a3 8 = D) (H : ∀ t, t 8 = (A * D - C * B) / 1 → post (3, 0, 1, bo, tn, bn, a1, a2, t, a4, a5)) :
    wpX_reduceRow post (3, 0, 1, bo, tn, bn, a1, a2, a3, a4, a5) 1 0 0 2 1 := by
  refine ⟨pk_in 0 42 (by decide), nm_r (nc_rd 0 h0) ⟨pk_in 7 42 (by decide), nm_r (nc_rd 7 h7) (br_f (by decide) ⟨3, ?_⟩)⟩⟩
  refine br_f (by decide) ⟨pk_in 7 42 (by decide), pk_in 0 42 (by decide), by decide, pk_in 7 42 (by decide), nm_r (nc_wr 7 rfl) (nm_r (e' := 1) (by decide) ?_)⟩
  refine br_f (by decide) ⟨pk_in 8 42 (by decide), pk_in 1 42 (by decide), by decide, pk_in 8 42 (by decide), nm_r (nc_wr 8 rfl) (nm_r (e' := 2) (by decide) (br_t (by decide) (H _ ?_)))⟩
  rw [pk_uLs, show ((7 : Int32) * 1 + 1).toNatClampNeg = 8 from by decide, show ((7 : Int32) * 0 + 1).toNatClampNeg = 1 from by decide, pk_uLn (by decide), pk_uLn (by decide), h8, h1]
theorem nc_d85 {post : Int64 → St2 → Prop} {t : Nat → Int64} (hp : p < 10) (hq : q < 10) (hr : r < 10) (h0 : t 0 = lN (p + q)) (h1 : t 1 = -lN q) (h7 : t 7 = -lN q) (h8 : t 8 = lN (q + r))
    (H : ∀ t, post (lN (p * q + q * r + r * p)) (3, 0, 1, bo, tn, bn, nc_m p q r, a2, t, a4, a5)) : ∃ n, wX_determinant_85 post 2 n 1 0 3 0 1 bo tn bn (nc_m p q r) a2 t a4 a5 := by
  refine ⟨3, br_f (by decide) ⟨pk_in 0 42 (by decide), nm_r (nc_rd 0 h0) ?_⟩⟩
  by_cases h : p + q = 0
  · obtain ⟨ep, eq⟩ : p = 0 ∧ q = 0 := by omega
    have e : p * q + q * r + r * p = 0 := by rw [ep, eq]; simp
    have H' := H t
    rw [e] at H'
    exact br_t (by rw [h]; rfl) H'
  · refine br_f (nc_l0 (by omega) h) (nm_r (e' := 1) (by decide) ⟨2, br_f (by decide) (nc_red h0 h1 h7 h8 (fun t' e8 => nm_r (e' := 2) (by decide) (br_t (by decide) (nm_r (e' := 1) (by decide) ?_))))⟩)
    rw [nc_dv p hp q hq r hr] at e8
    refine br_f (by decide) ⟨pk_in 8 42 (by decide), nm_r (nc_rd 8 e8) ?_⟩
    by_cases h2 : lN (p * q + q * r + r * p) = 0
    · have H' := H t'
      rw [h2] at H'
      exact br_t h2 H'
    · exact br_f h2 (nm_r (e' := 2) (by decide) ⟨1, br_t (by decide) (nm_r (e' := 2) (by decide) (br_t (by decide) (H t')))⟩)
theorem nc_det {post : Int64 → St2 → Prop} (hp : p < 10) (hq : q < 10) (hr : r < 10) (H : ∀ t, post (lN (p * q + q * r + r * p)) (3, 0, 1, bo, tn, bn, nc_m p q r, a2, t, a4, a5)) :
    wpX_determinant post (3, 0, 1, bo, tn, bn, nc_m p q r, a2, a3, a4, a5) := by
  unfold wpX_determinant
  refine nm_r (e' := 2) (by decide) ⟨3, br_f (by decide) (nc_d19a hp hq (fun t h0 h1 => ?_))⟩
  refine br_f (by decide) (nc_d19b hq hr (fun t' e0 e1 e7 e8 => ?_))
  exact br_t (by decide) (nc_d85 hp hq hr (e0.trans h0) (e1.trans h1) e7 e8 H)
theorem nc_trees {post : Int64 → St2 → Prop} (hp : p < 10) (hq : q < 10) (hr : r < 10) (H : ∀ t, post (lN (p * q + q * r + r * p)) (3, 0, 1, bo, tn, bn, nc_m p q r, a2, t, a4, a5)) :
    wpX_trees post (3, 0, 1, bo, tn, bn, nc_m p q r, a2, a3, a4, a5) := by
  unfold wpX_trees
  exact nc_det hp hq hr H
theorem nc_tw {post : Int64 → St2 → Prop} (hp : p < 10) (hq : q < 10) (hr : r < 10) (H : ∀ t, post (lN (p * (q + r))) (3, 0, 1, bo, tn, bn, nc_m p q r, a2, t, a4, a5)) :
    wpX_treesWith post (3, 0, 1, bo, tn, bn, nc_m p q r, a2, a3, a4, a5) 0 1 := by
  have e : lN (p * q + q * r + r * p) - lN (0 * q + q * r + r * 0) = lN (p * (q + r)) := by
    rw [show p * q + q * r + r * p = p * (q + r) + (0 * q + q * r + r * 0) by grind, lN_sub (by omega), Nat.add_sub_cancel]
  unfold wpX_treesWith
  refine br_f (by decide) (br_f (by decide) (br_f (by decide) ?_))
  refine br_f (by decide) (br_f (by decide) (br_f (by decide) (br_f (by decide) (nc_det hp hq hr (fun t => ?_)))))
  refine ⟨pk_in 1 36 (by decide), nm_r (e' := nI p) (nc_rd 1 rfl) ?_⟩
  refine nc_set (by decide) 1 6 rfl rfl (by decide) (by decide) (nc_u1 p q r 0) ?_
  refine nc_det (p := 0) (by decide) hq hr (fun t' => ?_)
  refine nc_set (by decide) 1 6 rfl rfl (by decide) (by decide) (nc_u1 0 q r p) ?_
  show post (lN (p * q + q * r + r * p) - lN (0 * q + q * r + r * 0)) _
  rw [e]
  exact H t'
end
end
section
/-! ===== findParts, countParts, bridges ===== -/
/-- one comparison: the point v takes the lesser group of u and v where the weight w is above 0 -/
def nc_mn (u v w : Nat) (y : Nat → Nat) : Nat → Nat := fun j => if j = v ∧ 0 < w then min (y u) (y v) else y j
theorem nc_mn_lt {u v w : Nat} {y : Nat → Nat} (hu : u < 3) (h : ∀ j, j < 3 → y j < 3) : ∀ j, j < 3 → nc_mn u v w y j < 3 := by
  intro j hj
  unfold nc_mn
  have h1 := h u hu
  have h2 := h j hj
  have h3 := Nat.min_le_left (y u) (y v)
  split
  · omega
  · exact h2
/-- one round over the table -/
def nc_rn (p q r : Nat) (y : Nat → Nat) : Nat → Nat := nc_mn 2 1 q (nc_mn 2 0 r (nc_mn 1 2 q (nc_mn 1 0 p (nc_mn 0 2 r (nc_mn 0 1 p y)))))
/-- the groups -/
def nc_Y (p q r : Nat) : Nat → Nat := fun j => if j = 1 then (if 0 < p ∨ (0 < q ∧ 0 < r) then 0 else 1) else if j = 2 then (if 0 < r ∨ (0 < p ∧ 0 < q) then 0 else if 0 < q then 1 else 2) else 0
theorem nc_Y_lt (p q r : Nat) : ∀ j, j < 3 → nc_Y p q r j < 3 := by
  intro j hj
  unfold nc_Y
  split
  · split <;> omega
  · split
    · split
      · omega
      · split <;> omega
    · omega
theorem nc_r1 (p q r : Nat) : ∀ j, j < 3 → nc_rn p q r (fun j => j) j = nc_Y p q r j := by
  intro j hj
  have hj' : j = 0 ∨ j = 1 ∨ j = 2 := by omega
  rcases hj' with rfl | rfl | rfl <;> cases p <;> cases q <;> cases r <;> simp [nc_rn, nc_mn, nc_Y]
theorem nc_r2 (p q r : Nat) : ∀ j, j < 3 → nc_rn p q r (nc_Y p q r) j = nc_Y p q r j := by
  intro j hj
  have hj' : j = 0 ∨ j = 1 ∨ j = 2 := by omega
  rcases hj' with rfl | rfl | rfl <;> cases p <;> cases q <;> cases r <;> simp [nc_rn, nc_mn, nc_Y]
section
variable {bo tn bn : Int64} {p q r : Nat} {a1 a2 s : Nat → Int32} {a3 : Nat → Int64} {a4 : Nat → Int32} {a5 : Nat → Int64} {post : St2 → Prop} {J : Int32 → (Nat → Int32) → (Nat → Int32) → (Nat → Int64) → (Nat → Int32) → (Nat → Int64) → Prop} {x1 : Int32}
theorem nc_fs (i u v : Nat) (hi : i < 36) (hu : i / 6 = u) (hv : i % 6 = v)
    (H1 : a1 i ≤ 0 → ∃ n, wX_findParts_35 post J x1 3 0 1 bo tn bn n (nI (i + 1)) a1 s a3 a4 a5)
    (H2 : ¬ a1 i ≤ 0 → s v ≤ s u → ∃ n, wX_findParts_35 post J x1 3 0 1 bo tn bn n (nI (i + 1)) a1 s a3 a4 a5)
    (H3 : ¬ a1 i ≤ 0 → ¬ s v ≤ s u → ∃ n, wX_findParts_35 post J x1 3 0 1 bo tn bn n (nI (i + 1)) a1 (upd s v (s u)) a3 a4 a5) :
    ∃ n, wX_findParts_35 post J x1 3 0 1 bo tn bn n (nI i) a1 s a3 a4 a5 := by
  have hu6 : u < 6 := by omega
  have hv6 : v < 6 := by omega
  have eu : nI i / 6 = nI u := by rw [← hu]; exact pk_div (d := 6) (by omega) (by decide) (by decide)
  have ev : nI i - nI i / 6 * 6 = nI v := by rw [← hv]; exact pk_rem (d := 6) (by omega) (by decide) (by decide)
  have ci : (nI i).toNatClampNeg = i := nI_clamp (by omega)
  have cu : (nI u).toNatClampNeg = u := nI_clamp (by omega)
  have cv : (nI v).toNatClampNeg = v := nI_clamp (by omega)
  have d6 : ¬ (6 : Int32) = 0 := by decide
  have hg : ¬ (36 : Int32) ≤ nI i := nI_ge (b := 36) hi (by decide)
  by_cases h : a1 i ≤ 0
  · obtain ⟨n, hn⟩ := H1 h
    exact ⟨n + 1, br_f hg ⟨d6, nm_r eu ⟨d6, nm_r ev ⟨pk_in i 36 hi, br_t (by rw [ci]; exact h) (nm_r (nI_1 i) hn)⟩⟩⟩⟩
  · by_cases h2 : s v ≤ s u
    · obtain ⟨n, hn⟩ := H2 h h2
      exact ⟨n + 1, br_f hg ⟨d6, nm_r eu ⟨d6, nm_r ev ⟨pk_in i 36 hi, br_f (by rw [ci]; exact h) ⟨pk_in u 6 hu6, pk_in v 6 hv6, br_t (by rw [cu, cv]; exact h2) (nm_r (nI_1 i) hn)⟩⟩⟩⟩⟩
    · obtain ⟨n, hn⟩ := H3 h h2
      exact ⟨n + 1, br_f hg ⟨d6, nm_r eu ⟨d6, nm_r ev ⟨pk_in i 36 hi, br_f (by rw [ci]; exact h) ⟨pk_in u 6 hu6, pk_in v 6 hv6, br_f (by rw [cu, cv]; exact h2) ⟨pk_in u 6 hu6, pk_in v 6 hv6, nm_r (by rw [cu, cv]) (nm_r (nI_1 i) hn)⟩⟩⟩⟩⟩⟩
theorem nc_fk : ∀ (c i : Nat), i + c ≤ 36 → (∀ j, i ≤ j → j < i + c → a1 j = 0) → (∃ n, wX_findParts_35 post J x1 3 0 1 bo tn bn n (nI (i + c)) a1 s a3 a4 a5) → ∃ n, wX_findParts_35 post J x1 3 0 1 bo tn bn n (nI i) a1 s a3 a4 a5
  | 0, i, _, _, H => H
  | c + 1, i, h, hz, H => by
    have hi : a1 i ≤ 0 := by rw [hz i (by omega) (by omega)]; decide
    have H' : ∃ n, wX_findParts_35 post J x1 3 0 1 bo tn bn n (nI (i + 1 + c)) a1 s a3 a4 a5 := by rw [show i + 1 + c = i + (c + 1) by omega]; exact H
    exact nc_fs i _ _ (by omega) rfl rfl (fun _ => nc_fk c (i + 1) (by omega) (fun j h1 h2 => hz j (by omega) (by omega)) H') (fun z => absurd hi z) (fun z => absurd hi z)
theorem nc_fm {y : Nat → Nat} (i u v w : Nat) (hi : i < 36) (hu : i / 6 = u) (hv : i % 6 = v) (hu3 : u < 3) (hv3 : v < 3) (hw : a1 i = nI w) (hw' : w < 2 ^ 31) (hs : ∀ j, j < 3 → s j = nI (y j)) (hy : ∀ j, j < 3 → y j < 3)
    (H : ∀ s', (∀ j, j < 3 → s' j = nI (nc_mn u v w y j)) → (∀ j, j < 3 → nc_mn u v w y j < 3) → ∃ n, wX_findParts_35 post J x1 3 0 1 bo tn bn n (nI (i + 1)) a1 s' a3 a4 a5) :
    ∃ n, wX_findParts_35 post J x1 3 0 1 bo tn bn n (nI i) a1 s a3 a4 a5 := by
  have hm := nc_mn_lt (v := v) (w := w) hu3 hy
  have yu := hy u hu3
  have yv := hy v hv3
  refine nc_fs i u v hi hu hv (fun h => H s (fun j hj => ?_) hm) (fun h h2 => H s (fun j hj => ?_) hm) (fun h h3 => H (upd s v (s u)) (fun j hj => ?_) hm)
  · rw [hw] at h
    have h' : w ≤ 0 := (nI_leI (b := 0) hw' (by decide)).mp h
    unfold nc_mn
    rw [if_neg (by omega)]
    exact hs j hj
  · rw [hs u hu3, hs v hv3] at h2
    have h' : y v ≤ y u := (nI_leI (by omega) (by omega)).mp h2
    unfold nc_mn
    rw [Nat.min_eq_right h']
    split
    · rename_i e
      rw [e.1]
      exact hs v hv3
    · exact hs j hj
  · rw [hs u hu3, hs v hv3] at h3
    have h' : y u ≤ y v := by
      rcases Nat.lt_or_ge (y v) (y u) with z | z
      · exact absurd (nI_le (Nat.le_of_lt z) (by omega)) h3
      · exact z
    rw [hw] at h
    have hw0 : 0 < w := by
      rcases Nat.eq_zero_or_pos w with z | z
      · rw [z] at h
        exact absurd (by decide) h
      · exact z
    unfold nc_mn
    rw [Nat.min_eq_left h']
    by_cases e : j = v
    · rw [if_pos ⟨e, hw0⟩, e, pk_us]
      exact hs u hu3
    · rw [if_neg (fun z => e z.1), pk_un e]
      exact hs j hj
theorem nc_round {y : Nat → Nat} (hp : p < 10) (hq : q < 10) (hr : r < 10) (hs : ∀ j, j < 3 → s j = nI (y j)) (hy : ∀ j, j < 3 → y j < 3)
    (H : ∀ s', (∀ j, j < 3 → s' j = nI (nc_rn p q r y j)) → J (x1 + 1) (nc_m p q r) s' a3 a4 a5) : ∃ n, wX_findParts_35 post J x1 3 0 1 bo tn bn n 0 (nc_m p q r) s a3 a4 a5 := by
  have h : ∃ n, wX_findParts_35 post J x1 3 0 1 bo tn bn n (nI 0) (nc_m p q r) s a3 a4 a5 := by
    refine nc_fk 1 0 (by decide) (fun j h1 h2 => nc_z j (by omega)) ?_
    refine nc_fm 1 0 1 p (by decide) rfl rfl (by decide) (by decide) rfl (by omega) hs hy (fun s1 hs hy => ?_)
    refine nc_fm 2 0 2 r (by decide) rfl rfl (by decide) (by decide) rfl (by omega) hs hy (fun s2 hs hy => ?_)
    refine nc_fk 3 3 (by decide) (fun j h1 h2 => nc_z j (by omega)) ?_
    refine nc_fm 6 1 0 p (by decide) rfl rfl (by decide) (by decide) rfl (by omega) hs hy (fun s3 hs hy => ?_)
    refine nc_fk 1 7 (by decide) (fun j h1 h2 => nc_z j (by omega)) ?_
    refine nc_fm 8 1 2 q (by decide) rfl rfl (by decide) (by decide) rfl (by omega) hs hy (fun s4 hs hy => ?_)
    refine nc_fk 3 9 (by decide) (fun j h1 h2 => nc_z j (by omega)) ?_
    refine nc_fm 12 2 0 r (by decide) rfl rfl (by decide) (by decide) rfl (by omega) hs hy (fun s5 hs hy => ?_)
    refine nc_fm 13 2 1 q (by decide) rfl rfl (by decide) (by decide) rfl (by omega) hs hy (fun s6 hs hy => ?_)
    refine nc_fk 22 14 (by decide) (fun j h1 h2 => nc_z j (by omega)) ?_
    exact ⟨1, br_t (by decide) (nm_e (H s6 hs))⟩
  exact h
theorem nc_fp (hp : p < 10) (hq : q < 10) (hr : r < 10) (H : ∀ s, (∀ j, j < 3 → s j = nI (nc_Y p q r j)) → post (3, 0, 1, bo, tn, bn, nc_m p q r, s, a3, a4, a5)) :
    wpX_findParts post (3, 0, 1, bo, tn, bn, nc_m p q r, a2, a3, a4, a5) := by
  refine ⟨4, br_f (by decide) ⟨pk_in 0 6 (by decide), nm_r (nc_wi 0 rfl) (nm_r (e' := 1) (by decide) ?_)⟩⟩
  refine br_f (by decide) ⟨pk_in 1 6 (by decide), nm_r (nc_wi 1 rfl) (nm_r (e' := 2) (by decide) ?_)⟩
  refine br_f (by decide) ⟨pk_in 2 6 (by decide), nm_r (nc_wi 2 rfl) (nm_r (e' := 3) (by decide) (br_t (by decide) ⟨4, ?_⟩))⟩
  have h0 : ∀ j, j < 3 → upd (upd (upd a2 0 0) 1 1) 2 2 j = nI ((fun j => j) j) := by
    intro j hj
    have hj' : j = 0 ∨ j = 1 ∨ j = 2 := by omega
    rcases hj' with rfl | rfl | rfl
    · rw [pk_un (by decide), pk_un (by decide), pk_us]; rfl
    · rw [pk_un (by decide), pk_us]; rfl
    · rw [pk_us]; rfl
  refine br_f (by decide) (nc_round hp hq hr h0 (fun j hj => hj) (fun s1 e1 => ?_))
  have h1 : ∀ j, j < 3 → s1 j = nI (nc_Y p q r j) := fun j hj => by rw [e1 j hj, nc_r1 p q r j hj]
  refine br_f (by decide) (nc_round hp hq hr h1 (nc_Y_lt p q r) (fun s2 e2 => ?_))
  have h2 : ∀ j, j < 3 → s2 j = nI (nc_Y p q r j) := fun j hj => by rw [e2 j hj, nc_r2 p q r j hj]
  refine br_f (by decide) (nc_round hp hq hr h2 (nc_Y_lt p q r) (fun s3 e3 => ?_))
  have h3 : ∀ j, j < 3 → s3 j = nI (nc_Y p q r j) := fun j hj => by rw [e3 j hj, nc_r2 p q r j hj]
  exact br_t (by decide) (H s3 h3)
end
/-- the number of groups -/
def nc_c (p q r : Nat) : Nat := 0 + (if nc_Y p q r 0 = 0 then 1 else 0) + (if nc_Y p q r 1 = 1 then 1 else 0) + (if nc_Y p q r 2 = 2 then 1 else 0)
theorem nc_c_le (p q r : Nat) : nc_c p q r ≤ 3 := by
  unfold nc_c
  split <;> split <;> split <;> omega
section
variable {bo tn bn : Int64} {p q r : Nat} {a1 a2 s : Nat → Int32} {a3 : Nat → Int64} {a4 : Nat → Int32} {a5 : Nat → Int64} {post : Int32 → St2 → Prop}
theorem nc_c8 {n c i y : Nat} (hi : i < 3) (hc : c < 100) (hs : s i = nI y) (hy : y < 3) (H : wX_countParts_8 post 3 0 1 bo tn bn a1 s a3 a4 a5 n (nI (c + if y = i then 1 else 0)) (nI (i + 1))) :
    wX_countParts_8 post 3 0 1 bo tn bn a1 s a3 a4 a5 (n + 1) (nI c) (nI i) := by
  refine br_f (nI_ge (b := 3) hi (by decide)) ⟨pk_in i 6 (by omega), ?_⟩
  refine pk_eq y i (fun e => nm_r (nI_1 c) (nm_r (nI_1 i) ?_)) (fun e => nm_r (e' := nI (c + 0)) (nI_add c 0) (nm_r (nI_1 i) ?_)) (nc_rd i hs rfl (by omega)) rfl
  · rw [if_pos e] at H
    exact H
  · rw [if_neg e] at H
    exact H
theorem nc_cp (hp : p < 10) (hq : q < 10) (hr : r < 10) (H : ∀ s, post (nI (nc_c p q r)) (3, 0, 1, bo, tn, bn, nc_m p q r, s, a3, a4, a5)) :
    wpX_countParts post (3, 0, 1, bo, tn, bn, nc_m p q r, a2, a3, a4, a5) := by
  unfold wpX_countParts
  refine nc_fp hp hq hr (fun s hs => ⟨4, ?_⟩)
  have hY := nc_Y_lt p q r
  have h : wX_countParts_8 post 3 0 1 bo tn bn (nc_m p q r) s a3 a4 a5 4 (nI 0) (nI 0) := by
    refine nc_c8 (by decide) (by decide) (hs 0 (by decide)) (hY 0 (by decide)) ?_
    refine nc_c8 (by decide) (by split <;> omega) (hs 1 (by decide)) (hY 1 (by decide)) ?_
    refine nc_c8 (by decide) (by split <;> split <;> omega) (hs 2 (by decide)) (hY 2 (by decide)) ?_
    exact br_t (by decide) (H s)
  exact h
theorem nc_bk {n i : Nat} {x1 x2 : Int32} (hi : i < 36) (hz : nc_m p q r i = 0 ∨ i % 6 ≤ i / 6) (H : wX_bridges_9 post x1 n x2 (nI (i + 1)) 3 0 1 bo tn bn (nc_m p q r) s a3 a4 a5) :
    wX_bridges_9 post x1 (n + 1) x2 (nI i) 3 0 1 bo tn bn (nc_m p q r) s a3 a4 a5 := by
  have eu : nI i / 6 = nI (i / 6) := pk_div (d := 6) (by omega) (by decide) (by decide)
  have ev : nI i - nI i / 6 * 6 = nI (i % 6) := pk_rem (d := 6) (by omega) (by decide) (by decide)
  have d6 : ¬ (6 : Int32) = 0 := by decide
  refine br_f (nI_ge (b := 36) hi (by decide)) ⟨d6, nm_r eu ⟨d6, nm_r ev ⟨pk_in i 36 hi, nm_r (nc_rd i rfl rfl (by omega)) ?_⟩⟩⟩
  refine pk_le (i % 6) (i / 6) (fun _ => nm_r (nI_1 i) H) (fun h => br_t ?_ (nm_r (nI_1 i) H))
  rcases hz with z | z
  · rw [z]
    decide
  · exact absurd h (by omega)
theorem nc_bks {n : Nat} {x1 x2 : Int32} : ∀ (c i : Nat), i + c ≤ 36 → (∀ j, i ≤ j → j < i + c → nc_m p q r j = 0 ∨ j % 6 ≤ j / 6) → wX_bridges_9 post x1 n x2 (nI (i + c)) 3 0 1 bo tn bn (nc_m p q r) s a3 a4 a5 → wX_bridges_9 post x1 (n + c) x2 (nI i) 3 0 1 bo tn bn (nc_m p q r) s a3 a4 a5
  | 0, i, _, _, H => H
  | c + 1, i, h, hz, H => by
    have H' : wX_bridges_9 post x1 n x2 (nI (i + 1 + c)) 3 0 1 bo tn bn (nc_m p q r) s a3 a4 a5 := by rw [show i + 1 + c = i + (c + 1) by omega]; exact H
    exact nc_bk (by omega) (hz i (by omega) (by omega)) (nc_bks c (i + 1) (by omega) (fun j h1 h2 => hz j (by omega) (by omega)) H')
theorem nc_be {n p' q' r' C c : Nat} (i u v w : Nat) (hi : i < 36) (hu : i / 6 = u) (hv : i % 6 = v) (huv : u < v) (hm : nc_m p q r i = nI w) (hw : w < 10) (k l : Nat) (hk : 6 * nI u + nI v = nI k) (hl : 6 * nI v + nI u = nI l) (hk' : k < 36) (hl' : l < 36)
    (e1 : upd (upd (nc_m p q r) k (nI 0)) l (nI 0) = nc_m p' q' r') (e2 : upd (upd (nc_m p' q' r') k (nI w)) l (nI w) = nc_m p q r) (hp : p' < 10) (hq : q' < 10) (hr : r' < 10) (hC : C < 10)
    (H : ∀ s', wX_bridges_9 post (nI C) n (nI (c + if 0 < w ∧ C < nc_c p' q' r' then 1 else 0)) (nI (i + 1)) 3 0 1 bo tn bn (nc_m p q r) s' a3 a4 a5) :
    wX_bridges_9 post (nI C) (n + 1) (nI c) (nI i) 3 0 1 bo tn bn (nc_m p q r) s a3 a4 a5 := by
  have hv6 : v < 6 := by omega
  have eu : nI i / 6 = nI u := by rw [← hu]; exact pk_div (d := 6) (by omega) (by decide) (by decide)
  have ev : nI i - nI i / 6 * 6 = nI v := by rw [← hv]; exact pk_rem (d := 6) (by omega) (by decide) (by decide)
  have d6 : ¬ (6 : Int32) = 0 := by decide
  have hc' := nc_c_le p' q' r'
  have nuv : ¬ nI u = nI v := fun z => absurd ((nI_eq (by omega) (by omega)).mp z) (by omega)
  refine br_f (nI_ge (b := 36) hi (by decide)) ⟨d6, nm_r eu ⟨d6, nm_r ev ⟨pk_in i 36 hi, nm_r (nc_rd i hm rfl (by omega)) ?_⟩⟩⟩
  refine br_f (nI_ge huv (by omega)) (pk_le w 0 (fun h => nm_r (nI_1 i) ?_) (fun h => ?_))
  · have H' := H s
    rw [if_neg (by omega)] at H'
    exact H'
  · refine nc_set nuv k l hk hl hk' hl' e1 ?_
    refine nc_cp hp hq hr (fun s' => ?_)
    refine nc_set nuv k l hk hl hk' hl' e2 ?_
    have H' := H s'
    refine pk_le (nc_c p' q' r') C (fun g => nm_r (e' := nI (c + 0)) (nI_add c 0) (nm_r (nI_1 i) ?_)) (fun g => nm_r (nI_1 c) (nm_r (nI_1 i) ?_))
    · rw [if_neg (by omega)] at H'
      exact H'
    · rw [if_pos ⟨h, g⟩] at H'
      exact H'
end
def nc_b (p q r : Nat) : Nat := 0 + (if 0 < p ∧ nc_c p q r < nc_c 0 q r then 1 else 0) + (if 0 < r ∧ nc_c p q r < nc_c p q 0 then 1 else 0) + (if 0 < q ∧ nc_c p q r < nc_c p 0 r then 1 else 0)
theorem nc_b_eq (p q r : Nat) : nc_b p q r = if 0 < p ∧ 0 < q ∧ 0 < r then 0 else (if 0 < p then 1 else 0) + (if 0 < q then 1 else 0) + (if 0 < r then 1 else 0) := by
  cases p <;> cases q <;> cases r <;> simp [nc_b, nc_c, nc_Y]
theorem nc_br {bo tn bn : Int64} {p q r : Nat} {a2 : Nat → Int32} {a3 : Nat → Int64} {a4 : Nat → Int32} {a5 : Nat → Int64} {post : Int32 → St2 → Prop} (hp : p < 10) (hq : q < 10) (hr : r < 10)
    (H : ∀ s, post (nI (nc_b p q r)) (3, 0, 1, bo, tn, bn, nc_m p q r, s, a3, a4, a5)) : wpX_bridges post (3, 0, 1, bo, tn, bn, nc_m p q r, a2, a3, a4, a5) := by
  unfold wpX_bridges
  refine nc_cp hp hq hr (fun s => ⟨37, ?_⟩)
  have hC : nc_c p q r < 10 := by have := nc_c_le p q r; omega
  have h : wX_bridges_9 post (nI (nc_c p q r)) 37 (nI 0) (nI 0) 3 0 1 bo tn bn (nc_m p q r) s a3 a4 a5 := by
    refine nc_bks (n := 36) 1 0 (by decide) (fun j h1 h2 => Or.inl (nc_z j (by omega))) ?_
    refine nc_be (n := 35) (p' := 0) (q' := q) (r' := r) 1 0 1 p (by decide) rfl rfl (by decide) rfl hp 1 6 rfl rfl (by decide) (by decide) (nc_u1 p q r 0) (nc_u1 0 q r p) (by decide) hq hr hC (fun s1 => ?_)
    refine nc_be (n := 34) (p' := p) (q' := q) (r' := 0) 2 0 2 r (by decide) rfl rfl (by decide) rfl hr 2 12 rfl rfl (by decide) (by decide) (nc_u2 p q r 0) (nc_u2 p q 0 r) hp hq (by decide) hC (fun s2 => ?_)
    refine nc_bks (n := 29) 5 3 (by decide) (fun j h1 h2 => by
      by_cases e : j = 6
      · exact Or.inr (by omega)
      · exact Or.inl (nc_z j (by omega))) ?_
    refine nc_be (n := 28) (p' := p) (q' := 0) (r' := r) 8 1 2 q (by decide) rfl rfl (by decide) rfl hq 8 13 rfl rfl (by decide) (by decide) (nc_u8 p q r 0) (nc_u8 p 0 r q) hp (by decide) hr hC (fun s3 => ?_)
    refine nc_bks (n := 1) 27 9 (by decide) (fun j h1 h2 => by
      by_cases e : j = 12 ∨ j = 13
      · exact Or.inr (by omega)
      · exact Or.inl (nc_z j (by omega))) ?_
    exact br_t (by decide) (H s3)
  exact h
end
section
/-! ===== solve ===== -/
section
variable {bo tn bn : Int64} {p q r : Nat} {a1 a2 : Nat → Int32} {a3 : Nat → Int64} {a4 : Nat → Int32} {a5 : Nat → Int64}
theorem nc_s196a {post : Int32 → St2 → Prop} {x3 : Int32} (h0 : a4 0 = -1) (h1 : a4 1 = -1) (h2 : a4 2 = -1) (H : ∀ t, t 0 = bo → t 1 = 0 → t 2 = 0 → post 1 (3, 0, 1, bo, tn, bn, a1, a2, a3, a4, t)) :
    ∃ n, wX_solve_196 post 0 x3 3 0 1 bo tn bn n 0 a1 a2 a3 a4 a5 := by
  refine ⟨4, br_f (by decide) ⟨pk_in 0 6 (by decide), br_t (nc_rd 0 h0) ⟨pk_in 0 6 (by decide), nm_r (nc_wr 0 rfl) (nm_r (e' := 1) (by decide) ?_)⟩⟩⟩
  refine br_f (by decide) ⟨pk_in 1 6 (by decide), br_t (nc_rd 1 h1) ⟨pk_in 1 6 (by decide), nm_r (nc_wr 1 rfl) (nm_r (e' := 2) (by decide) ?_)⟩⟩
  refine br_f (by decide) ⟨pk_in 2 6 (by decide), br_t (nc_rd 2 h2) ⟨pk_in 2 6 (by decide), nm_r (nc_wr 2 rfl) (nm_r (e' := 3) (by decide) ?_)⟩⟩
  refine br_t (by decide) ⟨pk_in 0 6 (by decide), nm_r (nc_wr 0 rfl) (H _ pk_uLs ?_ ?_)⟩
  · rw [pk_uLn (by decide), pk_uLn (by decide), pk_uLs]
  · rw [pk_uLn (by decide), pk_uLs]
theorem nc_s196b {post : Int32 → St2 → Prop} {v : Int64} (h0 : a4 0 = -1) (h1 : a4 1 = -1) (h2 : a4 2 = 0) (hv : a3 1 = v) (H : ∀ t, t 0 = bo → t 1 = 0 → t 2 = v → post 1 (3, 0, 1, bo, tn, bn, a1, a2, a3, a4, t)) :
    ∃ n, wX_solve_196 post 0 1 3 0 1 bo tn bn n 0 a1 a2 a3 a4 a5 := by
  have c2 : a4 (2 : Int32).toNatClampNeg = 0 := nc_rd 2 h2
  refine ⟨4, br_f (by decide) ⟨pk_in 0 6 (by decide), br_t (nc_rd 0 h0) ⟨pk_in 0 6 (by decide), nm_r (nc_wr 0 rfl) (nm_r (e' := 1) (by decide) ?_)⟩⟩⟩
  refine br_f (by decide) ⟨pk_in 1 6 (by decide), br_t (nc_rd 1 h1) ⟨pk_in 1 6 (by decide), nm_r (nc_wr 1 rfl) (nm_r (e' := 2) (by decide) ?_)⟩⟩
  refine br_f (by decide) ⟨pk_in 2 6 (by decide), br_f (by rw [c2]; decide) ⟨pk_in 2 6 (by decide), pk_in 1 42 (by decide) (by rw [c2]; rfl), pk_in 2 6 (by decide), nm_r (nc_wr 2 (nc_rd 1 hv (by rw [c2]; rfl))) (nm_r (e' := 3) (by decide) ?_)⟩⟩
  refine br_t (by decide) ⟨pk_in 0 6 (by decide), nm_r (nc_wr 0 rfl) (H _ pk_uLs ?_ ?_)⟩
  · rw [pk_uLn (by decide), pk_uLn (by decide), pk_uLs]
  · rw [pk_uLn (by decide), pk_uLs]
theorem nc_frn {post : St2 → Prop} {i x3 : Int32} (k : Nat) (hk : k < 6) (hi : i = nI k) (h : a4 k = -1) (H : post (3, 0, 1, bo, tn, bn, a1, a2, a3, a4, a5)) : wpX_fillRow post (3, 0, 1, bo, tn, bn, a1, a2, a3, a4, a5) i 0 x3 :=
  ⟨pk_in k 6 hk hi, nm_r (nc_rd k h hi (by omega)) (br_t rfl H)⟩
theorem nc_fr2 {post : St2 → Prop} (hq : q < 10) (hr : r < 10) (h0 : a4 0 = -1) (h1 : a4 1 = -1) (h2 : a4 2 = 0) (H : ∀ t, t 0 = lN (q + r) → t 1 = lN r → post (3, 0, 1, bo, tn, bn, nc_m p q r, a2, t, a4, a5)) :
    wpX_fillRow post (3, 0, 1, bo, tn, bn, nc_m p q r, a2, a3, a4, a5) 2 0 1 := by
  have c2 : a4 (2 : Int32).toNatClampNeg = 0 := nc_rd 2 h2
  refine ⟨pk_in 2 6 (by decide), nm_r c2 (br_f (by decide) ⟨4, ?_⟩)⟩
  refine br_f (by decide) ⟨pk_in 0 6 (by decide), br_t (nc_rd 0 h0) (nm_r (e' := 1) (by decide) ?_)⟩
  refine br_f (by decide) ⟨pk_in 1 6 (by decide), br_t (nc_rd 1 h1) (nm_r (e' := 2) (by decide) ?_)⟩
  refine br_f (by decide) ⟨pk_in 2 6 (by decide), br_f (by rw [c2]; decide) ⟨pk_in 2 6 (by decide), br_t rfl (nc_deg2 hq hr ⟨pk_in 0 42 (by decide) (by rw [c2]; rfl), nm_r (nc_wr 0 rfl (by rw [c2]; rfl)) (nm_r (e' := 3) (by decide) ?_)⟩)⟩⟩
  refine br_t (by decide) ⟨pk_in 12 36 (by decide), pk_in 1 42 (by decide), nm_r (nc_wr 1 ((congrArg Int32.toInt64 (nc_rd (v := nI r) 12 rfl)).trans (nI_l (by omega)))) (H _ ((pk_uLn (by decide)).trans pk_uLs) pk_uLs)⟩
theorem nc_off {post : Int32 → St2 → Prop} (hp : p < 10) (hq : q < 10) (hr : r < 10) (h : nc_Y p q r 1 = 1) (H : ∀ s, post 0 (3, 0, 1, bo, tn, bn, nc_m p q r, s, a3, a4, a5)) :
    wpX_solve post (3, 0, 1, bo, tn, bn, nc_m p q r, a2, a3, a4, a5) 0 1 := by
  unfold wpX_solve
  refine nc_fp hp hq hr (fun s hs => ⟨pk_in 0 6 (by decide), pk_in 1 6 (by decide), br_f ?_ (H s)⟩)
  have e0 : s (0 : Int32).toNatClampNeg = nI 0 := nc_rd 0 (hs 0 (by decide))
  have e1 : s (1 : Int32).toNatClampNeg = nI 1 := nc_rd 1 (by rw [hs 1 (by decide), h])
  rw [e0, e1]
  decide
theorem nc_on1 {post : Int32 → St2 → Prop} (hp : p < 10) (hq : q < 10) (hr : r < 10) (h : nc_Y p q r 1 = 0) (h' : nc_Y p q r 2 = 0)
    (H : ∀ s t u w, (∀ j, j < 3 → s j = nI (nc_Y p q r j)) → w 0 = lN (q + r) → w 1 = 0 → w 2 = lN r → post 1 (3, 0, 1, lN (q + r), tn, bn, nc_m p q r, s, t, u, w)) :
    wpX_solve post (3, 0, 1, bo, tn, bn, nc_m p q r, a2, a3, a4, a5) 0 1 := by
  unfold wpX_solve
  refine nc_fp hp hq hr (fun s hs => ?_)
  have e0 : s (0 : Int32).toNatClampNeg = nI 0 := nc_rd 0 (hs 0 (by decide))
  have e1 : s (1 : Int32).toNatClampNeg = nI 0 := nc_rd 1 (by rw [hs 1 (by decide), h])
  have e2 : s (2 : Int32).toNatClampNeg = nI 0 := nc_rd 2 (by rw [hs 2 (by decide), h'])
  refine ⟨pk_in 0 6 (by decide), pk_in 1 6 (by decide), br_t (e0.trans e1.symm) ⟨4, ?_⟩⟩
  refine br_f (by decide) ⟨pk_in 0 6 (by decide), nm_r (nc_wi 0 rfl) ⟨pk_in 0 6 (by decide), pk_in 0 6 (by decide), br_t rfl (br_t rfl (nm_r (e' := 1) (by decide) ?_))⟩⟩
  refine br_f (by decide) ⟨pk_in 1 6 (by decide), nm_r (nc_wi 1 rfl) ⟨pk_in 1 6 (by decide), pk_in 0 6 (by decide), br_t (e1.trans e0.symm) (br_f (by decide) (br_t rfl (nm_r (e' := 2) (by decide) ?_)))⟩⟩
  refine br_f (by decide) ⟨pk_in 2 6 (by decide), nm_r (nc_wi 2 rfl) ⟨pk_in 2 6 (by decide), pk_in 0 6 (by decide), br_t (e2.trans e0.symm) (br_f (by decide) (br_f (by decide) ⟨pk_in 2 6 (by decide), nm_r (nc_wi 2 rfl) (nm_r (e' := 1) (by decide) (nm_r (e' := 3) (by decide) ?_))⟩))⟩⟩
  have g0 : upd (upd (upd (upd a4 0 (-1)) 1 (-1)) 2 (-1)) 2 0 0 = -1 := by rw [pk_un (by decide), pk_un (by decide), pk_un (by decide), pk_us]
  have g1 : upd (upd (upd (upd a4 0 (-1)) 1 (-1)) 2 (-1)) 2 0 1 = -1 := by rw [pk_un (by decide), pk_un (by decide), pk_us]
  have g2 : upd (upd (upd (upd a4 0 (-1)) 1 (-1)) 2 (-1)) 2 0 2 = 0 := pk_us
  refine br_t (by decide) ⟨4, ?_⟩
  refine br_f (by decide) (nc_frn 0 (by decide) rfl g0 (nm_r (e' := 1) (by decide) ?_))
  refine br_f (by decide) (nc_frn 1 (by decide) rfl g1 (nm_r (e' := 2) (by decide) ?_))
  refine br_f (by decide) (nc_fr2 hq hr g0 g1 g2 (fun t t0 t1 => nm_r (e' := 3) (by decide) ?_))
  refine br_t (by decide) ⟨2, ?_⟩
  refine br_f (by decide) ⟨pk_in 0 42 (by decide), nm_r (nc_rd 0 t0) ⟨2, ?_⟩⟩
  refine br_f (by decide) (br_t rfl (nm_r (e' := 1) (by decide) ?_))
  refine br_t (by decide) (nm_r (e' := 1) (by decide) ?_)
  refine br_t (by decide) ?_
  exact nc_s196b g0 g1 g2 t1 (fun w w0 w1 w2 => H s t _ w hs w0 w1 w2)
theorem nc_on2 {post : Int32 → St2 → Prop} (hp : p < 10) (hq : q < 10) (hr : r < 10) (h : nc_Y p q r 1 = 0) (h' : nc_Y p q r 2 = 2)
    (H : ∀ s t u w, (∀ j, j < 3 → s j = nI (nc_Y p q r j)) → w 0 = 1 → w 1 = 0 → w 2 = 0 → post 1 (3, 0, 1, 1, tn, bn, nc_m p q r, s, t, u, w)) :
    wpX_solve post (3, 0, 1, bo, tn, bn, nc_m p q r, a2, a3, a4, a5) 0 1 := by
  unfold wpX_solve
  refine nc_fp hp hq hr (fun s hs => ?_)
  have e0 : s (0 : Int32).toNatClampNeg = nI 0 := nc_rd 0 (hs 0 (by decide))
  have e1 : s (1 : Int32).toNatClampNeg = nI 0 := nc_rd 1 (by rw [hs 1 (by decide), h])
  have e2 : s (2 : Int32).toNatClampNeg = nI 2 := nc_rd 2 (by rw [hs 2 (by decide), h'])
  refine ⟨pk_in 0 6 (by decide), pk_in 1 6 (by decide), br_t (e0.trans e1.symm) ⟨4, ?_⟩⟩
  refine br_f (by decide) ⟨pk_in 0 6 (by decide), nm_r (nc_wi 0 rfl) ⟨pk_in 0 6 (by decide), pk_in 0 6 (by decide), br_t rfl (br_t rfl (nm_r (e' := 1) (by decide) ?_))⟩⟩
  refine br_f (by decide) ⟨pk_in 1 6 (by decide), nm_r (nc_wi 1 rfl) ⟨pk_in 1 6 (by decide), pk_in 0 6 (by decide), br_t (e1.trans e0.symm) (br_f (by decide) (br_t rfl (nm_r (e' := 2) (by decide) ?_)))⟩⟩
  refine br_f (by decide) ⟨pk_in 2 6 (by decide), nm_r (nc_wi 2 rfl) ⟨pk_in 2 6 (by decide), pk_in 0 6 (by decide), br_f (by rw [e2, e0]; decide) (nm_r (e' := 3) (by decide) ?_)⟩⟩
  have g0 : upd (upd (upd a4 0 (-1)) 1 (-1)) 2 (-1) 0 = -1 := by rw [pk_un (by decide), pk_un (by decide), pk_us]
  have g1 : upd (upd (upd a4 0 (-1)) 1 (-1)) 2 (-1) 1 = -1 := by rw [pk_un (by decide), pk_us]
  have g2 : upd (upd (upd a4 0 (-1)) 1 (-1)) 2 (-1) 2 = -1 := pk_us
  refine br_t (by decide) ⟨4, ?_⟩
  refine br_f (by decide) (nc_frn 0 (by decide) rfl g0 (nm_r (e' := 1) (by decide) ?_))
  refine br_f (by decide) (nc_frn 1 (by decide) rfl g1 (nm_r (e' := 2) (by decide) ?_))
  refine br_f (by decide) (nc_frn 2 (by decide) rfl g2 (nm_r (e' := 3) (by decide) ?_))
  refine br_t (by decide) ⟨1, br_t (by decide) ?_⟩
  exact nc_s196a g0 g1 g2 (fun w w0 w1 w2 => H s _ _ w hs w0 w1 w2)
end
end
section
/-! ===== show, current, voltage ===== -/
theorem nc_half {x y : Nat} (h : y % x ≠ 0) (hx : x ≠ 0) : 2 * (x % (y % x)) < x := by
  have h1 : y % x < x := Nat.mod_lt _ (by omega)
  have h2 : x % (y % x) < y % x := Nat.mod_lt _ (by omega)
  have h3 := Nat.div_add_mod x (y % x)
  have h4 : 1 ≤ x / (y % x) := (Nat.le_div_iff_mul_le (by omega)).mpr (by omega)
  have h5 : y % x * 1 ≤ y % x * (x / (y % x)) := Nat.mul_le_mul_left _ h4
  omega
section
variable {bo tn bn : Int64} {p q r : Nat} {a1 a2 : Nat → Int32} {a3 : Nat → Int64} {a4 : Nat → Int32} {a5 : Nat → Int64}
theorem nc_sh20 {post : St2 → Prop} {x1 x3 : Int64} {g : Nat} (H : wX_show_55 post x1 x3 (lN g) 3 0 1 bo tn bn a1 a2 a3 a4 a5) :
    ∀ m c x y, Nat.gcd x y = g → x < 2 ^ m → x < 2 ^ 31 → y < 2 ^ 31 → c + 2 * m < 100 → wX_show_20 post x1 x3 3 0 1 bo tn bn a1 a2 a3 a4 a5 (2 * m + 1) (lN x) (lN y) (nI c)
  | 0, c, x, y, hg, hx, h1, h2, hc => by
    have e : x = 0 := by
      rw [Nat.pow_zero] at hx
      omega
    rw [e, Nat.gcd_zero_left] at hg
    rw [e, hg]
    exact br_f (nI_ge (b := 100) (by omega) (by decide)) (br_t rfl H)
  | m + 1, c, x, y, hg, hx, h1, h2, hc => by
    rw [show 2 * (m + 1) + 1 = 2 * m + 1 + 1 + 1 by omega]
    refine br_f (nI_ge (b := 100) (by omega) (by decide)) ?_
    by_cases e : x = 0
    · rw [e, Nat.gcd_zero_left] at hg
      rw [e, hg]
      exact br_t rfl H
    · have n1 := nc_l0 h1 e
      have b1 : y % x < x := Nat.mod_lt _ (by omega)
      refine br_f n1 ⟨n1, nm_r (pk_lRem (by omega) (by omega) (by omega)) (nm_r (nI_1 c) ?_)⟩
      have hg' : Nat.gcd (y % x) x = g := by rw [← Nat.gcd_rec]; exact hg
      refine br_f (nI_ge (b := 100) (by omega) (by decide)) ?_
      by_cases e2 : y % x = 0
      · rw [e2, Nat.gcd_zero_left] at hg'
        rw [e2, hg']
        exact br_t rfl H
      · have n2 := nc_l0 (show y % x < 2 ^ 31 by omega) e2
        have b2 := nc_half e2 e
        refine br_f n2 ⟨n2, nm_r (pk_lRem (by omega) (by omega) (by omega)) (nm_r (nI_1 (c + 1)) ?_)⟩
        have hp : 2 ^ (m + 1) = 2 ^ m * 2 := Nat.pow_succ 2 m
        exact nc_sh20 H m (c + 1 + 1) (x % (y % x)) (y % x) (by rw [← Nat.gcd_rec]; exact hg') (by omega) (by omega) (by omega) (by omega)
theorem nc_show {post : St2 → Prop} (T B : Nat) (hT : T < 1024) (hB : B < 1024) (hB0 : 0 < B) (H : post (3, 0, 1, bo, lN (T / Nat.gcd T B), lN (B / Nat.gcd T B), a1, a2, a3, a4, a5)) :
    wpX_show post (3, 0, 1, bo, tn, bn, a1, a2, a3, a4, a5) (lN T) (lN B) := by
  have hg : 0 < Nat.gcd T B := Nat.gcd_pos_of_pos_right T hB0
  have hg2 : Nat.gcd T B ≤ B := Nat.gcd_le_right T hB0
  have hgn : ¬ lN (Nat.gcd T B) = 0 := nc_l0 (by omega) (by omega)
  have h55 : wX_show_55 post (lN T) (lN B) (lN (Nat.gcd T B)) 3 0 1 bo tn bn a1 a2 a3 a4 a5 := by
    refine br_f (fun z => absurd ((lN_le (b := 0) (by omega) (by decide)).mp z) (by omega)) ?_
    exact ⟨hgn, nm_r (pk_lDiv (by omega) hg (by omega)) ⟨hgn, nm_r (pk_lDiv (by omega) hg (by omega)) H⟩⟩
  exact br_t ((lN_le (a := 0) (by decide) (by omega)).mpr (by omega)) ⟨2 * 10 + 1, nc_sh20 h55 10 0 T B rfl (by omega) (by omega) (by omega) (by decide)⟩
theorem nc_cf {post : Int64 → Prop} {z0 z1 z2 : Int64} (h0 : a5 0 = z0) (h1 : a5 1 = z1) (h2 : a5 2 = z2)
    (H : post (0 + (0 : Int32).toInt64 * (bo - z0) + (nI p).toInt64 * (bo - z1) + (nI r).toInt64 * (bo - z2))) : wpX_currentFrom post (3, 0, 1, bo, tn, bn, nc_m p q r, a2, a3, a4, a5) 0 := by
  have c0 : a5 (0 : Int32).toNatClampNeg = z0 := nc_rd 0 h0
  have c1 : a5 (1 : Int32).toNatClampNeg = z1 := nc_rd 1 h1
  have c2 : a5 (2 : Int32).toNatClampNeg = z2 := nc_rd 2 h2
  have m0 : nc_m p q r ((6 : Int32) * 0 + 0).toNatClampNeg = 0 := nc_rd 0 rfl
  have m1 : nc_m p q r ((6 : Int32) * 0 + 1).toNatClampNeg = nI p := nc_rd 1 rfl
  have m2 : nc_m p q r ((6 : Int32) * 0 + 2).toNatClampNeg = nI r := nc_rd 2 rfl
  refine ⟨4, br_f (by decide) ⟨pk_in 0 36 (by decide), pk_in 0 6 (by decide), nm_r (by rw [m0, c0]) (nm_r (e' := 1) (by decide) ?_)⟩⟩
  refine br_f (by decide) ⟨pk_in 1 36 (by decide), pk_in 1 6 (by decide), nm_r (by rw [m1, c1]) (nm_r (e' := 2) (by decide) ?_)⟩
  refine br_f (by decide) ⟨pk_in 2 36 (by decide), pk_in 2 6 (by decide), nm_r (by rw [m2, c2]) (nm_r (e' := 3) (by decide) ?_)⟩
  exact br_t (by decide) H
end
theorem nc_cv1 : ∀ p, p < 10 → ∀ q, q < 10 → ∀ r, r < 10 → 0 + (0 : Int32).toInt64 * (lN (q + r) - lN (q + r)) + (nI p).toInt64 * (lN (q + r) - 0) + (nI r).toInt64 * (lN (q + r) - lN r) = lN (p * q + q * r + r * p) := by decide +kernel
theorem nc_cv2 : ∀ p, p < 10 → 0 + (0 : Int32).toInt64 * (1 - 1) + (nI p).toInt64 * (1 - 0) + (nI 0).toInt64 * (1 - 0) = lN p := by decide +kernel
theorem nc_tb {p q r : Nat} (hp : p < 10) (hq : q < 10) (hr : r < 10) : p * q + q * r + r * p < 1024 := by
  have h1 := Nat.mul_le_mul (show p ≤ 9 by omega) (show q ≤ 9 by omega)
  have h2 := Nat.mul_le_mul (show q ≤ 9 by omega) (show r ≤ 9 by omega)
  have h3 := Nat.mul_le_mul (show r ≤ 9 by omega) (show p ≤ 9 by omega)
  omega
section
variable {bo tn bn : Int64} {p q r : Nat} {a2 : Nat → Int32} {a3 : Nat → Int64} {a4 : Nat → Int32} {a5 : Nat → Int64}
theorem nc_cu0 {post : St2 → Prop} (hp : p < 10) (hq : q < 10) (hr : r < 10) (h : nc_Y p q r 1 = 1) (H : ∀ b s t u w, post (3, 0, 1, b, 0, 1, nc_m p q r, s, t, u, w)) :
    wpX_current post (3, 0, 1, bo, tn, bn, nc_m p q r, a2, a3, a4, a5) := by
  unfold wpX_current
  exact nc_off hp hq hr h (fun s => br_t rfl (H _ _ _ _ _))
theorem nc_cu1 {post : St2 → Prop} (hp : p < 10) (hq : q < 10) (hr : r < 10) (h : nc_Y p q r 1 = 0) (h' : nc_Y p q r 2 = 0) (h0 : 0 < q + r)
    (H : ∀ b s t u w, post (3, 0, 1, b, lN ((p * q + q * r + r * p) / Nat.gcd (p * q + q * r + r * p) (q + r)), lN ((q + r) / Nat.gcd (p * q + q * r + r * p) (q + r)), nc_m p q r, s, t, u, w)) :
    wpX_current post (3, 0, 1, bo, tn, bn, nc_m p q r, a2, a3, a4, a5) := by
  unfold wpX_current
  refine nc_on1 hp hq hr h h' (fun s t u w hs w0 w1 w2 => br_f (by decide) (nc_cf w0 w1 w2 ?_))
  rw [nc_cv1 p hp q hq r hr]
  exact nc_show _ _ (nc_tb hp hq hr) (by omega) h0 (H _ _ _ _ _)
theorem nc_cu2 {post : St2 → Prop} (hp : p < 10) (hq : q < 10) (hr : r < 10) (h : nc_Y p q r 1 = 0) (h' : nc_Y p q r 2 = 2) (h0 : r = 0)
    (H : ∀ b s t u w, post (3, 0, 1, b, lN (p / Nat.gcd p 1), lN (1 / Nat.gcd p 1), nc_m p q r, s, t, u, w)) :
    wpX_current post (3, 0, 1, bo, tn, bn, nc_m p q r, a2, a3, a4, a5) := by
  unfold wpX_current
  refine nc_on2 hp hq hr h h' (fun s t u w hs w0 w1 w2 => br_f (by decide) (nc_cf w0 w1 w2 ?_))
  rw [show (nI r) = nI 0 by rw [h0], nc_cv2 p hp]
  exact nc_show p 1 (by omega) (by decide) (by decide) (H _ _ _ _ _)
theorem nc_vo0 {post : Int32 → St2 → Prop} (hp : p < 10) (hq : q < 10) (hr : r < 10) (h : nc_Y p q r 1 = 1) (H : ∀ b c d s t u w, post (-2) (3, 0, 1, b, c, d, nc_m p q r, s, t, u, w)) :
    wpX_voltage post (3, 0, 1, bo, tn, bn, nc_m p q r, a2, a3, a4, a5) 2 := by
  unfold wpX_voltage
  refine br_f (by decide) (br_f (by decide) (br_f (by decide) ?_))
  exact nc_off hp hq hr h (fun s => br_t rfl (H _ _ _ _ _ _ _))
theorem nc_vo1 {post : Int32 → St2 → Prop} (hp : p < 10) (hq : q < 10) (hr : r < 10) (h : nc_Y p q r 1 = 0) (h' : nc_Y p q r 2 = 0) (h0 : 0 < q + r)
    (H : ∀ b s t u w, post 0 (3, 0, 1, b, lN (r / Nat.gcd r (q + r)), lN ((q + r) / Nat.gcd r (q + r)), nc_m p q r, s, t, u, w)) :
    wpX_voltage post (3, 0, 1, bo, tn, bn, nc_m p q r, a2, a3, a4, a5) 2 := by
  unfold wpX_voltage
  refine br_f (by decide) (br_f (by decide) (br_f (by decide) ?_))
  refine nc_on1 hp hq hr h h' (fun s t u w hs w0 w1 w2 => br_f (by decide) ?_)
  have e0 : s (0 : Int32).toNatClampNeg = nI 0 := nc_rd 0 (hs 0 (by decide))
  have e2 : s (2 : Int32).toNatClampNeg = nI 0 := nc_rd 2 (by rw [hs 2 (by decide), h'])
  have c2 : w (2 : Int32).toNatClampNeg = lN r := nc_rd 2 w2
  refine ⟨pk_in 2 6 (by decide), pk_in 0 6 (by decide), br_t (e2.trans e0.symm) ⟨pk_in 2 6 (by decide), ?_⟩⟩
  rw [c2]
  exact nc_show _ _ (by omega) (by omega) h0 (H _ _ _ _ _)
theorem nc_vo2 {post : Int32 → St2 → Prop} (hp : p < 10) (hq : q < 10) (hr : r < 10) (h : nc_Y p q r 1 = 0) (h' : nc_Y p q r 2 = 2)
    (H : ∀ b c d s t u w, post (-3) (3, 0, 1, b, c, d, nc_m p q r, s, t, u, w)) : wpX_voltage post (3, 0, 1, bo, tn, bn, nc_m p q r, a2, a3, a4, a5) 2 := by
  unfold wpX_voltage
  refine br_f (by decide) (br_f (by decide) (br_f (by decide) ?_))
  refine nc_on2 hp hq hr h h' (fun s t u w hs w0 w1 w2 => br_f (by decide) ?_)
  have e0 : s (0 : Int32).toNatClampNeg = nI 0 := nc_rd 0 (hs 0 (by decide))
  have e2 : s (2 : Int32).toNatClampNeg = nI 2 := nc_rd 2 (by rw [hs 2 (by decide), h'])
  exact ⟨pk_in 2 6 (by decide), pk_in 0 6 (by decide), br_f (by rw [e2, e0]; decide) (H _ _ _ _ _ _ _)⟩
end
end
section
/-! ===== the law ===== -/
theorem nc_cross (T B : Nat) : lN (T / Nat.gcd T B) * lN B = lN T * lN (B / Nat.gcd T B) := by
  rw [lN_mul, lN_mul]
  have h : T / Nat.gcd T B * B = T * (B / Nat.gcd T B) := by
    rcases Nat.eq_zero_or_pos (Nat.gcd T B) with z | z
    · have h1 : T = 0 := Nat.eq_zero_of_gcd_eq_zero_left z
      have h2 : B = 0 := Nat.eq_zero_of_gcd_eq_zero_right z
      simp [h1, h2]
    · obtain ⟨a, ha⟩ := Nat.gcd_dvd_left T B
      obtain ⟨b, hb⟩ := Nat.gcd_dvd_right T B
      have h1 : T / Nat.gcd T B = a := Nat.div_eq_of_eq_mul_right z ha
      have h2 : B / Nat.gcd T B = b := Nat.div_eq_of_eq_mul_right z hb
      rw [h1, h2]
      calc a * B = a * (Nat.gcd T B * b) := by rw [← hb]
        _ = Nat.gcd T B * a * b := by rw [← Nat.mul_assoc, Nat.mul_comm a]
        _ = T * b := by rw [← ha]
  rw [h]
section
variable {bo tn bn : Int64} {p q r : Nat} {a2 : Nat → Int32} {a3 : Nat → Int64} {a4 : Nat → Int32} {a5 : Nat → Int64} {post : Int32 → St0 → Prop} {mc ms kc ks : Nat}
theorem nc_321 {y0 y1 : Int32} (z : Nat) (hz : y1 + y0 = nI z) (hz3 : z ≤ 3) (hb : nc_b p q r = if z = 3 then 0 else z) (hp : p < 10) (hq : q < 10) (hr : r < 10) (H : post 1 ()) :
    wL_lawOf_321 post mc ms y0 y1 kc ks 3 0 1 bo tn bn (nc_m p q r) a2 a3 a4 a5 := by
  unfold wL_lawOf_321
  refine nm_r hz (nc_br hp hq hr (fun s => pk_eq z 3 (fun e => ?_) (fun e => ?_)))
  · rw [if_pos e] at hb
    exact br_t (by rw [hb]; rfl) H
  · rw [if_neg e] at hb
    exact br_t (by rw [hb]) H
theorem nc_290 (hp : p < 10) (hq : q < 10) (hr : r < 10) (H : post 1 ()) : wL_lawOf_290 post mc ms (nI p) (nI q) (nI r) kc ks 3 0 1 bo tn bn (nc_m p q r) a2 a3 a4 a5 := by
  have hb := nc_b_eq p q r
  refine pk_le p 0 (fun h1 => pk_le q 0 (fun h2 => pk_le r 0 (fun h3 => ?_) (fun h3 => ?_)) (fun h2 => pk_le r 0 (fun h3 => ?_) (fun h3 => ?_))) (fun h1 => pk_le q 0 (fun h2 => pk_le r 0 (fun h3 => ?_) (fun h3 => ?_)) (fun h2 => pk_le r 0 (fun h3 => ?_) (fun h3 => ?_)))
  · exact nc_321 0 (by decide) (by decide) (by rw [hb]; simp [show ¬ 0 < p by omega, show ¬ 0 < q by omega, show ¬ 0 < r by omega]) hp hq hr H
  · exact nc_321 1 (by decide) (by decide) (by rw [hb]; simp [show ¬ 0 < p by omega, show ¬ 0 < q by omega, show 0 < r by omega]) hp hq hr H
  · exact nc_321 1 (by decide) (by decide) (by rw [hb]; simp [show ¬ 0 < p by omega, show 0 < q by omega, show ¬ 0 < r by omega]) hp hq hr H
  · exact nc_321 2 (by decide) (by decide) (by rw [hb]; simp [show ¬ 0 < p by omega, show 0 < q by omega, show 0 < r by omega]) hp hq hr H
  · exact nc_321 1 (by decide) (by decide) (by rw [hb]; simp [show 0 < p by omega, show ¬ 0 < q by omega, show ¬ 0 < r by omega]) hp hq hr H
  · exact nc_321 2 (by decide) (by decide) (by rw [hb]; simp [show 0 < p by omega, show ¬ 0 < q by omega, show 0 < r by omega]) hp hq hr H
  · exact nc_321 2 (by decide) (by decide) (by rw [hb]; simp [show 0 < p by omega, show 0 < q by omega, show ¬ 0 < r by omega]) hp hq hr H
  · exact nc_321 3 (by decide) (by decide) (by rw [hb]; simp [show 0 < p by omega, show 0 < q by omega, show 0 < r by omega]) hp hq hr H
/-- the probes are not joined -/
theorem nc_133 {x7 : Int64} (hp : p < 10) (hq : q < 10) (hr : r < 10) (h : nc_Y p q r 1 = 1) (H : post 1 ()) :
    wL_lawOf_133 post mc ms (nI p) (nI q) (nI r) x7 kc ks 3 0 1 bo tn bn (nc_m p q r) a2 a3 a4 a5 := by
  unfold wL_lawOf_133 wL_lawOf_134
  refine br_t rfl ?_
  unfold wL_lawOf_161
  refine br_t rfl ?_
  unfold wL_lawOf_185 wL_lawOf_186 wpX_currentTop
  refine nc_cu0 hp hq hr h (fun b s t u w => ?_)
  unfold wpX_currentBottom
  refine nc_cu0 hp hq hr h (fun b s t u w => br_t (by decide) ?_)
  unfold wpX_voltageTop
  refine nc_vo0 hp hq hr h (fun b c d s t u w => br_f (by decide) (br_t (by decide) ?_))
  exact br_t rfl (br_t rfl (nc_290 hp hq hr H))
/-- joined, the third point alone -/
theorem nc_129b {x7 : Int64} (hp : p < 10) (hq : q < 10) (hr : r < 10) (h : nc_Y p q r 1 = 0) (h' : nc_Y p q r 2 = 2) (h0 : q + r = 0) (H : post 1 ()) :
    wL_lawOf_129 post mc ms (nI p) (nI q) (nI r) x7 kc ks 3 0 1 bo tn bn (nc_m p q r) a2 a3 a4 a5 := by
  have eq : nI q + nI r = 0 := by rw [nI_add, h0]; rfl
  have le : nI q + nI r ≤ 0 := by rw [eq]; decide
  unfold wL_lawOf_129 wL_lawOf_134
  refine br_f (by decide) (br_t le ?_)
  unfold wL_lawOf_161
  refine br_f (by decide) (br_t le ?_)
  unfold wL_lawOf_185 wL_lawOf_186 wpX_currentTop
  refine nc_cu2 hp hq hr h h' (by omega) (fun b s t u w => ?_)
  unfold wpX_currentBottom
  refine nc_cu2 hp hq hr h h' (by omega) (fun b s t u w => br_t ?_ ?_)
  · rw [nI_l (by omega)]
    exact nc_cross p 1
  unfold wpX_voltageTop
  refine nc_vo2 hp hq hr h h' (fun b c d s t u w => br_f (by decide) (br_f (by decide) (br_f (by decide) ?_)))
  exact br_f (by decide) (br_t eq (br_t (by decide) (br_f (by decide) (br_t le (nc_290 hp hq hr H)))))
/-- joined, and the third point with them -/
theorem nc_129a (hp : p < 10) (hq : q < 10) (hr : r < 10) (h : nc_Y p q r 1 = 0) (h' : nc_Y p q r 2 = 0) (h0 : 0 < q + r) (H : post 1 ()) :
    wL_lawOf_129 post mc ms (nI p) (nI q) (nI r) (lN (p * q + q * r + r * p)) kc ks 3 0 1 bo tn bn (nc_m p q r) a2 a3 a4 a5 := by
  have ne : ¬ nI q + nI r = 0 := by rw [nI_add]; exact nI_ne0 h0 (by omega)
  have nle : ¬ nI q + nI r ≤ 0 := by rw [nI_add]; exact nI_nle h0 (by omega)
  have el : (nI q + nI r).toInt64 = lN (q + r) := by rw [nI_add, nI_l (by omega)]
  have er : (nI r).toInt64 = lN r := nI_l (by omega)
  unfold wL_lawOf_129 wL_lawOf_134
  refine br_f (by decide) (br_f nle ?_)
  unfold wL_lawOf_161
  refine br_f (by decide) (br_f nle ?_)
  unfold wL_lawOf_186 wpX_currentTop
  refine nc_cu1 hp hq hr h h' h0 (fun b s t u w => ?_)
  unfold wpX_currentBottom
  refine nc_cu1 hp hq hr h h' h0 (fun b s t u w => br_t ?_ ?_)
  · rw [el]
    exact nc_cross _ _
  unfold wpX_voltageTop
  refine nc_vo1 hp hq hr h h' h0 (fun b s t u w => br_t (by decide) ?_)
  have go : wL_lawOf_229 post mc ms (nI p) (nI q) (nI r) 1 (lN (r / Nat.gcd r (q + r))) kc ks 3 0 1 b (lN (r / Nat.gcd r (q + r))) (lN ((q + r) / Nat.gcd r (q + r))) (nc_m p q r) s t u w := by
    unfold wL_lawOf_229
    refine br_f (by decide) (br_f ne ?_)
    unfold wL_lawOf_253
    refine br_f (by decide) (br_f nle ?_)
    unfold wpX_voltageBottom
    refine nc_vo1 hp hq hr h h' h0 (fun b s t u w => br_t (by decide) (br_t ?_ (nc_290 hp hq hr H)))
    rw [el, er]
    exact nc_cross r (q + r)
  exact br_c (fun _ => go) (fun _ => br_f (by decide) go)
theorem nc_lo {x y z : Int32} (hx : ∃ p, p < 10 ∧ (x &&& 15) - (x &&& 15) / 10 * 10 = nI p) (hy : ∃ p, p < 10 ∧ (y &&& 15) - (y &&& 15) / 10 * 10 = nI p) (hz : ∃ p, p < 10 ∧ (z &&& 15) - (z &&& 15) / 10 * 10 = nI p) (H : post 1 ()) :
    wpL_lawOf post 6 107 () x y z := by
  obtain ⟨p, hp, ep⟩ := hx
  obtain ⟨q, hq, eq⟩ := hy
  obtain ⟨r, hr, er⟩ := hz
  unfold wpL_lawOf
  refine ⟨by decide, by decide, 5, 96, by decide, by decide, ?_⟩
  refine ⟨by decide, by decide, by decide, by decide, by decide, by decide, by decide, by decide, by decide, by decide, br_t (by decide) (br_t (by decide) ?_)⟩
  have d : ¬ (10 : Int32) = 0 := by decide
  refine ⟨d, nm_r ep ⟨d, nm_r eq ⟨d, nm_r er ?_⟩⟩⟩
  rw [nc_m0]
  refine nc_join (by decide) (by decide) (by decide) (by decide) (by decide) 1 6 rfl rfl (by decide) (by decide) hp (nc_u1 0 0 0 p) (fun _ => ?_)
  refine nc_join (by decide) (by decide) (by decide) (by decide) (by decide) 8 13 rfl rfl (by decide) (by decide) hq (nc_u8 p 0 0 q) (fun _ => ?_)
  refine nc_join (by decide) (by decide) (by decide) (by decide) (by decide) 12 2 rfl rfl (by decide) (by decide) hr (nc_u12 p q 0 r) (fun _ => ?_)
  have tb := nc_tb hp hq hr
  have tw : p * (q + r) < 1024 := by rw [Nat.mul_add]; have := Nat.mul_comm r p; omega
  refine nm_r (e' := lN (p * q + q * r + r * p)) (by rw [pk_mul, pk_mul, pk_mul, nI_add, nI_add, nI_l (by omega)]) ?_
  refine nc_trees hp hq hr (fun t => br_t rfl ?_)
  refine nc_tw hp hq hr (fun t => br_t (by rw [nI_add, pk_mul, nI_l (by omega)]) ?_)
  refine pk_lt 0 p (fun h1 => ?_) (fun h1 => pk_le q 0 (fun h2 => ?_) (fun h2 => pk_le r 0 (fun h3 => ?_) (fun h3 => ?_)))
  · by_cases h0 : q + r = 0
    · exact nc_129b hp hq hr (by simp [nc_Y, h1]) (by simp [nc_Y, show ¬ 0 < r by omega, show ¬ 0 < q by omega]) h0 H
    · exact nc_129a hp hq hr (by simp [nc_Y, h1]) (by
        rcases Nat.eq_zero_or_pos r with z | z
        · simp [nc_Y, h1, show 0 < q by omega]
        · simp [nc_Y, z]) (by omega) H
  · exact nc_133 hp hq hr (by simp [nc_Y, show ¬ 0 < p by omega, show ¬ 0 < q by omega]) H
  · exact nc_133 hp hq hr (by simp [nc_Y, show ¬ 0 < p by omega, show ¬ 0 < r by omega]) H
  · exact nc_129a hp hq hr (by simp [nc_Y, h2, h3]) (by simp [nc_Y, h3]) (by omega) H
end
theorem nc_dg (x : Int32) : ∃ p, p < 10 ∧ (x &&& 15) - (x &&& 15) / 10 * 10 = nI p := by
  obtain ⟨j, hj, ej⟩ := pk_andE x (m := 15) 4 (by decide)
  rw [ej]
  exact ⟨j % 10, Nat.mod_lt _ (by decide), pk_rem (d := 10) (by omega) (by decide) (by decide)⟩
theorem nc_cell {post : Int32 → Prop} {L : Nat} {xs : Nat → Int32} {x : Int32} (hL : L ≤ 3) (k : Nat) (hk : k < 3) (hx : x = nI k) (H : ∀ v, post v) : wpL_cellAt post L xs () x :=
  pk_le L k (fun _ => H _) (fun h => ⟨pk_in k L h hx, H _⟩) rfl hx
theorem i_vc (xs : Nat → Int32) (L : Nat) (hL : L ≤ 3) : wpL_law (fun r => r = 1) L xs := by
  unfold wpL_law
  refine nc_cell hL 0 (by decide) rfl (fun x => nc_cell hL 1 (by decide) rfl (fun y => nc_cell hL 2 (by decide) rfl (fun z => ?_)))
  exact ⟨6, 107, by decide, by decide, nc_lo (nc_dg x) (nc_dg y) (nc_dg z) rfl⟩
end
