section
/-! the base: n is 3 throughout; an index u * 6 + v -/
theorem tc_lt3 {v : Nat} (h : v < 3) : ¬ (3 : Int32) ≤ nI v := nI_ge (b := 3) h (by decide)
theorem tc_33 : (3 : Int32) ≤ nI 3 := nI_le (a := 3) (Nat.le_refl 3) (by decide)
theorem tc_ix (u v : Nat) : nI u * 6 + nI v = nI (u * 6 + v) := by
  show nI u * nI 6 + nI v = _
  rw [pk_mul, nI_add]
theorem tc_in {u v : Nat} (hu : u < 6) (hv : v < 6) : vp_in (nI u * 6 + nI v) 36 := by
  rw [tc_ix]
  exact vp_in_nI (by omega) (by decide)
theorem tc_cl {u v : Nat} (hu : u < 6) (hv : v < 6) : (nI u * 6 + nI v).toNatClampNeg = u * 6 + v := by
  rw [tc_ix]
  exact nI_clamp (by omega)
theorem tc_i6 {u : Nat} (hu : u < 6) : vp_in (nI u) 6 := vp_in_nI hu (by decide)
theorem tc_ne {u v : Nat} (hu : u < 6) (hv : v < 6) (h : u ≠ v) : ¬ nI u = nI v := fun z => h ((nI_eq (by omega) (by omega)).mp z)
theorem tc_fill {t : Nat → Int32} {i k : Nat} (hk : k = i) (h : ∀ j, j < i → t j = nI j) : ∀ j, j < i + 1 → upd t k (nI i) j = nI j := by
  intro j hj
  rw [hk]
  by_cases e : j = i
  · rw [e, pk_us]
  · rw [pk_un e]
    exact h j (by omega)
theorem tc_zero {t : Nat → Int64} {i k : Nat} (hk : k = i) (h : ∀ j, j < i → t j = 0) : ∀ j, j < i + 1 → vp_updL t k 0 j = 0 := by
  intro j hj
  rw [hk]
  by_cases e : j = i
  · rw [e, pk_uLs]
  · rw [pk_uLn e]
    exact h j (by omega)
/-! merging 2 into 1 -/
section
variable {post : St2 → Prop} {w s : Int32} {a1 a2 a3 : Nat → Int32} {a4 a5 : Nat → Int64} {a6 : Nat → Int32} {n u v : Nat}
theorem tc_merge (h0 : a3 0 = 0) (h1 : a3 1 = 1) (h2 : a3 2 = 2)
    (H : ∀ g : Nat → Int32, g 0 = 0 → g 1 = 1 → g 2 = 1 → post (3, w * a1 8, s, a1, a2, g, a4, a5, a6)) :
    wpX_mergeGroups post (3, w, s, a1, a2, a3, a4, a5, a6) (nI 1) (nI 2) := by
  refine ⟨tc_i6 (by decide), nm_r (e' := 1) h1 ⟨tc_i6 (by decide), nm_r (e' := 2) h2 (br_f (by decide) ⟨tc_in (by decide) (by decide), nm_e (br_f (by decide) (br_f (by decide) ⟨4, ?_⟩))⟩)⟩⟩
  refine br_f (by decide) ⟨tc_i6 (u := 0) (by decide), br_f (fun z => absurd (h0.symm.trans z) (by decide)) (nm_r (e' := 1) (by decide) ?_)⟩
  refine br_f (by decide) ⟨tc_i6 (u := 1) (by decide), br_f (fun z => absurd (h1.symm.trans z) (by decide)) (nm_r (e' := 2) (by decide) ?_)⟩
  refine br_f (by decide) ⟨tc_i6 (u := 2) (by decide), br_t h2 ⟨tc_i6 (u := 2) (by decide), nm_r (e' := upd a3 2 1) rfl (nm_r (e' := 3) (by decide) ?_)⟩⟩
  exact br_t (by decide) (H _ h0 h1 rfl)
/-! contract -/
theorem tc_c7 (H : ∀ g : Nat → Int32, g 0 = 0 → g 1 = 1 → g 2 = 2 → ∃ n, wX_contract_30 post n (nI 0) 3 w s a1 a2 g a4 a5 a6) : ∃ n, wX_contract_7 post 3 w s n 0 a1 a2 a3 a4 a5 a6 :=
  pk_loop (fun n i t => wX_contract_7 post 3 w s n (nI i) a1 a2 t a4 a5 a6) (fun i t => ∀ j, j < i → t j = nI j) 3 0 a3 (by omega) (fun j hj => absurd hj (by omega))
    (fun n t h => pk_le 3 3 (fun _ => H t (h 0 (by decide)) (h 1 (by decide)) (h 2 (by decide))) (fun z => absurd z (by omega)))
    (fun n i t hi h hw => pk_le 3 i (fun z => absurd z (by omega)) (fun _ => ⟨pk_in i 6 (by omega), nm_e (nm_r (nI_1 i) (hw _ (tc_fill (nI_clamp (by omega)) h)))⟩))
theorem tc_c30 (hu : u < 3) (h : ∃ fu, wX_contract_42 post (wX_contract_30 post n) (nI u) fu (nI (u + 1)) 3 w s a1 a2 a3 a4 a5 a6) : wX_contract_30 post (n + 1) (nI u) 3 w s a1 a2 a3 a4 a5 a6 :=
  br_f (tc_lt3 hu) (nm_r (nI_1 u) h)
theorem tc_c30e (h : post (3, w, s, a1, a2, a3, a4, a5, a6)) : wX_contract_30 post (n + 1) (nI 3) 3 w s a1 a2 a3 a4 a5 a6 :=
  br_t tc_33 h
variable {J : Int32 → Int32 → Int32 → Int32 → (Nat → Int32) → (Nat → Int32) → (Nat → Int32) → (Nat → Int64) → (Nat → Int64) → (Nat → Int32) → Prop}
theorem tc_c42e (h : J (nI (u + 1)) 3 w s a1 a2 a3 a4 a5 a6) : wX_contract_42 post J (nI u) (n + 1) (nI 3) 3 w s a1 a2 a3 a4 a5 a6 :=
  br_t tc_33 (nm_r (nI_1 u) h)
theorem tc_c42n (hu : u < 3) (hv : v < 3) (hm : ¬ a2 (u * 6 + v) = 1) (h : wX_contract_42 post J (nI u) n (nI (v + 1)) 3 w s a1 a2 a3 a4 a5 a6) : wX_contract_42 post J (nI u) (n + 1) (nI v) 3 w s a1 a2 a3 a4 a5 a6 :=
  br_f (tc_lt3 hv) ⟨tc_in (by omega) (by omega), br_f (by rw [tc_cl (by omega) (by omega)]; exact hm) (nm_r (nI_1 v) h)⟩
theorem tc_c42m (h0 : a3 0 = 0) (h1 : a3 1 = 1) (h2 : a3 2 = 2) (hm : a2 8 = 1)
    (H : ∀ g : Nat → Int32, g 0 = 0 → g 1 = 1 → g 2 = 1 → wX_contract_42 post J (nI 1) n (nI 3) 3 (w * a1 8) s a1 a2 g a4 a5 a6) : wX_contract_42 post J (nI 1) (n + 1) (nI 2) 3 w s a1 a2 a3 a4 a5 a6 :=
  br_f (tc_lt3 (by decide)) ⟨tc_in (by decide) (by decide), br_t (by rw [tc_cl (by decide) (by decide)]; exact hm) (tc_merge h0 h1 h2 (fun g g0 g1 g2 => nm_r (nI_1 2) (H g g0 g1 g2)))⟩
theorem tc_contract_n (m1 : ¬ a2 1 = 1) (m2 : ¬ a2 2 = 1) (m8 : ¬ a2 8 = 1)
    (H : ∀ g : Nat → Int32, g 0 = 0 → g 1 = 1 → g 2 = 2 → post (3, 1, s, a1, a2, g, a4, a5, a6)) :
    wpX_contract post (3, w, s, a1, a2, a3, a4, a5, a6) :=
  tc_c7 (fun g g0 g1 g2 => ⟨4, tc_c30 (n := 3) (u := 0) (by decide) ⟨3, tc_c42n (n := 2) (u := 0) (v := 1) (by decide) (by decide) m1 (tc_c42n (n := 1) (u := 0) (v := 2) (by decide) (by decide) m2 (tc_c42e (n := 0) (u := 0)
    (tc_c30 (n := 2) (u := 1) (by decide) ⟨2, tc_c42n (n := 1) (u := 1) (v := 2) (by decide) (by decide) m8 (tc_c42e (n := 0) (u := 1)
      (tc_c30 (n := 1) (u := 2) (by decide) ⟨1, tc_c42e (n := 0) (u := 2) (tc_c30e (n := 0) (H g g0 g1 g2))⟩))⟩)))⟩⟩)
theorem tc_contract_m (m1 : ¬ a2 1 = 1) (m2 : ¬ a2 2 = 1) (m8 : a2 8 = 1)
    (H : ∀ g : Nat → Int32, g 0 = 0 → g 1 = 1 → g 2 = 1 → post (3, 1 * a1 8, s, a1, a2, g, a4, a5, a6)) :
    wpX_contract post (3, w, s, a1, a2, a3, a4, a5, a6) :=
  tc_c7 (fun g g0 g1 g2 => ⟨4, tc_c30 (n := 3) (u := 0) (by decide) ⟨3, tc_c42n (n := 2) (u := 0) (v := 1) (by decide) (by decide) m1 (tc_c42n (n := 1) (u := 0) (v := 2) (by decide) (by decide) m2 (tc_c42e (n := 0) (u := 0)
    (tc_c30 (n := 2) (u := 1) (by decide) ⟨2, tc_c42m (n := 1) g0 g1 g2 m8 (fun k k0 k1 k2 => tc_c42e (n := 0) (u := 1)
      (tc_c30 (n := 1) (u := 2) (by decide) ⟨1, tc_c42e (n := 0) (u := 2) (tc_c30e (n := 0) (H k k0 k1 k2))⟩))⟩)))⟩⟩)
/-! contractWithout z -/
variable {z : Nat}
theorem tc_w7 (H : ∀ g : Nat → Int32, g 0 = 0 → g 1 = 1 → g 2 = 2 → ∃ n, wX_contractWithout_30 post (nI z) n (nI 0) 3 w s a1 a2 g a4 a5 a6) : ∃ n, wX_contractWithout_7 post (nI z) 3 w s n 0 a1 a2 a3 a4 a5 a6 :=
  pk_loop (fun n i t => wX_contractWithout_7 post (nI z) 3 w s n (nI i) a1 a2 t a4 a5 a6) (fun i t => ∀ j, j < i → t j = nI j) 3 0 a3 (by omega) (fun j hj => absurd hj (by omega))
    (fun n t h => pk_le 3 3 (fun _ => H t (h 0 (by decide)) (h 1 (by decide)) (h 2 (by decide))) (fun z => absurd z (by omega)))
    (fun n i t hi h hw => pk_le 3 i (fun z => absurd z (by omega)) (fun _ => ⟨pk_in i 6 (by omega), nm_e (nm_r (nI_1 i) (hw _ (tc_fill (nI_clamp (by omega)) h)))⟩))
theorem tc_w30 (hu : u < 3) (h : ∃ fu, wX_contractWithout_42 post (wX_contractWithout_30 post (nI z) n) (nI z) (nI u) fu (nI (u + 1)) 3 w s a1 a2 a3 a4 a5 a6) : wX_contractWithout_30 post (nI z) (n + 1) (nI u) 3 w s a1 a2 a3 a4 a5 a6 :=
  br_f (tc_lt3 hu) (nm_r (nI_1 u) h)
theorem tc_w30e (h : post (3, w, s, a1, a2, a3, a4, a5, a6)) : wX_contractWithout_30 post (nI z) (n + 1) (nI 3) 3 w s a1 a2 a3 a4 a5 a6 :=
  br_t tc_33 h
theorem tc_w42e (h : J (nI (u + 1)) 3 w s a1 a2 a3 a4 a5 a6) : wX_contractWithout_42 post J (nI z) (nI u) (n + 1) (nI 3) 3 w s a1 a2 a3 a4 a5 a6 :=
  br_t tc_33 (nm_r (nI_1 u) h)
theorem tc_w42s (hz : z < 3) (hu : u < 3) (hv : v < 3) (hs : u = z ∨ v = z) (h : wX_contractWithout_42 post J (nI z) (nI u) n (nI (v + 1)) 3 w s a1 a2 a3 a4 a5 a6) : wX_contractWithout_42 post J (nI z) (nI u) (n + 1) (nI v) 3 w s a1 a2 a3 a4 a5 a6 := by
  refine br_f (tc_lt3 hv) ?_
  by_cases e : u = z
  · exact br_t (by rw [e]) (nm_r (nI_1 v) h)
  · refine br_f (tc_ne (by omega) (by omega) e) (br_t ?_ (nm_r (nI_1 v) h))
    rcases hs with f | f
    · exact absurd f e
    · rw [f]
theorem tc_w42n (hz : z < 3) (hu : u < 3) (hv : v < 3) (hs : u ≠ z) (ht : v ≠ z) (hm : ¬ a2 (u * 6 + v) = 1) (h : wX_contractWithout_42 post J (nI z) (nI u) n (nI (v + 1)) 3 w s a1 a2 a3 a4 a5 a6) : wX_contractWithout_42 post J (nI z) (nI u) (n + 1) (nI v) 3 w s a1 a2 a3 a4 a5 a6 :=
  br_f (tc_lt3 hv) (br_f (tc_ne (by omega) (by omega) hs) (br_f (tc_ne (by omega) (by omega) ht) ⟨tc_in (by omega) (by omega), br_f (by rw [tc_cl (by omega) (by omega)]; exact hm) (nm_r (nI_1 v) h)⟩))
theorem tc_w42m (h0 : a3 0 = 0) (h1 : a3 1 = 1) (h2 : a3 2 = 2) (hm : a2 8 = 1)
    (H : ∀ g : Nat → Int32, g 0 = 0 → g 1 = 1 → g 2 = 1 → wX_contractWithout_42 post J (nI 0) (nI 1) n (nI 3) 3 (w * a1 8) s a1 a2 g a4 a5 a6) : wX_contractWithout_42 post J (nI 0) (nI 1) (n + 1) (nI 2) 3 w s a1 a2 a3 a4 a5 a6 :=
  br_f (tc_lt3 (by decide)) (br_f (by decide) (br_f (by decide) ⟨tc_in (by decide) (by decide), br_t (by rw [tc_cl (by decide) (by decide)]; exact hm) (tc_merge h0 h1 h2 (fun g g0 g1 g2 => nm_r (nI_1 2) (H g g0 g1 g2)))⟩))
theorem tc_without_0n (m8 : ¬ a2 8 = 1)
    (H : ∀ g : Nat → Int32, g 0 = 0 → g 1 = 1 → g 2 = 2 → post (3, 1, s, a1, a2, g, a4, a5, a6)) :
    wpX_contractWithout post (3, w, s, a1, a2, a3, a4, a5, a6) (nI 0) :=
  tc_w7 (z := 0) (fun g g0 g1 g2 => ⟨4, tc_w30 (n := 3) (u := 0) (by decide) ⟨3, tc_w42s (n := 2) (u := 0) (v := 1) (by decide) (by decide) (by decide) (Or.inl rfl) (tc_w42s (n := 1) (u := 0) (v := 2) (by decide) (by decide) (by decide) (Or.inl rfl) (tc_w42e (n := 0) (u := 0)
    (tc_w30 (n := 2) (u := 1) (by decide) ⟨2, tc_w42n (n := 1) (u := 1) (v := 2) (by decide) (by decide) (by decide) (by decide) (by decide) m8 (tc_w42e (n := 0) (u := 1)
      (tc_w30 (n := 1) (u := 2) (by decide) ⟨1, tc_w42e (n := 0) (u := 2) (tc_w30e (n := 0) (H g g0 g1 g2))⟩))⟩)))⟩⟩)
theorem tc_without_0m (m8 : a2 8 = 1)
    (H : ∀ g : Nat → Int32, g 0 = 0 → g 1 = 1 → g 2 = 1 → post (3, 1 * a1 8, s, a1, a2, g, a4, a5, a6)) :
    wpX_contractWithout post (3, w, s, a1, a2, a3, a4, a5, a6) (nI 0) :=
  tc_w7 (z := 0) (fun g g0 g1 g2 => ⟨4, tc_w30 (n := 3) (u := 0) (by decide) ⟨3, tc_w42s (n := 2) (u := 0) (v := 1) (by decide) (by decide) (by decide) (Or.inl rfl) (tc_w42s (n := 1) (u := 0) (v := 2) (by decide) (by decide) (by decide) (Or.inl rfl) (tc_w42e (n := 0) (u := 0)
    (tc_w30 (n := 2) (u := 1) (by decide) ⟨2, tc_w42m (n := 1) g0 g1 g2 m8 (fun k k0 k1 k2 => tc_w42e (n := 0) (u := 1)
      (tc_w30 (n := 1) (u := 2) (by decide) ⟨1, tc_w42e (n := 0) (u := 2) (tc_w30e (n := 0) (H k k0 k1 k2))⟩))⟩)))⟩⟩)
theorem tc_without_1 (m2 : ¬ a2 2 = 1)
    (H : ∀ g : Nat → Int32, g 0 = 0 → g 1 = 1 → g 2 = 2 → post (3, 1, s, a1, a2, g, a4, a5, a6)) :
    wpX_contractWithout post (3, w, s, a1, a2, a3, a4, a5, a6) (nI 1) :=
  tc_w7 (z := 1) (fun g g0 g1 g2 => ⟨4, tc_w30 (n := 3) (u := 0) (by decide) ⟨3, tc_w42s (n := 2) (u := 0) (v := 1) (by decide) (by decide) (by decide) (Or.inr rfl) (tc_w42n (n := 1) (u := 0) (v := 2) (by decide) (by decide) (by decide) (by decide) (by decide) m2 (tc_w42e (n := 0) (u := 0)
    (tc_w30 (n := 2) (u := 1) (by decide) ⟨2, tc_w42s (n := 1) (u := 1) (v := 2) (by decide) (by decide) (by decide) (Or.inl rfl) (tc_w42e (n := 0) (u := 1)
      (tc_w30 (n := 1) (u := 2) (by decide) ⟨1, tc_w42e (n := 0) (u := 2) (tc_w30e (n := 0) (H g g0 g1 g2))⟩))⟩)))⟩⟩)
end
end
section
/-! the degree matrix: a pure picture M of its places i * 6 + j, i and j below 3 -/
def tc_w (a1 a2 : Nat → Int32) (k : Nat) : Int64 := if a2 k = 0 then (a1 k).toInt64 else 0
def tc_add (M : Nat → Nat → Int64) (a b : Nat) (D : Int64) : Nat → Nat → Int64 := fun i j => if i = a then (if j = b then M a b - D else if j = a then M a a + D else M a j) else M i j
def tc_M (d : Nat → Int64) (M : Nat → Nat → Int64) : Prop := ∀ i j, i < 3 → j < 3 → d (i * 6 + j) = M i j
theorem tc_M_upd {d : Nat → Int64} {M : Nat → Nat → Int64} {a b : Nat} {D : Int64} (h : tc_M d M) (ha : a < 3) (hb : b < 3) (hab : a ≠ b) :
    tc_M (vp_updL (vp_updL d (a * 6 + b) (d (a * 6 + b) - D)) (a * 6 + a) (vp_updL d (a * 6 + b) (d (a * 6 + b) - D) (a * 6 + a) + D)) (tc_add M a b D) := by
  intro i j hi hj
  unfold tc_add
  by_cases e : i = a
  · subst e
    rw [if_pos rfl]
    by_cases f : j = b
    · subst f
      rw [if_pos rfl, pk_uLn (by omega), pk_uLs, h _ _ hi hj]
    · rw [if_neg f]
      by_cases g : j = i
      · subst g
        rw [if_pos rfl, pk_uLs, pk_uLn (by omega), h _ _ hi hj]
      · rw [if_neg g, pk_uLn (by omega), pk_uLn (by omega), h _ _ hi hj]
  · rw [if_neg e, pk_uLn (by omega), pk_uLn (by omega), h _ _ hi hj]
theorem tc_M_0 {d : Nat → Int64} {M : Nat → Nat → Int64} {a b : Nat} (h : tc_M d M) : tc_M d (tc_add M a b 0) := by
  intro i j hi hj
  unfold tc_add
  rw [Int64.sub_zero, Int64.add_zero, h i j hi hj]
  by_cases e : i = a
  · subst e
    rw [if_pos rfl]
    by_cases f : j = b
    · rw [if_pos f, f]
    · rw [if_neg f]
      by_cases g : j = i
      · rw [if_pos g, g]
      · rw [if_neg g]
  · rw [if_neg e]
section
variable {post : St2 → Prop} {w s : Int32} {a1 a2 a3 : Nat → Int32} {a4 a5 : Nat → Int64} {a6 : Nat → Int32} {n u v : Nat}
theorem tc_f2 (H : ∀ d : Nat → Int64, tc_M d (fun _ _ => 0) → ∃ n, wX_fillMatrix_23 post 3 w s n (nI 0) a1 a2 a3 d a5 a6) : ∃ n, wX_fillMatrix_2 post 3 w s n 0 a1 a2 a3 a4 a5 a6 :=
  pk_loop (fun n i t => wX_fillMatrix_2 post 3 w s n (nI i) a1 a2 a3 t a5 a6) (fun i t => ∀ j, j < i → t j = 0) 36 0 a4 (by omega) (fun j hj => absurd hj (by omega))
    (fun n t h => pk_le 36 36 (fun _ => H t (fun i j hi hj => h _ (by omega))) (fun z => absurd z (by omega)))
    (fun n i t hi h hw => pk_le 36 i (fun z => absurd z (by omega)) (fun _ => ⟨pk_in i 36 (by omega), nm_e (nm_r (nI_1 i) (hw _ (tc_zero (nI_clamp (by omega)) h)))⟩))
theorem tc_f23 (hu : u < 3) (h : ∃ fu, wX_fillMatrix_33 post (wX_fillMatrix_23 post 3 w s n) (nI u) 3 w s fu (nI 0) a1 a2 a3 a4 a5 a6) : wX_fillMatrix_23 post 3 w s (n + 1) (nI u) a1 a2 a3 a4 a5 a6 :=
  br_f (tc_lt3 hu) h
theorem tc_f23e (h : post (3, w, s, a1, a2, a3, a4, a5, a6)) : wX_fillMatrix_23 post 3 w s (n + 1) (nI 3) a1 a2 a3 a4 a5 a6 :=
  br_t tc_33 h
variable {J : Int32 → (Nat → Int32) → (Nat → Int32) → (Nat → Int32) → (Nat → Int64) → (Nat → Int64) → (Nat → Int32) → Prop}
theorem tc_f33e (h : J (nI (u + 1)) a1 a2 a3 a4 a5 a6) : wX_fillMatrix_33 post J (nI u) 3 w s (n + 1) (nI 3) a1 a2 a3 a4 a5 a6 :=
  br_t tc_33 (nm_r (nI_1 u) h)
theorem tc_f33s (a b : Nat) (hu : u < 3) (hv : v < 3) (ha : a < 3) (hb : b < 3) (hga : a3 u = nI a) (hgb : a3 v = nI b) (hs : u = v ∨ a = b)
    (h : wX_fillMatrix_33 post J (nI u) 3 w s n (nI (v + 1)) a1 a2 a3 a4 a5 a6) : wX_fillMatrix_33 post J (nI u) 3 w s (n + 1) (nI v) a1 a2 a3 a4 a5 a6 := by
  refine br_f (tc_lt3 hv) ⟨tc_i6 (by omega), nm_r (e' := nI a) (by rw [nI_clamp (by omega)]; exact hga) ⟨tc_i6 (by omega), nm_r (e' := nI b) (by rw [nI_clamp (by omega)]; exact hgb) ?_⟩⟩
  by_cases e : u = v
  · exact br_t (by rw [e]) (nm_r (nI_1 v) h)
  · refine br_f (tc_ne (by omega) (by omega) e) (br_t ?_ (nm_r (nI_1 v) h))
    rcases hs with f | f
    · exact absurd f e
    · rw [f]
theorem tc_f33 {M : Nat → Nat → Int64} (a b : Nat) (hM : tc_M a4 M) (hu : u < 3) (hv : v < 3) (ha : a < 3) (hb : b < 3) (hga : a3 u = nI a) (hgb : a3 v = nI b) (huv : u ≠ v) (hab : a ≠ b)
    (H : ∀ d : Nat → Int64, tc_M d (tc_add M a b (tc_w a1 a2 (u * 6 + v))) → wX_fillMatrix_33 post J (nI u) 3 w s n (nI (v + 1)) a1 a2 a3 d a5 a6) : wX_fillMatrix_33 post J (nI u) 3 w s (n + 1) (nI v) a1 a2 a3 a4 a5 a6 := by
  refine br_f (tc_lt3 hv) ⟨tc_i6 (by omega), nm_r (e' := nI a) (by rw [nI_clamp (by omega)]; exact hga) ⟨tc_i6 (by omega), nm_r (e' := nI b) (by rw [nI_clamp (by omega)]; exact hgb) ?_⟩⟩
  refine br_f (tc_ne (by omega) (by omega) huv) (br_f (tc_ne (by omega) (by omega) hab) ⟨tc_in (by omega) (by omega), ?_⟩)
  rw [tc_cl (u := u) (v := v) (by omega) (by omega), tc_cl (u := a) (v := b) (by omega) (by omega), tc_cl (u := a) (v := a) (by omega) (by omega)]
  by_cases hm : a2 (u * 6 + v) = 0
  · have e : tc_w a1 a2 (u * 6 + v) = (a1 (u * 6 + v)).toInt64 := if_pos hm
    rw [e] at H
    exact br_t hm ⟨tc_in (by omega) (by omega), tc_in (by omega) (by omega), tc_in (by omega) (by omega), nm_e ⟨tc_in (by omega) (by omega), tc_in (by omega) (by omega), tc_in (by omega) (by omega), nm_e (nm_r (nI_1 v) (H _ (tc_M_upd hM ha hb hab)))⟩⟩
  · have e : tc_w a1 a2 (u * 6 + v) = 0 := if_neg hm
    rw [e] at H
    exact br_f hm (nm_r (nI_1 v) (H _ (tc_M_0 hM)))
/-- the groups 0, 1, 2: edges X between 0 and 1, Y between 1 and 2 -/
theorem tc_fillA {X Y : Int64} (g0 : a3 0 = nI 0) (g1 : a3 1 = nI 1) (g2 : a3 2 = nI 2)
    (w1 : tc_w a1 a2 1 = X) (w6 : tc_w a1 a2 6 = X) (w2 : tc_w a1 a2 2 = 0) (w12 : tc_w a1 a2 12 = 0) (w8 : tc_w a1 a2 8 = Y) (w13 : tc_w a1 a2 13 = Y)
    (H : ∀ d : Nat → Int64, d 0 = X → d 7 = X + Y → d 8 = -Y → d 12 = 0 → d 13 = -Y → d 14 = Y → post (3, w, s, a1, a2, a3, d, a5, a6)) :
    wpX_fillMatrix post (3, w, s, a1, a2, a3, a4, a5, a6) := by
  refine tc_f2 (fun d0 h0 => ⟨4, tc_f23 (n := 3) (u := 0) (by decide) ⟨4, ?_⟩⟩)
  refine tc_f33s (n := 3) (v := 0) 0 0 (by decide) (by decide) (by decide) (by decide) g0 g0 (Or.inl rfl) ?_
  refine tc_f33 (n := 2) (v := 1) 0 1 h0 (by decide) (by decide) (by decide) (by decide) g0 g1 (by decide) (by decide) (fun d1 h1 => ?_)
  refine tc_f33 (n := 1) (v := 2) 0 2 h1 (by decide) (by decide) (by decide) (by decide) g0 g2 (by decide) (by decide) (fun d2 h2 => ?_)
  refine tc_f33e (n := 0) (tc_f23 (n := 2) (u := 1) (by decide) ⟨4, ?_⟩)
  refine tc_f33 (n := 3) (v := 0) 1 0 h2 (by decide) (by decide) (by decide) (by decide) g1 g0 (by decide) (by decide) (fun d3 h3 => ?_)
  refine tc_f33s (n := 2) (v := 1) 1 1 (by decide) (by decide) (by decide) (by decide) g1 g1 (Or.inl rfl) ?_
  refine tc_f33 (n := 1) (v := 2) 1 2 h3 (by decide) (by decide) (by decide) (by decide) g1 g2 (by decide) (by decide) (fun d4 h4 => ?_)
  refine tc_f33e (n := 0) (tc_f23 (n := 1) (u := 2) (by decide) ⟨4, ?_⟩)
  refine tc_f33 (n := 3) (v := 0) 2 0 h4 (by decide) (by decide) (by decide) (by decide) g2 g0 (by decide) (by decide) (fun d5 h5 => ?_)
  refine tc_f33 (n := 2) (v := 1) 2 1 h5 (by decide) (by decide) (by decide) (by decide) g2 g1 (by decide) (by decide) (fun d6 h6 => ?_)
  refine tc_f33s (n := 1) (v := 2) 2 2 (by decide) (by decide) (by decide) (by decide) g2 g2 (Or.inl rfl) ?_
  refine tc_f33e (n := 0) (tc_f23e (n := 0) ?_)
  have h : tc_M d6 (tc_add (tc_add (tc_add (tc_add (tc_add (tc_add (fun _ _ => 0) 0 1 (tc_w a1 a2 1)) 0 2 (tc_w a1 a2 2)) 1 0 (tc_w a1 a2 6)) 1 2 (tc_w a1 a2 8)) 2 0 (tc_w a1 a2 12)) 2 1 (tc_w a1 a2 13)) := h6
  rw [w1, w2, w6, w8, w12, w13] at h
  have e0 : d6 0 = 0 + X + 0 := h 0 0 (by decide) (by decide)
  have e7 : d6 7 = 0 + X + Y := h 1 1 (by decide) (by decide)
  have e8 : d6 8 = 0 - Y := h 1 2 (by decide) (by decide)
  have e12 : d6 12 = 0 - 0 := h 2 0 (by decide) (by decide)
  have e13 : d6 13 = 0 - Y := h 2 1 (by decide) (by decide)
  have e14 : d6 14 = 0 + 0 + Y := h 2 2 (by decide) (by decide)
  refine H d6 ?_ ?_ ?_ ?_ ?_ ?_
  · rw [e0, Int64.add_zero, Int64.zero_add]
  · rw [e7, Int64.zero_add]
  · rw [e8, Int64.zero_sub]
  · rw [e12, Int64.sub_zero]
  · rw [e13, Int64.zero_sub]
  · rw [e14, Int64.add_zero, Int64.zero_add]
/-- the groups 0, 1, 1 -/
theorem tc_fillB {X : Int64} (g0 : a3 0 = nI 0) (g1 : a3 1 = nI 1) (g2 : a3 2 = nI 1)
    (w6 : tc_w a1 a2 6 = X) (w12 : tc_w a1 a2 12 = 0)
    (H : ∀ d : Nat → Int64, d 7 = X → post (3, w, s, a1, a2, a3, d, a5, a6)) :
    wpX_fillMatrix post (3, w, s, a1, a2, a3, a4, a5, a6) := by
  refine tc_f2 (fun d0 h0 => ⟨4, tc_f23 (n := 3) (u := 0) (by decide) ⟨4, ?_⟩⟩)
  refine tc_f33s (n := 3) (v := 0) 0 0 (by decide) (by decide) (by decide) (by decide) g0 g0 (Or.inl rfl) ?_
  refine tc_f33 (n := 2) (v := 1) 0 1 h0 (by decide) (by decide) (by decide) (by decide) g0 g1 (by decide) (by decide) (fun d1 h1 => ?_)
  refine tc_f33 (n := 1) (v := 2) 0 1 h1 (by decide) (by decide) (by decide) (by decide) g0 g2 (by decide) (by decide) (fun d2 h2 => ?_)
  refine tc_f33e (n := 0) (tc_f23 (n := 2) (u := 1) (by decide) ⟨4, ?_⟩)
  refine tc_f33 (n := 3) (v := 0) 1 0 h2 (by decide) (by decide) (by decide) (by decide) g1 g0 (by decide) (by decide) (fun d3 h3 => ?_)
  refine tc_f33s (n := 2) (v := 1) 1 1 (by decide) (by decide) (by decide) (by decide) g1 g1 (Or.inl rfl) ?_
  refine tc_f33s (n := 1) (v := 2) 1 1 (by decide) (by decide) (by decide) (by decide) g1 g2 (Or.inr rfl) ?_
  refine tc_f33e (n := 0) (tc_f23 (n := 1) (u := 2) (by decide) ⟨4, ?_⟩)
  refine tc_f33 (n := 3) (v := 0) 1 0 h3 (by decide) (by decide) (by decide) (by decide) g2 g0 (by decide) (by decide) (fun d4 h4 => ?_)
  refine tc_f33s (n := 2) (v := 1) 1 1 (by decide) (by decide) (by decide) (by decide) g2 g1 (Or.inr rfl) ?_
  refine tc_f33s (n := 1) (v := 2) 1 1 (by decide) (by decide) (by decide) (by decide) g2 g2 (Or.inl rfl) ?_
  refine tc_f33e (n := 0) (tc_f23e (n := 0) ?_)
  have h : tc_M d4 (tc_add (tc_add (tc_add (tc_add (fun _ _ => 0) 0 1 (tc_w a1 a2 1)) 0 1 (tc_w a1 a2 2)) 1 0 (tc_w a1 a2 6)) 1 0 (tc_w a1 a2 12)) := h4
  rw [w6, w12] at h
  have e7 : d4 7 = 0 + X + 0 := h 1 1 (by decide) (by decide)
  exact H d4 (by rw [e7, Int64.add_zero, Int64.zero_add])
/-! dropFromMatrix z -/
variable {z : Nat}
theorem tc_dres (h : wX_dropFromMatrix_2 post (nI z) 3 w s n (nI (v + 1)) a1 a2 a3 a4 a5 a6) (hv : v < 3) (hz : v = z) : wX_dropFromMatrix_2 post (nI z) 3 w s (n + 1) (nI v) a1 a2 a3 a4 a5 a6 :=
  br_f (tc_lt3 hv) (br_t (by rw [hz]) (nm_r (nI_1 v) h))
theorem tc_dstep (hv : v < 3) (hz : z < 3) (hvz : v ≠ z) (h : wX_dropFromMatrix_2 post (nI z) 3 w s n (nI (v + 1)) a1 a2 a3 (vp_updL a4 (v * 6 + v) (a4 (v * 6 + v) + a4 (v * 6 + z))) a5 a6) : wX_dropFromMatrix_2 post (nI z) 3 w s (n + 1) (nI v) a1 a2 a3 a4 a5 a6 := by
  refine br_f (tc_lt3 hv) (br_f (tc_ne (by omega) (by omega) hvz) ⟨tc_in (by omega) (by omega), tc_in (by omega) (by omega), tc_in (by omega) (by omega), nm_e ?_⟩)
  rw [tc_cl (u := v) (v := v) (by omega) (by omega), tc_cl (u := v) (v := z) (by omega) (by omega)]
  exact nm_r (nI_1 v) h
theorem tc_drop0 (H : ∀ d : Nat → Int64, d 14 = a4 14 + a4 12 → post (3, w, s, a1, a2, a3, d, a5, a6)) : wpX_dropFromMatrix post (3, w, s, a1, a2, a3, a4, a5, a6) (nI 0) :=
  ⟨4, tc_dres (n := 3) (v := 0) (z := 0) (tc_dstep (n := 2) (v := 1) (by decide) (by decide) (by decide) (tc_dstep (n := 1) (v := 2) (by decide) (by decide) (by decide) (br_t tc_33 (H _ rfl)))) (by decide) rfl⟩
theorem tc_drop1 (H : ∀ d : Nat → Int64, d 14 = a4 14 + a4 13 → post (3, w, s, a1, a2, a3, d, a5, a6)) : wpX_dropFromMatrix post (3, w, s, a1, a2, a3, a4, a5, a6) (nI 1) :=
  ⟨4, tc_dstep (n := 3) (v := 0) (z := 1) (by decide) (by decide) (by decide) (tc_dres (n := 2) (v := 1) (tc_dstep (n := 1) (v := 2) (by decide) (by decide) (by decide) (br_t tc_33 (H _ rfl))) (by decide) rfl)⟩
/-! cutOut p q -/
variable {p q t : Nat}
theorem tc_k7s (hp : p < 3) (hq : q < 3) (hv : v < 3) (hs : ¬ a3 v = nI v ∨ v = p ∨ v = q) (h : wX_cutOut_7 post (nI p) (nI q) 3 w n (nI (v + 1)) s a1 a2 a3 a4 a5 a6) : wX_cutOut_7 post (nI p) (nI q) 3 w (n + 1) (nI v) s a1 a2 a3 a4 a5 a6 := by
  refine br_f (tc_lt3 hv) ⟨tc_i6 (by omega), ?_⟩
  rw [nI_clamp (show v < 2 ^ 31 by omega)]
  by_cases e : a3 v = nI v
  · refine br_t e ?_
    by_cases f : v = p
    · exact br_t (by rw [f]) (nm_r (nI_1 v) h)
    · refine br_f (tc_ne (by omega) (by omega) f) (br_t ?_ (nm_r (nI_1 v) h))
      rcases hs with g | g | g
      · exact absurd e g
      · exact absurd g f
      · rw [g]
  · exact br_f e (nm_r (nI_1 v) h)
theorem tc_k7k (hp : p < 3) (hq : q < 3) (hv : v < 3) (ht : t < 3) (hg : a3 v = nI v) (hvp : v ≠ p) (hvq : v ≠ q) (h : wX_cutOut_7 post (nI p) (nI q) 3 w n (nI (v + 1)) (nI (t + 1)) a1 a2 a3 a4 a5 (upd a6 t (nI v))) : wX_cutOut_7 post (nI p) (nI q) 3 w (n + 1) (nI v) (nI t) a1 a2 a3 a4 a5 a6 := by
  refine br_f (tc_lt3 hv) ⟨tc_i6 (by omega), ?_⟩
  rw [nI_clamp (show v < 2 ^ 31 by omega), nI_clamp (show t < 2 ^ 31 by omega)]
  exact br_t hg (br_f (tc_ne (by omega) (by omega) hvp) (br_f (tc_ne (by omega) (by omega) hvq) ⟨tc_i6 (by omega), nm_e (nm_r (nI_1 t) (nm_r (nI_1 v) h))⟩))
theorem tc_k7e (h : ∃ fu, wX_cutOut_63 post 3 w s fu (nI 0) a1 a2 a3 a4 a5 a6) : wX_cutOut_7 post (nI p) (nI q) 3 w (n + 1) (nI 3) s a1 a2 a3 a4 a5 a6 :=
  br_t tc_33 h
theorem tc_k63 (ht : t < 3) (hv : v < t) (h : ∃ fu, wX_cutOut_74 post (wX_cutOut_63 post 3 w (nI t) n) (nI v) 3 w (nI t) fu (nI 0) a1 a2 a3 a4 a5 a6) : wX_cutOut_63 post 3 w (nI t) (n + 1) (nI v) a1 a2 a3 a4 a5 a6 :=
  br_f (nI_ge hv (by omega)) h
theorem tc_k63e (ht : t < 3) (h : post (3, w, nI t, a1, a2, a3, a4, a5, a6)) : wX_cutOut_63 post 3 w (nI t) (n + 1) (nI t) a1 a2 a3 a4 a5 a6 :=
  br_t (nI_le (Nat.le_refl t) (by omega)) h
theorem tc_k74e (ht : t < 3) (h : J (nI (u + 1)) a1 a2 a3 a4 a5 a6) : wX_cutOut_74 post J (nI u) 3 w (nI t) (n + 1) (nI t) a1 a2 a3 a4 a5 a6 :=
  br_t (nI_le (Nat.le_refl t) (by omega)) (nm_r (nI_1 u) h)
theorem tc_k74 (k l : Nat) (ht : t < 3) (hu : u < t) (hv : v < t) (hk : a6 u = nI k) (hl : a6 v = nI l) (hk3 : k < 3) (hl3 : l < 3) (h : wX_cutOut_74 post J (nI u) 3 w (nI t) n (nI (v + 1)) a1 a2 a3 a4 (vp_updL a5 (u * 6 + v) (a4 (k * 6 + l))) a6) : wX_cutOut_74 post J (nI u) 3 w (nI t) (n + 1) (nI v) a1 a2 a3 a4 a5 a6 := by
  refine br_f (nI_ge hv (by omega)) ⟨tc_i6 (by omega), tc_i6 (by omega), ?_⟩
  rw [nI_clamp (show u < 2 ^ 31 by omega), nI_clamp (show v < 2 ^ 31 by omega), hk, hl, tc_cl (u := k) (v := l) (by omega) (by omega), tc_cl (u := u) (v := v) (by omega) (by omega)]
  exact ⟨tc_in (by omega) (by omega), tc_in (by omega) (by omega), nm_e (nm_r (nI_1 v) h)⟩
/-- nothing kept -/
theorem tc_cp0 (H : post (3, w, 0, a1, a2, a3, a4, a5, a6)) : ∃ fu, wX_cutOut_63 post 3 w 0 fu (nI 0) a1 a2 a3 a4 a5 a6 :=
  ⟨1, tc_k63e (n := 0) (t := 0) (by decide) H⟩
/-- one kept: k -/
theorem tc_cp1 (k : Nat) (hk3 : k < 3) (hk : a6 0 = nI k) (H : ∀ f : Nat → Int64, f 0 = a4 (k * 6 + k) → post (3, w, 1, a1, a2, a3, a4, f, a6)) : ∃ fu, wX_cutOut_63 post 3 w (nI 1) fu (nI 0) a1 a2 a3 a4 a5 a6 :=
  ⟨2, tc_k63 (n := 1) (t := 1) (v := 0) (by decide) (by decide) ⟨2, tc_k74 (n := 1) (t := 1) (u := 0) (v := 0) k k (by decide) (by decide) (by decide) hk hk hk3 hk3 (tc_k74e (n := 0) (t := 1) (u := 0) (by decide) (tc_k63e (n := 0) (t := 1) (by decide) (H _ rfl)))⟩⟩
/-- two kept: 1 and 2 -/
theorem tc_cp2 (hk : a6 0 = nI 1) (hl : a6 1 = nI 2) (H : ∀ f : Nat → Int64, f 0 = a4 7 → f 1 = a4 8 → f 6 = a4 13 → f 7 = a4 14 → post (3, w, 2, a1, a2, a3, a4, f, a6)) : ∃ fu, wX_cutOut_63 post 3 w (nI 2) fu (nI 0) a1 a2 a3 a4 a5 a6 :=
  ⟨3, tc_k63 (n := 2) (t := 2) (v := 0) (by decide) (by decide) ⟨3, tc_k74 (n := 2) (t := 2) (u := 0) (v := 0) 1 1 (by decide) (by decide) (by decide) hk hk (by decide) (by decide) (tc_k74 (n := 1) (t := 2) (u := 0) (v := 1) 1 2 (by decide) (by decide) (by decide) hk hl (by decide) (by decide) (tc_k74e (n := 0) (t := 2) (u := 0) (by decide)
    (tc_k63 (n := 1) (t := 2) (v := 1) (by decide) (by decide) ⟨3, tc_k74 (n := 2) (t := 2) (u := 1) (v := 0) 2 1 (by decide) (by decide) (by decide) hl hk (by decide) (by decide) (tc_k74 (n := 1) (t := 2) (u := 1) (v := 1) 2 2 (by decide) (by decide) (by decide) hl hl (by decide) (by decide) (tc_k74e (n := 0) (t := 2) (u := 1) (by decide)
      (tc_k63e (n := 0) (t := 2) (by decide) (H _ rfl rfl rfl rfl))))⟩)))⟩⟩
/-- groups 0, 1, 2; cut 0 -/
theorem tc_cut00A (g0 : a3 0 = nI 0) (g1 : a3 1 = nI 1) (g2 : a3 2 = nI 2) (H : ∀ (f : Nat → Int64) (c : Nat → Int32), f 0 = a4 7 → f 1 = a4 8 → f 6 = a4 13 → f 7 = a4 14 → post (3, w, 2, a1, a2, a3, a4, f, c)) : wpX_cutOut post (3, w, s, a1, a2, a3, a4, a5, a6) (nI 0) (nI 0) :=
  ⟨4, tc_k7s (n := 3) (v := 0) (by decide) (by decide) (by decide) (Or.inr (Or.inl rfl)) (tc_k7k (n := 2) (v := 1) (t := 0) (by decide) (by decide) (by decide) (by decide) g1 (by decide) (by decide) (tc_k7k (n := 1) (v := 2) (t := 1) (by decide) (by decide) (by decide) (by decide) g2 (by decide) (by decide) (tc_k7e (n := 0) (tc_cp2 rfl rfl (fun f => H f _)))))⟩
/-- groups 0, 1, 1; cut 0 -/
theorem tc_cut00B (g0 : a3 0 = nI 0) (g1 : a3 1 = nI 1) (g2 : a3 2 = nI 1) (H : ∀ (f : Nat → Int64) (c : Nat → Int32), f 0 = a4 7 → post (3, w, 1, a1, a2, a3, a4, f, c)) : wpX_cutOut post (3, w, s, a1, a2, a3, a4, a5, a6) (nI 0) (nI 0) :=
  ⟨4, tc_k7s (n := 3) (v := 0) (by decide) (by decide) (by decide) (Or.inr (Or.inl rfl)) (tc_k7k (n := 2) (v := 1) (t := 0) (by decide) (by decide) (by decide) (by decide) g1 (by decide) (by decide) (tc_k7s (n := 1) (v := 2) (by decide) (by decide) (by decide) (Or.inl (by rw [g2]; decide)) (tc_k7e (n := 0) (tc_cp1 1 (by decide) rfl (fun f => H f _)))))⟩
/-- groups 0, 1, 2; cut 1 and 0, or 0 and 1 -/
theorem tc_cut10A (g0 : a3 0 = nI 0) (g1 : a3 1 = nI 1) (g2 : a3 2 = nI 2) (H : ∀ (f : Nat → Int64) (c : Nat → Int32), f 0 = a4 14 → post (3, w, 1, a1, a2, a3, a4, f, c)) : wpX_cutOut post (3, w, s, a1, a2, a3, a4, a5, a6) (nI 1) (nI 0) :=
  ⟨4, tc_k7s (n := 3) (v := 0) (by decide) (by decide) (by decide) (Or.inr (Or.inr rfl)) (tc_k7s (n := 2) (v := 1) (by decide) (by decide) (by decide) (Or.inr (Or.inl rfl)) (tc_k7k (n := 1) (v := 2) (t := 0) (by decide) (by decide) (by decide) (by decide) g2 (by decide) (by decide) (tc_k7e (n := 0) (tc_cp1 2 (by decide) rfl (fun f => H f _)))))⟩
theorem tc_cut01A (g0 : a3 0 = nI 0) (g1 : a3 1 = nI 1) (g2 : a3 2 = nI 2) (H : ∀ (f : Nat → Int64) (c : Nat → Int32), f 0 = a4 14 → post (3, w, 1, a1, a2, a3, a4, f, c)) : wpX_cutOut post (3, w, s, a1, a2, a3, a4, a5, a6) (nI 0) (nI 1) :=
  ⟨4, tc_k7s (n := 3) (v := 0) (by decide) (by decide) (by decide) (Or.inr (Or.inl rfl)) (tc_k7s (n := 2) (v := 1) (by decide) (by decide) (by decide) (Or.inr (Or.inr rfl)) (tc_k7k (n := 1) (v := 2) (t := 0) (by decide) (by decide) (by decide) (by decide) g2 (by decide) (by decide) (tc_k7e (n := 0) (tc_cp1 2 (by decide) rfl (fun f => H f _)))))⟩
/-- groups 0, 1, 1; cut 1 and 0 -/
theorem tc_cut10B (g0 : a3 0 = nI 0) (g1 : a3 1 = nI 1) (g2 : a3 2 = nI 1) (H : post (3, w, 0, a1, a2, a3, a4, a5, a6)) : wpX_cutOut post (3, w, s, a1, a2, a3, a4, a5, a6) (nI 1) (nI 0) :=
  ⟨4, tc_k7s (n := 3) (v := 0) (by decide) (by decide) (by decide) (Or.inr (Or.inr rfl)) (tc_k7s (n := 2) (v := 1) (by decide) (by decide) (by decide) (Or.inr (Or.inl rfl)) (tc_k7s (n := 1) (v := 2) (by decide) (by decide) (by decide) (Or.inl (by rw [g2]; decide)) (tc_k7e (n := 0) (tc_cp0 H))))⟩
/-- groups 0, 1, 2; cut 1 and 2 -/
theorem tc_cut12A (g0 : a3 0 = nI 0) (g1 : a3 1 = nI 1) (g2 : a3 2 = nI 2) (H : ∀ (f : Nat → Int64) (c : Nat → Int32), f 0 = a4 0 → post (3, w, 1, a1, a2, a3, a4, f, c)) : wpX_cutOut post (3, w, s, a1, a2, a3, a4, a5, a6) (nI 1) (nI 2) :=
  ⟨4, tc_k7k (n := 3) (v := 0) (t := 0) (by decide) (by decide) (by decide) (by decide) g0 (by decide) (by decide) (tc_k7s (n := 2) (v := 1) (by decide) (by decide) (by decide) (Or.inr (Or.inl rfl)) (tc_k7s (n := 1) (v := 2) (by decide) (by decide) (by decide) (Or.inr (Or.inr rfl)) (tc_k7e (n := 0) (tc_cp1 0 (by decide) rfl (fun f => H f _)))))⟩
end
end
section
/-! the determinant, sizes 0, 1, 2 -/
section
variable {w s : Int32} {a1 a2 a3 : Nat → Int32} {a4 a5 : Nat → Int64} {a6 : Nat → Int32} {n : Nat}
theorem tc_v {i : Int32} {N : Nat} (h : 0 ≤ i.toInt ∧ i.toInt < N) : vp_in i N := vp_in_iff.mpr h
theorem tc_det0 {post : Int64 → St2 → Prop} (H : post 1 (3, w, 0, a1, a2, a3, a4, a5, a6)) : wpX_determinant post (3, w, 0, a1, a2, a3, a4, a5, a6) := by
  refine ⟨1, br_t (by decide) ?_⟩
  have e : (1 : Int64) * 1 = 1 := by decide
  rw [e]
  exact H
theorem tc_det1 {post : Int64 → St2 → Prop} (H : post (a5 0) (3, w, 1, a1, a2, a3, a4, a5, a6)) : wpX_determinant post (3, w, 1, a1, a2, a3, a4, a5, a6) := by
  refine ⟨2, br_f (by decide) ⟨2, br_f (by decide) ⟨tc_v (by decide), br_c (fun hz => ?_) (fun hz => ?_)⟩⟩⟩
  · refine nm_r (e' := 1) (by decide) (br_t (by decide) (br_f (by decide) ?_))
    have hz' : a5 0 = 0 := hz
    rw [hz'] at H
    exact H
  · refine br_t (by decide) (br_t rfl ?_)
    refine ⟨tc_v (by decide), nm_e (nm_r (e' := 1) (by decide) ⟨1, br_t (by decide) ⟨tc_v (by decide), nm_r (e' := a5 0) rfl (nm_r (e' := 1) (by decide) (br_t (by decide) ?_))⟩⟩)⟩
    rw [Int64.one_mul]
    exact H
theorem tc_dk1 {post : Int64 → St2 → Prop} {g b : Int64} (H : post (g * a5 7) (3, w, 2, a1, a2, a3, a4, a5, a6)) : wX_determinant_7 post (n + 2) g b 1 3 w 2 a1 a2 a3 a4 a5 a6 := by
  refine br_f (by decide) ⟨2, br_f (by decide) ⟨tc_v (by decide), br_c (fun hz => ?_) (fun hz => ?_)⟩⟩
  · refine nm_r (e' := 2) (by decide) (br_t (by decide) (br_f (by decide) ?_))
    have hz' : a5 7 = 0 := hz
    rw [hz', Int64.mul_zero] at H
    exact H
  · refine br_t (by decide) (br_t rfl ?_)
    exact ⟨tc_v (by decide), nm_e (nm_r (e' := 2) (by decide) ⟨1, br_t (by decide) ⟨tc_v (by decide), nm_r (e' := a5 7) rfl (nm_r (e' := 2) (by decide) (br_t (by decide) H))⟩⟩)⟩
theorem tc_el {post : St2 → Prop} (H : ∀ f : Nat → Int64, f 0 = a5 0 → f 7 = a5 7 * a5 0 - a5 6 * a5 1 → post (3, w, 2, a1, a2, a3, a4, f, a6)) : wpX_eliminate post (3, w, 2, a1, a2, a3, a4, a5, a6) 0 1 := by
  refine ⟨tc_v (by decide), nm_r (e' := a5 0) rfl (nm_r (e' := 1) (by decide) ⟨2, br_f (by decide) (nm_r (e' := 1) (by decide) ⟨2, ?_⟩)⟩)⟩
  refine br_f (by decide) ⟨tc_v (by decide), tc_v (by decide), tc_v (by decide), nm_r (e' := a5 7 * a5 0 - a5 6 * a5 1) rfl (br_f (by decide) ⟨by decide, tc_v (by decide), nm_r (e' := vp_updL a5 7 (a5 7 * a5 0 - a5 6 * a5 1)) ?_ (nm_r (e' := 2) (by decide) (br_t (by decide) (nm_r (e' := 2) (by decide) (br_t (by decide) (H _ rfl rfl)))))⟩)⟩
  rw [Int64.div_one]
  rfl
theorem tc_sw {post : St2 → Prop} (H : ∀ f : Nat → Int64, f 0 = a5 6 → f 6 = a5 0 → f 1 = a5 7 → f 7 = a5 1 → post (3, w, 2, a1, a2, a3, a4, f, a6)) : wpX_swapRows post (3, w, 2, a1, a2, a3, a4, a5, a6) 1 0 := by
  refine ⟨3, br_f (by decide) ⟨tc_v (by decide), nm_r (e' := a5 6) rfl ⟨tc_v (by decide), tc_v (by decide), nm_r (e' := vp_updL a5 6 (a5 0)) rfl ⟨tc_v (by decide), nm_r (e' := vp_updL (vp_updL a5 6 (a5 0)) 0 (a5 6)) rfl (nm_r (e' := 1) (by decide) ?_)⟩⟩⟩⟩
  exact br_f (by decide) ⟨tc_v (by decide), nm_r (e' := a5 7) rfl ⟨tc_v (by decide), tc_v (by decide), nm_r (e' := vp_updL (vp_updL (vp_updL a5 6 (a5 0)) 0 (a5 6)) 7 (a5 1)) rfl ⟨tc_v (by decide), nm_r (e' := vp_updL (vp_updL (vp_updL (vp_updL a5 6 (a5 0)) 0 (a5 6)) 7 (a5 1)) 1 (a5 7)) rfl (nm_r (e' := 2) (by decide) (br_t (by decide) (H _ rfl rfl rfl rfl)))⟩⟩⟩
theorem tc_ring1 (a b c d : Int64) : (-1) * (b * c - a * d) = d * a - c * b := by grind
theorem tc_det2 {post : Int64 → St2 → Prop} (H : ∀ f : Nat → Int64, post (a5 7 * a5 0 - a5 6 * a5 1) (3, w, 2, a1, a2, a3, a4, f, a6)) : wpX_determinant post (3, w, 2, a1, a2, a3, a4, a5, a6) := by
  refine ⟨3, br_f (by decide) ⟨3, br_f (by decide) ⟨tc_v (by decide), br_c (fun hz => ?_) (fun hz => ?_)⟩⟩⟩
  · have hz' : a5 0 = 0 := hz
    refine nm_r (e' := 1) (by decide) (br_f (by decide) ⟨tc_v (by decide), br_c (fun hy => ?_) (fun hy => ?_)⟩)
    · have hy' : a5 6 = 0 := hy
      refine nm_r (e' := 2) (by decide) (br_t (by decide) (br_f (by decide) ?_))
      have e : a5 7 * a5 0 - a5 6 * a5 1 = 0 := by rw [hz', hy', Int64.mul_zero, Int64.zero_mul, Int64.sub_zero]
      rw [e] at H
      exact H a5
    · refine br_t (by decide) (br_f (by decide) (tc_sw (fun f f0 f6 f1 f7 => nm_r (e' := -1) (by decide) ?_)))
      refine tc_el (fun g g0 g7 => ⟨tc_v (by decide), nm_r (e' := g 0) rfl (nm_r (e' := 1) (by decide) (tc_dk1 (n := 0) ?_))⟩)
      rw [g7, f7, f0, f6, f1, tc_ring1]
      exact H g
  · refine br_t (by decide) (br_t rfl (tc_el (fun g g0 g7 => ⟨tc_v (by decide), nm_r (e' := g 0) rfl (nm_r (e' := 1) (by decide) (tc_dk1 (n := 0) ?_))⟩)))
    rw [Int64.one_mul, g7]
    exact H g
end
end
section
/-! the picture: edges x between 0 and 1, y between 1 and 2; modes p of 01, q of 02, m of 12 -/
def tc_P (x y p q m : Int32) (a1 a2 : Nat → Int32) : Prop := (a1 1 = x ∧ a1 6 = x ∧ a1 8 = y ∧ a1 13 = y ∧ a1 2 = 0 ∧ a1 12 = 0) ∧ (a2 1 = p ∧ a2 6 = p ∧ a2 2 = q ∧ a2 12 = q ∧ a2 8 = m ∧ a2 13 = m)
def tc_T (x y p m : Int32) : Int32 := if p = 0 then (if m = 2 then 0 else x * y) else 0
theorem tc_wv {a1 a2 : Nat → Int32} {k : Nat} {e m : Int32} (h1 : a1 k = e) (h2 : a2 k = m) : tc_w a1 a2 k = if m = 0 then e.toInt64 else 0 := by
  unfold tc_w
  rw [h1, h2]
theorem tc_w0 {a1 a2 : Nat → Int32} {k : Nat} (h1 : a1 k = 0) : tc_w a1 a2 k = 0 := by
  unfold tc_w
  rw [h1]
  by_cases h : a2 k = 0
  · rw [if_pos h]
    decide
  · rw [if_neg h]
theorem tc_ring2 (X Y : Int64) : Y * (X + Y) - (-Y) * (-Y) = X * Y := by grind
section
variable {w s : Int32} {a1 a2 a3 : Nat → Int32} {a4 a5 : Nat → Int64} {a6 : Nat → Int32} {n : Nat} {x y p q m : Int32} {X Y : Int64}
theorem tc_countN {post : Int32 → St2 → Prop} (m1 : ¬ a2 1 = 1) (m2 : ¬ a2 2 = 1) (m8 : ¬ a2 8 = 1)
    (w1 : tc_w a1 a2 1 = X) (w6 : tc_w a1 a2 6 = X) (w2 : tc_w a1 a2 2 = 0) (w12 : tc_w a1 a2 12 = 0) (w8 : tc_w a1 a2 8 = Y) (w13 : tc_w a1 a2 13 = Y)
    (H : ∀ (w s : Int32) (f3 : Nat → Int32) (f4 f5 : Nat → Int64) (f6 : Nat → Int32), post (X * Y).toInt32 (3, w, s, a1, a2, f3, f4, f5, f6)) : wpX_count post (3, w, s, a1, a2, a3, a4, a5, a6) := by
  unfold wpX_count
  refine tc_contract_n m1 m2 m8 (fun g g0 g1 g2 => br_f (by decide) (tc_fillA (X := X) (Y := Y) g0 g1 g2 w1 w6 w2 w12 w8 w13 (fun d d0 d7 d8 d12 d13 d14 => tc_cut00A g0 g1 g2 (fun f c f0 f1 f6 f7 => tc_det2 (fun f' => ?_)))))
  show post ((1 : Int32).toInt64 * (f 7 * f 0 - f 6 * f 1)).toInt32 _
  rw [f7, f0, f6, f1, d14, d7, d13, d8, tc_ring2, show (1 : Int32).toInt64 = 1 from by decide, Int64.one_mul]
  exact H _ _ _ _ _ _
theorem tc_countM {post : Int32 → St2 → Prop} (m1 : ¬ a2 1 = 1) (m2 : ¬ a2 2 = 1) (m8 : a2 8 = 1)
    (w6 : tc_w a1 a2 6 = X) (w12 : tc_w a1 a2 12 = 0)
    (H : ∀ (w s : Int32) (f3 : Nat → Int32) (f4 f5 : Nat → Int64) (f6 : Nat → Int32), post (a1 8 * X.toInt32) (3, w, s, a1, a2, f3, f4, f5, f6)) : wpX_count post (3, w, s, a1, a2, a3, a4, a5, a6) := by
  unfold wpX_count
  refine tc_contract_m m1 m2 m8 (fun g g0 g1 g2 => br_c (fun z => ?_) (fun z => tc_fillB (X := X) g0 g1 g2 w6 w12 (fun d d7 => tc_cut00B g0 g1 g2 (fun f c f0 => tc_det1 ?_))))
  · rw [Int32.one_mul] at z
    rw [z, Int32.zero_mul] at H
    exact H _ _ _ _ _ _
  · show post ((1 * a1 8).toInt64 * f 0).toInt32 _
    rw [f0, d7, Int64.toInt32_mul, Int32.toInt32_toInt64, Int32.one_mul]
    exact H _ _ _ _ _ _
theorem tc_count {post : Int32 → St2 → Prop} (hP : tc_P x y p q m a1 a2) (hp : p = 0 ∨ p = 2) (hq : q = 0 ∨ q = 2) (hm : m = 0 ∨ m = 1 ∨ m = 2)
    (H : ∀ (w s : Int32) (f3 : Nat → Int32) (f4 f5 : Nat → Int64) (f6 : Nat → Int32), post (tc_T x y p m) (3, w, s, a1, a2, f3, f4, f5, f6)) : wpX_count post (3, w, s, a1, a2, a3, a4, a5, a6) := by
  obtain ⟨⟨e1, e6, e8, e13, e2, e12⟩, ⟨k1, k6, k2, k12, k8, k13⟩⟩ := hP
  have m1 : ¬ a2 1 = 1 := by
    rw [k1]
    rcases hp with h | h <;> rw [h] <;> decide
  have m2 : ¬ a2 2 = 1 := by
    rw [k2]
    rcases hq with h | h <;> rw [h] <;> decide
  have w1 := tc_wv e1 k1
  have w6 := tc_wv e6 k6
  have w8 := tc_wv e8 k8
  have w13 := tc_wv e13 k13
  by_cases hm1 : m = 1
  · refine tc_countM m1 m2 (by rw [k8, hm1]) w6 (tc_w0 e12) ?_
    have e : a1 8 * (if p = 0 then x.toInt64 else 0).toInt32 = tc_T x y p m := by
      unfold tc_T
      rw [e8, hm1, if_neg (show ¬ (1 : Int32) = 2 from by decide)]
      by_cases h : p = 0
      · rw [if_pos h, if_pos h, Int32.toInt32_toInt64, Int32.mul_comm]
      · rw [if_neg h, if_neg h, show (0 : Int64).toInt32 = 0 from by decide, Int32.mul_zero]
    rw [e]
    exact H
  · refine tc_countN m1 m2 (by rw [k8]; exact hm1) w1 w6 (tc_w0 e2) (tc_w0 e12) w8 w13 ?_
    have e : ((if p = 0 then x.toInt64 else 0) * (if m = 0 then y.toInt64 else 0)).toInt32 = tc_T x y p m := by
      unfold tc_T
      by_cases h : p = 0
      · rw [if_pos h, if_pos h]
        rcases hm with g | g | g
        · rw [g, if_pos rfl, if_neg (show ¬ (0 : Int32) = 2 from by decide), Int64.toInt32_mul, Int32.toInt32_toInt64, Int32.toInt32_toInt64]
        · exact absurd g hm1
        · rw [g, if_neg (show ¬ (2 : Int32) = 0 from by decide), if_pos rfl, Int64.mul_zero]
          decide
      · rw [if_neg h, if_neg h, Int64.zero_mul]
        decide
    rw [e]
    exact H
theorem tc_setMode {post : St2 → Prop} {u v : Nat} {e : Int32} (hu : u < 3) (hv : v < 3) (H : post (3, w, s, a1, upd (upd a2 (u * 6 + v) e) (v * 6 + u) e, a3, a4, a5, a6)) : wpX_setMode post (3, w, s, a1, a2, a3, a4, a5, a6) (nI u) (nI v) e :=
  ⟨tc_in (by omega) (by omega), nm_r (e' := upd a2 (u * 6 + v) e) (by rw [tc_cl (by omega) (by omega)]) ⟨tc_in (by omega) (by omega), nm_r (e' := upd (upd a2 (u * 6 + v) e) (v * 6 + u) e) (by rw [tc_cl (by omega) (by omega)]) H⟩⟩
theorem tc_T2 : tc_T x y 0 m - tc_T x y 2 m = tc_T x y 0 m := by
  rw [show tc_T x y 2 m = 0 from rfl, Int32.sub_zero]
theorem tc_cu01 {post : Int32 → St2 → Prop} (hP : tc_P x y 0 0 m a1 a2) (hm : m = 0 ∨ m = 1 ∨ m = 2)
    (H : ∀ (w s : Int32) (b2 f3 : Nat → Int32) (f4 f5 : Nat → Int64) (f6 : Nat → Int32), tc_P x y 0 0 m a1 b2 → post (tc_T x y 0 m) (3, w, s, a1, b2, f3, f4, f5, f6)) : wpX_countUsing post (3, w, s, a1, a2, a3, a4, a5, a6) (nI 0) (nI 1) := by
  obtain ⟨he, ⟨k1, k6, k2, k12, k8, k13⟩⟩ := id hP
  refine ⟨tc_in (by decide) (by decide), nm_r (e' := 0) (by rw [tc_cl (by decide) (by decide)]; exact k1) (br_f (by decide) (tc_count hP (Or.inl rfl) (Or.inl rfl) hm (fun w s f3 f4 f5 f6 => br_f (by decide) ?_)))⟩
  refine tc_setMode (u := 0) (v := 1) (by decide) (by decide) (tc_count (x := x) (y := y) (p := 2) (q := 0) (m := m) ⟨he, rfl, rfl, k2, k12, k8, k13⟩ (Or.inr rfl) (Or.inl rfl) hm (fun w s f3 f4 f5 f6 => tc_setMode (u := 0) (v := 1) (by decide) (by decide) ?_))
  show post (tc_T x y 0 m - tc_T x y 2 m) _
  rw [tc_T2]
  exact H _ _ _ _ _ _ _ ⟨he, rfl, rfl, k2, k12, k8, k13⟩
theorem tc_cu02 {post : Int32 → St2 → Prop} (hP : tc_P x y 0 0 m a1 a2) (hm : m = 0 ∨ m = 1 ∨ m = 2)
    (H : ∀ (w s : Int32) (b2 f3 : Nat → Int32) (f4 f5 : Nat → Int64) (f6 : Nat → Int32), tc_P x y 0 0 m a1 b2 → post 0 (3, w, s, a1, b2, f3, f4, f5, f6)) : wpX_countUsing post (3, w, s, a1, a2, a3, a4, a5, a6) (nI 0) (nI 2) := by
  obtain ⟨he, ⟨k1, k6, k2, k12, k8, k13⟩⟩ := id hP
  refine ⟨tc_in (by decide) (by decide), nm_r (e' := 0) (by rw [tc_cl (by decide) (by decide)]; exact k2) (br_f (by decide) (tc_count hP (Or.inl rfl) (Or.inl rfl) hm (fun w s f3 f4 f5 f6 => br_f (by decide) ?_)))⟩
  refine tc_setMode (u := 0) (v := 2) (by decide) (by decide) (tc_count (x := x) (y := y) (p := 0) (q := 2) (m := m) ⟨he, k1, k6, rfl, rfl, k8, k13⟩ (Or.inl rfl) (Or.inr rfl) hm (fun w s f3 f4 f5 f6 => tc_setMode (u := 0) (v := 2) (by decide) (by decide) ?_))
  show post (tc_T x y 0 m - tc_T x y 0 m) _
  rw [Int32.sub_self]
  exact H _ _ _ _ _ _ _ ⟨he, k1, k6, rfl, rfl, k8, k13⟩
theorem tc_cu12 {post : Int32 → St2 → Prop} (hP : tc_P x y 0 0 m a1 a2) (hm : m = 0 ∨ m = 1 ∨ m = 2)
    (H : ∀ (w s : Int32) (b2 f3 : Nat → Int32) (f4 f5 : Nat → Int64) (f6 : Nat → Int32), tc_P x y 0 0 m a1 b2 → post (tc_T x y 0 m) (3, w, s, a1, b2, f3, f4, f5, f6)) : wpX_countUsing post (3, w, s, a1, a2, a3, a4, a5, a6) (nI 1) (nI 2) := by
  obtain ⟨he, ⟨k1, k6, k2, k12, k8, k13⟩⟩ := id hP
  refine ⟨tc_in (by decide) (by decide), nm_r (e' := m) (by rw [tc_cl (by decide) (by decide)]; exact k8) (br_c (fun h2 => ?_) (fun h2 => tc_count hP (Or.inl rfl) (Or.inl rfl) hm (fun w s f3 f4 f5 f6 => br_c (fun h1 => H _ _ _ _ _ _ _ hP) (fun h1 => ?_))))⟩
  · have e : tc_T x y 0 m = 0 := by rw [h2]; rfl
    rw [e] at H
    exact H _ _ _ _ _ _ _ hP
  · have h0 : m = 0 := by
      rcases hm with h | h | h
      · exact h
      · exact absurd h h1
      · exact absurd h h2
    refine tc_setMode (u := 1) (v := 2) (by decide) (by decide) (tc_count (x := x) (y := y) (p := 0) (q := 0) (m := 2) ⟨he, k1, k6, k2, k12, rfl, rfl⟩ (Or.inl rfl) (Or.inl rfl) (Or.inr (Or.inr rfl)) (fun w s f3 f4 f5 f6 => tc_setMode (u := 1) (v := 2) (by decide) (by decide) ?_))
    show post (tc_T x y 0 m - tc_T x y 0 2) _
    rw [show tc_T x y 0 2 = 0 from rfl, Int32.sub_zero]
    exact H _ _ _ _ _ _ _ ⟨he, k1, k6, k2, k12, rfl, rfl⟩
theorem tc_cu21 {post : Int32 → St2 → Prop} (hP : tc_P x y 0 0 m a1 a2) (hm : m = 0 ∨ m = 1 ∨ m = 2)
    (H : ∀ (w s : Int32) (b2 f3 : Nat → Int32) (f4 f5 : Nat → Int64) (f6 : Nat → Int32), tc_P x y 0 0 m a1 b2 → post (tc_T x y 0 m) (3, w, s, a1, b2, f3, f4, f5, f6)) : wpX_countUsing post (3, w, s, a1, a2, a3, a4, a5, a6) (nI 2) (nI 1) := by
  obtain ⟨he, ⟨k1, k6, k2, k12, k8, k13⟩⟩ := id hP
  refine ⟨tc_in (by decide) (by decide), nm_r (e' := m) (by rw [tc_cl (by decide) (by decide)]; exact k13) (br_c (fun h2 => ?_) (fun h2 => tc_count hP (Or.inl rfl) (Or.inl rfl) hm (fun w s f3 f4 f5 f6 => br_c (fun h1 => H _ _ _ _ _ _ _ hP) (fun h1 => ?_))))⟩
  · have e : tc_T x y 0 m = 0 := by rw [h2]; rfl
    rw [e] at H
    exact H _ _ _ _ _ _ _ hP
  · have h0 : m = 0 := by
      rcases hm with h | h | h
      · exact h
      · exact absurd h h1
      · exact absurd h h2
    refine tc_setMode (u := 2) (v := 1) (by decide) (by decide) (tc_count (x := x) (y := y) (p := 0) (q := 0) (m := 2) ⟨he, k1, k6, k2, k12, rfl, rfl⟩ (Or.inl rfl) (Or.inl rfl) (Or.inr (Or.inr rfl)) (fun w s f3 f4 f5 f6 => tc_setMode (u := 2) (v := 1) (by decide) (by decide) ?_))
    show post (tc_T x y 0 m - tc_T x y 0 2) _
    rw [show tc_T x y 0 2 = 0 from rfl, Int32.sub_zero]
    exact H _ _ _ _ _ _ _ ⟨he, k1, k6, k2, k12, rfl, rfl⟩
end
end
section
/-! hanging, leaf -/
section
variable {w s : Int32} {a1 a2 a3 : Nat → Int32} {a4 a5 : Nat → Int64} {a6 : Nat → Int32} {n : Nat} {x y p q m : Int32} {X Y : Int64}
theorem tc_must0 {post : Int32 → Prop} (h6 : ¬ a2 6 = 1) (h12 : ¬ a2 12 = 1) (H : post 0) : wpX_mustAt post (3, w, s, a1, a2, a3, a4, a5, a6) (nI 0) :=
  ⟨4, br_f (by decide) (br_t (by decide) (nm_r (e' := 1) (by decide) (br_f (by decide) (br_f (by decide) ⟨tc_v (by decide), br_f h6 (nm_r (e' := 2) (by decide) (br_f (by decide) (br_f (by decide) ⟨tc_v (by decide), br_f h12 (nm_r (e' := 3) (by decide) (br_t (by decide) H))⟩)))⟩))))⟩
theorem tc_must1n {post : Int32 → Prop} (h1 : ¬ a2 1 = 1) (h13 : ¬ a2 13 = 1) (H : post 0) : wpX_mustAt post (3, w, s, a1, a2, a3, a4, a5, a6) (nI 1) :=
  ⟨4, br_f (by decide) (br_f (by decide) ⟨tc_v (by decide), br_f h1 (nm_r (e' := 1) (by decide) (br_f (by decide) (br_t (by decide) (nm_r (e' := 2) (by decide) (br_f (by decide) (br_f (by decide) ⟨tc_v (by decide), br_f h13 (nm_r (e' := 3) (by decide) (br_t (by decide) H))⟩))))))⟩)⟩
theorem tc_must1m {post : Int32 → Prop} (h1 : ¬ a2 1 = 1) (h13 : a2 13 = 1) (H : post 1) : wpX_mustAt post (3, w, s, a1, a2, a3, a4, a5, a6) (nI 1) :=
  ⟨4, br_f (by decide) (br_f (by decide) ⟨tc_v (by decide), br_f h1 (nm_r (e' := 1) (by decide) (br_f (by decide) (br_t (by decide) (nm_r (e' := 2) (by decide) (br_f (by decide) (br_f (by decide) ⟨tc_v (by decide), br_t h13 (nm_r (e' := 1) (by decide) (nm_r (e' := 3) (by decide) (br_t (by decide) H)))⟩))))))⟩)⟩
theorem tc_cutc {post : St2 → Prop} {st : St2} {c d : Int32} (p q : Nat) (hc : c = nI p) (hd : d = nI q) (h : wpX_cutOut post st (nI p) (nI q)) : wpX_cutOut post st c d := by
  rw [hc, hd]
  exact h
theorem tc_val1 (y e : Int32) : ((1 * y).toInt64 * 1 * e.toInt64).toInt32 = y * e := by
  rw [Int64.mul_one, Int64.toInt32_mul, Int32.toInt32_toInt64, Int32.toInt32_toInt64, Int32.one_mul]
theorem tc_val2 (Y : Int64) (e : Int32) : ((1 : Int32).toInt64 * Y * e.toInt64).toInt32 = Y.toInt32 * e := by
  rw [show (1 : Int32).toInt64 = 1 from by decide, Int64.one_mul, Int64.toInt32_mul, Int32.toInt32_toInt64]
/-- hanging at 0, on u -/
theorem tc_h50_0 {post : Int32 → St2 → Prop} {u : Nat} {e : Int32} (hu : u < 3) (hP : tc_P x y 0 0 m a1 a2) (hm : m = 0 ∨ m = 1 ∨ m = 2) (he : a1 (u * 6 + 0) = e)
    (H : ∀ (w s : Int32) (f3 : Nat → Int32) (f4 f5 : Nat → Int64) (f6 : Nat → Int32), post ((if m = 2 then 0 else y) * e) (3, w, s, a1, a2, f3, f4, f5, f6)) : wX_hanging_50 post (nI 0) (nI u) 3 w s a1 a2 a3 a4 a5 a6 := by
  obtain ⟨⟨e1, e6, e8, e13, e2, e12⟩, ⟨k1, k6, k2, k12, k8, k13⟩⟩ := hP
  unfold wX_hanging_50
  by_cases hm1 : m = 1
  · rw [if_neg (show ¬ m = 2 by rw [hm1]; decide)] at H
    refine tc_without_0m (by rw [k8, hm1]) (fun g g0 g1 g2 => br_c (fun z => ?_) (fun z => tc_fillB g0 g1 g2 (tc_wv e6 k6) (tc_w0 e12) (fun d d7 => tc_drop0 (fun d' _ => br_t (by decide) (tc_cutc 1 0 g1 rfl (tc_cut10B g0 g1 g2 (tc_det0 ⟨tc_in (by omega) (by decide), ?_⟩)))))))
    · rw [Int32.one_mul, e8] at z
      rw [z, Int32.zero_mul] at H
      exact H _ _ _ _ _ _
    · show post (((1 * a1 8).toInt64 * 1 * (a1 (nI u * 6 + nI 0).toNatClampNeg).toInt64).toInt32) _
      rw [tc_cl (by omega) (by decide), he, tc_val1, e8]
      exact H _ _ _ _ _ _
  · refine tc_without_0n (by rw [k8]; exact hm1) (fun g g0 g1 g2 => br_f (by decide) (tc_fillA g0 g1 g2 (tc_wv e1 k1) (tc_wv e6 k6) (tc_w0 e2) (tc_w0 e12) (tc_wv e8 k8) (tc_wv e13 k13) (fun d d0 d7 d8 d12 d13 d14 => tc_drop0 (fun d' h14 => br_t (by decide) (tc_cutc 1 0 g1 rfl (tc_cut10A g0 g1 g2 (fun f c f0 => tc_det1 ⟨tc_in (by omega) (by decide), ?_⟩)))))))
    show post (((1 : Int32).toInt64 * f 0 * (a1 (nI u * 6 + nI 0).toNatClampNeg).toInt64).toInt32) _
    rw [tc_cl (by omega) (by decide), he, tc_val2, f0, h14, d14, d12, Int64.add_zero]
    have e : (if m = 0 then y.toInt64 else 0).toInt32 = (if m = 2 then 0 else y) := by
      rcases hm with h | h | h
      · rw [h, if_pos rfl, if_neg (by decide), Int32.toInt32_toInt64]
      · exact absurd h hm1
      · rw [h, if_pos rfl, if_neg (by decide)]
        decide
    rw [e]
    exact H _ _ _ _ _ _
/-- hanging at 1 -/
theorem tc_h50_1 {post : Int32 → St2 → Prop} {u : Nat} (hu : u < 3) (hP : tc_P x y 0 0 m a1 a2)
    (H : ∀ (w s : Int32) (f3 : Nat → Int32) (f4 f5 : Nat → Int64) (f6 : Nat → Int32), post 0 (3, w, s, a1, a2, f3, f4, f5, f6)) : wX_hanging_50 post (nI 1) (nI u) 3 w s a1 a2 a3 a4 a5 a6 := by
  obtain ⟨⟨e1, e6, e8, e13, e2, e12⟩, ⟨k1, k6, k2, k12, k8, k13⟩⟩ := hP
  unfold wX_hanging_50
  refine tc_without_1 (by rw [k2]; decide) (fun g g0 g1 g2 => br_f (by decide) (tc_fillA g0 g1 g2 (tc_wv e1 k1) (tc_wv e6 k6) (tc_w0 e2) (tc_w0 e12) (tc_wv e8 k8) (tc_wv e13 k13) (fun d d0 d7 d8 d12 d13 d14 => tc_drop1 (fun d' h14 => br_f (by decide) (tc_cutc 0 1 g0 rfl (tc_cut01A g0 g1 g2 (fun f c f0 => tc_det1 ⟨tc_in (by omega) (by decide), ?_⟩)))))))
  show post (((1 : Int32).toInt64 * f 0 * (a1 (nI u * 6 + nI 1).toNatClampNeg).toInt64).toInt32) _
  rw [f0, h14, d14, d13, Int64.add_right_neg, Int64.mul_zero, Int64.zero_mul]
  exact H _ _ _ _ _ _
theorem tc_hang0 {post : Int32 → St2 → Prop} {u : Nat} {e : Int32} (hu : u < 3) (hP : tc_P x y 0 0 m a1 a2) (hm : m = 0 ∨ m = 1 ∨ m = 2) (he : a1 (u * 6 + 0) = e) (hk : a2 (u * 6 + 0) = 0)
    (H : ∀ (w s : Int32) (f3 : Nat → Int32) (f4 f5 : Nat → Int64) (f6 : Nat → Int32), post ((if m = 2 then 0 else y) * e) (3, w, s, a1, a2, f3, f4, f5, f6)) : wpX_hanging post (3, w, s, a1, a2, a3, a4, a5, a6) (nI 0) (nI u) := by
  obtain ⟨_, ⟨k1, k6, k2, k12, k8, k13⟩⟩ := id hP
  unfold wpX_hanging
  refine tc_must0 (by rw [k6]; decide) (by rw [k12]; decide) ⟨tc_in (by omega) (by decide), br_f ?_ (br_f (by decide) (br_f (by decide) (tc_h50_0 hu hP hm he H)))⟩
  rw [tc_cl (by omega) (by decide), hk]
  decide
theorem tc_hang10 {post : Int32 → St2 → Prop} (hP : tc_P x y 0 0 m a1 a2)
    (H : ∀ (w s : Int32) (f3 : Nat → Int32) (f4 f5 : Nat → Int64) (f6 : Nat → Int32), post 0 (3, w, s, a1, a2, f3, f4, f5, f6)) : wpX_hanging post (3, w, s, a1, a2, a3, a4, a5, a6) (nI 1) (nI 0) := by
  obtain ⟨_, ⟨k1, k6, k2, k12, k8, k13⟩⟩ := id hP
  have n1 : ¬ a2 1 = 1 := by rw [k1]; decide
  have n2 : ¬ a2 1 = 2 := by rw [k1]; decide
  unfold wpX_hanging
  by_cases hm1 : m = 1
  · exact tc_must1m n1 (by rw [k13, hm1]) ⟨tc_in (by decide) (by decide), br_f n2 (br_f (by decide) (br_t rfl ⟨tc_in (by decide) (by decide), br_f n1 (H _ _ _ _ _ _)⟩))⟩
  · exact tc_must1n n1 (by rw [k13]; exact hm1) ⟨tc_in (by decide) (by decide), br_f n2 (br_f (by decide) (br_f (by decide) (tc_h50_1 (u := 0) (by decide) hP H)))⟩
theorem tc_hang12 {post : Int32 → St2 → Prop} (hP : tc_P x y 0 0 m a1 a2)
    (H : ∀ (w s : Int32) (f3 : Nat → Int32) (f4 f5 : Nat → Int64) (f6 : Nat → Int32), post 0 (3, w, s, a1, a2, f3, f4, f5, f6)) : wpX_hanging post (3, w, s, a1, a2, a3, a4, a5, a6) (nI 1) (nI 2) := by
  obtain ⟨_, ⟨k1, k6, k2, k12, k8, k13⟩⟩ := id hP
  have n1 : ¬ a2 1 = 1 := by rw [k1]; decide
  unfold wpX_hanging
  by_cases hm1 : m = 1
  · have h13 : a2 13 = 1 := by rw [k13, hm1]
    exact tc_must1m n1 h13 ⟨tc_in (by decide) (by decide), br_f (show ¬ a2 13 = 2 by rw [h13]; decide) (br_f (by decide) (br_t rfl ⟨tc_in (by decide) (by decide), br_t h13 (tc_h50_1 (u := 2) (by decide) hP H)⟩))⟩
  · exact tc_must1n n1 (by rw [k13]; exact hm1) ⟨tc_in (by decide) (by decide), br_c (fun _ => H _ _ _ _ _ _) (fun _ => br_f (by decide) (br_f (by decide) (tc_h50_1 (u := 2) (by decide) hP H)))⟩
theorem tc_leaf0 {post : Int32 → St2 → Prop} (hP : tc_P x y 0 0 m a1 a2) (hm : m = 0 ∨ m = 1 ∨ m = 2)
    (H : ∀ (w s : Int32) (f3 : Nat → Int32) (f4 f5 : Nat → Int64) (f6 : Nat → Int32), post (tc_T x y 0 m) (3, w, s, a1, a2, f3, f4, f5, f6)) : wpX_leaf post (3, w, s, a1, a2, a3, a4, a5, a6) 0 := by
  obtain ⟨⟨e1, e6, e8, e13, e2, e12⟩, ⟨k1, k6, k2, k12, k8, k13⟩⟩ := id hP
  have e : 0 + (if m = 2 then 0 else y) * x + (if m = 2 then 0 else y) * 0 = tc_T x y 0 m := by
    unfold tc_T
    rw [if_pos rfl, Int32.mul_zero, Int32.add_zero, Int32.zero_add]
    by_cases h : m = 2
    · rw [if_pos h, if_pos h, Int32.zero_mul]
    · rw [if_neg h, if_neg h, Int32.mul_comm]
  refine br_f (by decide) (br_t (by decide) (br_t rfl ⟨4, br_f (by decide) (br_t rfl (nm_r (e' := 1) (by decide) ?_))⟩))
  refine br_f (by decide) (br_f (by decide) (tc_hang0 (u := 1) (by decide) hP hm e6 k6 (fun w s f3 f4 f5 f6 => nm_e (nm_r (e' := 2) (by decide) ?_))))
  refine br_f (by decide) (br_f (by decide) (tc_hang0 (u := 2) (by decide) hP hm e12 k12 (fun w s f3 f4 f5 f6 => nm_e (nm_r (e' := 3) (by decide) (br_t (by decide) ?_)))))
  rw [e]
  exact H _ _ _ _ _ _
theorem tc_leaf1 {post : Int32 → St2 → Prop} (hP : tc_P x y 0 0 m a1 a2)
    (H : ∀ (w s : Int32) (f3 : Nat → Int32) (f4 f5 : Nat → Int64) (f6 : Nat → Int32), post 0 (3, w, s, a1, a2, f3, f4, f5, f6)) : wpX_leaf post (3, w, s, a1, a2, a3, a4, a5, a6) 1 := by
  refine br_f (by decide) (br_t (by decide) (br_t rfl ⟨4, br_f (by decide) (br_f (by decide) (tc_hang10 hP (fun w s f3 f4 f5 f6 => nm_r (e' := 0) (by decide) (nm_r (e' := 1) (by decide) ?_))))⟩))
  refine br_f (by decide) (br_t rfl (nm_r (e' := 2) (by decide) ?_))
  exact br_f (by decide) (br_f (by decide) (tc_hang12 hP (fun w s f3 f4 f5 f6 => nm_r (e' := 0) (by decide) (nm_r (e' := 3) (by decide) (br_t (by decide) (H _ _ _ _ _ _))))))
/-! degrees, idle, needed, apart -/
theorem tc_degrees {post : Int32 → St2 → Prop} (hP : tc_P x y 0 0 m a1 a2) (hm : m = 0 ∨ m = 1 ∨ m = 2)
    (H : ∀ (w s : Int32) (b2 f3 : Nat → Int32) (f4 f5 : Nat → Int64) (f6 : Nat → Int32), tc_P x y 0 0 m a1 b2 → post (2 * tc_T x y 0 m) (3, w, s, a1, b2, f3, f4, f5, f6)) : wpX_degrees post (3, w, s, a1, a2, a3, a4, a5, a6) 1 := by
  refine br_f (by decide) (br_t (by decide) (br_t rfl ⟨4, br_f (by decide) (br_f (by decide) (tc_cu01 hP hm (fun w s b2 f3 f4 f5 f6 hP => nm_e (nm_r (e' := 1) (by decide) ?_))))⟩))
  refine br_f (by decide) (br_t rfl (nm_r (e' := 2) (by decide) ?_))
  refine br_f (by decide) (br_f (by decide) (tc_cu21 hP hm (fun w s b2 f3 f4 f5 f6 hP => nm_r (e' := 2 * tc_T x y 0 m) ?_ (nm_r (e' := 3) (by decide) (br_t (by decide) (H _ _ _ _ _ _ _ hP))))))
  grind
def tc_I1 (x T i : Int32) : Int32 := if x ≤ 0 then i else if T = 0 then i + 1 else i
theorem tc_idle16 {post : Int32 → St2 → Prop} {J : Int32 → Int32 → Int32 → Int32 → Int32 → (Nat → Int32) → (Nat → Int32) → (Nat → Int32) → (Nat → Int64) → (Nat → Int64) → (Nat → Int32) → Prop} {T i e : Int32} {u v : Nat} (hu : u < 3) (hv : v < 3)
    (h : ∀ ψ : Int32 → St2 → Prop, (∀ (w s : Int32) (b2 f3 : Nat → Int32) (f4 f5 : Nat → Int64) (f6 : Nat → Int32), tc_P x y 0 0 m a1 b2 → ψ T (3, w, s, a1, b2, f3, f4, f5, f6)) → wpX_countUsing ψ (3, w, s, a1, a2, a3, a4, a5, a6) (nI u) (nI v)) (he : a1 (u * 6 + v) = e)
    (H : ∀ (w s : Int32) (b2 f3 : Nat → Int32) (f4 f5 : Nat → Int64) (f6 : Nat → Int32), tc_P x y 0 0 m a1 b2 → wX_idle_16 post J (nI u) n (tc_I1 e T i) (nI (v + 1)) 3 w s a1 b2 f3 f4 f5 f6) : wX_idle_16 post J (nI u) (n + 1) i (nI v) 3 w s a1 a2 a3 a4 a5 a6 := by
  refine br_f (tc_lt3 hv) (h _ (fun w s b2 f3 f4 f5 f6 hP => ⟨tc_in (by omega) (by omega), ?_⟩))
  have H' := H w s b2 f3 f4 f5 f6 hP
  unfold tc_I1 at H'
  rw [tc_cl (by omega) (by omega), he]
  by_cases g : e ≤ 0
  · rw [if_pos g] at H'
    exact br_t g (nm_r (nI_1 v) H')
  · rw [if_neg g] at H'
    by_cases t : T = 0
    · rw [if_pos t] at H'
      exact br_f g (br_t t (nm_e (nm_r (nI_1 v) H')))
    · rw [if_neg t] at H'
      exact br_f g (br_f t (nm_r (nI_1 v) H'))
theorem tc_idle16e {post : Int32 → St2 → Prop} {J : Int32 → Int32 → Int32 → Int32 → Int32 → (Nat → Int32) → (Nat → Int32) → (Nat → Int32) → (Nat → Int64) → (Nat → Int64) → (Nat → Int32) → Prop} {i : Int32} {u : Nat}
    (H : J i (nI (u + 1)) 3 w s a1 a2 a3 a4 a5 a6) : wX_idle_16 post J (nI u) (n + 1) i (nI 3) 3 w s a1 a2 a3 a4 a5 a6 :=
  br_t tc_33 (nm_r (nI_1 u) H)
theorem tc_idle4 {post : Int32 → St2 → Prop} {i : Int32} {u : Nat} (hu : u < 3) (h : ∃ fu, wX_idle_16 post (wX_idle_4 post n) (nI u) fu i (nI (u + 1)) 3 w s a1 a2 a3 a4 a5 a6) : wX_idle_4 post (n + 1) i (nI u) 3 w s a1 a2 a3 a4 a5 a6 :=
  br_f (tc_lt3 hu) (nm_r (nI_1 u) h)
theorem tc_idle {post : Int32 → St2 → Prop} (hP : tc_P x y 0 0 m a1 a2) (hm : m = 0 ∨ m = 1 ∨ m = 2)
    (H : ∀ (w s : Int32) (b2 f3 : Nat → Int32) (f4 f5 : Nat → Int64) (f6 : Nat → Int32), tc_P x y 0 0 m a1 b2 → post (tc_I1 y (tc_T x y 0 m) (tc_I1 x (tc_T x y 0 m) 0)) (3, w, s, a1, b2, f3, f4, f5, f6)) : wpX_idle post (3, w, s, a1, a2, a3, a4, a5, a6) := by
  obtain ⟨⟨e1, e6, e8, e13, e2, e12⟩, _⟩ := id hP
  refine ⟨4, tc_idle4 (n := 3) (u := 0) (by decide) ⟨3, ?_⟩⟩
  refine tc_idle16 (n := 2) (u := 0) (v := 1) (by decide) (by decide) (fun ψ => tc_cu01 hP hm) e1 (fun w s b2 f3 f4 f5 f6 hP => ?_)
  refine tc_idle16 (n := 1) (u := 0) (v := 2) (by decide) (by decide) (fun ψ => tc_cu02 hP hm) e2 (fun w s b2 f3 f4 f5 f6 hP => ?_)
  refine tc_idle16e (n := 0) (u := 0) (tc_idle4 (n := 2) (u := 1) (by decide) ⟨2, ?_⟩)
  refine tc_idle16 (n := 1) (u := 1) (v := 2) (by decide) (by decide) (fun ψ => tc_cu12 hP hm) e8 (fun w s b2 f3 f4 f5 f6 hP => ?_)
  refine tc_idle16e (n := 0) (u := 1) (tc_idle4 (n := 1) (u := 2) (by decide) ⟨1, tc_idle16e (n := 0) (u := 2) ?_⟩)
  rw [show tc_I1 0 0 (tc_I1 x (tc_T x y 0 m) 0) = tc_I1 x (tc_T x y 0 m) 0 from if_pos (by decide)]
  exact br_t tc_33 (H _ _ _ _ _ _ _ hP)
theorem tc_needed28 {post : Int32 → St2 → Prop} {J : Int32 → Int32 → Int32 → Int32 → Int32 → (Nat → Int32) → (Nat → Int32) → (Nat → Int32) → (Nat → Int64) → (Nat → Int64) → (Nat → Int32) → Prop} {A T i k : Int32} {u v : Nat} (hu : u < 3) (hv : v < 3)
    (h : ∀ ψ : Int32 → St2 → Prop, (∀ (w s : Int32) (b2 f3 : Nat → Int32) (f4 f5 : Nat → Int64) (f6 : Nat → Int32), tc_P x y 0 0 m a1 b2 → ψ T (3, w, s, a1, b2, f3, f4, f5, f6)) → wpX_countUsing ψ (3, w, s, a1, a2, a3, a4, a5, a6) (nI u) (nI v)) (hk : (T = A ∧ k = i + 1) ∨ (¬ T = A ∧ k = i))
    (H : ∀ (w s : Int32) (b2 f3 : Nat → Int32) (f4 f5 : Nat → Int64) (f6 : Nat → Int32), tc_P x y 0 0 m a1 b2 → wX_needed_28 post J A (nI u) n k (nI (v + 1)) 3 w s a1 b2 f3 f4 f5 f6) : wX_needed_28 post J A (nI u) (n + 1) i (nI v) 3 w s a1 a2 a3 a4 a5 a6 := by
  refine br_f (tc_lt3 hv) (h _ (fun w s b2 f3 f4 f5 f6 hP => ?_))
  have H' := H w s b2 f3 f4 f5 f6 hP
  rcases hk with ⟨g, e⟩ | ⟨g, e⟩
  · rw [e] at H'
    exact br_t g (nm_e (nm_r (nI_1 v) H'))
  · rw [e] at H'
    exact br_f g (nm_r (nI_1 v) H')
theorem tc_needed28e {post : Int32 → St2 → Prop} {J : Int32 → Int32 → Int32 → Int32 → Int32 → (Nat → Int32) → (Nat → Int32) → (Nat → Int32) → (Nat → Int64) → (Nat → Int64) → (Nat → Int32) → Prop} {A i : Int32} {u : Nat}
    (H : J i (nI (u + 1)) 3 w s a1 a2 a3 a4 a5 a6) : wX_needed_28 post J A (nI u) (n + 1) i (nI 3) 3 w s a1 a2 a3 a4 a5 a6 :=
  br_t tc_33 (nm_r (nI_1 u) H)
theorem tc_needed15 {post : Int32 → St2 → Prop} {A i : Int32} {u : Nat} (hu : u < 3) (h : ∃ fu, wX_needed_28 post (wX_needed_15 post A n) A (nI u) fu i (nI (u + 1)) 3 w s a1 a2 a3 a4 a5 a6) : wX_needed_15 post A (n + 1) i (nI u) 3 w s a1 a2 a3 a4 a5 a6 :=
  br_f (tc_lt3 hu) (nm_r (nI_1 u) h)
theorem tc_needed {post : Int32 → St2 → Prop} (hP : tc_P x y 0 0 m a1 a2) (hm : m = 0 ∨ m = 1 ∨ m = 2)
    (H : ∀ (w s : Int32) (b2 f3 : Nat → Int32) (f4 f5 : Nat → Int64) (f6 : Nat → Int32), tc_P x y 0 0 m a1 b2 → post (if tc_T x y 0 m = 0 then 0 else 2) (3, w, s, a1, b2, f3, f4, f5, f6)) : wpX_needed post (3, w, s, a1, a2, a3, a4, a5, a6) := by
  unfold wpX_needed
  refine tc_count hP (Or.inl rfl) (Or.inl rfl) hm (fun w s f3 f4 f5 f6 => br_c (fun t => ?_) (fun t => ?_))
  · rw [if_pos t] at H
    exact H _ _ _ _ _ _ _ hP
  · rw [if_neg t] at H
    refine ⟨4, tc_needed15 (n := 3) (u := 0) (by decide) ⟨3, ?_⟩⟩
    refine tc_needed28 (n := 2) (u := 0) (v := 1) (k := 1) (by decide) (by decide) (fun ψ => tc_cu01 hP hm) (Or.inl ⟨rfl, by decide⟩) (fun w s b2 f3 f4 f5 f6 hP => ?_)
    refine tc_needed28 (n := 1) (u := 0) (v := 2) (k := 1) (by decide) (by decide) (fun ψ => tc_cu02 hP hm) (Or.inr ⟨fun z => t z.symm, rfl⟩) (fun w s b2 f3 f4 f5 f6 hP => ?_)
    refine tc_needed28e (n := 0) (u := 0) (tc_needed15 (n := 2) (u := 1) (by decide) ⟨2, ?_⟩)
    refine tc_needed28 (n := 1) (u := 1) (v := 2) (k := 2) (by decide) (by decide) (fun ψ => tc_cu12 hP hm) (Or.inl ⟨rfl, by decide⟩) (fun w s b2 f3 f4 f5 f6 hP => ?_)
    refine tc_needed28e (n := 0) (u := 1) (tc_needed15 (n := 1) (u := 2) (by decide) ⟨1, tc_needed28e (n := 0) (u := 2) ?_⟩)
    exact br_t tc_33 (H _ _ _ _ _ _ _ hP)
theorem tc_apart {post : Int32 → St2 → Prop} (hP : tc_P x y 0 0 m a1 a2)
    (H : ∀ (w s : Int32) (f3 : Nat → Int32) (f4 f5 : Nat → Int64) (f6 : Nat → Int32), post (if m = 1 then 0 else x) (3, w, s, a1, a2, f3, f4, f5, f6)) : wpX_apart post (3, w, s, a1, a2, a3, a4, a5, a6) 1 2 := by
  obtain ⟨⟨e1, e6, e8, e13, e2, e12⟩, ⟨k1, k6, k2, k12, k8, k13⟩⟩ := hP
  refine br_f (by decide) (br_f (by decide) (br_f (by decide) (br_f (by decide) (br_f (by decide) (br_t rfl ?_)))))
  by_cases hm1 : m = 1
  · rw [if_pos hm1] at H
    refine tc_contract_m (by rw [k1]; decide) (by rw [k2]; decide) (by rw [k8, hm1]) (fun g g0 g1 g2 => br_c (fun z => H _ _ _ _ _ _) (fun z => ⟨tc_v (by decide), tc_v (by decide), br_t (g1.trans g2.symm) (H _ _ _ _ _ _)⟩))
  · rw [if_neg hm1] at H
    refine tc_contract_n (by rw [k1]; decide) (by rw [k2]; decide) (by rw [k8]; exact hm1) (fun g g0 g1 g2 => br_f (by decide) ⟨tc_v (by decide), tc_v (by decide), br_f ?_ (tc_fillA g0 g1 g2 (tc_wv e1 k1) (tc_wv e6 k6) (tc_w0 e2) (tc_w0 e12) (tc_wv e8 k8) (tc_wv e13 k13) (fun d d0 d7 d8 d12 d13 d14 => ⟨tc_v (by decide), tc_v (by decide), tc_cutc 1 2 g1 g2 (tc_cut12A g0 g1 g2 (fun f c f0 => tc_det1 ?_))⟩))⟩)
    · have t : ¬ g 1 = g 2 := by rw [g1, g2]; decide
      exact t
    · show post ((1 : Int32).toInt64 * f 0).toInt32 _
      rw [f0, d0, if_pos rfl, show (1 : Int32).toInt64 = 1 from by decide, Int64.one_mul, Int32.toInt32_toInt64]
      exact H _ _ _ _ _ _
end
end
section
/-! the law -/
theorem tc_T0 {x y m : Int32} (hx : ∃ j : Nat, j ≤ 3 ∧ x = nI j) (hy : ∃ j : Nat, j ≤ 3 ∧ y = nI j) (h : tc_T x y 0 m ≤ 0) : tc_T x y 0 m = 0 := by
  obtain ⟨i, hi, rfl⟩ := hx
  obtain ⟨j, hj, rfl⟩ := hy
  unfold tc_T at h ⊢
  rw [if_pos rfl] at h ⊢
  by_cases g : m = 2
  · rw [if_pos g]
  · rw [if_neg g, pk_mul] at h ⊢
    have hb : i * j ≤ 3 * 3 := Nat.mul_le_mul hi hj
    have h' : nI (i * j) ≤ nI 0 := h
    rw [nI_leI (by omega) (by omega)] at h'
    have e : i * j = 0 := by omega
    rw [e]
    rfl
section
variable {w s : Int32} {a1 a2 a3 : Nat → Int32} {a4 a5 : Nat → Int64} {a6 : Nat → Int32} {n : Nat} {x y p q m M : Int32}
theorem tc_law177 {post : Int32 → St0 → Prop} {mc ms kc ks : Nat} {N : Int32} (hP : tc_P x y 0 0 m a1 a2) (hM : M = 1 ↔ m = 1) (H : post 1 ()) : wL_lawOf_177 post mc ms M x N N kc ks 3 w s a1 a2 a3 a4 a5 a6 := by
  refine br_t rfl (br_c (fun h => ?_) (fun h => ?_))
  · exact tc_apart hP (fun w s f3 f4 f5 f6 => br_t (if_pos (hM.mp h)) H)
  · exact tc_apart hP (fun w s f3 f4 f5 f6 => br_t (if_neg (fun z => h (hM.mpr z))) H)
theorem tc_law152 {post : Int32 → St0 → Prop} {mc ms kc ks : Nat} {z : Int32} (hP : tc_P x y 0 0 m a1 a2) (hm : m = 0 ∨ m = 1 ∨ m = 2) (hM : M = 1 ↔ m = 1) (hT : tc_T x y 0 m ≤ 0 → tc_T x y 0 m = 0)
    (hz : tc_I1 y (tc_T x y 0 m) (tc_I1 x (tc_T x y 0 m) 0) = z) (H : post 1 ()) : wL_lawOf_152 post mc ms M x (tc_T x y 0 m) z kc ks 3 w s a1 a2 a3 a4 a5 a6 := by
  unfold wL_lawOf_152
  refine tc_idle hP hm (fun w s b2 f3 f4 f5 f6 hP => br_t hz (tc_needed hP hm (fun w s b2 f3 f4 f5 f6 hP => br_c (fun t => ?_) (fun t => ?_))))
  · rw [if_pos (hT t)]
    exact tc_law177 hP hM H
  · rw [if_neg (fun e => t (by rw [e]; decide))]
    exact tc_law177 hP hM H
theorem tc_law79 {post : Int32 → St0 → Prop} {mc ms kc ks : Nat} (hP : tc_P x y 0 0 m a1 a2) (hm : m = 0 ∨ m = 1 ∨ m = 2) (hM : M = 1 ↔ m = 1) (hT : tc_T x y 0 m ≤ 0 → tc_T x y 0 m = 0)
    (H : post 1 ()) : wL_lawOf_79 post mc ms M x y (tc_T x y 0 m) kc ks 3 w s a1 a2 a3 a4 a5 a6 := by
  unfold wL_lawOf_79 wpX_trees
  refine tc_count hP (Or.inl rfl) (Or.inl rfl) hm (fun w s f3 f4 f5 f6 => br_t rfl (tc_leaf0 hP hm (fun w s f3 f4 f5 f6 => br_t rfl (tc_leaf1 hP (fun w s f3 f4 f5 f6 => br_t rfl (tc_degrees hP hm (fun w s b2 f3 f4 f5 f6 hP => br_t rfl ?_)))))))
  refine br_c (fun t => br_c (fun gx => br_c (fun gy => ?_) (fun gy => ?_)) (fun gx => br_c (fun gy => ?_) (fun gy => ?_))) (fun t => ?_)
  · refine tc_law152 hP hm hM hT ?_ H
    rw [hT t]
    unfold tc_I1
    rw [if_pos gx, if_pos gy]
    decide
  · refine tc_law152 hP hm hM hT ?_ H
    rw [hT t]
    unfold tc_I1
    rw [if_pos gx, if_neg gy]
    decide
  · refine tc_law152 hP hm hM hT ?_ H
    rw [hT t]
    unfold tc_I1
    rw [if_neg gx, if_pos gy]
    decide
  · refine tc_law152 hP hm hM hT ?_ H
    rw [hT t]
    unfold tc_I1
    rw [if_neg gx, if_neg gy]
    decide
  · refine tc_law152 hP hm hM hT ?_ H
    have t' : ¬ tc_T x y 0 m = 0 := fun e => t (by rw [e]; decide)
    unfold tc_I1
    rw [if_neg t', if_neg t', ite_self, ite_self]
theorem tc_badPair {post : Int32 → Prop} {u v : Nat} (hu : u < 3) (hv : v < 3) (huv : u ≠ v) (H : post 0) : wpX_badPair post (3, w, s, a1, a2, a3, a4, a5, a6) (nI u) (nI v) :=
  br_f (nI_pos (by omega)) (br_f (tc_lt3 hu) (br_f (nI_pos (by omega)) (br_f (tc_lt3 hv) (br_f (tc_ne (by omega) (by omega) huv) H))))
/-- edges: out of range nothing changes -/
theorem tc_edges {post : Int32 → St2 → Prop} {u v : Nat} {e : Int32} (hu : u < 3) (hv : v < 3) (huv : u ≠ v) (h1 : a1 (u * 6 + v) = 0) (h2 : a1 (v * 6 + u) = 0) (hx : (¬ e < 0 ∧ e ≤ 3 ∧ x = e) ∨ ((e < 0 ∨ ¬ e ≤ 3) ∧ x = 0))
    (H : ∀ (r : Int32) (b : Nat → Int32), b (u * 6 + v) = x → b (v * 6 + u) = x → (∀ k, k ≠ u * 6 + v → k ≠ v * 6 + u → b k = a1 k) → post r (3, w, s, b, a2, a3, a4, a5, a6)) : wpX_edges post (3, w, s, a1, a2, a3, a4, a5, a6) (nI u) (nI v) e := by
  unfold wpX_edges
  refine tc_badPair hu hv huv (br_t rfl ?_)
  rcases hx with ⟨g, k, rfl⟩ | ⟨g, rfl⟩
  · refine br_f g (br_t k ⟨tc_in (by omega) (by omega), nm_e ⟨tc_in (by omega) (by omega), nm_e ⟨tc_in (by omega) (by omega), nm_e ?_⟩⟩⟩)
    rw [tc_cl (by omega) (by omega), tc_cl (by omega) (by omega)]
    refine H _ _ ?_ pk_us (fun k k1 k2 => by rw [pk_un k2, pk_un k1])
    rw [pk_un (by omega), pk_us]
  · by_cases f : e < 0
    · exact br_t f (H _ _ h1 h2 (fun _ _ _ => rfl))
    · refine br_f f (br_f ?_ (H _ _ h1 h2 (fun _ _ _ => rfl)))
      rcases g with g | g
      · exact absurd g f
      · exact g
theorem tc_mode {post : Int32 → St2 → Prop} (h1 : a2 8 = 0) (h2 : a2 13 = 0) (hx : (¬ M < 0 ∧ M ≤ 2 ∧ m = M) ∨ ((M < 0 ∨ ¬ M ≤ 2) ∧ m = 0))
    (H : ∀ (r : Int32) (b : Nat → Int32), b 8 = m → b 13 = m → (∀ k, k ≠ 8 → k ≠ 13 → b k = a2 k) → post r (3, w, s, a1, b, a3, a4, a5, a6)) : wpX_mode post (3, w, s, a1, a2, a3, a4, a5, a6) (nI 1) (nI 2) M := by
  unfold wpX_mode
  refine tc_badPair (by decide) (by decide) (by decide) (br_t rfl ?_)
  rcases hx with ⟨g, k, rfl⟩ | ⟨g, rfl⟩
  · refine br_f g (br_t k ⟨tc_in (by decide) (by decide), nm_e (tc_setMode (by decide) (by decide) ?_)⟩)
    exact H _ _ rfl rfl (fun k k1 k2 => by rw [pk_un k2, pk_un k1])
  · by_cases f : M < 0
    · exact br_t f (H _ _ h1 h2 (fun _ _ _ => rfl))
    · refine br_f f (br_f ?_ (H _ _ h1 h2 (fun _ _ _ => rfl)))
      rcases g with g | g
      · exact absurd g f
      · exact g
end
theorem tc_rng {e x : Int32} (hx : (¬ e < 0 ∧ e ≤ 3 ∧ x = e) ∨ ((e < 0 ∨ ¬ e ≤ 3) ∧ x = 0)) : ∃ j : Nat, j ≤ 3 ∧ x = nI j := by
  rcases hx with ⟨g, k, rfl⟩ | ⟨_, rfl⟩
  · exact nI_of2 (M := 3) (n := 3) (by decide) g k
  · exact ⟨0, by decide, rfl⟩
theorem tc_md (M : Int32) : ∃ m : Int32, ((¬ M < 0 ∧ M ≤ 2 ∧ m = M) ∨ ((M < 0 ∨ ¬ M ≤ 2) ∧ m = 0)) ∧ (m = 0 ∨ m = 1 ∨ m = 2) ∧ (M = 1 ↔ m = 1) ∧ (M = 2 ↔ m = 2) := by
  by_cases g : ¬ M < 0 ∧ M ≤ 2
  · obtain ⟨j, hj, e⟩ := nI_of2 (M := 2) (n := 2) (by decide) g.1 g.2
    refine ⟨M, Or.inl ⟨g.1, g.2, rfl⟩, ?_, Iff.rfl, Iff.rfl⟩
    have : j = 0 ∨ j = 1 ∨ j = 2 := by omega
    rcases this with h | h | h
    · exact Or.inl (by rw [e, h]; rfl)
    · exact Or.inr (Or.inl (by rw [e, h]; rfl))
    · exact Or.inr (Or.inr (by rw [e, h]; rfl))
  · refine ⟨0, Or.inr ⟨?_, rfl⟩, Or.inl rfl, ⟨fun h => absurd ?_ g, fun h => absurd h (by decide)⟩, ⟨fun h => absurd ?_ g, fun h => absurd h (by decide)⟩⟩
    · by_cases f : M < 0
      · exact Or.inl f
      · exact Or.inr (fun k => g ⟨f, k⟩)
    · rw [h]
      decide
    · rw [h]
      decide
theorem tc_law39 {post : Int32 → St0 → Prop} {mc ms kc ks : Nat} {w s a b M x y : Int32} {a3 : Nat → Int32} {a4 a5 : Nat → Int64} {a6 : Nat → Int32} (hx : (¬ a < 0 ∧ a ≤ 3 ∧ x = a) ∨ ((a < 0 ∨ ¬ a ≤ 3) ∧ x = 0)) (hy : (¬ b < 0 ∧ b ≤ 3 ∧ y = b) ∨ ((b < 0 ∨ ¬ b ≤ 3) ∧ y = 0))
    (H : post 1 ()) : wL_lawOf_39 post mc ms a b M x y kc ks 3 w s (fun _ => 0) (fun _ => 0) a3 a4 a5 a6 := by
  obtain ⟨m, h1, hm, hM, hM2⟩ := tc_md M
  have hT : tc_T x y 0 m ≤ 0 → tc_T x y 0 m = 0 := tc_T0 (tc_rng hx) (tc_rng hy)
  unfold wL_lawOf_39
  refine tc_edges (u := 0) (v := 1) (by decide) (by decide) (by decide) rfl rfl hx (fun _ b1 c1 c6 c => ?_)
  refine tc_edges (u := 2) (v := 1) (by decide) (by decide) (by decide) (c 13 (by decide) (by decide)) (c 8 (by decide) (by decide)) hy (fun _ b1' d13 d8 d => ?_)
  refine tc_mode rfl rfl h1 (fun _ b2 k8 k13 k => ?_)
  have hP : tc_P x y 0 0 m b1' b2 := ⟨⟨(d 1 (by decide) (by decide)).trans c1, (d 6 (by decide) (by decide)).trans c6, d8, d13, (d 2 (by decide) (by decide)).trans (c 2 (by decide) (by decide)), (d 12 (by decide) (by decide)).trans (c 12 (by decide) (by decide))⟩, ⟨k 1 (by decide) (by decide), k 6 (by decide) (by decide), k 2 (by decide) (by decide), k 12 (by decide) (by decide), k8, k13⟩⟩
  refine br_c (fun g => ?_) (fun g => ?_)
  · have e : tc_T x y 0 m = 0 := by rw [hM2.mp g]; rfl
    have r := tc_law79 (mc := mc) (ms := ms) (kc := kc) (ks := ks) (w := w) (s := s) (a3 := a3) (a4 := a4) (a5 := a5) (a6 := a6) hP hm hM hT H
    rw [e] at r
    exact r
  · have e : tc_T x y 0 m = x * y := by
      unfold tc_T
      rw [if_pos rfl, if_neg (fun z => g (hM2.mpr z))]
    have r := tc_law79 (mc := mc) (ms := ms) (kc := kc) (ks := ks) (w := w) (s := s) (a3 := a3) (a4 := a4) (a5 := a5) (a6 := a6) hP hm hM hT H
    rw [e] at r
    exact r
theorem tc_law23 {post : Int32 → St0 → Prop} {mc ms kc ks : Nat} {w s a b M x : Int32} {a3 : Nat → Int32} {a4 a5 : Nat → Int64} {a6 : Nat → Int32} (hx : (¬ a < 0 ∧ a ≤ 3 ∧ x = a) ∨ ((a < 0 ∨ ¬ a ≤ 3) ∧ x = 0))
    (H : post 1 ()) : wL_lawOf_23 post mc ms a b M x kc ks 3 w s (fun _ => 0) (fun _ => 0) a3 a4 a5 a6 :=
  br_c (fun g => tc_law39 hx (Or.inr ⟨Or.inl g, rfl⟩) H) (fun g => br_c (fun h => tc_law39 hx (Or.inl ⟨g, h, rfl⟩) H) (fun h => tc_law39 hx (Or.inr ⟨Or.inr h, rfl⟩) H))
theorem tc_lawOf {post : Int32 → St0 → Prop} {a b M : Int32} (H : post 1 ()) : wpL_lawOf post 7 165 () a b M := by
  refine ⟨by decide, by decide, 6, 156, by decide, by decide, ?_⟩
  refine ⟨by decide, by decide, by decide, by decide, by decide, by decide, by decide, by decide, by decide, by decide, by decide, by decide, br_t (by decide) (br_t (by decide) ?_)⟩
  exact br_c (fun g => tc_law23 (Or.inr ⟨Or.inl g, rfl⟩) H) (fun g => br_c (fun h => tc_law23 (Or.inl ⟨g, h, rfl⟩) H) (fun h => tc_law23 (Or.inr ⟨Or.inr h, rfl⟩) H))
theorem tc_cell {post : Int32 → Prop} {L : Nat} {xs : Nat → Int32} (k : Nat) (hk : k < 3) (hL : L ≤ 3) (H : ∀ r, post r) : wpL_cellAt post L xs () (nI k) :=
  pk_le L k (fun _ => H _) (fun g => ⟨pk_in k L g, H _⟩)
theorem i_vc (xs : Nat → Int32) (L : Nat) (hL : L ≤ 3) : wpL_law (fun r => r = 1) L xs :=
  tc_cell 0 (by decide) hL (fun _ => tc_cell 1 (by decide) hL (fun _ => tc_cell 2 (by decide) hL (fun _ => ⟨7, 165, by decide, by decide, tc_lawOf rfl⟩)))
end
