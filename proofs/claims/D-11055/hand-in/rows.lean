section
section
variable {ft fn fc fm fw fg fl fr fx : Int32} {a1 a2 a3 a4 a5 a6 a7 a8 a9 a10 a11 a12 a13 a14 a15 a16 a17 a18 a19 a20 a21 a22 a23 a24 a25 a26 a27 a28 a29 a30 : Nat → Int32}
/-- the law's comparison -/
def qp_hb (m x v : Int32) : Prop := (m = 0 ∧ x = v) ∨ (m = 1 ∧ ¬ x = v) ∨ (m = 2 ∧ x < v) ∨ (m = 3 ∧ x ≤ v) ∨ (m = 4 ∧ v < x) ∨ (m = 5 ∧ ¬ x < v)
theorem qp_nle {x y : Int32} : ¬ y ≤ x ↔ x < y := by
  rw [Int32.le_iff_toInt_le, Int32.lt_iff_toInt_lt]; omega
theorem qp_nlt {x y : Int32} : ¬ x < y ↔ y ≤ x := by
  rw [Int32.le_iff_toInt_le, Int32.lt_iff_toInt_lt]; omega
theorem qp_noTable {post : Int32 → Prop} (H : post 0) : wpX_noTable post (1, fn, fc, fm, fw, fg, fl, fr, fx, a1, a2, a3, a4, a5, a6, a7, a8, a9, a10, a11, a12, a13, a14, a15, a16, a17, a18, a19, a20, a21, a22, a23, a24, a25, a26, a27, a28, a29, a30) 0 :=
  br_f (by decide) (br_t (by decide) H)
theorem qp_init {post : St2 → Prop} (H : ∀ b1 : Nat → Int32, b1 0 = 2 → post (1, 0, 0, 0, 0, 0, 0, 0, 0, b1, (fun _ => 0), (fun _ => 0), (fun _ => 0), (fun _ => 0), (fun _ => 0), (fun _ => 0), (fun _ => 0), (fun _ => 0), (fun _ => 0), (fun _ => 0), (fun _ => 0), (fun _ => 0), (fun _ => 0), (fun _ => 0), (fun _ => 0), (fun _ => 0), (fun _ => 0), (fun _ => 0), (fun _ => 0), (fun _ => 0), (fun _ => 0), (fun _ => 0), (fun _ => 0), (fun _ => 0), (fun _ => 0), (fun _ => 0), (fun _ => 0), (fun _ => 0), (fun _ => 0))) :
    wpX_init post 30 3652 (0, 0, 0, 0, 0, 0, 0, 0, 0) 1 := by
  have K : wX_init_259 post 30 3652 1 30 3652 0 0 0 0 0 0 0 0 0 (fun _ => 0) (fun _ => 0) (fun _ => 0) (fun _ => 0) (fun _ => 0) (fun _ => 0) (fun _ => 0) (fun _ => 0) (fun _ => 0) (fun _ => 0) (fun _ => 0) (fun _ => 0) (fun _ => 0) (fun _ => 0) (fun _ => 0) (fun _ => 0) (fun _ => 0) (fun _ => 0) (fun _ => 0) (fun _ => 0) (fun _ => 0) (fun _ => 0) (fun _ => 0) (fun _ => 0) (fun _ => 0) (fun _ => 0) (fun _ => 0) (fun _ => 0) (fun _ => 0) (fun _ => 0) := by
    unfold wX_init_259
    refine br_t (by decide) ⟨5, ?_⟩
    refine br_f (by decide) ⟨pk_in 0 4 (by decide), nm_e (nm_r (e' := 1) (by decide) ?_)⟩
    refine br_f (by decide) ⟨pk_in 1 4 (by decide), nm_e (nm_r (e' := 2) (by decide) ?_)⟩
    refine br_f (by decide) ⟨pk_in 2 4 (by decide), nm_e (nm_r (e' := 3) (by decide) ?_)⟩
    refine br_f (by decide) ⟨pk_in 3 4 (by decide), nm_e (nm_r (e' := 4) (by decide) ?_)⟩
    exact br_t (by decide) (H _ (by decide))
  unfold wpX_init
  repeat (refine ⟨by decide, ?_⟩)
  exact br_t (by decide) K
theorem qp_addRow {post : Int32 → St2 → Prop} {x y z : Int32} (h2 : a2 0 = 0)
    (H : ∀ b2 b3 : Nat → Int32, b2 0 = 1 → b3 0 = x → b3 1 = y → post 0 (1, fn, fc, fm, fw, fg, fl, fr, fx, a1, b2, b3, a4, a5, a6, a7, a8, a9, a10, a11, a12, a13, a14, a15, a16, a17, a18, a19, a20, a21, a22, a23, a24, a25, a26, a27, a28, a29, a30)) : wpX_addRow post (1, fn, fc, fm, fw, fg, fl, fr, fx, a1, a2, a3, a4, a5, a6, a7, a8, a9, a10, a11, a12, a13, a14, a15, a16, a17, a18, a19, a20, a21, a22, a23, a24, a25, a26, a27, a28, a29, a30) 0 x y z := by
  unfold wpX_addRow
  refine qp_noTable (br_t rfl ⟨pk_in 0 4 (by decide), nm_r (e' := 0) h2 (br_t (by decide) (nm_r (e' := 0) (by decide) ⟨pk_in 0 120 (by decide), nm_e ⟨pk_in 1 120 (by decide), nm_e ⟨pk_in 2 120 (by decide), nm_e ⟨pk_in 0 4 (by decide), nm_e (H _ _ ?_ ?_ ?_)⟩⟩⟩⟩))⟩)
  · rfl
  · rfl
  · rfl
theorem qp_params {post : St2 → Prop} (k : Nat) (hk : k < 12) {x y z : Int32} (H : post (ft, fn, fc, fm, fw, fg, fl, fr, fx, a1, a2, a3, a4, a5, a6, a7, upd a8 k x, upd a9 k y, upd a10 k z, a11, a12, a13, a14, a15, a16, a17, a18, a19, a20, a21, a22, a23, a24, a25, a26, a27, a28, a29, a30)) : wpX_params post (ft, fn, fc, fm, fw, fg, fl, fr, fx, a1, a2, a3, a4, a5, a6, a7, a8, a9, a10, a11, a12, a13, a14, a15, a16, a17, a18, a19, a20, a21, a22, a23, a24, a25, a26, a27, a28, a29, a30) (nI k) x y z := by
  have e : (nI k).toNatClampNeg = k := nI_clamp (by omega)
  unfold wpX_params
  refine ⟨pk_in k 12 hk, nm_r (e' := upd a8 k x) (by rw [e]) ⟨pk_in k 12 hk, nm_r (e' := upd a9 k y) (by rw [e]) ⟨pk_in k 12 hk, nm_r (e' := upd a10 k z) (by rw [e]) H⟩⟩⟩
theorem qp_add0 {post : Int32 → St2 → Prop} {w : Int32} (H : post 0 (ft, 1, fc, fm, fw, fg, fl, fr, fx, a1, a2, a3, upd a4 0 0, upd a5 0 (-1), upd a6 0 (-1), upd a7 0 (-1), a8, a9, a10, upd a11 0 w, a12, a13, a14, a15, a16, a17, a18, a19, a20, a21, a22, a23, a24, a25, a26, a27, a28, a29, a30)) :
    wpX_add post (ft, 0, fc, fm, fw, fg, fl, fr, fx, a1, a2, a3, a4, a5, a6, a7, a8, a9, a10, a11, a12, a13, a14, a15, a16, a17, a18, a19, a20, a21, a22, a23, a24, a25, a26, a27, a28, a29, a30) 0 (-1) (-1) w := by
  unfold wpX_add
  refine ⟨pk_in 0 12 (by decide), nm_r (e' := upd a4 0 0) rfl ⟨pk_in 0 12 (by decide), nm_r (e' := upd a5 0 (-1)) rfl ⟨pk_in 0 12 (by decide), nm_r (e' := upd a6 0 (-1)) rfl ⟨pk_in 0 12 (by decide), nm_r (e' := upd a7 0 (-1)) rfl ⟨pk_in 0 12 (by decide), nm_r (e' := upd a11 0 w) rfl (br_t (by decide) ?_)⟩⟩⟩⟩⟩
  exact br_t (by decide) (nm_r (e' := 1) (by decide) H)
theorem qp_add1 {post : Int32 → St2 → Prop} {w : Int32} (H : post 1 (ft, 2, fc, fm, fw, fg, fl, fr, fx, a1, a2, a3, upd a4 1 1, upd a5 1 0, upd a6 1 (-1), upd (upd a7 1 (-1)) 0 1, a8, a9, a10, upd a11 1 w, a12, a13, a14, a15, a16, a17, a18, a19, a20, a21, a22, a23, a24, a25, a26, a27, a28, a29, a30)) :
    wpX_add post (ft, 1, fc, fm, fw, fg, fl, fr, fx, a1, a2, a3, a4, a5, a6, a7, a8, a9, a10, a11, a12, a13, a14, a15, a16, a17, a18, a19, a20, a21, a22, a23, a24, a25, a26, a27, a28, a29, a30) 1 0 (-1) w := by
  unfold wpX_add
  refine ⟨pk_in 1 12 (by decide), nm_r (e' := upd a4 1 1) rfl ⟨pk_in 1 12 (by decide), nm_r (e' := upd a5 1 0) rfl ⟨pk_in 1 12 (by decide), nm_r (e' := upd a6 1 (-1)) rfl ⟨pk_in 1 12 (by decide), nm_r (e' := upd a7 1 (-1)) rfl ⟨pk_in 1 12 (by decide), nm_r (e' := upd a11 1 w) rfl (br_f (by decide) ⟨pk_in 0 12 (by decide), nm_r (e' := upd (upd a7 1 (-1)) 0 1) rfl ?_⟩)⟩⟩⟩⟩⟩
  exact br_t (by decide) (nm_r (e' := 2) (by decide) H)
theorem qp_scan {post : Int32 → St2 → Prop} (h1 : a1 0 = 2)
    (H : ∀ b4 b5 b6 b7 b8 b9 b10 b11 : Nat → Int32, b4 0 = 0 → b5 0 = -1 → b6 0 = -1 → b7 0 = -1 → b8 0 = 0 → b11 0 = 2 → post 0 (1, 1, fc, fm, fw, fg, fl, fr, fx, a1, a2, a3, b4, b5, b6, b7, b8, b9, b10, b11, a12, a13, a14, a15, a16, a17, a18, a19, a20, a21, a22, a23, a24, a25, a26, a27, a28, a29, a30)) :
    wpX_scan post (1, 0, fc, fm, fw, fg, fl, fr, fx, a1, a2, a3, a4, a5, a6, a7, a8, a9, a10, a11, a12, a13, a14, a15, a16, a17, a18, a19, a20, a21, a22, a23, a24, a25, a26, a27, a28, a29, a30) 0 := by
  unfold wpX_scan
  refine br_t (by decide) (qp_noTable (br_t rfl ⟨pk_in 0 4 (by decide), qp_add0 (qp_params 0 (by decide) (H _ _ _ _ _ _ _ _ ?_ ?_ ?_ ?_ ?_ ?_))⟩))
  · rfl
  · rfl
  · rfl
  · rfl
  · rfl
  · exact h1
theorem qp_noNode0 {post : Int32 → Prop} {k : Nat} (hk : k < 12) {j : Nat} (hj : j < k) (H : post 0) : wpX_noNode post (ft, nI k, fc, fm, fw, fg, fl, fr, fx, a1, a2, a3, a4, a5, a6, a7, a8, a9, a10, a11, a12, a13, a14, a15, a16, a17, a18, a19, a20, a21, a22, a23, a24, a25, a26, a27, a28, a29, a30) (nI j) :=
  br_f (nI_pos (by omega)) (br_t (nI_lt hj (by omega)) H)
theorem qp_childFault {post : Int32 → Prop} (h7 : a7 0 = -1) (H : post 0) : wpX_childFault post (ft, 1, fc, fm, fw, fg, fl, fr, fx, a1, a2, a3, a4, a5, a6, a7, a8, a9, a10, a11, a12, a13, a14, a15, a16, a17, a18, a19, a20, a21, a22, a23, a24, a25, a26, a27, a28, a29, a30) 0 := by
  unfold wpX_childFault
  exact br_t (by decide) (qp_noNode0 (k := 1) (by decide) (j := 0) (by decide) (br_t rfl ⟨pk_in 0 12 (by decide), br_t (show a7 0 < 0 by rw [h7]; decide) H⟩))
theorem qp_noColumn {post : Int32 → Prop} {c : Int32} (h11 : a11 0 = 2) (H1 : c < 0 ∨ ¬ c ≤ 1 → post 1) (H0 : c = 0 ∨ c = 1 → post 0) : wpX_noColumn post (ft, fn, fc, fm, fw, fg, fl, fr, fx, a1, a2, a3, a4, a5, a6, a7, a8, a9, a10, a11, a12, a13, a14, a15, a16, a17, a18, a19, a20, a21, a22, a23, a24, a25, a26, a27, a28, a29, a30) 0 c := by
  unfold wpX_noColumn
  refine br_c (fun h => H1 (Or.inl h)) (fun h => ⟨pk_in 0 12 (by decide), ?_⟩)
  refine br_c (fun g => H0 ?_) (fun g => H1 (Or.inr ?_))
  · have g' : c < a11 0 := g
    rw [h11] at g'
    rw [Int32.lt_iff_toInt_lt] at g' h
    have e0 : (0 : Int32).toInt = 0 := by decide
    have e1 : (1 : Int32).toInt = 1 := by decide
    have e2 : (2 : Int32).toInt = 2 := by decide
    rw [e2] at g'
    rw [e0] at h
    rcases (by omega : c.toInt = 0 ∨ c.toInt = 1) with z | z
    · exact Or.inl (Int32.toInt_inj.mp (z.trans e0.symm))
    · exact Or.inr (Int32.toInt_inj.mp (z.trans e1.symm))
  · have g' : ¬ c < a11 0 := g
    rw [h11] at g'
    rw [Int32.lt_iff_toInt_lt] at g'
    rw [Int32.le_iff_toInt_le]
    have e1 : (1 : Int32).toInt = 1 := by decide
    have e2 : (2 : Int32).toInt = 2 := by decide
    omega
theorem qp_filter {post : Int32 → St2 → Prop} {c m v : Int32} (h4 : a4 0 = 0) (h5 : a5 0 = -1) (h6 : a6 0 = -1) (h7 : a7 0 = -1) (h8 : a8 0 = 0) (h11 : a11 0 = 2)
    (H3 : c < 0 ∨ ¬ c ≤ 1 → post (-3) (1, 1, fc, fm, fw, fg, fl, fr, fx, a1, a2, a3, a4, a5, a6, a7, a8, a9, a10, a11, a12, a13, a14, a15, a16, a17, a18, a19, a20, a21, a22, a23, a24, a25, a26, a27, a28, a29, a30))
    (H6 : (c = 0 ∨ c = 1) → (m < 0 ∨ ¬ m ≤ 5) → post (-6) (1, 1, fc, fm, fw, fg, fl, fr, fx, a1, a2, a3, a4, a5, a6, a7, a8, a9, a10, a11, a12, a13, a14, a15, a16, a17, a18, a19, a20, a21, a22, a23, a24, a25, a26, a27, a28, a29, a30))
    (H : (c = 0 ∨ c = 1) → ¬ m < 0 → m ≤ 5 → ∀ b4 b5 b6 b7 b8 b9 b10 b11 : Nat → Int32, b4 0 = 0 → b4 1 = 1 → b5 0 = -1 → b5 1 = 0 → b6 0 = -1 → b6 1 = -1 → b7 0 = 1 → b8 0 = 0 → b8 1 = c → b9 1 = m → b10 1 = v → b11 0 = 2 → b11 1 = 2 →
      post 1 (1, 2, fc, fm, fw, fg, fl, fr, fx, a1, a2, a3, b4, b5, b6, b7, b8, b9, b10, b11, a12, a13, a14, a15, a16, a17, a18, a19, a20, a21, a22, a23, a24, a25, a26, a27, a28, a29, a30)) :
    wpX_filter post (1, 1, fc, fm, fw, fg, fl, fr, fx, a1, a2, a3, a4, a5, a6, a7, a8, a9, a10, a11, a12, a13, a14, a15, a16, a17, a18, a19, a20, a21, a22, a23, a24, a25, a26, a27, a28, a29, a30) 0 c m v := by
  unfold wpX_filter
  refine qp_childFault h7 (br_t rfl (qp_noColumn h11 (fun hc => br_f (by decide) (H3 hc)) (fun hc => br_t rfl (br_c (fun h => H6 hc (Or.inl h)) (fun h => br_c (fun g => ?_) (fun g => H6 hc (Or.inr g)))))))
  refine ⟨pk_in 0 12 (by decide), qp_add1 (qp_params 1 (by decide) (H hc h g _ _ _ _ _ _ _ _ ?_ ?_ ?_ ?_ ?_ ?_ ?_ ?_ ?_ ?_ ?_ ?_ ?_))⟩
  · exact h4
  · rfl
  · exact h5
  · rfl
  · exact h6
  · rfl
  · rfl
  · exact h8
  · rfl
  · rfl
  · rfl
  · exact h11
  · exact h11
end
end
section
section
variable {ft fn fc fm fw fg fl fr fx : Int32} {a1 a2 a3 a4 a5 a6 a7 a8 a9 a10 a11 a12 a13 a14 a15 a16 a17 a18 a19 a20 a21 a22 a23 a24 a25 a26 a27 a28 a29 a30 : Nat → Int32}
theorem qp_put0 {post : St2 → Prop} (k : Nat) (hk : k < 192) {o x y z : Int32} (H : post (ft, fn, nI (k + 1), fm, fw, fg, 0, fr, fx, a1, a2, a3, a4, a5, a6, a7, a8, a9, a10, a11, a12, a13, upd a14 k o, upd a15 k x, upd a16 k y, upd a17 k z, upd a18 k 0, a19, a20, a21, a22, a23, a24, a25, a26, a27, a28, a29, a30)) :
    wpX_put post (ft, fn, nI k, fm, fw, fg, 0, fr, fx, a1, a2, a3, a4, a5, a6, a7, a8, a9, a10, a11, a12, a13, a14, a15, a16, a17, a18, a19, a20, a21, a22, a23, a24, a25, a26, a27, a28, a29, a30) o x y z := by
  have e : (nI k).toNatClampNeg = k := nI_clamp (by omega)
  have hi : vp_in (nI k) 192 := pk_in k 192 hk
  unfold wpX_put
  refine ⟨hi, nm_r (e' := upd a14 k o) (by rw [e]) ⟨hi, nm_r (e' := upd a15 k x) (by rw [e]) ⟨hi, nm_r (e' := upd a16 k y) (by rw [e]) ⟨hi, nm_r (e' := upd a17 k z) (by rw [e]) (br_t (by decide) ?_)⟩⟩⟩⟩
  exact ⟨hi, nm_r (e' := upd a18 k 0) (by rw [e]) (nm_r (nI_1 k) H)⟩
theorem qp_put1 {post : St2 → Prop} (k : Nat) (hk : k < 192) {o x y z : Int32} (H : post (ft, fn, nI (k + 1), fm, fw, fg, 1, fr, fx, a1, a2, a3, a4, a5, a6, a7, a8, a9, a10, a11, a12, a13, upd a14 k o, upd a15 k x, upd a16 k y, upd a17 k z, upd a18 k (a19 0), a19, a20, a21, a22, a23, a24, a25, a26, a27, a28, a29, a30)) :
    wpX_put post (ft, fn, nI k, fm, fw, fg, 1, fr, fx, a1, a2, a3, a4, a5, a6, a7, a8, a9, a10, a11, a12, a13, a14, a15, a16, a17, a18, a19, a20, a21, a22, a23, a24, a25, a26, a27, a28, a29, a30) o x y z := by
  have e : (nI k).toNatClampNeg = k := nI_clamp (by omega)
  have hi : vp_in (nI k) 192 := pk_in k 192 hk
  unfold wpX_put
  refine ⟨hi, nm_r (e' := upd a14 k o) (by rw [e]) ⟨hi, nm_r (e' := upd a15 k x) (by rw [e]) ⟨hi, nm_r (e' := upd a16 k y) (by rw [e]) ⟨hi, nm_r (e' := upd a17 k z) (by rw [e]) (br_f (by decide) ⟨pk_in 0 8 (by decide), ?_⟩)⟩⟩⟩⟩
  exact ⟨hi, nm_r (e' := upd a18 k (a19 0)) (by rw [e]; rfl) (nm_r (nI_1 k) H)⟩
theorem qp_append2 {post : St2 → Prop} (H : post (ft, fn, fc, 32, 2, 2, fl, fr, fx, a1, a2, a3, a4, a5, a6, a7, a8, a9, a10, a11, a12, a13, a14, a15, a16, a17, a18, a19, a20, a21, a22, a23, a24, a25, a26, a27, a28, a29, a30)) : wpX_appendColumns post (ft, fn, fc, 0, 0, 0, fl, fr, fx, a1, a2, a3, a4, a5, a6, a7, a8, a9, a10, a11, a12, a13, a14, a15, a16, a17, a18, a19, a20, a21, a22, a23, a24, a25, a26, a27, a28, a29, a30) 2 := by
  unfold wpX_appendColumns
  refine ⟨3, br_f (by decide) (br_f (by decide) ?_)⟩
  refine nm_r (e' := 1) (by decide) (nm_r (e' := 0) (by decide) (nm_r (e' := 1) (by decide) (nm_r (e' := 1) (by decide) ?_)))
  refine br_f (by decide) (br_f (by decide) ?_)
  refine nm_r (e' := 2) (by decide) (nm_r (e' := 32) (by decide) (nm_r (e' := 2) (by decide) (nm_r (e' := 2) (by decide) ?_)))
  exact br_t (by decide) H
theorem qp_openLoop {post : St2 → Prop} (H : post (ft, fn, fc, fm, fw, fg, 1, fr, fx, a1, a2, a3, a4, a5, a6, a7, a8, a9, a10, a11, a12, a13, a14, a15, a16, a17, a18, upd a19 0 fc, a20, a21, a22, a23, a24, a25, a26, a27, a28, a29, a30)) : wpX_openLoop post (ft, fn, fc, fm, fw, fg, 0, fr, fx, a1, a2, a3, a4, a5, a6, a7, a8, a9, a10, a11, a12, a13, a14, a15, a16, a17, a18, a19, a20, a21, a22, a23, a24, a25, a26, a27, a28, a29, a30) := by
  unfold wpX_openLoop
  exact ⟨pk_in 0 8 (by decide), nm_r (e' := upd a19 0 fc) rfl (nm_r (e' := 1) (by decide) H)⟩
theorem qp_reg {c : Int32} (hc : c = 0 ∨ c = 1) : ((32 : Int32) >>> ((5 * c) &&& 31)) &&& 31 = c := by
  rcases hc with h | h
  · rw [h]; decide
  · rw [h]; decide
theorem qp_regOf {post : Int32 → Prop} {c x : Int32} (hc : c = 0 ∨ c = 1) (hx : x = c) (H : post c) : wpX_regOf post (ft, fn, fc, 32, fw, fg, fl, fr, fx, a1, a2, a3, a4, a5, a6, a7, a8, a9, a10, a11, a12, a13, a14, a15, a16, a17, a18, a19, a20, a21, a22, a23, a24, a25, a26, a27, a28, a29, a30) x := by
  unfold wpX_regOf
  show post (((32 : Int32) >>> ((5 * x) &&& 31)) &&& 31)
  rw [hx, qp_reg hc]
  exact H
theorem qp_operator {post : St2 → Prop} (k : Nat) (hk : k < 192) {c : Int32} (hc : c = 0 ∨ c = 1) (h4 : a4 1 = 1) (h8 : a8 1 = c)
    (H : post (ft, fn, nI (k + 1), 32, fw, fg, 1, fr, fx, a1, a2, a3, a4, a5, a6, a7, a8, a9, a10, a11, a12, a13, upd a14 k 3, upd a15 k c, upd a16 k (a9 1), upd a17 k (a10 1), upd a18 k (a19 0), a19, a20, a21, a22, a23, a24, a25, a26, a27, a28, a29, a30)) :
    wpX_operator post (ft, fn, nI k, 32, fw, fg, 1, fr, fx, a1, a2, a3, a4, a5, a6, a7, a8, a9, a10, a11, a12, a13, a14, a15, a16, a17, a18, a19, a20, a21, a22, a23, a24, a25, a26, a27, a28, a29, a30) 1 := by
  unfold wpX_operator
  refine ⟨pk_in 1 12 (by decide), nm_r (e' := 1) h4 (br_f (by decide) (br_f (by decide) (br_t rfl ⟨pk_in 1 12 (by decide), ?_⟩)))⟩
  exact qp_regOf hc h8 ⟨pk_in 1 12 (by decide), pk_in 1 12 (by decide), qp_put1 k hk H⟩
theorem qp_sink {post : St2 → Prop} (k : Nat) (hk : k < 192)
    (H : post (ft, fn, nI (k + 1), fm, fw, fg, 1, fr, fx, a1, a2, a3, a4, a5, a6, a7, a8, a9, a10, a11, a12, a13, upd a14 k 14, upd a15 k 0, upd a16 k fw, upd a17 k fm, upd a18 k (a19 0), a19, a20, a21, a22, a23, a24, a25, a26, a27, a28, a29, a30)) :
    wpX_sinkCode post (ft, fn, nI k, fm, fw, fg, 1, fr, fx, a1, a2, a3, a4, a5, a6, a7, a8, a9, a10, a11, a12, a13, a14, a15, a16, a17, a18, a19, a20, a21, a22, a23, a24, a25, a26, a27, a28, a29, a30) (-1) := by
  unfold wpX_sinkCode
  exact br_f (by decide) (qp_put1 k hk H)
theorem qp_close {post : St2 → Prop} (h19 : a19 0 = 1)
    (H : post (ft, fn, 5, fm, fw, fg, 1, fr, fx, a1, a2, a3, a4, a5, a6, a7, a8, a9, a10, a11, a12, a13, upd a14 4 15, upd a15 4 0, upd a16 4 0, upd a17 4 0, upd (upd (upd a18 4 (a19 0)) 4 1) 1 5, a19, a20, a21, a22, a23, a24, a25, a26, a27, a28, a29, a30)) :
    wpX_closeLoop post (ft, fn, nI 4, fm, fw, fg, 1, fr, fx, a1, a2, a3, a4, a5, a6, a7, a8, a9, a10, a11, a12, a13, a14, a15, a16, a17, a18, a19, a20, a21, a22, a23, a24, a25, a26, a27, a28, a29, a30) 0 := by
  unfold wpX_closeLoop
  refine ⟨pk_in 0 8 (by decide), nm_r (e' := 1) h19 (qp_put1 4 (by decide) ?_)⟩
  exact ⟨pk_in 4 192 (by decide), nm_r (e' := upd (upd a18 4 (a19 0)) 4 1) rfl ⟨pk_in 1 192 (by decide), nm_r (e' := upd (upd (upd a18 4 (a19 0)) 4 1) 1 5) rfl H⟩⟩
theorem qp_pipeline {post : St2 → Prop} {c : Int32} (hc : c = 0 ∨ c = 1) (h4 : a4 1 = 1) (h7 : a7 0 = 1) (h8 : a8 1 = c) (h11 : a11 0 = 2)
    (H : ∀ b14 b15 b16 b17 b18 b19 : Nat → Int32, b14 0 = 1 → b14 1 = 2 → b14 2 = 3 → b14 3 = 14 → b14 4 = 15 → b15 0 = 0 → b15 1 = 0 → b15 2 = c → b16 1 = 0 → b16 2 = a9 1 → b16 3 = 2 → b17 1 = 32 → b17 2 = a10 1 → b17 3 = 32 → b18 1 = 5 → b18 2 = 1 → b18 4 = 1 →
      post (ft, fn, 5, 32, 2, 2, 0, fr, fx, a1, a2, a3, a4, a5, a6, a7, a8, a9, a10, a11, a12, a13, b14, b15, b16, b17, b18, b19, a20, a21, a22, a23, a24, a25, a26, a27, a28, a29, a30)) :
    wpX_pipeline post (ft, fn, 0, fm, fw, fg, fl, fr, fx, a1, a2, a3, a4, a5, a6, a7, a8, a9, a10, a11, a12, a13, a14, a15, a16, a17, a18, a19, a20, a21, a22, a23, a24, a25, a26, a27, a28, a29, a30) 0 1 (-1) := by
  unfold wpX_pipeline
  refine qp_put0 0 (by decide) ⟨pk_in 0 12 (by decide), ?_⟩
  rw [show a11 (0 : Int32).toNatClampNeg = 2 from h11]
  refine qp_append2 (qp_openLoop (qp_put1 1 (by decide) ⟨2, ?_⟩))
  refine br_f (by decide) (br_f (by decide) ⟨pk_in 0 12 (by decide), nm_r (e' := 1) h7 ?_⟩)
  refine qp_operator 2 (by decide) hc h4 h8 (nm_r (e' := 1) (by decide) ?_)
  refine br_f (by decide) (br_t rfl ?_)
  refine qp_sink 3 (by decide) (nm_r (e' := 0) (by decide) ⟨2, ?_⟩)
  refine br_f (by decide) (qp_close rfl (nm_r (e' := -1) (by decide) ?_))
  refine br_t (by decide) (H _ _ _ _ _ _ ?_ ?_ ?_ ?_ ?_ ?_ ?_ ?_ ?_ ?_ ?_ ?_ ?_ ?_ ?_ ?_ ?_) <;> rfl
theorem qp_isSource0 {post : Int32 → Prop} (h4 : a4 1 = 1) (H : post 0) : wpX_isSource post (ft, fn, fc, fm, fw, fg, fl, fr, fx, a1, a2, a3, a4, a5, a6, a7, a8, a9, a10, a11, a12, a13, a14, a15, a16, a17, a18, a19, a20, a21, a22, a23, a24, a25, a26, a27, a28, a29, a30) 1 := by
  have e : a4 (1 : Int32).toNatClampNeg = 1 := h4
  unfold wpX_isSource
  exact ⟨pk_in 1 12 (by decide), br_f (by rw [e]; decide) ⟨pk_in 1 12 (by decide), br_f (by rw [e]; decide) ⟨pk_in 1 12 (by decide), br_f (by rw [e]; decide) H⟩⟩⟩
theorem qp_isSource1 {post : Int32 → Prop} (h4 : a4 0 = 0) (H : post 1) : wpX_isSource post (ft, fn, fc, fm, fw, fg, fl, fr, fx, a1, a2, a3, a4, a5, a6, a7, a8, a9, a10, a11, a12, a13, a14, a15, a16, a17, a18, a19, a20, a21, a22, a23, a24, a25, a26, a27, a28, a29, a30) 0 := by
  unfold wpX_isSource
  exact ⟨pk_in 0 12 (by decide), br_t h4 H⟩
theorem qp_compileInto {post : St2 → Prop} {c : Int32} (hc : c = 0 ∨ c = 1) (h40 : a4 0 = 0) (h4 : a4 1 = 1) (h5 : a5 1 = 0) (h7 : a7 0 = 1) (h8 : a8 1 = c) (h11 : a11 0 = 2)
    (H : ∀ b14 b15 b16 b17 b18 b19 b20 : Nat → Int32, b14 0 = 1 → b14 1 = 2 → b14 2 = 3 → b14 3 = 14 → b14 4 = 15 → b15 0 = 0 → b15 1 = 0 → b15 2 = c → b16 1 = 0 → b16 2 = a9 1 → b16 3 = 2 → b17 1 = 32 → b17 2 = a10 1 → b17 3 = 32 → b18 1 = 5 → b18 2 = 1 → b18 4 = 1 →
      post (ft, fn, 5, 32, 2, 2, 0, fr, fx, a1, a2, a3, a4, a5, a6, a7, a8, a9, a10, a11, a12, a13, b14, b15, b16, b17, b18, b19, b20, a21, a22, a23, a24, a25, a26, a27, a28, a29, a30)) :
    wpX_compileInto post (ft, fn, 0, fm, fw, fg, fl, fr, fx, a1, a2, a3, a4, a5, a6, a7, a8, a9, a10, a11, a12, a13, a14, a15, a16, a17, a18, a19, a20, a21, a22, a23, a24, a25, a26, a27, a28, a29, a30) (-1) 1 := by
  have e4 : a4 (1 : Int32).toNatClampNeg = 1 := h4
  unfold wpX_compileInto
  refine nm_r (e' := upd a20 0 1) rfl ⟨3, ?_⟩
  refine br_f (by decide) (br_f (by decide) (nm_r (e' := 0) (by decide) ⟨pk_in 0 16 (by decide), nm_r (e' := 1) rfl ?_⟩))
  refine qp_isSource0 h4 (br_t rfl ⟨pk_in 1 12 (by decide), br_f (by rw [e4]; decide) ?_⟩)
  refine ⟨pk_in 1 12 (by decide), pk_in 0 16 (by decide), nm_r (e' := upd (upd a20 0 1) 0 0) (congrArg (upd (upd a20 0 1) 0) h5) (nm_r (e' := 1) (by decide) (nm_r (e' := 1) (by decide) ?_))⟩
  refine br_f (by decide) (br_f (by decide) (nm_r (e' := 0) (by decide) ⟨pk_in 0 16 (by decide), nm_r (e' := 0) rfl ?_⟩))
  refine qp_isSource1 h40 (br_f (by decide) (qp_pipeline hc h4 h7 h8 h11 ?_))
  intro b14 b15 b16 b17 b18 b19 g1 g2 g3 g4 g5 g6 g7 g8 g9 g10 g11 g12 g13 g14 g15 g16 g17
  refine nm_r (e' := 2) (by decide) ?_
  exact br_f (by decide) (br_t (by decide) (H b14 b15 b16 b17 b18 b19 _ g1 g2 g3 g4 g5 g6 g7 g8 g9 g10 g11 g12 g13 g14 g15 g16 g17))
theorem qp_c154 {post : St2 → Prop} {J : Int32 → Int32 → Int32 → Int32 → Int32 → Int32 → Int32 → Int32 → Int32 → Int32 → (Nat → Int32) → (Nat → Int32) → (Nat → Int32) → (Nat → Int32) → (Nat → Int32) → (Nat → Int32) → (Nat → Int32) → (Nat → Int32) → (Nat → Int32) → (Nat → Int32) → (Nat → Int32) → (Nat → Int32) → (Nat → Int32) → (Nat → Int32) → (Nat → Int32) → (Nat → Int32) → (Nat → Int32) → (Nat → Int32) → (Nat → Int32) → (Nat → Int32) → (Nat → Int32) → (Nat → Int32) → (Nat → Int32) → (Nat → Int32) → (Nat → Int32) → (Nat → Int32) → (Nat → Int32) → (Nat → Int32) → (Nat → Int32) → (Nat → Int32) → Prop}
    {x1 : Int32} (k : Nat) (hk : k < 12) (h7 : ¬ a4 k = 7) (h10 : ¬ a4 k = 10) (H : J (nI (k + 1)) ft fn fc fm fw fg fl fr fx a1 a2 a3 a4 a5 a6 a7 a8 a9 a10 a11 a12 a13 a14 a15 a16 a17 a18 a19 a20 a21 a22 a23 a24 a25 a26 a27 a28 a29 a30) : wX_compile_154 post J x1 (nI k) ft fn fc fm fw fg fl fr fx a1 a2 a3 a4 a5 a6 a7 a8 a9 a10 a11 a12 a13 a14 a15 a16 a17 a18 a19 a20 a21 a22 a23 a24 a25 a26 a27 a28 a29 a30 := by
  have e : (nI k).toNatClampNeg = k := nI_clamp (by omega)
  have hi : vp_in (nI k) 12 := pk_in k 12 hk
  unfold wX_compile_154
  exact ⟨hi, br_f (by rw [e]; exact h7) ⟨hi, br_f (by rw [e]; exact h10) (nm_r (nI_1 k) H)⟩⟩
theorem qp_c116 {post : St2 → Prop} {c : Int32} (hc : c = 0 ∨ c = 1) (h40 : a4 0 = 0) (h4 : a4 1 = 1) (h5 : a5 1 = 0) (h7 : a7 0 = 1) (h8 : a8 1 = c) (h11 : a11 0 = 2) (h130 : a13 0 = 1) (h131 : a13 1 = 1)
    (H : ∀ b14 b15 b16 b17 b18 b19 b20 : Nat → Int32, b14 0 = 1 → b14 1 = 2 → b14 2 = 3 → b14 3 = 14 → b14 4 = 15 → b14 5 = 0 → b15 0 = 0 → b15 1 = 0 → b15 2 = c → b16 1 = 0 → b16 2 = a9 1 → b16 3 = 2 → b17 1 = 32 → b17 2 = a10 1 → b17 3 = 32 → b18 1 = 5 → b18 2 = 1 → b18 4 = 1 →
      post (ft, fn, 6, 32, 2, 2, 0, fr, fx, a1, a2, a3, a4, a5, a6, a7, a8, a9, a10, a11, a12, a13, b14, b15, b16, b17, b18, b19, b20, a21, a22, a23, a24, a25, a26, a27, a28, a29, a30)) :
    ∃ n, wX_compile_116 post 1 n 0 ft fn 0 fm fw fg 0 fr fx a1 a2 a3 a4 a5 a6 a7 a8 a9 a10 a11 a12 a13 a14 a15 a16 a17 a18 a19 a20 a21 a22 a23 a24 a25 a26 a27 a28 a29 a30 := by
  have e40 : a4 (0 : Int32).toNatClampNeg = 0 := h40
  have e41 : a4 (1 : Int32).toNatClampNeg = 1 := h4
  have e130 : a13 (0 : Int32).toNatClampNeg = 1 := h130
  have e131 : a13 (1 : Int32).toNatClampNeg = 1 := h131
  refine ⟨3, ?_⟩
  refine br_f (by decide) ⟨pk_in 0 12 (by decide), br_f (by rw [e130]; decide) ⟨pk_in 0 12 (by decide), br_f (by rw [e40]; decide) (qp_c154 0 (by decide) (by rw [h40]; decide) (by rw [h40]; decide) ?_)⟩⟩
  refine br_f (by decide) ⟨pk_in 1 12 (by decide), br_f (by rw [show a13 (nI (0 + 1)).toNatClampNeg = 1 from h131]; decide) ⟨pk_in 1 12 (by decide), br_f (by rw [show a4 (nI (0 + 1)).toNatClampNeg = 1 from h4]; decide) (qp_c154 1 (by decide) (by rw [h4]; decide) (by rw [h4]; decide) ?_)⟩⟩
  refine br_t (by decide) (qp_compileInto hc h40 h4 h5 h7 h8 h11 ?_)
  intro b14 b15 b16 b17 b18 b19 b20 g1 g2 g3 g4 g5 g6 g7 g8 g9 g10 g11 g12 g13 g14 g15 g16 g17
  exact qp_put0 5 (by decide) (H (upd b14 5 0) (upd b15 5 0) (upd b16 5 0) (upd b17 5 0) (upd b18 5 0) b19 b20 g1 g2 g3 g4 g5 rfl g6 g7 g8 g9 g10 g11 g12 g13 g14 g15 g16 g17)
theorem qp_c44 {post : St2 → Prop} {c : Int32} (hc : c = 0 ∨ c = 1) (h40 : a4 0 = 0) (h4 : a4 1 = 1) (h50 : a5 0 = -1) (h5 : a5 1 = 0) (h60 : a6 0 = -1) (h6 : a6 1 = -1) (h7 : a7 0 = 1) (h8 : a8 1 = c) (h11 : a11 0 = 2) (h131 : a13 1 = 1)
    (H : ∀ b13 b14 b15 b16 b17 b18 b19 b20 : Nat → Int32, b14 0 = 1 → b14 1 = 2 → b14 2 = 3 → b14 3 = 14 → b14 4 = 15 → b14 5 = 0 → b15 0 = 0 → b15 1 = 0 → b15 2 = c → b16 1 = 0 → b16 2 = a9 1 → b16 3 = 2 → b17 1 = 32 → b17 2 = a10 1 → b17 3 = 32 → b18 1 = 5 → b18 2 = 1 → b18 4 = 1 →
      post (ft, fn, 6, 32, 2, 2, 0, fr, fx, a1, a2, a3, a4, a5, a6, a7, a8, a9, a10, a11, a12, b13, b14, b15, b16, b17, b18, b19, b20, a21, a22, a23, a24, a25, a26, a27, a28, a29, a30)) :
    ∃ n, wX_compile_44 post 1 ft fn 0 fm fw fg 0 fr fx n 1 a1 a2 a3 a4 a5 a6 a7 a8 a9 a10 a11 a12 a13 a14 a15 a16 a17 a18 a19 a20 a21 a22 a23 a24 a25 a26 a27 a28 a29 a30 := by
  have e50 : a5 (0 : Int32).toNatClampNeg = -1 := h50
  have e51 : a5 (1 : Int32).toNatClampNeg = 0 := h5
  have e60 : a6 (0 : Int32).toNatClampNeg = -1 := h60
  have e61 : a6 (1 : Int32).toNatClampNeg = -1 := h6
  have e131 : a13 (1 : Int32).toNatClampNeg = 1 := h131
  have d130 : upd a13 0 1 (0 : Int32).toNatClampNeg = 1 := rfl
  have d131 : upd a13 0 1 (1 : Int32).toNatClampNeg = 1 := h131
  refine ⟨3, ?_⟩
  refine br_f (by decide) ⟨pk_in 1 12 (by decide), br_f (by rw [e131]; decide) ⟨pk_in 1 12 (by decide), br_f (by rw [e51]; decide) ⟨pk_in 1 12 (by decide), pk_in 0 12 (by decide) e51, nm_r (e' := upd a13 0 1) (by rw [e51]; rfl) ?_⟩⟩⟩
  refine ⟨pk_in 1 12 (by decide), br_f (by rw [d131]; decide) ⟨pk_in 1 12 (by decide), br_t (by rw [e61]; decide) (nm_r (e' := 0) (by decide) ?_)⟩⟩
  refine br_f (by decide) ⟨pk_in 0 12 (by decide), br_f (by rw [d130]; decide) ⟨pk_in 0 12 (by decide), br_t (by rw [e50]; decide) ?_⟩⟩
  refine ⟨pk_in 0 12 (by decide), br_f (by rw [d130]; decide) ⟨pk_in 0 12 (by decide), br_t (by rw [e60]; decide) (nm_r (e' := -1) (by decide) ?_)⟩⟩
  exact br_t (by decide) (qp_c116 hc h40 h4 h5 h7 h8 h11 d130 d131 (H (upd a13 0 1)))
theorem qp_compile {post : St2 → Prop} {c : Int32} (hc : c = 0 ∨ c = 1) (h40 : a4 0 = 0) (h4 : a4 1 = 1) (h50 : a5 0 = -1) (h5 : a5 1 = 0) (h60 : a6 0 = -1) (h6 : a6 1 = -1) (h7 : a7 0 = 1) (h8 : a8 1 = c) (h11 : a11 0 = 2)
    (H : ∀ b13 b14 b15 b16 b17 b18 b19 b20 : Nat → Int32, b14 0 = 1 → b14 1 = 2 → b14 2 = 3 → b14 3 = 14 → b14 4 = 15 → b14 5 = 0 → b15 0 = 0 → b15 1 = 0 → b15 2 = c → b16 1 = 0 → b16 2 = a9 1 → b16 3 = 2 → b17 1 = 32 → b17 2 = a10 1 → b17 3 = 32 → b18 1 = 5 → b18 2 = 1 → b18 4 = 1 →
      post (ft, 2, 6, 32, 2, 2, 0, fr, fx, a1, a2, a3, a4, a5, a6, a7, a8, a9, a10, a11, a12, b13, b14, b15, b16, b17, b18, b19, b20, a21, a22, a23, a24, a25, a26, a27, a28, a29, a30)) :
    wpX_compile post (ft, 2, fc, fm, fw, fg, fl, fr, fx, a1, a2, a3, a4, a5, a6, a7, a8, a9, a10, a11, a12, a13, a14, a15, a16, a17, a18, a19, a20, a21, a22, a23, a24, a25, a26, a27, a28, a29, a30) 1 := by
  unfold wpX_compile
  refine ⟨3, ?_⟩
  refine br_f (by decide) (br_f (by decide) ⟨pk_in 0 12 (by decide), nm_r (e' := upd a13 0 0) rfl (nm_r (e' := 1) (by decide) ?_)⟩)
  refine br_f (by decide) (br_t rfl ⟨pk_in 1 12 (by decide), nm_r (e' := upd (upd a13 0 0) 1 1) rfl (nm_r (e' := 2) (by decide) ?_)⟩)
  exact br_t (by decide) (qp_c44 hc h40 h4 h50 h5 h60 h6 h7 h8 h11 rfl H)
end
end
section
section
variable {ft fn fc fm fw fg fl fr fx : Int32} {a1 a2 a3 a4 a5 a6 a7 a8 a9 a10 a11 a12 a13 a14 a15 a16 a17 a18 a19 a20 a21 a22 a23 a24 a25 a26 a27 a28 a29 a30 : Nat → Int32}
theorem qp_holdsX {post : Int32 → Prop} {m x v : Int32} (h0 : ¬ m < 0) (h5 : m ≤ 5) (H1 : qp_hb m x v → post 1) (H0 : ¬ qp_hb m x v → post 0) : wpX_holds post () m x v := by
  obtain ⟨j, hj, rfl⟩ := nI_of2 (M := 5) (n := 5) (by decide) h0 h5
  have hm : j = 0 ∨ j = 1 ∨ j = 2 ∨ j = 3 ∨ j = 4 ∨ j = 5 := by omega
  unfold wpX_holds
  rcases hm with rfl | rfl | rfl | rfl | rfl | rfl
  · refine br_f (by decide) (br_f (by decide) (br_t rfl (br_c (fun g => H1 (Or.inl ⟨rfl, g⟩)) (fun g => H0 ?_))))
    rintro (⟨_, z⟩ | ⟨z, _⟩ | ⟨z, _⟩ | ⟨z, _⟩ | ⟨z, _⟩ | ⟨z, _⟩)
    · exact g z
    all_goals exact absurd z (by decide)
  · refine br_f (by decide) (br_f (by decide) (br_f (by decide) (br_t rfl (br_c (fun g => H0 ?_) (fun g => H1 (Or.inr (Or.inl ⟨rfl, g⟩)))))))
    rintro (⟨z, _⟩ | ⟨_, z⟩ | ⟨z, _⟩ | ⟨z, _⟩ | ⟨z, _⟩ | ⟨z, _⟩)
    rotate_left 1
    · exact z g
    all_goals exact absurd z (by decide)
  · refine br_f (by decide) (br_f (by decide) (br_f (by decide) (br_f (by decide) (br_t rfl (br_c (fun g => H0 ?_) (fun g => H1 (Or.inr (Or.inr (Or.inl ⟨rfl, qp_nle.mp g⟩)))))))))
    rintro (⟨z, _⟩ | ⟨z, _⟩ | ⟨_, z⟩ | ⟨z, _⟩ | ⟨z, _⟩ | ⟨z, _⟩)
    rotate_left 2
    · exact (qp_nle.mpr z) g
    all_goals exact absurd z (by decide)
  · refine br_f (by decide) (br_f (by decide) (br_f (by decide) (br_f (by decide) (br_f (by decide) (br_t rfl (br_c (fun g => H0 ?_) (fun g => H1 (Or.inr (Or.inr (Or.inr (Or.inl ⟨rfl, qp_nlt.mp g⟩)))))))))))
    rintro (⟨z, _⟩ | ⟨z, _⟩ | ⟨z, _⟩ | ⟨_, z⟩ | ⟨z, _⟩ | ⟨z, _⟩)
    rotate_left 3
    · exact (qp_nlt.mpr z) g
    all_goals exact absurd z (by decide)
  · refine br_f (by decide) (br_f (by decide) (br_f (by decide) (br_f (by decide) (br_f (by decide) (br_f (by decide) (br_t rfl (br_c (fun g => H0 ?_) (fun g => H1 (Or.inr (Or.inr (Or.inr (Or.inr (Or.inl ⟨rfl, qp_nle.mp g⟩)))))))))))))
    rintro (⟨z, _⟩ | ⟨z, _⟩ | ⟨z, _⟩ | ⟨z, _⟩ | ⟨_, z⟩ | ⟨z, _⟩)
    rotate_left 4
    · exact (qp_nle.mpr z) g
    all_goals exact absurd z (by decide)
  · refine br_f (by decide) (br_t (by decide) (br_c (fun g => H0 ?_) (fun g => H1 (Or.inr (Or.inr (Or.inr (Or.inr (Or.inr ⟨rfl, g⟩))))))))
    rintro (⟨z, _⟩ | ⟨z, _⟩ | ⟨z, _⟩ | ⟨z, _⟩ | ⟨z, _⟩ | ⟨_, z⟩)
    rotate_left 5
    · exact z g
    all_goals exact absurd z (by decide)
theorem qp_336t {post : Int32 → St2 → Prop} (k : Nat) (H : post (nI (k + 1)) (ft, fn, fc, fm, fw, fg, fl, fr, fx, a1, a2, a3, a4, a5, a6, a7, a8, a9, a10, a11, a12, a13, a14, a15, a16, a17, a18, a19, a20, a21, a22, a23, a24, a25, a26, a27, a28, a29, a30)) : wX_perform_336 post (nI k) 1 ft fn fc fm fw fg fl fr fx a1 a2 a3 a4 a5 a6 a7 a8 a9 a10 a11 a12 a13 a14 a15 a16 a17 a18 a19 a20 a21 a22 a23 a24 a25 a26 a27 a28 a29 a30 := by
  unfold wX_perform_336
  refine br_f (by decide) ?_
  rw [nI_1]
  exact H
theorem qp_336f {post : Int32 → St2 → Prop} (k : Nat) (hk : k < 192) {d : Int32} (hd : a18 k = d) (H : post d (ft, fn, fc, fm, fw, fg, fl, fr, fx, a1, a2, a3, a4, a5, a6, a7, a8, a9, a10, a11, a12, a13, a14, a15, a16, a17, a18, a19, a20, a21, a22, a23, a24, a25, a26, a27, a28, a29, a30)) : wX_perform_336 post (nI k) 0 ft fn fc fm fw fg fl fr fx a1 a2 a3 a4 a5 a6 a7 a8 a9 a10 a11 a12 a13 a14 a15 a16 a17 a18 a19 a20 a21 a22 a23 a24 a25 a26 a27 a28 a29 a30 := by
  have e : a18 (nI k).toNatClampNeg = d := by rw [nI_clamp (by omega)]; exact hd
  unfold wX_perform_336
  refine br_t rfl ⟨pk_in k 192 hk, ?_⟩
  rw [e]
  exact H
theorem qp_pOpen {post : Int32 → St2 → Prop} (h14 : a14 0 = 1) (h15 : a15 0 = 0) (H : post 1 (ft, fn, fc, fm, fw, fg, fl, fr, fx, a1, a2, a3, a4, a5, a6, a7, a8, a9, a10, a11, a12, a13, a14, a15, a16, a17, a18, a19, a20, a21, upd a22 0 0, a23, a24, a25, a26, a27, a28, a29, a30)) : wpX_perform post (ft, fn, fc, fm, fw, fg, fl, fr, fx, a1, a2, a3, a4, a5, a6, a7, a8, a9, a10, a11, a12, a13, a14, a15, a16, a17, a18, a19, a20, a21, a22, a23, a24, a25, a26, a27, a28, a29, a30) 0 := by
  have hi : vp_in 0 192 := pk_in 0 192 (by decide)
  unfold wpX_perform
  refine ⟨hi, nm_r (e' := 0) h15 ⟨hi, nm_e ⟨hi, nm_e ⟨hi, nm_r (e' := 1) h14 (br_f (by decide) (br_f (by decide) (br_t rfl ⟨pk_in 0 8 (by decide), nm_r (e' := upd a22 0 0) rfl ?_⟩)))⟩⟩⟩⟩
  exact qp_336t 0 H
theorem qp_fetch0 {post : Int32 → St2 → Prop} (h22 : a22 0 = 1) (h4 : a4 0 = 0) (h8 : a8 0 = 0) (h2 : a2 0 = 1) (H : post 0 (ft, fn, fc, fm, fw, fg, fl, fr, fx, a1, a2, a3, a4, a5, a6, a7, a8, a9, a10, a11, a12, a13, a14, a15, a16, a17, a18, a19, a20, a21, a22, a23, a24, a25, a26, a27, a28, a29, a30)) : wpX_fetch post (ft, fn, fc, fm, fw, fg, fl, fr, fx, a1, a2, a3, a4, a5, a6, a7, a8, a9, a10, a11, a12, a13, a14, a15, a16, a17, a18, a19, a20, a21, a22, a23, a24, a25, a26, a27, a28, a29, a30) 0 0 32 := by
  have e8 : a8 (0 : Int32).toNatClampNeg = 0 := h8
  have e2 : a2 (0 : Int32).toNatClampNeg = 1 := h2
  unfold wpX_fetch
  refine ⟨pk_in 0 8 (by decide), nm_r (e' := 1) h22 ⟨pk_in 0 12 (by decide), br_t h4 ?_⟩⟩
  refine br_f (by decide) ⟨pk_in 0 12 (by decide), pk_in 0 4 (by decide) e8, ?_⟩
  exact br_f (by rw [e8, e2]; decide) H
theorem qp_fetch1 {post : Int32 → St2 → Prop} (h22 : a22 0 = 0) (h4 : a4 0 = 0) (h8 : a8 0 = 0) (h2 : a2 0 = 1) (h11 : a11 0 = 2)
    (H : post 1 (ft, fn, fc, fm, fw, fg, fl, fr, fx, a1, a2, a3, a4, a5, a6, a7, a8, a9, a10, a11, a12, a13, a14, a15, a16, a17, a18, a19, a20, upd (upd a21 0 (a3 0)) 1 (a3 1), upd a22 0 1, a23, a24, a25, a26, a27, a28, a29, a30)) : wpX_fetch post (ft, fn, fc, fm, fw, fg, fl, fr, fx, a1, a2, a3, a4, a5, a6, a7, a8, a9, a10, a11, a12, a13, a14, a15, a16, a17, a18, a19, a20, a21, a22, a23, a24, a25, a26, a27, a28, a29, a30) 0 0 32 := by
  have e8 : a8 (0 : Int32).toNatClampNeg = 0 := h8
  have e2 : a2 (0 : Int32).toNatClampNeg = 1 := h2
  have e11 : a11 (0 : Int32).toNatClampNeg = 2 := h11
  unfold wpX_fetch
  refine ⟨pk_in 0 8 (by decide), nm_r (e' := 0) h22 ⟨pk_in 0 12 (by decide), br_t h4 ?_⟩⟩
  refine br_f (by decide) ⟨pk_in 0 12 (by decide), pk_in 0 4 (by decide) e8, ?_⟩
  refine br_t (by rw [e8, e2]; decide) ⟨3, ?_⟩
  refine ⟨pk_in 0 12 (by decide), br_f (by rw [e11]; decide) (br_f (by decide) ⟨pk_in 0 12 (by decide), pk_in 0 120 (by decide) (by rw [e8]; rfl), ?_⟩)⟩
  refine ⟨pk_in 0 32 (by decide) (by decide), nm_r (e' := upd a21 0 (a3 0)) (by rw [e8]; rfl) (nm_r (e' := 1) (by decide) ?_)⟩
  refine ⟨pk_in 0 12 (by decide), br_f (by rw [e11]; decide) (br_f (by decide) ⟨pk_in 0 12 (by decide), pk_in 1 120 (by decide) (by rw [e8]; rfl), ?_⟩)⟩
  refine ⟨pk_in 1 32 (by decide) (by decide), nm_r (e' := upd (upd a21 0 (a3 0)) 1 (a3 1)) (by rw [e8]; rfl) (nm_r (e' := 2) (by decide) ?_)⟩
  refine ⟨pk_in 0 12 (by decide), br_t (by rw [e11]; decide) ⟨pk_in 0 8 (by decide), nm_r (e' := upd a22 0 1) rfl H⟩⟩
theorem qp_pFetch0 {post : Int32 → St2 → Prop} (h14 : a14 1 = 2) (h15 : a15 1 = 0) (h16 : a16 1 = 0) (h17 : a17 1 = 32) (h18 : a18 1 = 5) (h22 : a22 0 = 1) (h4 : a4 0 = 0) (h8 : a8 0 = 0) (h2 : a2 0 = 1)
    (H : post 5 (ft, fn, fc, fm, fw, fg, fl, fr, fx, a1, a2, a3, a4, a5, a6, a7, a8, a9, a10, a11, a12, a13, a14, a15, a16, a17, a18, a19, a20, a21, a22, a23, a24, a25, a26, a27, a28, a29, a30)) : wpX_perform post (ft, fn, fc, fm, fw, fg, fl, fr, fx, a1, a2, a3, a4, a5, a6, a7, a8, a9, a10, a11, a12, a13, a14, a15, a16, a17, a18, a19, a20, a21, a22, a23, a24, a25, a26, a27, a28, a29, a30) 1 := by
  have hi : vp_in 1 192 := pk_in 1 192 (by decide)
  unfold wpX_perform
  refine ⟨hi, nm_r (e' := 0) h15 ⟨hi, nm_r (e' := 0) h16 ⟨hi, nm_r (e' := 32) h17 ⟨hi, nm_r (e' := 2) h14 (br_f (by decide) (br_f (by decide) (br_f (by decide) (br_t rfl ?_))))⟩⟩⟩⟩
  exact qp_fetch0 h22 h4 h8 h2 (qp_336f 1 (by decide) h18 H)
theorem qp_pFetch1 {post : Int32 → St2 → Prop} (h14 : a14 1 = 2) (h15 : a15 1 = 0) (h16 : a16 1 = 0) (h17 : a17 1 = 32) (h22 : a22 0 = 0) (h4 : a4 0 = 0) (h8 : a8 0 = 0) (h2 : a2 0 = 1) (h11 : a11 0 = 2)
    (H : post 2 (ft, fn, fc, fm, fw, fg, fl, fr, fx, a1, a2, a3, a4, a5, a6, a7, a8, a9, a10, a11, a12, a13, a14, a15, a16, a17, a18, a19, a20, upd (upd a21 0 (a3 0)) 1 (a3 1), upd a22 0 1, a23, a24, a25, a26, a27, a28, a29, a30)) : wpX_perform post (ft, fn, fc, fm, fw, fg, fl, fr, fx, a1, a2, a3, a4, a5, a6, a7, a8, a9, a10, a11, a12, a13, a14, a15, a16, a17, a18, a19, a20, a21, a22, a23, a24, a25, a26, a27, a28, a29, a30) 1 := by
  have hi : vp_in 1 192 := pk_in 1 192 (by decide)
  unfold wpX_perform
  refine ⟨hi, nm_r (e' := 0) h15 ⟨hi, nm_r (e' := 0) h16 ⟨hi, nm_r (e' := 32) h17 ⟨hi, nm_r (e' := 2) h14 (br_f (by decide) (br_f (by decide) (br_f (by decide) (br_t rfl ?_))))⟩⟩⟩⟩
  exact qp_fetch1 h22 h4 h8 h2 h11 (qp_336t 1 H)
theorem qp_pTest {post : Int32 → St2 → Prop} {c m v x : Int32} (h14 : a14 2 = 3) (h15 : a15 2 = c) (h16 : a16 2 = m) (h17 : a17 2 = v) (h18 : a18 2 = 1) (hc : c = 0 ∨ c = 1) (h0 : ¬ m < 0) (h5 : m ≤ 5) (hx : a21 c.toNatClampNeg = x)
    (H1 : qp_hb m x v → post 3 (ft, fn, fc, fm, fw, fg, fl, fr, fx, a1, a2, a3, a4, a5, a6, a7, a8, a9, a10, a11, a12, a13, a14, a15, a16, a17, a18, a19, a20, a21, a22, a23, a24, a25, a26, a27, a28, a29, a30)) (H0 : ¬ qp_hb m x v → post 1 (ft, fn, fc, fm, fw, fg, fl, fr, fx, a1, a2, a3, a4, a5, a6, a7, a8, a9, a10, a11, a12, a13, a14, a15, a16, a17, a18, a19, a20, a21, a22, a23, a24, a25, a26, a27, a28, a29, a30)) : wpX_perform post (ft, fn, fc, fm, fw, fg, fl, fr, fx, a1, a2, a3, a4, a5, a6, a7, a8, a9, a10, a11, a12, a13, a14, a15, a16, a17, a18, a19, a20, a21, a22, a23, a24, a25, a26, a27, a28, a29, a30) 2 := by
  have hi : vp_in 2 192 := pk_in 2 192 (by decide)
  have hci : vp_in c 32 := by
    rcases hc with z | z
    · exact pk_in 0 32 (by decide) z
    · exact pk_in 1 32 (by decide) z
  unfold wpX_perform
  refine ⟨hi, nm_r (e' := c) h15 ⟨hi, nm_r (e' := m) h16 ⟨hi, nm_r (e' := v) h17 ⟨hi, nm_r (e' := 3) h14 (br_f (by decide) (br_f (by decide) (br_f (by decide) (br_f (by decide) (br_t rfl ⟨hci, ?_⟩)))))⟩⟩⟩⟩
  rw [hx]
  exact qp_holdsX h0 h5 (fun z => qp_336t 2 (H1 z)) (fun z => qp_336f 2 (by decide) h18 (H0 z))
theorem qp_pEmit {post : Int32 → St2 → Prop} (h14 : a14 3 = 14) (h16 : a16 3 = 2) (h17 : a17 3 = 32)
    (H : post 4 (ft, fn, fc, fm, fw, fg, fl, 1, fx, a1, a2, a3, a4, a5, a6, a7, a8, a9, a10, a11, a12, a13, a14, a15, a16, a17, a18, a19, a20, a21, a22, a23, a24, a25, a26, a27, a28, a29, upd (upd a30 0 (a21 0)) 1 (a21 1))) : wpX_perform post (ft, fn, fc, fm, fw, fg, fl, 0, fx, a1, a2, a3, a4, a5, a6, a7, a8, a9, a10, a11, a12, a13, a14, a15, a16, a17, a18, a19, a20, a21, a22, a23, a24, a25, a26, a27, a28, a29, a30) 3 := by
  have hi : vp_in 3 192 := pk_in 3 192 (by decide)
  unfold wpX_perform
  refine ⟨hi, nm_e ⟨hi, nm_r (e' := 2) h16 ⟨hi, nm_r (e' := 32) h17 ⟨hi, nm_r (e' := 14) h14 (br_f (by decide) (br_f (by decide) ?_))⟩⟩⟩⟩
  refine br_f (by decide) (br_f (by decide) (br_f (by decide) (br_f (by decide) (br_f (by decide) (br_f (by decide) (br_f (by decide) (br_f (by decide) (br_f (by decide) (br_f (by decide) (br_f (by decide) (br_f (by decide) (br_f (by decide) (br_t rfl ?_)))))))))))))
  unfold wpX_emitRow
  refine br_t (by decide) ⟨3, ?_⟩
  refine br_f (by decide) ⟨pk_in 0 32 (by decide) (by decide), pk_in 0 144 (by decide) (by decide), nm_r (e' := upd a30 0 (a21 0)) rfl (nm_r (e' := 1) (by decide) ?_)⟩
  refine br_f (by decide) ⟨pk_in 1 32 (by decide) (by decide), pk_in 1 144 (by decide) (by decide), nm_r (e' := upd (upd a30 0 (a21 0)) 1 (a21 1)) rfl (nm_r (e' := 2) (by decide) ?_)⟩
  exact br_t (by decide) (nm_r (e' := 1) (by decide) (qp_336t 3 H))
theorem qp_pJump {post : Int32 → St2 → Prop} (h14 : a14 4 = 15) (h18 : a18 4 = 1) (H : post 1 (ft, fn, fc, fm, fw, fg, fl, fr, fx, a1, a2, a3, a4, a5, a6, a7, a8, a9, a10, a11, a12, a13, a14, a15, a16, a17, a18, a19, a20, a21, a22, a23, a24, a25, a26, a27, a28, a29, a30)) : wpX_perform post (ft, fn, fc, fm, fw, fg, fl, fr, fx, a1, a2, a3, a4, a5, a6, a7, a8, a9, a10, a11, a12, a13, a14, a15, a16, a17, a18, a19, a20, a21, a22, a23, a24, a25, a26, a27, a28, a29, a30) 4 := by
  have hi : vp_in 4 192 := pk_in 4 192 (by decide)
  unfold wpX_perform
  refine ⟨hi, nm_e ⟨hi, nm_e ⟨hi, nm_e ⟨hi, nm_r (e' := 15) h14 (br_f (by decide) (br_t (by decide) ?_))⟩⟩⟩⟩
  exact qp_336f 4 (by decide) h18 H
theorem qp_e51 {post : St2 → Prop} {c m v : Int32} (hc : c = 0 ∨ c = 1) (h0 : ¬ m < 0) (h5 : m ≤ 5)
    (g1 : a14 0 = 1) (g2 : a14 1 = 2) (g3 : a14 2 = 3) (g4 : a14 3 = 14) (g5 : a14 4 = 15) (g5' : a14 5 = 0) (g6 : a15 0 = 0) (g7 : a15 1 = 0) (g8 : a15 2 = c) (g9 : a16 1 = 0) (g10 : a16 2 = m) (g11 : a16 3 = 2) (g12 : a17 1 = 32) (g13 : a17 2 = v) (g14 : a17 3 = 32) (g15 : a18 1 = 5) (g16 : a18 2 = 1) (g17 : a18 4 = 1)
    (h4 : a4 0 = 0) (h8 : a8 0 = 0) (h2 : a2 0 = 1) (h11 : a11 0 = 2)
    (H1 : qp_hb m (if c = 0 then a3 0 else a3 1) v → ∀ b21 b22 b30 : Nat → Int32, b30 0 = a3 0 → b30 1 = a3 1 → post (ft, fn, fc, fm, fw, fg, fl, 1, fx, a1, a2, a3, a4, a5, a6, a7, a8, a9, a10, a11, a12, a13, a14, a15, a16, a17, a18, a19, a20, b21, b22, a23, a24, a25, a26, a27, a28, a29, b30))
    (H0 : ¬ qp_hb m (if c = 0 then a3 0 else a3 1) v → ∀ b21 b22 : Nat → Int32, post (ft, fn, fc, fm, fw, fg, fl, 0, fx, a1, a2, a3, a4, a5, a6, a7, a8, a9, a10, a11, a12, a13, a14, a15, a16, a17, a18, a19, a20, b21, b22, a23, a24, a25, a26, a27, a28, a29, a30)) :
    ∃ n, wX_execute_51 post n 0 0 ft fn fc fm fw fg fl 0 fx a1 a2 a3 a4 a5 a6 a7 a8 a9 a10 a11 a12 a13 a14 a15 a16 a17 a18 a19 a20 a21 a22 a23 a24 a25 a26 a27 a28 a29 a30 := by
  have hx : (upd (upd a21 0 (a3 0)) 1 (a3 1)) c.toNatClampNeg = (if c = 0 then a3 0 else a3 1) := by
    rcases hc with z | z
    · rw [z, if_pos rfl]; rfl
    · rw [z, if_neg (by decide)]; rfl
  refine ⟨7, ?_⟩
  refine br_f (by decide) ⟨pk_in 0 192 (by decide), br_f (by rw [show a14 (0 : Int32).toNatClampNeg = 1 from g1]; decide) (qp_pOpen g1 g6 (nm_r (e' := 1) (by decide) ?_))⟩
  refine br_f (by decide) ⟨pk_in 1 192 (by decide), br_f (by rw [show a14 (1 : Int32).toNatClampNeg = 2 from g2]; decide) (qp_pFetch1 g2 g7 g9 g12 rfl h4 h8 h2 h11 (nm_r (e' := 2) (by decide) ?_))⟩
  refine br_f (by decide) ⟨pk_in 2 192 (by decide), br_f (by rw [show a14 (2 : Int32).toNatClampNeg = 3 from g3]; decide) (qp_pTest g3 g8 g10 g13 g16 hc h0 h5 hx (fun z => nm_r (e' := 3) (by decide) ?_) (fun z => nm_r (e' := 3) (by decide) ?_))⟩
  · refine br_f (by decide) ⟨pk_in 3 192 (by decide), br_f (by rw [show a14 (3 : Int32).toNatClampNeg = 14 from g4]; decide) (qp_pEmit g4 g11 g14 (nm_r (e' := 4) (by decide) ?_))⟩
    refine br_f (by decide) ⟨pk_in 4 192 (by decide), br_f (by rw [show a14 (4 : Int32).toNatClampNeg = 15 from g5]; decide) (qp_pJump g5 g17 (nm_r (e' := 5) (by decide) ?_))⟩
    refine br_f (by decide) ⟨pk_in 1 192 (by decide), br_f (by rw [show a14 (1 : Int32).toNatClampNeg = 2 from g2]; decide) (qp_pFetch0 g2 g7 g9 g12 g15 rfl h4 h8 h2 (nm_r (e' := 6) (by decide) ?_))⟩
    exact br_f (by decide) ⟨pk_in 5 192 (by decide), br_t g5' (H1 z _ _ _ rfl rfl)⟩
  · refine br_f (by decide) ⟨pk_in 1 192 (by decide), br_f (by rw [show a14 (1 : Int32).toNatClampNeg = 2 from g2]; decide) (qp_pFetch0 g2 g7 g9 g12 g15 rfl h4 h8 h2 (nm_r (e' := 4) (by decide) ?_))⟩
    exact br_f (by decide) ⟨pk_in 5 192 (by decide), br_t g5' (H0 z _ _)⟩
theorem qp_e23 {post : St2 → Prop} (H : ∀ b27 : Nat → Int32, ∃ n, wX_execute_51 post n 0 0 ft fn fc fm fw fg fl 0 fx a1 a2 a3 a4 a5 a6 a7 a8 a9 a10 a11 a12 a13 a14 a15 a16 a17 a18 a19 a20 a21 a22 a23 a24 a25 a26 b27 a28 a29 a30) : ∃ n, wX_execute_23 post ft fn fc fm fw fg fl fr fx n 0 a1 a2 a3 a4 a5 a6 a7 a8 a9 a10 a11 a12 a13 a14 a15 a16 a17 a18 a19 a20 a21 a22 a23 a24 a25 a26 a27 a28 a29 a30 :=
  pk_loop (fun n i s => wX_execute_23 post ft fn fc fm fw fg fl fr fx n (nI i) a1 a2 a3 a4 a5 a6 a7 a8 a9 a10 a11 a12 a13 a14 a15 a16 a17 a18 a19 a20 a21 a22 a23 a24 a25 a26 s a28 a29 a30) (fun _ _ => True) 96 0 a27 (by omega) trivial
    (fun n s _ => pk_le 96 96 (fun _ => H s) (fun z => absurd z (by omega)))
    (fun n i s hi _ hw => pk_le 96 i (fun z => absurd z (by omega)) (fun _ => ⟨pk_in i 96 hi, nm_e (nm_r (nI_1 i) (hw _ trivial))⟩))
theorem qp_execute {post : St2 → Prop} (H : ∀ b26 b27 : Nat → Int32, ∃ n, wX_execute_51 post n 0 0 ft fn fc fm fw fg fl 0 fx a1 a2 a3 a4 a5 a6 a7 a8 a9 a10 a11 a12 a13 a14 a15 a16 a17 a18 a19 a20 a21 a22 a23 a24 a25 b26 b27 a28 a29 a30) : wpX_execute post (ft, fn, fc, fm, fw, fg, fl, fr, fx, a1, a2, a3, a4, a5, a6, a7, a8, a9, a10, a11, a12, a13, a14, a15, a16, a17, a18, a19, a20, a21, a22, a23, a24, a25, a26, a27, a28, a29, a30) := by
  unfold wpX_execute
  exact pk_loop (fun n i s => wX_execute_2 post ft fn fc fm fw fg fl fr fx n (nI i) a1 a2 a3 a4 a5 a6 a7 a8 a9 a10 a11 a12 a13 a14 a15 a16 a17 a18 a19 a20 a21 a22 a23 a24 a25 s a27 a28 a29 a30) (fun _ _ => True) 12 0 a26 (by omega) trivial
    (fun n s _ => pk_le 12 12 (fun _ => qp_e23 (H s)) (fun z => absurd z (by omega)))
    (fun n i s hi _ hw => pk_le 12 i (fun z => absurd z (by omega)) (fun _ => ⟨pk_in i 12 hi, nm_e (nm_r (nI_1 i) (hw _ trivial))⟩))
end
end
section
section
variable {ft fn fc fm fw fg fl fr fx : Int32} {a1 a2 a3 a4 a5 a6 a7 a8 a9 a10 a11 a12 a13 a14 a15 a16 a17 a18 a19 a20 a21 a22 a23 a24 a25 a26 a27 a28 a29 a30 : Nat → Int32}
theorem qp_boundOf0 {post : Int32 → Prop} (h4 : a4 0 = 0) (h8 : a8 0 = 0) (h2 : a2 0 = 1) (H : post 1) : wpX_boundOf post (ft, fn, fc, fm, fw, fg, fl, fr, fx, a1, a2, a3, a4, a5, a6, a7, a8, a9, a10, a11, a12, a13, a14, a15, a16, a17, a18, a19, a20, a21, a22, a23, a24, a25, a26, a27, a28, a29, a30) 0 := by
  have e8 : a8 (0 : Int32).toNatClampNeg = 0 := h8
  have e2 : a2 (0 : Int32).toNatClampNeg = 1 := h2
  unfold wpX_boundOf
  refine ⟨pk_in 0 12 (by decide), br_t h4 ⟨pk_in 0 12 (by decide), pk_in 0 4 (by decide) e8, ?_⟩⟩
  rw [e8, e2]
  exact H
theorem qp_boundOf1 {post : Int32 → Prop} (h4 : a4 1 = 1) (h5 : a5 1 = 0) (h12 : a12 0 = 1) (H : post 1) : wpX_boundOf post (ft, fn, fc, fm, fw, fg, fl, fr, fx, a1, a2, a3, a4, a5, a6, a7, a8, a9, a10, a11, a12, a13, a14, a15, a16, a17, a18, a19, a20, a21, a22, a23, a24, a25, a26, a27, a28, a29, a30) 1 := by
  have e4 : a4 (1 : Int32).toNatClampNeg = 1 := h4
  have e5 : a5 (1 : Int32).toNatClampNeg = 0 := h5
  have hi : vp_in 1 12 := pk_in 1 12 (by decide)
  unfold wpX_boundOf
  refine ⟨hi, br_f (by rw [e4]; decide) ⟨hi, pk_in 0 12 (by decide) e5, nm_r (e' := 1) (by rw [e5]; exact h12) (br_t (by decide) ⟨hi, br_f (by rw [e4]; decide) ⟨hi, br_f (by rw [e4]; decide) ⟨hi, br_f (by rw [e4]; decide) ?_⟩⟩⟩)⟩⟩
  exact br_t (by decide) H
theorem qp_run {post : Int32 → St2 → Prop} {c m v : Int32} (hc : c = 0 ∨ c = 1) (h0 : ¬ m < 0) (h5 : m ≤ 5) (h2 : a2 0 = 1)
    (h40 : a4 0 = 0) (h41 : a4 1 = 1) (h50 : a5 0 = -1) (h51 : a5 1 = 0) (h60 : a6 0 = -1) (h61 : a6 1 = -1) (h70 : a7 0 = 1) (h80 : a8 0 = 0) (h81 : a8 1 = c) (h91 : a9 1 = m) (h101 : a10 1 = v) (h110 : a11 0 = 2) (h111 : a11 1 = 2)
    (H1 : qp_hb m (if c = 0 then a3 0 else a3 1) v → ∀ b12 b13 b14 b15 b16 b17 b18 b19 b20 b21 b22 b26 b27 b30 : Nat → Int32, b30 0 = a3 0 → b30 1 = a3 1 →
      post 1 (ft, 2, 6, 32, 2, 2, 0, 1, 2, a1, a2, a3, a4, a5, a6, a7, a8, a9, a10, a11, b12, b13, b14, b15, b16, b17, b18, b19, b20, b21, b22, a23, a24, a25, b26, b27, a28, a29, b30))
    (H0 : ¬ qp_hb m (if c = 0 then a3 0 else a3 1) v → ∀ b12 b13 b14 b15 b16 b17 b18 b19 b20 b21 b22 b26 b27 : Nat → Int32,
      post 0 (ft, 2, 6, 32, 2, 2, 0, 0, 2, a1, a2, a3, a4, a5, a6, a7, a8, a9, a10, a11, b12, b13, b14, b15, b16, b17, b18, b19, b20, b21, b22, a23, a24, a25, b26, b27, a28, a29, a30)) :
    wpX_run post (ft, 2, fc, fm, fw, fg, fl, fr, fx, a1, a2, a3, a4, a5, a6, a7, a8, a9, a10, a11, a12, a13, a14, a15, a16, a17, a18, a19, a20, a21, a22, a23, a24, a25, a26, a27, a28, a29, a30) 1 := by
  unfold wpX_run
  refine qp_noNode0 (k := 2) (by decide) (j := 1) (by decide) (br_t rfl ⟨3, ?_⟩)
  refine br_f (by decide) (qp_boundOf0 h40 h80 h2 ⟨pk_in 0 12 (by decide), nm_r (e' := upd a12 0 1) rfl (nm_r (e' := 1) (by decide) ?_)⟩)
  refine br_f (by decide) (qp_boundOf1 h41 h51 rfl ⟨pk_in 1 12 (by decide), nm_r (e' := upd (upd a12 0 1) 1 1) rfl (nm_r (e' := 2) (by decide) ?_)⟩)
  refine br_t (by decide) ⟨pk_in 1 12 (by decide), br_t (by rw [show upd (upd a12 0 1) 1 1 (1 : Int32).toNatClampNeg = 1 from rfl]; decide) ?_⟩
  refine qp_compile hc h40 h41 h50 h51 h60 h61 h70 h81 h110 ?_
  intro b13 b14 b15 b16 b17 b18 b19 b20 g1 g2 g3 g4 g5 g5' g6 g7 g8 g9 g10 g11 g12 g13 g14 g15 g16 g17
  refine qp_execute (fun b26 b27 => qp_e51 hc h0 h5 g1 g2 g3 g4 g5 g5' g6 g7 g8 g9 (g10.trans h91) g11 g12 (g13.trans h101) g14 g15 g16 g17 h40 h80 h2 h110 ?_ ?_)
  · intro z b21 b22 b30 q0 q1
    exact ⟨pk_in 1 12 (by decide), nm_r (e' := 2) h111 (H1 z _ b13 b14 b15 b16 b17 b18 b19 b20 b21 b22 b26 b27 b30 q0 q1)⟩
  · intro z b21 b22
    exact ⟨pk_in 1 12 (by decide), nm_r (e' := 2) h111 (H0 z _ b13 b14 b15 b16 b17 b18 b19 b20 b21 b22 b26 b27)⟩
theorem qp_setCell {post : Int32 → St2 → Prop} {w : Int32} (h2 : a2 0 = 1) (h1 : a1 0 = 2) (H : ∀ b3 : Nat → Int32, post 0 (1, fn, fc, fm, fw, fg, fl, fr, fx, a1, a2, b3, a4, a5, a6, a7, a8, a9, a10, a11, a12, a13, a14, a15, a16, a17, a18, a19, a20, a21, a22, a23, a24, a25, a26, a27, a28, a29, a30)) : wpX_setCell post (1, fn, fc, fm, fw, fg, fl, fr, fx, a1, a2, a3, a4, a5, a6, a7, a8, a9, a10, a11, a12, a13, a14, a15, a16, a17, a18, a19, a20, a21, a22, a23, a24, a25, a26, a27, a28, a29, a30) 0 0 0 w := by
  have e2 : a2 (0 : Int32).toNatClampNeg = 1 := h2
  have e1 : a1 (0 : Int32).toNatClampNeg = 2 := h1
  unfold wpX_setCell
  exact qp_noTable (br_t rfl (br_f (by decide) ⟨pk_in 0 4 (by decide), br_t (by rw [e2]; decide) (br_f (by decide) ⟨pk_in 0 4 (by decide), br_t (by rw [e1]; decide) ⟨pk_in 0 120 (by decide), nm_e (H _)⟩⟩)⟩))
theorem qp_defTab {post : Int32 → St2 → Prop} (k : Nat) (h0 : 0 < k) (hk : k < 13) (h4 : a4 0 = 0) (h8 : a8 0 = 0) (H : post (-11) (1, nI k, fc, fm, fw, fg, fl, fr, fx, a1, a2, a3, a4, a5, a6, a7, a8, a9, a10, a11, a12, a13, a14, a15, a16, a17, a18, a19, a20, a21, a22, a23, a24, a25, a26, a27, a28, a29, a30)) : wpX_defineTable post (1, nI k, fc, fm, fw, fg, fl, fr, fx, a1, a2, a3, a4, a5, a6, a7, a8, a9, a10, a11, a12, a13, a14, a15, a16, a17, a18, a19, a20, a21, a22, a23, a24, a25, a26, a27, a28, a29, a30) 0 1 := by
  unfold wpX_defineTable
  refine qp_noTable (br_t rfl (br_f (by decide) (br_t (by decide) ⟨1, ?_⟩)))
  exact br_f (nI_nle h0 (by omega)) ⟨pk_in 0 12 (by decide), br_t h4 ⟨pk_in 0 12 (by decide), br_t h8 H⟩⟩
theorem qp_cell0 {post : Int32 → Prop} {k : Int32} (H : post 0) : wpX_cell post (ft, fn, fc, fm, fw, fg, fl, 0, fx, a1, a2, a3, a4, a5, a6, a7, a8, a9, a10, a11, a12, a13, a14, a15, a16, a17, a18, a19, a20, a21, a22, a23, a24, a25, a26, a27, a28, a29, a30) 0 k :=
  br_f (by decide) (br_t (by decide) H)
theorem qp_cellA {post : Int32 → Prop} (H : post (a30 0)) : wpX_cell post (ft, fn, fc, fm, fw, fg, fl, 1, 2, a1, a2, a3, a4, a5, a6, a7, a8, a9, a10, a11, a12, a13, a14, a15, a16, a17, a18, a19, a20, a21, a22, a23, a24, a25, a26, a27, a28, a29, a30) 0 0 :=
  br_f (by decide) (br_f (by decide) (br_f (by decide) (br_t (by decide) ⟨pk_in 0 144 (by decide) (by decide), H⟩)))
theorem qp_cellB {post : Int32 → Prop} (H : post (a30 1)) : wpX_cell post (ft, fn, fc, fm, fw, fg, fl, 1, 2, a1, a2, a3, a4, a5, a6, a7, a8, a9, a10, a11, a12, a13, a14, a15, a16, a17, a18, a19, a20, a21, a22, a23, a24, a25, a26, a27, a28, a29, a30) 0 1 :=
  br_f (by decide) (br_f (by decide) (br_f (by decide) (br_t (by decide) ⟨pk_in 1 144 (by decide) (by decide), H⟩)))
theorem qp_holdsL {post : Int32 → Prop} {x m v : Int32} (H1 : qp_hb m x v → post 1) (H0 : ¬ qp_hb m x v → post 0) : wpL_holds post () x m v := by
  by_cases h : qp_hb m x v
  · have P := H1 h
    clear H1 H0
    rcases h with ⟨rfl, e⟩ | ⟨rfl, e⟩ | ⟨rfl, e⟩ | ⟨rfl, e⟩ | ⟨rfl, e⟩ | ⟨rfl, e⟩
    · exact br_t rfl (br_t e P)
    · exact br_f (by decide) (br_t rfl (br_f e P))
    · exact br_f (by decide) (br_f (by decide) (br_t rfl (br_t e P)))
    · exact br_f (by decide) (br_f (by decide) (br_f (by decide) (br_t rfl (br_t e P))))
    · exact br_f (by decide) (br_f (by decide) (br_f (by decide) (br_f (by decide) (br_t rfl (br_t e P)))))
    · exact br_f (by decide) (br_f (by decide) (br_f (by decide) (br_f (by decide) (br_f (by decide) (br_t rfl (br_f e P))))))
  · have P := H0 h
    have n0 : m = 0 → ¬ x = v := fun a b => h (Or.inl ⟨a, b⟩)
    have n1 : m = 1 → x = v := fun a => Decidable.byContradiction (fun b => h (Or.inr (Or.inl ⟨a, b⟩)))
    have n2 : m = 2 → ¬ x < v := fun a b => h (Or.inr (Or.inr (Or.inl ⟨a, b⟩)))
    have n3 : m = 3 → ¬ x ≤ v := fun a b => h (Or.inr (Or.inr (Or.inr (Or.inl ⟨a, b⟩))))
    have n4 : m = 4 → ¬ v < x := fun a b => h (Or.inr (Or.inr (Or.inr (Or.inr (Or.inl ⟨a, b⟩)))))
    have n5 : m = 5 → x < v := fun a => Decidable.byContradiction (fun b => h (Or.inr (Or.inr (Or.inr (Or.inr (Or.inr ⟨a, b⟩))))))
    have k49 : wL_holds_49 post x m v := br_c (fun g => br_t (n5 g) P) (fun _ => P)
    have k39 : wL_holds_39 post x m v := br_c (fun g => br_f (n4 g) k49) (fun _ => k49)
    have k29 : wL_holds_29 post x m v := br_c (fun g => br_f (n3 g) k39) (fun _ => k39)
    have k19 : wL_holds_19 post x m v := br_c (fun g => br_f (n2 g) k29) (fun _ => k29)
    have k9 : wL_holds_9 post x m v := br_c (fun g => br_t (n1 g) k19) (fun _ => k19)
    exact br_c (fun g => br_f (n0 g) k9) (fun _ => k9)
end
end
section
section
variable {ft fn fc fm fw fg fl fr fx : Int32} {a1 a2 a3 a4 a5 a6 a7 a8 a9 a10 a11 a12 a13 a14 a15 a16 a17 a18 a19 a20 a21 a22 a23 a24 a25 a26 a27 a28 a29 a30 : Nat → Int32}
theorem qp_175a {post : Int32 → St0 → Prop} {mc ms kc ks : Nat} {x0 x1 : Int32} (q0 : a30 0 = x0) (q1 : a30 1 = x1) (H : post 1 ()) :
    wL_lawOf_175 post mc ms x0 x1 1 1 1 1 kc ks ft fn fc fm fw fg fl 1 2 a1 a2 a3 a4 a5 a6 a7 a8 a9 a10 a11 a12 a13 a14 a15 a16 a17 a18 a19 a20 a21 a22 a23 a24 a25 a26 a27 a28 a29 a30 := by
  unfold wL_lawOf_175
  refine br_t rfl ?_
  unfold wpX_resultWidth
  refine br_t (by decide) ?_
  unfold wL_lawOf_193
  refine br_t rfl (qp_cellA (br_t rfl ?_))
  unfold wL_lawOf_216
  refine br_t q0 (qp_cellB (br_t rfl ?_))
  exact br_t q1 H
theorem qp_193b {post : Int32 → St0 → Prop} {mc ms kc ks : Nat} {x0 x1 x10 w : Int32} (h10 : ¬ x10 = 1) (H : post 1 ()) :
    wL_lawOf_193 post mc ms x0 x1 x10 w w kc ks ft fn fc fm fw fg fl 0 fx a1 a2 a3 a4 a5 a6 a7 a8 a9 a10 a11 a12 a13 a14 a15 a16 a17 a18 a19 a20 a21 a22 a23 a24 a25 a26 a27 a28 a29 a30 := by
  unfold wL_lawOf_193
  refine br_t rfl (qp_cell0 (br_f h10 ?_))
  unfold wL_lawOf_216
  refine br_t rfl (qp_cell0 (br_f h10 ?_))
  exact br_t rfl H
theorem qp_175b {post : Int32 → St0 → Prop} {mc ms kc ks : Nat} {x0 x1 x10 : Int32} (h10 : ¬ x10 = 1) (H : post 1 ()) :
    wL_lawOf_175 post mc ms x0 x1 1 x10 0 0 kc ks ft fn fc fm fw fg fl 0 2 a1 a2 a3 a4 a5 a6 a7 a8 a9 a10 a11 a12 a13 a14 a15 a16 a17 a18 a19 a20 a21 a22 a23 a24 a25 a26 a27 a28 a29 a30 := by
  unfold wL_lawOf_175
  refine br_t rfl ?_
  unfold wpX_resultWidth
  exact br_t (by decide) (qp_193b h10 H)
theorem qp_175c {post : Int32 → St0 → Prop} {mc ms kc ks : Nat} {x0 x1 x7 x10 : Int32} (h7 : x7 < 0) (h10 : ¬ x10 = 1) (H : post 1 ()) :
    wL_lawOf_175 post mc ms x0 x1 x7 x10 0 0 kc ks ft fn fc fm fw fg fl 0 0 a1 a2 a3 a4 a5 a6 a7 a8 a9 a10 a11 a12 a13 a14 a15 a16 a17 a18 a19 a20 a21 a22 a23 a24 a25 a26 a27 a28 a29 a30 := by
  unfold wL_lawOf_175
  refine br_t rfl ?_
  unfold wpX_resultWidth
  exact br_f (qp_nle.mpr h7) (qp_193b h10 H)
theorem qp_126ok {post : Int32 → St0 → Prop} {mc ms kc ks : Nat} {x0 x1 x5 x10 c m v : Int32} (hc : c = 0 ∨ c = 1) (h0 : ¬ m < 0) (h5 : m ≤ 5) (h1 : a1 0 = 2) (h2 : a2 0 = 1) (h30 : a3 0 = x0) (h31 : a3 1 = x1)
    (h40 : a4 0 = 0) (h41 : a4 1 = 1) (h50 : a5 0 = -1) (h51 : a5 1 = 0) (h60 : a6 0 = -1) (h61 : a6 1 = -1) (h70 : a7 0 = 1) (h80 : a8 0 = 0) (h81 : a8 1 = c) (h91 : a9 1 = m) (h101 : a10 1 = v) (h110 : a11 0 = 2) (h111 : a11 1 = 2)
    (T1 : qp_hb m (if c = 0 then x0 else x1) v → x10 = 1) (T0 : ¬ qp_hb m (if c = 0 then x0 else x1) v → x10 = 0) (H : post 1 ()) :
    wL_lawOf_126 post mc ms x0 x1 x5 1 x10 kc ks 1 2 fc fm fw fg fl fr fx a1 a2 a3 a4 a5 a6 a7 a8 a9 a10 a11 a12 a13 a14 a15 a16 a17 a18 a19 a20 a21 a22 a23 a24 a25 a26 a27 a28 a29 a30 := by
  unfold wL_lawOf_126
  refine qp_run hc h0 h5 h2 h40 h41 h50 h51 h60 h61 h70 h80 h81 h91 h101 h110 h111 ?_ ?_
  · rw [h30, h31]
    intro z b12 b13 b14 b15 b16 b17 b18 b19 b20 b21 b22 b26 b27 b30 q0 q1
    have e := T1 z
    refine br_t e.symm (qp_setCell h2 h1 (fun b3 => qp_defTab 2 (by decide) (by decide) h40 h80 ?_))
    rw [e]
    exact br_t rfl (qp_175a q0 q1 H)
  · rw [h30, h31]
    intro z b12 b13 b14 b15 b16 b17 b18 b19 b20 b21 b22 b26 b27
    have e := T0 z
    refine br_t e.symm (qp_setCell h2 h1 (fun b3 => qp_defTab 2 (by decide) (by decide) h40 h80 ?_))
    rw [e]
    exact br_f (by decide) (qp_175b (by decide) H)
theorem qp_126bad {post : Int32 → St0 → Prop} {mc ms kc ks : Nat} {x0 x1 x5 f : Int32} (hf : f < 0) (h1 : a1 0 = 2) (h2 : a2 0 = 1) (h40 : a4 0 = 0) (h80 : a8 0 = 0) (H : post 1 ()) :
    wL_lawOf_126 post mc ms x0 x1 x5 f (-4) kc ks 1 1 fc fm fw fg fl 0 0 a1 a2 a3 a4 a5 a6 a7 a8 a9 a10 a11 a12 a13 a14 a15 a16 a17 a18 a19 a20 a21 a22 a23 a24 a25 a26 a27 a28 a29 a30 := by
  unfold wL_lawOf_126
  unfold wpX_run
  refine br_t hf (br_f (by decide) (br_t rfl (qp_setCell h2 h1 (fun b3 => qp_defTab 1 (by decide) (by decide) h40 h80 ?_))))
  exact br_f (by decide) (qp_175c hf (by decide) H)
theorem qp_101bad {post : Int32 → St0 → Prop} {mc ms kc ks : Nat} {x0 x1 x3 x4 x5 f z : Int32} (hf : f < 0) (h1 : a1 0 = 2) (h2 : a2 0 = 1) (h40 : a4 0 = 0) (h80 : a8 0 = 0) (H : post 1 ()) :
    wL_lawOf_101 post mc ms x0 x1 x3 x4 x5 f z kc ks 1 1 fc fm fw fg fl 0 0 a1 a2 a3 a4 a5 a6 a7 a8 a9 a10 a11 a12 a13 a14 a15 a16 a17 a18 a19 a20 a21 a22 a23 a24 a25 a26 a27 a28 a29 a30 := by
  unfold wL_lawOf_101
  refine qp_holdsL (fun _ => br_f (by decide) ?_) (fun _ => br_t rfl ?_)
  · exact br_f (qp_nle.mpr hf) (qp_126bad hf h1 h2 h40 h80 H)
  · exact br_f (qp_nle.mpr hf) (qp_126bad hf h1 h2 h40 h80 H)
theorem qp_81bad {post : Int32 → St0 → Prop} {mc ms kc ks : Nat} {x0 x1 x2 x3 x4 x5 f : Int32} (hf : f < 0) (h1 : a1 0 = 2) (h2 : a2 0 = 1) (h40 : a4 0 = 0) (h80 : a8 0 = 0) (H : post 1 ()) :
    wL_lawOf_81 post mc ms x0 x1 x2 x3 x4 x5 f f kc ks 1 1 fc fm fw fg fl 0 0 a1 a2 a3 a4 a5 a6 a7 a8 a9 a10 a11 a12 a13 a14 a15 a16 a17 a18 a19 a20 a21 a22 a23 a24 a25 a26 a27 a28 a29 a30 := by
  unfold wL_lawOf_81
  exact br_t rfl (br_c (fun _ => qp_101bad hf h1 h2 h40 h80 H) (fun _ => qp_101bad hf h1 h2 h40 h80 H))
theorem qp_101ok {post : Int32 → St0 → Prop} {mc ms kc ks : Nat} {x0 x1 x5 c m v z : Int32} (hz : z = if c = 0 then x0 else x1) (hc : c = 0 ∨ c = 1) (h0 : ¬ m < 0) (h5 : m ≤ 5) (h1 : a1 0 = 2) (h2 : a2 0 = 1) (h30 : a3 0 = x0) (h31 : a3 1 = x1)
    (h40 : a4 0 = 0) (h41 : a4 1 = 1) (h50 : a5 0 = -1) (h51 : a5 1 = 0) (h60 : a6 0 = -1) (h61 : a6 1 = -1) (h70 : a7 0 = 1) (h80 : a8 0 = 0) (h81 : a8 1 = c) (h91 : a9 1 = m) (h101 : a10 1 = v) (h110 : a11 0 = 2) (h111 : a11 1 = 2) (H : post 1 ()) :
    wL_lawOf_101 post mc ms x0 x1 m v x5 1 z kc ks 1 2 fc fm fw fg fl fr fx a1 a2 a3 a4 a5 a6 a7 a8 a9 a10 a11 a12 a13 a14 a15 a16 a17 a18 a19 a20 a21 a22 a23 a24 a25 a26 a27 a28 a29 a30 := by
  unfold wL_lawOf_101
  rw [hz]
  refine qp_holdsL (fun g => br_f (by decide) ?_) (fun g => br_t rfl ?_)
  · exact br_t (by decide) (qp_126ok hc h0 h5 h1 h2 h30 h31 h40 h41 h50 h51 h60 h61 h70 h80 h81 h91 h101 h110 h111 (fun _ => rfl) (fun n => absurd g n) H)
  · exact br_t (by decide) (qp_126ok hc h0 h5 h1 h2 h30 h31 h40 h41 h50 h51 h60 h61 h70 h80 h81 h91 h101 h110 h111 (fun n => absurd n g) (fun _ => rfl) H)
theorem qp_81ok {post : Int32 → St0 → Prop} {mc ms kc ks : Nat} {x0 x1 x5 c m v : Int32} (hc : c = 0 ∨ c = 1) (h0 : ¬ m < 0) (h5 : m ≤ 5) (h1 : a1 0 = 2) (h2 : a2 0 = 1) (h30 : a3 0 = x0) (h31 : a3 1 = x1)
    (h40 : a4 0 = 0) (h41 : a4 1 = 1) (h50 : a5 0 = -1) (h51 : a5 1 = 0) (h60 : a6 0 = -1) (h61 : a6 1 = -1) (h70 : a7 0 = 1) (h80 : a8 0 = 0) (h81 : a8 1 = c) (h91 : a9 1 = m) (h101 : a10 1 = v) (h110 : a11 0 = 2) (h111 : a11 1 = 2) (H : post 1 ()) :
    wL_lawOf_81 post mc ms x0 x1 c m v x5 1 1 kc ks 1 2 fc fm fw fg fl fr fx a1 a2 a3 a4 a5 a6 a7 a8 a9 a10 a11 a12 a13 a14 a15 a16 a17 a18 a19 a20 a21 a22 a23 a24 a25 a26 a27 a28 a29 a30 := by
  unfold wL_lawOf_81
  exact br_t rfl (br_c
    (fun g => qp_101ok (if_pos g).symm hc h0 h5 h1 h2 h30 h31 h40 h41 h50 h51 h60 h61 h70 h80 h81 h91 h101 h110 h111 H)
    (fun g => qp_101ok (if_neg g).symm hc h0 h5 h1 h2 h30 h31 h40 h41 h50 h51 h60 h61 h70 h80 h81 h91 h101 h110 h111 H))
theorem qp_49 {post : Int32 → St0 → Prop} {mc ms kc ks : Nat} {x0 x1 x2 x3 x4 x5 : Int32} (h1 : a1 0 = 2) (h2 : a2 0 = 1) (h40 : a4 0 = 0) (h80 : a8 0 = 0) (H : post 1 ()) :
    wL_lawOf_49 post mc ms x0 x1 x2 x3 x4 x5 (-3) kc ks 1 1 fc fm fw fg fl 0 0 a1 a2 a3 a4 a5 a6 a7 a8 a9 a10 a11 a12 a13 a14 a15 a16 a17 a18 a19 a20 a21 a22 a23 a24 a25 a26 a27 a28 a29 a30 := by
  unfold wL_lawOf_49 wL_lawOf_54
  exact br_f (by decide) (qp_81bad (by decide) h1 h2 h40 h80 H)
theorem qp_75 {post : Int32 → St0 → Prop} {mc ms kc ks : Nat} {x0 x1 x2 x3 x4 x5 : Int32} (h1 : a1 0 = 2) (h2 : a2 0 = 1) (h40 : a4 0 = 0) (h80 : a8 0 = 0) (H : post 1 ()) :
    wL_lawOf_75 post mc ms x0 x1 x2 x3 x4 x5 (-6) kc ks 1 1 fc fm fw fg fl 0 0 a1 a2 a3 a4 a5 a6 a7 a8 a9 a10 a11 a12 a13 a14 a15 a16 a17 a18 a19 a20 a21 a22 a23 a24 a25 a26 a27 a28 a29 a30 := by
  unfold wL_lawOf_75
  exact qp_81bad (by decide) h1 h2 h40 h80 H
theorem qp_c01 {c : Int32} (hc : c = 0 ∨ c = 1) : ¬ c < 0 ∧ c ≤ 1 := by
  rcases hc with z | z
  · rw [z]; decide
  · rw [z]; decide
end
theorem qp_lawOf {post : Int32 → St0 → Prop} (H : post 1 ()) (x0 x1 c m v w : Int32) : wpL_lawOf post 31 3691 () x0 x1 c m v w := by
  unfold wpL_lawOf
  refine ⟨by decide, by decide, 30, 3652, by decide, by decide, ?_⟩
  refine qp_init ?_
  intro b1 e1
  refine qp_addRow rfl ?_
  intro b2 b3 e2 e30 e31
  refine qp_scan e1 ?_
  intro b4 b5 b6 b7 b8 b9 b10 b11 e4 e5 e6 e7 e8 e11
  refine qp_filter e4 e5 e6 e7 e8 e11 ?_ ?_ ?_
  · intro hc
    refine br_c (fun _ => qp_49 e1 e2 e4 e8 H) (fun h => br_c (fun g => ?_) (fun _ => qp_49 e1 e2 e4 e8 H))
    rcases hc with z | z
    · exact absurd z h
    · exact absurd g z
  · intro hc hm
    refine br_f (qp_c01 hc).1 (br_t (qp_c01 hc).2 (br_t rfl (br_c (fun _ => qp_75 e1 e2 e4 e8 H) (fun h => br_c (fun g => ?_) (fun _ => qp_75 e1 e2 e4 e8 H)))))
    rcases hm with z | z
    · exact absurd z h
    · exact absurd g z
  · intro hc h0 h5 d4 d5 d6 d7 d8 d9 d10 d11 i1 i2 i3 i4 i5 i6 i7 i8 i9 i10 i11 i12 i13
    exact br_f (qp_c01 hc).1 (br_t (qp_c01 hc).2 (br_t rfl (br_f h0 (br_t h5 (qp_81ok hc h0 h5 e1 e2 e30 e31 i1 i2 i3 i4 i5 i6 i7 i8 i9 i10 i11 i12 i13 H)))))
theorem qp_cellAt {post : Int32 → Prop} {L : Nat} {xs : Nat → Int32} (hL : L ≤ 6) (k : Nat) (hk : k < 6) (H : ∀ r, post r) : wpL_cellAt post L xs () (nI k) :=
  pk_le L k (fun _ => H _) (fun z => ⟨pk_in k L z, H _⟩)
theorem i_vc (xs : Nat → Int32) (L : Nat) (hL : L ≤ 6) : wpL_law (fun r => r = 1) L xs := by
  unfold wpL_law
  exact qp_cellAt hL 0 (by decide) (fun r1 => qp_cellAt hL 1 (by decide) (fun r2 => qp_cellAt hL 2 (by decide) (fun r3 => qp_cellAt hL 3 (by decide) (fun r4 => qp_cellAt hL 4 (by decide) (fun r5 => qp_cellAt hL 5 (by decide) (fun r6 => ⟨31, 3691, by decide, by decide, qp_lawOf rfl r1 r2 r3 r4 r5 r6⟩))))))
end
