section
section
variable {fc fg fe fp ft fr fl : Int32} { a1 a2 a3 a4 a5 a6 a7 a8 a9 a10 a11 a12 a13 a14 a15 a16 a17 a18 a19 a20 a21 a22 a23 a24 a25 a26 a27 : Nat → Int32}
/-! stores, reads, bytes -/
theorem qn_up {a : Nat → Int32} {x v v' : Int32} (k : Nat) (hx : x = nI k) (hk : k < 2 ^ 31) (hv : v = v') : upd a x.toNatClampNeg v = upd a k v' := by
  subst hx hv
  rw [nI_clamp hk]
theorem qn_rd {a : Nat → Int32} {x y : Int32} (k : Nat) (hx : x = nI k) (hk : k < 2 ^ 31) (h : a k = y) : a x.toNatClampNeg = y := by
  subst hx
  rw [nI_clamp hk]
  exact h
theorem qn_p2 {α : Type} {post : Int32 → α → Prop} {x y : Int32} {s : α} (e : x = y) (h : post y s) : post x s := by
  subst e
  exact h
theorem qn_p1 {post : Int32 → Prop} {x y : Int32} (e : x = y) (h : post y) : post x := by
  subst e
  exact h
theorem qn_b8 : ∀ s, s < 128 → (nI s).toInt8.toInt32 = nI s := by decide +kernel
theorem qn_m8 : (-1 : Int32).toInt8.toInt32 = -1 := by decide
theorem qn_nb : vp_nar .byte (-1) = -1 := by
  rw [vp_nar_byte]
  exact qn_m8
theorem qn_fill {s : Nat → Int32} {c : Int32} {i : Nat} (h : ∀ j, j < i → s j = c) : ∀ j, j < i + 1 → upd s i c j = c := by
  intro j hj
  by_cases e : j = i
  · rw [e, pk_us]
  · rw [pk_un e]
    exact h j (by omega)
theorem qn_xor {w l : Nat} (hw : w < 8192) (hl : l < 8192) : nI w ^^^ nI l = nI (w ^^^ l) := by
  have hx : w ^^^ l < 2 ^ 13 := Nat.xor_lt_two_pow (n := 13) hw hl
  apply Int32.toBitVec_inj.mp
  apply BitVec.eq_of_toNat_eq
  rw [Int32.toBitVec_xor, BitVec.toNat_xor, pk_tn (by omega), pk_tn (by omega), pk_tn (by omega)]
theorem qn_dv {a : Nat → Int32} {x : Int32} {w : Nat} (hx : x = nI 0) (h : a 0 = nI w) (hw : w < 8192) : a x.toNatClampNeg / 32 = nI (w / 32) := by
  rw [qn_rd 0 hx (by omega) h]
  exact pk_div (d := 32) (by omega) (by omega) (by omega)
theorem qn_day {w : Nat} (hw : w < 8192) : (nI w / 32) - (nI w / 32) / 16 * 16 = nI (w / 32 % 16) := by
  have e1 : nI w / nI 32 = nI (w / 32) := pk_div (by omega) (by omega) (by omega)
  have e2 := pk_rem (a := w / 32) (d := 16) (by omega) (by omega) (by omega)
  rw [← e1] at e2
  exact e2
theorem qn_r16 {w : Nat} (hw : w < 8192) : nI w - nI w / 16 * 16 = nI (w % 16) := pk_rem (a := w) (d := 16) (by omega) (by omega) (by omega)
theorem qn_r32 {w : Nat} (hw : w < 8192) : nI w - nI w / 32 * 32 = nI (w % 32) := pk_rem (a := w) (d := 32) (by omega) (by omega) (by omega)
/-! the customer of an event: here always 0 -/
theorem qn_cust {post : Int32 → Prop} {w : Nat} (hw : w < 8192) (h16 : w % 16 = 0) (H : post (nI 0)) : wpX_customerOf post () (nI w) :=
  ⟨by decide, qn_p1 (by rw [qn_r16 hw, h16]) H⟩
/-! engine 0 -/
theorem qn_heapAdd {post : St2 → Prop} {w : Nat} (H : post (fc, fg, fe, nI 0, ft, fr, fl, a1, a2, a3, a4, a5, a6, a7, a8, a9, a10, a11, a12, a13, a14, a15, a16, a17, a18, a19, upd a20 0 (nI w), a21, a22, a23, a24, a25, a26, a27)) : wpX_heapAdd post (fc, fg, fe, nI 0, ft, fr, fl, a1, a2, a3, a4, a5, a6, a7, a8, a9, a10, a11, a12, a13, a14, a15, a16, a17, a18, a19, a20, a21, a22, a23, a24, a25, a26, a27) (nI w) :=
  ⟨1, br_t (by decide) ⟨pk_in 0 16 (by omega), nm_r (qn_up 0 rfl (by omega) rfl) H⟩⟩
theorem qn_heapTake {post : Int32 → St2 → Prop} {w : Nat} (h20 : a20 0 = nI w) (H : post (nI w) (fc, fg, fe, nI 1, ft, fr, fl, a1, a2, a3, a4, a5, a6, a7, a8, a9, a10, a11, a12, a13, a14, a15, a16, a17, a18, a19, upd a20 0 (nI w), a21, a22, a23, a24, a25, a26, a27)) : wpX_heapTake post (fc, fg, fe, nI 1, ft, fr, fl, a1, a2, a3, a4, a5, a6, a7, a8, a9, a10, a11, a12, a13, a14, a15, a16, a17, a18, a19, a20, a21, a22, a23, a24, a25, a26, a27) :=
  nm_r h20 ⟨pk_in 0 16 (by omega) (nI_pred 0), nm_r (qn_rd 0 (nI_pred 0) (by omega) h20) ⟨1, br_f (by decide) (br_t (by decide) ⟨pk_in 0 16 (by omega), nm_r (qn_up 0 rfl (by omega) rfl) H⟩)⟩⟩
/-! engine 1 -/
theorem qn_calendarAdd {post : St2 → Prop} {w : Nat} (hw : w < 8192) (h16 : w % 16 = 0) (h21 : ∀ j, j < 16 → a21 j = -1) (H : post (fc, fg, fe, fp, ft, fr, fl, a1, a2, a3, a4, a5, a6, a7, a8, a9, a10, a11, a12, a13, a14, a15, a16, a17, a18, a19, a20, upd a21 (w / 32 % 16) (nI 0), upd a22 0 (-1), upd a23 0 (nI w), a24, a25, a26, a27)) : wpX_calendarAdd post (fc, fg, fe, fp, ft, fr, fl, a1, a2, a3, a4, a5, a6, a7, a8, a9, a10, a11, a12, a13, a14, a15, a16, a17, a18, a19, a20, a21, a22, a23, a24, a25, a26, a27) (nI w) := by
  have hd : w / 32 % 16 < 16 := by omega
  unfold wpX_calendarAdd
  exact qn_cust hw h16 ⟨by decide, by decide, nm_r (qn_day hw) ⟨pk_in 0 12 (by omega), nm_r (qn_up 0 rfl (by omega) rfl) ⟨pk_in (w / 32 % 16) 16 hd, nm_r (qn_rd (w / 32 % 16) rfl (by omega) (h21 _ hd)) ⟨1, br_t (by decide) ⟨pk_in 0 12 (by omega), nm_r (qn_up 0 rfl (by omega) qn_m8) (br_f (by decide) ⟨pk_in (w / 32 % 16) 16 hd, nm_r (qn_up (w / 32 % 16) rfl (by omega) (qn_b8 0 (by omega))) H⟩)⟩⟩⟩⟩⟩
theorem qn_cn57 {post : Int32 → Prop} {y : Nat} (hy : y < 16) (hz : a21 y = nI 0) (h21 : ∀ j, j < 16 → j ≠ y → a21 j = -1) (H : post (nI 0)) : ∃ n, wX_calendarNext_57 post fc fg fe fp ft fr fl a1 a2 a3 a4 a5 a6 a7 a8 a9 a10 a11 a12 a13 a14 a15 a16 a17 a18 a19 a20 a21 a22 a23 a24 a25 a26 a27 n (-1) 0 :=
  pk_loop (fun n i s => wX_calendarNext_57 post fc fg fe fp ft fr fl a1 a2 a3 a4 a5 a6 a7 a8 a9 a10 a11 a12 a13 a14 a15 a16 a17 a18 a19 a20 a21 a22 a23 a24 a25 a26 a27 n s (nI i)) (fun i s => (i ≤ y ∧ s = -1) ∨ (y < i ∧ s = nI 0)) 16 0 (-1) (by omega) (Or.inl ⟨by omega, rfl⟩)
    (fun n s h => by
      have hs : s = nI 0 := by
        rcases h with h | h
        · exact absurd h.1 (by omega)
        · exact h.2
      subst hs
      exact br_t (by decide) H)
    (fun n i s hi h hw => by
      rcases h with ⟨h, hs⟩ | ⟨h, hs⟩
      · subst hs
        by_cases e : i = y
        · subst e
          exact br_f (nI_ge (b := 16) hi (by decide)) ⟨pk_in i 16 hi, nm_r (qn_rd i rfl (by omega) hz) (br_f (nI_pos (by omega)) (br_t (by decide) (nm_r (nI_1 i) (hw _ (Or.inr ⟨by omega, rfl⟩)))))⟩
        · exact br_f (nI_ge (b := 16) hi (by decide)) ⟨pk_in i 16 hi, nm_r (qn_rd i rfl (by omega) (h21 i hi e)) (br_t (by decide) (nm_r (nI_1 i) (hw _ (Or.inl ⟨by omega, rfl⟩))))⟩
      · subst hs
        exact br_f (nI_ge (b := 16) hi (by decide)) ⟨pk_in i 16 hi, nm_r (qn_rd i rfl (by omega) (h21 i hi (by omega))) (br_t (by decide) (nm_r (nI_1 i) (hw _ (Or.inr ⟨by omega, rfl⟩))))⟩)
theorem qn_calendarNext {post : Int32 → Prop} {q y : Nat} (hq : q ≤ 1000) (hy : y < 16) (hz : a21 y = nI 0) (h21 : ∀ j, j < 16 → j ≠ y → a21 j = -1) (H : post (nI 0)) : wpX_calendarNext post (fc, fg, fe, fp, nI q, fr, fl, a1, a2, a3, a4, a5, a6, a7, a8, a9, a10, a11, a12, a13, a14, a15, a16, a17, a18, a19, a20, a21, a22, a23, a24, a25, a26, a27) :=
  pk_loop (σ := Unit) (fun n i _ => wX_calendarNext_2 post fc fg fe fp (nI q) fr fl a1 a2 a3 a4 a5 a6 a7 a8 a9 a10 a11 a12 a13 a14 a15 a16 a17 a18 a19 a20 a21 a22 a23 a24 a25 a26 a27 n (nI i)) (fun _ _ => True) 16 0 () (by omega) trivial
    (fun n _ _ => br_t (by decide) (qn_cn57 hy hz h21 H))
    (fun n i _ hi _ hw => by
      have em : (nI q + nI i) - (nI q + nI i) / 16 * 16 = nI ((q + i) % 16) := by
        rw [nI_add]
        exact pk_rem (a := q + i) (d := 16) (by omega) (by omega) (by omega)
      have hm : (q + i) % 16 < 16 := by omega
      by_cases e : (q + i) % 16 = y
      · exact br_f (nI_ge (b := 16) hi (by decide)) ⟨by decide, pk_in ((q + i) % 16) 16 hm em, nm_r (qn_rd ((q + i) % 16) em (by omega) (by rw [e]; exact hz)) (br_f (nI_pos (by omega)) ⟨pk_in 0 12 (by omega), by decide, br_c (fun _ => H) (fun _ => nm_r (nI_1 i) (hw () trivial))⟩)⟩
      · exact br_f (nI_ge (b := 16) hi (by decide)) ⟨by decide, pk_in ((q + i) % 16) 16 hm em, nm_r (qn_rd ((q + i) % 16) em (by omega) (h21 _ hm e)) (br_t (by decide) (nm_r (nI_1 i) (hw () trivial)))⟩)
theorem qn_calendarTake {post : Int32 → St2 → Prop} {q w : Nat} (hq : q ≤ 1000) (hw : w < 8192) (hz : a21 (w / 32 % 16) = nI 0) (h21 : ∀ j, j < 16 → j ≠ w / 32 % 16 → a21 j = -1) (h22 : a22 0 = -1) (h23 : a23 0 = nI w) (H : post (nI w) (fc, fg, fe, fp, nI (w / 32), fr, fl, a1, a2, a3, a4, a5, a6, a7, a8, a9, a10, a11, a12, a13, a14, a15, a16, a17, a18, a19, a20, upd a21 (w / 32 % 16) (-1), a22, a23, a24, a25, a26, a27)) : wpX_calendarTake post (fc, fg, fe, fp, nI q, fr, fl, a1, a2, a3, a4, a5, a6, a7, a8, a9, a10, a11, a12, a13, a14, a15, a16, a17, a18, a19, a20, a21, a22, a23, a24, a25, a26, a27) :=
  have hd : w / 32 % 16 < 16 := by omega
  have em : nI (w / 32) - nI (w / 32) / 16 * 16 = nI (w / 32 % 16) := pk_rem (a := w / 32) (d := 16) (by omega) (by omega) (by omega)
  qn_calendarNext hq hd hz h21 ⟨pk_in 0 12 (by omega), by decide, nm_r (qn_dv rfl h23 hw) ⟨by decide, pk_in 0 12 (by omega), pk_in (w / 32 % 16) 16 hd em, nm_r (qn_up (w / 32 % 16) em (by omega) (by rw [qn_rd 0 rfl (by omega) h22]; exact qn_nb)) ⟨pk_in 0 12 (by omega), qn_p2 (qn_rd 0 rfl (by omega) h23) H⟩⟩⟩
/-! engine 2 -/
theorem qn_treeAdd {post : St2 → Prop} {w : Nat} (hw : w < 8192) (h16 : w % 16 = 0) (H : post (fc, fg, fe, fp, ft, nI 0, fl, a1, a2, a3, a4, a5, a6, a7, a8, a9, a10, a11, a12, a13, a14, a15, a16, a17, a18, a19, a20, a21, a22, upd a23 0 (nI w), upd a24 0 (-1), upd a25 0 (-1), a26, a27)) : wpX_treeAdd post (fc, fg, fe, fp, ft, -1, fl, a1, a2, a3, a4, a5, a6, a7, a8, a9, a10, a11, a12, a13, a14, a15, a16, a17, a18, a19, a20, a21, a22, a23, a24, a25, a26, a27) (nI w) := by
  unfold wpX_treeAdd
  exact qn_cust hw h16 ⟨pk_in 0 12 (by omega), nm_r (qn_up 0 rfl (by omega) rfl) ⟨pk_in 0 12 (by omega), nm_r (qn_up 0 rfl (by omega) rfl) ⟨pk_in 0 12 (by omega), nm_r (qn_up 0 rfl (by omega) rfl) (br_t (by decide) (br_f (by decide) H))⟩⟩⟩
theorem qn_treeTake {post : Int32 → St2 → Prop} {w : Nat} (h23 : a23 0 = nI w) (h24 : a24 0 = -1) (H : post (nI w) (fc, fg, fe, fp, ft, -1, fl, a1, a2, a3, a4, a5, a6, a7, a8, a9, a10, a11, a12, a13, a14, a15, a16, a17, a18, a19, a20, a21, a22, a23, a24, a25, a26, a27)) : wpX_treeTake post (fc, fg, fe, fp, ft, nI 0, fl, a1, a2, a3, a4, a5, a6, a7, a8, a9, a10, a11, a12, a13, a14, a15, a16, a17, a18, a19, a20, a21, a22, a23, a24, a25, a26, a27) :=
  ⟨pk_in 0 12 (by omega), nm_r (qn_rd 0 rfl (by omega) h23) ⟨pk_in 0 12 (by omega), nm_r (qn_rd 0 rfl (by omega) h24) ⟨1, br_t (by decide) (nm_r (e' := -1) (by decide) ⟨1, br_t (by decide) H⟩)⟩⟩⟩
/-! engine 3 -/
theorem qn_bf9 {post : Int32 → Prop} (H : ∀ b, b < 24 → post (nI b)) : ∀ k n m, m < 2 ^ k → k + n ≤ 13 → wX_bucketFor_9 post fc fg fe fp ft fr fl a1 a2 a3 a4 a5 a6 a7 a8 a9 a10 a11 a12 a13 a14 a15 a16 a17 a18 a19 a20 a21 a22 a23 a24 a25 a26 a27 (k + 1) (nI m) (nI n) := by
  intro k
  induction k with
  | zero =>
    intro n m hm hn
    have hm0 : m = 0 := by omega
    subst hm0
    exact br_t nI_0 (H n (by omega))
  | succ k ih =>
    intro n m hm hn
    by_cases h0 : m = 0
    · subst h0
      exact br_t nI_0 (H n (by omega))
    · have h13 : 2 ^ (k + 1) ≤ 2 ^ 13 := Nat.pow_le_pow_right (by omega) (by omega)
      have hm31 : m < 2 ^ 31 := by omega
      have hh : m / 2 ^ 1 < 2 ^ k := by
        rw [Nat.pow_succ] at hm
        omega
      exact br_f (nI_ne0 (by omega) hm31) (nm_r (pk_shrN hm31 _ 1 (by decide)) (nm_r (nI_1 n) (ih (n + 1) (m / 2 ^ 1) hh (by omega))))
theorem qn_bucketFor {post : Int32 → Prop} {w l : Nat} (hw : w < 8192) (hl : l < 8192) (H : ∀ b, b < 24 → post (nI b)) : wpX_bucketFor post (fc, fg, fe, fp, ft, fr, nI l, a1, a2, a3, a4, a5, a6, a7, a8, a9, a10, a11, a12, a13, a14, a15, a16, a17, a18, a19, a20, a21, a22, a23, a24, a25, a26, a27) (nI w) :=
  nm_r (qn_xor hw hl) ⟨13 + 1, qn_bf9 H 13 0 (w ^^^ l) (Nat.xor_lt_two_pow (n := 13) hw hl) (by omega)⟩
theorem qn_bucketAdd {post : St2 → Prop} {w l : Nat} (hw : w < 8192) (h16 : w % 16 = 0) (hl : l < 8192) (h27 : ∀ j, j < 24 → a27 j = -1) (H : ∀ b, b < 24 → post (fc, fg, fe, fp, ft, fr, nI l, a1, a2, a3, a4, a5, a6, a7, a8, a9, a10, a11, a12, a13, a14, a15, a16, a17, a18, a19, a20, a21, upd a22 0 (-1), upd a23 0 (nI w), a24, a25, a26, upd a27 b (nI 0))) : wpX_bucketAdd post (fc, fg, fe, fp, ft, fr, nI l, a1, a2, a3, a4, a5, a6, a7, a8, a9, a10, a11, a12, a13, a14, a15, a16, a17, a18, a19, a20, a21, a22, a23, a24, a25, a26, a27) (nI w) := by
  unfold wpX_bucketAdd
  exact qn_cust hw h16 (qn_bucketFor hw hl (fun b hb => ⟨pk_in 0 12 (by omega), nm_r (qn_up 0 rfl (by omega) rfl) ⟨pk_in b 24 hb, pk_in 0 12 (by omega), nm_r (qn_up 0 rfl (by omega) (by rw [qn_rd b rfl (by omega) (h27 b hb)]; exact qn_nb)) ⟨pk_in b 24 hb, nm_r (qn_up b rfl (by omega) (qn_b8 0 (by omega))) (H b hb)⟩⟩⟩))
theorem qn_firstBucket {post : Int32 → Prop} {b : Nat} (hb : b < 24) (hz : a27 b = nI 0) (h27 : ∀ j, j < 24 → j ≠ b → a27 j = -1) (H : post (nI b)) : wpX_firstBucket post (fc, fg, fe, fp, ft, fr, fl, a1, a2, a3, a4, a5, a6, a7, a8, a9, a10, a11, a12, a13, a14, a15, a16, a17, a18, a19, a20, a21, a22, a23, a24, a25, a26, a27) :=
  pk_loop (σ := Unit) (fun n i _ => wX_firstBucket_2 post fc fg fe fp ft fr fl a1 a2 a3 a4 a5 a6 a7 a8 a9 a10 a11 a12 a13 a14 a15 a16 a17 a18 a19 a20 a21 a22 a23 a24 a25 a26 a27 n (nI i)) (fun _ _ => True) b 0 () (by omega) trivial
    (fun n _ _ => pk_le 23 b (fun _ => H) (fun z => ⟨pk_in b 24 hb, br_t (by rw [qn_rd b rfl (by omega) hz]; decide) H⟩))
    (fun n i _ hi _ hw => pk_le 23 i (fun z => absurd z (by omega)) (fun z => ⟨pk_in i 24 (by omega), br_f (by rw [qn_rd i rfl (by omega) (h27 i (by omega) (by omega))]; decide) (nm_r (nI_1 i) (hw () trivial))⟩))
theorem qn_leastOf {post : Int32 → Prop} {b : Nat} (hb : b < 24) (hz : a27 b = nI 0) (h22 : a22 0 = -1) (H : post (nI 0)) : wpX_leastOf post (fc, fg, fe, fp, ft, fr, fl, a1, a2, a3, a4, a5, a6, a7, a8, a9, a10, a11, a12, a13, a14, a15, a16, a17, a18, a19, a20, a21, a22, a23, a24, a25, a26, a27) (nI b) :=
  ⟨pk_in b 24 hb, nm_r (qn_rd b rfl (by omega) hz) ⟨pk_in b 24 hb, nm_r (qn_rd b rfl (by omega) hz) ⟨2, br_f (nI_pos (by omega)) ⟨pk_in 0 12 (by omega), pk_in 0 12 (by omega), br_t (Int32.le_refl _) ⟨pk_in 0 12 (by omega), nm_r (qn_rd 0 rfl (by omega) h22) (br_t (by decide) H)⟩⟩⟩⟩⟩
theorem qn_bucketTake {post : Int32 → St2 → Prop} {w b : Nat} (hb : b < 24) (hz : a27 b = nI 0) (h27 : ∀ j, j < 24 → j ≠ b → a27 j = -1) (h22 : a22 0 = -1) (h23 : a23 0 = nI w) (H : post (nI w) (fc, fg, fe, fp, ft, fr, nI w, a1, a2, a3, a4, a5, a6, a7, a8, a9, a10, a11, a12, a13, a14, a15, a16, a17, a18, a19, a20, a21, a22, a23, a24, a25, a26, upd a27 b (-1))) : wpX_bucketTake post (fc, fg, fe, fp, ft, fr, fl, a1, a2, a3, a4, a5, a6, a7, a8, a9, a10, a11, a12, a13, a14, a15, a16, a17, a18, a19, a20, a21, a22, a23, a24, a25, a26, a27) :=
  qn_firstBucket hb hz h27 (qn_leastOf hb hz h22 ⟨pk_in 0 12 (by omega), nm_r (qn_rd 0 rfl (by omega) h23) ⟨pk_in b 24 hb, nm_r (qn_rd b rfl (by omega) hz) ⟨pk_in b 24 hb, nm_r (qn_up b rfl (by omega) rfl) ⟨2, br_f (nI_pos (by omega)) ⟨pk_in 0 12 (by omega), nm_r (qn_rd 0 rfl (by omega) h22) (br_t rfl (br_t (by decide) H))⟩⟩⟩⟩⟩)
end
end
section
section
variable {fc fg fe fp ft fr fl : Int32} { a1 a2 a3 a4 a5 a6 a7 a8 a9 a10 a11 a12 a13 a14 a15 a16 a17 a18 a19 a20 a21 a22 a23 a24 a25 a26 a27 : Nat → Int32}
/-- the queue of engine e is empty -/
def qn_E0 (e : Nat) (fp ft fr fl : Int32) (a21 a27 : Nat → Int32) : Prop := fp = nI 0 ∧ (e = 1 → (∃ q, q ≤ 1000 ∧ ft = nI q) ∧ ∀ j, j < 16 → a21 j = -1) ∧ (e = 2 → fr = -1) ∧ (e = 3 → (∃ q, q < 8192 ∧ fl = nI q) ∧ ∀ j, j < 24 → a27 j = -1)
/-- the queue of engine e holds one event w, of customer 0 -/
def qn_E1 (e w : Nat) (fp ft fr : Int32) (a20 a21 a22 a23 a24 a27 : Nat → Int32) : Prop := fp = nI 1 ∧ (e = 0 → a20 0 = nI w) ∧ (e = 1 → (∃ q, q ≤ 1000 ∧ ft = nI q) ∧ a23 0 = nI w ∧ a22 0 = -1 ∧ a21 (w / 32 % 16) = nI 0 ∧ ∀ j, j < 16 → j ≠ w / 32 % 16 → a21 j = -1) ∧ (e = 2 → fr = nI 0 ∧ a23 0 = nI w ∧ a24 0 = -1) ∧ (e = 3 → a23 0 = nI w ∧ a22 0 = -1 ∧ ∃ b, b < 24 ∧ a27 b = nI 0 ∧ ∀ j, j < 24 → j ≠ b → a27 j = -1)
theorem qn_addEvent {post : St2 → Prop} {x : Int32} {e w : Nat} (he : e < 4) (hx : x = nI w) (hw : w < 8192) (h16 : w % 16 = 0) (h0 : qn_E0 e fp ft fr fl a21 a27)
    (H : ∀ (fp' ft' fr' fl' : Int32) (b20 b21 b22 b23 b24 b25 b26 b27 : Nat → Int32), qn_E1 e w fp' ft' fr' b20 b21 b22 b23 b24 b27 → post (fc, fg, nI e, fp', ft', fr', fl', a1, a2, a3, a4, a5, a6, a7, a8, a9, a10, a11, a12, a13, a14, a15, a16, a17, a18, a19, b20, b21, b22, b23, b24, b25, b26, b27)) : wpX_addEvent post (fc, fg, nI e, fp, ft, fr, fl, a1, a2, a3, a4, a5, a6, a7, a8, a9, a10, a11, a12, a13, a14, a15, a16, a17, a18, a19, a20, a21, a22, a23, a24, a25, a26, a27) x := by
  subst hx
  obtain ⟨hp, h1, h2, h3⟩ := h0
  subst hp
  have hc : e = 0 ∨ e = 1 ∨ e = 2 ∨ e = 3 := by omega
  rcases hc with rfl | rfl | rfl | rfl
  · exact br_f (by decide) (br_f (by decide) (br_t rfl (qn_heapAdd (nm_r (nI_1 0) (H _ _ _ _ _ _ _ _ _ _ _ _ ⟨rfl, fun _ => pk_us, fun z => absurd z (by decide), fun z => absurd z (by decide), fun z => absurd z (by decide)⟩)))))
  · obtain ⟨hq, h21⟩ := h1 rfl
    exact br_f (by decide) (br_f (by decide) (br_f (by decide) (br_t rfl (qn_calendarAdd hw h16 h21 (nm_r (nI_1 0) (H _ _ _ _ _ _ _ _ _ _ _ _ ⟨rfl, fun z => absurd z (by decide), fun _ => ⟨hq, pk_us, pk_us, pk_us, fun j hj hn => (pk_un hn).trans (h21 j hj)⟩, fun z => absurd z (by decide), fun z => absurd z (by decide)⟩))))))
  · have hr := h2 rfl
    subst hr
    exact br_f (by decide) (br_f (by decide) (br_f (by decide) (br_f (by decide) (br_t rfl (qn_treeAdd hw h16 (nm_r (nI_1 0) (H _ _ _ _ _ _ _ _ _ _ _ _ ⟨rfl, fun z => absurd z (by decide), fun z => absurd z (by decide), fun _ => ⟨rfl, pk_us, pk_us⟩, fun z => absurd z (by decide)⟩)))))))
  · obtain ⟨⟨l, hl, hl'⟩, h27⟩ := h3 rfl
    subst hl'
    exact br_f (by decide) (br_t (by decide) (qn_bucketAdd hw h16 hl h27 (fun b hb => nm_r (nI_1 0) (H _ _ _ _ _ _ _ _ _ _ _ _ ⟨rfl, fun z => absurd z (by decide), fun z => absurd z (by decide), fun z => absurd z (by decide), fun _ => ⟨pk_us, pk_us, b, hb, pk_us, fun j hj hn => (pk_un hn).trans (h27 j hj)⟩⟩))))
theorem qn_nextTime {post : Int32 → Prop} {e w t : Nat} (he : e < 4) (hw : w < 8192) (ht : w / 32 = t) (h1 : qn_E1 e w fp ft fr a20 a21 a22 a23 a24 a27) (H : post (nI t)) : wpX_nextTime post (fc, fg, nI e, fp, ft, fr, fl, a1, a2, a3, a4, a5, a6, a7, a8, a9, a10, a11, a12, a13, a14, a15, a16, a17, a18, a19, a20, a21, a22, a23, a24, a25, a26, a27) := by
  subst ht
  obtain ⟨hp, h0, h1, h2, h3⟩ := h1
  have hc : e = 0 ∨ e = 1 ∨ e = 2 ∨ e = 3 := by omega
  rcases hc with rfl | rfl | rfl | rfl
  · exact br_t rfl ⟨by decide, qn_p1 (by rw [h0 rfl]; exact pk_div (d := 32) (by omega) (by omega) (by omega)) H⟩
  · obtain ⟨⟨q, hq, hq'⟩, h23, h22, hz, h21⟩ := h1 rfl
    subst hq'
    exact br_f (by decide) (br_t rfl (qn_calendarNext hq (by omega) hz h21 ⟨pk_in 0 12 (by omega), by decide, qn_p1 (qn_dv rfl h23 hw) H⟩))
  · obtain ⟨hr, h23, h24⟩ := h2 rfl
    subst hr
    exact br_f (by decide) (br_f (by decide) (br_f (by decide) ⟨pk_in 0 12 (by omega), by decide, qn_p1 (qn_dv rfl h23 hw) H⟩))
  · obtain ⟨h23, h22, b, hb, hz, h27⟩ := h3 rfl
    exact br_f (by decide) (br_f (by decide) (br_t rfl (qn_firstBucket hb hz h27 (qn_leastOf hb hz h22 ⟨pk_in 0 12 (by omega), by decide, qn_p1 (qn_dv rfl h23 hw) H⟩))))
theorem qn_takeEvent {post : Int32 → St2 → Prop} {e w : Nat} (he : e < 4) (hw : w < 8192) (h1 : qn_E1 e w fp ft fr a20 a21 a22 a23 a24 a27)
    (H : ∀ (fp' ft' fr' fl' : Int32) (b20 b21 b22 b23 b24 b25 b26 b27 : Nat → Int32), qn_E0 e fp' ft' fr' fl' b21 b27 → post (nI w) (fc, fg, nI e, fp', ft', fr', fl', a1, a2, a3, a4, a5, a6, a7, a8, a9, a10, a11, a12, a13, a14, a15, a16, a17, a18, a19, b20, b21, b22, b23, b24, b25, b26, b27)) : wpX_takeEvent post (fc, fg, nI e, fp, ft, fr, fl, a1, a2, a3, a4, a5, a6, a7, a8, a9, a10, a11, a12, a13, a14, a15, a16, a17, a18, a19, a20, a21, a22, a23, a24, a25, a26, a27) := by
  obtain ⟨hp, h0, h1, h2, h3⟩ := h1
  subst hp
  have hc : e = 0 ∨ e = 1 ∨ e = 2 ∨ e = 3 := by omega
  rcases hc with rfl | rfl | rfl | rfl
  · exact br_f (by decide) (br_f (by decide) (br_t rfl (qn_heapTake (h0 rfl) (nm_r (nI_pred 0) (H _ _ _ _ _ _ _ _ _ _ _ _ ⟨rfl, fun z => absurd z (by decide), fun z => absurd z (by decide), fun z => absurd z (by decide)⟩)))))
  · obtain ⟨⟨q, hq, hq'⟩, h23, h22, hz, h21⟩ := h1 rfl
    subst hq'
    exact br_f (by decide) (br_f (by decide) (br_f (by decide) (br_t rfl (qn_calendarTake hq hw hz h21 h22 h23 (nm_r (nI_pred 0) (H _ _ _ _ _ _ _ _ _ _ _ _ ⟨rfl, fun _ => ⟨⟨w / 32, by omega, rfl⟩, fun j hj => by
      by_cases ej : j = w / 32 % 16
      · rw [ej, pk_us]
      · exact (pk_un ej).trans (h21 j hj ej)⟩, fun z => absurd z (by decide), fun z => absurd z (by decide)⟩))))))
  · obtain ⟨hr, h23, h24⟩ := h2 rfl
    subst hr
    exact br_f (by decide) (br_f (by decide) (br_f (by decide) (br_f (by decide) (br_t rfl (qn_treeTake h23 h24 (nm_r (nI_pred 0) (H _ _ _ _ _ _ _ _ _ _ _ _ ⟨rfl, fun z => absurd z (by decide), fun _ => rfl, fun z => absurd z (by decide)⟩)))))))
  · obtain ⟨h23, h22, b, hb, hz, h27⟩ := h3 rfl
    exact br_f (by decide) (br_t (by decide) (qn_bucketTake hb hz h27 h22 h23 (nm_r (nI_pred 0) (H _ _ _ _ _ _ _ _ _ _ _ _ ⟨rfl, fun z => absurd z (by decide), fun z => absurd z (by decide), fun _ => ⟨⟨w, hw, rfl⟩, fun j hj => by
      by_cases ej : j = b
      · rw [ej, pk_us]
      · exact (pk_un ej).trans (h27 j hj ej)⟩⟩))))
theorem qn_startQueue {post : St2 → Prop} (H : ∀ b21 b27 : Nat → Int32, (∀ j, j < 16 → b21 j = -1) → (∀ j, j < 24 → b27 j = -1) → post (fc, fg, fe, nI 0, nI 0, -1, nI 0, a1, a2, a3, a4, a5, a6, a7, a8, a9, a10, a11, a12, a13, a14, a15, a16, a17, a18, a19, a20, b21, a22, a23, a24, a25, a26, b27)) : wpX_startQueue post (fc, fg, fe, fp, ft, fr, fl, a1, a2, a3, a4, a5, a6, a7, a8, a9, a10, a11, a12, a13, a14, a15, a16, a17, a18, a19, a20, a21, a22, a23, a24, a25, a26, a27) :=
  pk_loop (fun n i s => wX_startQueue_22 post fc fg fe 0 0 (-1) 0 n (nI i) a1 a2 a3 a4 a5 a6 a7 a8 a9 a10 a11 a12 a13 a14 a15 a16 a17 a18 a19 a20 s a22 a23 a24 a25 a26 a27) (fun i s => ∀ j, j < i → s j = -1) 16 0 a21 (by omega) lt_0
    (fun n s h => br_t (by decide) (pk_loop (fun n i s' => wX_startQueue_43 post fc fg fe 0 0 (-1) 0 n (nI i) a1 a2 a3 a4 a5 a6 a7 a8 a9 a10 a11 a12 a13 a14 a15 a16 a17 a18 a19 a20 s a22 a23 a24 a25 a26 s') (fun i s' => ∀ j, j < i → s' j = -1) 24 0 a27 (by omega) lt_0
      (fun n s' h' => br_t (by decide) (H s s' h h'))
      (fun n i s' hi h' hw => br_f (nI_ge (b := 24) hi (by decide)) ⟨pk_in i 24 hi, nm_r (qn_up i rfl (by omega) rfl) (nm_r (nI_1 i) (hw _ (qn_fill h')))⟩)))
    (fun n i s hi h hw => br_f (nI_ge (b := 16) hi (by decide)) ⟨pk_in i 16 hi, nm_r (qn_up i rfl (by omega) rfl) (nm_r (nI_1 i) (hw _ (qn_fill h)))⟩)
end
end
section
section
variable {fc fg fe fp ft fr fl : Int32} { a1 a2 a3 a4 a5 a6 a7 a8 a9 a10 a11 a12 a13 a14 a15 a16 a17 a18 a19 a20 a21 a22 a23 a24 a25 a26 a27 : Nat → Int32}
theorem qn_bit : ∀ i, i < 12 → 0 < i → ((nI 1 >>> (nI i &&& 31)) &&& 1) = 0 := by decide +kernel
theorem qn_nb1 : vp_nar .byte (nI 1) = nI 1 := by
  rw [vp_nar_byte]
  exact qn_b8 1 (by omega)
/-! a change is noted -/
theorem qn_note {post : St2 → Prop} {g : Nat} {x s m n s' m' n' : Int32} (hg : g < 160) (hs : s.toInt8.toInt32 = s') (hm : m.toInt8.toInt32 = m') (hn : n.toInt8.toInt32 = n') (H : post (fc, nI (g + 1), fe, fp, ft, fr, fl, a1, a2, a3, a4, a5, a6, a7, a8, a9, a10, a11, a12, upd a13 g x, upd a14 g s', upd a15 g m', upd a16 g n', a17, a18, a19, a20, a21, a22, a23, a24, a25, a26, a27)) : wpX_note post (fc, nI g, fe, fp, ft, fr, fl, a1, a2, a3, a4, a5, a6, a7, a8, a9, a10, a11, a12, a13, a14, a15, a16, a17, a18, a19, a20, a21, a22, a23, a24, a25, a26, a27) x s m n :=
  ⟨pk_in g 160 hg, nm_r (qn_up g rfl (by omega) rfl) ⟨pk_in g 160 hg, nm_r (qn_up g rfl (by omega) hs) ⟨pk_in g 160 hg, nm_r (qn_up g rfl (by omega) hm) ⟨pk_in g 160 hg, nm_r (qn_up g rfl (by omega) hn) (nm_r (nI_1 g) H)⟩⟩⟩⟩
/-! customer 0 goes on: out, or to its station -/
theorem qn_goOnOut {post : St2 → Prop} {k v : Nat} {x : Int32} (hk : k < 100) (hv : v ≤ k) (h17 : a17 0 = nI k) (h4 : a4 0 = nI v) (H : post (fc, fg, fe, fp, ft, fr, fl, a1, a2, a3, a4, a5, a6, a7, a8, upd a9 0 x, a10, a11, a12, a13, a14, a15, a16, a17, a18, a19, a20, a21, a22, a23, a24, a25, a26, a27)) : wpX_goOn post (fc, fg, fe, fp, ft, fr, fl, a1, a2, a3, a4, a5, a6, a7, a8, a9, a10, a11, a12, a13, a14, a15, a16, a17, a18, a19, a20, a21, a22, a23, a24, a25, a26, a27) (nI 0) x :=
  ⟨pk_in 0 12 (by omega), pk_in 0 12 (by omega), br_f (by rw [qn_rd 0 rfl (by omega) h17, qn_rd 0 rfl (by omega) h4]; exact nI_nlt hv (by omega)) ⟨pk_in 0 12 (by omega), nm_r (qn_up 0 rfl (by omega) rfl) H⟩⟩
theorem qn_goOnIn {post : St2 → Prop} {s g : Nat} {x : Int32} (hs : s < 4) (hg : g < 160) (h17 : a17 0 = nI 0) (h4 : a4 0 = nI 1) (h5 : a5 0 = nI s) (h18 : a18 s = nI 0) (H : post (fc, nI (g + 1), fe, fp, ft, fr, fl, a1, a2, a3, a4, a5, a6, upd a7 0 x, a8, a9, a10, a11, a12, upd a13 g x, upd a14 g (nI s), upd a15 g (nI 1), upd a16 g (nI 1), a17, upd a18 s (nI 1), a19, a20, a21, a22, a23, a24, a25, a26, a27)) : wpX_goOn post (fc, nI g, fe, fp, ft, fr, fl, a1, a2, a3, a4, a5, a6, a7, a8, a9, a10, a11, a12, a13, a14, a15, a16, a17, a18, a19, a20, a21, a22, a23, a24, a25, a26, a27) (nI 0) x :=
  ⟨pk_in 0 12 (by omega), pk_in 0 12 (by omega), br_t (by rw [qn_rd 0 rfl (by omega) h17, qn_rd 0 rfl (by omega) h4]; decide) ⟨pk_in 0 12 (by omega), nm_r (e' := nI 0) (by rw [qn_rd 0 rfl (by omega) h17]; decide) ⟨pk_in 0 48 (by omega), nm_r (qn_up 0 rfl (by omega) rfl) ⟨pk_in 0 48 (by omega), nm_r (qn_rd 0 rfl (by omega) h5) ⟨pk_in s 4 hs, pk_in s 4 hs, nm_r (e' := upd a18 s (nI 1)) (qn_up s rfl (by omega) (by rw [qn_rd s rfl (by omega) h18]; decide)) (qn_note hg (qn_b8 s (by omega)) (qn_b8 1 (by omega)) (qn_b8 1 (by omega)) H)⟩⟩⟩⟩⟩
theorem qn_finish {post : St2 → Prop} {s g : Nat} {x : Int32} (hs : s < 4) (hg : g < 160) (h17 : a17 0 = nI 0) (h4 : a4 0 = nI 1) (h5 : a5 0 = nI s) (h19 : a19 s = nI 0) (H : post (fc, nI (g + 1), fe, fp, ft, fr, fl, a1, a2, a3, a4, a5, a6, a7, a8, upd a9 0 x, a10, a11, a12, upd a13 g x, upd a14 g (nI s), upd a15 g (-1), upd a16 g (nI 0), upd a17 0 (nI 1), a18, upd a19 s (nI 1), a20, a21, a22, a23, a24, a25, a26, a27)) : wpX_finish post (fc, nI g, fe, fp, ft, fr, fl, a1, a2, a3, a4, a5, a6, a7, a8, a9, a10, a11, a12, a13, a14, a15, a16, a17, a18, a19, a20, a21, a22, a23, a24, a25, a26, a27) (nI 0) x :=
  have e17 : nI 0 * 4 + a17 (nI 0).toNatClampNeg = nI 0 := by
    rw [qn_rd 0 rfl (by omega) h17]
    decide
  ⟨pk_in 0 12 (by omega), pk_in 0 48 (by omega) e17, nm_r (qn_rd 0 e17 (by omega) h5) ⟨pk_in s 4 hs, pk_in s 4 hs, nm_r (e' := upd a19 s (nI 1)) (qn_up s rfl (by omega) (by rw [qn_rd s rfl (by omega) h19]; decide)) (qn_note hg (qn_b8 s (by omega)) qn_m8 (qn_b8 0 (by omega)) ⟨pk_in 0 12 (by omega), pk_in 0 12 (by omega), nm_r (e' := upd a17 0 (nI 1)) (qn_up 0 rfl (by omega) (by rw [qn_rd 0 rfl (by omega) h17]; decide)) (qn_goOnOut (k := 1) (v := 1) (by omega) (by omega) pk_us h4 H)⟩)⟩⟩
/-! an event is handled -/
theorem qn_hOut {post : St2 → Prop} {w : Nat} {x : Int32} (hw : w < 8192) (h32 : w % 32 = 16) (h17 : a17 0 = nI 0) (h4 : a4 0 = nI 0) (H : post (fc, fg, fe, fp, ft, fr, fl, a1, a2, a3, a4, a5, a6, a7, a8, upd a9 0 x, a10, a11, a12, a13, a14, a15, a16, a17, a18, a19, a20, a21, a22, a23, a24, a25, a26, a27)) : wpX_handle post (fc, fg, fe, fp, ft, fr, fl, a1, a2, a3, a4, a5, a6, a7, a8, a9, a10, a11, a12, a13, a14, a15, a16, a17, a18, a19, a20, a21, a22, a23, a24, a25, a26, a27) (nI w) x := by
  unfold wpX_handle
  exact qn_cust hw (by omega) ⟨by decide, br_f (by rw [qn_r32 hw, h32]; decide) (qn_goOnOut (k := 0) (v := 0) (by omega) (by omega) h17 h4 H)⟩
theorem qn_hIn {post : St2 → Prop} {w s g : Nat} {x : Int32} (hw : w < 8192) (h32 : w % 32 = 16) (hs : s < 4) (hg : g < 160) (h17 : a17 0 = nI 0) (h4 : a4 0 = nI 1) (h5 : a5 0 = nI s) (h18 : a18 s = nI 0) (H : post (fc, nI (g + 1), fe, fp, ft, fr, fl, a1, a2, a3, a4, a5, a6, upd a7 0 x, a8, a9, a10, a11, a12, upd a13 g x, upd a14 g (nI s), upd a15 g (nI 1), upd a16 g (nI 1), a17, upd a18 s (nI 1), a19, a20, a21, a22, a23, a24, a25, a26, a27)) : wpX_handle post (fc, nI g, fe, fp, ft, fr, fl, a1, a2, a3, a4, a5, a6, a7, a8, a9, a10, a11, a12, a13, a14, a15, a16, a17, a18, a19, a20, a21, a22, a23, a24, a25, a26, a27) (nI w) x := by
  unfold wpX_handle
  exact qn_cust hw (by omega) ⟨by decide, br_f (by rw [qn_r32 hw, h32]; decide) (qn_goOnIn hs hg h17 h4 h5 h18 H)⟩
theorem qn_hEnd {post : St2 → Prop} {w s g : Nat} {x : Int32} (hw : w < 8192) (h32 : w % 32 = 0) (hs : s < 4) (hg : g < 160) (h17 : a17 0 = nI 0) (h4 : a4 0 = nI 1) (h5 : a5 0 = nI s) (h19 : a19 s = nI 0) (H : post (fc, nI (g + 1), fe, fp, ft, fr, fl, a1, a2, a3, a4, a5, a6, a7, a8, upd a9 0 x, a10, a11, a12, upd a13 g x, upd a14 g (nI s), upd a15 g (-1), upd a16 g (nI 0), upd a17 0 (nI 1), a18, upd a19 s (nI 1), a20, a21, a22, a23, a24, a25, a26, a27)) : wpX_handle post (fc, nI g, fe, fp, ft, fr, fl, a1, a2, a3, a4, a5, a6, a7, a8, a9, a10, a11, a12, a13, a14, a15, a16, a17, a18, a19, a20, a21, a22, a23, a24, a25, a26, a27) (nI w) x := by
  unfold wpX_handle
  exact qn_cust hw (by omega) ⟨by decide, br_t (by rw [qn_r32 hw, h32]; decide) (qn_finish hs hg h17 h4 h5 h19 H)⟩
/-! a station is served -/
theorem qn_choose {post : Int32 → Prop} {s : Nat} (hs : s < 4) (h18 : a18 s = nI 1) (H : post (nI 0)) : wpX_choose post (fc, fg, fe, fp, ft, fr, fl, a1, a2, a3, a4, a5, a6, a7, a8, a9, a10, a11, a12, a13, a14, a15, a16, a17, a18, a19, a20, a21, a22, a23, a24, a25, a26, a27) (nI s) :=
  pk_loop (fun n i x => wX_choose_4 post (nI s) fc fg fe fp ft fr fl a1 a2 a3 a4 a5 a6 a7 a8 a9 a10 a11 a12 a13 a14 a15 a16 a17 a18 a19 a20 a21 a22 a23 a24 a25 a26 a27 n x (nI i)) (fun i x => (i = 0 ∧ x = -1) ∨ (0 < i ∧ x = nI 0)) 12 0 (-1) (by omega) (Or.inl ⟨rfl, rfl⟩)
    (fun n x h => by
      have hx : x = nI 0 := by
        rcases h with h | h
        · exact absurd h.1 (by omega)
        · exact h.2
      subst hx
      exact br_t (by decide) H)
    (fun n i x hi h hw => by
      rcases h with ⟨h, hx⟩ | ⟨h, hx⟩
      · subst h hx
        exact br_f (by decide) ⟨pk_in s 4 hs, br_f (by rw [qn_rd s rfl (by omega) h18]; decide) (br_t (by decide) (nm_r (nI_1 0) (hw _ (Or.inr ⟨by omega, rfl⟩))))⟩
      · subst hx
        exact br_f (nI_ge (b := 12) hi (by decide)) ⟨pk_in s 4 hs, br_t (by rw [qn_rd s rfl (by omega) h18]; exact qn_bit i hi h) (nm_r (nI_1 i) (hw _ (Or.inr ⟨by omega, rfl⟩)))⟩)
theorem qn_serveIdle {post : St2 → Prop} {j : Nat} {x : Int32} (hj : j < 4) (h18 : a18 j = nI 0) (H : post (fc, fg, fe, fp, ft, fr, fl, a1, a2, a3, a4, a5, a6, a7, a8, a9, a10, a11, a12, a13, a14, a15, a16, a17, a18, a19, a20, a21, a22, a23, a24, a25, a26, a27)) : wpX_serve post (fc, fg, fe, fp, ft, fr, fl, a1, a2, a3, a4, a5, a6, a7, a8, a9, a10, a11, a12, a13, a14, a15, a16, a17, a18, a19, a20, a21, a22, a23, a24, a25, a26, a27) (nI j) x :=
  ⟨1, pk_in j 4 hj, br_c (fun _ => H) (fun _ => ⟨pk_in j 4 hj, br_t (qn_rd j rfl (by omega) h18) H⟩)⟩
theorem qn_serveBusy {post : St2 → Prop} {e s t d : Nat} (he : e < 4) (hs : s < 4) (ht : t ≤ 100) (hd : d ≤ 30) (h0 : qn_E0 e fp ft fr fl a21 a27) (h17 : a17 0 = nI 0) (h18 : a18 s = nI 1) (h19 : a19 s = nI 1) (h6 : a6 0 = nI d)
    (H : ∀ (fp' ft' fr' fl' : Int32) (b20 b21 b22 b23 b24 b25 b26 b27 : Nat → Int32), qn_E1 e (32 * (t + d)) fp' ft' fr' b20 b21 b22 b23 b24 b27 → post (fc, nI 2, nI e, fp', ft', fr', fl', a1, a2, a3, a4, a5, a6, a7, upd a8 0 (nI t), a9, a10, a11, a12, upd a13 1 (nI t), upd a14 1 (nI s), upd a15 1 (nI 0), upd a16 1 (-1), a17, upd a18 s (nI 0), upd a19 s (nI 0), b20, b21, b22, b23, b24, b25, b26, b27)) :
    wpX_serve post (fc, nI 1, nI e, fp, ft, fr, fl, a1, a2, a3, a4, a5, a6, a7, a8, a9, a10, a11, a12, a13, a14, a15, a16, a17, a18, a19, a20, a21, a22, a23, a24, a25, a26, a27) (nI s) (nI t) :=
  have hev : (32 * (nI t + a6 (nI 0).toNatClampNeg)) + nI 0 = nI (32 * (t + d)) := by
    rw [qn_rd 0 rfl (by omega) h6, nI_add]
    show nI 32 * nI (t + d) + nI 0 = nI (32 * (t + d))
    rw [pk_mul, nI_add]
    rfl
  ⟨2, pk_in s 4 hs, br_f (by rw [qn_rd s rfl (by omega) h19]; decide) ⟨pk_in s 4 hs, br_f (by rw [qn_rd s rfl (by omega) h18]; decide) (qn_choose hs h18 ⟨pk_in 0 12 (by omega), nm_r (e' := nI 0) (by rw [qn_rd 0 rfl (by omega) h17]; decide) ⟨pk_in s 4 hs, pk_in s 4 hs, nm_r (e' := upd a18 s (nI 0)) (qn_up s rfl (by omega) (by rw [qn_rd s rfl (by omega) h18]; decide)) ⟨pk_in s 4 hs, pk_in s 4 hs, nm_r (e' := upd a19 s (nI 0)) (qn_up s rfl (by omega) (by rw [qn_rd s rfl (by omega) h19]; decide)) ⟨pk_in 0 48 (by omega), nm_r (qn_up 0 rfl (by omega) rfl) (qn_note (g := 1) (by omega) (qn_b8 s (by omega)) (qn_b8 0 (by omega)) qn_m8 ⟨pk_in 0 48 (by omega), qn_addEvent he hev (by omega) (by omega) h0 (fun fp' ft' fr' fl' b20 b21 b22 b23 b24 b25 b26 b27 hE => ⟨pk_in s 4 hs, br_t (by rw [qn_rd s rfl (by omega) pk_us]; decide) (H fp' ft' fr' fl' b20 b21 b22 b23 b24 b25 b26 b27 hE)⟩)⟩)⟩⟩⟩⟩)⟩⟩
/-! all stations are served -/
theorem qn_130s {post : St2 → Prop} {J : Int32 → Int32 → Int32 → Int32 → Int32 → Int32 → Int32 → (Nat → Int32) → (Nat → Int32) → (Nat → Int32) → (Nat → Int32) → (Nat → Int32) → (Nat → Int32) → (Nat → Int32) → (Nat → Int32) → (Nat → Int32) → (Nat → Int32) → (Nat → Int32) → (Nat → Int32) → (Nat → Int32) → (Nat → Int32) → (Nat → Int32) → (Nat → Int32) → (Nat → Int32) → (Nat → Int32) → (Nat → Int32) → (Nat → Int32) → (Nat → Int32) → (Nat → Int32) → (Nat → Int32) → (Nat → Int32) → (Nat → Int32) → (Nat → Int32) → (Nat → Int32) → Prop} {x : Int32} (m k : Nat) : ∀ i n, i + k = m → m ≤ 4 → (∀ j, i ≤ j → j < m → a18 j = nI 0) → wX_run_130 post J x n (nI m) fc fg fe fp ft fr fl a1 a2 a3 a4 a5 a6 a7 a8 a9 a10 a11 a12 a13 a14 a15 a16 a17 a18 a19 a20 a21 a22 a23 a24 a25 a26 a27 → wX_run_130 post J x (n + k) (nI i) fc fg fe fp ft fr fl a1 a2 a3 a4 a5 a6 a7 a8 a9 a10 a11 a12 a13 a14 a15 a16 a17 a18 a19 a20 a21 a22 a23 a24 a25 a26 a27 := by
  induction k with
  | zero =>
    intro i n hi _ _ h
    have e : i = m := by omega
    subst e
    exact h
  | succ k ih =>
    intro i n hi hm h18 h
    show wX_run_130 post J x ((n + k) + 1) (nI i) fc fg fe fp ft fr fl a1 a2 a3 a4 a5 a6 a7 a8 a9 a10 a11 a12 a13 a14 a15 a16 a17 a18 a19 a20 a21 a22 a23 a24 a25 a26 a27
    exact br_f (nI_ge (b := 4) (by omega) (by decide)) (qn_serveIdle (by omega) (h18 i (by omega) (by omega)) (nm_r (nI_1 i) (ih (i + 1) n (by omega) hm (fun j h1 h2 => h18 j (by omega) h2) h)))
theorem qn_130i {post : St2 → Prop} {J : Int32 → Int32 → Int32 → Int32 → Int32 → Int32 → Int32 → (Nat → Int32) → (Nat → Int32) → (Nat → Int32) → (Nat → Int32) → (Nat → Int32) → (Nat → Int32) → (Nat → Int32) → (Nat → Int32) → (Nat → Int32) → (Nat → Int32) → (Nat → Int32) → (Nat → Int32) → (Nat → Int32) → (Nat → Int32) → (Nat → Int32) → (Nat → Int32) → (Nat → Int32) → (Nat → Int32) → (Nat → Int32) → (Nat → Int32) → (Nat → Int32) → (Nat → Int32) → (Nat → Int32) → (Nat → Int32) → (Nat → Int32) → (Nat → Int32) → (Nat → Int32) → Prop} {x : Int32} (h18 : ∀ j, j < 4 → a18 j = nI 0) (H : J fc fg fe fp ft fr fl a1 a2 a3 a4 a5 a6 a7 a8 a9 a10 a11 a12 a13 a14 a15 a16 a17 a18 a19 a20 a21 a22 a23 a24 a25 a26 a27) : ∃ n, wX_run_130 post J x n 0 fc fg fe fp ft fr fl a1 a2 a3 a4 a5 a6 a7 a8 a9 a10 a11 a12 a13 a14 a15 a16 a17 a18 a19 a20 a21 a22 a23 a24 a25 a26 a27 :=
  ⟨1 + 4, qn_130s 4 4 0 1 (by omega) (by omega) (fun j _ hj => h18 j hj) (br_t (by decide) H)⟩
theorem qn_130b {post : St2 → Prop} {J : Int32 → Int32 → Int32 → Int32 → Int32 → Int32 → Int32 → (Nat → Int32) → (Nat → Int32) → (Nat → Int32) → (Nat → Int32) → (Nat → Int32) → (Nat → Int32) → (Nat → Int32) → (Nat → Int32) → (Nat → Int32) → (Nat → Int32) → (Nat → Int32) → (Nat → Int32) → (Nat → Int32) → (Nat → Int32) → (Nat → Int32) → (Nat → Int32) → (Nat → Int32) → (Nat → Int32) → (Nat → Int32) → (Nat → Int32) → (Nat → Int32) → (Nat → Int32) → (Nat → Int32) → (Nat → Int32) → (Nat → Int32) → (Nat → Int32) → (Nat → Int32) → Prop} {e s t d : Nat} (he : e < 4) (hs : s < 4) (ht : t ≤ 100) (hd : d ≤ 30) (h0 : qn_E0 e fp ft fr fl a21 a27) (h17 : a17 0 = nI 0) (h18 : a18 s = nI 1) (h18o : ∀ j, j < 4 → j ≠ s → a18 j = nI 0) (h19 : a19 s = nI 1) (h6 : a6 0 = nI d)
    (H : ∀ (fp' ft' fr' fl' : Int32) (b20 b21 b22 b23 b24 b25 b26 b27 : Nat → Int32), qn_E1 e (32 * (t + d)) fp' ft' fr' b20 b21 b22 b23 b24 b27 → J fc (nI 2) (nI e) fp' ft' fr' fl' a1 a2 a3 a4 a5 a6 a7 (upd a8 0 (nI t)) a9 a10 a11 a12 (upd a13 1 (nI t)) (upd a14 1 (nI s)) (upd a15 1 (nI 0)) (upd a16 1 (-1)) a17 (upd a18 s (nI 0)) (upd a19 s (nI 0)) b20 b21 b22 b23 b24 b25 b26 b27) :
    ∃ n, wX_run_130 post J (nI t) n 0 fc (nI 1) (nI e) fp ft fr fl a1 a2 a3 a4 a5 a6 a7 a8 a9 a10 a11 a12 a13 a14 a15 a16 a17 a18 a19 a20 a21 a22 a23 a24 a25 a26 a27 :=
  ⟨((1 + (3 - s)) + 1) + s, qn_130s s s 0 ((1 + (3 - s)) + 1) (by omega) (by omega) (fun j _ hj => h18o j (by omega) (by omega))
    (br_f (nI_ge (b := 4) hs (by decide)) (qn_serveBusy he hs ht hd h0 h17 h18 h19 h6 (fun fp' ft' fr' fl' b20 b21 b22 b23 b24 b25 b26 b27 hE => nm_r (nI_1 s) (qn_130s 4 (3 - s) (s + 1) 1 (by omega) (by omega) (fun j h1 h2 => (pk_un (by omega)).trans (h18o j h2 (by omega))) (br_t (by decide) (H fp' ft' fr' fl' b20 b21 b22 b23 b24 b25 b26 b27 hE))))))⟩
end
end
section
section
variable {fc fg fe fp ft fr fl : Int32} { a1 a2 a3 a4 a5 a6 a7 a8 a9 a10 a11 a12 a13 a14 a15 a16 a17 a18 a19 a20 a21 a22 a23 a24 a25 a26 a27 : Nat → Int32}
/-! one time of the run: the customer comes and is out; it comes and is served; its end -/
theorem qn_turnOut {post : St2 → Prop} {J : Int32 → Int32 → Int32 → Int32 → Int32 → Int32 → Int32 → (Nat → Int32) → (Nat → Int32) → (Nat → Int32) → (Nat → Int32) → (Nat → Int32) → (Nat → Int32) → (Nat → Int32) → (Nat → Int32) → (Nat → Int32) → (Nat → Int32) → (Nat → Int32) → (Nat → Int32) → (Nat → Int32) → (Nat → Int32) → (Nat → Int32) → (Nat → Int32) → (Nat → Int32) → (Nat → Int32) → (Nat → Int32) → (Nat → Int32) → (Nat → Int32) → (Nat → Int32) → (Nat → Int32) → (Nat → Int32) → (Nat → Int32) → (Nat → Int32) → (Nat → Int32) → Prop} {e t : Nat} (he : e < 4) (ht : t ≤ 100) (hE : qn_E1 e (32 * t + 16) fp ft fr a20 a21 a22 a23 a24 a27) (h17 : a17 0 = nI 0) (h4 : a4 0 = nI 0) (h18 : ∀ j, j < 4 → a18 j = nI 0)
    (H : ∀ (fp' ft' fr' fl' : Int32) (b20 b21 b22 b23 b24 b25 b26 b27 : Nat → Int32), qn_E0 e fp' ft' fr' fl' b21 b27 → J fc fg (nI e) fp' ft' fr' fl' a1 a2 a3 a4 a5 a6 a7 a8 (upd a9 0 (nI t)) a10 a11 a12 a13 a14 a15 a16 a17 a18 a19 b20 b21 b22 b23 b24 b25 b26 b27) :
    ∃ n, wX_run_99 post J (nI t) n fc fg (nI e) fp ft fr fl a1 a2 a3 a4 a5 a6 a7 a8 a9 a10 a11 a12 a13 a14 a15 a16 a17 a18 a19 a20 a21 a22 a23 a24 a25 a26 a27 :=
  ⟨2, br_f (by rw [hE.1]; decide) (qn_nextTime he (by omega) (show (32 * t + 16) / 32 = t by omega) hE (br_t rfl (qn_takeEvent he (by omega) hE (fun fp' ft' fr' fl' b20 b21 b22 b23 b24 b25 b26 b27 hE0 => qn_hOut (by omega) (by omega) h17 h4 (br_t (by rw [hE0.1]; decide) (qn_130i h18 (H fp' ft' fr' fl' b20 b21 b22 b23 b24 b25 b26 b27 hE0)))))))⟩
theorem qn_turnIn {post : St2 → Prop} {J : Int32 → Int32 → Int32 → Int32 → Int32 → Int32 → Int32 → (Nat → Int32) → (Nat → Int32) → (Nat → Int32) → (Nat → Int32) → (Nat → Int32) → (Nat → Int32) → (Nat → Int32) → (Nat → Int32) → (Nat → Int32) → (Nat → Int32) → (Nat → Int32) → (Nat → Int32) → (Nat → Int32) → (Nat → Int32) → (Nat → Int32) → (Nat → Int32) → (Nat → Int32) → (Nat → Int32) → (Nat → Int32) → (Nat → Int32) → (Nat → Int32) → (Nat → Int32) → (Nat → Int32) → (Nat → Int32) → (Nat → Int32) → (Nat → Int32) → (Nat → Int32) → Prop} {e s t d : Nat} (he : e < 4) (hs : s < 4) (ht : t ≤ 100) (hd : d ≤ 30) (hE : qn_E1 e (32 * t + 16) fp ft fr a20 a21 a22 a23 a24 a27) (h17 : a17 0 = nI 0) (h4 : a4 0 = nI 1) (h5 : a5 0 = nI s) (h6 : a6 0 = nI d) (h18 : ∀ j, j < 4 → a18 j = nI 0) (h19 : ∀ j, j < 4 → a19 j = nI 1)
    (H : ∀ (fp' ft' fr' fl' : Int32) (b20 b21 b22 b23 b24 b25 b26 b27 : Nat → Int32), qn_E1 e (32 * (t + d)) fp' ft' fr' b20 b21 b22 b23 b24 b27 → J fc (nI 2) (nI e) fp' ft' fr' fl' a1 a2 a3 a4 a5 a6 (upd a7 0 (nI t)) (upd a8 0 (nI t)) a9 a10 a11 a12 (upd (upd a13 0 (nI t)) 1 (nI t)) (upd (upd a14 0 (nI s)) 1 (nI s)) (upd (upd a15 0 (nI 1)) 1 (nI 0)) (upd (upd a16 0 (nI 1)) 1 (-1)) a17 (upd (upd a18 s (nI 1)) s (nI 0)) (upd a19 s (nI 0)) b20 b21 b22 b23 b24 b25 b26 b27) :
    ∃ n, wX_run_99 post J (nI t) n fc (nI 0) (nI e) fp ft fr fl a1 a2 a3 a4 a5 a6 a7 a8 a9 a10 a11 a12 a13 a14 a15 a16 a17 a18 a19 a20 a21 a22 a23 a24 a25 a26 a27 :=
  ⟨2, br_f (by rw [hE.1]; decide) (qn_nextTime he (by omega) (show (32 * t + 16) / 32 = t by omega) hE (br_t rfl (qn_takeEvent he (by omega) hE (fun fp' ft' fr' fl' b20 b21 b22 b23 b24 b25 b26 b27 hE0 => qn_hIn (by omega) (by omega) hs (by omega) h17 h4 h5 (h18 s hs) (br_t (by rw [hE0.1]; decide) (qn_130b he hs ht hd hE0 h17 pk_us (fun j hj hn => (pk_un hn).trans (h18 j hj)) (h19 s hs) h6 H))))))⟩
theorem qn_turnEnd {post : St2 → Prop} {J : Int32 → Int32 → Int32 → Int32 → Int32 → Int32 → Int32 → (Nat → Int32) → (Nat → Int32) → (Nat → Int32) → (Nat → Int32) → (Nat → Int32) → (Nat → Int32) → (Nat → Int32) → (Nat → Int32) → (Nat → Int32) → (Nat → Int32) → (Nat → Int32) → (Nat → Int32) → (Nat → Int32) → (Nat → Int32) → (Nat → Int32) → (Nat → Int32) → (Nat → Int32) → (Nat → Int32) → (Nat → Int32) → (Nat → Int32) → (Nat → Int32) → (Nat → Int32) → (Nat → Int32) → (Nat → Int32) → (Nat → Int32) → (Nat → Int32) → (Nat → Int32) → Prop} {e s t d : Nat} (he : e < 4) (hs : s < 4) (ht : t ≤ 100) (hd : d ≤ 30) (hE : qn_E1 e (32 * (t + d)) fp ft fr a20 a21 a22 a23 a24 a27) (h17 : a17 0 = nI 0) (h4 : a4 0 = nI 1) (h5 : a5 0 = nI s) (h18 : ∀ j, j < 4 → a18 j = nI 0) (h19 : a19 s = nI 0)
    (H : ∀ (fp' ft' fr' fl' : Int32) (b20 b21 b22 b23 b24 b25 b26 b27 : Nat → Int32), qn_E0 e fp' ft' fr' fl' b21 b27 → J fc (nI 3) (nI e) fp' ft' fr' fl' a1 a2 a3 a4 a5 a6 a7 a8 (upd a9 0 (nI (t + d))) a10 a11 a12 (upd a13 2 (nI (t + d))) (upd a14 2 (nI s)) (upd a15 2 (-1)) (upd a16 2 (nI 0)) (upd a17 0 (nI 1)) a18 (upd a19 s (nI 1)) b20 b21 b22 b23 b24 b25 b26 b27) :
    ∃ n, wX_run_99 post J (nI (t + d)) n fc (nI 2) (nI e) fp ft fr fl a1 a2 a3 a4 a5 a6 a7 a8 a9 a10 a11 a12 a13 a14 a15 a16 a17 a18 a19 a20 a21 a22 a23 a24 a25 a26 a27 :=
  ⟨2, br_f (by rw [hE.1]; decide) (qn_nextTime he (by omega) (show (32 * (t + d)) / 32 = t + d by omega) hE (br_t rfl (qn_takeEvent he (by omega) hE (fun fp' ft' fr' fl' b20 b21 b22 b23 b24 b25 b26 b27 hE0 => qn_hEnd (by omega) (by omega) hs (by omega) h17 h4 h5 h19 (br_t (by rw [hE0.1]; decide) (qn_130i h18 (H fp' ft' fr' fl' b20 b21 b22 b23 b24 b25 b26 b27 hE0)))))))⟩
/-! the loops ahead of the times -/
theorem qn_48 {post : St2 → Prop} {e t : Nat} (he : e < 4) (ht : t ≤ 100) (h0 : qn_E0 e fp ft fr fl a21 a27) (h3 : a3 0 = nI t)
    (H : ∀ (fp' ft' fr' fl' : Int32) (b20 b21 b22 b23 b24 b25 b26 b27 : Nat → Int32), qn_E1 e (32 * t + 16) fp' ft' fr' b20 b21 b22 b23 b24 b27 → ∃ n, wX_run_87 post n (nI 1) fg (nI e) fp' ft' fr' fl' a1 a2 a3 a4 a5 a6 a7 a8 a9 a10 a11 a12 a13 a14 a15 a16 (upd a17 0 (nI 0)) a18 a19 b20 b21 b22 b23 b24 b25 b26 b27) :
    ∃ n, wX_run_48 post n 0 (nI 1) fg (nI e) fp ft fr fl a1 a2 a3 a4 a5 a6 a7 a8 a9 a10 a11 a12 a13 a14 a15 a16 a17 a18 a19 a20 a21 a22 a23 a24 a25 a26 a27 :=
  have hev : ((32 * a3 (0 : Int32).toNatClampNeg) + 16) + 0 = nI (32 * t + 16) := by
    rw [qn_rd (x := 0) 0 rfl (by omega) h3]
    show nI 32 * nI t + nI 16 + nI 0 = nI (32 * t + 16)
    rw [pk_mul, nI_add, nI_add]
  ⟨2, br_f (by decide) ⟨pk_in 0 12 (by omega), nm_r (e' := upd a17 0 (nI 0)) (qn_up 0 rfl (by omega) rfl) ⟨pk_in 0 12 (by omega), qn_addEvent he hev (by omega) (by omega) h0 (fun fp' ft' fr' fl' b20 b21 b22 b23 b24 b25 b26 b27 hE => nm_r (e' := nI 1) (by decide) (br_t (by decide) (H fp' ft' fr' fl' b20 b21 b22 b23 b24 b25 b26 b27 hE)))⟩⟩⟩
theorem qn_16 {post : St2 → Prop} (h1 : ∀ j, j < 4 → a1 j = nI 1) (H : ∀ b18 b19 : Nat → Int32, (∀ j, j < 4 → b18 j = nI 0) → (∀ j, j < 4 → b19 j = nI 1) → ∃ n, wX_run_48 post n 0 fc fg fe fp ft fr fl a1 a2 a3 a4 a5 a6 a7 a8 a9 a10 a11 a12 a13 a14 a15 a16 a17 b18 b19 a20 a21 a22 a23 a24 a25 a26 a27) : ∃ n, wX_run_16 post fc fg fe fp ft fr fl n 0 a1 a2 a3 a4 a5 a6 a7 a8 a9 a10 a11 a12 a13 a14 a15 a16 a17 a18 a19 a20 a21 a22 a23 a24 a25 a26 a27 :=
  pk_loop (fun n i (s : (Nat → Int32) × (Nat → Int32)) => wX_run_16 post fc fg fe fp ft fr fl n (nI i) a1 a2 a3 a4 a5 a6 a7 a8 a9 a10 a11 a12 a13 a14 a15 a16 a17 s.1 s.2 a20 a21 a22 a23 a24 a25 a26 a27) (fun i s => (∀ j, j < i → s.1 j = nI 0) ∧ (∀ j, j < i → s.2 j = nI 1)) 4 0 (a18, a19) (by omega) ⟨lt_0, lt_0⟩
    (fun n s h => br_t (by decide) (H s.1 s.2 h.1 h.2))
    (fun n i s hi h hw => br_f (nI_ge (b := 4) hi (by decide)) ⟨pk_in i 4 hi, nm_r (e' := upd s.1 i (nI 0)) (qn_up i rfl (by omega) rfl) ⟨pk_in i 4 hi, pk_in i 4 hi, nm_r (e' := upd s.2 i (nI 1)) (qn_up i rfl (by omega) (by rw [qn_rd i rfl (by omega) (h1 i hi)]; exact qn_nb1)) (nm_r (nI_1 i) (hw (upd s.1 i (nI 0), upd s.2 i (nI 1)) ⟨qn_fill h.1, qn_fill h.2⟩))⟩⟩)
/-- what the object holds: k = 0 no customer, 1 a customer without a visit, 2 with one visit -/
def qn_D (k t s d : Nat) (fc : Int32) (a1 a3 a4 a5 a6 : Nat → Int32) : Prop := t ≤ 100 ∧ s < 4 ∧ d ≤ 30 ∧ (∀ j, j < 4 → a1 j = nI 1) ∧ ((k = 0 ∧ fc = nI 0) ∨ (k = 1 ∧ fc = nI 1 ∧ a3 0 = nI t ∧ a4 0 = nI 0) ∨ (k = 2 ∧ fc = nI 1 ∧ a3 0 = nI t ∧ a4 0 = nI 1 ∧ a5 0 = nI s ∧ a6 0 = nI d))
/-- what a run leaves -/
def qn_Z (k t s d : Nat) (fg : Int32) (a7 a9 a13 a14 a15 : Nat → Int32) : Prop := (k = 0 → fg = nI 0) ∧ (k = 1 → fg = nI 0 ∧ a9 0 = nI t) ∧ (k = 2 → fg = nI 3 ∧ a7 0 = nI t ∧ a9 0 = nI (t + d) ∧ (a13 0 = nI t ∧ a13 1 = nI t ∧ a13 2 = nI (t + d)) ∧ (a14 0 = nI s ∧ a14 1 = nI s ∧ a14 2 = nI s) ∧ (a15 0 = nI 1 ∧ a15 1 = nI 0 ∧ a15 2 = -1))
theorem qn_run {post : St2 → Prop} {x : Int32} {e k t s d : Nat} (hx : x = nI e) (he : e < 4) (hD : qn_D k t s d fc a1 a3 a4 a5 a6)
    (H : ∀ (fg' fe' fp' ft' fr' fl' : Int32) (b7 b8 b9 b13 b14 b15 b16 b17 b18 b19 b20 b21 b22 b23 b24 b25 b26 b27 : Nat → Int32), qn_Z k t s d fg' b7 b9 b13 b14 b15 → post (fc, fg', fe', fp', ft', fr', fl', a1, a2, a3, a4, a5, a6, b7, b8, b9, a10, a11, a12, b13, b14, b15, b16, b17, b18, b19, b20, b21, b22, b23, b24, b25, b26, b27)) : wpX_run post (fc, fg, fe, fp, ft, fr, fl, a1, a2, a3, a4, a5, a6, a7, a8, a9, a10, a11, a12, a13, a14, a15, a16, a17, a18, a19, a20, a21, a22, a23, a24, a25, a26, a27) x := by
  subst hx
  obtain ⟨ht, hs, hd, h1, hk⟩ := hD
  unfold wpX_run
  rcases hk with ⟨rfl, rfl⟩ | ⟨rfl, rfl, h3, h4⟩ | ⟨rfl, rfl, h3, h4, h5, h6⟩
  · exact qn_startQueue (fun b21 b27 h21 h27 => qn_16 h1 (fun b18 b19 h18 h19 => ⟨1, br_t (by decide) ⟨1, br_t (by decide) (H _ _ _ _ _ _ _ _ _ _ _ _ _ _ _ _ _ _ _ _ _ _ _ _ ⟨fun _ => rfl, fun z => absurd z (by decide), fun z => absurd z (by decide)⟩)⟩⟩))
  · exact qn_startQueue (fun b21 b27 h21 h27 => qn_16 h1 (fun b18 b19 h18 h19 => qn_48 he ht ⟨rfl, fun _ => ⟨⟨0, by omega, rfl⟩, h21⟩, fun _ => rfl, fun _ => ⟨⟨0, by omega, rfl⟩, h27⟩⟩ h3 (fun fp1 ft1 fr1 fl1 c20 c21 c22 c23 c24 c25 c26 c27 hE => ⟨2, br_f (by rw [hE.1]; decide) (qn_nextTime he (by omega) (show (32 * t + 16) / 32 = t by omega) hE (qn_turnOut he ht hE pk_us h4 h18 (fun fp2 ft2 fr2 fl2 d20 d21 d22 d23 d24 d25 d26 d27 hE0 => br_t (by rw [hE0.1]; decide) (H _ _ _ _ _ _ _ _ _ _ _ _ _ _ _ _ _ _ _ _ _ _ _ _ ⟨fun z => absurd z (by decide), fun _ => ⟨rfl, pk_us⟩, fun z => absurd z (by decide)⟩))))⟩)))
  · exact qn_startQueue (fun b21 b27 h21 h27 => qn_16 h1 (fun b18 b19 h18 h19 => qn_48 he ht ⟨rfl, fun _ => ⟨⟨0, by omega, rfl⟩, h21⟩, fun _ => rfl, fun _ => ⟨⟨0, by omega, rfl⟩, h27⟩⟩ h3 (fun fp1 ft1 fr1 fl1 c20 c21 c22 c23 c24 c25 c26 c27 hE => ⟨3, br_f (by rw [hE.1]; decide) (qn_nextTime he (by omega) (show (32 * t + 16) / 32 = t by omega) hE (qn_turnIn he hs ht hd hE pk_us h4 h5 h6 h18 h19 (fun fp2 ft2 fr2 fl2 d20 d21 d22 d23 d24 d25 d26 d27 hE1 => br_f (by rw [hE1.1]; decide) (qn_nextTime he (by omega) (show (32 * (t + d)) / 32 = t + d by omega) hE1 (qn_turnEnd he hs ht hd hE1 pk_us h4 h5 (fun j hj => by
      by_cases ej : j = s
      · rw [ej, pk_us]
      · rw [pk_un ej, pk_un ej]
        exact h18 j hj) pk_us (fun fp3 ft3 fr3 fl3 e20 e21 e22 e23 e24 e25 e26 e27 hE0 => br_t (by rw [hE0.1]; decide) (H _ _ _ _ _ _ _ _ _ _ _ _ _ _ _ _ _ _ _ _ _ _ _ _ ⟨fun z => absurd z (by decide), fun z => absurd z (by decide), fun _ => ⟨rfl, pk_us, pk_us, ⟨rfl, rfl, rfl⟩, ⟨rfl, rfl, rfl⟩, ⟨rfl, rfl, rfl⟩⟩⟩)))))))⟩)))
end
end
section
section
variable {fc fg fe fp ft fr fl : Int32} { a1 a2 a3 a4 a5 a6 a7 a8 a9 a10 a11 a12 a13 a14 a15 a16 a17 a18 a19 a20 a21 a22 a23 a24 a25 a26 a27 : Nat → Int32}
theorem qn_init {post : St2 → Prop} (H : ∀ b1 : Nat → Int32, (∀ j, j < 4 → b1 j = nI 1) → post (0, 0, 0, 0, 0, 0, 0, b1, (fun _ => 0), (fun _ => 0), (fun _ => 0), (fun _ => 0), (fun _ => 0), (fun _ => 0), (fun _ => 0), (fun _ => 0), (fun _ => 0), (fun _ => 0), (fun _ => 0), (fun _ => 0), (fun _ => 0), (fun _ => 0), (fun _ => 0), (fun _ => 0), (fun _ => 0), (fun _ => 0), (fun _ => 0), (fun _ => 0), (fun _ => 0), (fun _ => 0), (fun _ => 0), (fun _ => 0), (fun _ => 0), (fun _ => 0))) : wpX_init post 27 1120 (0, 0, 0, 0, 0, 0, 0) :=
  ⟨by decide, by decide, by decide, by decide, by decide, by decide, by decide, by decide, by decide, by decide, by decide, by decide, by decide, by decide, by decide, by decide, by decide, by decide, by decide, by decide, by decide, by decide, by decide, by decide, by decide, by decide, by decide, by decide, by decide, by decide, by decide, by decide, by decide, by decide, by decide, by decide, by decide, by decide, by decide, by decide, by decide, by decide, by decide, by decide, by decide, by decide, by decide, by decide, by decide, by decide, by decide, by decide, by decide, by decide, pk_loop (fun n i s => wX_init_222 post 27 1120 27 1120 0 0 0 0 0 0 0 n (nI i) s (fun _ => 0) (fun _ => 0) (fun _ => 0) (fun _ => 0) (fun _ => 0) (fun _ => 0) (fun _ => 0) (fun _ => 0) (fun _ => 0) (fun _ => 0) (fun _ => 0) (fun _ => 0) (fun _ => 0) (fun _ => 0) (fun _ => 0) (fun _ => 0) (fun _ => 0) (fun _ => 0) (fun _ => 0) (fun _ => 0) (fun _ => 0) (fun _ => 0) (fun _ => 0) (fun _ => 0) (fun _ => 0) (fun _ => 0)) (fun i s => ∀ j, j < i → s j = nI 1) 4 0 (fun _ => 0) (by omega) lt_0
    (fun n s h => br_t (by decide) (H s h))
    (fun n i s hi h hw => br_f (nI_ge (b := 4) hi (by decide)) ⟨pk_in i 4 hi, nm_r (e' := upd s i (nI 1)) (qn_up i rfl (by omega) rfl) (nm_r (nI_1 i) (hw _ (qn_fill h)))⟩)⟩
theorem qn_arriveG {post : Int32 → St2 → Prop} {t : Nat} (ht : t ≤ 100) (H : post (nI 0) (nI 1, fg, fe, fp, ft, fr, fl, a1, a2, upd a3 0 (nI t), upd a4 0 (nI 0), a5, a6, a7, a8, a9, a10, a11, a12, a13, a14, a15, a16, a17, a18, a19, a20, a21, a22, a23, a24, a25, a26, a27)) : wpX_arrive post (nI 0, fg, fe, fp, ft, fr, fl, a1, a2, a3, a4, a5, a6, a7, a8, a9, a10, a11, a12, a13, a14, a15, a16, a17, a18, a19, a20, a21, a22, a23, a24, a25, a26, a27) (nI t) :=
  br_f (nI_pos (by omega)) (br_t (nI_le (b := 100) ht (by omega)) (br_t (by decide) ⟨pk_in 0 12 (by omega), nm_r (qn_up 0 rfl (by omega) (qn_b8 t (by omega))) ⟨pk_in 0 12 (by omega), nm_r (e' := upd a4 0 (nI 0)) (qn_up 0 rfl (by omega) rfl) (nm_r (nI_1 0) (qn_p2 (nI_pred 0) H))⟩⟩))
theorem qn_arriveB {post : Int32 → St2 → Prop} {x : Int32} (hx : x < 0 ∨ 100 < x) (H : post (-1) (fc, fg, fe, fp, ft, fr, fl, a1, a2, a3, a4, a5, a6, a7, a8, a9, a10, a11, a12, a13, a14, a15, a16, a17, a18, a19, a20, a21, a22, a23, a24, a25, a26, a27)) : wpX_arrive post (fc, fg, fe, fp, ft, fr, fl, a1, a2, a3, a4, a5, a6, a7, a8, a9, a10, a11, a12, a13, a14, a15, a16, a17, a18, a19, a20, a21, a22, a23, a24, a25, a26, a27) x :=
  br_c (fun _ => H) (fun h => br_f (fun z => by
    rcases hx with hx | hx
    · exact h hx
    · exact Int32.not_le.mpr hx z) H)
theorem qn_visitV {post : Int32 → St2 → Prop} {s d : Nat} (hs : s < 4) (h1 : 1 ≤ d) (hd : d ≤ 30) (h4 : a4 0 = nI 0) (H : post (nI 1) (nI 1, fg, fe, fp, ft, fr, fl, a1, a2, a3, upd a4 0 (nI 1), upd a5 0 (nI s), upd a6 0 (nI d), a7, a8, a9, a10, a11, a12, a13, a14, a15, a16, a17, a18, a19, a20, a21, a22, a23, a24, a25, a26, a27)) : wpX_visit post (nI 1, fg, fe, fp, ft, fr, fl, a1, a2, a3, a4, a5, a6, a7, a8, a9, a10, a11, a12, a13, a14, a15, a16, a17, a18, a19, a20, a21, a22, a23, a24, a25, a26, a27) 0 (nI s) (nI d) :=
  br_f (by decide) (br_f (by decide) (br_f (by decide) (br_f (nI_pos (by omega)) (br_f (nI_ge (b := 4) hs (by decide)) (br_f (by decide) (br_f (nI_nlt (b := 1) h1 (by omega)) (br_t (nI_le (b := 30) hd (by omega)) ⟨pk_in 0 12 (by omega), br_t (by rw [qn_rd (x := 0) 0 rfl (by omega) h4]; decide) ⟨pk_in 0 12 (by omega), nm_r (e' := nI 0) (by rw [qn_rd (x := 0) 0 rfl (by omega) h4]; decide) ⟨pk_in 0 48 (by omega), nm_r (qn_up 0 rfl (by omega) (qn_b8 s (by omega))) ⟨pk_in 0 48 (by omega), nm_r (qn_up 0 rfl (by omega) (qn_b8 d (by omega))) ⟨pk_in 0 12 (by omega), pk_in 0 12 (by omega), nm_r (e' := upd a4 0 (nI 1)) (qn_up 0 rfl (by omega) (by rw [qn_rd (x := 0) 0 rfl (by omega) h4]; decide)) ⟨pk_in 0 12 (by omega), qn_p2 (qn_rd 0 rfl (by omega) pk_us) H⟩⟩⟩⟩⟩⟩)))))))
theorem qn_visit0 {post : Int32 → St2 → Prop} {x y : Int32} (H : post (-1) (nI 0, fg, fe, fp, ft, fr, fl, a1, a2, a3, a4, a5, a6, a7, a8, a9, a10, a11, a12, a13, a14, a15, a16, a17, a18, a19, a20, a21, a22, a23, a24, a25, a26, a27)) : wpX_visit post (nI 0, fg, fe, fp, ft, fr, fl, a1, a2, a3, a4, a5, a6, a7, a8, a9, a10, a11, a12, a13, a14, a15, a16, a17, a18, a19, a20, a21, a22, a23, a24, a25, a26, a27) 0 x y :=
  br_f (by decide) (br_t (by decide) (br_t rfl H))
theorem qn_34 {x : Int32} : 3 < x ↔ 4 ≤ x := by
  have e3 : (3 : Int32).toInt = 3 := by decide
  have e4 : (4 : Int32).toInt = 4 := by decide
  rw [Int32.lt_iff_toInt_lt, Int32.le_iff_toInt_le, e3, e4]
  omega
theorem qn_visitB {post : Int32 → St2 → Prop} {x y : Int32} (h : x < 0 ∨ 3 < x ∨ y < 1 ∨ 30 < y) (H : post (-1) (nI 1, fg, fe, fp, ft, fr, fl, a1, a2, a3, a4, a5, a6, a7, a8, a9, a10, a11, a12, a13, a14, a15, a16, a17, a18, a19, a20, a21, a22, a23, a24, a25, a26, a27)) : wpX_visit post (nI 1, fg, fe, fp, ft, fr, fl, a1, a2, a3, a4, a5, a6, a7, a8, a9, a10, a11, a12, a13, a14, a15, a16, a17, a18, a19, a20, a21, a22, a23, a24, a25, a26, a27) 0 x y :=
  br_f (by decide) (br_f (by decide) (br_f (by decide) (br_c (fun _ => br_t rfl H) (fun h1 => br_c (fun _ => br_t rfl H) (fun h2 => br_f (by decide) (br_c (fun _ => H) (fun h3 => br_f (fun z => by
    rcases h with h | h | h | h
    · exact h1 h
    · exact h2 (qn_34.mp h)
    · exact h3 h
    · exact Int32.not_le.mpr h z) H)))))))
theorem qn_joins {post : Int32 → St2 → Prop} {k t s d : Nat} {v : Int32} (hv : v = if k = 2 then nI t else -1) (hD : qn_D k t s d fc a1 a3 a4 a5 a6)
    (H : ∀ (fg' fe' fp' ft' fr' fl' : Int32) (b7 b8 b9 b13 b14 b15 b16 b17 b18 b19 b20 b21 b22 b23 b24 b25 b26 b27 : Nat → Int32), post v (fc, fg', fe', fp', ft', fr', fl', a1, a2, a3, a4, a5, a6, b7, b8, b9, a10, a11, a12, b13, b14, b15, b16, b17, b18, b19, b20, b21, b22, b23, b24, b25, b26, b27)) : wpX_joins post (fc, fg, fe, fp, ft, fr, fl, a1, a2, a3, a4, a5, a6, a7, a8, a9, a10, a11, a12, a13, a14, a15, a16, a17, a18, a19, a20, a21, a22, a23, a24, a25, a26, a27) 0 0 := by
  have hD' := hD
  obtain ⟨ht, hs, hd, h1, hk⟩ := hD
  rcases hk with ⟨rfl, rfl⟩ | ⟨rfl, rfl, h3, h4⟩ | ⟨rfl, rfl, h3, h4, h5, h6⟩
  · subst hv
    exact br_f (by decide) (br_t (by decide) (br_t rfl (br_t rfl (H _ _ _ _ _ _ _ _ _ _ _ _ _ _ _ _ _ _ _ _ _ _ _ _))))
  · subst hv
    exact br_f (by decide) (br_f (by decide) (br_f (by decide) (br_f (by decide) ⟨pk_in 0 12 (by omega), br_t (by rw [qn_rd (x := 0) 0 rfl (by omega) h4]; decide) (br_t rfl (H _ _ _ _ _ _ _ _ _ _ _ _ _ _ _ _ _ _ _ _ _ _ _ _))⟩)))
  · subst hv
    exact br_f (by decide) (br_f (by decide) (br_f (by decide) (br_f (by decide) ⟨pk_in 0 12 (by omega), br_f (by rw [qn_rd (x := 0) 0 rfl (by omega) h4]; decide) (br_f (by decide) (qn_run (e := 1) rfl (by omega) hD' (fun fg' fe' fp' ft' fr' fl' b7 b8 b9 b13 b14 b15 b16 b17 b18 b19 b20 b21 b22 b23 b24 b25 b26 b27 hZ => ⟨pk_in 0 48 (by omega), qn_p2 (qn_rd 0 rfl (by omega) (hZ.2.2 rfl).2.1) (H _ _ _ _ _ _ _ _ _ _ _ _ _ _ _ _ _ _ _ _ _ _ _ _)⟩)))⟩)))
/-- what leaves answers -/
def qn_LV (k t d : Nat) (x r : Int32) : Prop := ((k = 0 ∨ x < 0 ∨ 3 < x) → r = -1) ∧ (¬ (k = 0 ∨ x < 0 ∨ 3 < x) → r = nI (if k = 2 then t + d else t))
theorem qn_leaves {post : Int32 → St2 → Prop} {k t s d : Nat} {x : Int32} (hD : qn_D k t s d fc a1 a3 a4 a5 a6)
    (H : ∀ (r fg' fe' fp' ft' fr' fl' : Int32) (b7 b8 b9 b13 b14 b15 b16 b17 b18 b19 b20 b21 b22 b23 b24 b25 b26 b27 : Nat → Int32), qn_LV k t d x r → post r (fc, fg', fe', fp', ft', fr', fl', a1, a2, a3, a4, a5, a6, b7, b8, b9, a10, a11, a12, b13, b14, b15, b16, b17, b18, b19, b20, b21, b22, b23, b24, b25, b26, b27)) : wpX_leaves post (fc, fg, fe, fp, ft, fr, fl, a1, a2, a3, a4, a5, a6, a7, a8, a9, a10, a11, a12, a13, a14, a15, a16, a17, a18, a19, a20, a21, a22, a23, a24, a25, a26, a27) x 0 := by
  refine br_c (fun h => br_t rfl (H _ _ _ _ _ _ _ _ _ _ _ _ _ _ _ _ _ _ _ _ _ _ _ _ _ ⟨fun _ => rfl, fun z => absurd (Or.inr (Or.inl h)) z⟩)) (fun h1 => br_c (fun h => br_t rfl (H _ _ _ _ _ _ _ _ _ _ _ _ _ _ _ _ _ _ _ _ _ _ _ _ _ ⟨fun _ => rfl, fun z => absurd (Or.inr (Or.inr (qn_34.mpr h))) z⟩)) (fun h2 => br_f (by decide) ?_))
  have h2' : ¬ 3 < x := fun z => h2 (qn_34.mp z)
  have hx : ∃ e, e < 4 ∧ x = nI e := by
    obtain ⟨j, hj, ej⟩ := nI_of h1
    subst ej
    refine ⟨j, ?_, rfl⟩
    rcases Nat.lt_or_ge j 4 with z | z
    · exact z
    · exact absurd (nI_le (a := 4) z hj) h2
  obtain ⟨e, he, hx⟩ := hx
  have hD' := hD
  obtain ⟨ht, hs, hd, hh, hk⟩ := hD
  rcases hk with ⟨rfl, rfl⟩ | ⟨rfl, rfl, h3, h4⟩ | ⟨rfl, rfl, h3, h4, h5, h6⟩
  · exact br_f (by decide) (br_t (by decide) (br_t rfl (H _ _ _ _ _ _ _ _ _ _ _ _ _ _ _ _ _ _ _ _ _ _ _ _ _ ⟨fun _ => rfl, fun z => absurd (Or.inl rfl) z⟩)))
  · exact br_f (by decide) (br_f (by decide) (br_f (by decide) (qn_run hx he hD' (fun fg' fe' fp' ft' fr' fl' b7 b8 b9 b13 b14 b15 b16 b17 b18 b19 b20 b21 b22 b23 b24 b25 b26 b27 hZ => ⟨pk_in 0 12 (by omega), qn_p2 (qn_rd 0 rfl (by omega) (hZ.2.1 rfl).2) (H _ _ _ _ _ _ _ _ _ _ _ _ _ _ _ _ _ _ _ _ _ _ _ _ _ ⟨fun z => by
      rcases z with z | z | z
      · exact absurd z (by decide)
      · exact absurd z h1
      · exact absurd z h2', fun _ => rfl⟩)⟩))))
  · exact br_f (by decide) (br_f (by decide) (br_f (by decide) (qn_run hx he hD' (fun fg' fe' fp' ft' fr' fl' b7 b8 b9 b13 b14 b15 b16 b17 b18 b19 b20 b21 b22 b23 b24 b25 b26 b27 hZ => ⟨pk_in 0 12 (by omega), qn_p2 (qn_rd 0 rfl (by omega) (hZ.2.2 rfl).2.2.1) (H _ _ _ _ _ _ _ _ _ _ _ _ _ _ _ _ _ _ _ _ _ _ _ _ _ ⟨fun z => by
      rcases z with z | z | z
      · exact absurd z (by decide)
      · exact absurd z h1
      · exact absurd z h2', fun _ => rfl⟩)⟩))))
end
end
section
section
variable {fc fg fe fp ft fr fl : Int32} { a1 a2 a3 a4 a5 a6 a7 a8 a9 a10 a11 a12 a13 a14 a15 a16 a17 a18 a19 a20 a21 a22 a23 a24 a25 a26 a27 : Nat → Int32}
def qn_is (u y : Int32) : Prop := ¬ u < 0 ∧ ¬ 3 < u ∧ ¬ y < 0 ∧ ¬ 10000 < y
def qn_mine (k t s : Nat) (u y : Int32) : Prop := k = 2 ∧ u = nI s ∧ ¬ y < nI t
/-- what at answers -/
def qn_AT (k t s d : Nat) (u y r : Int32) : Prop := (¬ qn_is u y → r = -1) ∧ (qn_is u y → ¬ qn_mine k t s u y → r = 0) ∧ (qn_is u y → qn_mine k t s u y → (nI (t + d) ≤ y → r = 0) ∧ (¬ nI (t + d) ≤ y → r = 1))
/-- what area answers -/
def qn_AR (k t s d : Nat) (u y r : Int32) : Prop := (¬ qn_is u y → r = -1) ∧ (qn_is u y → ¬ qn_mine k t s u y → r = 0) ∧ (qn_is u y → qn_mine k t s u y → (nI (t + d) ≤ y → r = nI d) ∧ (¬ nI (t + d) ≤ y → r = y - nI t))
/-! one change in sumUpTo -/
theorem qn_sumGo {post : Int32 → Prop} {n i : Nat} {u y v z w w' c : Int32} (hi : i < 3) (h13 : a13 i = w) (h14 : a14 i = c) (h15 : a15 i = z) (hy : ¬ y < w) (h : (c = u → v + z = w') ∧ (¬ c = u → v + 0 = w')) (H : wX_sumUpTo_6 post u y 0 fc (nI 3) fe fp ft fr fl a1 a2 a3 a4 a5 a6 a7 a8 a9 a10 a11 a12 a13 a14 a15 a16 a17 a18 a19 a20 a21 a22 a23 a24 a25 a26 a27 n w' (nI (i + 1))) : wX_sumUpTo_6 post u y 0 fc (nI 3) fe fp ft fr fl a1 a2 a3 a4 a5 a6 a7 a8 a9 a10 a11 a12 a13 a14 a15 a16 a17 a18 a19 a20 a21 a22 a23 a24 a25 a26 a27 (n + 1) v (nI i) := by
  subst h13 h14 h15
  refine br_f (nI_ge hi (by omega)) ⟨pk_in i 160 (by omega), br_f (by rw [nI_clamp (by omega)]; exact hy) (br_t rfl ⟨pk_in i 160 (by omega), pk_in i 160 (by omega), br_c (fun g => nm_r (e' := w') ?_ (nm_r (nI_1 i) H)) (fun g => nm_r (e' := w') ?_ (nm_r (nI_1 i) H))⟩)⟩
  · rw [nI_clamp (by omega)] at g ⊢
    exact h.1 g
  · rw [nI_clamp (by omega)] at g
    exact h.2 g
theorem qn_sumStop {post : Int32 → Prop} {n i : Nat} {u y v w : Int32} (hi : i < 3) (h13 : a13 i = w) (hy : y < w) (H : post v) : wX_sumUpTo_6 post u y 0 fc (nI 3) fe fp ft fr fl a1 a2 a3 a4 a5 a6 a7 a8 a9 a10 a11 a12 a13 a14 a15 a16 a17 a18 a19 a20 a21 a22 a23 a24 a25 a26 a27 (n + 1) v (nI i) :=
  br_f (nI_ge hi (by omega)) ⟨pk_in i 160 (by omega), br_t (by rw [qn_rd i rfl (by omega) h13]; exact hy) H⟩
theorem qn_sum {post : Int32 → Prop} {k t s d : Nat} {u y : Int32} (hk : k ≤ 2) (hZ : qn_Z k t s d fg a7 a9 a13 a14 a15) (hI : qn_is u y) (H : ∀ r, qn_AT k t s d u y r → post r) : wpX_sumUpTo post (fc, fg, fe, fp, ft, fr, fl, a1, a2, a3, a4, a5, a6, a7, a8, a9, a10, a11, a12, a13, a14, a15, a16, a17, a18, a19, a20, a21, a22, a23, a24, a25, a26, a27) u y 0 := by
  obtain ⟨z0, z1, z2⟩ := hZ
  by_cases h2 : k = 2
  · subst h2
    obtain ⟨hg, h7, h9, ⟨p0, p1, p2⟩, ⟨q0, q1, q2⟩, r0, r1, r2⟩ := z2 rfl
    subst hg
    by_cases hy : y < nI t
    · exact ⟨1, qn_sumStop (i := 0) (by omega) p0 hy (H 0 ⟨fun z => absurd hI z, fun _ _ => rfl, fun _ m => absurd hy m.2.2⟩)⟩
    · by_cases hu : nI s = u
      · have hm : qn_mine 2 t s u y := ⟨rfl, hu.symm, hy⟩
        by_cases hz : nI (t + d) ≤ y
        · exact ⟨4, qn_sumGo (i := 0) (w' := 1) (by omega) p0 q0 r0 hy ⟨fun _ => by decide, fun g => absurd hu g⟩ (qn_sumGo (i := 1) (w' := 1) (by omega) p1 q1 r1 hy ⟨fun _ => by decide, fun g => absurd hu g⟩ (qn_sumGo (i := 2) (w' := 0) (by omega) p2 q2 r2 (Int32.not_lt.mpr hz) ⟨fun _ => by decide, fun g => absurd hu g⟩ (br_t (by decide) (H 0 ⟨fun z => absurd hI z, fun _ n => absurd hm n, fun _ _ => ⟨fun _ => rfl, fun z => absurd hz z⟩⟩))))⟩
        · exact ⟨3, qn_sumGo (i := 0) (w' := 1) (by omega) p0 q0 r0 hy ⟨fun _ => by decide, fun g => absurd hu g⟩ (qn_sumGo (i := 1) (w' := 1) (by omega) p1 q1 r1 hy ⟨fun _ => by decide, fun g => absurd hu g⟩ (qn_sumStop (i := 2) (by omega) p2 (Int32.not_le.mp hz) (H 1 ⟨fun z => absurd hI z, fun _ n => absurd hm n, fun _ _ => ⟨fun z => absurd z hz, fun _ => rfl⟩⟩)))⟩
      · have hm : ¬ qn_mine 2 t s u y := fun m => hu m.2.1.symm
        have HA : post 0 := H 0 ⟨fun z => absurd hI z, fun _ _ => rfl, fun _ m => absurd m hm⟩
        by_cases hz : nI (t + d) ≤ y
        · exact ⟨4, qn_sumGo (i := 0) (w' := 0) (by omega) p0 q0 r0 hy ⟨fun g => absurd g hu, fun _ => by decide⟩ (qn_sumGo (i := 1) (w' := 0) (by omega) p1 q1 r1 hy ⟨fun g => absurd g hu, fun _ => by decide⟩ (qn_sumGo (i := 2) (w' := 0) (by omega) p2 q2 r2 (Int32.not_lt.mpr hz) ⟨fun g => absurd g hu, fun _ => by decide⟩ (br_t (by decide) HA)))⟩
        · exact ⟨3, qn_sumGo (i := 0) (w' := 0) (by omega) p0 q0 r0 hy ⟨fun g => absurd g hu, fun _ => by decide⟩ (qn_sumGo (i := 1) (w' := 0) (by omega) p1 q1 r1 hy ⟨fun g => absurd g hu, fun _ => by decide⟩ (qn_sumStop (i := 2) (by omega) p2 (Int32.not_le.mp hz) HA))⟩
  · have hg : fg = nI 0 := by
      have hc : k = 0 ∨ k = 1 := by omega
      rcases hc with hc | hc
      · exact z0 hc
      · exact (z1 hc).1
    subst hg
    exact ⟨1, br_t (by decide) (H 0 ⟨fun z => absurd hI z, fun _ _ => rfl, fun _ m => absurd m.1 h2⟩)⟩
theorem qn_kle {k t s d : Nat} (hD : qn_D k t s d fc a1 a3 a4 a5 a6) : k ≤ 2 := by
  obtain ⟨_, _, _, _, hk⟩ := hD
  rcases hk with ⟨h, _⟩ | ⟨h, _⟩ | ⟨h, _⟩ <;> omega
theorem qn_at {post : Int32 → St2 → Prop} {k t s d : Nat} {u y : Int32} (hD : qn_D k t s d fc a1 a3 a4 a5 a6)
    (H : ∀ (r fg' fe' fp' ft' fr' fl' : Int32) (b7 b8 b9 b13 b14 b15 b16 b17 b18 b19 b20 b21 b22 b23 b24 b25 b26 b27 : Nat → Int32), qn_AT k t s d u y r → post r (fc, fg', fe', fp', ft', fr', fl', a1, a2, a3, a4, a5, a6, b7, b8, b9, a10, a11, a12, b13, b14, b15, b16, b17, b18, b19, b20, b21, b22, b23, b24, b25, b26, b27)) : wpX_at post (fc, fg, fe, fp, ft, fr, fl, a1, a2, a3, a4, a5, a6, a7, a8, a9, a10, a11, a12, a13, a14, a15, a16, a17, a18, a19, a20, a21, a22, a23, a24, a25, a26, a27) u y :=
  have bad : ¬ qn_is u y → qn_AT k t s d u y (-1) := fun h => ⟨fun _ => rfl, fun z => absurd z h, fun z => absurd z h⟩
  br_c (fun h => br_t rfl (H _ _ _ _ _ _ _ _ _ _ _ _ _ _ _ _ _ _ _ _ _ _ _ _ _ (bad (fun z => z.1 h)))) (fun h1 => br_c (fun h => br_t rfl (H _ _ _ _ _ _ _ _ _ _ _ _ _ _ _ _ _ _ _ _ _ _ _ _ _ (bad (fun z => z.2.1 (qn_34.mpr h))))) (fun h2 => br_f (by decide) (br_c (fun h => br_t rfl (H _ _ _ _ _ _ _ _ _ _ _ _ _ _ _ _ _ _ _ _ _ _ _ _ _ (bad (fun z => z.2.2.1 h)))) (fun h3 => br_c (fun h => br_t rfl (H _ _ _ _ _ _ _ _ _ _ _ _ _ _ _ _ _ _ _ _ _ _ _ _ _ (bad (fun z => z.2.2.2 h)))) (fun h4 => br_f (by decide) (qn_run (e := 2) rfl (by omega) hD (fun fg' fe' fp' ft' fr' fl' b7 b8 b9 b13 b14 b15 b16 b17 b18 b19 b20 b21 b22 b23 b24 b25 b26 b27 hZ => qn_sum (qn_kle hD) hZ ⟨h1, fun z => h2 (qn_34.mp z), h3, h4⟩ (fun r hr => H r fg' fe' fp' ft' fr' fl' b7 b8 b9 b13 b14 b15 b16 b17 b18 b19 b20 b21 b22 b23 b24 b25 b26 b27 hr))))))))
/-! one change in area -/
theorem qn_areaSkip {post : Int32 → St2 → Prop} {n i : Nat} {u y x3 x4 x5 c : Int32} (hi : i < 3) (h14 : a14 i = c) (hu : ¬ c = u) (H : wX_area_32 post u y fc (nI 3) fe fp ft fr fl a1 a2 a3 a4 a5 a6 a7 a8 a9 a10 a11 a12 a13 a14 a15 a16 a17 a18 a19 a20 a21 a22 a23 a24 a25 a26 a27 n x3 x4 x5 (nI (i + 1))) : wX_area_32 post u y fc (nI 3) fe fp ft fr fl a1 a2 a3 a4 a5 a6 a7 a8 a9 a10 a11 a12 a13 a14 a15 a16 a17 a18 a19 a20 a21 a22 a23 a24 a25 a26 a27 (n + 1) x3 x4 x5 (nI i) :=
  br_f (nI_ge hi (by omega)) ⟨pk_in i 160 (by omega), br_f (by rw [qn_rd i rfl (by omega) h14]; exact hu) (nm_r (nI_1 i) H)⟩
theorem qn_areaGo {post : Int32 → St2 → Prop} {n i w m : Nat} {q : Nat} {u x3 x4 x5 x3' x4' c z : Int32} (hi : i < 3) (hw : w < 1000) (hq : q ≤ 10000) (h13 : a13 i = nI w) (h14 : a14 i = c) (h15 : a15 i = z) (hu : c = u) (hm : min q w = m) (e3 : x3 + x4 * (nI m - x5) = x3') (e4 : x4 + z = x4') (H : wX_area_32 post u (nI q) fc (nI 3) fe fp ft fr fl a1 a2 a3 a4 a5 a6 a7 a8 a9 a10 a11 a12 a13 a14 a15 a16 a17 a18 a19 a20 a21 a22 a23 a24 a25 a26 a27 n x3' x4' (nI m) (nI (i + 1))) : wX_area_32 post u (nI q) fc (nI 3) fe fp ft fr fl a1 a2 a3 a4 a5 a6 a7 a8 a9 a10 a11 a12 a13 a14 a15 a16 a17 a18 a19 a20 a21 a22 a23 a24 a25 a26 a27 (n + 1) x3 x4 x5 (nI i) := by
  refine br_f (nI_ge hi (by omega)) ⟨pk_in i 160 (by omega), br_t (by rw [qn_rd i rfl (by omega) h14]; exact hu) ⟨pk_in i 160 (by omega), ?_⟩⟩
  refine pk_le q w (fun g => ?_) (fun g => ⟨pk_in i 160 (by omega), ?_⟩) rfl (qn_rd i rfl (by omega) h13)
  · have hm' : m = q := by omega
    subst hm'
    exact nm_r e3 ⟨pk_in i 160 (by omega), nm_r (by rw [qn_rd i rfl (by omega) h15]; exact e4) (nm_r (nI_1 i) H)⟩
  · have hm' : m = w := by omega
    subst hm'
    rw [qn_rd i rfl (by omega) h13]
    exact nm_r e3 ⟨pk_in i 160 (by omega), nm_r (by rw [qn_rd i rfl (by omega) h15]; exact e4) (nm_r (nI_1 i) H)⟩
theorem qn_area32 {post : Int32 → St2 → Prop} {k t s d : Nat} {u y : Int32} (hk : k ≤ 2) (ht : t ≤ 100) (hd : d ≤ 30) (hZ : qn_Z k t s d fg a7 a9 a13 a14 a15) (hI : qn_is u y) (H : ∀ r, qn_AR k t s d u y r → post r (fc, fg, fe, fp, ft, fr, fl, a1, a2, a3, a4, a5, a6, a7, a8, a9, a10, a11, a12, a13, a14, a15, a16, a17, a18, a19, a20, a21, a22, a23, a24, a25, a26, a27)) : ∃ n, wX_area_32 post u y fc fg fe fp ft fr fl a1 a2 a3 a4 a5 a6 a7 a8 a9 a10 a11 a12 a13 a14 a15 a16 a17 a18 a19 a20 a21 a22 a23 a24 a25 a26 a27 n 0 0 0 0 := by
  obtain ⟨z0, z1, z2⟩ := hZ
  by_cases h2 : k = 2
  · subst h2
    obtain ⟨hg, h7, h9, ⟨p0, p1, p2⟩, ⟨q0, q1, q2⟩, r0, r1, r2⟩ := z2 rfl
    subst hg
    by_cases hu : nI s = u
    · obtain ⟨q, hq, hy⟩ := nI_of2 (M := 10000) (n := 10000) (by decide) hI.2.2.1 (Int32.not_lt.mp hI.2.2.2)
      subst hy
      refine ⟨4, qn_areaGo (i := 0) (m := min q t) (x3' := 0) (x4' := 1) (by omega) (by omega) hq p0 q0 r0 hu rfl (by grind) (by decide) (qn_areaGo (i := 1) (m := min q t) (x3' := 0) (x4' := 1) (by omega) (by omega) hq p1 q1 r1 hu rfl (by grind) (by decide) (qn_areaGo (i := 2) (m := min q (t + d)) (x3' := nI (min q (t + d)) - nI (min q t)) (x4' := 0) (by omega) (by omega) hq p2 q2 r2 hu rfl (by grind) (by decide) (br_t (by decide) (qn_p2 (y := nI (min q (t + d)) - nI (min q t)) (by grind) (H _ ⟨fun z => absurd hI z, fun _ hm => ?_, fun _ hm => ⟨fun z => ?_, fun z => ?_⟩⟩)))))⟩
      · have hqt : q < t := by
          rcases Nat.lt_or_ge q t with z | z
          · exact z
          · exact absurd ⟨rfl, hu.symm, nI_nlt z (by omega)⟩ hm
        rw [show min q (t + d) = q by omega, show min q t = q by omega]
        grind
      · have hqt : t + d ≤ q := (nI_leI (by omega) (by omega)).mp z
        rw [show min q (t + d) = t + d by omega, show min q t = t by omega, pk_sub (by omega)]
        rw [show t + d - t = d by omega]
      · have hqt : t ≤ q := by
          rcases Nat.lt_or_ge q t with z | z
          · exact absurd (nI_lt z (by omega)) hm.2.2
          · exact z
        have hqd : q < t + d := by
          rcases Nat.lt_or_ge q (t + d) with g | g
          · exact g
          · exact absurd (nI_le g (by omega)) z
        rw [show min q (t + d) = q by omega, show min q t = t by omega]
    · have hm : ¬ qn_mine 2 t s u y := fun m => hu m.2.1.symm
      exact ⟨4, qn_areaSkip (i := 0) (by omega) q0 hu (qn_areaSkip (i := 1) (by omega) q1 hu (qn_areaSkip (i := 2) (by omega) q2 hu (br_t (by decide) (qn_p2 (y := 0) (by grind) (H 0 ⟨fun z => absurd hI z, fun _ _ => rfl, fun _ m => absurd m hm⟩)))))⟩
  · have hg : fg = nI 0 := by
      have hc : k = 0 ∨ k = 1 := by omega
      rcases hc with hc | hc
      · exact z0 hc
      · exact (z1 hc).1
    subst hg
    exact ⟨1, br_t (by decide) (qn_p2 (y := 0) (by grind) (H 0 ⟨fun z => absurd hI z, fun _ _ => rfl, fun _ m => absurd m.1 h2⟩))⟩
theorem qn_area {post : Int32 → St2 → Prop} {k t s d : Nat} {u y : Int32} (hD : qn_D k t s d fc a1 a3 a4 a5 a6)
    (H : ∀ (r fg' fe' fp' ft' fr' fl' : Int32) (b7 b8 b9 b13 b14 b15 b16 b17 b18 b19 b20 b21 b22 b23 b24 b25 b26 b27 : Nat → Int32), qn_AR k t s d u y r → post r (fc, fg', fe', fp', ft', fr', fl', a1, a2, a3, a4, a5, a6, b7, b8, b9, a10, a11, a12, b13, b14, b15, b16, b17, b18, b19, b20, b21, b22, b23, b24, b25, b26, b27)) : wpX_area post (fc, fg, fe, fp, ft, fr, fl, a1, a2, a3, a4, a5, a6, a7, a8, a9, a10, a11, a12, a13, a14, a15, a16, a17, a18, a19, a20, a21, a22, a23, a24, a25, a26, a27) u y :=
  have bad : ¬ qn_is u y → qn_AR k t s d u y (-1) := fun h => ⟨fun _ => rfl, fun z => absurd z h, fun z => absurd z h⟩
  br_c (fun h => br_t rfl (H _ _ _ _ _ _ _ _ _ _ _ _ _ _ _ _ _ _ _ _ _ _ _ _ _ (bad (fun z => z.1 h)))) (fun h1 => br_c (fun h => br_t rfl (H _ _ _ _ _ _ _ _ _ _ _ _ _ _ _ _ _ _ _ _ _ _ _ _ _ (bad (fun z => z.2.1 (qn_34.mpr h))))) (fun h2 => br_f (by decide) (br_c (fun h => br_t rfl (H _ _ _ _ _ _ _ _ _ _ _ _ _ _ _ _ _ _ _ _ _ _ _ _ _ (bad (fun z => z.2.2.1 h)))) (fun h3 => br_c (fun h => br_t rfl (H _ _ _ _ _ _ _ _ _ _ _ _ _ _ _ _ _ _ _ _ _ _ _ _ _ (bad (fun z => z.2.2.2 h)))) (fun h4 => br_f (by decide) (qn_run (e := 1) rfl (by omega) hD (fun fg' fe' fp' ft' fr' fl' b7 b8 b9 b13 b14 b15 b16 b17 b18 b19 b20 b21 b22 b23 b24 b25 b26 b27 hZ => qn_area32 (qn_kle hD) hD.1 hD.2.2.1 hZ ⟨h1, fun z => h2 (qn_34.mp z), h3, h4⟩ (fun r hr => H r fg' fe' fp' ft' fr' fl' b7 b8 b9 b13 b14 b15 b16 b17 b18 b19 b20 b21 b22 b23 b24 b25 b26 b27 hr))))))))
end
end
section
section
variable {post : Int32 → St0 → Prop} {mc ms kc ks : Nat} {x0 x1 x2 x3 x4 x5 x7 x8 x9 x10 x11 x12 x13 x14 x15 x16 x17 z0 z1 : Int32}
def qn_A4 (x16 x17 r a b : Int32) (P : Prop) : Prop := (x16 = 0 → r = -1) ∧ (¬ x16 = 0 → x17 = 0 → r = 0) ∧ (¬ x16 = 0 → ¬ x17 = 0 → P → r = a) ∧ (¬ x16 = 0 → ¬ x17 = 0 → ¬ P → r = b)
def qn_A3 (I M P : Prop) (r a b : Int32) : Prop := (¬ I → r = -1) ∧ (I → ¬ M → r = 0) ∧ (I → M → (P → r = a) ∧ (¬ P → r = b))
def qn_M (x0 x1 x4 x5 x14 : Int32) : Prop := ¬ x14 = 0 ∧ x4 = x1 ∧ ¬ x5 < x0
def qn_A10 (x3 x10 x13 x15 : Int32) : Prop := ((x13 = 0 ∨ x3 < 0 ∨ 3 < x3) → x10 = -1) ∧ (¬ (x13 = 0 ∨ x3 < 0 ∨ 3 < x3) → x10 = x15)
def qn_A2 (c r a b : Int32) : Prop := (c = 0 → r = a) ∧ (¬ c = 0 → r = b)
theorem qn_cv {I M P : Prop} {r a b : Int32} (hI : (x16 = 0 ∧ ¬ I) ∨ (¬ x16 = 0 ∧ I)) (hM : (x17 = 0 ∧ ¬ M) ∨ (¬ x17 = 0 ∧ M)) (h : qn_A3 I M P r a b) : qn_A4 x16 x17 r a b P := by
  have i0 : x16 = 0 → ¬ I := fun z => hI.elim (fun g => g.2) (fun g => absurd z g.1)
  have i1 : ¬ x16 = 0 → I := fun z => hI.elim (fun g => absurd g.1 z) (fun g => g.2)
  have m0 : x17 = 0 → ¬ M := fun z => hM.elim (fun g => g.2) (fun g => absurd z g.1)
  have m1 : ¬ x17 = 0 → M := fun z => hM.elim (fun g => absurd g.1 z) (fun g => g.2)
  exact ⟨fun z => h.1 (i0 z), fun z w => h.2.1 (i1 z) (m0 w), fun z w p => (h.2.2 (i1 z) (m1 w)).1 p, fun z w p => (h.2.2 (i1 z) (m1 w)).2 p⟩
theorem qn_L283 (hp : post 1 ()) (h : z1 = z0) (h12 : qn_A4 x16 x17 x12 x2 (x5 - x0) (x15 ≤ x5)) : wL_lawOf_283 post mc ms x0 x2 x5 x12 x15 x16 x17 z0 z1 kc ks :=
  br_t h (br_c (fun a => br_t (h12.1 a) hp) (fun a => br_c (fun b => br_t (h12.2.1 a b) hp) (fun b => br_c (fun c => br_t (h12.2.2.1 a b c) hp) (fun c => br_t (h12.2.2.2 a b c) hp))))
theorem qn_L252 (hp : post 1 ()) (h : z1 = z0) (h11 : qn_A4 x16 x17 x11 0 1 (x15 ≤ x5)) (h12 : qn_A4 x16 x17 x12 x2 (x5 - x0) (x15 ≤ x5)) : wL_lawOf_252 post mc ms x0 x2 x5 x11 x12 x15 x16 x17 z0 z1 kc ks :=
  br_t h (br_c (fun a => qn_L283 hp (h11.1 a) h12) (fun a => br_c (fun b => qn_L283 hp (h11.2.1 a b) h12) (fun b => br_c (fun c => qn_L283 hp (h11.2.2.1 a b c) h12) (fun c => qn_L283 hp (h11.2.2.2 a b c) h12))))
theorem qn_L227 (hp : post 1 ()) (h : z1 = z0) (h10 : qn_A10 x3 x10 x13 x15) (h11 : qn_A4 x16 x17 x11 0 1 (x15 ≤ x5)) (h12 : qn_A4 x16 x17 x12 x2 (x5 - x0) (x15 ≤ x5)) : wL_lawOf_227 post mc ms x0 x2 x3 x5 x10 x11 x12 x13 x15 x16 x17 z0 z1 kc ks :=
  br_t h (br_c (fun a => qn_L252 hp (h10.1 (Or.inl a)) h11 h12) (fun a => br_c (fun b => qn_L252 hp (h10.1 (Or.inr (Or.inl b))) h11 h12) (fun b => br_c (fun c => qn_L252 hp (h10.1 (Or.inr (Or.inr c))) h11 h12) (fun c => qn_L252 hp (h10.2 (fun z => z.elim a (fun z => z.elim b c))) h11 h12))))
theorem qn_L212 (hp : post 1 ()) (h : z1 = z0) (h9 : qn_A2 x14 x9 (-1) x0) (h10 : qn_A10 x3 x10 x13 x15) (h11 : qn_A4 x16 x17 x11 0 1 (x15 ≤ x5)) (h12 : qn_A4 x16 x17 x12 x2 (x5 - x0) (x15 ≤ x5)) : wL_lawOf_212 post mc ms x0 x2 x3 x5 x9 x10 x11 x12 x13 x14 x15 x16 x17 z0 z1 kc ks :=
  br_t h (br_c (fun a => qn_L227 hp (h9.1 a) h10 h11 h12) (fun a => qn_L227 hp (h9.2 a) h10 h11 h12))
theorem qn_L183 (hp : post 1 ()) (h7 : qn_A2 x13 x7 (-1) 0) (h8 : qn_A2 x14 x8 (-1) 1) (h9 : qn_A2 x14 x9 (-1) x0) (h10 : qn_A10 x3 x10 x13 x15) (h11 : qn_A4 x16 x17 x11 0 1 (x15 ≤ x5)) (h12 : qn_A4 x16 x17 x12 x2 (x5 - x0) (x15 ≤ x5)) : wL_lawOf_183 post mc ms x0 x2 x3 x5 x7 x8 x9 x10 x11 x12 x13 x14 x15 x16 x17 kc ks :=
  br_c (fun a => br_t (h7.1 a) (br_c (fun b => qn_L212 hp (h8.1 b) h9 h10 h11 h12) (fun b => qn_L212 hp (h8.2 b) h9 h10 h11 h12))) (fun a => br_t (h7.2 a) (br_c (fun b => qn_L212 hp (h8.1 b) h9 h10 h11 h12) (fun b => qn_L212 hp (h8.2 b) h9 h10 h11 h12)))
theorem qn_L159 (hp : post 1 ()) (h7 : qn_A2 x13 x7 (-1) 0) (h8 : qn_A2 x14 x8 (-1) 1) (h9 : qn_A2 x14 x9 (-1) x0) (h10 : qn_A10 x3 x10 x13 x15) (h11 : qn_A3 (qn_is x4 x5) (qn_M x0 x1 x4 x5 x14) (x15 ≤ x5) x11 0 1) (h12 : qn_A3 (qn_is x4 x5) (qn_M x0 x1 x4 x5 x14) (x15 ≤ x5) x12 x2 (x5 - x0)) (hI : (x16 = 0 ∧ ¬ qn_is x4 x5) ∨ (¬ x16 = 0 ∧ qn_is x4 x5)) : wL_lawOf_159 post mc ms x0 x1 x2 x3 x4 x5 x7 x8 x9 x10 x11 x12 x13 x14 x15 x16 kc ks := by
  have key : ∀ x17 : Int32, ((x17 = 0 ∧ ¬ qn_M x0 x1 x4 x5 x14) ∨ (¬ x17 = 0 ∧ qn_M x0 x1 x4 x5 x14)) → wL_lawOf_183 post mc ms x0 x2 x3 x5 x7 x8 x9 x10 x11 x12 x13 x14 x15 x16 x17 kc ks := fun x17 hM => qn_L183 hp h7 h8 h9 h10 (qn_cv hI hM h11) (qn_cv hI hM h12)
  exact br_c (fun a => key 0 (Or.inl ⟨rfl, fun m => m.1 a⟩)) (fun a => br_c (fun b => br_c (fun c => key 0 (Or.inl ⟨rfl, fun m => m.2.2 c⟩)) (fun c => key 1 (Or.inr ⟨by decide, a, b, c⟩))) (fun b => key 0 (Or.inl ⟨rfl, fun m => b m.2.1⟩)))
theorem qn_L128 (hp : post 1 ()) (h7 : qn_A2 x13 x7 (-1) 0) (h8 : qn_A2 x14 x8 (-1) 1) (h9 : qn_A2 x14 x9 (-1) x0) (h10 : qn_A10 x3 x10 x13 x15) (h11 : qn_A3 (qn_is x4 x5) (qn_M x0 x1 x4 x5 x14) (x15 ≤ x5) x11 0 1) (h12 : qn_A3 (qn_is x4 x5) (qn_M x0 x1 x4 x5 x14) (x15 ≤ x5) x12 x2 (x5 - x0)) : wL_lawOf_128 post mc ms x0 x1 x2 x3 x4 x5 x7 x8 x9 x10 x11 x12 x13 x14 x15 kc ks := by
  have key0 : ¬ qn_is x4 x5 → wL_lawOf_159 post mc ms x0 x1 x2 x3 x4 x5 x7 x8 x9 x10 x11 x12 x13 x14 x15 0 kc ks := fun h => qn_L159 hp h7 h8 h9 h10 h11 h12 (Or.inl ⟨rfl, h⟩)
  exact br_c (fun a => key0 (fun z => z.1 a)) (fun a => br_c (fun b => key0 (fun z => z.2.1 b)) (fun b => br_c (fun c => key0 (fun z => z.2.2.1 c)) (fun c => br_c (fun d => key0 (fun z => z.2.2.2 d)) (fun d => qn_L159 hp h7 h8 h9 h10 h11 h12 (Or.inr ⟨by decide, a, b, c, d⟩)))))
/-! the three objects that the law can make -/
theorem qn_law0 (hp : post 1 ()) (hg : x0 < 0 ∨ 100 < x0) : wpL_lawOf post 28 1154 () x0 x1 x2 x3 x4 x5 := by
  refine ⟨by decide, by decide, 27, 1120, by decide, by decide, qn_init (fun b1 h1 => ?_)⟩
  have hD : ∀ f3 f4 f5 f6 : Nat → Int32, qn_D 0 0 0 0 (nI 0) b1 f3 f4 f5 f6 := fun _ _ _ _ => ⟨by omega, by omega, by omega, h1, Or.inl ⟨rfl, rfl⟩⟩
  refine qn_arriveB hg (qn_visit0 (qn_joins (v := -1) rfl (hD _ _ _ _) (fun _ _ _ _ _ _ _ _ _ _ _ _ _ _ _ _ _ _ _ _ _ _ _ _ => qn_leaves (hD _ _ _ _) (fun r1 _ _ _ _ _ _ _ _ _ _ _ _ _ _ _ _ _ _ _ _ _ _ _ _ hL => qn_at (hD _ _ _ _) (fun r2 _ _ _ _ _ _ _ _ _ _ _ _ _ _ _ _ _ _ _ _ _ _ _ _ hA => qn_area (hD _ _ _ _) (fun r3 _ _ _ _ _ _ _ _ _ _ _ _ _ _ _ _ _ _ _ _ _ _ _ _ hR => ?_))))))
  have F : wL_lawOf_128 post 28 1154 x0 x1 x2 x3 x4 x5 (-1) (-1) (-1) r1 r2 r3 0 0 x0 (1 + 27) (34 + 1120) := qn_L128 hp ⟨fun _ => rfl, fun z => absurd rfl z⟩ ⟨fun _ => rfl, fun z => absurd rfl z⟩ ⟨fun _ => rfl, fun z => absurd rfl z⟩ ⟨fun _ => hL.1 (Or.inl rfl), fun z => absurd (Or.inl rfl) z⟩
    ⟨hA.1, fun i _ => hA.2.1 i (fun m => absurd m.1 (by decide)), fun _ m => absurd rfl m.1⟩ ⟨hR.1, fun i _ => hR.2.1 i (fun m => absurd m.1 (by decide)), fun _ m => absurd rfl m.1⟩
  exact br_c (fun _ => br_t rfl (br_t rfl F)) (fun a => br_t (hg.elim (fun z => absurd z a) id) (br_t rfl (br_t rfl F)))
theorem qn_law1 {t : Nat} (hp : post 1 ()) (ht : t ≤ 100) (hb : x1 < 0 ∨ 3 < x1 ∨ x2 < 1 ∨ 30 < x2) : wpL_lawOf post 28 1154 () (nI t) x1 x2 x3 x4 x5 := by
  refine ⟨by decide, by decide, 27, 1120, by decide, by decide, qn_init (fun b1 h1 => ?_)⟩
  have hD : ∀ f5 f6 : Nat → Int32, qn_D 1 t 0 0 (nI 1) b1 (upd (fun _ => 0) 0 (nI t)) (upd (fun _ => 0) 0 (nI 0)) f5 f6 := fun _ _ => ⟨ht, by omega, by omega, h1, Or.inr (Or.inl ⟨rfl, rfl, pk_us, pk_us⟩)⟩
  refine qn_arriveG ht (qn_visitB hb (qn_joins (v := -1) rfl (hD _ _) (fun _ _ _ _ _ _ _ _ _ _ _ _ _ _ _ _ _ _ _ _ _ _ _ _ => qn_leaves (hD _ _) (fun r1 _ _ _ _ _ _ _ _ _ _ _ _ _ _ _ _ _ _ _ _ _ _ _ _ hL => qn_at (hD _ _) (fun r2 _ _ _ _ _ _ _ _ _ _ _ _ _ _ _ _ _ _ _ _ _ _ _ _ hA => qn_area (hD _ _) (fun r3 _ _ _ _ _ _ _ _ _ _ _ _ _ _ _ _ _ _ _ _ _ _ _ _ hR => ?_))))))
  have F : wL_lawOf_128 post 28 1154 (nI t) x1 x2 x3 x4 x5 (nI 0) (-1) (-1) r1 r2 r3 1 0 (nI t) (1 + 27) (34 + 1120) := qn_L128 hp ⟨fun z => absurd z (by decide), fun _ => rfl⟩ ⟨fun _ => rfl, fun z => absurd rfl z⟩ ⟨fun _ => rfl, fun z => absurd rfl z⟩
    ⟨fun z => hL.1 (z.elim (fun g => absurd g (by decide)) Or.inr), fun z => hL.2 (fun g => g.elim (fun g => absurd g (by decide)) (fun g => z (Or.inr g)))⟩
    ⟨hA.1, fun i _ => hA.2.1 i (fun m => absurd m.1 (by decide)), fun _ m => absurd rfl m.1⟩ ⟨hR.1, fun i _ => hR.2.1 i (fun m => absurd m.1 (by decide)), fun _ m => absurd rfl m.1⟩
  exact br_f (nI_pos (by omega)) (br_f (nI_nlt (a := 100) ht (by omega)) (br_f (by decide) (br_c (fun _ => br_t rfl F) (fun a => br_c (fun _ => br_t rfl F) (fun b => br_c (fun _ => br_t rfl F) (fun c => br_t (hb.elim (fun z => absurd z a) (fun z => z.elim (fun z => absurd z b) (fun z => z.elim (fun z => absurd z c) id))) (br_t rfl F)))))))
theorem qn_law2 {t s d : Nat} (hp : post 1 ()) (ht : t ≤ 100) (hs : s < 4) (h1d : 1 ≤ d) (hd : d ≤ 30) : wpL_lawOf post 28 1154 () (nI t) (nI s) (nI d) x3 x4 x5 := by
  refine ⟨by decide, by decide, 27, 1120, by decide, by decide, qn_init (fun b1 h1 => ?_)⟩
  have hD : qn_D 2 t s d (nI 1) b1 (upd (fun _ => 0) 0 (nI t)) (upd (upd (fun _ => 0) 0 (nI 0)) 0 (nI 1)) (upd (fun _ => 0) 0 (nI s)) (upd (fun _ => 0) 0 (nI d)) := ⟨ht, hs, hd, h1, Or.inr (Or.inr ⟨rfl, rfl, pk_us, pk_us, pk_us, pk_us⟩)⟩
  refine qn_arriveG ht (qn_visitV hs h1d hd pk_us (qn_joins (v := nI t) rfl hD (fun _ _ _ _ _ _ _ _ _ _ _ _ _ _ _ _ _ _ _ _ _ _ _ _ => qn_leaves hD (fun r1 _ _ _ _ _ _ _ _ _ _ _ _ _ _ _ _ _ _ _ _ _ _ _ _ hL => qn_at hD (fun r2 _ _ _ _ _ _ _ _ _ _ _ _ _ _ _ _ _ _ _ _ _ _ _ _ hA => qn_area hD (fun r3 _ _ _ _ _ _ _ _ _ _ _ _ _ _ _ _ _ _ _ _ _ _ _ _ hR => ?_))))))
  have F : ∀ y : Int32, y = nI (t + d) → wL_lawOf_128 post 28 1154 (nI t) (nI s) (nI d) x3 x4 x5 (nI 0) (nI 1) (nI t) r1 r2 r3 1 1 y (1 + 27) (34 + 1120) := by
    intro y ey
    subst ey
    exact qn_L128 hp ⟨fun z => absurd z (by decide), fun _ => rfl⟩ ⟨fun z => absurd z (by decide), fun _ => rfl⟩ ⟨fun z => absurd z (by decide), fun _ => rfl⟩
      ⟨fun z => hL.1 (z.elim (fun g => absurd g (by decide)) Or.inr), fun z => hL.2 (fun g => g.elim (fun g => absurd g (by decide)) (fun g => z (Or.inr g)))⟩
      ⟨hA.1, fun i n => hA.2.1 i (fun m => n ⟨by decide, m.2⟩), fun i m => hA.2.2 i ⟨rfl, m.2⟩⟩ ⟨hR.1, fun i n => hR.2.1 i (fun m => n ⟨by decide, m.2⟩), fun i m => hR.2.2 i ⟨rfl, m.2⟩⟩
  exact br_f (nI_pos (by omega)) (br_f (nI_nlt (a := 100) ht (by omega)) (br_f (by decide) (br_f (nI_pos (by omega)) (br_f (nI_nlt (a := 3) (by omega) (by omega)) (br_f (nI_nlt (b := 1) h1d (by omega)) (br_f (nI_nlt (a := 30) hd (by omega)) (br_f (by decide) (F _ (nI_add t d)))))))))
theorem qn_lawOf (hp : post 1 ()) : wpL_lawOf post 28 1154 () x0 x1 x2 x3 x4 x5 := by
  by_cases hg : x0 < 0 ∨ 100 < x0
  · exact qn_law0 hp hg
  · obtain ⟨t, ht, et⟩ := nI_of2 (x := x0) (M := 100) (n := 100) (by decide) (fun z => hg (Or.inl z)) (Int32.not_lt.mp (fun z => hg (Or.inr z)))
    subst et
    by_cases hb : x1 < 0 ∨ 3 < x1 ∨ x2 < 1 ∨ 30 < x2
    · exact qn_law1 hp ht hb
    · obtain ⟨s, hs, es⟩ := nI_of2 (x := x1) (M := 3) (n := 3) (by decide) (fun z => hb (Or.inl z)) (Int32.not_lt.mp (fun z => hb (Or.inr (Or.inl z))))
      subst es
      have h2 : ¬ x2 < 0 := fun z => hb (Or.inr (Or.inr (Or.inl (Int32.lt_trans z (by decide)))))
      obtain ⟨d, hd, ed⟩ := nI_of2 (x := x2) (M := 30) (n := 30) (by decide) h2 (Int32.not_lt.mp (fun z => hb (Or.inr (Or.inr (Or.inr z)))))
      subst ed
      have hd1 : 1 ≤ d := by
        rcases Nat.eq_zero_or_pos d with z | z
        · subst z
          exact absurd (Or.inr (Or.inr (Or.inl (by decide)))) hb
        · exact z
      exact qn_law2 hp ht (by omega) hd1 hd
end
theorem qn_cell {post : Int32 → Prop} {L : Nat} {xs : Nat → Int32} (p : Nat) (hp : p < 6) (hL : L ≤ 6) (H : ∀ r, post r) : wpL_cellAt post L xs () (nI p) :=
  pk_le L p (fun _ => H 0) (fun h => ⟨pk_in p L h, H _⟩)
theorem i_vc (xs : Nat → Int32) (L : Nat) (hL : L ≤ 6) : wpL_law (fun r => r = 1) L xs :=
  qn_cell 0 (by omega) hL (fun _ => qn_cell 1 (by omega) hL (fun _ => qn_cell 2 (by omega) hL (fun _ => qn_cell 3 (by omega) hL (fun _ => qn_cell 4 (by omega) hL (fun _ => qn_cell 5 (by omega) hL (fun _ => ⟨28, 1154, by decide, by decide, qn_lawOf rfl⟩))))))
end
