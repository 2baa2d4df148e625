section
/-! ===== Int32 by toInt, small numbers ===== -/
theorem ib_add {x y : Int32} (h1 : -2147483648 ≤ x.toInt + y.toInt) (h2 : x.toInt + y.toInt < 2147483648) : (x + y).toInt = x.toInt + y.toInt := by
  rw [Int32.toInt_add]
  exact Int.bmod_eq_of_le_mul_two (by omega) (by omega)
theorem ib_sub {x y : Int32} (h1 : -2147483648 ≤ x.toInt - y.toInt) (h2 : x.toInt - y.toInt < 2147483648) : (x - y).toInt = x.toInt - y.toInt := by
  rw [Int32.toInt_sub]
  exact Int.bmod_eq_of_le_mul_two (by omega) (by omega)
theorem ib_mul {x y : Int32} (h1 : -2147483648 ≤ x.toInt * y.toInt) (h2 : x.toInt * y.toInt < 2147483648) : (x * y).toInt = x.toInt * y.toInt := by
  rw [Int32.toInt_mul]
  generalize x.toInt * y.toInt = t at h1 h2
  exact Int.bmod_eq_of_le_mul_two (by omega) (by omega)
theorem ib_neg {x : Int32} (h1 : -2147483648 < x.toInt) : (-x).toInt = -x.toInt := by
  have h2 := Int32.toInt_lt x
  rw [Int32.toInt_neg]
  exact Int.bmod_eq_of_le_mul_two (by omega) (by omega)
theorem ib_le {x y : Int32} : x ≤ y ↔ x.toInt ≤ y.toInt := Int32.le_iff_toInt_le
theorem ib_lt {x y : Int32} : x < y ↔ x.toInt < y.toInt := Int32.lt_iff_toInt_lt
theorem ib_eq {x y : Int32} : x = y ↔ x.toInt = y.toInt := Int32.toInt_inj.symm
theorem ib_m40 {f x : Int} (h1 : -5 ≤ f) (h2 : f ≤ 5) (h3 : -8 ≤ x) (h4 : x ≤ 8) : -40 ≤ f * x ∧ f * x ≤ 40 := by
  have : f = -5 ∨ f = -4 ∨ f = -3 ∨ f = -2 ∨ f = -1 ∨ f = 0 ∨ f = 1 ∨ f = 2 ∨ f = 3 ∨ f = 4 ∨ f = 5 := by omega
  rcases this with e | e | e | e | e | e | e | e | e | e | e <;> subst e <;> omega
/-! ===== terms, boxes, limits ===== -/
/-- a term's least value over l .. h -/
def ib_lo (f l h : Int32) : Int32 := if f ≤ 0 then f * h else f * l
/-- a term's greatest value over l .. h -/
def ib_hi (f l h : Int32) : Int32 := if f ≤ 0 then f * l else f * h
def ib_lz (f l h : Int) : Int := if f ≤ 0 then f * h else f * l
def ib_hz (f l h : Int) : Int := if f ≤ 0 then f * l else f * h
def ib_ls (a3 l h : Nat → Int32) (i : Nat) : Int32 := ib_lo (a3 (i * 3 + 0)) (l 0) (h 0) + ib_lo (a3 (i * 3 + 1)) (l 1) (h 1) + ib_lo (a3 (i * 3 + 2)) (l 2) (h 2)
def ib_gs (a3 l h : Nat → Int32) (i : Nat) : Int32 := ib_hi (a3 (i * 3 + 0)) (l 0) (h 0) + ib_hi (a3 (i * 3 + 1)) (l 1) (h 1) + ib_hi (a3 (i * 3 + 2)) (l 2) (h 2)
/-- a limit's sum at a point -/
def ib_lin (a3 : Nat → Int32) (i : Nat) (x y z : Int) : Int := (a3 (i * 3 + 0)).toInt * x + (a3 (i * 3 + 1)).toInt * y + (a3 (i * 3 + 2)).toInt * z
/-- the point lies in the box -/
def ib_in (l h : Nat → Int32) (x y z : Int) : Prop := (l 0).toInt ≤ x ∧ x ≤ (h 0).toInt ∧ (l 1).toInt ≤ y ∧ y ≤ (h 1).toInt ∧ (l 2).toInt ≤ z ∧ z ≤ (h 2).toInt
/-- a box that isn't empty, within -8 .. 8 -/
def ib_rg (l h : Nat → Int32) : Prop := (-8 ≤ (l 0).toInt ∧ (l 0).toInt ≤ (h 0).toInt ∧ (h 0).toInt ≤ 8) ∧ (-8 ≤ (l 1).toInt ∧ (l 1).toInt ≤ (h 1).toInt ∧ (h 1).toInt ≤ 8) ∧ (-8 ≤ (l 2).toInt ∧ (l 2).toInt ≤ (h 2).toInt ∧ (h 2).toInt ≤ 8)
def ib_emp (l h : Nat → Int32) : Prop := h 0 < l 0 ∨ h 1 < l 1 ∨ h 2 < l 2
def ib_sub3 (l h l' h' : Nat → Int32) : Prop := ((l 0).toInt ≤ (l' 0).toInt ∧ (h' 0).toInt ≤ (h 0).toInt) ∧ ((l 1).toInt ≤ (l' 1).toInt ∧ (h' 1).toInt ≤ (h 1).toInt) ∧ ((l 2).toInt ≤ (l' 2).toInt ∧ (h' 2).toInt ≤ (h 2).toInt)
def ib_wd (l h : Nat → Int32) : Int := ((h 0).toInt - (l 0).toInt) + ((h 1).toInt - (l 1).toInt) + ((h 2).toInt - (l 2).toInt)
/-- limit i counts in the set s -/
def ib_act (s : Int32) (i : Nat) : Prop := ((s >>> (nI i &&& 31)) &&& 1) = 1
def ib_F (s : Int32) (a3 a4 : Nat → Int32) (x y z : Int) : Prop := ∀ i, i < 8 → ib_act s i → ib_lin a3 i x y z ≤ (a4 i).toInt
def ib_wf (a3 a4 : Nat → Int32) : Prop := (∀ j, j < 24 → -5 ≤ (a3 j).toInt ∧ (a3 j).toInt ≤ 5) ∧ (∀ i, i < 8 → -100 ≤ (a4 i).toInt ∧ (a4 i).toInt ≤ 100)
theorem ib_lz_le {f l h x : Int} (h1 : l ≤ x) (h2 : x ≤ h) : ib_lz f l h ≤ f * x := by
  unfold ib_lz
  by_cases hf : f ≤ 0
  · rw [if_pos hf]
    exact Int.mul_le_mul_of_nonpos_left hf h2
  · rw [if_neg hf]
    exact Int.mul_le_mul_of_nonneg_left h1 (by omega)
theorem ib_le_hz {f l h x : Int} (h1 : l ≤ x) (h2 : x ≤ h) : f * x ≤ ib_hz f l h := by
  unfold ib_hz
  by_cases hf : f ≤ 0
  · rw [if_pos hf]
    exact Int.mul_le_mul_of_nonpos_left hf h1
  · rw [if_neg hf]
    exact Int.mul_le_mul_of_nonneg_left h2 (by omega)
theorem ib_lz_b {f l h : Int} (h1 : -5 ≤ f) (h2 : f ≤ 5) (h3 : -8 ≤ l) (h4 : l ≤ 8) (h5 : -8 ≤ h) (h6 : h ≤ 8) : -40 ≤ ib_lz f l h ∧ ib_lz f l h ≤ 40 := by
  unfold ib_lz
  split
  · exact ib_m40 h1 h2 h5 h6
  · exact ib_m40 h1 h2 h3 h4
theorem ib_hz_b {f l h : Int} (h1 : -5 ≤ f) (h2 : f ≤ 5) (h3 : -8 ≤ l) (h4 : l ≤ 8) (h5 : -8 ≤ h) (h6 : h ≤ 8) : -40 ≤ ib_hz f l h ∧ ib_hz f l h ≤ 40 := by
  unfold ib_hz
  split
  · exact ib_m40 h1 h2 h3 h4
  · exact ib_m40 h1 h2 h5 h6
theorem ib_lo_z {f l h : Int32} (h1 : -5 ≤ f.toInt) (h2 : f.toInt ≤ 5) (h3 : -8 ≤ l.toInt) (h4 : l.toInt ≤ 8) (h5 : -8 ≤ h.toInt) (h6 : h.toInt ≤ 8) : (ib_lo f l h).toInt = ib_lz f.toInt l.toInt h.toInt := by
  have e0 : (0 : Int32).toInt = 0 := by decide
  have b1 := ib_m40 h1 h2 h3 h4
  have b2 := ib_m40 h1 h2 h5 h6
  unfold ib_lo ib_lz
  by_cases hf : f ≤ 0
  · have hf' : f.toInt ≤ 0 := by rw [ib_le, e0] at hf; exact hf
    rw [if_pos hf, if_pos hf']
    exact ib_mul (by omega) (by omega)
  · have hf' : ¬ f.toInt ≤ 0 := by rw [ib_le, e0] at hf; exact hf
    rw [if_neg hf, if_neg hf']
    exact ib_mul (by omega) (by omega)
theorem ib_hi_z {f l h : Int32} (h1 : -5 ≤ f.toInt) (h2 : f.toInt ≤ 5) (h3 : -8 ≤ l.toInt) (h4 : l.toInt ≤ 8) (h5 : -8 ≤ h.toInt) (h6 : h.toInt ≤ 8) : (ib_hi f l h).toInt = ib_hz f.toInt l.toInt h.toInt := by
  have e0 : (0 : Int32).toInt = 0 := by decide
  have b1 := ib_m40 h1 h2 h3 h4
  have b2 := ib_m40 h1 h2 h5 h6
  unfold ib_hi ib_hz
  by_cases hf : f ≤ 0
  · have hf' : f.toInt ≤ 0 := by rw [ib_le, e0] at hf; exact hf
    rw [if_pos hf, if_pos hf']
    exact ib_mul (by omega) (by omega)
  · have hf' : ¬ f.toInt ≤ 0 := by rw [ib_le, e0] at hf; exact hf
    rw [if_neg hf, if_neg hf']
    exact ib_mul (by omega) (by omega)
/-- the three least terms of a limit over a box, as whole numbers -/
theorem ib_ls_z {a3 a4 l h : Nat → Int32} (hw : ib_wf a3 a4) (hr : ib_rg l h) {i : Nat} (hi : i < 8) :
    ∃ t0 t1 t2 : Int, (ib_lo (a3 (i * 3 + 0)) (l 0) (h 0)).toInt = t0 ∧ (ib_lo (a3 (i * 3 + 1)) (l 1) (h 1)).toInt = t1 ∧ (ib_lo (a3 (i * 3 + 2)) (l 2) (h 2)).toInt = t2 ∧ (ib_ls a3 l h i).toInt = t0 + t1 + t2 ∧ (-40 ≤ t0 ∧ t0 ≤ 40) ∧ (-40 ≤ t1 ∧ t1 ≤ 40) ∧ (-40 ≤ t2 ∧ t2 ≤ 40) ∧
      ∀ x y z, ib_in l h x y z → t0 ≤ (a3 (i * 3 + 0)).toInt * x ∧ t1 ≤ (a3 (i * 3 + 1)).toInt * y ∧ t2 ≤ (a3 (i * 3 + 2)).toInt * z := by
  obtain ⟨⟨r1, r2, r3⟩, ⟨r4, r5, r6⟩, ⟨r7, r8, r9⟩⟩ := hr
  have f0 := hw.1 (i * 3 + 0) (by omega)
  have f1 := hw.1 (i * 3 + 1) (by omega)
  have f2 := hw.1 (i * 3 + 2) (by omega)
  have e0 := ib_lo_z (l := l 0) (h := h 0) f0.1 f0.2 (by omega) (by omega) (by omega) (by omega)
  have e1 := ib_lo_z (l := l 1) (h := h 1) f1.1 f1.2 (by omega) (by omega) (by omega) (by omega)
  have e2 := ib_lo_z (l := l 2) (h := h 2) f2.1 f2.2 (by omega) (by omega) (by omega) (by omega)
  have b0 := ib_lz_b (l := (l 0).toInt) (h := (h 0).toInt) f0.1 f0.2 (by omega) (by omega) (by omega) (by omega)
  have b1 := ib_lz_b (l := (l 1).toInt) (h := (h 1).toInt) f1.1 f1.2 (by omega) (by omega) (by omega) (by omega)
  have b2 := ib_lz_b (l := (l 2).toInt) (h := (h 2).toInt) f2.1 f2.2 (by omega) (by omega) (by omega) (by omega)
  refine ⟨_, _, _, e0, e1, e2, ?_, b0, b1, b2, ?_⟩
  · unfold ib_ls
    rw [← e0, ← e1, ← e2] 
    rw [← e0] at b0
    rw [← e1] at b1
    rw [← e2] at b2
    have s1 := ib_add (x := ib_lo (a3 (i * 3 + 0)) (l 0) (h 0)) (y := ib_lo (a3 (i * 3 + 1)) (l 1) (h 1)) (by omega) (by omega)
    rw [ib_add (by omega) (by omega), s1]
  · intro x y z hin
    obtain ⟨p1, p2, p3, p4, p5, p6⟩ := hin
    exact ⟨ib_lz_le p1 p2, ib_lz_le p3 p4, ib_lz_le p5 p6⟩
theorem ib_gs_z {a3 a4 l h : Nat → Int32} (hw : ib_wf a3 a4) (hr : ib_rg l h) {i : Nat} (hi : i < 8) :
    (ib_gs a3 l h i).toInt = ib_hz (a3 (i * 3 + 0)).toInt (l 0).toInt (h 0).toInt + ib_hz (a3 (i * 3 + 1)).toInt (l 1).toInt (h 1).toInt + ib_hz (a3 (i * 3 + 2)).toInt (l 2).toInt (h 2).toInt := by
  obtain ⟨⟨r1, r2, r3⟩, ⟨r4, r5, r6⟩, ⟨r7, r8, r9⟩⟩ := hr
  have f0 := hw.1 (i * 3 + 0) (by omega)
  have f1 := hw.1 (i * 3 + 1) (by omega)
  have f2 := hw.1 (i * 3 + 2) (by omega)
  have e0 := ib_hi_z (l := l 0) (h := h 0) f0.1 f0.2 (by omega) (by omega) (by omega) (by omega)
  have e1 := ib_hi_z (l := l 1) (h := h 1) f1.1 f1.2 (by omega) (by omega) (by omega) (by omega)
  have e2 := ib_hi_z (l := l 2) (h := h 2) f2.1 f2.2 (by omega) (by omega) (by omega) (by omega)
  have b0 := ib_hz_b (l := (l 0).toInt) (h := (h 0).toInt) f0.1 f0.2 (by omega) (by omega) (by omega) (by omega)
  have b1 := ib_hz_b (l := (l 1).toInt) (h := (h 1).toInt) f1.1 f1.2 (by omega) (by omega) (by omega) (by omega)
  have b2 := ib_hz_b (l := (l 2).toInt) (h := (h 2).toInt) f2.1 f2.2 (by omega) (by omega) (by omega) (by omega)
  unfold ib_gs
  rw [← e0, ← e1, ← e2]
  rw [← e0] at b0
  rw [← e1] at b1
  rw [← e2] at b2
  have s1 := ib_add (x := ib_hi (a3 (i * 3 + 0)) (l 0) (h 0)) (y := ib_hi (a3 (i * 3 + 1)) (l 1) (h 1)) (by omega) (by omega)
  rw [ib_add (by omega) (by omega), s1]
/-! ===== a step of narrowing ===== -/
/-- from box l h to box l' h', no point of C lost: either nothing is left, or a part of the box -/
def ib_NV (C : Int → Int → Int → Prop) (l h l' h' : Nat → Int32) : Prop := (h' 0).toInt ≤ 8 ∧ ((ib_emp l' h' ∧ ∀ x y z, ib_in l h x y z → ¬ C x y z) ∨ (¬ ib_emp l' h' ∧ ib_sub3 l h l' h' ∧ ∀ x y z, ib_in l h x y z → C x y z → ib_in l' h' x y z))
theorem ib_emp_no {l h : Nat → Int32} (he : ib_emp l h) {x y z : Int} (hi : ib_in l h x y z) : False := by
  unfold ib_emp at he
  rw [ib_lt, ib_lt, ib_lt] at he
  obtain ⟨p1, p2, p3, p4, p5, p6⟩ := hi
  omega
theorem ib_nemp {l h : Nat → Int32} (he : ¬ ib_emp l h) : (l 0).toInt ≤ (h 0).toInt ∧ (l 1).toInt ≤ (h 1).toInt ∧ (l 2).toInt ≤ (h 2).toInt := by
  unfold ib_emp at he
  rw [ib_lt, ib_lt, ib_lt] at he
  omega
theorem ib_sub_emp {l h l' h' : Nat → Int32} (hs : ib_sub3 l h l' h') (he : ib_emp l h) : ib_emp l' h' := by
  unfold ib_emp at he ⊢
  rw [ib_lt, ib_lt, ib_lt] at he ⊢
  unfold ib_sub3 at hs
  omega
theorem ib_rg_ne {l h : Nat → Int32} (hr : ib_rg l h) : ¬ ib_emp l h := by
  unfold ib_rg at hr
  unfold ib_emp
  rw [ib_lt, ib_lt, ib_lt]
  omega
theorem ib_rg_sub {l h l' h' : Nat → Int32} (hr : ib_rg l h) (hs : ib_sub3 l h l' h') (he : ¬ ib_emp l' h') : ib_rg l' h' := by
  have := ib_nemp he
  unfold ib_rg at hr ⊢
  unfold ib_sub3 at hs
  omega
theorem ib_NV_refl {C : Int → Int → Int → Prop} {l h : Nat → Int32} (h8 : (h 0).toInt ≤ 8) : ib_NV C l h l h := by
  refine ⟨h8, ?_⟩
  by_cases he : ib_emp l h
  · exact Or.inl ⟨he, fun x y z hi => (ib_emp_no he hi).elim⟩
  · exact Or.inr ⟨he, ⟨⟨Int.le_refl _, Int.le_refl _⟩, ⟨Int.le_refl _, Int.le_refl _⟩, ⟨Int.le_refl _, Int.le_refl _⟩⟩, fun x y z hi _ => hi⟩
theorem ib_NV_trans {C : Int → Int → Int → Prop} {l h l1 h1 l2 h2 : Nat → Int32} (p : ib_NV C l h l1 h1) (q : ib_NV C l1 h1 l2 h2) : ib_NV C l h l2 h2 := by
  refine ⟨q.1, ?_⟩
  rcases q.2 with ⟨qe, qn⟩ | ⟨qe, qs, qk⟩
  · refine Or.inl ⟨qe, fun x y z hi hc => ?_⟩
    rcases p.2 with ⟨pe, pn⟩ | ⟨pe, ps, pk⟩
    · exact pn x y z hi hc
    · exact qn x y z (pk x y z hi hc) hc
  · rcases p.2 with ⟨pe, pn⟩ | ⟨pe, ps, pk⟩
    · exact absurd (ib_sub_emp qs pe) qe
    · refine Or.inr ⟨qe, ?_, fun x y z hi hc => qk x y z (pk x y z hi hc) hc⟩
      unfold ib_sub3 at ps qs ⊢
      omega
theorem ib_NV_mono {C D : Int → Int → Int → Prop} {l h l1 h1 : Nat → Int32} (hd : ∀ x y z, D x y z → C x y z) (p : ib_NV C l h l1 h1) : ib_NV D l h l1 h1 := by
  refine ⟨p.1, ?_⟩
  rcases p.2 with ⟨pe, pn⟩ | ⟨pe, ps, pk⟩
  · exact Or.inl ⟨pe, fun x y z hi hc => pn x y z hi (hd x y z hc)⟩
  · exact Or.inr ⟨pe, ps, fun x y z hi hc => pk x y z hi (hd x y z hc)⟩
theorem ib_NV_rg {C : Int → Int → Int → Prop} {l h l1 h1 : Nat → Int32} (hr : ib_rg l h) (p : ib_NV C l h l1 h1) (he : ¬ ib_emp l1 h1) : ib_rg l1 h1 := by
  rcases p.2 with ⟨pe, _⟩ | ⟨_, ps, _⟩
  · exact absurd pe he
  · exact ib_rg_sub hr ps he
theorem ib_NV_keep {C : Int → Int → Int → Prop} {l h l1 h1 : Nat → Int32} (p : ib_NV C l h l1 h1) {x y z : Int} (hi : ib_in l h x y z) (hc : C x y z) : ib_in l1 h1 x y z := by
  rcases p.2 with ⟨_, pn⟩ | ⟨_, _, pk⟩
  · exact absurd hc (pn x y z hi)
  · exact pk x y z hi hc
theorem ib_NV_in {C : Int → Int → Int → Prop} {l h l1 h1 : Nat → Int32} (p : ib_NV C l h l1 h1) {x y z : Int} (hi : ib_in l1 h1 x y z) : ib_in l h x y z := by
  rcases p.2 with ⟨pe, _⟩ | ⟨_, ps, _⟩
  · exact (ib_emp_no pe hi).elim
  · unfold ib_sub3 at ps
    unfold ib_in at hi ⊢
    omega
def ib_co (v : Nat) (x y z : Int) : Int := if v = 0 then x else if v = 1 then y else z
theorem ib_v3 {v : Nat} (hv : v < 3) : v = 0 ∨ v = 1 ∨ v = 2 := by omega
theorem ib_NV_hi {C : Int → Int → Int → Prop} {l h : Nat → Int32} {v : Nat} {m : Int32} (hv : v < 3) (hr : ib_rg l h) (hm : m < h v) (hC : ∀ x y z, ib_in l h x y z → C x y z → ib_co v x y z ≤ m.toInt) : ib_NV C l h l (upd h v m) ∧ ib_wd l (upd h v m) < ib_wd l h := by
  rw [ib_lt] at hm
  rcases ib_v3 hv with e | e | e <;> subst e
  · have u0 : upd h 0 m 0 = m := pk_us
    have u1 : upd h 0 m 1 = h 1 := pk_un (by decide)
    have u2 : upd h 0 m 2 = h 2 := pk_un (by decide)
    refine ⟨⟨by rw [u0]; unfold ib_rg at hr; omega, ?_⟩, by unfold ib_wd; rw [u0, u1, u2]; omega⟩
    have hk : ∀ x y z, ib_in l h x y z → C x y z → ib_in l (upd h 0 m) x y z := by
      intro x y z hi hc
      have := hC x y z hi hc
      unfold ib_in at hi ⊢
      rw [u0, u1, u2]
      simp only [ib_co, if_true] at this
      omega
    by_cases he : ib_emp l (upd h 0 m)
    · exact Or.inl ⟨he, fun x y z hi hc => ib_emp_no he (hk x y z hi hc)⟩
    · exact Or.inr ⟨he, by unfold ib_sub3; rw [u0, u1, u2]; omega, hk⟩
  · have u0 : upd h 1 m 0 = h 0 := pk_un (by decide)
    have u1 : upd h 1 m 1 = m := pk_us
    have u2 : upd h 1 m 2 = h 2 := pk_un (by decide)
    refine ⟨⟨by rw [u0]; unfold ib_rg at hr; omega, ?_⟩, by unfold ib_wd; rw [u0, u1, u2]; omega⟩
    have hk : ∀ x y z, ib_in l h x y z → C x y z → ib_in l (upd h 1 m) x y z := by
      intro x y z hi hc
      have := hC x y z hi hc
      unfold ib_in at hi ⊢
      rw [u0, u1, u2]
      simp only [ib_co, if_true, if_neg (show ¬ (1 : Nat) = 0 by decide)] at this
      omega
    by_cases he : ib_emp l (upd h 1 m)
    · exact Or.inl ⟨he, fun x y z hi hc => ib_emp_no he (hk x y z hi hc)⟩
    · exact Or.inr ⟨he, by unfold ib_sub3; rw [u0, u1, u2]; omega, hk⟩
  · have u0 : upd h 2 m 0 = h 0 := pk_un (by decide)
    have u1 : upd h 2 m 1 = h 1 := pk_un (by decide)
    have u2 : upd h 2 m 2 = m := pk_us
    refine ⟨⟨by rw [u0]; unfold ib_rg at hr; omega, ?_⟩, by unfold ib_wd; rw [u0, u1, u2]; omega⟩
    have hk : ∀ x y z, ib_in l h x y z → C x y z → ib_in l (upd h 2 m) x y z := by
      intro x y z hi hc
      have := hC x y z hi hc
      unfold ib_in at hi ⊢
      rw [u0, u1, u2]
      simp only [ib_co, if_neg (show ¬ (2 : Nat) = 0 by decide), if_neg (show ¬ (2 : Nat) = 1 by decide)] at this
      omega
    by_cases he : ib_emp l (upd h 2 m)
    · exact Or.inl ⟨he, fun x y z hi hc => ib_emp_no he (hk x y z hi hc)⟩
    · exact Or.inr ⟨he, by unfold ib_sub3; rw [u0, u1, u2]; omega, hk⟩
theorem ib_NV_lo {C : Int → Int → Int → Prop} {l h : Nat → Int32} {v : Nat} {m : Int32} (hv : v < 3) (hr : ib_rg l h) (hm : l v < m) (hC : ∀ x y z, ib_in l h x y z → C x y z → m.toInt ≤ ib_co v x y z) : ib_NV C l h (upd l v m) h ∧ ib_wd (upd l v m) h < ib_wd l h := by
  rw [ib_lt] at hm
  rcases ib_v3 hv with e | e | e <;> subst e
  · have u0 : upd l 0 m 0 = m := pk_us
    have u1 : upd l 0 m 1 = l 1 := pk_un (by decide)
    have u2 : upd l 0 m 2 = l 2 := pk_un (by decide)
    refine ⟨⟨by unfold ib_rg at hr; omega, ?_⟩, by unfold ib_wd; rw [u0, u1, u2]; omega⟩
    have hk : ∀ x y z, ib_in l h x y z → C x y z → ib_in (upd l 0 m) h x y z := by
      intro x y z hi hc
      have := hC x y z hi hc
      unfold ib_in at hi ⊢
      rw [u0, u1, u2]
      simp only [ib_co, if_true] at this
      omega
    by_cases he : ib_emp (upd l 0 m) h
    · exact Or.inl ⟨he, fun x y z hi hc => ib_emp_no he (hk x y z hi hc)⟩
    · exact Or.inr ⟨he, by unfold ib_sub3; rw [u0, u1, u2]; omega, hk⟩
  · have u0 : upd l 1 m 0 = l 0 := pk_un (by decide)
    have u1 : upd l 1 m 1 = m := pk_us
    have u2 : upd l 1 m 2 = l 2 := pk_un (by decide)
    refine ⟨⟨by unfold ib_rg at hr; omega, ?_⟩, by unfold ib_wd; rw [u0, u1, u2]; omega⟩
    have hk : ∀ x y z, ib_in l h x y z → C x y z → ib_in (upd l 1 m) h x y z := by
      intro x y z hi hc
      have := hC x y z hi hc
      unfold ib_in at hi ⊢
      rw [u0, u1, u2]
      simp only [ib_co, if_true, if_neg (show ¬ (1 : Nat) = 0 by decide)] at this
      omega
    by_cases he : ib_emp (upd l 1 m) h
    · exact Or.inl ⟨he, fun x y z hi hc => ib_emp_no he (hk x y z hi hc)⟩
    · exact Or.inr ⟨he, by unfold ib_sub3; rw [u0, u1, u2]; omega, hk⟩
  · have u0 : upd l 2 m 0 = l 0 := pk_un (by decide)
    have u1 : upd l 2 m 1 = l 1 := pk_un (by decide)
    have u2 : upd l 2 m 2 = m := pk_us
    refine ⟨⟨by unfold ib_rg at hr; omega, ?_⟩, by unfold ib_wd; rw [u0, u1, u2]; omega⟩
    have hk : ∀ x y z, ib_in l h x y z → C x y z → ib_in (upd l 2 m) h x y z := by
      intro x y z hi hc
      have := hC x y z hi hc
      unfold ib_in at hi ⊢
      rw [u0, u1, u2]
      simp only [ib_co, if_neg (show ¬ (2 : Nat) = 0 by decide), if_neg (show ¬ (2 : Nat) = 1 by decide)] at this
      omega
    by_cases he : ib_emp (upd l 2 m) h
    · exact Or.inl ⟨he, fun x y z hi hc => ib_emp_no he (hk x y z hi hc)⟩
    · exact Or.inr ⟨he, by unfold ib_sub3; rw [u0, u1, u2]; omega, hk⟩
end
section
/-! ===== counting the points of -8 .. 8 that a predicate holds ===== -/
def ib_R : List Int := [-8, -7, -6, -5, -4, -3, -2, -1, 0, 1, 2, 3, 4, 5, 6, 7, 8]
def ib_U : List (Int × Int × Int) := ib_R.flatMap (fun x => ib_R.flatMap (fun y => ib_R.map (fun z => (x, y, z))))
noncomputable def ib_d (p : Prop) : Bool := @decide p (Classical.propDecidable p)
theorem ib_dt {p : Prop} : ib_d p = true ↔ p := @decide_eq_true_iff p (Classical.propDecidable p)
theorem ib_df {p : Prop} : ib_d p = false ↔ ¬ p := @decide_eq_false_iff_not p (Classical.propDecidable p)
noncomputable def ib_ct (q : Int → Int → Int → Prop) : Nat := ib_U.countP (fun p => ib_d (q p.1 p.2.1 p.2.2))
theorem ib_memR {x : Int} : x ∈ ib_R ↔ -8 ≤ x ∧ x ≤ 8 := by
  unfold ib_R
  simp only [List.mem_cons, List.not_mem_nil, or_false]
  omega
theorem ib_memU {x y z : Int} : (x, y, z) ∈ ib_U ↔ (-8 ≤ x ∧ x ≤ 8) ∧ (-8 ≤ y ∧ y ≤ 8) ∧ (-8 ≤ z ∧ z ≤ 8) := by
  unfold ib_U
  simp only [List.mem_flatMap, List.mem_map, Prod.mk.injEq]
  constructor
  · rintro ⟨a, ha, b, hb, c, hc, e1, e2, e3⟩
    subst e1 e2 e3
    exact ⟨ib_memR.mp ha, ib_memR.mp hb, ib_memR.mp hc⟩
  · rintro ⟨h1, h2, h3⟩
    exact ⟨x, ib_memR.mpr h1, y, ib_memR.mpr h2, z, ib_memR.mpr h3, rfl, rfl, rfl⟩
theorem ib_ct_le {q q' : Int → Int → Int → Prop} (h : ∀ x y z, q x y z → q' x y z) : ib_ct q ≤ ib_ct q' := by
  unfold ib_ct
  apply List.countP_mono_left
  intro p _ hp
  rw [ib_dt] at hp ⊢
  exact h _ _ _ hp
theorem ib_ct_congr {q q' : Int → Int → Int → Prop} (h : ∀ x y z, q x y z ↔ q' x y z) : ib_ct q = ib_ct q' :=
  Nat.le_antisymm (ib_ct_le (fun x y z => (h x y z).mp)) (ib_ct_le (fun x y z => (h x y z).mpr))
theorem ib_cp_add {α : Type} (l : List α) (p p1 p2 : α → Bool) (h : ∀ a, p a = (p1 a || p2 a)) (hd : ∀ a, p1 a = true → p2 a = false) : l.countP p = l.countP p1 + l.countP p2 := by
  induction l with
  | nil => rfl
  | cons a l ih =>
    rw [List.countP_cons, List.countP_cons, List.countP_cons, ih, h a]
    have g := hd a
    cases h1 : p1 a <;> cases h2 : p2 a
    · simp
    · simp
      omega
    · simp
      omega
    · rw [h1, h2] at g
      exact absurd (g rfl) (by decide)
theorem ib_ct_add {q q1 q2 : Int → Int → Int → Prop} (h : ∀ x y z, q x y z ↔ q1 x y z ∨ q2 x y z) (hd : ∀ x y z, q1 x y z → ¬ q2 x y z) : ib_ct q = ib_ct q1 + ib_ct q2 := by
  unfold ib_ct
  apply ib_cp_add
  · intro p
    rw [Bool.eq_iff_iff, Bool.or_eq_true, ib_dt, ib_dt, ib_dt]
    exact h _ _ _
  · intro p hp
    rw [ib_dt] at hp
    rw [ib_df]
    exact hd _ _ _ hp
theorem ib_ct_pos {q : Int → Int → Int → Prop} {x y z : Int} (h : q x y z) (hx : -8 ≤ x ∧ x ≤ 8) (hy : -8 ≤ y ∧ y ≤ 8) (hz : -8 ≤ z ∧ z ≤ 8) : 0 < ib_ct q := by
  unfold ib_ct
  exact List.countP_pos_iff.mpr ⟨(x, y, z), ib_memU.mpr ⟨hx, hy, hz⟩, by rw [ib_dt]; exact h⟩
theorem ib_ct_ex {q : Int → Int → Int → Prop} (h : 0 < ib_ct q) : ∃ x y z, q x y z := by
  unfold ib_ct at h
  obtain ⟨p, _, hp⟩ := List.countP_pos_iff.mp h
  rw [ib_dt] at hp
  exact ⟨_, _, _, hp⟩
theorem ib_ct_no {q : Int → Int → Int → Prop} (h : ∀ x y z, ¬ q x y z) : ib_ct q = 0 := by
  rcases Nat.eq_zero_or_pos (ib_ct q) with e | e
  · exact e
  · obtain ⟨x, y, z, hq⟩ := ib_ct_ex e
    exact absurd hq (h x y z)
theorem ib_U_len : ib_U.length = 4913 := by decide +kernel
theorem ib_ct_max (q : Int → Int → Int → Prop) : ib_ct q ≤ 4913 := by
  have h : ib_ct q ≤ ib_U.length := List.countP_le_length
  rw [ib_U_len] at h
  exact h
theorem ib_c1 : ∀ a ∈ ib_R, ∀ b ∈ ib_R, a ≤ b → ((ib_R.countP (fun z => decide (a ≤ z ∧ z ≤ b)) : Nat) : Int) = b - a + 1 := by decide +kernel
theorem ib_sum_if {α : Type} (l : List α) (P : α → Bool) (c : Nat) (f : α → Nat) (h1 : ∀ a, P a = true → f a = c) (h0 : ∀ a, P a = false → f a = 0) : (l.map f).sum = l.countP P * c := by
  induction l with
  | nil => simp
  | cons a l ih =>
    rw [List.map_cons, List.sum_cons, ih, List.countP_cons]
    cases e : P a
    · rw [h0 a e]
      simp
    · rw [h1 a e]
      simp [Nat.add_mul]
      omega
theorem ib_cp_all {α : Type} (l : List α) (p p' : α → Bool) (h : ∀ a, p a = p' a) : l.countP p = l.countP p' := by
  have : p = p' := funext h
  rw [this]
theorem ib_ct_prod (l h : Nat → Int32) : ib_ct (ib_in l h) = ib_R.countP (fun x => decide ((l 0).toInt ≤ x ∧ x ≤ (h 0).toInt)) * (ib_R.countP (fun x => decide ((l 1).toInt ≤ x ∧ x ≤ (h 1).toInt)) * ib_R.countP (fun x => decide ((l 2).toInt ≤ x ∧ x ≤ (h 2).toInt))) := by
  unfold ib_ct ib_U
  rw [List.countP_flatMap]
  apply ib_sum_if
  · intro x hx
    rw [decide_eq_true_eq] at hx
    show List.countP _ _ = _
    rw [List.countP_flatMap]
    apply ib_sum_if
    · intro y hy
      rw [decide_eq_true_eq] at hy
      show List.countP _ _ = _
      rw [List.countP_map]
      apply ib_cp_all
      intro z
      rw [Bool.eq_iff_iff]
      show ib_d (ib_in l h x y z) = true ↔ _
      rw [ib_dt, decide_eq_true_eq]
      unfold ib_in
      constructor
      · intro g
        exact ⟨g.2.2.2.2.1, g.2.2.2.2.2⟩
      · intro g
        exact ⟨hx.1, hx.2, hy.1, hy.2, g.1, g.2⟩
    · intro y hy
      rw [decide_eq_false_iff_not] at hy
      show List.countP _ _ = _
      rw [List.countP_eq_zero]
      intro p hp
      obtain ⟨z, _, rfl⟩ := List.mem_map.mp hp
      show ¬ ib_d (ib_in l h x y z) = true
      rw [ib_dt]
      unfold ib_in
      intro g
      exact hy ⟨g.2.2.1, g.2.2.2.1⟩
  · intro x hx
    rw [decide_eq_false_iff_not] at hx
    show List.countP _ _ = _
    rw [List.countP_eq_zero]
    intro p hp
    obtain ⟨y, _, hp⟩ := List.mem_flatMap.mp hp
    obtain ⟨z, _, rfl⟩ := List.mem_map.mp hp
    show ¬ ib_d (ib_in l h x y z) = true
    rw [ib_dt]
    unfold ib_in
    intro g
    exact hx ⟨g.1, g.2.1⟩
theorem ib_ct_box {l h : Nat → Int32} (hr : ib_rg l h) : ∃ W0 W1 W2 : Nat, (W0 : Int) = (h 0).toInt - (l 0).toInt + 1 ∧ (W1 : Int) = (h 1).toInt - (l 1).toInt + 1 ∧ (W2 : Int) = (h 2).toInt - (l 2).toInt + 1 ∧ ib_ct (ib_in l h) = W0 * (W1 * W2) := by
  obtain ⟨⟨r1, r2, r3⟩, ⟨r4, r5, r6⟩, ⟨r7, r8, r9⟩⟩ := hr
  exact ⟨_, _, _, ib_c1 _ (ib_memR.mpr (by omega)) _ (ib_memR.mpr (by omega)) r2, ib_c1 _ (ib_memR.mpr (by omega)) _ (ib_memR.mpr (by omega)) r5, ib_c1 _ (ib_memR.mpr (by omega)) _ (ib_memR.mpr (by omega)) r8, ib_ct_prod l h⟩
theorem ib_ct_rg {l h : Nat → Int32} (hr : ib_rg l h) : 0 < ib_ct (ib_in l h) := by
  obtain ⟨⟨r1, r2, r3⟩, ⟨r4, r5, r6⟩, ⟨r7, r8, r9⟩⟩ := hr
  exact ib_ct_pos (x := (l 0).toInt) (y := (l 1).toInt) (z := (l 2).toInt) ⟨Int.le_refl _, r2, Int.le_refl _, r5, Int.le_refl _, r8⟩ (by omega) (by omega) (by omega)
end
section
/-! ===== the walks of the methods over one box ===== -/
section
variable {L0 A0 D0 : Int32} {a1 a2 a3 a4 a5 a6 a7 a8 a9 a10 a11 : Nat → Int32}
theorem ib_ix3 {i v : Nat} : nI i * 3 + nI v = nI (i * 3 + v) := by
  show nI i * nI 3 + nI v = _
  rw [pk_mul, nI_add]
theorem ib_leastTerm {post : Int32 → Prop} {i v : Nat} (hi : i < 8) (hv : v < 3) (hp : post (ib_lo (a3 (i * 3 + v)) (a9 v) (a10 v))) : wpX_leastTerm post (L0, A0, D0, a1, a2, a3, a4, a5, a6, a7, a8, a9, a10, a11) (nI i) (nI v) := by
  unfold wpX_leastTerm
  dsimp only
  rw [ib_ix3, nI_clamp (show i * 3 + v < 2 ^ 31 by omega), nI_clamp (show v < 2 ^ 31 by omega)]
  refine ⟨vp_in_nI (by omega) (by omega), nm_e ?_⟩
  unfold ib_lo at hp
  by_cases hf : a3 (i * 3 + v) ≤ 0
  · rw [if_pos hf] at hp
    exact br_t hf ⟨vp_in_nI hv (by omega), hp⟩
  · rw [if_neg hf] at hp
    exact br_f hf ⟨vp_in_nI hv (by omega), hp⟩
theorem ib_greatestTerm {post : Int32 → Prop} {i v : Nat} (hi : i < 8) (hv : v < 3) (hp : post (ib_hi (a3 (i * 3 + v)) (a9 v) (a10 v))) : wpX_greatestTerm post (L0, A0, D0, a1, a2, a3, a4, a5, a6, a7, a8, a9, a10, a11) (nI i) (nI v) := by
  unfold wpX_greatestTerm
  dsimp only
  rw [ib_ix3, nI_clamp (show i * 3 + v < 2 ^ 31 by omega), nI_clamp (show v < 2 ^ 31 by omega)]
  refine ⟨vp_in_nI (by omega) (by omega), nm_e ?_⟩
  unfold ib_hi at hp
  by_cases hf : a3 (i * 3 + v) ≤ 0
  · rw [if_pos hf] at hp
    exact br_t hf ⟨vp_in_nI hv (by omega), hp⟩
  · rw [if_neg hf] at hp
    exact br_f hf ⟨vp_in_nI hv (by omega), hp⟩
theorem ib_leastSum {post : Int32 → Prop} {i : Nat} (hi : i < 8) (hp : post (ib_ls a3 a9 a10 i)) : wpX_leastSum post (L0, A0, D0, a1, a2, a3, a4, a5, a6, a7, a8, a9, a10, a11) (nI i) := by
  unfold wpX_leastSum
  dsimp only
  exact ib_leastTerm (v := 0) hi (by omega) (ib_leastTerm (v := 1) hi (by omega) (ib_leastTerm (v := 2) hi (by omega) hp))
theorem ib_greatestSum {post : Int32 → Prop} {i : Nat} (hi : i < 8) (hp : post (ib_gs a3 a9 a10 i)) : wpX_greatestSum post (L0, A0, D0, a1, a2, a3, a4, a5, a6, a7, a8, a9, a10, a11) (nI i) := by
  unfold wpX_greatestSum
  dsimp only
  exact ib_greatestTerm (v := 0) hi (by omega) (ib_greatestTerm (v := 1) hi (by omega) (ib_greatestTerm (v := 2) hi (by omega) hp))
theorem ib_empty {post : Int32 → Prop} (h1 : ib_emp a9 a10 → post 1) (h0 : ¬ ib_emp a9 a10 → post 0) : wpX_empty post (L0, A0, D0, a1, a2, a3, a4, a5, a6, a7, a8, a9, a10, a11) := by
  unfold wpX_empty
  dsimp only
  unfold ib_emp at h1 h0
  refine br_c (fun g => h1 (Or.inl g)) (fun g => br_c (fun g2 => h1 (Or.inr (Or.inl g2))) (fun g2 => br_c (fun g3 => h0 ?_) (fun g3 => h1 (Or.inr (Or.inr ?_)))))
  · rw [ib_lt, ib_lt, ib_lt]
    rw [ib_lt] at g g2
    rw [ib_le] at g3
    omega
  · rw [ib_lt]
    rw [ib_le] at g3
    omega
theorem ib_counts {post : Int32 → Prop} {i : Nat} (h1 : ib_act A0 i → post 1) (h0 : ¬ ib_act A0 i → post 0) : wpX_counts post (L0, A0, D0, a1, a2, a3, a4, a5, a6, a7, a8, a9, a10, a11) (nI i) := by
  unfold wpX_counts
  dsimp only
  exact br_c h1 h0
theorem ib_tdiv {X Y : Int} (hy : 0 < Y) (hy2 : Y ≤ 5) (hx : -1000 ≤ X) (hx2 : X ≤ 1000) : ∃ q : Int, X.tdiv Y = q ∧ -1000 ≤ q ∧ q ≤ 1000 ∧ -6000 ≤ q * Y ∧ q * Y ≤ 6000 ∧ ((q * Y ≤ X ∧ q = X / Y) ∨ (X < q * Y ∧ q - 1 = X / Y)) := by
  have hc : Y = 1 ∨ Y = 2 ∨ Y = 3 ∨ Y = 4 ∨ Y = 5 := by omega
  by_cases h : 0 ≤ X
  · refine ⟨X / Y, Int.tdiv_eq_ediv_of_nonneg h, ?_⟩
    rcases hc with e | e | e | e | e <;> subst e <;> omega
  · have e2 : X.tdiv Y = -((-X) / Y) := by
      have : (-X).tdiv Y = (-X) / Y := Int.tdiv_eq_ediv_of_nonneg (by omega)
      rw [← this, Int.neg_tdiv, Int.neg_neg]
    refine ⟨_, e2, ?_⟩
    rcases hc with e | e | e | e | e <;> subst e <;> omega
theorem ib_floorDivide {post : Int32 → Prop} {x y : Int32} (hy : 0 < y.toInt) (hy2 : y.toInt ≤ 5) (hx : -1000 ≤ x.toInt) (hx2 : x.toInt ≤ 1000) (hp : ∀ r : Int32, r.toInt = x.toInt / y.toInt → post r) : wpX_floorDivide post () x y := by
  have e0 : (0 : Int32).toInt = 0 := by decide
  have e1 : (1 : Int32).toInt = 1 := by decide
  have em : (-1 : Int32).toInt = -1 := by decide
  have h0 : ¬ y ≤ 0 := by rw [ib_le, e0]; omega
  have hn : ¬ y = 0 := by rw [ib_eq, e0]; omega
  have hm : y ≠ -1 := by
    intro h
    rw [h, em] at hy
    omega
  have hq : (x / y).toInt = x.toInt.tdiv y.toInt := Int32.toInt_div_of_ne_right x y hm
  obtain ⟨q, k0, k1, k2, k3, k4, k5⟩ := ib_tdiv hy hy2 hx hx2
  rw [k0] at hq
  have hmul : (x / y * y).toInt = q * y.toInt := by
    rw [ib_mul (by rw [hq]; omega) (by rw [hq]; omega), hq]
  unfold wpX_floorDivide
  refine br_f h0 ⟨hn, ?_⟩
  unfold wX_floorDivide_11
  refine br_c (fun g => hp _ ?_) (fun g => hp _ ?_)
  · rw [ib_le, hmul] at g
    rw [hq]
    omega
  · rw [ib_le, hmul] at g
    rw [ib_sub (by rw [hq, e1]; omega) (by rw [hq, e1]; omega), hq, e1]
    omega
theorem ib_room {i v : Nat} (hi : i < 8) (hv : v < 3) (hw : ib_wf a3 a4) (hr : ib_rg a9 a10) :
    ∃ R : Int, (a4 i - (ib_ls a3 a9 a10 i - ib_lo (a3 (i * 3 + v)) (a9 v) (a10 v))).toInt = R ∧ -1000 ≤ R ∧ R ≤ 1000 ∧ ∀ x y z, ib_in a9 a10 x y z → ib_lin a3 i x y z ≤ (a4 i).toInt → (a3 (i * 3 + v)).toInt * ib_co v x y z ≤ R := by
  obtain ⟨t0, t1, t2, E0, E1, E2, ES, b0, b1, b2, hk⟩ := ib_ls_z hw hr hi
  have hb := hw.2 i hi
  rcases ib_v3 hv with e | e | e <;> subst e
  · refine ⟨(a4 i).toInt - (t0 + t1 + t2 - t0), ?_, by omega, by omega, fun x y z hin hc => ?_⟩
    · have s1 : (ib_ls a3 a9 a10 i - ib_lo (a3 (i * 3 + 0)) (a9 0) (a10 0)).toInt = t0 + t1 + t2 - t0 := by
        rw [ib_sub (by omega) (by omega), ES, E0]
      rw [ib_sub (by omega) (by omega), s1]
    · have := hk x y z hin
      unfold ib_lin at hc
      simp only [ib_co, if_true]
      omega
  · refine ⟨(a4 i).toInt - (t0 + t1 + t2 - t1), ?_, by omega, by omega, fun x y z hin hc => ?_⟩
    · have s1 : (ib_ls a3 a9 a10 i - ib_lo (a3 (i * 3 + 1)) (a9 1) (a10 1)).toInt = t0 + t1 + t2 - t1 := by
        rw [ib_sub (by omega) (by omega), ES, E1]
      rw [ib_sub (by omega) (by omega), s1]
    · have := hk x y z hin
      unfold ib_lin at hc
      simp only [ib_co, if_true, if_neg (show ¬ (1 : Nat) = 0 by decide)]
      omega
  · refine ⟨(a4 i).toInt - (t0 + t1 + t2 - t2), ?_, by omega, by omega, fun x y z hin hc => ?_⟩
    · have s1 : (ib_ls a3 a9 a10 i - ib_lo (a3 (i * 3 + 2)) (a9 2) (a10 2)).toInt = t0 + t1 + t2 - t2 := by
        rw [ib_sub (by omega) (by omega), ES, E2]
      rw [ib_sub (by omega) (by omega), s1]
    · have := hk x y z hin
      unfold ib_lin at hc
      simp only [ib_co, if_neg (show ¬ (2 : Nat) = 0 by decide), if_neg (show ¬ (2 : Nat) = 1 by decide)]
      omega
/-- what a narrowing that answers r has done to the box -/
def ib_did (r : Int32) (l h l' h' : Nat → Int32) : Prop := (r = 0 ∧ l' = l ∧ h' = h) ∨ (r = 1 ∧ (ib_emp l' h' ∨ ib_wd l' h' < ib_wd l h))
theorem ib_narrow {post : Int32 → St1 → Prop} {i v : Nat} (hi : i < 8) (hv : v < 3) (hw : ib_wf a3 a4) (hr : ib_rg a9 a10)
    (hp : ∀ (r : Int32) (l h : Nat → Int32), ib_NV (fun x y z => ib_lin a3 i x y z ≤ (a4 i).toInt) a9 a10 l h → ib_did r a9 a10 l h → post r (L0, A0, D0, a1, a2, a3, a4, a5, a6, a7, a8, l, h, a11)) :
    wpX_narrow post (L0, A0, D0, a1, a2, a3, a4, a5, a6, a7, a8, a9, a10, a11) (nI i) (nI v) := by
  have e0 : (0 : Int32).toInt = 0 := by decide
  have h8 : (a10 0).toInt ≤ 8 := hr.1.2.2
  have hf := hw.1 (i * 3 + v) (by omega)
  obtain ⟨R, hR, r1, r2, hk⟩ := ib_room (v := v) hi hv hw hr
  unfold wpX_narrow
  dsimp only
  rw [ib_ix3, nI_clamp (show i * 3 + v < 2 ^ 31 by omega), nI_clamp (show v < 2 ^ 31 by omega), nI_clamp (show i < 2 ^ 31 by omega)]
  refine ⟨vp_in_nI (by omega) (by omega), nm_e (br_c (fun _ => hp 0 a9 a10 (ib_NV_refl h8) (Or.inl ⟨rfl, rfl, rfl⟩)) (fun hf0 => ⟨vp_in_nI hi (by omega), ib_leastSum hi (ib_leastTerm hi hv (nm_e (br_c (fun hneg => ?_) (fun hpos => ?_))))⟩))⟩
  · rw [ib_le, e0] at hneg
    rw [ib_eq, e0] at hf0
    have hn : (-a3 (i * 3 + v)).toInt = -(a3 (i * 3 + v)).toInt := ib_neg (by omega)
    refine ib_floorDivide (by omega) (by omega) (by omega) (by omega) (fun r hrr => nm_e ⟨vp_in_nI hv (by omega), br_c (fun g => ⟨vp_in_nI hv (by omega), nm_e ?_⟩) (fun g => hp 0 a9 a10 (ib_NV_refl h8) (Or.inl ⟨rfl, rfl, rfl⟩))⟩)
    rw [hR, hn] at hrr
    have hrb : -1000 ≤ r.toInt ∧ r.toInt ≤ 1000 := by
      obtain ⟨q, _, k1, k2, _, _, k5⟩ := ib_tdiv (X := R) (Y := -(a3 (i * 3 + v)).toInt) (by omega) (by omega) r1 r2
      have h1 : r.toInt ≤ 1000 := by omega
      refine ⟨?_, h1⟩
      have hc : -(a3 (i * 3 + v)).toInt = 1 ∨ -(a3 (i * 3 + v)).toInt = 2 ∨ -(a3 (i * 3 + v)).toInt = 3 ∨ -(a3 (i * 3 + v)).toInt = 4 ∨ -(a3 (i * 3 + v)).toInt = 5 := by omega
      rcases hc with e | e | e | e | e <;> rw [e] at hrr <;> omega
    have hnr : (-r).toInt = -r.toInt := ib_neg (by omega)
    have N := ib_NV_lo (C := fun x y z => ib_lin a3 i x y z ≤ (a4 i).toInt) hv hr g (fun x y z hin hc => by
      have h1 := hk x y z hin hc
      have h2 : -(ib_co v x y z) ≤ r.toInt := by
        rw [hrr]
        apply Int.le_ediv_of_mul_le (by omega)
        rw [Int.neg_mul_neg, Int.mul_comm]
        exact h1
      omega)
    exact hp 1 _ _ N.1 (Or.inr ⟨rfl, Or.inr N.2⟩)
  · rw [ib_le, e0] at hpos
    refine ib_floorDivide (by omega) (by omega) (by omega) (by omega) (fun r hrr => ⟨vp_in_nI hv (by omega), br_c (fun g => ⟨vp_in_nI hv (by omega), nm_e ?_⟩) (fun g => hp 0 a9 a10 (ib_NV_refl h8) (Or.inl ⟨rfl, rfl, rfl⟩))⟩)
    rw [hR] at hrr
    have N := ib_NV_hi (C := fun x y z => ib_lin a3 i x y z ≤ (a4 i).toInt) hv hr g (fun x y z hin hc => by
      have h1 := hk x y z hin hc
      rw [hrr]
      apply Int.le_ediv_of_mul_le (by omega)
      rw [Int.mul_comm]
      exact h1)
    exact hp 1 _ _ N.1 (Or.inr ⟨rfl, Or.inr N.2⟩)
/-- a box that is empty may stand where one of the range stood: what the inner loops hold -/
def ib_ok (l h : Nat → Int32) : Prop := (h 0).toInt ≤ 8 ∧ (¬ ib_emp l h → ib_rg l h)
theorem ib_narrowBy37 {post : Int32 → St1 → Prop} {i : Nat} {F : Int → Int → Int → Prop} (hi : i < 8) (hw : ib_wf a3 a4) (hF : ∀ x y z, F x y z → ib_lin a3 i x y z ≤ (a4 i).toInt) (ho : ib_ok a9 a10)
    (hp : ∀ (r : Int32) (l h : Nat → Int32), ib_NV F a9 a10 l h → ib_ok l h → ib_did r a9 a10 l h → post r (L0, A0, D0, a1, a2, a3, a4, a5, a6, a7, a8, l, h, a11)) :
    ∃ n, wX_narrowBy_37 post (nI i) n 0 0 L0 A0 D0 a1 a2 a3 a4 a5 a6 a7 a8 a9 a10 a11 := by
  refine pk_loop (σ := Int32 × (Nat → Int32) × (Nat → Int32)) (fun n v s => wX_narrowBy_37 post (nI i) n s.1 (nI v) L0 A0 D0 a1 a2 a3 a4 a5 a6 a7 a8 s.2.1 s.2.2 a11) (fun v s => ib_NV F a9 a10 s.2.1 s.2.2 ∧ ib_ok s.2.1 s.2.2 ∧ ib_did s.1 a9 a10 s.2.1 s.2.2) 3 0 (0, a9, a10) (by omega) ⟨ib_NV_refl ho.1, ho, Or.inl ⟨rfl, rfl, rfl⟩⟩ ?_ ?_
  · rintro n ⟨x, l, h⟩ ⟨h1, h2, h3⟩
    refine pk_le 3 3 (fun _ => ⟨?_, hp x l h h1 h2 h3⟩) (fun z => absurd z (by omega))
    rcases h3 with ⟨e, _⟩ | ⟨e, _⟩
    · dsimp only at e
      subst e
      show narrow .boolean (.int 0) = .int 0
      decide
    · dsimp only at e
      subst e
      show narrow .boolean (.int 1) = .int 1
      decide
  · rintro n v ⟨x, l, h⟩ hv ⟨h1, h2, h3⟩ hwk
    dsimp only at h1 h2 h3
    have fin : ∀ (r l' h'), ib_NV F l h l' h' → ib_ok l' h' → ib_did r l h l' h' → wX_narrowBy_65 post (wX_narrowBy_37 post (nI i) n) (nI i) x (nI v) r L0 A0 D0 a1 a2 a3 a4 a5 a6 a7 a8 l' h' a11 := by
      intro r l' h' q1 q2 q3
      have T := ib_NV_trans h1 q1
      unfold wX_narrowBy_65
      rcases h3 with ⟨e, el, eh⟩ | ⟨e, g⟩
      · subst e
        rcases q3 with ⟨e', el', eh'⟩ | ⟨e', g'⟩
        · subst e'
          refine br_t rfl (br_t rfl (nm_r (nI_1 v) (hwk (0, l', h') ⟨T, q2, Or.inl ⟨rfl, by rw [el', el], by rw [eh', eh]⟩⟩)))
        · subst e'
          refine br_t rfl (br_f (by decide) (nm_r (nI_1 v) (hwk (1, l', h') ⟨T, q2, Or.inr ⟨rfl, ?_⟩⟩)))
          rw [el, eh] at g'
          exact g'
      · subst e
        refine br_f (by decide) (nm_r (nI_1 v) (hwk (1, l', h') ⟨T, q2, Or.inr ⟨rfl, ?_⟩⟩))
        rcases q3 with ⟨e', el', eh'⟩ | ⟨e', g'⟩
        · rw [el', eh']
          exact g
        · rcases g' with g' | g'
          · exact Or.inl g'
          · rcases g with g | g
            · rcases q1.2 with ⟨qe, _⟩ | ⟨_, qs, _⟩
              · exact Or.inl qe
              · exact Or.inl (ib_sub_emp qs g)
            · exact Or.inr (by dsimp only; omega)
    refine pk_le 3 v (fun z => absurd z (by omega)) (fun _ => ib_empty (fun he => br_f (by decide) ?_) (fun he => br_t rfl ?_))
    · exact fin 0 l h (ib_NV_refl h2.1) h2 (Or.inl ⟨rfl, rfl, rfl⟩)
    · refine ib_narrow hi hv hw (h2.2 he) (fun r l' h' q1 q3 => ?_)
      have q2 : ib_ok l' h' := ⟨q1.1, fun he' => ib_NV_rg (h2.2 he) q1 he'⟩
      have q1' := ib_NV_mono hF q1
      rcases q3 with ⟨e', el', eh'⟩ | ⟨e', g'⟩
      · exact br_t e' (fin 0 l' h' q1' q2 (Or.inl ⟨rfl, el', eh'⟩))
      · exact br_f (by rw [e']; decide) (fin 1 l' h' q1' q2 (Or.inr ⟨rfl, g'⟩))
theorem ib_narrowBy {post : Int32 → St1 → Prop} {i : Nat} {F : Int → Int → Int → Prop} (hi : i < 8) (hw : ib_wf a3 a4) (hF : ∀ x y z, F x y z → ib_lin a3 i x y z ≤ (a4 i).toInt) (ho : ib_ok a9 a10)
    (hp : ∀ (r : Int32) (l h : Nat → Int32), ib_NV F a9 a10 l h → ib_ok l h → ib_did r a9 a10 l h → (r = 0 → ib_ls a3 a9 a10 i ≤ a4 i) → post r (L0, A0, D0, a1, a2, a3, a4, a5, a6, a7, a8, l, h, a11)) :
    wpX_narrowBy post (L0, A0, D0, a1, a2, a3, a4, a5, a6, a7, a8, a9, a10, a11) (nI i) := by
  unfold wpX_narrowBy
  dsimp only
  rw [nI_clamp (show i < 2 ^ 31 by omega)]
  refine ib_leastSum hi ⟨vp_in_nI hi (by omega), br_c (fun g => ?_) (fun g => nm_e ?_)⟩
  · exact ib_narrowBy37 hi hw hF ho (fun r l h q1 q2 q3 => hp r l h q1 q2 q3 (fun _ => g))
  · have e1 : (1 : Int32).toInt = 1 := by decide
    have h8 := ho.1
    have hmin := Int32.le_toInt (a10 0)
    have ha : (a10 0 + 1).toInt = (a10 0).toInt + 1 := by
      rw [ib_add (by rw [e1]; omega) (by rw [e1]; omega), e1]
    have he : ib_emp (upd a9 0 (a10 0 + 1)) a10 := by
      refine Or.inl ?_
      rw [pk_us, ib_lt, ha]
      omega
    refine hp 1 _ _ ⟨h8, Or.inl ⟨he, fun x y z hin hc => ?_⟩⟩ ⟨h8, fun h => absurd he h⟩ (Or.inr ⟨rfl, Or.inl he⟩) (fun z => absurd z (by decide))
    by_cases hem : ib_emp a9 a10
    · exact ib_emp_no hem hin
    · obtain ⟨t0, t1, t2, E0, E1, E2, ES, b0, b1, b2, hk⟩ := ib_ls_z hw (ho.2 hem) hi
      have := hk x y z hin
      have h2 := hF x y z hc
      unfold ib_lin at h2
      rw [ib_le, ES] at g
      omega
end
end
section
/-! ===== halves of a box; the stack as a list, the top first ===== -/
def ib_lx (x y z x' y' z' : Int) : Prop := x < x' ∨ (x = x' ∧ (y < y' ∨ (y = y' ∧ z < z')))
/-- how often a range of w + 1 numbers can be halved -/
def ib_g1 (w : Int) : Nat := if w ≤ 0 then 0 else if w ≤ 1 then 1 else if w ≤ 3 then 2 else if w ≤ 7 then 3 else if w ≤ 15 then 4 else 5
theorem ib_g1_5 (w : Int) : ib_g1 w ≤ 5 := by
  unfold ib_g1
  repeat' split
  all_goals omega
theorem ib_g1_mono {w w' : Int} (h : w ≤ w') : ib_g1 w ≤ ib_g1 w' := by
  unfold ib_g1
  repeat' split
  all_goals omega
theorem ib_g1_half {w w' : Int} (h1 : 1 ≤ w) (h2 : w ≤ 16) (h : w' ≤ w / 2) : ib_g1 w' + 1 ≤ ib_g1 w := by
  unfold ib_g1
  repeat' split
  all_goals omega
def ib_lg (l h : Nat → Int32) : Nat := ib_g1 ((h 0).toInt - (l 0).toInt) + ib_g1 ((h 1).toInt - (l 1).toInt) + ib_g1 ((h 2).toInt - (l 2).toInt)
theorem ib_lg_15 (l h : Nat → Int32) : ib_lg l h ≤ 15 := by
  unfold ib_lg
  have h1 := ib_g1_5 ((h 0).toInt - (l 0).toInt)
  have h2 := ib_g1_5 ((h 1).toInt - (l 1).toInt)
  have h3 := ib_g1_5 ((h 2).toInt - (l 2).toInt)
  omega
theorem ib_lg_sub {l h l' h' : Nat → Int32} (hs : ib_sub3 l h l' h') : ib_lg l' h' ≤ ib_lg l h := by
  obtain ⟨⟨s1, s2⟩, ⟨s3, s4⟩, ⟨s5, s6⟩⟩ := hs
  unfold ib_lg
  have h1 := ib_g1_mono (w := (h' 0).toInt - (l' 0).toInt) (w' := (h 0).toInt - (l 0).toInt) (by omega)
  have h2 := ib_g1_mono (w := (h' 1).toInt - (l' 1).toInt) (w' := (h 1).toInt - (l 1).toInt) (by omega)
  have h3 := ib_g1_mono (w := (h' 2).toInt - (l' 2).toInt) (w' := (h 2).toInt - (l 2).toInt) (by omega)
  omega
/-- the two halves of a box, the lower one first -/
def ib_two (l h l1 h1 l2 h2 : Nat → Int32) : Prop := (ib_rg l1 h1 ∧ ib_rg l2 h2) ∧ (∀ x y z, ib_in l h x y z ↔ ib_in l1 h1 x y z ∨ ib_in l2 h2 x y z) ∧ (∀ x y z x' y' z', ib_in l1 h1 x y z → ib_in l2 h2 x' y' z' → ib_lx x y z x' y' z') ∧ ib_lg l1 h1 + 1 ≤ ib_lg l h ∧ ib_lg l2 h2 + 1 ≤ ib_lg l h
theorem ib_two_mk {l h : Nat → Int32} {v : Nat} {m m1 : Int32} (hv : v < 3) (hr : ib_rg l h) (hk : ∀ k, k < v → (l k).toInt = (h k).toInt) (hlt : (l v).toInt < (h v).toInt) (hm : m.toInt = ((l v).toInt + (h v).toInt) / 2) (hm1 : m1.toInt = m.toInt + 1) : ib_two l h l (upd h v m) (upd l v m1) h := by
  obtain ⟨⟨r1, r2, r3⟩, ⟨r4, r5, r6⟩, ⟨r7, r8, r9⟩⟩ := hr
  rcases ib_v3 hv with e | e | e <;> subst e
  · have u0 : upd h 0 m 0 = m := pk_us
    have u1 : upd h 0 m 1 = h 1 := pk_un (by decide)
    have u2 : upd h 0 m 2 = h 2 := pk_un (by decide)
    have w0 : upd l 0 m1 0 = m1 := pk_us
    have w1 : upd l 0 m1 1 = l 1 := pk_un (by decide)
    have w2 : upd l 0 m1 2 = l 2 := pk_un (by decide)
    have g1 := ib_g1_half (w := (h 0).toInt - (l 0).toInt) (w' := m.toInt - (l 0).toInt) (by omega) (by omega) (by omega)
    have g2 := ib_g1_half (w := (h 0).toInt - (l 0).toInt) (w' := (h 0).toInt - m1.toInt) (by omega) (by omega) (by omega)
    unfold ib_two ib_rg ib_in ib_lg ib_lx
    rw [u0, u1, u2, w0, w1, w2]
    refine ⟨by omega, fun x y z => by omega, fun x y z x' y' z' => by omega, by omega, by omega⟩
  · have k0 := hk 0 (by omega)
    have u0 : upd h 1 m 0 = h 0 := pk_un (by decide)
    have u1 : upd h 1 m 1 = m := pk_us
    have u2 : upd h 1 m 2 = h 2 := pk_un (by decide)
    have w0 : upd l 1 m1 0 = l 0 := pk_un (by decide)
    have w1 : upd l 1 m1 1 = m1 := pk_us
    have w2 : upd l 1 m1 2 = l 2 := pk_un (by decide)
    have g1 := ib_g1_half (w := (h 1).toInt - (l 1).toInt) (w' := m.toInt - (l 1).toInt) (by omega) (by omega) (by omega)
    have g2 := ib_g1_half (w := (h 1).toInt - (l 1).toInt) (w' := (h 1).toInt - m1.toInt) (by omega) (by omega) (by omega)
    unfold ib_two ib_rg ib_in ib_lg ib_lx
    rw [u0, u1, u2, w0, w1, w2]
    refine ⟨by omega, fun x y z => by omega, fun x y z x' y' z' => by omega, by omega, by omega⟩
  · have k0 := hk 0 (by omega)
    have k1 := hk 1 (by omega)
    have u0 : upd h 2 m 0 = h 0 := pk_un (by decide)
    have u1 : upd h 2 m 1 = h 1 := pk_un (by decide)
    have u2 : upd h 2 m 2 = m := pk_us
    have w0 : upd l 2 m1 0 = l 0 := pk_un (by decide)
    have w1 : upd l 2 m1 1 = l 1 := pk_un (by decide)
    have w2 : upd l 2 m1 2 = m1 := pk_us
    have g1 := ib_g1_half (w := (h 2).toInt - (l 2).toInt) (w' := m.toInt - (l 2).toInt) (by omega) (by omega) (by omega)
    have g2 := ib_g1_half (w := (h 2).toInt - (l 2).toInt) (w' := (h 2).toInt - m1.toInt) (by omega) (by omega) (by omega)
    unfold ib_two ib_rg ib_in ib_lg ib_lx
    rw [u0, u1, u2, w0, w1, w2]
    refine ⟨by omega, fun x y z => by omega, fun x y z x' y' z' => by omega, by omega, by omega⟩
abbrev ib_Bx : Type := (Nat → Int32) × (Nat → Int32)
/-- the arrays hold the stack -/
def ib_rep (a7 a8 : Nat → Int32) : List ib_Bx → Prop
  | [] => True
  | b :: s => (∀ k, k < 3 → a7 (s.length * 3 + k) = b.1 k ∧ a8 (s.length * 3 + k) = b.2 k) ∧ ib_rep a7 a8 s
/-- every box is of the range and has room above it for its cuts -/
def ib_fit : List ib_Bx → Prop
  | [] => True
  | b :: s => (ib_rg b.1 b.2 ∧ ib_lg b.1 b.2 + s.length ≤ 15) ∧ ib_fit s
/-- how many boxes may still come -/
noncomputable def ib_ms : List ib_Bx → Nat
  | [] => 0
  | b :: s => (2 * ib_ct (ib_in b.1 b.2) - 1) + ib_ms s
theorem ib_rep_fr {a7 a8 a7' a8' : Nat → Int32} : ∀ {s : List ib_Bx}, (∀ j, j < s.length * 3 → a7' j = a7 j ∧ a8' j = a8 j) → ib_rep a7 a8 s → ib_rep a7' a8' s
  | [], _, _ => trivial
  | b :: s, h, hr => by
    refine ⟨fun k hk => ?_, ib_rep_fr (fun j hj => h j (by rw [List.length_cons]; omega)) hr.2⟩
    have := h (s.length * 3 + k) (by rw [List.length_cons]; omega)
    rw [this.1, this.2]
    exact hr.1 k hk
theorem ib_in_congr {l h l' h' : Nat → Int32} (e : ∀ k, k < 3 → l' k = l k ∧ h' k = h k) (x y z : Int) : ib_in l' h' x y z ↔ ib_in l h x y z := by
  unfold ib_in
  rw [(e 0 (by omega)).1, (e 0 (by omega)).2, (e 1 (by omega)).1, (e 1 (by omega)).2, (e 2 (by omega)).1, (e 2 (by omega)).2]
theorem ib_rg_congr {l h l' h' : Nat → Int32} (e : ∀ k, k < 3 → l' k = l k ∧ h' k = h k) : ib_rg l' h' ↔ ib_rg l h := by
  unfold ib_rg
  rw [(e 0 (by omega)).1, (e 0 (by omega)).2, (e 1 (by omega)).1, (e 1 (by omega)).2, (e 2 (by omega)).1, (e 2 (by omega)).2]
theorem ib_lg_congr {l h l' h' : Nat → Int32} (e : ∀ k, k < 3 → l' k = l k ∧ h' k = h k) : ib_lg l' h' = ib_lg l h := by
  unfold ib_lg
  rw [(e 0 (by omega)).1, (e 0 (by omega)).2, (e 1 (by omega)).1, (e 1 (by omega)).2, (e 2 (by omega)).1, (e 2 (by omega)).2]
theorem ib_two_ct {l h l1 h1 l2 h2 : Nat → Int32} (ht : ib_two l h l1 h1 l2 h2) (F : Int → Int → Int → Prop) : ib_ct (fun x y z => ib_in l h x y z ∧ F x y z) = ib_ct (fun x y z => ib_in l1 h1 x y z ∧ F x y z) + ib_ct (fun x y z => ib_in l2 h2 x y z ∧ F x y z) := by
  apply ib_ct_add
  · intro x y z
    rw [ht.2.1 x y z]
    constructor
    · rintro ⟨g | g, f⟩
      · exact Or.inl ⟨g, f⟩
      · exact Or.inr ⟨g, f⟩
    · rintro (⟨g, f⟩ | ⟨g, f⟩)
      · exact ⟨Or.inl g, f⟩
      · exact ⟨Or.inr g, f⟩
  · rintro x y z ⟨g, _⟩ ⟨g', _⟩
    have := ht.2.2.1 x y z x y z g g'
    unfold ib_lx at this
    omega
theorem ib_two_vol {l h l1 h1 l2 h2 : Nat → Int32} (ht : ib_two l h l1 h1 l2 h2) : ib_ct (ib_in l h) = ib_ct (ib_in l1 h1) + ib_ct (ib_in l2 h2) := by
  apply ib_ct_add
  · exact ht.2.1
  · intro x y z g g'
    have := ht.2.2.1 x y z x y z g g'
    unfold ib_lx at this
    omega
end
section
/-! ===== narrowing by all limits; the questions about one box ===== -/
section
variable {L0 A0 D0 : Int32} {a1 a2 a3 a4 a5 a6 a7 a8 a9 a10 a11 : Nat → Int32}
/-- no limit that counts is out of the box's reach -/
def ib_st (s : Int32) (a3 a4 l h : Nat → Int32) : Prop := ∀ i, i < 8 → ib_act s i → ib_ls a3 l h i ≤ a4 i
theorem ib_10 : ¬ (1 : Int32) = 0 := by decide
theorem ib_narrowAll25 {post : St1 → Prop} {J : Int32 → Int32 → Int32 → Int32 → Int32 → (Nat → Int32) → (Nat → Int32) → (Nat → Int32) → (Nat → Int32) → (Nat → Int32) → (Nat → Int32) → (Nat → Int32) → (Nat → Int32) → (Nat → Int32) → (Nat → Int32) → (Nat → Int32) → Prop} {p : Nat} (hw : ib_wf a3 a4) (ho : ib_ok a9 a10)
    (hJ : ∀ (x1 : Int32) (l h : Nat → Int32), ib_NV (ib_F A0 a3 a4) a9 a10 l h → ib_ok l h → ib_did x1 a9 a10 l h → (x1 = 0 → ib_st A0 a3 a4 a9 a10) → J x1 (nI (p + 1)) L0 A0 D0 a1 a2 a3 a4 a5 a6 a7 a8 l h a11) :
    ∃ n, wX_narrowAll_25 post J (nI p) n 0 0 L0 A0 D0 a1 a2 a3 a4 a5 a6 a7 a8 a9 a10 a11 := by
  refine pk_loop (σ := Int32 × (Nat → Int32) × (Nat → Int32)) (fun n i s => wX_narrowAll_25 post J (nI p) n s.1 (nI i) L0 A0 D0 a1 a2 a3 a4 a5 a6 a7 a8 s.2.1 s.2.2 a11) (fun i s => ib_NV (ib_F A0 a3 a4) a9 a10 s.2.1 s.2.2 ∧ ib_ok s.2.1 s.2.2 ∧ ib_did s.1 a9 a10 s.2.1 s.2.2 ∧ (s.1 = 0 → ∀ j, j < i → ib_act A0 j → ib_ls a3 a9 a10 j ≤ a4 j)) 8 0 (0, a9, a10) (by omega) ⟨ib_NV_refl ho.1, ho, Or.inl ⟨rfl, rfl, rfl⟩, fun _ j hj => absurd hj (by omega)⟩ ?_ ?_
  · rintro n ⟨x, l, h⟩ ⟨h1, h2, h3, h4⟩
    exact pk_le 8 8 (fun _ => nm_r (nI_1 p) (hJ x l h h1 h2 h3 (fun e i hi ha => h4 e i hi ha))) (fun z => absurd z (by omega))
  · rintro n i ⟨x, l, h⟩ hi ⟨h1, h2, h3, h4⟩ hwk
    dsimp only at h1 h2 h3 h4
    refine pk_le 8 i (fun z => absurd z (by omega)) (fun _ => ib_counts (fun ha => br_f (by decide) ?_) (fun ha => br_t rfl (nm_r (nI_1 i) (hwk (x, l, h) ⟨h1, h2, h3, fun e j hj hb => ?_⟩))))
    · refine ib_narrowBy (F := ib_F A0 a3 a4) hi hw (fun x y z hF => hF i hi ha) h2 (fun r l' h' q1 q2 q3 q4 => ?_)
      have T := ib_NV_trans h1 q1
      rcases h3 with ⟨e, el, eh⟩ | ⟨e, g⟩
      · rw [el, eh] at q4
        rcases q3 with ⟨e', el', eh'⟩ | ⟨e', g'⟩
        · refine br_t e (br_t e' (nm_r (nI_1 i) (hwk (0, l', h') ⟨T, q2, Or.inl ⟨rfl, by rw [el', el], by rw [eh', eh]⟩, fun _ j hj hb => ?_⟩)))
          by_cases ej : j = i
          · rw [ej]
            exact q4 e'
          · exact h4 e j (by omega) hb
        · refine br_t e (br_f (by rw [e']; exact ib_10) (nm_r (nI_1 i) (hwk (1, l', h') ⟨T, q2, Or.inr ⟨rfl, ?_⟩, fun z => absurd z ib_10⟩)))
          rw [el, eh] at g'
          exact g'
      · refine br_f (by rw [e]; exact ib_10) (nm_r (nI_1 i) (hwk (1, l', h') ⟨T, q2, Or.inr ⟨rfl, ?_⟩, fun z => absurd z ib_10⟩))
        rcases q3 with ⟨e', el', eh'⟩ | ⟨e', g'⟩
        · rw [el', eh']
          exact g
        · rcases g' with g' | g'
          · exact Or.inl g'
          · rcases g with g | g
            · rcases q1.2 with ⟨qe, _⟩ | ⟨_, qs, _⟩
              · exact Or.inl qe
              · exact Or.inl (ib_sub_emp qs g)
            · exact Or.inr (Int.lt_trans g' g)
    · by_cases ej : j = i
      · rw [ej] at hb
        exact absurd hb ha
      · exact h4 e j (by omega) hb
theorem ib_narrowAll {post : St1 → Prop} (hw : ib_wf a3 a4) (hr : ib_rg a9 a10)
    (hp : ∀ l h : Nat → Int32, ib_NV (ib_F A0 a3 a4) a9 a10 l h → ib_ok l h → (¬ ib_emp l h → ib_st A0 a3 a4 l h) → post (L0, A0, D0, a1, a2, a3, a4, a5, a6, a7, a8, l, h, a11)) :
    wpX_narrowAll post (L0, A0, D0, a1, a2, a3, a4, a5, a6, a7, a8, a9, a10, a11) := by
  unfold wpX_narrowAll
  dsimp only
  have h8 : (a10 0).toInt ≤ 8 := hr.1.2.2
  refine pk_loop (σ := Int32 × (Nat → Int32) × (Nat → Int32)) (fun n p s => wX_narrowAll_4 post n s.1 (nI p) L0 A0 D0 a1 a2 a3 a4 a5 a6 a7 a8 s.2.1 s.2.2 a11) (fun p s => ib_NV (ib_F A0 a3 a4) a9 a10 s.2.1 s.2.2 ∧ ib_ok s.2.1 s.2.2 ∧ ((s.1 = 0 ∧ ib_st A0 a3 a4 s.2.1 s.2.2) ∨ (s.1 = 1 ∧ (ib_emp s.2.1 s.2.2 ∨ ib_wd s.2.1 s.2.2 + p ≤ 48)))) 52 0 (1, a9, a10) (by omega) ⟨ib_NV_refl h8, ⟨h8, fun _ => hr⟩, Or.inr ⟨rfl, Or.inr ?_⟩⟩ ?_ ?_
  · unfold ib_rg at hr
    unfold ib_wd
    dsimp only
    omega
  · rintro n ⟨x, l, h⟩ ⟨h1, h2, h3⟩
    refine pk_le 52 52 (fun _ => hp l h h1 h2 (fun he => ?_)) (fun z => absurd z (by omega))
    rcases h3 with ⟨_, g⟩ | ⟨_, g | g⟩
    · exact g
    · exact absurd g he
    · have := ib_nemp he
      unfold ib_wd at g
      dsimp only at g
      omega
  · rintro n p ⟨x, l, h⟩ hp52 ⟨h1, h2, h3⟩ hwk
    dsimp only at h1 h2 h3
    refine pk_le 52 p (fun z => absurd z (by omega)) (fun _ => ?_)
    rcases h3 with ⟨e, g⟩ | ⟨e, g⟩
    · exact br_t e (hp l h h1 h2 (fun _ => g))
    · refine br_f (by rw [e]; exact ib_10) (ib_empty (fun he => br_f (by decide) (hp l h h1 h2 (fun hn => absurd he hn))) (fun he => br_t rfl ?_))
      refine ib_narrowAll25 hw h2 (fun x1 l' h' q1 q2 q3 q4 => ?_)
      refine hwk (x1, l', h') ⟨ib_NV_trans h1 q1, q2, ?_⟩
      rcases q3 with ⟨e', el', eh'⟩ | ⟨e', g'⟩
      · refine Or.inl ⟨e', ?_⟩
        show ib_st A0 a3 a4 l' h'
        rw [el', eh']
        exact q4 e'
      · refine Or.inr ⟨e', ?_⟩
        rcases g' with g' | g'
        · exact Or.inl g'
        · rcases g with g | g
          · exact absurd g he
          · have g2 : ib_wd l' h' < ib_wd l h := g'
            refine Or.inr ?_
            dsimp only
            omega
theorem ib_free {post : Int32 → Prop} (hp1 : (∀ i, i < 8 → ib_act A0 i → ib_gs a3 a9 a10 i ≤ a4 i) → post 1) (hp0 : (∃ i, i < 8 ∧ ib_act A0 i ∧ ¬ ib_gs a3 a9 a10 i ≤ a4 i) → post 0) : wpX_free post (L0, A0, D0, a1, a2, a3, a4, a5, a6, a7, a8, a9, a10, a11) := by
  unfold wpX_free
  dsimp only
  refine pk_loop (σ := Unit) (fun n i _ => wX_free_2 post L0 A0 D0 a1 a2 a3 a4 a5 a6 a7 a8 a9 a10 a11 n (nI i)) (fun i _ => ∀ j, j < i → ib_act A0 j → ib_gs a3 a9 a10 j ≤ a4 j) 8 0 () (by omega) (fun j hj => absurd hj (by omega)) ?_ ?_
  · intro n _ h
    exact pk_le 8 8 (fun _ => hp1 h) (fun z => absurd z (by omega))
  · intro n i _ hi h hwk
    refine pk_le 8 i (fun z => absurd z (by omega)) (fun _ => ib_counts (fun ha => br_f (by decide) (ib_greatestSum hi ⟨vp_in_nI hi (by omega), ?_⟩)) (fun ha => br_t rfl (nm_r (nI_1 i) (hwk () (fun j hj hb => ?_)))))
    · rw [nI_clamp (show i < 2 ^ 31 by omega)]
      refine br_c (fun g => nm_r (nI_1 i) (hwk () (fun j hj hb => ?_))) (fun g => hp0 ⟨i, hi, ha, g⟩)
      by_cases ej : j = i
      · rw [ej]
        exact g
      · exact h j (by omega) hb
    · by_cases ej : j = i
      · rw [ej] at hb
        exact absurd hb ha
      · exact h j (by omega) hb
theorem ib_free_F {s : Int32} {l h : Nat → Int32} (hw : ib_wf a3 a4) (hr : ib_rg l h) (hg : ∀ i, i < 8 → ib_act s i → ib_gs a3 l h i ≤ a4 i) {x y z : Int} (hin : ib_in l h x y z) : ib_F s a3 a4 x y z := by
  intro i hi ha
  have g := hg i hi ha
  rw [ib_le, ib_gs_z hw hr hi] at g
  obtain ⟨p1, p2, p3, p4, p5, p6⟩ := hin
  have t0 := ib_le_hz (f := (a3 (i * 3 + 0)).toInt) p1 p2
  have t1 := ib_le_hz (f := (a3 (i * 3 + 1)).toInt) p3 p4
  have t2 := ib_le_hz (f := (a3 (i * 3 + 2)).toInt) p5 p6
  unfold ib_lin
  omega
theorem ib_lohi (f x : Int32) : ib_lo f x x = ib_hi f x x := by
  unfold ib_lo ib_hi
  split <;> rfl
theorem ib_single {s : Int32} {l h : Nat → Int32} (hs : ib_st s a3 a4 l h) (hn : ∃ i, i < 8 ∧ ib_act s i ∧ ¬ ib_gs a3 l h i ≤ a4 i) (h0 : l 0 = h 0) (h1 : l 1 = h 1) (h2 : l 2 = h 2) : False := by
  obtain ⟨i, hi, ha, g⟩ := hn
  have k := hs i hi ha
  unfold ib_ls at k
  unfold ib_gs at g
  rw [h0, h1, h2, ib_lohi, ib_lohi, ib_lohi] at k
  rw [h0, h1, h2] at g
  exact g k
theorem ib_volume {post : Int32 → Prop} (hr : ib_rg a9 a10) (hp : post (nI (ib_ct (ib_in a9 a10)))) : wpX_volume post (L0, A0, D0, a1, a2, a3, a4, a5, a6, a7, a8, a9, a10, a11) := by
  unfold wpX_volume
  dsimp only
  obtain ⟨W0, W1, W2, e0, e1, e2, ec⟩ := ib_ct_box hr
  obtain ⟨⟨r1, r2, r3⟩, ⟨r4, r5, r6⟩, ⟨r7, r8, r9⟩⟩ := hr
  have o1 : (1 : Int32).toInt = 1 := by decide
  have key : ∀ (a b : Int32) (W : Nat), -8 ≤ b.toInt → b.toInt ≤ a.toInt → a.toInt ≤ 8 → (W : Int) = a.toInt - b.toInt + 1 → a - b + 1 = nI W := by
    intro a b W k1 k2 k3 k4
    have s1 : (a - b).toInt = a.toInt - b.toInt := ib_sub (by omega) (by omega)
    rw [ib_eq, ib_add (by omega) (by omega), s1, o1, nI_toInt (by omega)]
    omega
  rw [key _ _ W0 r1 r2 r3 e0, key _ _ W1 r4 r5 r6 e1, key _ _ W2 r7 r8 r9 e2, pk_mul, pk_mul, Nat.mul_assoc, ← ec]
  exact hp
def ib_gb (g l h : Nat → Int32) : Nat → Int32
  | 0 => 0
  | n + 1 => ib_gb g l h n + ib_hi (g n) (l n) (h n)
theorem ib_goalBound {post : Int32 → Prop} (hp : post (ib_gb a6 a9 a10 3)) : wpX_goalBound post (L0, A0, D0, a1, a2, a3, a4, a5, a6, a7, a8, a9, a10, a11) := by
  unfold wpX_goalBound
  dsimp only
  refine pk_loop (σ := Int32) (fun n i s => wX_goalBound_4 post L0 A0 D0 a1 a2 a3 a4 a5 a6 a7 a8 a9 a10 a11 n s (nI i)) (fun i s => s = ib_gb a6 a9 a10 i) 3 0 0 (by omega) rfl ?_ ?_
  · intro n s h
    subst h
    exact pk_le 3 3 (fun _ => hp) (fun z => absurd z (by omega))
  · intro n i s hi h hwk
    refine pk_le 3 i (fun z => absurd z (by omega)) (fun _ => ⟨vp_in_nI hi (by omega), ?_⟩)
    rw [nI_clamp (show i < 2 ^ 31 by omega)]
    have hwk' := hwk (s + ib_hi (a6 i) (a9 i) (a10 i)) (by rw [h]; rfl)
    unfold ib_hi at hwk'
    by_cases hg : a6 i ≤ 0
    · rw [if_pos hg] at hwk'
      exact br_t hg ⟨vp_in_nI hi (by omega), vp_in_nI hi (by omega), nm_e (nm_r (nI_1 i) hwk')⟩
    · rw [if_neg hg] at hwk'
      exact br_f hg ⟨vp_in_nI hi (by omega), vp_in_nI hi (by omega), nm_e (nm_r (nI_1 i) hwk')⟩
end
end
section
/-! ===== the stack's walks ===== -/
section
variable {L0 A0 D0 : Int32} {a1 a2 a3 a4 a5 a6 a7 a8 a9 a10 a11 : Nat → Int32}
theorem ib_push {post : St1 → Prop} {d v : Nat} {lf rt : Int32} (hd : d < 32) (hv : v < 3)
    (hp : ∀ sl sh : Nat → Int32, (∀ j, j < d * 3 → sl j = a7 j ∧ sh j = a8 j) → (∀ k, k < 3 → sl (d * 3 + k) = (if k = v then lf else a9 k) ∧ sh (d * 3 + k) = (if k = v then rt else a10 k)) → post (L0, A0, nI (d + 1), a1, a2, a3, a4, a5, a6, sl, sh, a9, a10, a11)) :
    wpX_push post (L0, A0, nI d, a1, a2, a3, a4, a5, a6, a7, a8, a9, a10, a11) (nI v) lf rt := by
  unfold wpX_push
  dsimp only
  refine pk_loop (σ := (Nat → Int32) × (Nat → Int32)) (fun n k s => wX_push_3 post (nI v) lf rt L0 A0 (nI d) n (nI k) a1 a2 a3 a4 a5 a6 s.1 s.2 a9 a10 a11) (fun k s => (∀ j, j < d * 3 → s.1 j = a7 j ∧ s.2 j = a8 j) ∧ (∀ j, j < k → s.1 (d * 3 + j) = (if j = v then lf else a9 j) ∧ s.2 (d * 3 + j) = (if j = v then rt else a10 j))) 3 0 (a7, a8) (by omega) ⟨fun j _ => ⟨rfl, rfl⟩, fun j hj => absurd hj (by omega)⟩ ?_ ?_
  · rintro n ⟨sl, sh⟩ ⟨h1, h2⟩
    exact pk_le 3 3 (fun _ => nm_r (nI_1 d) (hp sl sh h1 h2)) (fun z => absurd z (by omega))
  · rintro n k ⟨sl, sh⟩ hk ⟨h1, h2⟩ hwk
    dsimp only at h1 h2
    have inv : ∀ z0 z1 : Int32, z0 = (if k = v then lf else a9 k) → z1 = (if k = v then rt else a10 k) → (∀ j, j < d * 3 → upd sl (d * 3 + k) z0 j = a7 j ∧ upd sh (d * 3 + k) z1 j = a8 j) ∧ (∀ j, j < k + 1 → upd sl (d * 3 + k) z0 (d * 3 + j) = (if j = v then lf else a9 j) ∧ upd sh (d * 3 + k) z1 (d * 3 + j) = (if j = v then rt else a10 j)) := by
      intro z0 z1 e0 e1
      refine ⟨fun j hj => ?_, fun j hj => ?_⟩
      · rw [pk_un (by omega), pk_un (by omega)]
        exact h1 j hj
      · by_cases ej : j = k
        · rw [ej, pk_us, pk_us]
          exact ⟨e0, e1⟩
        · rw [pk_un (by omega), pk_un (by omega)]
          exact h2 j (by omega)
    have P39 : ∀ z0 : Int32, z0 = (if k = v then lf else a9 k) → wX_push_39 post (wX_push_3 post (nI v) lf rt L0 A0 (nI d) n) (nI v) lf rt (nI k) z0 (nI d * 3 + nI k) L0 A0 (nI d) a1 a2 a3 a4 a5 a6 sl sh a9 a10 a11 := by
      intro z0 e0
      unfold wX_push_39
      rw [ib_ix3, nI_clamp (show d * 3 + k < 2 ^ 31 by omega), nI_clamp (show k < 2 ^ 31 by omega)]
      refine ⟨vp_in_nI (by omega) (by omega), nm_e (pk_eq k v (fun e => ⟨vp_in_nI (by omega) (by omega), nm_e (nm_r (nI_1 k) (hwk (_, _) ?_))⟩) (fun e => ⟨vp_in_nI (by omega) (by omega), vp_in_nI (by omega) (by omega), nm_e (nm_r (nI_1 k) (hwk (_, _) ?_))⟩))⟩
      · exact inv z0 rt e0 (by rw [if_pos e])
      · exact inv z0 (a10 k) e0 (by rw [if_neg e])
    refine pk_le 3 k (fun z => absurd z (by omega)) (fun _ => pk_eq k v (fun e => P39 lf (by rw [if_pos e])) (fun e => ⟨vp_in_nI hk (by omega), ?_⟩))
    rw [nI_clamp (show k < 2 ^ 31 by omega)]
    exact P39 (a9 k) (by rw [if_neg e])
theorem ib_begin {post : St1 → Prop} {set : Int32} (hp : ∀ sl sh l h : Nat → Int32, ib_rep sl sh [(a1, a2)] → post (L0, set, nI 1, a1, a2, a3, a4, a5, a6, sl, sh, l, h, a11)) :
    wpX_begin post (L0, A0, D0, a1, a2, a3, a4, a5, a6, a7, a8, a9, a10, a11) set := by
  unfold wpX_begin
  dsimp only
  refine pk_loop (σ := (Nat → Int32) × (Nat → Int32)) (fun n k s => wX_begin_12 post L0 set 0 n (nI k) a1 a2 a3 a4 a5 a6 a7 a8 s.1 s.2 a11) (fun k s => ∀ j, j < k → s.1 j = a1 j ∧ s.2 j = a2 j) 3 0 (a9, a10) (by omega) (fun j hj => absurd hj (by omega)) ?_ ?_
  · rintro n ⟨l, h⟩ hI
    dsimp only at hI
    refine pk_le 3 3 (fun _ => ib_push (d := 0) (v := 0) (by omega) (by omega) (fun sl sh h1 h2 => hp sl sh l h ⟨fun k hk => ?_, trivial⟩)) (fun z => absurd z (by omega))
    have g := h2 k hk
    show sl (0 * 3 + k) = a1 k ∧ sh (0 * 3 + k) = a2 k
    rw [g.1, g.2]
    by_cases e : k = 0
    · rw [if_pos e, if_pos e, e]
      exact ⟨rfl, rfl⟩
    · rw [if_neg e, if_neg e]
      exact hI k hk
  · rintro n k ⟨l, h⟩ hk hI hwk
    dsimp only at hI
    have hc : (nI k).toNatClampNeg = k := nI_clamp (by omega)
    refine pk_le 3 k (fun z => absurd z (by omega)) (fun _ => ⟨vp_in_nI hk (by omega), vp_in_nI hk (by omega), nm_e ⟨vp_in_nI hk (by omega), vp_in_nI hk (by omega), nm_e (nm_r (nI_1 k) (hwk (_, _) (fun j hj => ?_)))⟩⟩)
    show upd l (nI k).toNatClampNeg (a1 (nI k).toNatClampNeg) j = a1 j ∧ upd h (nI k).toNatClampNeg (a2 (nI k).toNatClampNeg) j = a2 j
    rw [hc]
    by_cases ej : j = k
    · rw [ej, pk_us, pk_us]
      exact ⟨rfl, rfl⟩
    · rw [pk_un ej, pk_un ej]
      exact hI j (by omega)
theorem ib_pop {post : St1 → Prop} {d : Nat} (hd : d < 32) (hp : ∀ l h : Nat → Int32, (∀ k, k < 3 → l k = a7 (d * 3 + k) ∧ h k = a8 (d * 3 + k)) → post (L0, A0, nI d, a1, a2, a3, a4, a5, a6, a7, a8, l, h, a11)) :
    wpX_pop post (L0, A0, nI (d + 1), a1, a2, a3, a4, a5, a6, a7, a8, a9, a10, a11) := by
  unfold wpX_pop
  dsimp only
  refine nm_r (nI_pred d) ?_
  refine pk_loop (σ := (Nat → Int32) × (Nat → Int32)) (fun n k s => wX_pop_12 post L0 A0 (nI d) n (nI k) a1 a2 a3 a4 a5 a6 a7 a8 s.1 s.2 a11) (fun k s => ∀ j, j < k → s.1 j = a7 (d * 3 + j) ∧ s.2 j = a8 (d * 3 + j)) 3 0 (a9, a10) (by omega) (fun j hj => absurd hj (by omega)) ?_ ?_
  · rintro n ⟨l, h⟩ hI
    exact pk_le 3 3 (fun _ => hp l h hI) (fun z => absurd z (by omega))
  · rintro n k ⟨l, h⟩ hk hI hwk
    dsimp only at hI
    have hc : (nI k).toNatClampNeg = k := nI_clamp (by omega)
    have hx : (nI d * 3 + nI k) = nI (d * 3 + k) := ib_ix3
    have hi : vp_in (nI d * 3 + nI k) 96 := by rw [hx]; exact vp_in_nI (by omega) (by omega)
    refine pk_le 3 k (fun z => absurd z (by omega)) (fun _ => ⟨hi, vp_in_nI hk (by omega), nm_e ⟨hi, vp_in_nI hk (by omega), nm_e (nm_r (nI_1 k) (hwk (_, _) (fun j hj => ?_)))⟩⟩)
    show upd l (nI k).toNatClampNeg (a7 (nI d * 3 + nI k).toNatClampNeg) j = a7 (d * 3 + j) ∧ upd h (nI k).toNatClampNeg (a8 (nI d * 3 + nI k).toNatClampNeg) j = a8 (d * 3 + j)
    rw [hc, hx, nI_clamp (show d * 3 + k < 2 ^ 31 by omega)]
    by_cases ej : j = k
    · rw [ej, pk_us, pk_us]
      exact ⟨rfl, rfl⟩
    · rw [pk_un ej, pk_un ej]
      exact hI j (by omega)
theorem ib_mid {x y : Int32} (h1 : -8 ≤ x.toInt) (h2 : x.toInt ≤ 8) (h3 : -8 ≤ y.toInt) (h4 : y.toInt ≤ 8) : (((x + y) + 16) / 2 - 8).toInt = (x.toInt + y.toInt) / 2 := by
  have e16 : (16 : Int32).toInt = 16 := by decide
  have e2 : (2 : Int32).toInt = 2 := by decide
  have e8 : (8 : Int32).toInt = 8 := by decide
  have s1 : (x + y).toInt = x.toInt + y.toInt := ib_add (by omega) (by omega)
  have s2 : ((x + y) + 16).toInt = x.toInt + y.toInt + 16 := by
    rw [ib_add (by omega) (by omega), s1, e16]
  have s3 : (((x + y) + 16) / 2).toInt = (x.toInt + y.toInt + 16) / 2 := by
    rw [Int32.toInt_div_of_ne_right _ _ (by decide), s2, e2, Int.tdiv_eq_ediv_of_nonneg (by omega)]
  rw [ib_sub (by omega) (by omega), s3, e8]
  omega
theorem ib_cut {post : St1 → Prop} {s : List ib_Bx} (hr : ib_rg a9 a10) (hn : ¬ (a9 0 = a10 0 ∧ a9 1 = a10 1 ∧ a9 2 = a10 2)) (hs : s.length ≤ 15) (hrep : ib_rep a7 a8 s)
    (hp : ∀ sl sh l1 h1 l2 h2 : Nat → Int32, ib_two a9 a10 l1 h1 l2 h2 → ib_rep sl sh ((l1, h1) :: (l2, h2) :: s) → post (L0, A0, nI (s.length + 2), a1, a2, a3, a4, a5, a6, sl, sh, a9, a10, a11)) :
    wpX_cut post (L0, A0, nI s.length, a1, a2, a3, a4, a5, a6, a7, a8, a9, a10, a11) := by
  have hv : ∃ v, v < 3 ∧ (∀ k, k < v → a9 k = a10 k) ∧ ¬ a9 v = a10 v := by
    by_cases g0 : a9 0 = a10 0
    · by_cases g1 : a9 1 = a10 1
      · refine ⟨2, by omega, fun k hk => ?_, fun g2 => hn ⟨g0, g1, g2⟩⟩
        have : k = 0 ∨ k = 1 := by omega
        rcases this with e | e <;> subst e <;> assumption
      · refine ⟨1, by omega, fun k hk => ?_, g1⟩
        have : k = 0 := by omega
        subst this
        exact g0
    · exact ⟨0, by omega, fun k hk => absurd hk (by omega), g0⟩
  obtain ⟨v, hv, hk, hne⟩ := hv
  have hvr : -8 ≤ (a9 v).toInt ∧ (a9 v).toInt ≤ (a10 v).toInt ∧ (a10 v).toInt ≤ 8 := by
    rcases ib_v3 hv with e | e | e <;> subst e
    · exact hr.1
    · exact hr.2.1
    · exact hr.2.2
  have hmid := ib_mid (x := a9 v) (y := a10 v) (by omega) (by omega) (by omega) (by omega)
  have hlt : (a9 v).toInt < (a10 v).toInt := by
    rw [ib_eq] at hne
    omega
  have e1 : (1 : Int32).toInt = 1 := by decide
  have hm1 : ((((a9 v + a10 v) + 16) / 2 - 8) + 1).toInt = (((a9 v + a10 v) + 16) / 2 - 8).toInt + 1 := by
    rw [ib_add (by omega) (by omega), e1]
  have H : wX_cut_28 post (nI v) L0 A0 (nI s.length) a1 a2 a3 a4 a5 a6 a7 a8 a9 a10 a11 := by
    unfold wX_cut_28
    rw [nI_clamp (show v < 2 ^ 31 by omega)]
    refine ⟨vp_in_nI hv (by omega), vp_in_nI hv (by omega), by decide, nm_e ⟨vp_in_nI hv (by omega), ib_push (by omega) hv (fun sl sh g1 g2 => ⟨vp_in_nI hv (by omega), ib_push (d := s.length + 1) (by omega) hv (fun sl' sh' g3 g4 => ?_)⟩)⟩⟩
    refine hp sl' sh' a9 (upd a10 v (((a9 v + a10 v) + 16) / 2 - 8)) (upd a9 v ((((a9 v + a10 v) + 16) / 2 - 8) + 1)) a10 (ib_two_mk hv hr (fun k hkk => by rw [hk k hkk]) hlt hmid hm1) ⟨fun k hkk => ?_, fun k hkk => ?_, ib_rep_fr (fun j hj => ?_) hrep⟩
    · have := g4 k hkk
      rw [List.length_cons, this.1, this.2]
      by_cases e : k = v
      · rw [if_pos e, if_pos e, e]
        exact ⟨rfl, pk_us.symm⟩
      · rw [if_neg e, if_neg e]
        exact ⟨rfl, (pk_un e).symm⟩
    · have q3 := g3 (s.length * 3 + k) (by omega)
      have q2 := g2 k hkk
      rw [q3.1, q3.2, q2.1, q2.2]
      by_cases e : k = v
      · rw [if_pos e, if_pos e, e]
        exact ⟨pk_us.symm, rfl⟩
      · rw [if_neg e, if_neg e]
        exact ⟨(pk_un e).symm, rfl⟩
    · have q3 := g3 j (by omega)
      have q1 := g1 j hj
      rw [q3.1, q3.2, q1.1, q1.2]
      exact ⟨rfl, rfl⟩
  unfold wpX_cut
  dsimp only
  refine pk_loop (σ := Unit) (fun n i _ => wX_cut_2 post L0 A0 (nI s.length) a1 a2 a3 a4 a5 a6 a7 a8 a9 a10 a11 n (nI i)) (fun _ _ => True) v 0 () (by omega) trivial ?_ ?_
  · intro n _ _
    refine pk_le 2 v (fun _ => H) (fun z => ⟨vp_in_nI hv (by omega), vp_in_nI hv (by omega), br_f ?_ H⟩)
    rw [nI_clamp (show v < 2 ^ 31 by omega)]
    exact hne
  · intro n i _ hi _ hwk
    refine pk_le 2 i (fun z => absurd z (by omega)) (fun _ => ⟨vp_in_nI (by omega) (by omega), vp_in_nI (by omega) (by omega), br_t ?_ (nm_r (nI_1 i) (hwk () trivial))⟩)
    rw [nI_clamp (show i < 2 ^ 31 by omega)]
    exact hk i hi
end
end
section
/-! ===== the three searches ===== -/
theorem ib_NV_pop {C : Int → Int → Int → Prop} {l h l' h' : Nat → Int32} {b : ib_Bx} (e : ∀ k, k < 3 → l k = b.1 k ∧ h k = b.2 k) (p : ib_NV C l h l' h') : ib_NV C b.1 b.2 l' h' := by
  refine ⟨p.1, ?_⟩
  rcases p.2 with ⟨pe, pn⟩ | ⟨pe, ps, pk⟩
  · exact Or.inl ⟨pe, fun x y z hi => pn x y z ((ib_in_congr e x y z).mpr hi)⟩
  · refine Or.inr ⟨pe, ?_, fun x y z hi => pk x y z ((ib_in_congr e x y z).mpr hi)⟩
    unfold ib_sub3 at ps ⊢
    rw [(e 0 (by omega)).1, (e 0 (by omega)).2, (e 1 (by omega)).1, (e 1 (by omega)).2, (e 2 (by omega)).1, (e 2 (by omega)).2] at ps
    exact ps
theorem ib_NV_lg {C : Int → Int → Int → Prop} {l h l' h' : Nat → Int32} (p : ib_NV C l h l' h') (he : ¬ ib_emp l' h') : ib_lg l' h' ≤ ib_lg l h := by
  rcases p.2 with ⟨pe, _⟩ | ⟨_, ps, _⟩
  · exact absurd pe he
  · exact ib_lg_sub ps
theorem ib_fit_two {l h l1 h1 l2 h2 : Nat → Int32} {s : List ib_Bx} (ht : ib_two l h l1 h1 l2 h2) (hl : ib_lg l h + s.length ≤ 15) (hf : ib_fit s) : ib_fit ((l1, h1) :: (l2, h2) :: s) := by
  obtain ⟨⟨t1, t2⟩, _, _, t3, t4⟩ := ht
  refine ⟨⟨t1, ?_⟩, ⟨t2, ?_⟩, hf⟩
  · show ib_lg l1 h1 + (s.length + 1) ≤ 15
    omega
  · show ib_lg l2 h2 + s.length ≤ 15
    omega
/-- the measure falls at a cut -/
theorem ib_ms_two {C : Int → Int → Int → Prop} {b : ib_Bx} {l h l1 h1 l2 h2 : Nat → Int32} {s : List ib_Bx} (hN : ib_NV C b.1 b.2 l h) (ht : ib_two l h l1 h1 l2 h2) : ib_ms ((l1, h1) :: (l2, h2) :: s) < ib_ms (b :: s) := by
  have e := ib_two_vol ht
  have p1 := ib_ct_rg ht.1.1
  have p2 := ib_ct_rg ht.1.2
  have le : ib_ct (ib_in l h) ≤ ib_ct (ib_in b.1 b.2) := ib_ct_le (fun x y z hi => ib_NV_in hN hi)
  show (2 * ib_ct (ib_in l1 h1) - 1) + ((2 * ib_ct (ib_in l2 h2) - 1) + ib_ms s) < (2 * ib_ct (ib_in b.1 b.2) - 1) + ib_ms s
  omega
theorem ib_ms_tl {b : ib_Bx} {s : List ib_Bx} (hr : ib_rg b.1 b.2) : ib_ms s < ib_ms (b :: s) := by
  have p1 := ib_ct_rg hr
  show ib_ms s < (2 * ib_ct (ib_in b.1 b.2) - 1) + ib_ms s
  omega
theorem ib_ms_1 (l h : Nat → Int32) : ib_ms [(l, h)] ≤ 9825 := by
  have := ib_ct_max (ib_in l h)
  show (2 * ib_ct (ib_in l h) - 1) + 0 ≤ 9825
  omega
/-- the points of F in the boxes of the stack, counted -/
noncomputable def ib_sm (F : Int → Int → Int → Prop) : List ib_Bx → Nat
  | [] => 0
  | b :: s => ib_ct (fun x y z => ib_in b.1 b.2 x y z ∧ F x y z) + ib_sm F s
/-- the point lies in a box of the stack -/
def ib_inS : List ib_Bx → Int → Int → Int → Prop
  | [], _, _, _ => False
  | b :: s, x, y, z => ib_in b.1 b.2 x y z ∨ ib_inS s x y z
/-- the boxes come in the order of points -/
def ib_ord : List ib_Bx → Prop
  | [] => True
  | b :: s => (∀ x y z x' y' z', ib_in b.1 b.2 x y z → ib_inS s x' y' z' → ib_lx x y z x' y' z') ∧ ib_ord s
/-- the first point of P -/
def ib_fst (P : Int → Int → Int → Prop) (x y z : Int) : Prop := P x y z ∧ ∀ x' y' z', P x' y' z' → (x' = x ∧ y' = y ∧ z' = z) ∨ ib_lx x y z x' y' z'
def ib_V (g : Nat → Int32) (x y z : Int) : Int := (g 0).toInt * x + (g 1).toInt * y + (g 2).toInt * z
/-- r is the greatest value of the goal on P, or -10000 where P has no point -/
def ib_max (P : Int → Int → Int → Prop) (g : Nat → Int32) (r : Int32) : Prop := (r = -10000 ∧ ∀ x y z, ¬ P x y z) ∨ (-10000 < r.toInt ∧ r.toInt ≤ 10000 ∧ (∃ x y z, P x y z ∧ ib_V g x y z = r.toInt) ∧ ∀ x y z, P x y z → ib_V g x y z ≤ r.toInt)
section
variable {L0 A0 D0 : Int32} {a1 a2 a3 a4 a5 a6 a7 a8 a9 a10 a11 : Nat → Int32}
theorem ib_count9 {post : Int32 → St1 → Prop} {T : Nat} (hw : ib_wf a3 a4) (hp : ∀ (d : Int32) (t7 t8 t9 t10 : Nat → Int32), post (nI T) (L0, A0, d, a1, a2, a3, a4, a5, a6, t7, t8, t9, t10, a11)) :
    ∀ (n : Nat) (s : List ib_Bx) (N step : Nat) (t7 t8 t9 t10 : Nat → Int32), ib_rep t7 t8 s → ib_fit s → ib_ms s < n → step + ib_ms s ≤ 9825 → N + ib_sm (ib_F A0 a3 a4) s = T → wX_countPoints_9 post n (nI N) (nI step) L0 A0 (nI s.length) a1 a2 a3 a4 a5 a6 t7 t8 t9 t10 a11 := by
  intro n
  induction n with
  | zero => intro s N step t7 t8 t9 t10 _ _ h
            exact absurd h (by omega)
  | succ n ih =>
    intro s N step t7 t8 t9 t10 hrep hfit hm hst hN
    cases s with
    | nil =>
      have e : N = T := by
        have : N + 0 = T := hN
        omega
      subst e
      exact pk_le 12000 step (fun z => absurd z (by omega)) (fun _ => pk_le 0 0 (fun _ => hp _ _ _ _ _) (fun z => absurd z (by omega)))
    | cons b s =>
      have hb := hfit.1
      have hl : s.length ≤ 15 := by omega
      have m1 := ib_ms_tl (s := s) hb.1
      refine pk_le 12000 step (fun z => absurd z (by omega)) (fun _ => pk_le (s.length + 1) 0 (fun z => absurd z (by omega)) (fun _ => ib_pop (by omega) (fun l0 h0 e0 => ?_)))
      have e1 : ∀ k, k < 3 → l0 k = b.1 k ∧ h0 k = b.2 k := fun k hk => by
        have q := hrep.1 k hk
        rw [(e0 k hk).1, (e0 k hk).2]
        exact q
      refine ib_narrowAll hw ((ib_rg_congr e1).mpr hb.1) (fun l h q1 q2 q3 => ?_)
      have q := ib_NV_pop e1 q1
      have hsm : N + (ib_ct (fun x y z => ib_in b.1 b.2 x y z ∧ ib_F A0 a3 a4 x y z) + ib_sm (ib_F A0 a3 a4) s) = T := hN
      refine ib_empty (fun he => br_f (by decide) (nm_r (nI_1 step) (ih s N (step + 1) _ _ _ _ hrep.2 hfit.2 (by omega) (by omega) ?_))) (fun he => br_t rfl (ib_free (fun hall => br_f (by decide) (ib_volume (q2.2 he) (nm_r (nI_add _ _) (nm_r (nI_1 step) (ih s _ (step + 1) _ _ _ _ hrep.2 hfit.2 (by omega) (by omega) ?_))))) (fun hex => br_t rfl (ib_cut (s := s) (q2.2 he) (fun g => ib_single (q3 he) hex g.1 g.2.1 g.2.2) hl hrep.2 (fun sl sh l1 h1 l2 h2 ht hrep' => nm_r (nI_1 step) ?_)))))
      · have z0 : ib_ct (fun x y z => ib_in b.1 b.2 x y z ∧ ib_F A0 a3 a4 x y z) = 0 := ib_ct_no (fun x y z g => ib_emp_no he (ib_NV_keep q g.1 g.2))
        omega
      · have z0 : ib_ct (fun x y z => ib_in b.1 b.2 x y z ∧ ib_F A0 a3 a4 x y z) = ib_ct (ib_in l h) := ib_ct_congr (fun x y z => ⟨fun g => ib_NV_keep q g.1 g.2, fun g => ⟨ib_NV_in q g, ib_free_F hw (q2.2 he) hall g⟩⟩)
        omega
      · have z0 : ib_ct (fun x y z => ib_in b.1 b.2 x y z ∧ ib_F A0 a3 a4 x y z) = ib_ct (fun x y z => ib_in l h x y z ∧ ib_F A0 a3 a4 x y z) := ib_ct_congr (fun x y z => ⟨fun g => ⟨ib_NV_keep q g.1 g.2, g.2⟩, fun g => ⟨ib_NV_in q g.1, g.2⟩⟩)
        have z1 := ib_two_ct ht (ib_F A0 a3 a4)
        have z2 := ib_ms_two (s := s) q ht
        have z3 := ib_NV_lg q he
        refine ih ((l1, h1) :: (l2, h2) :: s) N (step + 1) _ _ _ _ hrep' (ib_fit_two ht (by omega) hfit.2) (by omega) (by omega) ?_
        show N + (ib_ct (fun x y z => ib_in l1 h1 x y z ∧ ib_F A0 a3 a4 x y z) + (ib_ct (fun x y z => ib_in l2 h2 x y z ∧ ib_F A0 a3 a4 x y z) + ib_sm (ib_F A0 a3 a4) s)) = T
        omega
theorem ib_countPoints {post : Int32 → St1 → Prop} {set : Int32} (hw : ib_wf a3 a4) (hr : ib_rg a1 a2) (hp : ∀ (d : Int32) (t7 t8 t9 t10 : Nat → Int32), post (nI (ib_ct (fun x y z => ib_in a1 a2 x y z ∧ ib_F set a3 a4 x y z))) (L0, set, d, a1, a2, a3, a4, a5, a6, t7, t8, t9, t10, a11)) :
    wpX_countPoints post (L0, A0, D0, a1, a2, a3, a4, a5, a6, a7, a8, a9, a10, a11) set := by
  unfold wpX_countPoints
  dsimp only
  refine ib_begin (fun sl sh l h hrep => ⟨ib_ms [(a1, a2)] + 1, ?_⟩)
  have := ib_ms_1 a1 a2
  exact ib_count9 hw hp (ib_ms [(a1, a2)] + 1) [(a1, a2)] 0 0 sl sh l h hrep ⟨⟨hr, ib_lg_15 a1 a2⟩, trivial⟩ (by omega) (by omega) (by show 0 + (ib_ct (fun x y z => ib_in a1 a2 x y z ∧ ib_F set a3 a4 x y z) + 0) = _; omega)
theorem ib_first48 {post : Int32 → St1 → Prop} (hp : ∀ t11 : Nat → Int32, (∀ k, k < 3 → t11 k = a9 k) → post 1 (L0, A0, D0, a1, a2, a3, a4, a5, a6, a7, a8, a9, a10, t11)) : ∃ n, wX_findFirst_48 post L0 A0 D0 n 0 a1 a2 a3 a4 a5 a6 a7 a8 a9 a10 a11 := by
  refine pk_loop (σ := Nat → Int32) (fun n k s => wX_findFirst_48 post L0 A0 D0 n (nI k) a1 a2 a3 a4 a5 a6 a7 a8 a9 a10 s) (fun k s => ∀ j, j < k → s j = a9 j) 3 0 a11 (by omega) (fun j hj => absurd hj (by omega)) ?_ ?_
  · intro n s h
    exact pk_le 3 3 (fun _ => hp s h) (fun z => absurd z (by omega))
  · intro n k s hk h hwk
    have hc : (nI k).toNatClampNeg = k := nI_clamp (by omega)
    refine pk_le 3 k (fun z => absurd z (by omega)) (fun _ => ⟨vp_in_nI hk (by omega), vp_in_nI hk (by omega), nm_e (nm_r (nI_1 k) (hwk _ (fun j hj => ?_)))⟩)
    rw [hc]
    by_cases ej : j = k
    · rw [ej, pk_us]
    · rw [pk_un ej]
      exact h j (by omega)
theorem ib_first7 {post : Int32 → St1 → Prop} {P : Int → Int → Int → Prop} (hw : ib_wf a3 a4) (hPF : ∀ x y z, P x y z → ib_F A0 a3 a4 x y z)
    (hp0 : ∀ (d : Int32) (t7 t8 t9 t10 : Nat → Int32), (∀ x y z, ¬ P x y z) → post 0 (L0, A0, d, a1, a2, a3, a4, a5, a6, t7, t8, t9, t10, a11))
    (hp1 : ∀ (d : Int32) (t7 t8 t9 t10 t11 : Nat → Int32), ib_fst P (t11 0).toInt (t11 1).toInt (t11 2).toInt → post 1 (L0, A0, d, a1, a2, a3, a4, a5, a6, t7, t8, t9, t10, t11)) :
    ∀ (n : Nat) (s : List ib_Bx) (step : Nat) (t7 t8 t9 t10 : Nat → Int32), ib_rep t7 t8 s → ib_fit s → ib_ms s < n → step + ib_ms s ≤ 9825 → ib_ord s → (∀ x y z, P x y z → ib_inS s x y z) → (∀ x y z, ib_inS s x y z → ib_F A0 a3 a4 x y z → P x y z) → wX_findFirst_7 post n (nI step) L0 A0 (nI s.length) a1 a2 a3 a4 a5 a6 t7 t8 t9 t10 a11 := by
  intro n
  induction n with
  | zero => intro s step t7 t8 t9 t10 _ _ h
            exact absurd h (by omega)
  | succ n ih =>
    intro s step t7 t8 t9 t10 hrep hfit hm hst hord hcov hsnd
    cases s with
    | nil =>
      exact pk_le 12000 step (fun z => absurd z (by omega)) (fun _ => pk_le 0 0 (fun _ => hp0 _ _ _ _ _ (fun x y z g => hcov x y z g)) (fun z => absurd z (by omega)))
    | cons b s =>
      have hb := hfit.1
      have hl : s.length ≤ 15 := by omega
      have m1 := ib_ms_tl (s := s) hb.1
      refine pk_le 12000 step (fun z => absurd z (by omega)) (fun _ => pk_le (s.length + 1) 0 (fun z => absurd z (by omega)) (fun _ => ib_pop (by omega) (fun l0 h0 e0 => ?_)))
      have e1 : ∀ k, k < 3 → l0 k = b.1 k ∧ h0 k = b.2 k := fun k hk => by
        have q := hrep.1 k hk
        rw [(e0 k hk).1, (e0 k hk).2]
        exact q
      refine ib_narrowAll hw ((ib_rg_congr e1).mpr hb.1) (fun l h q1 q2 q3 => ?_)
      have q := ib_NV_pop e1 q1
      refine ib_empty (fun he => br_f (by decide) (nm_r (nI_1 step) (ih s (step + 1) _ _ _ _ hrep.2 hfit.2 (by omega) (by omega) hord.2 (fun x y z g => ?_) (fun x y z g => hsnd x y z (Or.inr g))))) (fun he => br_t rfl (ib_free (fun hall => br_f (by decide) (ib_first48 (fun t11 e11 => hp1 _ _ _ _ _ _ ?_))) (fun hex => br_t rfl (ib_cut (s := s) (q2.2 he) (fun g => ib_single (q3 he) hex g.1 g.2.1 g.2.2) hl hrep.2 (fun sl sh l1 h1 l2 h2 ht hrep' => nm_r (nI_1 step) ?_)))))
      · rcases hcov x y z g with g2 | g2
        · exact (ib_emp_no he (ib_NV_keep q g2 (hPF x y z g))).elim
        · exact g2
      · rw [e11 0 (by omega), e11 1 (by omega), e11 2 (by omega)]
        have hn := ib_nemp he
        have hin : ib_in l h (l 0).toInt (l 1).toInt (l 2).toInt := ⟨Int.le_refl _, hn.1, Int.le_refl _, hn.2.1, Int.le_refl _, hn.2.2⟩
        refine ⟨hsnd _ _ _ (Or.inl (ib_NV_in q hin)) (ib_free_F hw (q2.2 he) hall hin), fun x y z g => ?_⟩
        rcases hcov x y z g with g2 | g2
        · have k := ib_NV_keep q g2 (hPF x y z g)
          unfold ib_in at k
          unfold ib_lx
          omega
        · exact Or.inr (hord.1 _ _ _ _ _ _ (ib_NV_in q hin) g2)
      · have z2 := ib_ms_two (s := s) q ht
        have z3 := ib_NV_lg q he
        have i1 : ∀ x y z, ib_in l1 h1 x y z → ib_in b.1 b.2 x y z := fun x y z g => ib_NV_in q ((ht.2.1 x y z).mpr (Or.inl g))
        have i2 : ∀ x y z, ib_in l2 h2 x y z → ib_in b.1 b.2 x y z := fun x y z g => ib_NV_in q ((ht.2.1 x y z).mpr (Or.inr g))
        refine ih ((l1, h1) :: (l2, h2) :: s) (step + 1) _ _ _ _ hrep' (ib_fit_two ht (by omega) hfit.2) (by omega) (by omega) ⟨?_, ?_, hord.2⟩ ?_ ?_
        · intro x y z x' y' z' g g'
          rcases g' with g' | g'
          · exact ht.2.2.1 x y z x' y' z' g g'
          · exact hord.1 x y z x' y' z' (i1 x y z g) g'
        · intro x y z x' y' z' g g'
          exact hord.1 x y z x' y' z' (i2 x y z g) g'
        · intro x y z g
          rcases hcov x y z g with g2 | g2
          · rcases (ht.2.1 x y z).mp (ib_NV_keep q g2 (hPF x y z g)) with g3 | g3
            · exact Or.inl g3
            · exact Or.inr (Or.inl g3)
          · exact Or.inr (Or.inr g2)
        · intro x y z g
          rcases g with g | g | g
          · exact hsnd x y z (Or.inl (i1 x y z g))
          · exact hsnd x y z (Or.inl (i2 x y z g))
          · exact hsnd x y z (Or.inr g)
theorem ib_findFirst {post : Int32 → St1 → Prop} {set : Int32} (hw : ib_wf a3 a4) (hr : ib_rg a1 a2)
    (hp0 : ∀ (d : Int32) (t7 t8 t9 t10 : Nat → Int32), (∀ x y z, ¬ (ib_in a1 a2 x y z ∧ ib_F set a3 a4 x y z)) → post 0 (L0, set, d, a1, a2, a3, a4, a5, a6, t7, t8, t9, t10, a11))
    (hp1 : ∀ (d : Int32) (t7 t8 t9 t10 t11 : Nat → Int32), ib_fst (fun x y z => ib_in a1 a2 x y z ∧ ib_F set a3 a4 x y z) (t11 0).toInt (t11 1).toInt (t11 2).toInt → post 1 (L0, set, d, a1, a2, a3, a4, a5, a6, t7, t8, t9, t10, t11)) :
    wpX_findFirst post (L0, A0, D0, a1, a2, a3, a4, a5, a6, a7, a8, a9, a10, a11) set := by
  unfold wpX_findFirst
  dsimp only
  refine ib_begin (fun sl sh l h hrep => ⟨ib_ms [(a1, a2)] + 1, ?_⟩)
  have := ib_ms_1 a1 a2
  exact ib_first7 (P := fun x y z => ib_in a1 a2 x y z ∧ ib_F set a3 a4 x y z) hw (fun x y z g => g.2) hp0 hp1 (ib_ms [(a1, a2)] + 1) [(a1, a2)] 0 sl sh l h hrep ⟨⟨hr, ib_lg_15 a1 a2⟩, trivial⟩ (by omega) (by omega) ⟨fun x y z x' y' z' _ g => g.elim, trivial⟩ (fun x y z g => Or.inl g.1) (fun x y z g f => ⟨g.elim id (fun z => z.elim), f⟩)
theorem ib_hz_at (f l h : Int) (hl : l ≤ h) : ∃ x, l ≤ x ∧ x ≤ h ∧ f * x = ib_hz f l h := by
  unfold ib_hz
  split
  · exact ⟨l, Int.le_refl _, hl, rfl⟩
  · exact ⟨h, hl, Int.le_refl _, rfl⟩
/-- the goal's bound over a box: above every point's value, and reached -/
theorem ib_gb_z {g l h : Nat → Int32} (hg : ∀ k, k < 3 → -5 ≤ (g k).toInt ∧ (g k).toInt ≤ 5) (hr : ib_rg l h) : (∀ x y z, ib_in l h x y z → ib_V g x y z ≤ (ib_gb g l h 3).toInt) ∧ (∃ x y z, ib_in l h x y z ∧ ib_V g x y z = (ib_gb g l h 3).toInt) ∧ -120 ≤ (ib_gb g l h 3).toInt ∧ (ib_gb g l h 3).toInt ≤ 120 := by
  obtain ⟨⟨r1, r2, r3⟩, ⟨r4, r5, r6⟩, ⟨r7, r8, r9⟩⟩ := hr
  have f0 := hg 0 (by omega)
  have f1 := hg 1 (by omega)
  have f2 := hg 2 (by omega)
  have e0 := ib_hi_z (l := l 0) (h := h 0) f0.1 f0.2 (by omega) (by omega) (by omega) (by omega)
  have e1 := ib_hi_z (l := l 1) (h := h 1) f1.1 f1.2 (by omega) (by omega) (by omega) (by omega)
  have e2 := ib_hi_z (l := l 2) (h := h 2) f2.1 f2.2 (by omega) (by omega) (by omega) (by omega)
  have b0 := ib_hz_b (l := (l 0).toInt) (h := (h 0).toInt) f0.1 f0.2 (by omega) (by omega) (by omega) (by omega)
  have b1 := ib_hz_b (l := (l 1).toInt) (h := (h 1).toInt) f1.1 f1.2 (by omega) (by omega) (by omega) (by omega)
  have b2 := ib_hz_b (l := (l 2).toInt) (h := (h 2).toInt) f2.1 f2.2 (by omega) (by omega) (by omega) (by omega)
  have z0 : (0 : Int32).toInt = 0 := by decide
  have es : (ib_gb g l h 3).toInt = ib_hz (g 0).toInt (l 0).toInt (h 0).toInt + ib_hz (g 1).toInt (l 1).toInt (h 1).toInt + ib_hz (g 2).toInt (l 2).toInt (h 2).toInt := by
    show (((0 : Int32) + ib_hi (g 0) (l 0) (h 0)) + ib_hi (g 1) (l 1) (h 1) + ib_hi (g 2) (l 2) (h 2)).toInt = _
    have s0 : ((0 : Int32) + ib_hi (g 0) (l 0) (h 0)).toInt = ib_hz (g 0).toInt (l 0).toInt (h 0).toInt := by
      rw [ib_add (by omega) (by omega), z0, e0]
      omega
    have s1 : ((0 : Int32) + ib_hi (g 0) (l 0) (h 0) + ib_hi (g 1) (l 1) (h 1)).toInt = ib_hz (g 0).toInt (l 0).toInt (h 0).toInt + ib_hz (g 1).toInt (l 1).toInt (h 1).toInt := by
      rw [ib_add (by omega) (by omega), s0, e1]
    rw [ib_add (by omega) (by omega), s1, e2]
  rw [es]
  refine ⟨fun x y z hin => ?_, ?_, by omega, by omega⟩
  · obtain ⟨p1, p2, p3, p4, p5, p6⟩ := hin
    have t0 := ib_le_hz (f := (g 0).toInt) p1 p2
    have t1 := ib_le_hz (f := (g 1).toInt) p3 p4
    have t2 := ib_le_hz (f := (g 2).toInt) p5 p6
    unfold ib_V
    omega
  · obtain ⟨x, x1, x2, x3⟩ := ib_hz_at (g 0).toInt _ _ r2
    obtain ⟨y, y1, y2, y3⟩ := ib_hz_at (g 1).toInt _ _ r5
    obtain ⟨z, z1, z2, z3⟩ := ib_hz_at (g 2).toInt _ _ r8
    refine ⟨x, y, z, ⟨x1, x2, y1, y2, z1, z2⟩, ?_⟩
    unfold ib_V
    omega
theorem ib_great11 {post : Int32 → St1 → Prop} {P : Int → Int → Int → Prop} (hw : ib_wf a3 a4) (hg : ∀ k, k < 3 → -5 ≤ (a6 k).toInt ∧ (a6 k).toInt ≤ 5) (hPF : ∀ x y z, P x y z → ib_F A0 a3 a4 x y z) (hPb : ∀ x y z, P x y z → -10000 < ib_V a6 x y z)
    (hp : ∀ (r d : Int32) (t7 t8 t9 t10 : Nat → Int32), ib_max P a6 r → post r (L0, A0, d, a1, a2, a3, a4, a5, a6, t7, t8, t9, t10, a11)) :
    ∀ (n : Nat) (s : List ib_Bx) (B : Int32) (step : Nat) (t7 t8 t9 t10 : Nat → Int32), ib_rep t7 t8 s → ib_fit s → ib_ms s < n → step + ib_ms s ≤ 9825 → (B = -10000 ∨ ((∃ x y z, P x y z ∧ ib_V a6 x y z = B.toInt) ∧ B.toInt ≤ 10000)) → (∀ x y z, P x y z → ib_V a6 x y z ≤ B.toInt ∨ ib_inS s x y z) → (∀ x y z, ib_inS s x y z → ib_F A0 a3 a4 x y z → P x y z) → wX_findGreatest_11 post n B (nI step) L0 A0 (nI s.length) a1 a2 a3 a4 a5 a6 t7 t8 t9 t10 a11 := by
  have em : (-10000 : Int32).toInt = -10000 := by decide
  intro n
  induction n with
  | zero => intro s B step t7 t8 t9 t10 _ _ h
            exact absurd h (by omega)
  | succ n ih =>
    intro s B step t7 t8 t9 t10 hrep hfit hm hst hB hcov hsnd
    cases s with
    | nil =>
      refine pk_le 12000 step (fun z => absurd z (by omega)) (fun _ => pk_le 0 0 (fun _ => hp _ _ _ _ _ _ ?_) (fun z => absurd z (by omega)))
      have hall : ∀ x y z, P x y z → ib_V a6 x y z ≤ B.toInt := fun x y z g => (hcov x y z g).elim id (fun k => k.elim)
      rcases hB with e | ⟨⟨x, y, z, g1, g2⟩, g3⟩
      · refine Or.inl ⟨e, fun x y z g => ?_⟩
        have k1 := hall x y z g
        have k2 := hPb x y z g
        rw [e, em] at k1
        omega
      · have k2 := hPb x y z g1
        exact Or.inr ⟨by omega, g3, ⟨x, y, z, g1, g2⟩, hall⟩
    | cons b s =>
      have hb := hfit.1
      have hl : s.length ≤ 15 := by omega
      have m1 := ib_ms_tl (s := s) hb.1
      refine pk_le 12000 step (fun z => absurd z (by omega)) (fun _ => pk_le (s.length + 1) 0 (fun z => absurd z (by omega)) (fun _ => ib_pop (by omega) (fun l0 h0 e0 => ?_)))
      have e1 : ∀ k, k < 3 → l0 k = b.1 k ∧ h0 k = b.2 k := fun k hk => by
        have q := hrep.1 k hk
        rw [(e0 k hk).1, (e0 k hk).2]
        exact q
      refine ib_narrowAll hw ((ib_rg_congr e1).mpr hb.1) (fun l h q1 q2 q3 => ?_)
      have q := ib_NV_pop e1 q1
      refine ib_empty (fun he => br_f (by decide) (nm_r (nI_1 step) (ih s B (step + 1) _ _ _ _ hrep.2 hfit.2 (by omega) (by omega) hB (fun x y z g => ?_) (fun x y z g => hsnd x y z (Or.inr g))))) (fun he => br_t rfl ?_)
      · rcases hcov x y z g with g2 | g2 | g2
        · exact Or.inl g2
        · exact (ib_emp_no he (ib_NV_keep q g2 (hPF x y z g))).elim
        · exact Or.inr g2
      · obtain ⟨v1, v2, v3, v4⟩ := ib_gb_z hg (q2.2 he)
        refine ib_goalBound ?_
        have hcutS : (∃ i, i < 8 ∧ ib_act A0 i ∧ ¬ ib_gs a3 l h i ≤ a4 i) → ¬ ib_gb a6 l h 3 ≤ B → wX_findGreatest_69 post (wX_findGreatest_11 post n) B (nI step) (ib_gb a6 l h 3) L0 A0 (nI s.length) a1 a2 a3 a4 a5 a6 t7 t8 l h a11 := by
          intro hex hgt
          unfold wX_findGreatest_69
          refine br_f hgt (ib_cut (s := s) (q2.2 he) (fun g => ib_single (q3 he) hex g.1 g.2.1 g.2.2) hl hrep.2 (fun sl sh l1 h1 l2 h2 ht hrep' => nm_r (nI_1 step) ?_))
          have z2 := ib_ms_two (s := s) q ht
          have z3 := ib_NV_lg q he
          refine ih ((l1, h1) :: (l2, h2) :: s) B (step + 1) _ _ _ _ hrep' (ib_fit_two ht (by omega) hfit.2) (by omega) (by omega) hB ?_ ?_
          · intro x y z g
            rcases hcov x y z g with g2 | g2 | g2
            · exact Or.inl g2
            · rcases (ht.2.1 x y z).mp (ib_NV_keep q g2 (hPF x y z g)) with g3 | g3
              · exact Or.inr (Or.inl g3)
              · exact Or.inr (Or.inr (Or.inl g3))
            · exact Or.inr (Or.inr (Or.inr g2))
          · intro x y z g
            rcases g with g | g | g
            · exact hsnd x y z (Or.inl (ib_NV_in q ((ht.2.1 x y z).mpr (Or.inl g))))
            · exact hsnd x y z (Or.inl (ib_NV_in q ((ht.2.1 x y z).mpr (Or.inr g))))
            · exact hsnd x y z (Or.inr g)
        have hlow : ib_gb a6 l h 3 ≤ B → wX_findGreatest_69 post (wX_findGreatest_11 post n) B (nI step) (ib_gb a6 l h 3) L0 A0 (nI s.length) a1 a2 a3 a4 a5 a6 t7 t8 l h a11 := by
          intro hle
          unfold wX_findGreatest_69
          refine br_t hle (nm_r (nI_1 step) (ih s B (step + 1) _ _ _ _ hrep.2 hfit.2 (by omega) (by omega) hB (fun x y z g => ?_) (fun x y z g => hsnd x y z (Or.inr g))))
          rcases hcov x y z g with g2 | g2 | g2
          · exact Or.inl g2
          · have k := v1 x y z (ib_NV_keep q g2 (hPF x y z g))
            rw [ib_le] at hle
            exact Or.inl (by omega)
          · exact Or.inr g2
        refine ib_free (fun hall => br_c (fun hle => hlow hle) (fun hgt => br_f (by decide) (nm_r (nI_1 step) (ih s (ib_gb a6 l h 3) (step + 1) _ _ _ _ hrep.2 hfit.2 (by omega) (by omega) (Or.inr ⟨?_, by omega⟩) (fun x y z g => ?_) (fun x y z g => hsnd x y z (Or.inr g)))))) (fun hex => br_c (fun hle => hlow hle) (fun hgt => br_t rfl (hcutS hex hgt)))
        · obtain ⟨x, y, z, k1, k2⟩ := v2
          exact ⟨x, y, z, hsnd x y z (Or.inl (ib_NV_in q k1)) (ib_free_F hw (q2.2 he) hall k1), k2⟩
        · rw [ib_le] at hgt
          rcases hcov x y z g with g2 | g2 | g2
          · exact Or.inl (by omega)
          · exact Or.inl (v1 x y z (ib_NV_keep q g2 (hPF x y z g)))
          · exact Or.inr g2
theorem ib_findGreatest {post : Int32 → St1 → Prop} {set : Int32} (hw : ib_wf a3 a4) (hr : ib_rg a1 a2) (hg : ∀ k, k < 3 → -5 ≤ (a6 k).toInt ∧ (a6 k).toInt ≤ 5)
    (hp : ∀ (r d : Int32) (t7 t8 t9 t10 : Nat → Int32), ib_max (fun x y z => ib_in a1 a2 x y z ∧ ib_F set a3 a4 x y z) a6 r → post r (L0, set, d, a1, a2, a3, a4, a5, a6, t7, t8, t9, t10, a11)) :
    wpX_findGreatest post (L0, A0, D0, a1, a2, a3, a4, a5, a6, a7, a8, a9, a10, a11) set := by
  unfold wpX_findGreatest
  dsimp only
  refine ib_begin (fun sl sh l h hrep => ⟨ib_ms [(a1, a2)] + 1, ?_⟩)
  have := ib_ms_1 a1 a2
  refine ib_great11 (P := fun x y z => ib_in a1 a2 x y z ∧ ib_F set a3 a4 x y z) hw hg (fun x y z g => g.2) (fun x y z g => ?_) hp (ib_ms [(a1, a2)] + 1) [(a1, a2)] (-10000) 0 sl sh l h hrep ⟨⟨hr, ib_lg_15 a1 a2⟩, trivial⟩ (by omega) (by omega) (Or.inl rfl) (fun x y z g => Or.inr (Or.inl g.1)) (fun x y z g f => ⟨g.elim id (fun z => z.elim), f⟩)
  obtain ⟨⟨r1, r2, r3⟩, ⟨r4, r5, r6⟩, ⟨r7, r8, r9⟩⟩ := hr
  obtain ⟨p1, p2, p3, p4, p5, p6⟩ := g.1
  have t0 := ib_m40 (hg 0 (by omega)).1 (hg 0 (by omega)).2 (x := x) (by omega) (by omega)
  have t1 := ib_m40 (hg 1 (by omega)).1 (hg 1 (by omega)).2 (x := y) (by omega) (by omega)
  have t2 := ib_m40 (hg 2 (by omega)).1 (hg 2 (by omega)).2 (x := z) (by omega) (by omega)
  unfold ib_V
  omega
end
end
section
/-! ===== Int32 by its bits (rows of the kit's BITS text, renamed, ahead of ib_bt1) ===== -/
def ib_bt (x : Int32) (i : Nat) : Bool := x.toBitVec.getLsbD i
theorem ib_b_ext {x y : Int32} (h : ∀ i, i < 32 → ib_bt x i = ib_bt y i) : x = y := Int32.toBitVec_inj.mp (BitVec.eq_of_getLsbD_eq (fun i hi => h i hi))
theorem ib_b_or (x y : Int32) (i : Nat) : ib_bt (x ||| y) i = (ib_bt x i || ib_bt y i) := by unfold ib_bt; rw [Int32.toBitVec_or, BitVec.getLsbD_or]
theorem ib_b_and (x y : Int32) (i : Nat) : ib_bt (x &&& y) i = (ib_bt x i && ib_bt y i) := by unfold ib_bt; rw [Int32.toBitVec_and, BitVec.getLsbD_and]
theorem ib_b_xor (x y : Int32) (i : Nat) : ib_bt (x ^^^ y) i = (ib_bt x i ^^ ib_bt y i) := by unfold ib_bt; rw [Int32.toBitVec_xor, BitVec.getLsbD_xor]
theorem ib_b_m1 : ∀ i, i < 32 → ib_bt (-1) i = true := by decide +kernel
theorem ib_b_0 (i : Nat) : ib_bt 0 i = false := BitVec.getLsbD_zero
theorem ib_s_l : ∀ n, n < 32 → ((nI n &&& 31).toBitVec.smod 32).toNat = n := by decide +kernel
theorem ib_b_sshr (n : Nat) (hn : n < 32) (x : Int32) {i : Nat} (hi : i < 32) : ib_bt (x >>> (nI n &&& 31)) i = if n + i < 32 then ib_bt x (n + i) else ib_bt x 31 := by
  unfold ib_bt
  rw [Int32.toBitVec_shiftRight]
  show (x.toBitVec.sshiftRight ((nI n &&& 31).toBitVec.smod 32).toNat).getLsbD i = _
  rw [ib_s_l n hn, BitVec.getLsbD_sshiftRight, BitVec.msb_eq_getLsbD_last]
  simp [hi]
theorem ib_bt1 : ∀ i, i < 32 → ∀ k, k < 32 → ib_bt ((1 : Int32) <<< (nI i &&& 31)) k = decide (k = i) := by decide +kernel
/-- the lowest bit -/
theorem ib_low (y : Int32) : y &&& 1 = if ib_bt y 0 = true then 1 else 0 := by
  rw [pk_and y 1 (by decide)]
  unfold ib_bt
  rw [BitVec.getLsbD, Nat.testBit_zero]
  rcases Nat.mod_two_eq_zero_or_one y.toBitVec.toNat with e | e
  · rw [show y.toBitVec.toNat % 2 ^ 1 = 0 from e]
    rfl
  · rw [show y.toBitVec.toNat % 2 ^ 1 = 1 from e]
    rfl
theorem ib_sh1 (x : Int32) {i : Nat} (hi : i < 32) : (x >>> (nI i &&& 31)) &&& 1 = if ib_bt x i = true then 1 else 0 := by
  have e : ib_bt (x >>> (nI i &&& 31)) 0 = ib_bt x i := by
    rw [ib_b_sshr i hi x (by omega), if_pos (show i + 0 < 32 by omega)]
    rfl
  rw [ib_low, e]
theorem ib_sh_t {x : Int32} {i : Nat} (hi : i < 32) (h : ib_bt x i = true) : (x >>> (nI i &&& 31)) &&& 1 = 1 := by rw [ib_sh1 x hi, if_pos h]
theorem ib_sh_f {x : Int32} {i : Nat} (hi : i < 32) (h : ¬ ib_bt x i = true) : (x >>> (nI i &&& 31)) &&& 1 = 0 := by rw [ib_sh1 x hi, if_neg h]
theorem ib_act_bt (x : Int32) {i : Nat} (hi : i < 32) : ib_act x i ↔ ib_bt x i = true := by
  unfold ib_act
  constructor
  · intro h
    by_cases g : ib_bt x i = true
    · exact g
    · rw [ib_sh_f hi g] at h
      exact absurd h (by decide)
  · exact ib_sh_t hi
theorem ib_sh_iff (x : Int32) {i : Nat} (hi : i < 32) : (x >>> (nI i &&& 31)) &&& 1 = 0 ↔ ¬ ib_bt x i = true := by
  constructor
  · intro h g
    rw [ib_sh_t hi g] at h
    exact absurd h (by decide)
  · exact ib_sh_f hi
theorem ib_bt_or1 (x : Int32) {i k : Nat} (hi : i < 32) (hk : k < 32) : ib_bt (x ||| ((1 : Int32) <<< (nI i &&& 31))) k = true ↔ ib_bt x k = true ∨ k = i := by
  rw [ib_b_or, ib_bt1 i hi k hk, Bool.or_eq_true, decide_eq_true_eq]
theorem ib_bt_andn (x : Int32) {i k : Nat} (hi : i < 32) (hk : k < 32) : ib_bt (x &&& (((1 : Int32) <<< (nI i &&& 31)) ^^^ (-1))) k = true ↔ ib_bt x k = true ∧ k ≠ i := by
  rw [ib_b_and, ib_b_xor, ib_bt1 i hi k hk, ib_b_m1 k hk, Bool.and_eq_true, Bool.xor_true, Bool.not_eq_true', decide_eq_false_iff_not]
theorem ib_bt_zero {x : Int32} (h : ∀ k, k < 32 → ¬ ib_bt x k = true) : x = 0 := by
  apply ib_b_ext
  intro i hi
  rw [ib_b_0]
  cases e : ib_bt x i
  · rfl
  · exact absurd e (h i hi)
/-- bits below i: (1 << i) - 1 -/
theorem ib_btm : ∀ i, i < 32 → ∀ k, k < 32 → ib_bt (((1 : Int32) <<< (nI i &&& 31)) - 1) k = decide (k < i) := by decide +kernel
theorem ib_bt64 : ∀ t, t < 64 → ib_bt (nI t) 6 = false ∧ ib_bt (nI t) 7 = false := by decide +kernel
/-- the bits of a set of limits that are on -/
def ib_set (L : Nat) (a5 : Nat → Int32) (r : Int32) : Prop := ∀ k, k < 32 → (ib_bt r k = true ↔ k < L ∧ ¬ a5 k = 0)
def ib_Fo (L : Nat) (a3 a4 a5 : Nat → Int32) (x y z : Int) : Prop := ∀ i, i < L → ¬ a5 i = 0 → ib_lin a3 i x y z ≤ (a4 i).toInt
/-- the points: in the ranges, within the limits that are on -/
def ib_P (L : Nat) (a1 a2 a3 a4 a5 : Nat → Int32) (x y z : Int) : Prop := ib_in a1 a2 x y z ∧ ib_Fo L a3 a4 a5 x y z
theorem ib_F_Fo {L : Nat} {a3 a4 a5 : Nat → Int32} {r : Int32} (hL : L ≤ 6) (hs : ib_set L a5 r) (x y z : Int) : ib_F r a3 a4 x y z ↔ ib_Fo L a3 a4 a5 x y z := by
  constructor
  · intro h i hi h5
    exact h i (by omega) ((ib_act_bt r (by omega)).mpr ((hs i (by omega)).mpr ⟨hi, h5⟩))
  · intro h i hi ha
    have := (hs i (by omega)).mp ((ib_act_bt r (by omega)).mp ha)
    exact h i this.1 this.2
theorem ib_P_eq {L : Nat} {a1 a2 a3 a4 a5 : Nat → Int32} {r : Int32} (hL : L ≤ 6) (hs : ib_set L a5 r) : (fun x y z => ib_in a1 a2 x y z ∧ ib_F r a3 a4 x y z) = ib_P L a1 a2 a3 a4 a5 := by
  funext x y z
  apply propext
  unfold ib_P
  rw [ib_F_Fo hL hs]
end
section
/-! ===== the questions ===== -/
section
variable {L0 A0 D0 : Int32} {a1 a2 a3 a4 a5 a6 a7 a8 a9 a10 a11 : Nat → Int32}
variable {L : Nat}
/-- a state of the class between two calls of the law's -/
def ib_K (L : Nat) (a1 a2 a3 a4 a5 : Nat → Int32) : Prop := L ≤ 6 ∧ ib_rg a1 a2 ∧ ib_wf a3 a4 ∧ ∀ i, i < 6 → a5 i = 0 ∨ a5 i = 1
theorem ib_limitsOn {post : Int32 → Prop} (hL : L ≤ 6) (hp : ∀ r, ib_set L a5 r → post r) : wpX_limitsOn post (nI L, A0, D0, a1, a2, a3, a4, a5, a6, a7, a8, a9, a10, a11) := by
  unfold wpX_limitsOn
  dsimp only
  refine pk_loop (σ := Int32) (fun n i s => wX_limitsOn_4 post (nI L) A0 D0 a1 a2 a3 a4 a5 a6 a7 a8 a9 a10 a11 n s (nI i)) (fun i s => ib_set i a5 s) L 0 0 (by omega) (fun k hk => ?_) ?_ ?_
  · rw [ib_b_0]
    constructor
    · intro h
      exact absurd h (by decide)
    · intro h
      exact absurd h.1 (by omega)
  · intro n s h
    exact pk_le L L (fun _ => hp s h) (fun z => absurd z (by omega))
  · intro n i s hi h hwk
    refine pk_le L i (fun z => absurd z (by omega)) (fun _ => ⟨vp_in_nI (by omega) (by omega), ?_⟩)
    rw [nI_clamp (show i < 2 ^ 31 by omega)]
    refine br_c (fun g => nm_r (nI_1 i) (hwk s (fun k hk => ?_))) (fun g => nm_e (nm_r (nI_1 i) (hwk _ (fun k hk => ?_))))
    · rw [h k hk]
      constructor
      · exact fun z => ⟨by omega, z.2⟩
      · intro z
        refine ⟨?_, z.2⟩
        by_cases e : k = i
        · rw [e] at z
          exact absurd g z.2
        · omega
    · rw [ib_bt_or1 s (by omega) hk, h k hk]
      constructor
      · rintro (z | z)
        · exact ⟨by omega, z.2⟩
        · rw [z]
          exact ⟨by omega, g⟩
      · intro z
        by_cases e : k = i
        · exact Or.inr e
        · exact Or.inl ⟨by omega, z.2⟩
theorem ib_points {post : Int32 → St1 → Prop} (hK : ib_K L a1 a2 a3 a4 a5) (hp : ∀ (A D : Int32) (t6 t7 t8 t9 t10 t11 : Nat → Int32), post (nI (ib_ct (ib_P L a1 a2 a3 a4 a5))) (nI L, A, D, a1, a2, a3, a4, a5, t6, t7, t8, t9, t10, t11)) : wpX_points post (nI L, A0, D0, a1, a2, a3, a4, a5, a6, a7, a8, a9, a10, a11) := by
  unfold wpX_points
  dsimp only
  refine ib_limitsOn hK.1 (fun r hs => ib_countPoints hK.2.2.1 hK.2.1 (fun d t7 t8 t9 t10 => ?_))
  rw [ib_P_eq hK.1 hs]
  exact hp _ _ _ _ _ _ _ _
theorem ib_co3 (t : Nat → Int32) {v : Nat} (hv : v < 3) : ib_co v (t 0).toInt (t 1).toInt (t 2).toInt = (t v).toInt := by
  rcases ib_v3 hv with e | e | e <;> subst e <;> rfl
theorem ib_P_iff {r : Int32} (hL : L ≤ 6) (hs : ib_set L a5 r) (x y z : Int) : (ib_in a1 a2 x y z ∧ ib_F r a3 a4 x y z) ↔ ib_P L a1 a2 a3 a4 a5 x y z := by
  unfold ib_P
  rw [ib_F_Fo hL hs]
theorem ib_qfirst {post : Int32 → St1 → Prop} {v : Nat} (hv : v < 3) (hK : ib_K L a1 a2 a3 a4 a5) (hp0 : (∀ x y z, ¬ ib_P L a1 a2 a3 a4 a5 x y z) → ∀ (A D : Int32) (t6 t7 t8 t9 t10 t11 : Nat → Int32), post (-10000) (nI L, A, D, a1, a2, a3, a4, a5, t6, t7, t8, t9, t10, t11)) (hp1 : ∀ (x y z : Int) (r : Int32), ib_fst (ib_P L a1 a2 a3 a4 a5) x y z → r.toInt = ib_co v x y z → ∀ (A D : Int32) (t6 t7 t8 t9 t10 t11 : Nat → Int32), post r (nI L, A, D, a1, a2, a3, a4, a5, t6, t7, t8, t9, t10, t11)) : wpX_first post (nI L, A0, D0, a1, a2, a3, a4, a5, a6, a7, a8, a9, a10, a11) (nI v) := by
  unfold wpX_first
  dsimp only
  unfold wpX_badVariable
  refine pk_lt v 0 (fun z => absurd z (by omega)) (fun _ => pk_lt v 3 (fun _ => br_t rfl (ib_limitsOn hK.1 (fun r hs => ib_findFirst hK.2.2.1 hK.2.1 (fun d t7 t8 t9 t10 hn => br_t rfl (hp0 (fun x y z g => hn x y z ((ib_P_iff hK.1 hs x y z).mpr g)) _ _ _ _ _ _ _ _)) (fun d t7 t8 t9 t10 t11 hf => br_f (by decide) ⟨vp_in_nI hv (by omega), ?_⟩)))) (fun z => absurd z (by omega)))
  rw [ib_P_eq hK.1 hs] at hf
  rw [nI_clamp (show v < 2 ^ 31 by omega)]
  exact hp1 _ _ _ _ hf (ib_co3 t11 hv).symm _ _ _ _ _ _ _ _
theorem ib_bits {post : Int32 → Prop} {x : Int32} (hp : ∀ N : Nat, N ≤ 6 → (N = 0 → ∀ k, k < 6 → ¬ ib_bt x k = true) → post (nI N)) : wpX_bits post () x := by
  unfold wpX_bits
  refine pk_loop (σ := Nat) (fun n i s => wX_bits_4 post x n (nI s) (nI i)) (fun i s => s ≤ i ∧ (s = 0 → ∀ k, k < i → ¬ ib_bt x k = true)) 6 0 0 (by omega) ⟨by omega, fun _ k hk => absurd hk (by omega)⟩ ?_ ?_
  · intro n s h
    exact pk_le 6 6 (fun _ => hp s h.1 h.2) (fun z => absurd z (by omega))
  · intro n i s hi h hwk
    refine pk_le 6 i (fun z => absurd z (by omega)) (fun _ => ?_)
    by_cases g : ib_bt x i = true
    · refine nm_r (e' := nI (s + 1)) (by rw [ib_sh_t (by omega) g, nI_1]) (nm_r (nI_1 i) (hwk (s + 1) ⟨by omega, fun z => absurd z (by omega)⟩))
    · refine nm_r (e' := nI s) (by rw [ib_sh_f (by omega) g]; exact Int32.add_zero _) (nm_r (nI_1 i) (hwk s ⟨by omega, fun z k hk => ?_⟩))
      by_cases e : k = i
      · rw [e]
        exact g
      · exact h.2 z k (by omega)
/-- where no bit of 0 .. 7 is set every point of the ranges stands -/
theorem ib_no_bits {r : Int32} (hr : ib_rg a1 a2) (h : ∀ k, k < 8 → ¬ ib_bt r k = true) (hn : ∀ x y z, ¬ (ib_in a1 a2 x y z ∧ ib_F r a3 a4 x y z)) : False := by
  obtain ⟨⟨r1, r2, r3⟩, ⟨r4, r5, r6⟩, ⟨r7, r8, r9⟩⟩ := hr
  exact hn (a1 0).toInt (a1 1).toInt (a1 2).toInt ⟨⟨Int.le_refl _, r2, Int.le_refl _, r5, Int.le_refl _, r8⟩, fun i hi ha => absurd ((ib_act_bt r (by omega)).mp ha) (h i hi)⟩
theorem ib_core27 {post : Int32 → St1 → Prop} {ev : Int32} (hK : ib_K L a1 a2 a3 a4 a5) (hp : ∀ r : Int32, 1 ≤ r.toInt → ∀ (A D : Int32) (t6 t7 t8 t9 t10 t11 : Nat → Int32), post r (nI L, A, D, a1, a2, a3, a4, a5, t6, t7, t8, t9, t10, t11)) :
    ∀ (n t : Nat) (best : Int32), t ≤ 64 → 64 - t < n → 1 ≤ best.toInt → ∀ (A D : Int32) (t6 t7 t8 t9 t10 t11 : Nat → Int32), wX_core_27 post ev n best (nI t) (nI L) A D a1 a2 a3 a4 a5 t6 t7 t8 t9 t10 t11 := by
  intro n
  induction n with
  | zero => intro t best _ h
            exact absurd h (by omega)
  | succ n ih =>
    intro t best ht hn hb A D t6 t7 t8 t9 t10 t11
    refine pk_le 64 t (fun _ => hp best hb _ _ _ _ _ _ _ _) (fun hlt => ib_bits (fun N hN h0 => br_c (fun g => br_c (fun g2 => nm_r (nI_1 t) (ih (t + 1) best (by omega) (by omega) hb _ _ _ _ _ _ _ _)) (fun g2 => ib_findFirst hK.2.2.1 hK.2.1 (fun d s7 s8 s9 s10 hno => br_t rfl (nm_r (nI_1 t) (ih (t + 1) (nI N) (by omega) (by omega) ?_ _ _ _ _ _ _ _ _))) (fun d s7 s8 s9 s10 s11 hf => br_f (by decide) (nm_r (nI_1 t) (ih (t + 1) best (by omega) (by omega) hb _ _ _ _ _ _ _ _))))) (fun g => nm_r (nI_1 t) (ih (t + 1) best (by omega) (by omega) hb _ _ _ _ _ _ _ _))))
    rw [nI_toInt (by omega)]
    rcases Nat.eq_zero_or_pos N with e | e
    · refine (ib_no_bits hK.2.1 (fun k hk => ?_) hno).elim
      by_cases h6 : k < 6
      · exact h0 e k h6
      · have q := ib_bt64 t hlt
        have : k = 6 ∨ k = 7 := by omega
        rcases this with e | e <;> subst e
        · rw [q.1]
          decide
        · rw [q.2]
          decide
    · omega
theorem ib_core {post : Int32 → St1 → Prop} (hK : ib_K L a1 a2 a3 a4 a5) (hp0 : (∀ x y z, ¬ ib_P L a1 a2 a3 a4 a5 x y z) → ∀ r : Int32, 1 ≤ r.toInt → ∀ (A D : Int32) (t6 t7 t8 t9 t10 t11 : Nat → Int32), post r (nI L, A, D, a1, a2, a3, a4, a5, t6, t7, t8, t9, t10, t11)) (hp1 : (∃ x y z, ib_P L a1 a2 a3 a4 a5 x y z) → ∀ (A D : Int32) (t6 t7 t8 t9 t10 t11 : Nat → Int32), post (-10000) (nI L, A, D, a1, a2, a3, a4, a5, t6, t7, t8, t9, t10, t11)) : wpX_core post (nI L, A0, D0, a1, a2, a3, a4, a5, a6, a7, a8, a9, a10, a11) := by
  unfold wpX_core
  dsimp only
  refine ib_limitsOn hK.1 (fun r hs => ib_findFirst hK.2.2.1 hK.2.1 (fun d t7 t8 t9 t10 hn => br_t rfl (ib_bits (fun N hN h0 => ⟨65, ?_⟩))) (fun d t7 t8 t9 t10 t11 hf => br_f (by decide) ?_))
  · refine ib_core27 hK (hp0 (fun x y z g => hn x y z ((ib_P_iff hK.1 hs x y z).mpr g))) 65 0 (nI N) (by omega) (by omega) ?_ _ _ _ _ _ _ _ _
    rw [nI_toInt (by omega)]
    rcases Nat.eq_zero_or_pos N with e | e
    · refine (ib_no_bits hK.2.1 (fun k hk => ?_) hn).elim
      by_cases h6 : k < 6
      · exact h0 e k h6
      · intro g
        have q := (hs k (by omega)).mp g
        have := hK.1
        omega
    · omega
  · rw [ib_P_eq hK.1 hs] at hf
    exact hp1 ⟨_, _, _, hf.1⟩ _ _ _ _ _ _ _ _
end
end
section
/-! ===== numbers, greatest, follows, idle ===== -/
section
variable {L0 A0 D0 : Int32} {a1 a2 a3 a4 a5 a6 a7 a8 a9 a10 a11 : Nat → Int32}
variable {L : Nat}
theorem ib_upd_back {b a : Nat → Int32} {v : Nat} (h : ∀ k, k ≠ v → b k = a k) : upd b v (a v) = a := by
  funext j
  by_cases e : j = v
  · rw [e, pk_us]
  · rw [pk_un e]
    exact h j e
theorem ib_in_co {l h : Nat → Int32} {v : Nat} (hv : v < 3) {x y z : Int} (hi : ib_in l h x y z) : (l v).toInt ≤ ib_co v x y z ∧ ib_co v x y z ≤ (h v).toInt := by
  obtain ⟨p1, p2, p3, p4, p5, p6⟩ := hi
  rcases ib_v3 hv with e | e | e <;> subst e
  · exact ⟨p1, p2⟩
  · exact ⟨p3, p4⟩
  · exact ⟨p5, p6⟩
theorem ib_rg_co {l h : Nat → Int32} {v : Nat} (hv : v < 3) (hr : ib_rg l h) : -8 ≤ (l v).toInt ∧ (l v).toInt ≤ (h v).toInt ∧ (h v).toInt ≤ 8 := by
  rcases ib_v3 hv with e | e | e <;> subst e
  · exact hr.1
  · exact hr.2.1
  · exact hr.2.2
/-- the box with one variable set to one number -/
theorem ib_one {l h b1 b2 : Nat → Int32} {v : Nat} {t : Int32} (hv : v < 3) (hr : ib_rg l h) (hb : ∀ k, k ≠ v → b1 k = l k ∧ b2 k = h k) (h1 : (l v).toInt ≤ t.toInt) (h2 : t.toInt ≤ (h v).toInt) : ib_rg (upd b1 v t) (upd b2 v t) ∧ ∀ x y z, ib_in (upd b1 v t) (upd b2 v t) x y z ↔ ib_in l h x y z ∧ ib_co v x y z = t.toInt := by
  obtain ⟨⟨r1, r2, r3⟩, ⟨r4, r5, r6⟩, ⟨r7, r8, r9⟩⟩ := hr
  rcases ib_v3 hv with e | e | e <;> subst e
  · have u0 : upd b1 0 t 0 = t := pk_us
    have u1 : upd b1 0 t 1 = l 1 := by rw [pk_un (by decide)]; exact (hb 1 (by decide)).1
    have u2 : upd b1 0 t 2 = l 2 := by rw [pk_un (by decide)]; exact (hb 2 (by decide)).1
    have w0 : upd b2 0 t 0 = t := pk_us
    have w1 : upd b2 0 t 1 = h 1 := by rw [pk_un (by decide)]; exact (hb 1 (by decide)).2
    have w2 : upd b2 0 t 2 = h 2 := by rw [pk_un (by decide)]; exact (hb 2 (by decide)).2
    unfold ib_rg ib_in
    rw [u0, u1, u2, w0, w1, w2]
    refine ⟨by omega, fun x y z => ?_⟩
    simp only [ib_co, if_true]
    omega
  · have u0 : upd b1 1 t 0 = l 0 := by rw [pk_un (by decide)]; exact (hb 0 (by decide)).1
    have u1 : upd b1 1 t 1 = t := pk_us
    have u2 : upd b1 1 t 2 = l 2 := by rw [pk_un (by decide)]; exact (hb 2 (by decide)).1
    have w0 : upd b2 1 t 0 = h 0 := by rw [pk_un (by decide)]; exact (hb 0 (by decide)).2
    have w1 : upd b2 1 t 1 = t := pk_us
    have w2 : upd b2 1 t 2 = h 2 := by rw [pk_un (by decide)]; exact (hb 2 (by decide)).2
    unfold ib_rg ib_in
    rw [u0, u1, u2, w0, w1, w2]
    refine ⟨by omega, fun x y z => ?_⟩
    simp only [ib_co, if_true, if_neg (show ¬ (1 : Nat) = 0 by decide)]
    omega
  · have u0 : upd b1 2 t 0 = l 0 := by rw [pk_un (by decide)]; exact (hb 0 (by decide)).1
    have u1 : upd b1 2 t 1 = l 1 := by rw [pk_un (by decide)]; exact (hb 1 (by decide)).1
    have u2 : upd b1 2 t 2 = t := pk_us
    have w0 : upd b2 2 t 0 = h 0 := by rw [pk_un (by decide)]; exact (hb 0 (by decide)).2
    have w1 : upd b2 2 t 1 = h 1 := by rw [pk_un (by decide)]; exact (hb 1 (by decide)).2
    have w2 : upd b2 2 t 2 = t := pk_us
    unfold ib_rg ib_in
    rw [u0, u1, u2, w0, w1, w2]
    refine ⟨by omega, fun x y z => ?_⟩
    simp only [ib_co, if_neg (show ¬ (2 : Nat) = 0 by decide), if_neg (show ¬ (2 : Nat) = 1 by decide)]
    omega
/-- the mask of the numbers of a variable, below t, that some point has -/
def ib_msk (P : Int → Int → Int → Prop) (v : Nat) (t : Int) (m : Int32) : Prop := ∀ k : Nat, k < 32 → (ib_bt m k = true ↔ ∃ x y z, P x y z ∧ ib_co v x y z + 8 = (k : Int) ∧ ib_co v x y z < t)
theorem ib_numbers35 {post : Int32 → St1 → Prop} {v : Nat} {set : Int32} (hv : v < 3) (hK : ib_K L a1 a2 a3 a4 a5) (hs : ib_set L a5 set) (hp : ∀ m : Int32, ib_msk (ib_P L a1 a2 a3 a4 a5) v 9 m → ∀ (A D : Int32) (t6 t7 t8 t9 t10 t11 : Nat → Int32), post m (nI L, A, D, a1, a2, a3, a4, a5, t6, t7, t8, t9, t10, t11)) :
    ∀ (n j : Nat) (m x6 : Int32) (b1 b2 : Nat → Int32), 17 - j < n → x6.toInt = (a1 v).toInt + j → x6.toInt ≤ (a2 v).toInt + 1 → (∀ k, k ≠ v → b1 k = a1 k ∧ b2 k = a2 k) → ib_msk (ib_P L a1 a2 a3 a4 a5) v x6.toInt m → ∀ (A D : Int32) (t6 t7 t8 t9 t10 t11 : Nat → Int32), wX_numbers_35 post (nI v) set (a1 v) (a2 v) n m x6 (nI L) A D b1 b2 a3 a4 a5 t6 t7 t8 t9 t10 t11 := by
  have hc := ib_rg_co hv hK.2.1
  have cl : (nI v).toNatClampNeg = v := nI_clamp (by omega)
  have e1 : (1 : Int32).toInt = 1 := by decide
  have e8 : (8 : Int32).toInt = 8 := by decide
  intro n
  induction n with
  | zero => intro j m x6 b1 b2 h
            exact absurd h (by omega)
  | succ n ih =>
    intro j m x6 b1 b2 hn hx hx2 hb hm A D t6 t7 t8 t9 t10 t11
    refine br_c (fun g => ⟨vp_in_nI hv (by omega), nm_r (e' := a1) (by rw [cl]; exact ib_upd_back (fun k hk => (hb k hk).1)) ⟨vp_in_nI hv (by omega), nm_r (e' := a2) (by rw [cl]; exact ib_upd_back (fun k hk => (hb k hk).2)) (hp m ?_ _ _ _ _ _ _ _ _)⟩⟩) (fun g => ⟨vp_in_nI hv (by omega), nm_r (e' := upd b1 v x6) (by rw [cl]) ⟨vp_in_nI hv (by omega), nm_r (e' := upd b2 v x6) (by rw [cl]) ?_⟩⟩)
    · intro k hk
      rw [hm k hk]
      rw [ib_lt] at g
      constructor
      · rintro ⟨x, y, z, h1, h2, h3⟩
        exact ⟨x, y, z, h1, h2, by omega⟩
      · rintro ⟨x, y, z, h1, h2, h3⟩
        have := ib_in_co hv h1.1
        exact ⟨x, y, z, h1, h2, by omega⟩
    · rw [ib_lt] at g
      have hx3 : (x6 + 1).toInt = x6.toInt + 1 := by rw [ib_add (by omega) (by omega), e1]
      obtain ⟨o1, o2⟩ := ib_one (t := x6) hv hK.2.1 hb (by omega) (by omega)
      have hb' : ∀ k, k ≠ v → upd b1 v x6 k = a1 k ∧ upd b2 v x6 k = a2 k := by
        intro k hk
        rw [pk_un hk, pk_un hk]
        exact hb k hk
      have hP : ∀ x y z, (ib_in (upd b1 v x6) (upd b2 v x6) x y z ∧ ib_F set a3 a4 x y z) ↔ (ib_P L a1 a2 a3 a4 a5 x y z ∧ ib_co v x y z = x6.toInt) := by
        intro x y z
        rw [o2 x y z, ib_F_Fo hK.1 hs]
        unfold ib_P
        constructor
        · rintro ⟨⟨h1, h2⟩, h3⟩
          exact ⟨⟨h1, h3⟩, h2⟩
        · rintro ⟨⟨h1, h3⟩, h2⟩
          exact ⟨⟨h1, h2⟩, h3⟩
      refine ib_findFirst hK.2.2.1 o1 (fun d s7 s8 s9 s10 hno => br_t rfl (nm_e (ih (j + 1) m (x6 + 1) _ _ (by omega) (by omega) (by omega) hb' (fun k hk => ?_) _ _ _ _ _ _ _ _))) (fun d s7 s8 s9 s10 s11 hf => br_f (by decide) (nm_e (nm_e (ih (j + 1) _ (x6 + 1) _ _ (by omega) (by omega) (by omega) hb' (fun k hk => ?_) _ _ _ _ _ _ _ _))))
      · rw [hm k hk]
        constructor
        · rintro ⟨x, y, z, h1, h2, h3⟩
          exact ⟨x, y, z, h1, h2, by omega⟩
        · rintro ⟨x, y, z, h1, h2, h3⟩
          refine ⟨x, y, z, h1, h2, ?_⟩
          by_cases e : ib_co v x y z = x6.toInt
          · exact absurd ((hP x y z).mpr ⟨h1, e⟩) (hno x y z)
          · omega
      · have e : x6 + 8 = nI (x6.toInt + 8).toNat := by
          rw [ib_eq, ib_add (by omega) (by omega), e8, nI_toInt (by omega)]
          omega
        rw [e, ib_bt_or1 m (by omega) hk, hm k hk]
        have hex := (hP _ _ _).mp hf.1
        constructor
        · rintro (⟨x, y, z, h1, h2, h3⟩ | h)
          · exact ⟨x, y, z, h1, h2, by omega⟩
          · exact ⟨_, _, _, hex.1, by omega, by omega⟩
        · rintro ⟨x, y, z, h1, h2, h3⟩
          by_cases e : ib_co v x y z = x6.toInt
          · exact Or.inr (by omega)
          · exact Or.inl ⟨x, y, z, h1, h2, by omega⟩
theorem ib_numbers {post : Int32 → St1 → Prop} {v : Nat} (hv : v < 3) (hK : ib_K L a1 a2 a3 a4 a5) (hp : ∀ m : Int32, ib_msk (ib_P L a1 a2 a3 a4 a5) v 9 m → ∀ (A D : Int32) (t6 t7 t8 t9 t10 t11 : Nat → Int32), post m (nI L, A, D, a1, a2, a3, a4, a5, t6, t7, t8, t9, t10, t11)) : wpX_numbers post (nI L, A0, D0, a1, a2, a3, a4, a5, a6, a7, a8, a9, a10, a11) (nI v) := by
  have hc := ib_rg_co hv hK.2.1
  unfold wpX_numbers
  dsimp only
  unfold wpX_badVariable
  rw [nI_clamp (show v < 2 ^ 31 by omega)]
  refine pk_lt v 0 (fun z => absurd z (by omega)) (fun _ => pk_lt v 3 (fun _ => br_t rfl (ib_limitsOn hK.1 (fun r hs => ⟨vp_in_nI hv (by omega), nm_e ⟨vp_in_nI hv (by omega), nm_e ⟨18, ?_⟩⟩⟩))) (fun z => absurd z (by omega)))
  refine ib_numbers35 hv hK hs hp 18 0 0 (a1 v) a1 a2 (by omega) (by omega) (by omega) (fun k hk => ⟨rfl, rfl⟩) (fun k hk => ?_) _ _ _ _ _ _ _ _
  rw [ib_b_0]
  constructor
  · intro h
    exact absurd h (by decide)
  · rintro ⟨x, y, z, h1, h2, h3⟩
    have := ib_in_co hv h1.1
    omega
/-- a factor out of the packed word -/
def ib_fo (f : Int32) (v : Nat) : Int32 := ((f >>> ((4 * nI v) &&& 31)) &&& 15) - 5
def ib_gf (f : Int32) : Prop := ∀ v, v < 3 → ib_fo f v ≤ 5
theorem ib_fo_b {f : Int32} (hf : ib_gf f) (k : Nat) (hk : k < 3) : -5 ≤ (ib_fo f k).toInt ∧ (ib_fo f k).toInt ≤ 5 := by
  have h := hf k hk
  rw [ib_le, show (5 : Int32).toInt = 5 by decide] at h
  refine ⟨?_, h⟩
  unfold ib_fo
  obtain ⟨j, hj, e⟩ := pk_andE (f >>> ((4 * nI k) &&& 31)) (m := 15) 4 (by decide)
  rw [e]
  have e5 : (5 : Int32).toInt = 5 := by decide
  have ej : (nI j).toInt = (j : Int) := nI_toInt (by omega)
  rw [ib_sub (by omega) (by omega), ej, e5]
  omega
theorem ib_badFactors {post : Int32 → Prop} {f : Int32} (hf : ib_gf f) (hp : post 0) : wpX_badFactors post () f := by
  unfold wpX_badFactors
  exact pk_loop (σ := Unit) (fun n i _ => wX_badFactors_2 post f n (nI i)) (fun _ _ => True) 3 0 () (by omega) trivial (fun n _ _ => pk_le 3 3 (fun _ => hp) (fun z => absurd z (by omega))) (fun n i _ hi _ hwk => pk_le 3 i (fun z => absurd z (by omega)) (fun _ => br_t (hf i hi) (nm_r (nI_1 i) (hwk () trivial))))
theorem ib_V_congr {g g' : Nat → Int32} (h : ∀ k, k < 3 → g k = g' k) : ib_V g = ib_V g' := by
  funext x y z
  unfold ib_V
  rw [h 0 (by omega), h 1 (by omega), h 2 (by omega)]
theorem ib_greatest {post : Int32 → St1 → Prop} {f : Int32} (hf : ib_gf f) (hK : ib_K L a1 a2 a3 a4 a5) (hp : ∀ r : Int32, ib_max (ib_P L a1 a2 a3 a4 a5) (ib_fo f) r → ∀ (A D : Int32) (t6 t7 t8 t9 t10 t11 : Nat → Int32), post r (nI L, A, D, a1, a2, a3, a4, a5, t6, t7, t8, t9, t10, t11)) : wpX_greatest post (nI L, A0, D0, a1, a2, a3, a4, a5, a6, a7, a8, a9, a10, a11) f := by
  unfold wpX_greatest
  dsimp only
  refine ib_badFactors hf (br_t rfl ?_)
  refine pk_loop (σ := Nat → Int32) (fun n k s => wX_greatest_12 post f (nI L) A0 D0 n (nI k) a1 a2 a3 a4 a5 s a7 a8 a9 a10 a11) (fun k s => ∀ j, j < k → s j = ib_fo f j) 3 0 a6 (by omega) (fun j hj => absurd hj (by omega)) ?_ ?_
  · intro n s h
    refine pk_le 3 3 (fun _ => ib_limitsOn hK.1 (fun r hs => ib_findGreatest hK.2.2.1 hK.2.1 (fun k hk => by rw [h k hk]; exact ib_fo_b hf k hk) (fun r d t7 t8 t9 t10 hm => ?_))) (fun z => absurd z (by omega))
    rw [ib_P_eq hK.1 hs] at hm
    unfold ib_max at hm
    rw [ib_V_congr h] at hm
    exact hp r hm _ _ _ _ _ _ _ _
  · intro n k s hk h hwk
    refine pk_le 3 k (fun z => absurd z (by omega)) (fun _ => ⟨vp_in_nI hk (by omega), nm_e (nm_r (nI_1 k) (hwk _ (fun j hj => ?_)))⟩)
    rw [nI_clamp (show k < 2 ^ 31 by omega)]
    by_cases e : j = k
    · rw [e, pk_us]
      rfl
    · rw [pk_un e]
      exact h j (by omega)
theorem ib_follows {post : Int32 → St1 → Prop} {f d : Int32} (hf : ib_gf f) (hK : ib_K L a1 a2 a3 a4 a5) (hp1 : ∀ r : Int32, ib_max (ib_P L a1 a2 a3 a4 a5) (ib_fo f) r → (r = -10000 ∨ r.toInt ≤ d.toInt) → ∀ (A D : Int32) (t6 t7 t8 t9 t10 t11 : Nat → Int32), post 1 (nI L, A, D, a1, a2, a3, a4, a5, t6, t7, t8, t9, t10, t11)) (hp0 : ∀ r : Int32, ib_max (ib_P L a1 a2 a3 a4 a5) (ib_fo f) r → ¬ r = -10000 → d.toInt < r.toInt → ∀ (A D : Int32) (t6 t7 t8 t9 t10 t11 : Nat → Int32), post 0 (nI L, A, D, a1, a2, a3, a4, a5, t6, t7, t8, t9, t10, t11)) : wpX_follows post (nI L, A0, D0, a1, a2, a3, a4, a5, a6, a7, a8, a9, a10, a11) f d := by
  unfold wpX_follows
  dsimp only
  refine ib_badFactors hf (br_t rfl (ib_greatest hf hK (fun r hm A D t6 t7 t8 t9 t10 t11 => br_c (fun g => hp1 r hm (Or.inl g) _ _ _ _ _ _ _ _) (fun g => br_c (fun g2 => hp0 r hm g (by rw [ib_lt] at g2; exact g2) _ _ _ _ _ _ _ _) (fun g2 => hp1 r hm (Or.inr (by rw [ib_lt] at g2; omega)) _ _ _ _ _ _ _ _)))))
theorem ib_set_off {r : Int32} {i : Nat} (hi : i < 6) (hs : ib_set L a5 r) : ib_set L (upd a5 i 0) (r &&& (((1 : Int32) <<< (nI i &&& 31)) ^^^ (-1))) := by
  intro k hk
  rw [ib_bt_andn r (by omega) hk, hs k hk]
  by_cases e : k = i
  · rw [e, pk_us]
    constructor
    · intro h
      exact absurd rfl h.2
    · intro h
      exact absurd rfl h.2
  · rw [pk_un e]
    constructor
    · intro h
      exact h.1
    · intro h
      exact ⟨h, e⟩
theorem ib_K_off {i : Nat} {b : Int32} (hK : ib_K L a1 a2 a3 a4 a5) (hb : b = 0 ∨ b = 1) : ib_K L a1 a2 a3 a4 (upd a5 i b) := by
  refine ⟨hK.1, hK.2.1, hK.2.2.1, fun j hj => ?_⟩
  by_cases e : j = i
  · rw [e, pk_us]
    exact hb
  · rw [pk_un e]
    exact hK.2.2.2 j hj
theorem ib_idle {post : Int32 → St1 → Prop} {i : Nat} (hi : i < L) (hK : ib_K L a1 a2 a3 a4 a5) (hp1 : ¬ a5 i = 0 → ib_ct (ib_P L a1 a2 a3 a4 a5) = ib_ct (ib_P L a1 a2 a3 a4 (upd a5 i 0)) → ∀ (A D : Int32) (t6 t7 t8 t9 t10 t11 : Nat → Int32), post 1 (nI L, A, D, a1, a2, a3, a4, a5, t6, t7, t8, t9, t10, t11)) (hp0 : (¬ a5 i = 0 → ¬ ib_ct (ib_P L a1 a2 a3 a4 a5) = ib_ct (ib_P L a1 a2 a3 a4 (upd a5 i 0))) → ∀ (A D : Int32) (t6 t7 t8 t9 t10 t11 : Nat → Int32), post 0 (nI L, A, D, a1, a2, a3, a4, a5, t6, t7, t8, t9, t10, t11)) : wpX_idle post (nI L, A0, D0, a1, a2, a3, a4, a5, a6, a7, a8, a9, a10, a11) (nI i) := by
  have hL := hK.1
  have m1 := ib_ct_max (ib_P L a1 a2 a3 a4 a5)
  have m2 := ib_ct_max (ib_P L a1 a2 a3 a4 (upd a5 i 0))
  unfold wpX_idle
  dsimp only
  unfold wpX_noLimit
  dsimp only
  rw [nI_clamp (show i < 2 ^ 31 by omega)]
  refine pk_lt i 0 (fun z => absurd z (by omega)) (fun _ => pk_lt i L (fun _ => br_t rfl ⟨vp_in_nI (by omega) (by omega), br_c (fun g => hp0 (fun z => absurd g z) _ _ _ _ _ _ _ _) (fun g => ib_limitsOn hK.1 (fun r hs => ib_countPoints hK.2.2.1 hK.2.1 (fun d t7 t8 t9 t10 => ib_countPoints hK.2.2.1 hK.2.1 (fun d' s7 s8 s9 s10 => ?_))))⟩) (fun z => absurd z (by omega)))
  rw [ib_P_eq hK.1 hs, ib_P_eq hK.1 (ib_set_off (i := i) (by omega) hs)]
  exact pk_eq _ _ (fun e => hp1 g e _ _ _ _ _ _ _ _) (fun e => hp0 (fun _ => e) _ _ _ _ _ _ _ _)
theorem ib_idleN {post : Int32 → St1 → Prop} (hL : L ≤ 6) (hp : post 0 (nI L, A0, D0, a1, a2, a3, a4, a5, a6, a7, a8, a9, a10, a11)) : wpX_idle post (nI L, A0, D0, a1, a2, a3, a4, a5, a6, a7, a8, a9, a10, a11) (nI L) := by
  unfold wpX_idle
  dsimp only
  unfold wpX_noLimit
  dsimp only
  exact pk_lt L 0 (fun z => absurd z (by omega)) (fun _ => pk_lt L L (fun z => absurd z (by omega)) (fun _ => br_f (by decide) hp))
theorem ib_turnN {post : Int32 → St1 → Prop} {b : Int32} (hL : L ≤ 6) (hp : post (-5) (nI L, A0, D0, a1, a2, a3, a4, a5, a6, a7, a8, a9, a10, a11)) : wpX_turn post (nI L, A0, D0, a1, a2, a3, a4, a5, a6, a7, a8, a9, a10, a11) (nI L) b := by
  unfold wpX_turn
  dsimp only
  unfold wpX_noLimit
  dsimp only
  exact pk_lt L 0 (fun z => absurd z (by omega)) (fun _ => pk_lt L L (fun z => absurd z (by omega)) (fun _ => br_f (by decide) hp))
theorem ib_turn {post : Int32 → St1 → Prop} {b : Int32} {i : Nat} (hi : i < L) (hL : L ≤ 6) (hb : b = 0 ∨ b = 1) (hp : ∀ r : Int32, (a5 i = 0 → r = 0) → (¬ a5 i = 0 → r = 1) → post r (nI L, A0, D0, a1, a2, a3, a4, upd a5 i b, a6, a7, a8, a9, a10, a11)) : wpX_turn post (nI L, A0, D0, a1, a2, a3, a4, a5, a6, a7, a8, a9, a10, a11) (nI i) b := by
  have hn : vp_nar .boolean b = b := by
    rcases hb with e | e <;> subst e <;> decide
  unfold wpX_turn
  dsimp only
  unfold wpX_noLimit wX_turn_25
  dsimp only
  rw [nI_clamp (show i < 2 ^ 31 by omega), hn]
  exact pk_lt i 0 (fun z => absurd z (by omega)) (fun _ => pk_lt i L (fun _ => br_t rfl ⟨vp_in_nI (by omega) (by omega), br_c (fun g => ⟨vp_in_nI (by omega) (by omega), nm_e (hp 0 (fun _ => rfl) (fun z => absurd g z))⟩) (fun g => ⟨vp_in_nI (by omega) (by omega), nm_e (hp 1 (fun z => absurd z g) (fun _ => rfl))⟩)⟩) (fun z => absurd z (by omega)))
theorem ib_drop {post : Int32 → St1 → Prop} (hL : L < 6) (hp : post (nI L) (nI L, A0, D0, a1, a2, a3, a4, a5, a6, a7, a8, a9, a10, a11)) : wpX_drop post (nI (L + 1), A0, D0, a1, a2, a3, a4, a5, a6, a7, a8, a9, a10, a11) := by
  unfold wpX_drop
  dsimp only
  exact pk_eq (L + 1) 0 (fun z => absurd z (by omega)) (fun _ => nm_r (nI_pred L) hp)
theorem ib_range {post : Int32 → St1 → Prop} {v : Nat} {lo hi : Int32} (hv : v < 3) (h1 : -8 ≤ lo.toInt) (h2 : lo.toInt ≤ hi.toInt) (h3 : hi.toInt ≤ 8) (hp : post ((hi - lo) + 1) (L0, A0, D0, upd a1 v lo, upd a2 v hi, a3, a4, a5, a6, a7, a8, a9, a10, a11)) : wpX_range post (L0, A0, D0, a1, a2, a3, a4, a5, a6, a7, a8, a9, a10, a11) (nI v) lo hi := by
  unfold wpX_range
  dsimp only
  unfold wpX_badVariable
  rw [nI_clamp (show v < 2 ^ 31 by omega)]
  refine pk_lt v 0 (fun z => absurd z (by omega)) (fun _ => pk_lt v 3 (fun _ => br_t rfl (br_f ?_ (br_f ?_ (br_t ?_ ⟨vp_in_nI hv (by omega), nm_e ⟨vp_in_nI hv (by omega), nm_e hp⟩⟩)))) (fun z => absurd z (by omega)))
  · rw [ib_lt, show (-8 : Int32).toInt = -8 by decide]
    omega
  · rw [ib_lt]
    omega
  · rw [ib_le, show (8 : Int32).toInt = 8 by decide]
    omega
theorem ib_setLimit {post : St1 → Prop} {i : Nat} {f d : Int32} (hi : i < 6) (hp : ∀ b3 : Nat → Int32, (∀ k, k < 3 → b3 (i * 3 + k) = ib_fo f k) → (∀ j, (j < i * 3 ∨ i * 3 + 3 ≤ j) → b3 j = a3 j) → post (L0, A0, D0, a1, a2, b3, upd a4 i d, a5, a6, a7, a8, a9, a10, a11)) : wpX_setLimit post (L0, A0, D0, a1, a2, a3, a4, a5, a6, a7, a8, a9, a10, a11) (nI i) f d := by
  unfold wpX_setLimit
  dsimp only
  refine pk_loop (σ := Nat → Int32) (fun n k s => wX_setLimit_3 post (nI i) f d L0 A0 D0 n (nI k) a1 a2 s a4 a5 a6 a7 a8 a9 a10 a11) (fun k s => (∀ j, j < k → s (i * 3 + j) = ib_fo f j) ∧ (∀ j, (j < i * 3 ∨ i * 3 + 3 ≤ j) → s j = a3 j)) 3 0 a3 (by omega) ⟨fun j hj => absurd hj (by omega), fun j _ => rfl⟩ ?_ ?_
  · intro n s h
    refine pk_le 3 3 (fun _ => ⟨vp_in_nI (by omega) (by omega), nm_r (e' := upd a4 i d) ?_ (hp s h.1 h.2)⟩) (fun z => absurd z (by omega))
    rw [nI_clamp (show i < 2 ^ 31 by omega)]
  · intro n k s hk h hwk
    have hin : vp_in (nI i * 3 + nI k) 24 := by rw [ib_ix3]; exact vp_in_nI (by omega) (by omega)
    refine pk_le 3 k (fun z => absurd z (by omega)) (fun _ => ⟨hin, nm_r (e' := upd s (i * 3 + k) (ib_fo f k)) ?_ (nm_r (nI_1 k) (hwk _ ⟨fun j hj => ?_, fun j hj => ?_⟩))⟩)
    · rw [ib_ix3, nI_clamp (show i * 3 + k < 2 ^ 31 by omega)]
      rfl
    · by_cases e : j = k
      · rw [e, pk_us]
      · rw [pk_un (by omega)]
        exact h.1 j (by omega)
    · rw [pk_un (by omega)]
      exact h.2 j hj
theorem ib_limit {post : Int32 → St1 → Prop} {f d : Int32} (hL : L < 6) (hf : ib_gf f) (h1 : -100 ≤ d.toInt) (h2 : d.toInt ≤ 100) (hp : ∀ b3 : Nat → Int32, (∀ k, k < 3 → b3 (L * 3 + k) = ib_fo f k) → (∀ j, (j < L * 3 ∨ L * 3 + 3 ≤ j) → b3 j = a3 j) → post (nI L) (nI (L + 1), A0, D0, a1, a2, b3, upd a4 L d, upd a5 L 1, a6, a7, a8, a9, a10, a11)) : wpX_limit post (nI L, A0, D0, a1, a2, a3, a4, a5, a6, a7, a8, a9, a10, a11) f d := by
  unfold wpX_limit
  dsimp only
  refine ib_badFactors hf (br_t rfl (br_f ?_ (br_t ?_ (pk_lt L 6 (fun _ => ib_setLimit hL (fun b3 q1 q2 => ⟨vp_in_nI hL (by omega), nm_r (e' := upd a5 L 1) ?_ (nm_r (nI_1 L) ?_)⟩)) (fun z => absurd z (by omega))))))
  · rw [ib_lt, show (-100 : Int32).toInt = -100 by decide]
    omega
  · rw [ib_le, show (100 : Int32).toInt = 100 by decide]
    omega
  · rw [nI_clamp (show L < 2 ^ 31 by omega)]
  · rw [nI_pred]
    exact hp b3 q1 q2
theorem ib_limit6 {post : Int32 → St1 → Prop} {f d : Int32} (hf : ib_gf f) (h1 : -100 ≤ d.toInt) (h2 : d.toInt ≤ 100) (hp : post (-4) (nI 6, A0, D0, a1, a2, a3, a4, a5, a6, a7, a8, a9, a10, a11)) : wpX_limit post (nI 6, A0, D0, a1, a2, a3, a4, a5, a6, a7, a8, a9, a10, a11) f d := by
  unfold wpX_limit
  dsimp only
  refine ib_badFactors hf (br_t rfl (br_f ?_ (br_t ?_ (pk_lt 6 6 (fun z => absurd z (by omega)) (fun _ => hp)))))
  · rw [ib_lt, show (-100 : Int32).toInt = -100 by decide]
    omega
  · rw [ib_le, show (100 : Int32).toInt = 100 by decide]
    omega
end
end
section
/-! ===== the law's first check ===== -/
section
variable {L0 A0 D0 : Int32} {a1 a2 a3 a4 a5 a6 a7 a8 a9 a10 a11 : Nat → Int32}
variable {L : Nat}
/-- what the law keeps of limit i: its factors, its bound -/
def ib_fw (f01 f2 : Int64) (i : Nat) : Int32 := (if 5 ≤ i then f2 else f01 >>> ((12 * nI i).toInt64 &&& 63)).toInt32 &&& 4095
def ib_dw (d : Int64) (i : Nat) : Int32 := (((d >>> ((8 * nI i).toInt64 &&& 63)).toInt32) &&& 255) - 100
/-- the law's words say what the class holds -/
def ib_W (L : Nat) (f01 f2 d : Int64) (on : Int32) (a3 a4 a5 : Nat → Int32) : Prop := ∀ i, i < L → (∀ k, k < 3 → a3 (i * 3 + k) = ib_fo (ib_fw f01 f2 i) k) ∧ ib_gf (ib_fw f01 f2 i) ∧ a4 i = ib_dw d i ∧ (ib_bt on i = true ↔ ¬ a5 i = 0)
theorem ib_V_lin {f : Int32} {i : Nat} (h : ∀ k, k < 3 → a3 (i * 3 + k) = ib_fo f k) (x y z : Int) : ib_V (ib_fo f) x y z = ib_lin a3 i x y z := by
  unfold ib_V ib_lin
  rw [h 0 (by omega), h 1 (by omega), h 2 (by omega)]
theorem ib_value {post : Int32 → Prop} {f a b c : Int32} (hf : ib_gf f) (ha : -8 ≤ a.toInt ∧ a.toInt ≤ 8) (hb : -8 ≤ b.toInt ∧ b.toInt ≤ 8) (hc : -8 ≤ c.toInt ∧ c.toInt ≤ 8) (hp : ∀ r : Int32, r.toInt = ib_V (ib_fo f) a.toInt b.toInt c.toInt → post r) : wpL_value post () f a b c := by
  unfold wpL_value
  have s0 : (f &&& 15) - 5 = ib_fo f 0 := by
    unfold ib_fo
    rw [show (4 * nI 0) = 0 by decide, sb_shr0]
  have s1 : ((f >>> ((4 : Int32) &&& 31)) &&& 15) - 5 = ib_fo f 1 := by
    unfold ib_fo
    rw [show (4 * nI 1) = 4 by decide]
  have s2 : ((f >>> ((8 : Int32) &&& 31)) &&& 15) - 5 = ib_fo f 2 := by
    unfold ib_fo
    rw [show (4 * nI 2) = 8 by decide]
  rw [s0, s1, s2]
  apply hp
  have f0 := ib_fo_b hf 0 (by omega)
  have f1 := ib_fo_b hf 1 (by omega)
  have f2 := ib_fo_b hf 2 (by omega)
  have m0 := ib_m40 f0.1 f0.2 ha.1 ha.2
  have m1 := ib_m40 f1.1 f1.2 hb.1 hb.2
  have m2 := ib_m40 f2.1 f2.2 hc.1 hc.2
  have t0 : (ib_fo f 0 * a).toInt = (ib_fo f 0).toInt * a.toInt := ib_mul (by omega) (by omega)
  have t1 : (ib_fo f 1 * b).toInt = (ib_fo f 1).toInt * b.toInt := ib_mul (by omega) (by omega)
  have t2 : (ib_fo f 2 * c).toInt = (ib_fo f 2).toInt * c.toInt := ib_mul (by omega) (by omega)
  have u1 : (ib_fo f 0 * a + ib_fo f 1 * b).toInt = (ib_fo f 0).toInt * a.toInt + (ib_fo f 1).toInt * b.toInt := by
    rw [ib_add (by rw [t0, t1]; omega) (by rw [t0, t1]; omega), t0, t1]
  rw [ib_add (by rw [u1, t2]; omega) (by rw [u1, t2]; omega), u1, t2]
  rfl
theorem ib_lf158 {post : Int32 → St1 → Prop} {f01 f2 d : Int64} {on a b c : Int32} (hK : ib_K L a1 a2 a3 a4 a5) (hW : ib_W L f01 f2 d on a3 a4 a5) (hP : ib_P L a1 a2 a3 a4 a5 a.toInt b.toInt c.toInt) (hp : ∀ (A D : Int32) (t6 t7 t8 t9 t10 t11 : Nat → Int32), post 1 (nI L, A, D, a1, a2, a3, a4, a5, t6, t7, t8, t9, t10, t11)) :
    ∀ (n i : Nat), i ≤ L → L - i < n → ∀ (A D : Int32) (t6 t7 t8 t9 t10 t11 : Nat → Int32), wL_first_158 post f01 f2 d on (nI L) a b c n (nI i) (nI L) A D a1 a2 a3 a4 a5 t6 t7 t8 t9 t10 t11 := by
  have hL := hK.1
  have em : (-10000 : Int32).toInt = -10000 := by decide
  intro n
  induction n with
  | zero => intro i _ h
            exact absurd h (by omega)
  | succ n ih =>
    intro i hi hn A D t6 t7 t8 t9 t10 t11
    refine pk_le L i (fun _ => hp _ _ _ _ _ _ _ _) (fun hlt => ?_)
    obtain ⟨w1, w2, w3, w4⟩ := hW i hlt
    have hb := hK.2.2.1.2 i (by omega)
    have H : ∀ z0 : Int64, z0.toInt32 &&& 4095 = ib_fw f01 f2 i → wL_first_182 post (wL_first_158 post f01 f2 d on (nI L) a b c n) f01 f2 d on (nI L) a b c (nI i) z0 (nI L) A D a1 a2 a3 a4 a5 t6 t7 t8 t9 t10 t11 := by
      intro z0 hz
      unfold wL_first_182
      refine nm_r hz (nm_r w3.symm (br_c (fun g => ?_) (fun g => ?_)))
      · unfold wL_first_222
        exact br_t rfl (nm_r (nI_1 i) (ih (i + 1) (by omega) (by omega) _ _ _ _ _ _ _ _))
      · rw [ib_sh_iff on (by omega)] at g
        have h5 : ¬ a5 i = 0 := w4.mp (Classical.not_not.mp g)
        have hin := hP.1
        obtain ⟨⟨r1, r2, r3⟩, ⟨r4, r5, r6⟩, ⟨r7, r8, r9⟩⟩ := hK.2.1
        obtain ⟨p1, p2, p3, p4, p5, p6⟩ := hin
        have hV : ∀ x y z, ib_P L a1 a2 a3 a4 a5 x y z → ib_V (ib_fo (ib_fw f01 f2 i)) x y z ≤ (a4 i).toInt := by
          intro x y z hxyz
          rw [ib_V_lin w1]
          exact hxyz.2 i hlt h5
        have hmx : ∀ r : Int32, ib_max (ib_P L a1 a2 a3 a4 a5) (ib_fo (ib_fw f01 f2 i)) r → r.toInt ≤ (a4 i).toInt := by
          intro r hm
          rcases hm with ⟨e, _⟩ | ⟨_, _, ⟨x, y, z, k1, k2⟩, _⟩
          · rw [e, em]
            omega
          · have := hV x y z k1
            omega
        unfold wL_first_222
        refine br_f (by decide) (ib_value w2 (by omega) (by omega) (by omega) (fun r hr => br_f ?_ (ib_greatest w2 hK (fun r2 hm2 A D t6 t7 t8 t9 t10 t11 => br_f ?_ (ib_follows w2 hK (fun r3 hm3 _ A D t6 t7 t8 t9 t10 t11 => br_f (by decide) (nm_r (nI_1 i) (ih (i + 1) (by omega) (by omega) _ _ _ _ _ _ _ _))) (fun r3 hm3 _ h3 => ?_))))))
        · rw [ib_lt, hr]
          have := hV _ _ _ hP
          omega
        · rw [ib_lt]
          have := hmx r2 hm2
          omega
        · have := hmx r3 hm3
          omega
    refine pk_le 5 i (fun h => H f2 ?_) (fun h => H (f01 >>> ((12 * nI i).toInt64 &&& 63)) ?_)
    · unfold ib_fw
      rw [if_pos h]
    · unfold ib_fw
      rw [if_neg (by omega)]
theorem ib_fst_uniq {P : Int → Int → Int → Prop} {x y z x' y' z' : Int} (h : ib_fst P x y z) (h' : ib_fst P x' y' z') : x' = x ∧ y' = y ∧ z' = z := by
  have k1 := h.2 x' y' z' h'.1
  have k2 := h'.2 x y z h.1
  unfold ib_lx at k1 k2
  omega
theorem ib_lawFirst {post : Int32 → St1 → Prop} {f01 f2 d : Int64} {on : Int32} (hK : ib_K L a1 a2 a3 a4 a5) (hW : ib_W L f01 f2 d on a3 a4 a5) (hp : ∀ (A D : Int32) (t6 t7 t8 t9 t10 t11 : Nat → Int32), post 1 (nI L, A, D, a1, a2, a3, a4, a5, t6, t7, t8, t9, t10, t11)) : wpL_first post (nI L, A0, D0, a1, a2, a3, a4, a5, a6, a7, a8, a9, a10, a11) f01 f2 d on (nI L) := by
  have e8 : (8 : Int32).toInt = 8 := by decide
  unfold wpL_first
  dsimp only
  refine ib_qfirst (v := 0) (by omega) hK (fun hno A D t6 t7 t8 t9 t10 t11 => ?_) (fun x y z r0 hfst hr0 A D t6 t7 t8 t9 t10 t11 => ?_)
  · have ab : ∀ {Q : Prop} {x y z : Int}, ib_fst (ib_P L a1 a2 a3 a4 a5) x y z → Q := fun h => absurd h.1 (hno _ _ _)
    have c0 : nI (ib_ct (ib_P L a1 a2 a3 a4 a5)) = 0 := by rw [ib_ct_no hno]; rfl
    refine ib_qfirst (v := 1) (by omega) hK (fun _ A D t6 t7 t8 t9 t10 t11 => ib_qfirst (v := 2) (by omega) hK (fun _ A D t6 t7 t8 t9 t10 t11 => ib_points hK (fun A D t6 t7 t8 t9 t10 t11 => br_t c0 (br_t rfl (br_t rfl (br_t rfl (ib_numbers (v := 0) (by omega) hK (fun m hm A D t6 t7 t8 t9 t10 t11 => br_t (ib_bt_zero (fun k hk g => ?_)) (ib_core hK (fun _ r hr A D t6 t7 t8 t9 t10 t11 => br_f ?_ (hp _ _ _ _ _ _ _ _)) (fun hex => ?_)))))))) ) (fun x y z r hf _ => ab hf)) (fun x y z r hf _ => ab hf)
    · obtain ⟨x, y, z, k1, _⟩ := (hm k hk).mp g
      exact hno x y z k1
    · rw [ib_lt, show (1 : Int32).toInt = 1 by decide]
      omega
    · obtain ⟨x, y, z, k1⟩ := hex
      exact absurd k1 (hno x y z)
  · have yes : ∀ {Q : Prop}, (∀ x y z, ¬ ib_P L a1 a2 a3 a4 a5 x y z) → Q := fun h => absurd hfst.1 (h _ _ _)
    have hx0 : r0.toInt = x := hr0
    have hin := hfst.1.1
    obtain ⟨⟨q1, q2, q3⟩, ⟨q4, q5, q6⟩, ⟨q7, q8, q9⟩⟩ := hK.2.1
    obtain ⟨p1, p2, p3, p4, p5, p6⟩ := hin
    have hct : 0 < ib_ct (ib_P L a1 a2 a3 a4 a5) := ib_ct_pos hfst.1 (by omega) (by omega) (by omega)
    have hmx := ib_ct_max (ib_P L a1 a2 a3 a4 a5)
    dsimp only
    refine ib_qfirst (v := 1) (by omega) hK (fun hno => yes hno) (fun x' y' z' r1 hfst1 hr1 A D t6 t7 t8 t9 t10 t11 => ?_)
    obtain ⟨u1, u2, u3⟩ := ib_fst_uniq hfst hfst1
    have hx1 : r1.toInt = y := by
      have : r1.toInt = y' := hr1
      omega
    dsimp only
    refine ib_qfirst (v := 2) (by omega) hK (fun hno => yes hno) (fun x'' y'' z'' r2 hfst2 hr2 A D t6 t7 t8 t9 t10 t11 => ?_)
    obtain ⟨u4, u5, u6⟩ := ib_fst_uniq hfst hfst2
    have hx2 : r2.toInt = z := by
      have : r2.toInt = z'' := hr2
      omega
    have e0 : r0 + 8 = nI (x + 8).toNat := by
      rw [ib_eq, ib_add (by omega) (by omega), e8, nI_toInt (by omega)]
      omega
    have e2 : r2 + 8 = nI (z + 8).toNat := by
      rw [ib_eq, ib_add (by omega) (by omega), e8, nI_toInt (by omega)]
      omega
    dsimp only
    refine ib_points hK (fun A D t6 t7 t8 t9 t10 t11 => ?_)
    dsimp only
    refine br_f (nI_ne0 hct (by omega)) (br_f (nI_pos (by omega)) (pk_lt 4913 (ib_ct (ib_P L a1 a2 a3 a4 a5)) (fun z => absurd z (by omega)) (fun _ => ib_core hK (fun hno => yes hno) (fun _ A D t6 t7 t8 t9 t10 t11 => ?_))))
    dsimp only
    refine br_t rfl (ib_numbers (v := 0) (by omega) hK (fun m hm A D t6 t7 t8 t9 t10 t11 => br_f ?_ ?_))
    · rw [e0, ib_sh_iff m (by omega), Classical.not_not, hm _ (by omega)]
      exact ⟨x, y, z, hfst.1, by show x + 8 = _; omega, by show x < 9; omega⟩
    dsimp only
    refine ib_numbers (v := 2) (by omega) hK (fun m2 hm2 A D t6 t7 t8 t9 t10 t11 => br_f ?_ ?_)
    · rw [e2, ib_sh_iff m2 (by omega), Classical.not_not, hm2 _ (by omega)]
      exact ⟨x, y, z, hfst.1, by show z + 8 = _; omega, by show z < 9; omega⟩
    dsimp only
    refine ib_numbers (v := 0) (by omega) hK (fun m3 hm3 A D t6 t7 t8 t9 t10 t11 => br_t ?_ ⟨L + 1, ?_⟩)
    · rw [e0]
      apply ib_bt_zero
      intro k hk g
      rw [ib_b_and, Bool.and_eq_true, ib_btm _ (by omega) k hk, decide_eq_true_eq] at g
      obtain ⟨x', y', z', k1, k2, _⟩ := (hm3 k hk).mp g.1
      have k3 : x' + 8 = (k : Int) := k2
      have k4 := hfst.2 x' y' z' k1
      unfold ib_lx at k4
      omega
    · refine ib_lf158 hK hW ?_ hp (L + 1) 0 (by omega) (by omega) _ _ _ _ _ _ _ _
      rw [hx0, hx1, hx2]
      exact hfst.1
end
end
section
/-! ===== the law's second check ===== -/
section
variable {L0 A0 D0 : Int32} {a1 a2 a3 a4 a5 a6 a7 a8 a9 a10 a11 : Nat → Int32}
variable {L : Nat}
theorem ib_ct_off (i : Nat) : ib_ct (ib_P L a1 a2 a3 a4 a5) ≤ ib_ct (ib_P L a1 a2 a3 a4 (upd a5 i 0)) := by
  apply ib_ct_le
  intro x y z h
  refine ⟨h.1, fun j hj h5 => ?_⟩
  by_cases e : j = i
  · rw [e, pk_us] at h5
    exact absurd rfl h5
  · rw [pk_un e] at h5
    exact h.2 j hj h5
theorem ib_upd2 {b c : Int32} {i : Nat} (h : a5 i = b) : upd (upd a5 i c) i b = a5 := by
  rw [← h]
  exact ib_upd_back (fun k hk => by rw [pk_un hk])
/-- the limit is turned back, and the count is the old one -/
theorem ib_sw103 {post : Int32 → St1 → Prop} {J : Int32 → Int32 → Int32 → Int32 → (Nat → Int32) → (Nat → Int32) → (Nat → Int32) → (Nat → Int32) → (Nat → Int32) → (Nat → Int32) → (Nat → Int32) → (Nat → Int32) → (Nat → Int32) → (Nat → Int32) → (Nat → Int32) → Prop} {on n x6 : Int32} {i : Nat} (hi : i < L) (hK : ib_K L a1 a2 a3 a4 a5) (h6 : x6 = 0 ∨ x6 = 1) (he : a5 i = x6)
    (hJ : ∀ (A D : Int32) (t6 t7 t8 t9 t10 t11 : Nat → Int32), J (nI (i + 1)) (nI L) A D a1 a2 a3 a4 a5 t6 t7 t8 t9 t10 t11) : wL_switches_103 post J on n (nI (ib_ct (ib_P L a1 a2 a3 a4 a5))) (nI i) x6 (nI L) A0 D0 a1 a2 a3 a4 (upd a5 i 0) a6 a7 a8 a9 a10 a11 := by
  unfold wL_switches_103
  refine ib_turn hi hK.1 h6 (fun r hr0 hr1 => ?_)
  dsimp only
  rw [ib_upd2 he]
  refine br_t (hr0 pk_us) (ib_points hK (fun A D t6 t7 t8 t9 t10 t11 => br_t rfl (nm_r (nI_1 i) (hJ _ _ _ _ _ _ _ _))))
theorem ib_sw8 {post : Int32 → St1 → Prop} {on : Int32} (hK : ib_K L a1 a2 a3 a4 a5) (hW : ∀ i, i < L → (ib_bt on i = true ↔ ¬ a5 i = 0)) (hp : ∀ (A D : Int32) (t6 t7 t8 t9 t10 t11 : Nat → Int32), post 1 (nI L, A, D, a1, a2, a3, a4, a5, t6, t7, t8, t9, t10, t11)) :
    ∀ (n i : Nat), i ≤ L → L - i < n → ∀ (A D : Int32) (t6 t7 t8 t9 t10 t11 : Nat → Int32), wL_switches_8 post on (nI L) (nI (ib_ct (ib_P L a1 a2 a3 a4 a5))) n (nI i) (nI L) A D a1 a2 a3 a4 a5 t6 t7 t8 t9 t10 t11 := by
  have hL := hK.1
  intro n
  induction n with
  | zero => intro i _ h
            exact absurd h (by omega)
  | succ n ih =>
    intro i hi hn A D t6 t7 t8 t9 t10 t11
    refine pk_le L i (fun _ => ?_) (fun hlt => ?_)
    · refine ib_turnN hL ?_
      dsimp only
      refine br_t rfl (ib_idleN hL ?_)
      dsimp only
      exact br_t rfl (hp _ _ _ _ _ _ _ _)
    · have hw := hW i hlt
      have h5 := hK.2.2.2 i (by omega)
      have hK0 : ib_K L a1 a2 a3 a4 (upd a5 i 0) := ib_K_off hK (Or.inl rfl)
      have hct := ib_ct_off (L := L) (a1 := a1) (a2 := a2) (a3 := a3) (a4 := a4) (a5 := a5) i
      have m1 := ib_ct_max (ib_P L a1 a2 a3 a4 a5)
      have m2 := ib_ct_max (ib_P L a1 a2 a3 a4 (upd a5 i 0))
      by_cases g : ib_bt on i = true
      · have h1 : a5 i = 1 := by
          rcases h5 with e | e
          · exact absurd e (hw.mp g)
          · exact e
        have hne : ¬ a5 i = 0 := hw.mp g
        have H : ∀ (q : Int32), (q = 1 → ib_ct (ib_P L a1 a2 a3 a4 a5) = ib_ct (ib_P L a1 a2 a3 a4 (upd a5 i 0))) → (q = 0 → ¬ ib_ct (ib_P L a1 a2 a3 a4 a5) = ib_ct (ib_P L a1 a2 a3 a4 (upd a5 i 0))) → (q = 0 ∨ q = 1) → ∀ (A D : Int32) (t6 t7 t8 t9 t10 t11 : Nat → Int32), wL_switches_36 post (wL_switches_8 post on (nI L) (nI (ib_ct (ib_P L a1 a2 a3 a4 a5))) n) on (nI L) (nI (ib_ct (ib_P L a1 a2 a3 a4 a5))) (nI i) q 1 (nI L) A D a1 a2 a3 a4 a5 t6 t7 t8 t9 t10 t11 := by
          intro q q1 q0 qq A D t6 t7 t8 t9 t10 t11
          unfold wL_switches_36
          refine br_f ib_10 ?_
          unfold wL_switches_48
          refine ib_turn hlt hL (Or.inl rfl) (fun r hr0 hr1 => ?_)
          dsimp only
          rw [hr1 hne]
          refine br_f ib_10 ?_
          unfold wL_switches_65
          refine br_t rfl (ib_points hK0 (fun A D t6 t7 t8 t9 t10 t11 => ?_))
          dsimp only
          refine pk_lt (ib_ct (ib_P L a1 a2 a3 a4 (upd a5 i 0))) (ib_ct (ib_P L a1 a2 a3 a4 a5)) (fun z => absurd z (by omega)) (fun _ => br_f ib_10 (pk_eq (ib_ct (ib_P L a1 a2 a3 a4 (upd a5 i 0))) (ib_ct (ib_P L a1 a2 a3 a4 a5)) (fun e => ?_) (fun e => ?_)))
          · unfold wL_switches_98
            refine br_t ?_ (ib_sw103 hlt hK (Or.inr rfl) h1 (fun A D t6 t7 t8 t9 t10 t11 => ih (i + 1) (by omega) (by omega) _ _ _ _ _ _ _ _))
            rcases qq with e' | e'
            · exact absurd e.symm (q0 e')
            · exact e'.symm
          · unfold wL_switches_98
            refine br_t ?_ (ib_sw103 hlt hK (Or.inr rfl) h1 (fun A D t6 t7 t8 t9 t10 t11 => ih (i + 1) (by omega) (by omega) _ _ _ _ _ _ _ _))
            rcases qq with e' | e'
            · exact e'.symm
            · exact absurd (q1 e').symm e
        have hg : ¬ ((on >>> (nI i &&& 31)) &&& 1) = 0 := by
          rw [ib_sh_iff on (by omega), Classical.not_not]
          exact g
        refine ib_idle hlt hK (fun _ hc A D t6 t7 t8 t9 t10 t11 => ?_) (fun hc A D t6 t7 t8 t9 t10 t11 => ?_)
        · dsimp only
          exact br_f hg (H 1 (fun _ => hc) (fun z => absurd z ib_10) (Or.inr rfl) _ _ _ _ _ _ _ _)
        · dsimp only
          exact br_f hg (H 0 (fun z => absurd z.symm ib_10) (fun _ => hc hne) (Or.inl rfl) _ _ _ _ _ _ _ _)
      · have h0 : a5 i = 0 := by
          rcases h5 with e | e
          · exact e
          · refine absurd (hw.mpr ?_) g
            rw [e]
            exact ib_10
        have hg : ((on >>> (nI i &&& 31)) &&& 1) = 0 := by
          rw [ib_sh_iff on (by omega)]
          exact g
        refine ib_idle hlt hK (fun z => absurd h0 z) (fun hc A D t6 t7 t8 t9 t10 t11 => ?_)
        dsimp only
        refine br_t hg ?_
        unfold wL_switches_36
        refine br_t rfl (br_t rfl ?_)
        unfold wL_switches_48
        refine ib_turn hlt hL (Or.inl rfl) (fun r hr0 hr1 => ?_)
        dsimp only
        rw [hr0 h0]
        refine br_t rfl ?_
        unfold wL_switches_65
        refine br_t rfl (ib_points hK0 (fun A D t6 t7 t8 t9 t10 t11 => ?_))
        dsimp only
        exact pk_lt (ib_ct (ib_P L a1 a2 a3 a4 (upd a5 i 0))) (ib_ct (ib_P L a1 a2 a3 a4 a5)) (fun z => absurd z (by omega)) (fun _ => br_t rfl (ib_sw103 hlt hK (Or.inl rfl) h0 (fun A D t6 t7 t8 t9 t10 t11 => ih (i + 1) (by omega) (by omega) _ _ _ _ _ _ _ _)))
theorem ib_lawSwitches {post : Int32 → St1 → Prop} {on : Int32} (hK : ib_K L a1 a2 a3 a4 a5) (hW : ∀ i, i < L → (ib_bt on i = true ↔ ¬ a5 i = 0)) (hp : ∀ (A D : Int32) (t6 t7 t8 t9 t10 t11 : Nat → Int32), post 1 (nI L, A, D, a1, a2, a3, a4, a5, t6, t7, t8, t9, t10, t11)) : wpL_switches post (nI L, A0, D0, a1, a2, a3, a4, a5, a6, a7, a8, a9, a10, a11) on (nI L) := by
  unfold wpL_switches
  dsimp only
  refine ib_points hK (fun A D t6 t7 t8 t9 t10 t11 => ⟨L + 1, ?_⟩)
  exact ib_sw8 hK hW hp (L + 1) 0 (by omega) (by omega) _ _ _ _ _ _ _ _
end
end
section
/-! ===== the law's words: fields of a long ===== -/
def ib_lb (x : Int64) (j : Nat) : Bool := x.toBitVec.getLsbD j
theorem ib_lb_or (x y : Int64) (i : Nat) : ib_lb (x ||| y) i = (ib_lb x i || ib_lb y i) := by unfold ib_lb; rw [Int64.toBitVec_or, BitVec.getLsbD_or]
theorem ib_lb_and (x y : Int64) (i : Nat) : ib_lb (x &&& y) i = (ib_lb x i && ib_lb y i) := by unfold ib_lb; rw [Int64.toBitVec_and, BitVec.getLsbD_and]
theorem ib_lb_xor (x y : Int64) (i : Nat) : ib_lb (x ^^^ y) i = (ib_lb x i ^^ ib_lb y i) := by unfold ib_lb; rw [Int64.toBitVec_xor, BitVec.getLsbD_xor]
theorem ib_lb_m1 : ∀ i, i < 64 → ib_lb (-1) i = true := by decide +kernel
theorem ib_l_s : ∀ n, n < 64 → (((nI n).toInt64 &&& 63).toBitVec.smod 64).toNat = n := by decide +kernel
theorem ib_lb_shl (n : Nat) (hn : n < 64) (x : Int64) {i : Nat} (hi : i < 64) : ib_lb (x <<< ((nI n).toInt64 &&& 63)) i = (decide (n ≤ i) && ib_lb x (i - n)) := by
  unfold ib_lb
  rw [Int64.toBitVec_shiftLeft]
  show (x.toBitVec <<< (((nI n).toInt64 &&& 63).toBitVec.smod 64).toNat).getLsbD i = _
  rw [ib_l_s n hn, BitVec.getLsbD_shiftLeft]
  rcases Nat.lt_or_ge i n with h | h
  · simp [h, Nat.not_le.mpr h]
  · simp [hi, h, Nat.not_lt.mpr h]
theorem ib_lb_shr (n : Nat) (x : Int64) {i : Nat} (hi : n + i < 64) : ib_lb (x >>> ((nI n).toInt64 &&& 63)) i = ib_lb x (n + i) := by
  unfold ib_lb
  rw [Int64.toBitVec_shiftRight]
  show (x.toBitVec.sshiftRight (((nI n).toInt64 &&& 63).toBitVec.smod 64).toNat).getLsbD i = _
  rw [ib_l_s n (by omega), BitVec.getLsbD_sshiftRight, if_pos hi, decide_eq_false (by omega)]
  rfl
theorem ib_lb_32 (x : Int64) {k : Nat} (hk : k < 32) : ib_bt x.toInt32 k = ib_lb x k := by
  unfold ib_bt ib_lb
  rw [Int64.toBitVec_toInt32, BitVec.getLsbD_signExtend, if_pos (by omega), decide_eq_true hk]
  rfl
theorem ib_lb_64 (x : Int32) {k : Nat} (hk : k < 64) : ib_lb x.toInt64 k = if k < 32 then ib_bt x k else ib_bt x 31 := by
  unfold ib_bt ib_lb
  rw [Int32.toBitVec_toInt64, BitVec.getLsbD_signExtend, decide_eq_true hk, BitVec.msb_eq_getLsbD_last]
  rfl
theorem ib_fld {X M : Int64} {f m : Int32} {w p q : Nat} (hM : ∀ j, j < 64 → ib_lb M j = decide (j < w)) (hm : ∀ k, k < 32 → ib_bt m k = decide (k < w)) (hw : w ≤ 31) (hp : p + w ≤ 63) (hq : q + w ≤ 63) (hf : f &&& m = f) :
    (p = q → (((X &&& ((M <<< ((nI q).toInt64 &&& 63)) ^^^ (-1))) ||| (f.toInt64 <<< ((nI q).toInt64 &&& 63))) >>> ((nI p).toInt64 &&& 63)).toInt32 &&& m = f) ∧ ((p + w ≤ q ∨ q + w ≤ p) → (((X &&& ((M <<< ((nI q).toInt64 &&& 63)) ^^^ (-1))) ||| (f.toInt64 <<< ((nI q).toInt64 &&& 63))) >>> ((nI p).toInt64 &&& 63)).toInt32 &&& m = (X >>> ((nI p).toInt64 &&& 63)).toInt32 &&& m) := by
  have hf0 : ∀ k, k < 32 → w ≤ k → ib_bt f k = false := by
    intro k hk h
    rw [← hf, ib_b_and, hm k hk, decide_eq_false (by omega), Bool.and_false]
  have bits : ∀ k, k < w → ib_bt (((X &&& ((M <<< ((nI q).toInt64 &&& 63)) ^^^ (-1))) ||| (f.toInt64 <<< ((nI q).toInt64 &&& 63))) >>> ((nI p).toInt64 &&& 63)).toInt32 k = ((ib_lb X (p + k) && !(decide (q ≤ p + k) && decide (p + k - q < w))) || (decide (q ≤ p + k) && ib_lb f.toInt64 (p + k - q))) := by
    intro k hk
    rw [ib_lb_32 _ (by omega), ib_lb_shr p _ (by omega), ib_lb_or, ib_lb_and, ib_lb_xor, ib_lb_m1 _ (by omega), ib_lb_shl q (by omega) _ (by omega), ib_lb_shl q (by omega) _ (by omega), hM _ (by omega), Bool.xor_true]
  refine ⟨fun e => ?_, fun e => ?_⟩
  · subst e
    apply ib_b_ext
    intro k hk
    rw [ib_b_and, hm k hk]
    by_cases hkw : k < w
    · rw [bits k hkw, ib_lb_64 f (by omega), decide_eq_true hkw, decide_eq_true (show p ≤ p + k by omega), decide_eq_true (show p + k - p < w by omega), if_pos (by omega), show p + k - p = k by omega]
      simp
    · rw [decide_eq_false hkw, Bool.and_false, hf0 k hk (by omega)]
  · apply ib_b_ext
    intro k hk
    rw [ib_b_and, ib_b_and, hm k hk]
    by_cases hkw : k < w
    · rw [bits k hkw, ib_lb_32 _ (by omega), ib_lb_shr p _ (by omega)]
      rcases e with e | e
      · rw [decide_eq_false (show ¬ q ≤ p + k by omega)]
        simp
      · rw [decide_eq_true (show q ≤ p + k by omega), decide_eq_false (show ¬ p + k - q < w by omega), ib_lb_64 f (by omega)]
        have z : (if p + k - q < 32 then ib_bt f (p + k - q) else ib_bt f 31) = false := by
          split
          · exact hf0 _ (by omega) (by omega)
          · exact hf0 _ (by omega) (by omega)
        rw [z]
        simp
    · rw [decide_eq_false hkw, Bool.and_false, Bool.and_false]
theorem ib_M12 : ∀ j, j < 64 → ib_lb 4095 j = decide (j < 12) := by decide +kernel
theorem ib_M8 : ∀ j, j < 64 → ib_lb 255 j = decide (j < 8) := by decide +kernel
theorem ib_m12 : ∀ k, k < 32 → ib_bt 4095 k = decide (k < 12) := by decide +kernel
theorem ib_m8 : ∀ k, k < 32 → ib_bt 255 k = decide (k < 8) := by decide +kernel
theorem ib_12i (i : Nat) : 12 * nI i = nI (12 * i) := by
  show nI 12 * nI i = _
  rw [pk_mul]
theorem ib_8i (i : Nat) : 8 * nI i = nI (8 * i) := by
  show nI 8 * nI i = _
  rw [pk_mul]
theorem ib_fw_new {f01 f2 : Int64} {f : Int32} {n : Nat} (hn : n < 5) (hf : f &&& 4095 = f) : (∀ i, i < n → ib_fw ((f01 &&& (((4095 : Int64) <<< ((12 * nI n).toInt64 &&& 63)) ^^^ (-1))) ||| (f.toInt64 <<< ((12 * nI n).toInt64 &&& 63))) f2 i = ib_fw f01 f2 i) ∧ ib_fw ((f01 &&& (((4095 : Int64) <<< ((12 * nI n).toInt64 &&& 63)) ^^^ (-1))) ||| (f.toInt64 <<< ((12 * nI n).toInt64 &&& 63))) f2 n = f := by
  unfold ib_fw
  rw [ib_12i]
  refine ⟨fun i hi => ?_, ?_⟩
  · rw [if_neg (by omega), if_neg (by omega), ib_12i]
    exact (ib_fld (p := 12 * i) (q := 12 * n) ib_M12 ib_m12 (by omega) (by omega) (by omega) hf).2 (by omega)
  · rw [if_neg (by omega)]
    exact (ib_fld (p := 12 * n) (q := 12 * n) ib_M12 ib_m12 (by omega) (by omega) (by omega) hf).1 rfl
theorem ib_fw_5 {f01 f2 : Int64} {f : Int32} (hf : f &&& 4095 = f) : (∀ i, i < 5 → ib_fw f01 f.toInt64 i = ib_fw f01 f2 i) ∧ ib_fw f01 f.toInt64 5 = f := by
  unfold ib_fw
  refine ⟨fun i hi => ?_, ?_⟩
  · rw [if_neg (by omega), if_neg (by omega)]
  · rw [if_pos (by omega), Int32.toInt32_toInt64]
    exact hf
theorem ib_dw_new {d : Int64} {g : Int32} {n : Nat} (hn : n < 6) (hg : (g + 100) &&& 255 = g + 100) : (∀ i, i < n → ib_dw ((d &&& (((255 : Int64) <<< ((8 * nI n).toInt64 &&& 63)) ^^^ (-1))) ||| ((g + 100).toInt64 <<< ((8 * nI n).toInt64 &&& 63))) i = ib_dw d i) ∧ ib_dw ((d &&& (((255 : Int64) <<< ((8 * nI n).toInt64 &&& 63)) ^^^ (-1))) ||| ((g + 100).toInt64 <<< ((8 * nI n).toInt64 &&& 63))) n = g := by
  unfold ib_dw
  rw [ib_8i]
  refine ⟨fun i hi => ?_, ?_⟩
  · rw [ib_8i, (ib_fld (p := 8 * i) (q := 8 * n) ib_M8 ib_m8 (by omega) (by omega) (by omega) hg).2 (by omega)]
  · rw [(ib_fld (p := 8 * n) (q := 8 * n) ib_M8 ib_m8 (by omega) (by omega) (by omega) hg).1 rfl]
    exact Int32.add_sub_cancel _ _
/-! ===== the law's small numbers ===== -/
theorem ib_fac : ∀ A, A < 11 → ∀ B, B < 11 → ∀ C, C < 11 → ib_fo ((nI A ||| (nI B <<< ((4 : Int32) &&& 31))) ||| (nI C <<< ((8 : Int32) &&& 31))) 0 ≤ 5 ∧ ib_fo ((nI A ||| (nI B <<< ((4 : Int32) &&& 31))) ||| (nI C <<< ((8 : Int32) &&& 31))) 1 ≤ 5 ∧ ib_fo ((nI A ||| (nI B <<< ((4 : Int32) &&& 31))) ||| (nI C <<< ((8 : Int32) &&& 31))) 2 ≤ 5 ∧ ((nI A ||| (nI B <<< ((4 : Int32) &&& 31))) ||| (nI C <<< ((8 : Int32) &&& 31))) &&& 4095 = ((nI A ||| (nI B <<< ((4 : Int32) &&& 31))) ||| (nI C <<< ((8 : Int32) &&& 31))) := by decide +kernel
theorem ib_rem {x : Int32} {m : Int32} (k d : Nat) (hm : m.toBitVec.toNat = 2 ^ k - 1) (hk : k ≤ 30) (h0 : 0 < d) (hd : d < 2 ^ 31) : ∃ q : Nat, q < d ∧ (x &&& m) - (x &&& m) / nI d * nI d = nI q := by
  obtain ⟨j, hj, e⟩ := pk_andE x k hm
  have : 2 ^ k ≤ 2 ^ 30 := Nat.pow_le_pow_right (by omega) hk
  rw [e, pk_rem (by omega) h0 hd]
  exact ⟨j % d, Nat.mod_lt _ h0, rfl⟩
theorem ib_factors {post : Int32 → Prop} {x : Int32} (hp : ∀ f : Int32, ib_gf f → f &&& 4095 = f → post f) : wpL_factors post () x := by
  unfold wpL_factors
  obtain ⟨A, hA, eA⟩ := ib_rem (x := x) (m := 255) 8 11 (by decide) (by omega) (by omega) (by omega)
  obtain ⟨B, hB, eB⟩ := ib_rem (x := x >>> ((8 : Int32) &&& 31)) (m := 255) 8 11 (by decide) (by omega) (by omega) (by omega)
  obtain ⟨C, hC, eC⟩ := ib_rem (x := x >>> ((16 : Int32) &&& 31)) (m := 255) 8 11 (by decide) (by omega) (by omega) (by omega)
  refine ⟨by decide, by decide, by decide, ?_⟩
  rw [show (11 : Int32) = nI 11 from rfl, eA, eB, eC]
  obtain ⟨k0, k1, k2, k3⟩ := ib_fac A hA B hB C hC
  refine hp _ (fun v hv => ?_) k3
  rcases ib_v3 hv with e | e | e <;> subst e
  · exact k0
  · exact k1
  · exact k2
theorem ib_b41 : ∀ q, q < 41 → ((nI q - 20) + 100) &&& 255 = (nI q - 20) + 100 := by decide +kernel
end
section
/-! ===== the law's turn ===== -/
section
variable {L0 A0 D0 : Int32} {a1 a2 a3 a4 a5 a6 a7 a8 a9 a10 a11 : Nat → Int32}
variable {L : Nat}
theorem ib_P_pos (hK : ib_K L a1 a2 a3 a4 a5) {x y z : Int} (h : ib_P L a1 a2 a3 a4 a5 x y z) : 0 < ib_ct (ib_P L a1 a2 a3 a4 a5) := by
  obtain ⟨⟨q1, q2, q3⟩, ⟨q4, q5, q6⟩, ⟨q7, q8, q9⟩⟩ := hK.2.1
  have hin := h.1
  obtain ⟨p1, p2, p3, p4, p5, p6⟩ := hin
  exact ib_ct_pos h (by omega) (by omega) (by omega)
theorem ib_i2 (i : Nat) : nI i + 2 = nI (i + 2) := nI_add i 2
theorem ib_law487 {post : Int32 → Prop} {Ls : Nat} {xs : Nat → Int32} {J : Int64 → Int64 → Int64 → Int32 → Int32 → Int32 → Int32 → Int32 → Int32 → (Nat → Int32) → (Nat → Int32) → (Nat → Int32) → (Nat → Int32) → (Nat → Int32) → (Nat → Int32) → (Nat → Int32) → (Nat → Int32) → (Nat → Int32) → (Nat → Int32) → (Nat → Int32) → Prop} {f01 f2 d : Int64} {on f r : Int32} {i kc ks : Nat} (hf : ib_gf f) (hK : ib_K L a1 a2 a3 a4 a5) (hm : ib_max (ib_P L a1 a2 a3 a4 a5) (ib_fo f) r)
    (hJ : ∀ (A D : Int32) (t6 t7 t8 t9 t10 t11 : Nat → Int32), J f01 f2 d on (nI L) (nI (i + 2)) (nI L) A D a1 a2 a3 a4 a5 t6 t7 t8 t9 t10 t11) : wL_law_487 post Ls xs J f01 f2 d on (nI L) (nI i) f r kc ks (nI L) A0 D0 a1 a2 a3 a4 a5 a6 a7 a8 a9 a10 a11 := by
  have m1 := ib_ct_max (ib_P L a1 a2 a3 a4 a5)
  unfold wL_law_487
  refine ib_points hK (fun A D t6 t7 t8 t9 t10 t11 => ?_)
  dsimp only
  refine pk_eq (ib_ct (ib_P L a1 a2 a3 a4 a5)) 0 (fun e => ?_) (fun _ => nm_r (ib_i2 i) (hJ _ _ _ _ _ _ _ _))
  have hno : ∀ x y z, ¬ ib_P L a1 a2 a3 a4 a5 x y z := fun x y z h => by
    have := ib_P_pos hK h
    omega
  have hr : ∀ r : Int32, ib_max (ib_P L a1 a2 a3 a4 a5) (ib_fo f) r → r = -10000 := by
    intro r hm
    rcases hm with ⟨e, _⟩ | ⟨_, _, ⟨x, y, z, k, _⟩, _⟩
    · exact e
    · exact absurd k (hno x y z)
  refine br_t (hr r hm) (ib_follows hf hK (fun r1 hm1 _ A D t6 t7 t8 t9 t10 t11 => ?_) (fun r1 hm1 h1 => absurd (hr r1 hm1) h1))
  dsimp only
  exact br_f ib_10 (nm_r (ib_i2 i) (hJ _ _ _ _ _ _ _ _))
theorem ib_law413 {post : Int32 → Prop} {Ls : Nat} {xs : Nat → Int32} {J : Int64 → Int64 → Int64 → Int32 → Int32 → Int32 → Int32 → Int32 → Int32 → (Nat → Int32) → (Nat → Int32) → (Nat → Int32) → (Nat → Int32) → (Nat → Int32) → (Nat → Int32) → (Nat → Int32) → (Nat → Int32) → (Nat → Int32) → (Nat → Int32) → (Nat → Int32) → Prop} {f01 f2 d : Int64} {on f : Int32} {i kc ks : Nat} (hf : ib_gf f) (hK : ib_K L a1 a2 a3 a4 a5) (hW : ib_W L f01 f2 d on a3 a4 a5)
    (hJ : ∀ (A D : Int32) (t6 t7 t8 t9 t10 t11 : Nat → Int32), J f01 f2 d on (nI L) (nI (i + 2)) (nI L) A D a1 a2 a3 a4 a5 t6 t7 t8 t9 t10 t11) : wL_law_413 post Ls xs J f01 f2 d on (nI L) (nI i) f kc ks (nI L) A0 D0 a1 a2 a3 a4 a5 a6 a7 a8 a9 a10 a11 := by
  have m1 := ib_ct_max (ib_P L a1 a2 a3 a4 a5)
  have e1 : (1 : Int32).toInt = 1 := by decide
  unfold wL_law_413
  refine ib_lawFirst hK hW (fun A D t6 t7 t8 t9 t10 t11 => ?_)
  dsimp only
  refine ib_lawSwitches hK (fun i hi => (hW i hi).2.2.2) (fun A D t6 t7 t8 t9 t10 t11 => ?_)
  dsimp only
  refine ib_greatest hf hK (fun r hm A D t6 t7 t8 t9 t10 t11 => ?_)
  dsimp only
  refine br_f ib_10 (br_f ib_10 (ib_points hK (fun A D t6 t7 t8 t9 t10 t11 => ?_)))
  dsimp only
  refine pk_le (ib_ct (ib_P L a1 a2 a3 a4 a5)) 0 (fun _ => ib_law487 hf hK hm hJ) (fun hpos => ?_)
  obtain ⟨x, y, z, hP⟩ := ib_ct_ex hpos
  have hat : ∀ r : Int32, ib_max (ib_P L a1 a2 a3 a4 a5) (ib_fo f) r → -10000 < r.toInt ∧ (∃ x y z, ib_P L a1 a2 a3 a4 a5 x y z ∧ ib_V (ib_fo f) x y z = r.toInt) ∧ ∀ x y z, ib_P L a1 a2 a3 a4 a5 x y z → ib_V (ib_fo f) x y z ≤ r.toInt := by
    intro r hm
    rcases hm with ⟨_, k⟩ | ⟨k1, _, k2, k3⟩
    · exact absurd hP (k x y z)
    · exact ⟨k1, k2, k3⟩
  have huq : ∀ r r' : Int32, ib_max (ib_P L a1 a2 a3 a4 a5) (ib_fo f) r → ib_max (ib_P L a1 a2 a3 a4 a5) (ib_fo f) r' → r.toInt ≤ r'.toInt := by
    intro r r' h h'
    obtain ⟨_, ⟨x, y, z, k1, k2⟩, _⟩ := hat r h
    have := (hat r' h').2.2 x y z k1
    omega
  have hr1 : (r - 1).toInt = r.toInt - 1 := by
    have k := (hat r hm).1
    have k2 := Int32.toInt_lt r
    rw [ib_sub (by omega) (by omega), e1]
  refine ib_follows hf hK (fun r1 hm1 h1 A D t6 t7 t8 t9 t10 t11 => ?_) (fun r1 hm1 h1 h2 => ?_)
  · dsimp only
    refine br_f ib_10 (ib_follows hf hK (fun r2 hm2 h2 => ?_) (fun r2 hm2 h2 h3 A D t6 t7 t8 t9 t10 t11 => ?_))
    · have k := huq r r2 hm hm2
      have k2 := (hat r2 hm2).1
      rcases h2 with h2 | h2
      · rw [h2, show (-10000 : Int32).toInt = -10000 by decide] at k2
        omega
      · omega
    · dsimp only
      exact br_t rfl (ib_law487 hf hK hm hJ)
  · have k := huq r1 r hm1 hm
    omega
theorem ib_rg_upd {v : Nat} {lo hi : Int32} (hv : v < 3) (hr : ib_rg a1 a2) (h1 : -8 ≤ lo.toInt) (h2 : lo.toInt ≤ hi.toInt) (h3 : hi.toInt ≤ 8) : ib_rg (upd a1 v lo) (upd a2 v hi) := by
  unfold ib_rg at hr ⊢
  rcases ib_v3 hv with e | e | e <;> subst e
  · rw [pk_us, pk_us, pk_un (show (1 : Nat) ≠ 0 by decide), pk_un (show (1 : Nat) ≠ 0 by decide), pk_un (show (2 : Nat) ≠ 0 by decide), pk_un (show (2 : Nat) ≠ 0 by decide)]
    omega
  · rw [pk_us, pk_us, pk_un (show (0 : Nat) ≠ 1 by decide), pk_un (show (0 : Nat) ≠ 1 by decide), pk_un (show (2 : Nat) ≠ 1 by decide), pk_un (show (2 : Nat) ≠ 1 by decide)]
    omega
  · rw [pk_us, pk_us, pk_un (show (0 : Nat) ≠ 2 by decide), pk_un (show (0 : Nat) ≠ 2 by decide), pk_un (show (1 : Nat) ≠ 2 by decide), pk_un (show (1 : Nat) ≠ 2 by decide)]
    omega
/-- a limit put behind the others -/
theorem ib_K_lim {b3 : Nat → Int32} {f g : Int32} (hL : L < 6) (hf : ib_gf f) (hg : -20 ≤ g.toInt ∧ g.toInt ≤ 20) (hK : ib_K L a1 a2 a3 a4 a5) (q1 : ∀ k, k < 3 → b3 (L * 3 + k) = ib_fo f k) (q2 : ∀ j, (j < L * 3 ∨ L * 3 + 3 ≤ j) → b3 j = a3 j) : ib_K (L + 1) a1 a2 b3 (upd a4 L g) (upd a5 L 1) := by
  refine ⟨by omega, hK.2.1, ⟨fun j hj => ?_, fun i hi => ?_⟩, fun i hi => ?_⟩
  · by_cases h : j < L * 3 ∨ L * 3 + 3 ≤ j
    · rw [q2 j h]
      exact hK.2.2.1.1 j hj
    · have e : j = L * 3 + (j - L * 3) := by omega
      rw [e, q1 (j - L * 3) (by omega)]
      exact ib_fo_b hf _ (by omega)
  · by_cases e : i = L
    · rw [e, pk_us]
      omega
    · rw [pk_un e]
      exact hK.2.2.1.2 i hi
  · by_cases e : i = L
    · rw [e, pk_us]
      exact Or.inr rfl
    · rw [pk_un e]
      exact hK.2.2.2 i hi
theorem ib_W_lim {b3 : Nat → Int32} {f g on : Int32} {f01 f2 d g01 g2 e : Int64} (hL : L < 6) (hf : ib_gf f) (hW : ib_W L f01 f2 d on a3 a4 a5) (q1 : ∀ k, k < 3 → b3 (L * 3 + k) = ib_fo f k) (q2 : ∀ j, (j < L * 3 ∨ L * 3 + 3 ≤ j) → b3 j = a3 j) (w1 : ∀ i, i < L → ib_fw g01 g2 i = ib_fw f01 f2 i) (w2 : ib_fw g01 g2 L = f) (w3 : ∀ i, i < L → ib_dw e i = ib_dw d i) (w4 : ib_dw e L = g) : ib_W (L + 1) g01 g2 e (on ||| ((1 : Int32) <<< (nI L &&& 31))) b3 (upd a4 L g) (upd a5 L 1) := by
  intro i hi
  rw [ib_bt_or1 on (by omega) (by omega)]
  by_cases ei : i = L
  · subst ei
    rw [w2, w4, pk_us, pk_us]
    exact ⟨q1, hf, rfl, fun _ => ib_10, fun _ => Or.inr rfl⟩
  · obtain ⟨k1, k2, k3, k4⟩ := hW i (by omega)
    rw [w1 i (by omega), w3 i (by omega), pk_un ei, pk_un ei]
    refine ⟨fun k hk => ?_, k2, k3, ?_⟩
    · rw [q2 _ (by omega)]
      exact k1 k hk
    · rw [← k4]
      constructor
      · rintro (h | h)
        · exact h
        · exact absurd h ei
      · exact Or.inl
theorem ib_W_turn {on z b : Int32} {f01 f2 d : Int64} {k : Nat} (hW : ib_W L f01 f2 d on a3 a4 a5) (hk : ∀ j, j < L → j ≠ k → (ib_bt z j = true ↔ ib_bt on j = true)) (hz : ib_bt z k = true ↔ ¬ b = 0) : ib_W L f01 f2 d z a3 a4 (upd a5 k b) := by
  intro i hi
  obtain ⟨k1, k2, k3, k4⟩ := hW i hi
  refine ⟨k1, k2, k3, ?_⟩
  by_cases e : i = k
  · subst e
    rw [pk_us]
    exact hz
  · rw [pk_un e, hk i hi e]
    exact k4
end
end
section
/-! ===== the law's loop ===== -/
theorem ib_law25 {Ls : Nat} {xs : Nat → Int32} {kc ks : Nat} (hLs : Ls ≤ 260) : ∀ (n i L : Nat) (f01 f2 d : Int64) (on A0 D0 : Int32) (a1 a2 a3 a4 a5 a6 a7 a8 a9 a10 a11 : Nat → Int32), i ≤ 61 → 61 - i < n → ib_K L a1 a2 a3 a4 a5 → ib_W L f01 f2 d on a3 a4 a5 → wL_law_25 (fun r => r = 1) Ls xs kc ks n f01 f2 d on (nI L) (nI i) (nI L) A0 D0 a1 a2 a3 a4 a5 a6 a7 a8 a9 a10 a11 := by
  intro n
  induction n with
  | zero => intro i L f01 f2 d on A0 D0 a1 a2 a3 a4 a5 a6 a7 a8 a9 a10 a11 _ h
            exact absurd h (by omega)
  | succ n ih =>
    intro i L f01 f2 d on A0 D0 a1 a2 a3 a4 a5 a6 a7 a8 a9 a10 a11 hi hn hK hW
    have hL := hK.1
    have e2 : (2 : Int32).toInt = 2 := by decide
    refine br_c (fun _ => rfl) (fun g => pk_le 60 i (fun _ => rfl) (fun h60 => ?_))
    have hLi : i + 2 ≤ Ls := by
      have s1 : (nI Ls - 2).toInt = (Ls : Int) - 2 := by
        have s0 : (nI Ls).toInt = (Ls : Int) := nI_toInt (by omega)
        rw [ib_sub (by omega) (by omega), s0, e2]
      have g' : ¬ nI Ls - 2 < nI i := g
      rw [ib_lt, s1, nI_toInt (by omega)] at g'
      omega
    obtain ⟨op, hop, eop⟩ := pk_andE (xs (nI i).toNatClampNeg) (m := 15) 4 (by decide)
    refine ⟨vp_in_nI (by omega) (by omega), nm_r eop ⟨pk_in (i + 1) Ls (by omega) (nI_1 i), fun v _ => ib_factors (fun f hf hf2 => ⟨by decide, ?_⟩)⟩⟩
    obtain ⟨q, hq, eq⟩ := ib_rem (x := v >>> ((24 : Int32) &&& 31)) (m := 127) 7 41 (by decide) (by omega) (by omega) (by omega)
    refine nm_r (e' := nI q - 20) (by rw [← eq]; rfl) ?_
    have hb : -20 ≤ (nI q - 20).toInt ∧ (nI q - 20).toInt ≤ 20 := by
      have s0 : (nI q).toInt = (q : Int) := nI_toInt (by omega)
      have s1 : (20 : Int32).toInt = 20 := by decide
      rw [ib_sub (by omega) (by omega), s0, s1]
      omega
    have hb2 := ib_b41 q hq
    have fin : ∀ (M : Nat) (g01 g2 e : Int64) (z : Int32) (b1 b2 b3 b4 b5 : Nat → Int32), ib_K M b1 b2 b3 b4 b5 → ib_W M g01 g2 e z b3 b4 b5 → ∀ (A D : Int32) (t6 t7 t8 t9 t10 t11 : Nat → Int32), wL_law_413 (fun r => r = 1) Ls xs (wL_law_25 (fun r => r = 1) Ls xs kc ks n) g01 g2 e z (nI M) (nI i) f kc ks (nI M) A D b1 b2 b3 b4 b5 t6 t7 t8 t9 t10 t11 := by
      intro M g01 g2 e z b1 b2 b3 b4 b5 k w A D t6 t7 t8 t9 t10 t11
      exact ib_law413 hf k w (fun A D t6 t7 t8 t9 t10 t11 => ih (i + 2) M g01 g2 e z A D b1 b2 b3 b4 b5 t6 t7 t8 t9 t10 t11 (by omega) (by omega) k w)
    have H328 : wL_law_328 (fun r => r = 1) Ls xs (wL_law_25 (fun r => r = 1) Ls xs kc ks n) f01 f2 d on (nI L) (nI i) (nI op) v f kc ks (nI L) A0 D0 a1 a2 a3 a4 a5 a6 a7 a8 a9 a10 a11 := by
      unfold wL_law_328
      refine pk_lt 12 op (fun _ => fin L f01 f2 d on a1 a2 a3 a4 a5 hK hW _ _ _ _ _ _ _ _) (fun _ => pk_le L 0 (fun _ => fin L f01 f2 d on a1 a2 a3 a4 a5 hK hW _ _ _ _ _ _ _ _) (fun hpos => ⟨nI_ne0 hpos (by omega), ?_⟩))
      obtain ⟨k, hk, ek⟩ := ib_rem (x := v) (m := 255) 8 L (by decide) (by omega) hpos (by omega)
      have hWk := (hW k hk).2.2.2
      have T : ∀ b : Int32, (b = 0 ∨ b = 1) → wL_law_365 (fun r => r = 1) Ls xs (wL_law_25 (fun r => r = 1) Ls xs kc ks n) f01 f2 d on (nI L) (nI i) f (nI k) b kc ks (nI L) A0 D0 a1 a2 a3 a4 a5 a6 a7 a8 a9 a10 a11 := by
        intro b hbb
        unfold wL_law_365
        refine ib_turn hk hL hbb (fun r hr0 hr1 => ?_)
        dsimp only
        have hr : r = ((on >>> (nI k &&& 31)) &&& 1) := by
          by_cases h5 : a5 k = 0
          · rw [hr0 h5, ib_sh_f (by omega) (fun h => hWk.mp h h5)]
          · rw [hr1 h5, ib_sh_t (by omega) (hWk.mpr h5)]
        unfold wL_law_411
        refine br_t hr (br_c (fun z => fin L f01 f2 d _ a1 a2 a3 a4 (upd a5 k b) (ib_K_off hK hbb) (ib_W_turn hW (fun j hj hjk => ?_) ?_) _ _ _ _ _ _ _ _) (fun z => fin L f01 f2 d _ a1 a2 a3 a4 (upd a5 k b) (ib_K_off hK hbb) (ib_W_turn hW (fun j hj hjk => ?_) ?_) _ _ _ _ _ _ _ _))
        · rw [ib_bt_andn on (by omega) (by omega)]
          exact ⟨fun h => h.1, fun h => ⟨h, hjk⟩⟩
        · rw [ib_bt_andn on (by omega) (by omega)]
          exact ⟨fun h => absurd rfl h.2, fun h => absurd z h⟩
        · rw [ib_bt_or1 on (by omega) (by omega)]
          exact ⟨fun h => h.elim id (fun h => absurd h hjk), Or.inl⟩
        · rw [ib_bt_or1 on (by omega) (by omega)]
          exact ⟨fun _ => z, fun _ => Or.inr rfl⟩
      refine nm_r ek (br_c (fun _ => T 0 (Or.inl rfl)) (fun _ => T 1 (Or.inr rfl)))
    refine pk_lt 6 op (fun h6 => pk_lt 9 op (fun h9 => pk_eq op 10 (fun e10 => pk_le L 0 (fun _ => H328) (fun hpos => ?_)) (fun _ => H328)) (fun h9 => ⟨by decide, ?_⟩)) (fun h6 => ?_)
    · obtain ⟨M, rfl⟩ : ∃ M, L = M + 1 := ⟨L - 1, by omega⟩
      refine ib_drop (by omega) ?_
      dsimp only
      refine nm_r (pk_m1 M) (nm_e (fin M f01 f2 d _ a1 a2 a3 a4 a5 ⟨by omega, hK.2⟩ (fun j hj => ?_) _ _ _ _ _ _ _ _))
      obtain ⟨k1, k2, k3, k4⟩ := hW j (by omega)
      refine ⟨k1, k2, k3, ?_⟩
      rw [ib_bt_andn on (by omega) (by omega), ← k4]
      exact ⟨fun h => h.1, fun h => ⟨h, by omega⟩⟩
    · obtain ⟨a, ha, ea⟩ := ib_rem (x := v) (m := 255) 8 17 (by decide) (by omega) (by omega) (by omega)
      have s0 : (nI a).toInt = (a : Int) := nI_toInt (by omega)
      have s8 : (8 : Int32).toInt = 8 := by decide
      have s9 : (9 : Int32).toInt = 9 := by decide
      have sa : (nI a - 8).toInt = (a : Int) - 8 := by rw [ib_sub (by omega) (by omega), s0, s8]
      have sw : 9 - (nI a - 8) = nI (17 - a) := by
        rw [ib_eq, ib_sub (by omega) (by omega), s9, sa, nI_toInt (by omega)]
        omega
      obtain ⟨b, hbw, eb⟩ := ib_rem (x := v >>> ((8 : Int32) &&& 31)) (m := 255) 8 (17 - a) (by decide) (by omega) (by omega) (by omega)
      have sb : (nI b).toInt = (b : Int) := nI_toInt (by omega)
      have sx : (nI a - 8 + nI b).toInt = (a : Int) - 8 + b := by rw [ib_add (by omega) (by omega), sa, sb]
      refine nm_r (e' := nI a - 8) (by rw [← ea]; rfl) ⟨?_, nm_r (e' := nI a - 8 + nI b) (by rw [sw, eb]) ?_⟩
      · rw [sw]
        exact nI_ne0 (by omega) (by omega)
      · rw [show nI op - 7 = nI (op - 7) from pk_sub (b := 7) (by omega)]
        refine ib_range (by omega) (by omega) (by omega) (by omega) ?_
        dsimp only
        exact br_t rfl (fin L f01 f2 d on _ _ a3 a4 a5 ⟨hL, ib_rg_upd (by omega) hK.2.1 (by omega) (by omega) (by omega), hK.2.2⟩ hW _ _ _ _ _ _ _ _)
    · by_cases h : L < 6
      · refine ib_limit h hf (by omega) (by omega) (fun b3 q1 q2 => ?_)
        dsimp only
        obtain ⟨w3, w4⟩ := ib_dw_new (d := d) (g := nI q - 20) h hb2
        have T : ∀ g01 g2 : Int64, (∀ j, j < L → ib_fw g01 g2 j = ib_fw f01 f2 j) → ib_fw g01 g2 L = f → wL_law_158 (fun r => r = 1) Ls xs (wL_law_25 (fun r => r = 1) Ls xs kc ks n) g01 g2 d on (nI L) (nI i) f (nI q - 20) kc ks (nI (L + 1)) A0 D0 a1 a2 b3 (upd a4 L (nI q - 20)) (upd a5 L 1) a6 a7 a8 a9 a10 a11 := by
          intro g01 g2 w1 w2
          unfold wL_law_158 wL_law_196 wL_law_212
          exact pk_le 6 L (fun z => absurd z (by omega)) (fun _ => nm_e (pk_le 6 L (fun z => absurd z (by omega)) (fun _ => nm_e (pk_le 6 L (fun z => absurd z (by omega)) (fun _ => nm_r (nI_1 L) (fin (L + 1) g01 g2 _ _ a1 a2 b3 _ _ (ib_K_lim h hf hb hK q1 q2) (ib_W_lim h hf hW q1 q2 w1 w2 w3 w4) _ _ _ _ _ _ _ _))))))
        refine pk_eq L 6 (fun z => absurd z (by omega)) (fun _ => ?_)
        unfold wL_law_110 wL_law_147
        refine br_t rfl (pk_le 5 L (fun h5 => pk_eq L 5 (fun e5 => ?_) (fun z => absurd z (by omega))) (fun h5 => nm_e (pk_eq L 5 (fun z => absurd z (by omega)) (fun _ => ?_))))
        · subst e5
          obtain ⟨w1, w2⟩ := ib_fw_5 (f01 := f01) (f2 := f2) hf2
          exact T f01 f.toInt64 w1 w2
        · obtain ⟨w1, w2⟩ := ib_fw_new (f01 := f01) (f2 := f2) h5 hf2
          exact T _ f2 w1 w2
      · have e6 : L = 6 := by omega
        subst e6
        refine ib_limit6 hf (by omega) (by omega) ?_
        dsimp only
        refine pk_eq 6 6 (fun _ => ?_) (fun z => absurd rfl z)
        unfold wL_law_110 wL_law_147 wL_law_158 wL_law_196 wL_law_212
        exact br_t rfl (pk_le 5 6 (fun _ => pk_eq 6 5 (fun z => absurd z (by omega)) (fun _ => pk_le 6 6 (fun _ => pk_le 6 6 (fun _ => pk_le 6 6 (fun _ => fin 6 f01 f2 d on a1 a2 a3 a4 a5 hK hW _ _ _ _ _ _ _ _) (fun z => absurd z (by omega))) (fun z => absurd z (by omega))) (fun z => absurd z (by omega)))) (fun z => absurd z (by omega)))
end
section
/-! ===== the law ===== -/
theorem ib_init_ok {l h : Nat → Int32} (hl : ∀ j, j < 3 → l j = -8 ∧ h j = 8) : ib_K 0 l h (fun _ => 0) (fun _ => 0) (fun _ => 0) := by
  have e0 : (0 : Int32).toInt = 0 := by decide
  have e8 : (8 : Int32).toInt = 8 := by decide
  have em : (-8 : Int32).toInt = -8 := by decide
  refine ⟨by omega, ?_, ⟨fun j _ => ?_, fun i _ => ?_⟩, fun i _ => Or.inl rfl⟩
  · unfold ib_rg
    rw [(hl 0 (by omega)).1, (hl 0 (by omega)).2, (hl 1 (by omega)).1, (hl 1 (by omega)).2, (hl 2 (by omega)).1, (hl 2 (by omega)).2, e8, em]
    omega
  · dsimp only
    rw [e0]
    omega
  · dsimp only
    rw [e0]
    omega
theorem i_vc (xs : Nat → Int32) (L : Nat) (hL : L ≤ 260) : wpL_law (fun r => r = 1) L xs := by
  unfold wpL_law
  refine ⟨11, 248, by omega, by omega, ?_⟩
  unfold wpX_init
  dsimp only
  refine ⟨by omega, by omega, by omega, by omega, by omega, by omega, by omega, by omega, by omega, by omega, by omega, by omega, by omega, by omega, by omega, by omega, by omega, by omega, by omega, by omega, by omega, by omega, ?_⟩
  refine pk_loop (σ := (Nat → Int32) × (Nat → Int32)) (fun n k s => wX_init_88 _ 11 248 11 248 0 0 0 n (nI k) s.1 s.2 (fun _ => 0) (fun _ => 0) (fun _ => 0) (fun _ => 0) (fun _ => 0) (fun _ => 0) (fun _ => 0) (fun _ => 0) (fun _ => 0)) (fun k s => ∀ j, j < k → s.1 j = -8 ∧ s.2 j = 8) 3 0 ((fun _ => 0), (fun _ => 0)) (by omega) (fun j hj => absurd hj (by omega)) ?_ ?_
  · rintro n ⟨l, h⟩ hI
    refine pk_le 3 3 (fun _ => ⟨62, ?_⟩) (fun z => absurd z (by omega))
    exact ib_law25 hL 62 0 0 0 0 0 0 0 0 l h (fun _ => 0) (fun _ => 0) (fun _ => 0) (fun _ => 0) (fun _ => 0) (fun _ => 0) (fun _ => 0) (fun _ => 0) (fun _ => 0) (by omega) (by omega) (ib_init_ok hI) (fun j hj => absurd hj (by omega))
  · rintro n k ⟨l, h⟩ hk hI hwk
    dsimp only at hI
    have hc : (nI k).toNatClampNeg = k := nI_clamp (by omega)
    refine pk_le 3 k (fun z => absurd z (by omega)) (fun _ => ⟨vp_in_nI hk (by omega), nm_e ⟨vp_in_nI hk (by omega), nm_e (nm_r (nI_1 k) (hwk (_, _) (fun j hj => ?_)))⟩⟩)
    show upd l (nI k).toNatClampNeg (-8) j = -8 ∧ upd h (nI k).toNatClampNeg 8 j = 8
    rw [hc]
    by_cases e : j = k
    · rw [e, pk_us, pk_us]
      exact ⟨rfl, rfl⟩
    · rw [pk_un e, pk_un e]
      exact hI j (by omega)
end
