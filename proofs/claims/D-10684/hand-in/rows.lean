section
/-! numbers -/
theorem ln_p4 : ∀ k, k < 4 → ¬ (((15 : Int32) >>> (nI k &&& 31)) &&& 1) = 0 := by decide +kernel
theorem ln_p16 : ∀ k, k < 16 → ¬ (((15 : Int32) >>> ((nI k &&& 3) &&& 31)) &&& 1) = 0 := by decide +kernel
theorem ln_b64 : ∀ k, k < 64 → (nI k).toInt8.toInt32 = nI k := by decide +kernel
theorem ln_in (x : Int32) (n N : Nat) (hx : x = nI n) (h : n < N) (hN : N < 2 ^ 31) : vp_in x N := by
  subst hx
  exact vp_in_nI h hN
theorem ln_c0 : (0 : Int32).toNatClampNeg = 0 := sb_cl0
theorem ln_c1 : (1 : Int32).toNatClampNeg = 1 := nI_clamp (n := 1) (by omega)
theorem ln_i0 : vp_in 0 16 := vp_in_nI (n := 0) (by omega) (by omega)
theorem ln_i1 : vp_in 1 16 := vp_in_nI (n := 1) (by omega) (by omega)
theorem ln_j0 : vp_in 0 768 := vp_in_nI (n := 0) (by omega) (by omega)
theorem ln_48 (d c : Nat) : 48 * nI d + nI c = nI (48 * d + c) := by
  rw [show (48 : Int32) = nI 48 from rfl, pk_mul, nI_add]
/-- the sum of j equal values -/
def ln_sum (v : Int32) : Nat → Int32
  | 0 => 0
  | j + 1 => ln_sum v j + v
/-! the picture -/
/-- the plan: data set 0 is made of at most one row (g: whether there is one), data set 1 of kind, 0, a, b -/
def ln_P (g k : Nat) (value kind a b sc lv : Int32) (a3 a4 a5 a6 a7 a8 a9 a15 : Nat → Int32) : Prop :=
  sc = 2 ∧ lv = 2 ∧ a3 0 = 0 ∧ a3 1 = kind ∧ a4 1 = 0 ∧ a5 1 = a ∧ a6 1 = b ∧ a7 0 = nI g ∧ (kind = 0 → a7 1 = 0) ∧ (g = 1 → a8 0 = nI k ∧ a9 0 = value) ∧ a15 0 = 0 ∧ a15 1 = 0
/-- data set 0 is worked out -/
def ln_Z (g k : Nat) (value : Int32) (a10 a11 a12 a13 : Nat → Int32) : Prop :=
  a10 0 = nI g ∧ (g = 1 → a11 0 = 0 ∧ a12 0 = nI k ∧ a13 0 = value)
/-- data set 1 has n equal pairs -/
def ln_R (n kk : Nat) (vv : Int32) (a10 a12 a13 : Nat → Int32) : Prop :=
  a10 1 = nI n ∧ ∀ i, i < n → a12 (48 + i) = nI kk ∧ a13 (48 + i) = vv
theorem ln_R0 {kk : Nat} {vv : Int32} {a10 a12 a13 : Nat → Int32} (h : a10 1 = 0) : ln_R 0 kk vv a10 a12 a13 := ⟨h, fun i hi => absurd hi (by omega)⟩
/-- one more pair -/
theorem ln_Rs {n kk : Nat} {vv : Int32} {a10 a12 a13 : Nat → Int32} (h : ln_R n kk vv a10 a12 a13) :
    ln_R (n + 1) kk vv (upd a10 1 (nI (n + 1))) (upd a12 (48 + n) (nI kk)) (upd a13 (48 + n) vv) := by
  refine ⟨pk_us, fun i hi => ?_⟩
  by_cases e : i = n
  · subst e
    exact ⟨pk_us, pk_us⟩
  · rw [pk_un (by omega), pk_un (by omega)]
    exact h.2 i (by omega)
/-- a pair added to data set 1 leaves data set 0 -/
theorem ln_Zs {g k n : Nat} {value p q v w : Int32} {a10 a11 a12 a13 : Nat → Int32} (h : ln_Z g k value a10 a11 a12 a13) :
    ln_Z g k value (upd a10 1 w) (upd a11 (48 + n) p) (upd a12 (48 + n) q) (upd a13 (48 + n) v) := by
  unfold ln_Z
  rw [pk_un (by omega), pk_un (by omega), pk_un (by omega), pk_un (by omega)]
  exact h
/-! small methods -/
theorem ln_part {post : Int32 → Prop} {hc sc lv cl kn vn oc : Int32} {a1 a2 a3 a4 a5 a6 a7 a8 a9 a10 a11 a12 a13 a14 a15 a16 a17 a18 a19 a20 a21 a22 a23 a24 a25 : Nat → Int32} {p : Int32} (h : ¬ (((15 : Int32) >>> (p &&& 31)) &&& 1) = 0) (H : post 1) : wpX_isPart post (hc, sc, lv, cl, kn, vn, oc, a1, a2, a3, a4, a5, a6, a7, a8, a9, a10, a11, a12, a13, a14, a15, a16, a17, a18, a19, a20, a21, a22, a23, a24, a25) 15 p :=
  br_f h H
theorem ln_add {post : Int32 → St2 → Prop} {hc sc lv cl kn vn oc : Int32} {a1 a2 a3 a4 a5 a6 a7 a8 a9 a10 a11 a12 a13 a14 a15 a16 a17 a18 a19 a20 a21 a22 a23 a24 a25 : Nat → Int32} {d c e : Nat} {p q v : Int32} (hd : d < 16) (hc' : a10 d = nI c) (h48 : c < 48) (he : 48 * d + c = e)
    (H : post 1 (hc, sc, lv, cl, kn, vn, oc, a1, a2, a3, a4, a5, a6, a7, a8, a9, upd a10 d (nI (c + 1)), upd a11 e p.toInt8.toInt32, upd a12 e q.toInt8.toInt32, upd a13 e v, a14, a15, a16, a17, a18, a19, a20, a21, a22, a23, a24, a25)) :
    wpX_addPair post (hc, sc, lv, cl, kn, vn, oc, a1, a2, a3, a4, a5, a6, a7, a8, a9, a10, a11, a12, a13, a14, a15, a16, a17, a18, a19, a20, a21, a22, a23, a24, a25) (nI d) p q v := by
  subst he
  have ed : (nI d).toNatClampNeg = d := nI_clamp (by omega)
  have e1 : 48 * nI d + a10 (nI d).toNatClampNeg = nI (48 * d + c) := by
    rw [ed, hc', ln_48]
  have e2 : (nI (48 * d + c)).toNatClampNeg = 48 * d + c := nI_clamp (by omega)
  have e3 : (a10 (nI d).toNatClampNeg + 1).toInt8.toInt32 = nI (c + 1) := by
    rw [ed, hc', nI_1]
    exact ln_b64 _ (by omega)
  have i1 : vp_in (nI d) 16 := vp_in_nI hd (by omega)
  have i2 : vp_in (nI (48 * d + c)) 768 := vp_in_nI (by omega) (by omega)
  refine ⟨i1, br_t (by rw [ed, hc']; exact nI_lt (b := 48) h48 (by decide)) ⟨i1, ?_⟩⟩
  intro x5 e5
  rw [e1] at e5
  subst e5
  refine ⟨i2, ?_⟩
  intro y11 f11
  rw [e2] at f11
  subst f11
  refine ⟨i2, ?_⟩
  intro y12 f12
  rw [e2] at f12
  subst f12
  refine ⟨i2, ?_⟩
  intro y13 f13
  rw [e2] at f13
  subst f13
  refine ⟨i1, i1, ?_⟩
  intro y10 f10
  rw [e3, ed] at f10
  subst f10
  exact H
theorem ln_forget {post : St2 → Prop} {hc sc lv cl kn vn oc : Int32} {a1 a2 a3 a4 a5 a6 a7 a8 a9 a10 a11 a12 a13 a14 a15 a16 a17 a18 a19 a20 a21 a22 a23 a24 a25 : Nat → Int32} {d : Nat} (hd : d < 16) (H : post (hc, sc, lv, cl, kn, vn, oc, a1, a2, a3, a4, a5, a6, a7, a8, a9, upd a10 d 0, a11, a12, a13, upd a14 d 0, a15, a16, a17, a18, a19, a20, a21, a22, a23, a24, a25)) : wpX_forget post (hc, sc, lv, cl, kn, vn, oc, a1, a2, a3, a4, a5, a6, a7, a8, a9, a10, a11, a12, a13, a14, a15, a16, a17, a18, a19, a20, a21, a22, a23, a24, a25) (nI d) := by
  have ed : (nI d).toNatClampNeg = d := nI_clamp (by omega)
  have i1 : vp_in (nI d) 16 := vp_in_nI hd (by omega)
  refine ⟨i1, ?_⟩
  intro y10 f10
  rw [ed] at f10
  subst f10
  refine ⟨i1, ?_⟩
  intro y14 f14
  rw [ed] at f14
  subst f14
  exact H
theorem ln_tidy {post : St2 → Prop} {hc lv cl kn vn oc : Int32} {a1 a2 a3 a4 a5 a6 a7 a8 a9 a10 a11 a12 a13 a14 a15 a16 a17 a18 a19 a20 a21 a22 a23 a24 a25 : Nat → Int32} (h0 : a15 0 = 0) (h1 : a15 1 = 0) (H : post (hc, 2, lv, cl, kn, vn, oc, a1, a2, a3, a4, a5, a6, a7, a8, a9, upd (upd a10 0 0) 1 0, a11, a12, a13, upd (upd a14 0 0) 1 0, a15, a16, a17, a18, a19, a20, a21, a22, a23, a24, a25)) : wpX_tidy post (hc, 2, lv, cl, kn, vn, oc, a1, a2, a3, a4, a5, a6, a7, a8, a9, a10, a11, a12, a13, a14, a15, a16, a17, a18, a19, a20, a21, a22, a23, a24, a25) := by
  refine ⟨3, br_f (by decide) ⟨ln_i0, br_t (by rw [ln_c0]; exact h0) ?_⟩⟩
  refine ln_forget (d := 0) (by omega) ?_
  refine nm_r (e' := 1) (by decide) ?_
  refine br_f (by decide) ⟨ln_i1, br_t (by rw [ln_c1]; exact h1) ?_⟩
  refine ln_forget (d := 1) (by omega) ?_
  refine nm_r (e' := 2) (by decide) ?_
  exact br_t (by decide) H
theorem ln_set1 {post : Int32 → Prop} {hc lv cl kn vn oc : Int32} {a1 a2 a3 a4 a5 a6 a7 a8 a9 a10 a11 a12 a13 a14 a15 a16 a17 a18 a19 a20 a21 a22 a23 a24 a25 : Nat → Int32} (H : post 1) : wpX_isSet post (hc, 2, lv, cl, kn, vn, oc, a1, a2, a3, a4, a5, a6, a7, a8, a9, a10, a11, a12, a13, a14, a15, a16, a17, a18, a19, a20, a21, a22, a23, a24, a25) 1 :=
  br_f (by decide) (br_f (by decide) H)
theorem ln_set0 {post : Int32 → Prop} {hc lv cl kn vn oc : Int32} {a1 a2 a3 a4 a5 a6 a7 a8 a9 a10 a11 a12 a13 a14 a15 a16 a17 a18 a19 a20 a21 a22 a23 a24 a25 : Nat → Int32} (H : post 0) : wpX_isSet post (hc, 1, lv, cl, kn, vn, oc, a1, a2, a3, a4, a5, a6, a7, a8, a9, a10, a11, a12, a13, a14, a15, a16, a17, a18, a19, a20, a21, a22, a23, a24, a25) 1 :=
  br_f (by decide) (br_t (by decide) H)
theorem ln_step0 {post : Int32 → Prop} {hc sc lv cl kn vn oc : Int32} {a1 a2 a3 a4 a5 a6 a7 a8 a9 a10 a11 a12 a13 a14 a15 a16 a17 a18 a19 a20 a21 a22 a23 a24 a25 : Nat → Int32} {x : Int32} (h : x = 0) (H : post 0) : wpX_isStep post (hc, sc, lv, cl, kn, vn, oc, a1, a2, a3, a4, a5, a6, a7, a8, a9, a10, a11, a12, a13, a14, a15, a16, a17, a18, a19, a20, a21, a22, a23, a24, a25) x := by
  subst h
  exact br_f (by decide) (br_f (by decide) (br_f (by decide) (br_f (by decide) H)))
theorem ln_step1 {post : Int32 → Prop} {hc sc lv cl kn vn oc : Int32} {a1 a2 a3 a4 a5 a6 a7 a8 a9 a10 a11 a12 a13 a14 a15 a16 a17 a18 a19 a20 a21 a22 a23 a24 a25 : Nat → Int32} {x : Int32} (h : x = 1 ∨ x = 2 ∨ x = 3 ∨ x = 11) (H : post 1) : wpX_isStep post (hc, sc, lv, cl, kn, vn, oc, a1, a2, a3, a4, a5, a6, a7, a8, a9, a10, a11, a12, a13, a14, a15, a16, a17, a18, a19, a20, a21, a22, a23, a24, a25) x :=
  br_c (fun _ => H) (fun z1 => br_c (fun _ => H) (fun z2 => br_c (fun _ => H) (fun z3 => br_t (h.elim (fun e => absurd e z1) (fun h => h.elim (fun e => absurd e z2) (fun h => h.elim (fun e => absurd e z3) (fun e => e)))) H)))
theorem ln_stepN {post : Int32 → Prop} {hc sc lv cl kn vn oc : Int32} {a1 a2 a3 a4 a5 a6 a7 a8 a9 a10 a11 a12 a13 a14 a15 a16 a17 a18 a19 a20 a21 a22 a23 a24 a25 : Nat → Int32} {x : Int32} (h1 : ¬ x = 1) (h2 : ¬ x = 2) (h3 : ¬ x = 3) (h4 : ¬ x = 11) (H : post 0) : wpX_isStep post (hc, sc, lv, cl, kn, vn, oc, a1, a2, a3, a4, a5, a6, a7, a8, a9, a10, a11, a12, a13, a14, a15, a16, a17, a18, a19, a20, a21, a22, a23, a24, a25) x :=
  br_f h1 (br_f h2 (br_f h3 (br_f h4 H)))
end
section
/-! findNeeded -/
theorem ln_need0 {post : St2 → Prop} {hc sc lv cl kn vn oc : Int32} {a1 a2 a3 a4 a5 a6 a7 a8 a9 a10 a11 a12 a13 a14 a15 a16 a17 a18 a19 a20 a21 a22 a23 a24 a25 : Nat → Int32} (h14 : a14 0 = 0) (h17 : a17 0 = 0 ∨ a17 0 = 15)
    (H : ∀ b17 b18 : Nat → Int32, b17 0 = 15 → b17 1 = a17 1 → post (hc, sc, lv, cl, kn, vn, oc, a1, a2, a3, a4, a5, a6, a7, a8, a9, a10, a11, a12, a13, a14, a15, a16, b17, b18, a19, a20, a21, a22, a23, a24, a25)) : wpX_need post (hc, sc, lv, cl, kn, vn, oc, a1, a2, a3, a4, a5, a6, a7, a8, a9, a10, a11, a12, a13, a14, a15, a16, a17, a18, a19, a20, a21, a22, a23, a24, a25) 0 15 := by
  refine ⟨ln_i0, ln_i0, ln_i0, nm_e ⟨ln_i0, ln_i0, nm_e (H _ _ ?_ ?_)⟩⟩
  · rw [ln_c0, pk_us, h14]
    rcases h17 with h | h <;> rw [h] <;> decide
  · rw [ln_c0]
    exact pk_un (by omega)
theorem ln_fnz {post : St2 → Prop} {hc sc lv cl kn vn oc : Int32} {a1 a2 a3 a4 a5 a6 a7 a8 a9 a10 a11 a12 a13 a14 a15 a16 a17 a18 a19 a20 a21 a22 a23 a24 a25 : Nat → Int32} (h3 : a3 0 = 0) (H : post (hc, sc, lv, cl, kn, vn, oc, a1, a2, a3, a4, a5, a6, a7, a8, a9, a10, a11, a12, a13, a14, a15, a16, a17, a18, a19, a20, a21, a22, a23, a24, a25)) : wX_findNeeded_48 post 2 0 hc sc lv cl kn vn oc a1 a2 a3 a4 a5 a6 a7 a8 a9 a10 a11 a12 a13 a14 a15 a16 a17 a18 a19 a20 a21 a22 a23 a24 a25 :=
  br_f (by decide) ⟨ln_i0, br_c (fun _ => nm_r (e' := -1) (by decide) (br_t (by decide) H))
    (fun _ => ⟨ln_i0, br_t (by rw [ln_c0]; exact h3) (nm_r (e' := -1) (by decide) (br_t (by decide) H))⟩)⟩
theorem ln_fn97 {post : St2 → Prop} {hc sc lv cl kn vn oc : Int32} {a1 a2 a3 a4 a5 a6 a7 a8 a9 a10 a11 a12 a13 a14 a15 a16 a17 a18 a19 a20 a21 a22 a23 a24 a25 : Nat → Int32} {kind : Int32} (h3 : a3 0 = 0) (h3' : a3 1 = kind) (h4 : a4 1 = 0) (h5 : kind = 5 ∨ kind = 7 ∨ kind = 9 → a5 1 = 0)
    (h14 : a14 0 = 0) (h17 : a17 0 = 0) (h17' : a17 1 = 15)
    (H : ∀ b17 b18 : Nat → Int32, b17 1 = 15 → b17 0 = 15 → post (hc, sc, lv, cl, kn, vn, oc, a1, a2, a3, a4, a5, a6, a7, a8, a9, a10, a11, a12, a13, a14, a15, a16, b17, b18, a19, a20, a21, a22, a23, a24, a25)) :
    wX_findNeeded_97 post (wX_findNeeded_48 post 2) 1 15 hc sc lv cl kn vn oc a1 a2 a3 a4 a5 a6 a7 a8 a9 a10 a11 a12 a13 a14 a15 a16 a17 a18 a19 a20 a21 a22 a23 a24 a25 := by
  have e4 : a4 (1 : Int32).toNatClampNeg = 0 := by
    rw [ln_c1]
    exact h4
  have e3 : a3 (1 : Int32).toNatClampNeg = kind := by
    rw [ln_c1]
    exact h3'
  refine ⟨ln_i1, ?_⟩
  rw [e4]
  refine ln_need0 h14 (Or.inl h17) (fun b17 b18 g0 g1 => ⟨ln_i1, ?_⟩)
  have fin : wX_findNeeded_48 post 2 0 hc sc lv cl kn vn oc a1 a2 a3 a4 a5 a6 a7 a8 a9 a10 a11 a12 a13 a14 a15 a16 b17 b18 a19 a20 a21 a22 a23 a24 a25 := ln_fnz h3 (H b17 b18 (g1.trans h17') g0)
  have two : kind = 5 ∨ kind = 7 ∨ kind = 9 → wpX_need (fun u => match u with | (hc, sc, lv, cl, kn, vn, oc, a1, a2, a3, a4, a5, a6, a7, a8, a9, a10, a11, a12, a13, a14, a15, a16, a17, a18, a19, a20, a21, a22, a23, a24, a25) => ∀ y : Int32, y = (1 : Int32) + (-1) → wX_findNeeded_48 post 2 y hc sc lv cl kn vn oc a1 a2 a3 a4 a5 a6 a7 a8 a9 a10 a11 a12 a13 a14 a15 a16 a17 a18 a19 a20 a21 a22 a23 a24 a25) (hc, sc, lv, cl, kn, vn, oc, a1, a2, a3, a4, a5, a6, a7, a8, a9, a10, a11, a12, a13, a14, a15, a16, b17, b18, a19, a20, a21, a22, a23, a24, a25) (a5 (1 : Int32).toNatClampNeg) 15 := by
    intro z
    rw [ln_c1, h5 z]
    exact ln_need0 h14 (Or.inr g0) (fun d17 d18 k0 k1 => nm_r (e' := 0) (by decide) (ln_fnz h3 (H d17 d18 (k1.trans (g1.trans h17')) k0)))
  rw [e3]
  exact br_c (fun z => br_f (by decide) ⟨ln_i1, two (Or.inl z)⟩) (fun _ => br_c (fun z => br_f (by decide) ⟨ln_i1, two (Or.inr (Or.inl z))⟩)
    (fun _ => br_c (fun z => br_f (by decide) ⟨ln_i1, two (Or.inr (Or.inr z))⟩) (fun _ => br_t rfl (nm_r (e' := 0) (by decide) fin))))
theorem ln_fn48 {post : St2 → Prop} {hc sc lv cl kn vn oc : Int32} {a1 a2 a3 a4 a5 a6 a7 a8 a9 a10 a11 a12 a13 a14 a15 a16 a17 a18 a19 a20 a21 a22 a23 a24 a25 : Nat → Int32} {kind : Int32} (h3 : a3 0 = 0) (h3' : a3 1 = kind) (h4 : a4 1 = 0) (h5 : kind = 5 ∨ kind = 7 ∨ kind = 9 → a5 1 = 0)
    (h14 : a14 0 = 0) (h17 : a17 0 = 0) (h17' : a17 1 = 15)
    (H : ∀ b17 b18 : Nat → Int32, b17 1 = 15 → (kind = 0 → b17 0 = 0) → (¬ kind = 0 → b17 0 = 15) → post (hc, sc, lv, cl, kn, vn, oc, a1, a2, a3, a4, a5, a6, a7, a8, a9, a10, a11, a12, a13, a14, a15, a16, b17, b18, a19, a20, a21, a22, a23, a24, a25)) :
    ∃ fu, wX_findNeeded_48 post fu 1 hc sc lv cl kn vn oc a1 a2 a3 a4 a5 a6 a7 a8 a9 a10 a11 a12 a13 a14 a15 a16 a17 a18 a19 a20 a21 a22 a23 a24 a25 := by
  have e3 : a3 (1 : Int32).toNatClampNeg = kind := by
    rw [ln_c1]
    exact h3'
  have e17 : a17 (1 : Int32).toNatClampNeg = 15 := by
    rw [ln_c1]
    exact h17'
  refine ⟨3, br_f (by decide) ⟨ln_i1, br_f (by rw [e17]; decide) ⟨ln_i1, br_c (fun z => ?_) (fun z => ⟨ln_i1, ?_⟩)⟩⟩⟩
  · rw [e3] at z
    exact nm_r (e' := 0) (by decide) (ln_fnz h3 (H a17 a18 h17' (fun _ => h17) (fun q => absurd z q)))
  · rw [e3] at z
    have C : wX_findNeeded_97 post (wX_findNeeded_48 post 2) 1 15 hc sc lv cl kn vn oc a1 a2 a3 a4 a5 a6 a7 a8 a9 a10 a11 a12 a13 a14 a15 a16 a17 a18 a19 a20 a21 a22 a23 a24 a25 :=
      ln_fn97 h3 h3' h4 h5 h14 h17 h17' (fun b17 b18 g1 g0 => H b17 b18 g1 (fun q => absurd q z) (fun _ => g0))
    have C' : wX_findNeeded_97 post (wX_findNeeded_48 post 2) 1 (a17 (1 : Int32).toNatClampNeg) hc sc lv cl kn vn oc a1 a2 a3 a4 a5 a6 a7 a8 a9 a10 a11 a12 a13 a14 a15 a16 a17 a18 a19 a20 a21 a22 a23 a24 a25 := by
      rw [e17]
      exact C
    exact br_c (fun _ => br_t rfl ⟨ln_i1, C'⟩) (fun _ => br_c (fun _ => br_t rfl ⟨ln_i1, C'⟩) (fun _ => br_f (by decide) C))
theorem ln_fn {post : St2 → Prop} {hc sc lv cl kn vn oc : Int32} {a1 a2 a3 a4 a5 a6 a7 a8 a9 a10 a11 a12 a13 a14 a15 a16 a17 a18 a19 a20 a21 a22 a23 a24 a25 : Nat → Int32} {kind : Int32} (h3 : a3 0 = 0) (h3' : a3 1 = kind) (h4 : a4 1 = 0) (h5 : kind = 5 ∨ kind = 7 ∨ kind = 9 → a5 1 = 0)
    (h14 : a14 0 = 0) (h14' : a14 1 = 0)
    (H : ∀ b17 b18 : Nat → Int32, b17 1 = 15 → (kind = 0 → b17 0 = 0) → (¬ kind = 0 → b17 0 = 15) → post (hc, sc, lv, cl, kn, vn, oc, a1, a2, a3, a4, a5, a6, a7, a8, a9, a10, a11, a12, a13, a14, a15, a16, b17, b18, a19, a20, a21, a22, a23, a24, a25)) :
    wpX_findNeeded post (hc, sc, lv, cl, kn, vn, oc, a1, a2, a3, a4, a5, a6, a7, a8, a9, a10, a11, a12, a13, a14, a15, a16, a17, a18, a19, a20, a21, a22, a23, a24, a25) 1 := by
  refine pk_loop (σ := (Nat → Int32) × (Nat → Int32)) (fun n i s => wX_findNeeded_2 post 1 hc sc lv cl kn vn oc n (nI i) a1 a2 a3 a4 a5 a6 a7 a8 a9 a10 a11 a12 a13 a14 a15 a16 s.1 s.2 a19 a20 a21 a22 a23 a24 a25) (fun i s => ∀ j, j < i → s.1 j = 0) 16 0 (a17, a18) (by omega) (fun j hj => absurd hj (by omega)) ?_ ?_
  · intro n s h
    refine pk_le 16 16 (fun _ => ⟨ln_i1, ln_i1, ?_⟩) (fun z => absurd z (by omega))
    refine nm_r (e' := upd s.1 1 15) (by rw [ln_c1, h14']; rfl) ?_
    exact ln_fn48 h3 h3' h4 h5 h14 ((pk_un (by omega)).trans (h 0 (by omega))) pk_us H
  · intro n i s hi h hw
    refine pk_le 16 i (fun z => absurd z (by omega)) (fun _ => ⟨pk_in i 16 hi, ?_⟩)
    intro y17 f17
    rw [nI_clamp (by omega)] at f17
    subst f17
    refine ⟨pk_in i 16 hi, ?_⟩
    intro y18 f18
    refine nm_r (nI_1 i) (hw (upd s.1 i 0, y18) (fun j hj => ?_))
    by_cases e : j = i
    · subst e
      exact pk_us
    · exact (pk_un e).trans (h j (by omega))
/-! isPassedOver -/
theorem ln_pass0 {post : Int32 → Prop} {hc sc lv cl kn vn oc : Int32} {a1 a2 a3 a4 a5 a6 a7 a8 a9 a10 a11 a12 a13 a14 a15 a16 a17 a18 a19 a20 a21 a22 a23 a24 a25 : Nat → Int32} (h3 : a3 0 = 0) (H : post 0) : wpX_isPassedOver post (hc, sc, lv, cl, kn, vn, oc, a1, a2, a3, a4, a5, a6, a7, a8, a9, a10, a11, a12, a13, a14, a15, a16, a17, a18, a19, a20, a21, a22, a23, a24, a25) 0 1 :=
  br_c (fun _ => H) (fun _ => br_f (by decide) ⟨ln_i0, br_c (fun _ => ⟨ln_i0, br_c (fun _ => ⟨ln_i0, br_c (fun _ => ⟨ln_i0, ln_step0 (by rw [ln_c0]; exact h3) (br_t rfl H)⟩) (fun _ => H)⟩) (fun _ => H)⟩) (fun _ => H)⟩)
theorem ln_pass1 {post : Int32 → Prop} {hc sc lv cl kn vn oc : Int32} {a1 a2 a3 a4 a5 a6 a7 a8 a9 a10 a11 a12 a13 a14 a15 a16 a17 a18 a19 a20 a21 a22 a23 a24 a25 : Nat → Int32} (H : post 0) : wpX_isPassedOver post (hc, sc, lv, cl, kn, vn, oc, a1, a2, a3, a4, a5, a6, a7, a8, a9, a10, a11, a12, a13, a14, a15, a16, a17, a18, a19, a20, a21, a22, a23, a24, a25) 1 1 :=
  br_c (fun _ => H) (fun _ => br_t rfl H)
end
section
/-! data set 0 -/
theorem ln_rows0 {post : St2 → Prop} {hc sc lv cl kn vn oc : Int32} {a1 a2 a3 a4 a5 a6 a7 a8 a9 a10 a11 a12 a13 a14 a15 a16 a17 a18 a19 a20 a21 a22 a23 a24 a25 : Nat → Int32} {g k : Nat} {value : Int32} (hg : g = 0 ∨ g = 1) (hk : k < 16) (h7 : a7 0 = nI g) (h8 : g = 1 → a8 0 = nI k ∧ a9 0 = value) (h10 : a10 0 = 0) (h10' : a10 1 = 0)
    (H : ∀ b10 b11 b12 b13 : Nat → Int32, ln_Z g k value b10 b11 b12 b13 → b10 1 = 0 → post (hc, sc, lv, cl, kn, vn, oc, a1, a2, a3, a4, a5, a6, a7, a8, a9, b10, b11, b12, b13, a14, a15, a16, a17, a18, a19, a20, a21, a22, a23, a24, a25)) : wpX_makeRows post (hc, sc, lv, cl, kn, vn, oc, a1, a2, a3, a4, a5, a6, a7, a8, a9, a10, a11, a12, a13, a14, a15, a16, a17, a18, a19, a20, a21, a22, a23, a24, a25) 0 15 := by
  rcases hg with rfl | rfl
  · exact ⟨1, ln_i0, br_t (by rw [ln_c0, h7]; decide) (H a10 a11 a12 a13 ⟨h10, fun z => absurd z (by omega)⟩ h10')⟩
  · obtain ⟨h8, h9⟩ := h8 rfl
    have e0 : ((24 : Int32) * 0 + 0).toNatClampNeg = 0 := by decide
    have i0 : vp_in ((24 : Int32) * 0 + 0) 384 := vp_in_iff.mpr (by decide)
    refine ⟨2, ln_i0, br_f (by rw [ln_c0, h7]; decide) ?_⟩
    refine ln_part (by decide) (br_f (by decide) ⟨i0, i0, ?_⟩)
    rw [e0, h8, h9]
    refine ln_add (d := 0) (c := 0) (e := 0) (by omega) h10 (by omega) (by omega) ?_
    refine nm_r (e' := 1) (by decide) ?_
    refine ⟨ln_i0, br_t (by rw [ln_c0, h7]; decide) (H _ _ _ _ ⟨pk_us, fun _ => ⟨pk_us.trans (by decide), pk_us.trans (ln_b64 k (by omega)), pk_us⟩⟩ ((pk_un (by omega)).trans h10'))⟩
theorem ln_rows1 {post : St2 → Prop} {hc sc lv cl kn vn oc : Int32} {a1 a2 a3 a4 a5 a6 a7 a8 a9 a10 a11 a12 a13 a14 a15 a16 a17 a18 a19 a20 a21 a22 a23 a24 a25 : Nat → Int32} (h7 : a7 1 = 0) (H : post (hc, sc, lv, cl, kn, vn, oc, a1, a2, a3, a4, a5, a6, a7, a8, a9, a10, a11, a12, a13, a14, a15, a16, a17, a18, a19, a20, a21, a22, a23, a24, a25)) : wpX_makeRows post (hc, sc, lv, cl, kn, vn, oc, a1, a2, a3, a4, a5, a6, a7, a8, a9, a10, a11, a12, a13, a14, a15, a16, a17, a18, a19, a20, a21, a22, a23, a24, a25) 1 15 :=
  ⟨1, ln_i1, br_t (by rw [ln_c1, h7]; decide) H⟩
theorem ln_127 {post : Int32 → St2 → Prop} {hc sc lv cl kn vn oc : Int32} {a1 a2 a3 a4 a5 a6 a7 a8 a9 a10 a11 a12 a13 a14 a15 a16 a17 a18 a19 a20 a21 a22 a23 a24 a25 : Nat → Int32} {d : Nat} (hd : d < 16) {x3 : Int32} (H : ∀ b14 : Nat → Int32, post 1 (hc, sc, lv, cl, kn, vn, oc, a1, a2, a3, a4, a5, a6, a7, a8, a9, a10, a11, a12, a13, b14, a15, upd a16 d 1, a17, a18, a19, a20, a21, a22, a23, a24, a25)) : wX_makeParts_127 post (nI d) x3 1 hc sc lv cl kn vn oc a1 a2 a3 a4 a5 a6 a7 a8 a9 a10 a11 a12 a13 a14 a15 a16 a17 a18 a19 a20 a21 a22 a23 a24 a25 := by
  have ed : (nI d).toNatClampNeg = d := nI_clamp (by omega)
  have i1 : vp_in (nI d) 16 := vp_in_nI hd (by omega)
  refine ⟨i1, i1, ?_⟩
  intro b14 e14
  refine br_f (by decide) ⟨i1, ?_⟩
  refine nm_r (e' := upd a16 d 1) (by rw [ed]) ?_
  exact br_f (by decide) ⟨i1, br_t (by rw [ed]; exact pk_us) (H b14)⟩
theorem ln_parts0 {post : Int32 → St2 → Prop} {hc sc lv cl kn vn oc : Int32} {a1 a2 a3 a4 a5 a6 a7 a8 a9 a10 a11 a12 a13 a14 a15 a16 a17 a18 a19 a20 a21 a22 a23 a24 a25 : Nat → Int32} {g k : Nat} {value : Int32} (hg : g = 0 ∨ g = 1) (hk : k < 16) (h3 : a3 0 = 0) (h17 : a17 0 = 15) (h7 : a7 0 = nI g) (h8 : g = 1 → a8 0 = nI k ∧ a9 0 = value) (h10 : a10 0 = 0) (h10' : a10 1 = 0)
    (H : ∀ b10 b11 b12 b13 b14 : Nat → Int32, ln_Z g k value b10 b11 b12 b13 → b10 1 = 0 → post 1 (hc, sc, lv, cl, kn, vn, oc, a1, a2, a3, a4, a5, a6, a7, a8, a9, b10, b11, b12, b13, b14, a15, upd a16 0 1, a17, a18, a19, a20, a21, a22, a23, a24, a25)) : wpX_makeParts post (hc, sc, lv, cl, kn, vn, oc, a1, a2, a3, a4, a5, a6, a7, a8, a9, a10, a11, a12, a13, a14, a15, a16, a17, a18, a19, a20, a21, a22, a23, a24, a25) 0 := by
  refine ⟨ln_i0, nm_r (e' := 0) (by rw [ln_c0]; exact h3) ⟨ln_i0, nm_r (e' := 15) (by rw [ln_c0]; exact h17) (br_t rfl ?_)⟩⟩
  exact ln_rows0 hg hk h7 h8 h10 h10' (fun b10 b11 b12 b13 hz h1 => ln_127 (d := 0) (by omega) (fun b14 => H b10 b11 b12 b13 b14 hz h1))
/-! data set 1: what a maker gives -/
def ln_mk (g k : Nat) (value kind a b : Int32) (n kk : Nat) (vv : Int32) : Prop :=
  ∀ (post : Int32 → St2 → Prop) (hc sc lv cl kn vn oc : Int32) (a1 a2 a3 a4 a5 a6 a7 a8 a9 a10 a11 a12 a13 a14 a15 a16 a17 a18 a19 a20 a21 a22 a23 a24 a25 : Nat → Int32), ln_P g k value kind a b sc lv a3 a4 a5 a6 a7 a8 a9 a15 → a17 1 = 15 → (¬ kind = 0 → ln_Z g k value a10 a11 a12 a13) → a10 1 = 0 →
    (∀ (c x y : Int32) (b10 b11 b12 b13 b14 b16 b19 b20 b21 b22 b23 : Nat → Int32), ln_R n kk vv b10 b12 b13 → ¬ b16 1 = 2 → post 1 (hc, sc, lv, c, x, y, oc, a1, a2, a3, a4, a5, a6, a7, a8, a9, b10, b11, b12, b13, b14, a15, b16, a17, a18, b19, b20, b21, b22, b23, a24, a25)) → wpX_makeParts post (hc, sc, lv, cl, kn, vn, oc, a1, a2, a3, a4, a5, a6, a7, a8, a9, a10, a11, a12, a13, a14, a15, a16, a17, a18, a19, a20, a21, a22, a23, a24, a25) 1
/-- between calls: nothing is worked out, data set 1 isn't known as big -/
def ln_E (a10 a14 a16 : Nat → Int32) : Prop := a10 0 = 0 ∧ a10 1 = 0 ∧ a14 0 = 0 ∧ a14 1 = 0 ∧ ¬ a16 1 = 2
theorem ln_wo1 {post : Int32 → St2 → Prop} {hc sc lv cl kn vn oc : Int32} {a1 a2 a3 a4 a5 a6 a7 a8 a9 a10 a11 a12 a13 a14 a15 a16 a17 a18 a19 a20 a21 a22 a23 a24 a25 : Nat → Int32} {g k n kk : Nat} {value kind a b vv : Int32} (hP : ln_P g k value kind a b sc lv a3 a4 a5 a6 a7 a8 a9 a15) (hM : ln_mk g k value kind a b n kk vv)
    (h17 : a17 1 = 15) (hZ : ¬ kind = 0 → ln_Z g k value a10 a11 a12 a13) (h10 : a10 1 = 0)
    (H : ∀ (c x y : Int32) (b10 b11 b12 b13 b14 b16 b19 b20 b21 b22 b23 : Nat → Int32), ln_R n kk vv b10 b12 b13 → ¬ b16 1 = 2 → post 1 (hc, sc, lv, c, x, y, oc, a1, a2, a3, a4, a5, a6, a7, a8, a9, b10, b11, b12, b13, b14, a15, b16, a17, a18, b19, b20, b21, b22, b23, a24, a25)) :
    wX_workOut_19 post 1 2 1 hc sc lv cl kn vn oc a1 a2 a3 a4 a5 a6 a7 a8 a9 a10 a11 a12 a13 a14 a15 a16 a17 a18 a19 a20 a21 a22 a23 a24 a25 := by
  refine br_f (by decide) ⟨ln_i1, br_f (by rw [ln_c1, h17]; decide) (ln_pass1 (br_t rfl ?_))⟩
  refine hM _ hc sc lv cl kn vn oc a1 a2 a3 a4 a5 a6 a7 a8 a9 a10 a11 a12 a13 a14 a15 a16 a17 a18 a19 a20 a21 a22 a23 a24 a25 hP h17 hZ h10 ?_
  intro c x y b10 b11 b12 b13 b14 b16 b19 b20 b21 b22 b23 hR h16
  exact br_f (by decide) (nm_r (e' := 2) (by decide) (br_t (by decide) (H c x y b10 b11 b12 b13 b14 b16 b19 b20 b21 b22 b23 hR h16)))
theorem ln_work {post : Int32 → St2 → Prop} {hc sc lv cl kn vn oc : Int32} {a1 a2 a3 a4 a5 a6 a7 a8 a9 a10 a11 a12 a13 a14 a15 a16 a17 a18 a19 a20 a21 a22 a23 a24 a25 : Nat → Int32} {g k n kk : Nat} {value kind a b vv : Int32} (hg : g = 0 ∨ g = 1) (hk : k < 16) (hP : ln_P g k value kind a b sc lv a3 a4 a5 a6 a7 a8 a9 a15) (h5 : kind = 5 ∨ kind = 7 ∨ kind = 9 → a = 0) (hM : ln_mk g k value kind a b n kk vv)
    (hE : ln_E a10 a14 a16)
    (H : ∀ (c x y : Int32) (b10 b11 b12 b13 b14 b16 b17 b18 b19 b20 b21 b22 b23 : Nat → Int32), ln_R n kk vv b10 b12 b13 → ¬ b16 1 = 2 → post 1 (hc, sc, lv, c, x, y, oc, a1, a2, a3, a4, a5, a6, a7, a8, a9, b10, b11, b12, b13, b14, a15, b16, b17, b18, b19, b20, b21, b22, b23, a24, a25)) :
    wpX_workOut post (hc, sc, lv, cl, kn, vn, oc, a1, a2, a3, a4, a5, a6, a7, a8, a9, a10, a11, a12, a13, a14, a15, a16, a17, a18, a19, a20, a21, a22, a23, a24, a25) 1 := by
  have hP0 := hP
  obtain ⟨p1, p2, p3, p3', p4, p5, p6, p7, p7', p8, p15, p15'⟩ := hP0
  obtain ⟨q0, q1, q2, q3, q4⟩ := hE
  refine ⟨ln_i1, br_f (by rw [ln_c1]; exact q4) ?_⟩
  refine ln_fn p3 p3' p4 (fun z => p5.trans (h5 z)) q2 q3 (fun b17 b18 g1 g0 g0' => ⟨3, ?_⟩)
  refine br_f (by decide) ⟨ln_i0, br_c (fun z => ?_) (fun z => ?_)⟩
  · rw [ln_c0] at z
    have hk0 : kind = 0 := by
      rcases Classical.em (kind = 0) with e | e
      · exact e
      · rw [g0' e] at z
        exact absurd z (by decide)
    refine nm_r (e' := 1) (by decide) ?_
    exact ln_wo1 hP hM g1 (fun e => absurd hk0 e) q1 (fun c x y b10 b11 b12 b13 b14 b16 b19 b20 b21 b22 b23 hR h16 => H c x y b10 b11 b12 b13 b14 b16 b17 b18 b19 b20 b21 b22 b23 hR h16)
  · rw [ln_c0] at z
    have hk0 : ¬ kind = 0 := fun e => z (g0 e)
    refine ln_pass0 p3 (br_t rfl ?_)
    refine ln_parts0 hg hk p3 (g0' hk0) p7 p8 q0 q1 (fun b10 b11 b12 b13 b14 hz h1 => br_f (by decide) (nm_r (e' := 1) (by decide) ?_))
    exact ln_wo1 hP hM g1 (fun _ => hz) h1 (fun c x y b10 b11 b12 b13 b14 b16 b19 b20 b21 b22 b23 hR h16 => H c x y b10 b11 b12 b13 b14 b16 b17 b18 b19 b20 b21 b22 b23 hR h16)
end
section
/-! the public calls on data set 1 -/
theorem ln_count {post : Int32 → St2 → Prop} {hc sc lv cl kn vn oc : Int32} {a1 a2 a3 a4 a5 a6 a7 a8 a9 a10 a11 a12 a13 a14 a15 a16 a17 a18 a19 a20 a21 a22 a23 a24 a25 : Nat → Int32} {g k n kk : Nat} {value kind a b vv : Int32} (hg : g = 0 ∨ g = 1) (hk : k < 16) (hP : ln_P g k value kind a b sc lv a3 a4 a5 a6 a7 a8 a9 a15) (h5 : kind = 5 ∨ kind = 7 ∨ kind = 9 → a = 0) (hM : ln_mk g k value kind a b n kk vv)
    (hE : ln_E a10 a14 a16)
    (H : ∀ (c x y : Int32) (b10 b11 b12 b13 b14 b16 b17 b18 b19 b20 b21 b22 b23 : Nat → Int32), ln_E b10 b14 b16 → post (nI n) (hc, sc, lv, c, x, y, oc, a1, a2, a3, a4, a5, a6, a7, a8, a9, b10, b11, b12, b13, b14, a15, b16, b17, b18, b19, b20, b21, b22, b23, a24, a25)) :
    wpX_count post (hc, sc, lv, cl, kn, vn, oc, a1, a2, a3, a4, a5, a6, a7, a8, a9, a10, a11, a12, a13, a14, a15, a16, a17, a18, a19, a20, a21, a22, a23, a24, a25) 1 := by
  have hP0 := hP
  obtain ⟨rfl, p2, p3, p3', p4, p5, p6, p7, p7', p8, p15, p15'⟩ := hP0
  unfold wpX_count
  refine ln_set1 (br_f (by decide) ?_)
  refine ln_work hg hk hP h5 hM hE ?_
  intro c x y b10 b11 b12 b13 b14 b16 b17 b18 b19 b20 b21 b22 b23 hR h16
  refine br_f (by decide) ⟨ln_i1, nm_r (e' := nI n) (by rw [ln_c1]; exact hR.1) ?_⟩
  refine ln_tidy p15 p15' ?_
  exact H c x y _ b11 b12 b13 _ b16 b17 b18 b19 b20 b21 b22 b23 ⟨(pk_un (by omega)).trans pk_us, pk_us, (pk_un (by omega)).trans pk_us, pk_us, h16⟩
theorem ln_total {post : Int32 → St2 → Prop} {hc sc lv cl kn vn oc : Int32} {a1 a2 a3 a4 a5 a6 a7 a8 a9 a10 a11 a12 a13 a14 a15 a16 a17 a18 a19 a20 a21 a22 a23 a24 a25 : Nat → Int32} {g k n kk : Nat} {value kind a b vv : Int32} (hg : g = 0 ∨ g = 1) (hk : k < 16) (hn : n ≤ 3) (hP : ln_P g k value kind a b sc lv a3 a4 a5 a6 a7 a8 a9 a15) (h5 : kind = 5 ∨ kind = 7 ∨ kind = 9 → a = 0) (hM : ln_mk g k value kind a b n kk vv)
    (hE : ln_E a10 a14 a16)
    (H : ∀ (c x y : Int32) (b10 b11 b12 b13 b14 b16 b17 b18 b19 b20 b21 b22 b23 : Nat → Int32), ln_E b10 b14 b16 → post (ln_sum vv n) (hc, sc, lv, c, x, y, oc, a1, a2, a3, a4, a5, a6, a7, a8, a9, b10, b11, b12, b13, b14, a15, b16, b17, b18, b19, b20, b21, b22, b23, a24, a25)) :
    wpX_total post (hc, sc, lv, cl, kn, vn, oc, a1, a2, a3, a4, a5, a6, a7, a8, a9, a10, a11, a12, a13, a14, a15, a16, a17, a18, a19, a20, a21, a22, a23, a24, a25) 1 := by
  have hP0 := hP
  obtain ⟨rfl, p2, p3, p3', p4, p5, p6, p7, p7', p8, p15, p15'⟩ := hP0
  unfold wpX_total
  refine ln_set1 (br_f (by decide) ?_)
  refine ln_work hg hk hP h5 hM hE ?_
  intro c x y b10 b11 b12 b13 b14 b16 b17 b18 b19 b20 b21 b22 b23 hR h16
  have e10 : 48 * 1 + b10 (1 : Int32).toNatClampNeg = nI (48 + n) := by
    rw [ln_c1, hR.1]
    exact ln_48 1 n
  refine br_f (by decide) (nm_r (e' := nI (48 + 0)) (by decide) ?_)
  refine pk_loop (σ := Unit) (fun m i _ => wX_total_25 post 1 hc 2 lv c x y oc a1 a2 a3 a4 a5 a6 a7 a8 a9 b10 b11 b12 b13 b14 a15 b16 b17 b18 b19 b20 b21 b22 b23 a24 a25 m (ln_sum vv i) (nI (48 + i))) (fun _ _ => True) n 0 () (by omega) trivial ?_ ?_
  · intro m _ _
    refine ⟨ln_i1, br_t (by rw [e10]; exact nI_le (by omega) (by omega)) ?_⟩
    refine ln_tidy p15 p15' ?_
    exact H c x y _ b11 b12 b13 _ b16 b17 b18 b19 b20 b21 b22 b23 ⟨(pk_un (by omega)).trans pk_us, pk_us, (pk_un (by omega)).trans pk_us, pk_us, h16⟩
  · intro m i _ hi _ hw
    refine ⟨ln_i1, br_f (by rw [e10]; exact nI_ge (by omega) (by omega)) ⟨pk_in (48 + i) 768 (by omega), ?_⟩⟩
    refine nm_r (e' := ln_sum vv (i + 1)) (by rw [nI_clamp (by omega), (hR.2 i hi).2]; rfl) ?_
    exact nm_r (nI_1 (48 + i)) (hw () trivial)
theorem ln_sort {post : St2 → Prop} {hc sc lv cl kn vn oc : Int32} {a1 a2 a3 a4 a5 a6 a7 a8 a9 a10 a11 a12 a13 a14 a15 a16 a17 a18 a19 a20 a21 a22 a23 a24 a25 : Nat → Int32} {n kk : Nat} {vv : Int32} (hn : n ≤ 3) (hk : kk < 16) (hR : ln_R n kk vv a10 a12 a13)
    (H : ∀ b24 b25 : Nat → Int32, (∀ j, j < n → b24 j = nI kk) → post (hc, sc, lv, cl, kn, vn, nI n, a1, a2, a3, a4, a5, a6, a7, a8, a9, a10, a11, a12, a13, a14, a15, a16, a17, a18, a19, a20, a21, a22, a23, b24, b25)) : wpX_sortPairs post (hc, sc, lv, cl, kn, vn, oc, a1, a2, a3, a4, a5, a6, a7, a8, a9, a10, a11, a12, a13, a14, a15, a16, a17, a18, a19, a20, a21, a22, a23, a24, a25) 1 := by
  have e10 : 48 * 1 + a10 (1 : Int32).toNatClampNeg = nI (48 + n) := by
    rw [ln_c1, hR.1]
    exact ln_48 1 n
  refine nm_r (e' := nI (48 + 0)) (by decide) ?_
  refine pk_loop (σ := (Nat → Int32) × (Nat → Int32)) (fun m i s => wX_sortPairs_10 post 1 hc sc lv cl kn vn m (nI (48 + i)) (nI i) a1 a2 a3 a4 a5 a6 a7 a8 a9 a10 a11 a12 a13 a14 a15 a16 a17 a18 a19 a20 a21 a22 a23 s.1 s.2) (fun i s => ∀ j, j < i → s.1 j = nI kk ∧ s.2 j = vv) n 0 (a24, a25) (by omega) (fun j hj => absurd hj (by omega)) ?_ ?_
  · intro m s h
    exact ⟨ln_i1, br_t (by rw [e10]; exact nI_le (by omega) (by omega)) (H s.1 s.2 (fun j hj => (h j hj).1))⟩
  · intro m i s hi h hw
    have c1 : (nI (48 + i)).toNatClampNeg = 48 + i := nI_clamp (by omega)
    have c2 : (nI i).toNatClampNeg = i := nI_clamp (by omega)
    have i1 : vp_in (nI (48 + i)) 768 := pk_in (48 + i) 768 (by omega)
    have i2 : vp_in (nI i) 48 := pk_in i 48 (by omega)
    have body : wX_sortPairs_90 post (wX_sortPairs_10 post 1 hc sc lv cl kn vn m) 1 (nI (48 + i)) (nI i) hc sc lv cl kn vn (nI i) a1 a2 a3 a4 a5 a6 a7 a8 a9 a10 a11 a12 a13 a14 a15 a16 a17 a18 a19 a20 a21 a22 a23 s.1 s.2 := by
      refine ⟨i1, i2, ?_⟩
      intro y24 f24
      rw [c1, c2, (hR.2 i hi).1] at f24
      refine ⟨i1, i2, ?_⟩
      intro y25 f25
      rw [c1, c2, (hR.2 i hi).2] at f25
      refine nm_r (nI_1 i) (nm_r (nI_1 (48 + i)) (hw (y24, y25) ?_))
      intro j hj
      show y24 j = nI kk ∧ y25 j = vv
      by_cases e : j = i
      · subst e
        rw [f24, f25]
        exact ⟨pk_us.trans ((vp_nar_byte _).trans (ln_b64 kk (by omega))), pk_us⟩
      · rw [f24, f25, pk_un e, pk_un e]
        exact h j (by omega)
    refine ⟨ln_i1, br_f (by rw [e10]; exact nI_ge (by omega) (by omega)) ⟨1, ?_⟩⟩
    refine pk_le i 0 (fun _ => body) (fun z => ⟨i1, i1, ?_⟩)
    obtain ⟨t, rfl⟩ : ∃ t, i = t + 1 := ⟨i - 1, by omega⟩
    have e1 : nI (t + 1) - 1 = nI t := nI_pred t
    rw [e1, c1, (hR.2 (t + 1) hi).1, (hR.2 (t + 1) hi).2]
    have c3 : (nI t).toNatClampNeg = t := nI_clamp (by omega)
    have i3 : vp_in (nI t) 48 := pk_in t 48 (by omega)
    refine ⟨i3, br_t (by rw [c3]; exact (h t (by omega)).1.symm) ⟨i3, br_t (by rw [c3, (h t (by omega)).2]; exact Int32.le_refl _) (br_t rfl body)⟩⟩
theorem ln_key {post : Int32 → St2 → Prop} {hc sc lv cl kn vn oc : Int32} {a1 a2 a3 a4 a5 a6 a7 a8 a9 a10 a11 a12 a13 a14 a15 a16 a17 a18 a19 a20 a21 a22 a23 a24 a25 : Nat → Int32} {g k n kk : Nat} {value kind a b vv : Int32} (hg : g = 0 ∨ g = 1) (hk : k < 16) (hn : n ≤ 3) (hkk : kk < 16) (hP : ln_P g k value kind a b sc lv a3 a4 a5 a6 a7 a8 a9 a15) (h5 : kind = 5 ∨ kind = 7 ∨ kind = 9 → a = 0) (hM : ln_mk g k value kind a b n kk vv)
    (hE : ln_E a10 a14 a16) (H0 : n = 0 → ∀ u, post (-1) u) (H1 : ¬ n = 0 → ∀ u, post (nI kk) u) :
    wpX_keyOf post (hc, sc, lv, cl, kn, vn, oc, a1, a2, a3, a4, a5, a6, a7, a8, a9, a10, a11, a12, a13, a14, a15, a16, a17, a18, a19, a20, a21, a22, a23, a24, a25) 1 0 := by
  have hP0 := hP
  obtain ⟨rfl, p2, p3, p3', p4, p5, p6, p7, p7', p8, p15, p15'⟩ := hP0
  unfold wpX_keyOf
  refine ln_set1 (br_f (by decide) ?_)
  refine ln_work hg hk hP h5 hM hE ?_
  intro c x y b10 b11 b12 b13 b14 b16 b17 b18 b19 b20 b21 b22 b23 hR h16
  refine br_f (by decide) ?_
  refine ln_sort hn hkk hR (fun b24 b25 hb => ?_)
  refine ln_tidy p15 p15' ?_
  refine br_f (by decide) (pk_lt 0 n (fun z => ⟨pk_in 0 48 (by omega), ?_⟩) (fun z => H0 (by omega) _))
  have e : b24 (0 : Int32).toNatClampNeg = nI kk := by
    rw [ln_c0]
    exact hb 0 z
  rw [e]
  exact H1 (by omega) _
end
section
/-! the makers of data set 1 -/
theorem ln_steps {post : Int32 → St2 → Prop} {hc sc lv cl kn vn oc : Int32} {a1 a2 a3 a4 a5 a6 a7 a8 a9 a10 a11 a12 a13 a14 a15 a16 a17 a18 a19 a20 a21 a22 a23 a24 a25 : Nat → Int32} {g k n kk : Nat} {value r x y vv : Int32} (h3 : a3 0 = 0) (h4 : a4 1 = 0) (hZ : ln_Z g k value a10 a11 a12 a13) (h10 : a10 1 = 0)
    (hp : ∀ (φ : Int32 → St2 → Prop) (b19 : Nat → Int32), φ r (hc, sc, lv, 1, x, y, oc, a1, a2, a3, a4, a5, a6, a7, a8, a9, a10, a11, a12, a13, a14, a15, a16, a17, a18, b19, a20, a21, a22, a23, a24, a25) → wpX_passStep φ (hc, sc, lv, 1, nI k, value, oc, a1, a2, a3, a4, a5, a6, a7, a8, a9, a10, a11, a12, a13, a14, a15, a16, a17, a18, b19, a20, a21, a22, a23, a24, a25) 1)
    (hr : (g = 0 ∧ n = 0) ∨ (g = 1 ∧ r = 0 ∧ n = 0) ∨ (g = 1 ∧ r = 1 ∧ n = 1 ∧ x = nI kk ∧ kk < 16 ∧ y = vv))
    (H : ∀ (c x y : Int32) (b10 b11 b12 b13 b19 : Nat → Int32), ln_R n kk vv b10 b12 b13 → post 1 (hc, sc, lv, c, x, y, oc, a1, a2, a3, a4, a5, a6, a7, a8, a9, b10, b11, b12, b13, a14, a15, a16, a17, a18, b19, a20, a21, a22, a23, a24, a25)) : wpX_makeSteps post (hc, sc, lv, cl, kn, vn, oc, a1, a2, a3, a4, a5, a6, a7, a8, a9, a10, a11, a12, a13, a14, a15, a16, a17, a18, a19, a20, a21, a22, a23, a24, a25) 1 15 := by
  refine ⟨2, br_f (by decide) ⟨ln_i0, ?_⟩⟩
  intro b19 e19
  have h19 : b19 (0 : Int32).toNatClampNeg = 1 := by
    rw [e19, ln_c0]
    exact pk_us.trans (by decide)
  refine nm_r (e' := 1) (by decide) ⟨ln_i1, nm_r (e' := 0) (by rw [ln_c1]; exact h4) ⟨ln_i0, ?_⟩⟩
  refine ln_step0 (by rw [ln_c0]; exact h3) (br_t rfl ?_)
  refine br_t rfl ?_
  refine nm_r (e' := 0) (by decide) ?_
  rcases hr with ⟨rfl, rfl⟩ | ⟨rfl, hr, rfl⟩ | ⟨rfl, rfl, rfl, rfl, hk, rfl⟩
  · exact ⟨1, ln_i0, br_t (by rw [ln_c0, hZ.1]; decide) (H 1 kn vn a10 a11 a12 a13 b19 (ln_R0 h10))⟩
  · obtain ⟨z10, zz⟩ := hZ
    obtain ⟨z11, z12, z13⟩ := zz rfl
    refine ⟨2, ln_i0, br_f (by rw [ln_c0, z10]; decide) ⟨ln_j0, ?_⟩⟩
    refine ln_part (by rw [ln_c0, z11]; decide) (br_f (by decide) ⟨ln_j0, nm_r (e' := nI k) (by rw [ln_c0]; exact z12) ⟨ln_j0, nm_r (e' := value) (by rw [ln_c0]; exact z13) (nm_r (e' := 0) (by decide) ⟨2, ?_⟩)⟩⟩)
    refine br_f (by decide) (br_f (by decide) ⟨ln_i0, ?_⟩)
    rw [h19]
    refine hp _ _ ?_
    refine nm_r (e' := -1) (by decide) ?_
    refine br_t (by decide) (br_t hr (nm_r (e' := 1) (by decide) ?_))
    exact ⟨ln_i0, br_t (by rw [ln_c0, z10]; decide) (H 1 x y a10 a11 a12 a13 b19 (ln_R0 h10))⟩
  · obtain ⟨z10, zz⟩ := hZ
    obtain ⟨z11, z12, z13⟩ := zz rfl
    refine ⟨2, ln_i0, br_f (by rw [ln_c0, z10]; decide) ⟨ln_j0, ?_⟩⟩
    refine ln_part (by rw [ln_c0, z11]; decide) (br_f (by decide) ⟨ln_j0, nm_r (e' := nI k) (by rw [ln_c0]; exact z12) ⟨ln_j0, nm_r (e' := value) (by rw [ln_c0]; exact z13) (nm_r (e' := 0) (by decide) ⟨2, ?_⟩)⟩⟩)
    refine br_f (by decide) (br_f (by decide) ⟨ln_i0, ?_⟩)
    rw [h19]
    refine hp _ _ ?_
    refine nm_r (e' := -1) (by decide) ?_
    refine br_t (by decide) (br_f (by decide) ⟨ln_j0, ?_⟩)
    refine ln_add (d := 1) (c := 0) (e := 48 + 0) (by omega) h10 (by omega) (by omega) ?_
    refine br_f (by decide) (nm_r (e' := 1) (by decide) ?_)
    rw [ln_b64 kk (by omega)]
    exact ⟨ln_i0, br_t (by rw [ln_c0, pk_un (by omega), z10]; decide) (H 1 _ _ _ _ _ _ b19 (ln_Rs (ln_R0 h10)))⟩
/-- t copies of the pair of data set 0, if it is there -/
theorem ln_copy {post : Int32 → St2 → Prop} {hc sc lv cl kn vn oc : Int32} {a1 a2 a3 a4 a5 a6 a7 a8 a9 a10 a11 a12 a13 a14 a15 a16 a17 a18 a19 a20 a21 a22 a23 a24 a25 : Nat → Int32} {g k t c : Nat} {value : Int32} (hg : g = 0 ∨ g = 1) (hk : k < 16) (hct : c + t < 48) (hZ : ln_Z g k value a10 a11 a12 a13) (hR : ln_R c k value a10 a12 a13)
    (H : ∀ b10 b11 b12 b13 : Nat → Int32, ln_Z g k value b10 b11 b12 b13 → ln_R (c + g * t) k value b10 b12 b13 → post 1 (hc, sc, lv, cl, kn, vn, oc, a1, a2, a3, a4, a5, a6, a7, a8, a9, b10, b11, b12, b13, a14, a15, a16, a17, a18, a19, a20, a21, a22, a23, a24, a25)) : wpX_copyPairs post (hc, sc, lv, cl, kn, vn, oc, a1, a2, a3, a4, a5, a6, a7, a8, a9, a10, a11, a12, a13, a14, a15, a16, a17, a18, a19, a20, a21, a22, a23, a24, a25) 1 0 15 (nI t) := by
  refine nm_r (e' := 0) (by decide) ?_
  rcases hg with rfl | rfl
  · refine ⟨1, ln_i0, br_t (by rw [ln_c0, hZ.1]; decide) (H a10 a11 a12 a13 hZ ?_)⟩
    rw [Nat.zero_mul]
    exact hR
  · have z10 := hZ.1
    obtain ⟨z11, z12, z13⟩ := hZ.2 rfl
    refine ⟨2, ln_i0, br_f (by rw [ln_c0, z10]; decide) ⟨ln_j0, ?_⟩⟩
    refine ln_part (by rw [ln_c0, z11]; decide) (br_f (by decide) ?_)
    refine pk_loop (σ := (Nat → Int32) × (Nat → Int32) × (Nat → Int32) × (Nat → Int32)) (fun m i s => wX_copyPairs_43 post (wX_copyPairs_6 post 1 0 15 (nI t) 1) 1 0 15 (nI t) 0 m (nI i) hc sc lv cl kn vn oc a1 a2 a3 a4 a5 a6 a7 a8 a9 s.1 s.2.1 s.2.2.1 s.2.2.2 a14 a15 a16 a17 a18 a19 a20 a21 a22 a23 a24 a25)
      (fun i s => ln_Z 1 k value s.1 s.2.1 s.2.2.1 s.2.2.2 ∧ ln_R (c + i) k value s.1 s.2.2.1 s.2.2.2) t 0 (a10, a11, a12, a13) (by omega) ⟨hZ, hR⟩ ?_ ?_
    · intro m s h
      refine pk_le t t (fun _ => nm_r (e' := 1) (by decide) ?_) (fun z => absurd z (by omega))
      refine ⟨ln_i0, br_t (by rw [ln_c0, h.1.1]; decide) (H _ _ _ _ h.1 ?_)⟩
      rw [Nat.one_mul]
      exact h.2
    · intro m i s hi h hw
      refine pk_le t i (fun z => absurd z (by omega)) (fun _ => ⟨ln_j0, ln_j0, ln_j0, ?_⟩)
      obtain ⟨y11, y12, y13⟩ := h.1.2 rfl
      rw [ln_c0, y12, y13]
      refine ln_add (d := 1) (c := c + i) (e := 48 + (c + i)) (by omega) h.2.1 (by omega) (by omega) ?_
      refine br_f (by decide) (nm_r (nI_1 i) ?_)
      rw [ln_b64 k (by omega)]
      exact hw (_, _, _, _) ⟨ln_Zs h.1, ln_Rs h.2⟩
theorem ln_join {post : Int32 → St2 → Prop} {hc sc lv cl kn vn oc : Int32} {a1 a2 a3 a4 a5 a6 a7 a8 a9 a10 a11 a12 a13 a14 a15 a16 a17 a18 a19 a20 a21 a22 a23 a24 a25 : Nat → Int32} {g k : Nat} {value : Int32} (hg : g = 0 ∨ g = 1) (hk : k < 16) (h4 : a4 1 = 0) (h5 : a5 1 = 0) (hZ : ln_Z g k value a10 a11 a12 a13) (h10 : a10 1 = 0)
    (H : ∀ b10 b11 b12 b13 : Nat → Int32, ln_R g k (value + value) b10 b12 b13 → post 1 (hc, sc, lv, cl, kn, vn, oc, a1, a2, a3, a4, a5, a6, a7, a8, a9, b10, b11, b12, b13, a14, a15, a16, a17, a18, a19, a20, a21, a22, a23, a24, a25)) : wpX_makeJoin post (hc, sc, lv, cl, kn, vn, oc, a1, a2, a3, a4, a5, a6, a7, a8, a9, a10, a11, a12, a13, a14, a15, a16, a17, a18, a19, a20, a21, a22, a23, a24, a25) 1 15 := by
  refine ⟨ln_i1, nm_r (e' := 0) (by rw [ln_c1]; exact h4) ⟨ln_i1, nm_r (e' := 0) (by rw [ln_c1]; exact h5) (nm_r (e' := 0) (by decide) ?_)⟩⟩
  rcases hg with rfl | rfl
  · exact ⟨1, ln_i0, br_t (by rw [ln_c0, hZ.1]; decide) (H a10 a11 a12 a13 (ln_R0 h10))⟩
  · have z10 := hZ.1
    obtain ⟨z11, z12, z13⟩ := hZ.2 rfl
    refine ⟨2, ln_i0, br_f (by rw [ln_c0, z10]; decide) ⟨ln_j0, nm_r (e' := nI k &&& 3) (by rw [ln_c0, z12]) ?_⟩⟩
    refine ln_part (ln_p16 k hk) (br_f (by decide) (nm_r (e' := 0) (by decide) ⟨2, ?_⟩))
    refine ⟨ln_i0, br_f (by rw [ln_c0, z10]; decide) ⟨ln_j0, ln_j0, br_t rfl ⟨ln_j0, ln_j0, ln_j0, ?_⟩⟩⟩
    rw [ln_c0, z12, z13]
    refine ln_add (d := 1) (c := 0) (e := 48 + 0) (by omega) h10 (by omega) (by omega) ?_
    refine br_f (by decide) (nm_r (e' := 1) (by decide) ?_)
    rw [ln_b64 k (by omega)]
    have w10 : upd a10 1 (nI (0 + 1)) 0 = nI 1 := (pk_un (by omega)).trans z10
    refine ⟨ln_i0, br_t (by rw [ln_c0, w10]; decide) (nm_r (e' := 1) (by decide) ?_)⟩
    exact ⟨ln_i0, br_t (by rw [ln_c0, w10]; decide) (H _ _ _ _ (ln_Rs (ln_R0 h10)))⟩
theorem ln_dist {post : Int32 → St2 → Prop} {hc sc lv cl kn vn oc : Int32} {a1 a2 a3 a4 a5 a6 a7 a8 a9 a10 a11 a12 a13 a14 a15 a16 a17 a18 a19 a20 a21 a22 a23 a24 a25 : Nat → Int32} {g k : Nat} {value : Int32} (hg : g = 0 ∨ g = 1) (hk : k < 16) (h4 : a4 1 = 0) (hZ : ln_Z g k value a10 a11 a12 a13) (h10 : a10 1 = 0)
    (H : ∀ b10 b11 b12 b13 : Nat → Int32, ln_R g k value b10 b12 b13 → post 1 (hc, sc, lv, cl, kn, vn, oc, a1, a2, a3, a4, a5, a6, a7, a8, a9, b10, b11, b12, b13, a14, a15, a16, a17, a18, a19, a20, a21, a22, a23, a24, a25)) : wpX_makeFiltered post (hc, sc, lv, cl, kn, vn, oc, a1, a2, a3, a4, a5, a6, a7, a8, a9, a10, a11, a12, a13, a14, a15, a16, a17, a18, a19, a20, a21, a22, a23, a24, a25) 1 8 15 := by
  refine ⟨ln_i1, nm_r (e' := 0) (by rw [ln_c1]; exact h4) (br_t rfl (nm_r (e' := 0) (by decide) ?_))⟩
  rcases hg with rfl | rfl
  · exact ⟨1, ln_i0, br_t (by rw [ln_c0, hZ.1]; decide) (H a10 a11 a12 a13 (ln_R0 h10))⟩
  · have z10 := hZ.1
    obtain ⟨z11, z12, z13⟩ := hZ.2 rfl
    refine ⟨2, ln_i0, br_f (by rw [ln_c0, z10]; decide) ⟨ln_j0, nm_r (e' := nI k &&& 3) (by rw [ln_c0, z12]) ?_⟩⟩
    refine ln_part (ln_p16 k hk) (br_f (by decide) (nm_r (e' := 48) (by decide) ⟨1, ?_⟩))
    refine ⟨ln_i1, br_t (by rw [ln_c1, h10]; decide) ?_⟩
    refine br_t rfl ⟨ln_j0, ln_j0, ?_⟩
    rw [ln_c0, z12, z13]
    refine ln_add (d := 1) (c := 0) (e := 48 + 0) (by omega) h10 (by omega) (by omega) ?_
    refine br_f (by decide) (nm_r (e' := 1) (by decide) ?_)
    rw [ln_b64 k (by omega)]
    have w10 : upd a10 1 (nI (0 + 1)) 0 = nI 1 := (pk_un (by omega)).trans z10
    exact ⟨ln_i0, br_t (by rw [ln_c0, w10]; decide) (H _ _ _ _ (ln_Rs (ln_R0 h10)))⟩
theorem ln_wout {post : Int32 → St2 → Prop} {hc sc lv cl kn vn oc : Int32} {a1 a2 a3 a4 a5 a6 a7 a8 a9 a10 a11 a12 a13 a14 a15 a16 a17 a18 a19 a20 a21 a22 a23 a24 a25 : Nat → Int32} {g k kk : Nat} {value vv : Int32} (hg : g = 0 ∨ g = 1) (hk : k < 16) (h4 : a4 1 = 0) (h5 : a5 1 = 0) (hZ : ln_Z g k value a10 a11 a12 a13) (h10 : a10 1 = 0)
    (H : ln_R 0 kk vv a10 a12 a13 → post 1 (hc, sc, lv, cl, kn, vn, oc, a1, a2, a3, a4, a5, a6, a7, a8, a9, a10, a11, a12, a13, a14, a15, a16, a17, a18, a19, a20, a21, a22, a23, a24, a25)) : wpX_makeFiltered post (hc, sc, lv, cl, kn, vn, oc, a1, a2, a3, a4, a5, a6, a7, a8, a9, a10, a11, a12, a13, a14, a15, a16, a17, a18, a19, a20, a21, a22, a23, a24, a25) 1 9 15 := by
  refine ⟨ln_i1, nm_r (e' := 0) (by rw [ln_c1]; exact h4) (br_f (by decide) ⟨ln_i1, nm_r (e' := 0) (by rw [ln_c1]; exact h5) (nm_r (e' := 0) (by decide) ?_)⟩)⟩
  rcases hg with rfl | rfl
  · exact ⟨1, ln_i0, br_t (by rw [ln_c0, hZ.1]; decide) (H (ln_R0 h10))⟩
  · have z10 := hZ.1
    obtain ⟨z11, z12, z13⟩ := hZ.2 rfl
    refine ⟨2, ln_i0, br_f (by rw [ln_c0, z10]; decide) ⟨ln_j0, nm_r (e' := nI k &&& 3) (by rw [ln_c0, z12]) ?_⟩⟩
    refine ln_part (ln_p16 k hk) (br_f (by decide) (nm_r (e' := 0) (by decide) ⟨2, ?_⟩))
    refine ⟨ln_i0, br_f (by rw [ln_c0, z10]; decide) (br_t rfl ⟨ln_j0, ln_j0, br_t rfl (br_t rfl (nm_r (e' := 1) (by decide) ?_))⟩)⟩
    refine ⟨ln_i0, br_t (by rw [ln_c0, z10]; decide) (br_f (by decide) (nm_r (e' := 1) (by decide) ?_))⟩
    exact ⟨ln_i0, br_t (by rw [ln_c0, z10]; decide) (H (ln_R0 h10))⟩
theorem ln_last {post : St2 → Prop} {hc sc lv cl kn vn oc : Int32} {a1 a2 a3 a4 a5 a6 a7 a8 a9 a10 a11 a12 a13 a14 a15 a16 a17 a18 a19 a20 a21 a22 a23 a24 a25 : Nat → Int32} {g k : Nat} {value a : Int32} (hg : g = 0 ∨ g = 1) (hk : k < 16) (h4 : a4 1 = 0) (h5 : a5 1 = a) (ha : ¬ a ≤ 0) (hZ : ln_Z g k value a10 a11 a12 a13) (h10 : a10 1 = 0)
    (H : ∀ b10 b11 b12 b13 : Nat → Int32, ln_R g k value b10 b12 b13 → post (hc, sc, lv, cl, kn, vn, oc, a1, a2, a3, a4, a5, a6, a7, a8, a9, b10, b11, b12, b13, a14, a15, a16, a17, a18, a19, a20, a21, a22, a23, a24, a25)) : wpX_makeLast post (hc, sc, lv, cl, kn, vn, oc, a1, a2, a3, a4, a5, a6, a7, a8, a9, a10, a11, a12, a13, a14, a15, a16, a17, a18, a19, a20, a21, a22, a23, a24, a25) 1 15 := by
  unfold wpX_makeLast
  refine ln_part (by decide) (br_f (by decide) ⟨ln_i1, nm_r (e' := 0) (by rw [ln_c1]; exact h4) (nm_r (e' := 0) (by decide) ?_)⟩)
  rcases hg with rfl | rfl
  · exact ⟨1, ln_i0, br_t (by rw [ln_c0, hZ.1]; decide) (H a10 a11 a12 a13 (ln_R0 h10))⟩
  · have z10 := hZ.1
    obtain ⟨z11, z12, z13⟩ := hZ.2 rfl
    refine ⟨2, ln_i0, br_f (by rw [ln_c0, z10]; decide) (nm_r (e' := 0) (by decide) ⟨2, ?_⟩)⟩
    refine ⟨ln_i0, br_f (by rw [ln_c0, z10]; decide) ?_⟩
    refine ⟨ln_j0, ln_j0, br_t rfl ⟨ln_j0, ln_j0, br_t rfl (br_t (by decide) (br_t rfl (nm_r (e' := 1) (by decide) ?_)))⟩⟩
    refine ⟨ln_i0, br_t (by rw [ln_c0, z10]; decide) ⟨ln_i1, br_f (by rw [ln_c1, h5]; exact ha) ⟨ln_j0, ln_j0, ?_⟩⟩⟩
    rw [ln_c0, z12, z13]
    refine ln_add (d := 1) (c := 0) (e := 48 + 0) (by omega) h10 (by omega) (by omega) ?_
    refine nm_r (e' := 1) (by decide) ?_
    rw [ln_b64 k (by omega)]
    have w10 : upd a10 1 (nI (0 + 1)) 0 = nI 1 := (pk_un (by omega)).trans z10
    exact ⟨ln_i0, br_t (by rw [ln_c0, w10]; decide) (H _ _ _ _ (ln_Rs (ln_R0 h10)))⟩
end
section
/-! REDUCE -/
theorem ln_s207 {post : St2 → Prop} {hc sc lv cl kn vn oc : Int32} {a1 a2 a3 a4 a5 a6 a7 a8 a9 a10 a11 a12 a13 a14 a15 a16 a17 a18 a19 a20 a21 a22 a23 a24 a25 : Nat → Int32} {g k : Nat} {w : Int32} (hg : g = 0 ∨ g = 1) (hk : k < 16) (h22 : ∀ j, j < 16 → a22 j = if g = 1 ∧ j = k then 1 else 0) (h23 : g = 1 → a23 k = w) (h10 : a10 1 = 0)
    (H : ∀ b10 b11 b12 b13 : Nat → Int32, ln_R g k w b10 b12 b13 → post (hc, sc, lv, cl, kn, vn, oc, a1, a2, a3, a4, a5, a6, a7, a8, a9, b10, b11, b12, b13, a14, a15, a16, a17, a18, a19, a20, a21, a22, a23, a24, a25)) : ∃ fu, wX_makeSums_207 post 1 15 fu 0 hc sc lv cl kn vn oc a1 a2 a3 a4 a5 a6 a7 a8 a9 a10 a11 a12 a13 a14 a15 a16 a17 a18 a19 a20 a21 a22 a23 a24 a25 := by
  refine pk_loop (σ := (Nat → Int32) × (Nat → Int32) × (Nat → Int32) × (Nat → Int32)) (fun m i s => wX_makeSums_207 post 1 15 m (nI i) hc sc lv cl kn vn oc a1 a2 a3 a4 a5 a6 a7 a8 a9 s.1 s.2.1 s.2.2.1 s.2.2.2 a14 a15 a16 a17 a18 a19 a20 a21 a22 a23 a24 a25)
    (fun i s => ln_R (if g = 1 ∧ k < i then 1 else 0) k w s.1 s.2.2.1 s.2.2.2) 16 0 (a10, a11, a12, a13) (by omega) ?_ ?_ ?_
  · show ln_R (if g = 1 ∧ k < 0 then 1 else 0) k w a10 a12 a13
    rw [if_neg (by omega)]
    exact ln_R0 h10
  · intro m s h
    refine pk_le 16 16 (fun _ => H _ _ _ _ ?_) (fun z => absurd z (by omega))
    have e : (if g = 1 ∧ k < 16 then 1 else 0) = g := by
      split <;> omega
    rw [e] at h
    exact h
  · intro m i s hi h hw
    have c2 : (nI i).toNatClampNeg = i := nI_clamp (by omega)
    refine pk_le 16 i (fun z => absurd z (by omega)) (fun _ => ⟨pk_in i 16 hi, ?_⟩)
    by_cases e : g = 1 ∧ i = k
    · obtain ⟨e1, e2⟩ := e
      rw [if_neg (by omega)] at h
      refine br_f (by rw [c2, h22 i hi, if_pos ⟨e1, e2⟩]; decide) ?_
      refine ln_part (ln_p16 i hi) (br_f (by decide) ⟨pk_in i 16 hi, ?_⟩)
      have w23 : a23 (nI i).toNatClampNeg = w := by
        rw [c2, e2]
        exact h23 e1
      rw [w23]
      refine ln_add (d := 1) (c := 0) (e := 48 + 0) (by omega) h.1 (by omega) (by omega) ?_
      refine nm_r (nI_1 i) ?_
      refine hw (_, _, _, _) ?_
      show ln_R (if g = 1 ∧ k < i + 1 then 1 else 0) k w _ (upd s.2.2.1 (48 + 0) (nI i).toInt8.toInt32) _
      rw [if_pos (by omega), ln_b64 i (by omega), e2]
      exact ln_Rs h
    · refine br_t (by rw [c2, h22 i hi, if_neg e]) (nm_r (nI_1 i) (hw s ?_))
      show ln_R (if g = 1 ∧ k < i + 1 then 1 else 0) k w _ _ _
      have q : (if g = 1 ∧ k < i + 1 then 1 else 0) = (if g = 1 ∧ k < i then 1 else 0) := by
        split <;> split <;> omega
      rw [q]
      exact h
theorem ln_s167 {post : St2 → Prop} {J : Int32 → Int32 → Int32 → Int32 → Int32 → Int32 → Int32 → Int32 → (Nat → Int32) → (Nat → Int32) → (Nat → Int32) → (Nat → Int32) → (Nat → Int32) → (Nat → Int32) → (Nat → Int32) → (Nat → Int32) → (Nat → Int32) → (Nat → Int32) → (Nat → Int32) → (Nat → Int32) → (Nat → Int32) → (Nat → Int32) → (Nat → Int32) → (Nat → Int32) → (Nat → Int32) → (Nat → Int32) → (Nat → Int32) → (Nat → Int32) → (Nat → Int32) → (Nat → Int32) → (Nat → Int32) → (Nat → Int32) → (Nat → Int32) → Prop} {hc sc lv cl kn vn oc : Int32} {a1 a2 a3 a4 a5 a6 a7 a8 a9 a10 a11 a12 a13 a14 a15 a16 a17 a18 a19 a20 a21 a22 a23 a24 a25 : Nat → Int32} {how x6 : Int32} (hs : ∀ j, j < 16 → ¬ a20 j = 0 → a22 j = 0)
    (H : ∀ b22 b23 : Nat → Int32, (∀ j, j < 16 → b22 j = if a20 j = 0 then a22 j else 1) → (∀ j, j < 16 → b23 j = if a20 j = 0 then a23 j else a21 j) → J (x6 + 1) hc sc lv cl kn vn oc a1 a2 a3 a4 a5 a6 a7 a8 a9 a10 a11 a12 a13 a14 a15 a16 a17 a18 a19 a20 a21 b22 b23 a24 a25) :
    ∃ fu, wX_makeSums_167 post J 1 15 0 how 4 x6 fu 0 hc sc lv cl kn vn oc a1 a2 a3 a4 a5 a6 a7 a8 a9 a10 a11 a12 a13 a14 a15 a16 a17 a18 a19 a20 a21 a22 a23 a24 a25 := by
  refine pk_loop (σ := (Nat → Int32) × (Nat → Int32)) (fun m i s => wX_makeSums_167 post J 1 15 0 how 4 x6 m (nI i) hc sc lv cl kn vn oc a1 a2 a3 a4 a5 a6 a7 a8 a9 a10 a11 a12 a13 a14 a15 a16 a17 a18 a19 a20 a21 s.1 s.2 a24 a25)
    (fun i s => (∀ j, j < 16 → s.1 j = if j < i ∧ ¬ a20 j = 0 then 1 else a22 j) ∧ (∀ j, j < 16 → s.2 j = if j < i ∧ ¬ a20 j = 0 then a21 j else a23 j)) 16 0 (a22, a23) (by omega) ?_ ?_ ?_
  · exact ⟨fun j hj => (if_neg (fun q => absurd q.1 (by omega))).symm, fun j hj => (if_neg (fun q => absurd q.1 (by omega))).symm⟩
  · intro m s h
    refine pk_le 16 16 (fun _ => nm_e (H s.1 s.2 (fun j hj => ?_) (fun j hj => ?_))) (fun z => absurd z (by omega))
    · rw [h.1 j hj]
      by_cases z : a20 j = 0
      · rw [if_neg (fun q => q.2 z), if_pos z]
      · rw [if_pos ⟨hj, z⟩, if_neg z]
    · rw [h.2 j hj]
      by_cases z : a20 j = 0
      · rw [if_neg (fun q => q.2 z), if_pos z]
      · rw [if_pos ⟨hj, z⟩, if_neg z]
  · intro m i s hi h hw
    have c2 : (nI i).toNatClampNeg = i := nI_clamp (by omega)
    have i1 : vp_in (nI i) 16 := pk_in i 16 hi
    refine pk_le 16 i (fun z => absurd z (by omega)) (fun _ => ⟨i1, br_c (fun z => ?_) (fun z => ?_)⟩)
    · rw [c2] at z
      refine nm_r (nI_1 i) (hw s ⟨fun j hj => ?_, fun j hj => ?_⟩)
      · rw [h.1 j hj]
        by_cases e : j = i
        · subst e
          rw [if_neg (fun q => q.2 z), if_neg (fun q => q.2 z)]
        · by_cases y : j < i ∧ ¬ a20 j = 0
          · rw [if_pos y, if_pos ⟨by omega, y.2⟩]
          · rw [if_neg y, if_neg (fun q => y ⟨by omega, q.2⟩)]
      · rw [h.2 j hj]
        by_cases e : j = i
        · subst e
          rw [if_neg (fun q => q.2 z), if_neg (fun q => q.2 z)]
        · by_cases y : j < i ∧ ¬ a20 j = 0
          · rw [if_pos y, if_pos ⟨by omega, y.2⟩]
          · rw [if_neg y, if_neg (fun q => y ⟨by omega, q.2⟩)]
    · rw [c2] at z
      have s0 : s.1 i = 0 := by
        rw [h.1 i hi, if_neg (fun q => absurd q.1 (by omega))]
        exact hs i hi z
      refine ⟨i1, br_t (by rw [c2]; exact s0) ⟨i1, i1, nm_r (e' := upd s.2 i (a21 i)) (by rw [c2]) ⟨i1, nm_r (e' := upd s.1 i 1) (by rw [c2]) ?_⟩⟩⟩
      refine nm_r (nI_1 i) (hw (upd s.1 i 1, upd s.2 i (a21 i)) ⟨fun j hj => ?_, fun j hj => ?_⟩)
      · show upd s.1 i 1 j = _
        by_cases e : j = i
        · subst e
          rw [pk_us, if_pos ⟨by omega, z⟩]
        · rw [pk_un e, h.1 j hj]
          by_cases y : j < i ∧ ¬ a20 j = 0
          · rw [if_pos y, if_pos ⟨by omega, y.2⟩]
          · rw [if_neg y, if_neg (fun q => y ⟨by omega, q.2⟩)]
      · show upd s.2 i (a21 i) j = _
        by_cases e : j = i
        · subst e
          rw [pk_us, if_pos ⟨by omega, z⟩]
        · rw [pk_un e, h.2 j hj]
          by_cases y : j < i ∧ ¬ a20 j = 0
          · rw [if_pos y, if_pos ⟨by omega, y.2⟩]
          · rw [if_neg y, if_neg (fun q => y ⟨by omega, q.2⟩)]
theorem ln_addL {post : St2 → Prop} {hc sc lv cl kn vn oc : Int32} {a1 a2 a3 a4 a5 a6 a7 a8 a9 a10 a11 a12 a13 a14 a15 a16 a17 a18 a19 a20 a21 a22 a23 a24 a25 : Nat → Int32} {k : Nat} {v how : Int32} (hk : k < 16) (h20 : a20 k = 0) (H : post (hc, sc, lv, cl, kn, vn, oc, a1, a2, a3, a4, a5, a6, a7, a8, a9, a10, a11, a12, a13, a14, a15, a16, a17, a18, a19, upd a20 k 1, upd a21 k v, a22, a23, a24, a25)) : wpX_addLocal post (hc, sc, lv, cl, kn, vn, oc, a1, a2, a3, a4, a5, a6, a7, a8, a9, a10, a11, a12, a13, a14, a15, a16, a17, a18, a19, a20, a21, a22, a23, a24, a25) (nI k) v how := by
  have ck : (nI k).toNatClampNeg = k := nI_clamp (by omega)
  have i1 : vp_in (nI k) 16 := pk_in k 16 hk
  exact ⟨i1, br_t (by rw [ck]; exact h20) ⟨i1, nm_r (e' := upd a21 k v) (by rw [ck]) ⟨i1, nm_r (e' := upd a20 k 1) (by rw [ck]) H⟩⟩⟩
theorem ln_s94 {post : St2 → Prop} {J : Int32 → Int32 → Int32 → Int32 → Int32 → Int32 → Int32 → Int32 → (Nat → Int32) → (Nat → Int32) → (Nat → Int32) → (Nat → Int32) → (Nat → Int32) → (Nat → Int32) → (Nat → Int32) → (Nat → Int32) → (Nat → Int32) → (Nat → Int32) → (Nat → Int32) → (Nat → Int32) → (Nat → Int32) → (Nat → Int32) → (Nat → Int32) → (Nat → Int32) → (Nat → Int32) → (Nat → Int32) → (Nat → Int32) → (Nat → Int32) → (Nat → Int32) → (Nat → Int32) → (Nat → Int32) → (Nat → Int32) → (Nat → Int32) → Prop} {hc sc lv cl kn vn oc : Int32} {a1 a2 a3 a4 a5 a6 a7 a8 a9 a10 a11 a12 a13 a14 a15 a16 a17 a18 a19 a20 a21 a22 a23 a24 a25 : Nat → Int32} {g k p : Nat} {value how : Int32} (hg : g = 0 ∨ g = 1) (hk : k < 16) (hp : p < 4) (hZ : ln_Z g k value a10 a11 a12 a13) (h20 : ∀ j, j < 16 → a20 j = 0)
    (H : ∀ b20 b21 : Nat → Int32, (∀ j, j < 16 → b20 j = if g = 1 ∧ p = 0 ∧ j = k then 1 else 0) → (g = 1 → p = 0 → b21 k = if how = 3 then 1 else value) → ∃ fu, wX_makeSums_167 post J 1 15 0 how 4 (nI p) fu 0 hc sc lv cl kn vn oc a1 a2 a3 a4 a5 a6 a7 a8 a9 a10 a11 a12 a13 a14 a15 a16 a17 a18 a19 b20 b21 a22 a23 a24 a25) :
    ∃ fu, wX_makeSums_94 post J 1 15 0 how 4 (nI p) fu 0 hc sc lv cl kn vn oc a1 a2 a3 a4 a5 a6 a7 a8 a9 a10 a11 a12 a13 a14 a15 a16 a17 a18 a19 a20 a21 a22 a23 a24 a25 := by
  rcases hg with rfl | rfl
  · exact ⟨1, ln_i0, br_t (by rw [ln_c0, hZ.1]; decide) (H a20 a21 (fun j hj => by rw [h20 j hj, if_neg (by omega)]) (fun z => absurd z (by omega)))⟩
  · have z10 := hZ.1
    obtain ⟨z11, z12, z13⟩ := hZ.2 rfl
    have e12 : a12 (0 : Int32).toNatClampNeg = nI k := by
      rw [ln_c0]
      exact z12
    have e13 : a13 (0 : Int32).toNatClampNeg = value := by
      rw [ln_c0]
      exact z13
    have fin : ∀ v : Int32, v = (if how = 3 then 1 else value) → p = 0 → wX_makeSums_94 post J 1 15 0 how 4 (nI p) 1 1 hc sc lv cl kn vn oc a1 a2 a3 a4 a5 a6 a7 a8 a9 a10 a11 a12 a13 a14 a15 a16 a17 a18 a19 (upd a20 k 1) (upd a21 k v) a22 a23 a24 a25 := by
      intro v hv p0
      refine ⟨ln_i0, br_t (by rw [ln_c0, z10]; decide) (H _ _ (fun j hj => ?_) (fun _ _ => pk_us.trans hv))⟩
      by_cases e : j = k
      · subst e
        rw [pk_us, if_pos ⟨rfl, p0, rfl⟩]
      · rw [pk_un e, h20 j hj, if_neg (fun q => e q.2.2)]
    refine ⟨2, ln_i0, br_f (by rw [ln_c0, z10]; decide) (br_f (by decide) ⟨ln_j0, ?_⟩)⟩
    refine pk_eq 0 p (fun z => ⟨ln_j0, br_c (fun y => ?_) (fun y => ⟨ln_j0, ?_⟩)⟩) (fun z => nm_r (e' := 1) (by decide) ?_) (by rw [ln_c0]; exact z11)
    · rw [e12]
      exact ln_addL hk (h20 k hk) (nm_r (e' := 1) (by decide) (fin 1 (if_pos y).symm z.symm))
    · rw [e12, e13]
      exact ln_addL hk (h20 k hk) (nm_r (e' := 1) (by decide) (fin value (if_neg y).symm z.symm))
    · exact ⟨ln_i0, br_t (by rw [ln_c0, z10]; decide) (H a20 a21 (fun j hj => by rw [h20 j hj, if_neg (fun q => z q.2.1.symm)]) (fun _ q => absurd q.symm z))⟩
theorem ln_s67 {post : St2 → Prop} {J : Int32 → Int32 → Int32 → Int32 → Int32 → Int32 → Int32 → Int32 → (Nat → Int32) → (Nat → Int32) → (Nat → Int32) → (Nat → Int32) → (Nat → Int32) → (Nat → Int32) → (Nat → Int32) → (Nat → Int32) → (Nat → Int32) → (Nat → Int32) → (Nat → Int32) → (Nat → Int32) → (Nat → Int32) → (Nat → Int32) → (Nat → Int32) → (Nat → Int32) → (Nat → Int32) → (Nat → Int32) → (Nat → Int32) → (Nat → Int32) → (Nat → Int32) → (Nat → Int32) → (Nat → Int32) → (Nat → Int32) → (Nat → Int32) → Prop} {hc sc lv cl kn vn oc : Int32} {a1 a2 a3 a4 a5 a6 a7 a8 a9 a10 a11 a12 a13 a14 a15 a16 a17 a18 a19 a20 a21 a22 a23 a24 a25 : Nat → Int32} {how x6 : Int32}
    (H : ∀ b20 : Nat → Int32, (∀ j, j < 16 → b20 j = 0) → ∃ fu, wX_makeSums_94 post J 1 15 0 how 4 x6 fu 0 hc sc lv cl kn vn oc a1 a2 a3 a4 a5 a6 a7 a8 a9 a10 a11 a12 a13 a14 a15 a16 a17 a18 a19 b20 a21 a22 a23 a24 a25) : ∃ fu, wX_makeSums_67 post J 1 15 0 how 4 x6 hc sc lv cl kn vn oc fu 0 a1 a2 a3 a4 a5 a6 a7 a8 a9 a10 a11 a12 a13 a14 a15 a16 a17 a18 a19 a20 a21 a22 a23 a24 a25 := by
  refine pk_loop (σ := Nat → Int32) (fun m i s => wX_makeSums_67 post J 1 15 0 how 4 x6 hc sc lv cl kn vn oc m (nI i) a1 a2 a3 a4 a5 a6 a7 a8 a9 a10 a11 a12 a13 a14 a15 a16 a17 a18 a19 s a21 a22 a23 a24 a25) (fun i s => ∀ j, j < i → s j = 0) 16 0 a20 (by omega) (fun j hj => absurd hj (by omega)) ?_ ?_
  · intro m s h
    exact pk_le 16 16 (fun _ => nm_r (e' := 0) (by decide) (H s h)) (fun z => absurd z (by omega))
  · intro m i s hi h hw
    have c2 : (nI i).toNatClampNeg = i := nI_clamp (by omega)
    refine pk_le 16 i (fun z => absurd z (by omega)) (fun _ => ⟨pk_in i 16 hi, nm_r (e' := upd s i 0) (by rw [c2]) (nm_r (nI_1 i) (hw (upd s i 0) (fun j hj => ?_)))⟩)
    by_cases e : j = i
    · subst e
      exact pk_us
    · exact (pk_un e).trans (h j (by omega))
theorem ln_s57 {post : St2 → Prop} {hc sc lv cl kn vn oc : Int32} {a1 a2 a3 a4 a5 a6 a7 a8 a9 a10 a11 a12 a13 a14 a15 a16 a17 a18 a19 a20 a21 a22 a23 a24 a25 : Nat → Int32} {g k : Nat} {value how : Int32} (hg : g = 0 ∨ g = 1) (hk : k < 16) (hZ : ln_Z g k value a10 a11 a12 a13) (h10 : a10 1 = 0) (h22 : ∀ j, j < 16 → a22 j = 0)
    (H : ∀ b10 b11 b12 b13 b20 b21 b22 b23 : Nat → Int32, ln_R g k (if how = 3 then 1 else value) b10 b12 b13 → post (hc, sc, lv, cl, kn, vn, oc, a1, a2, a3, a4, a5, a6, a7, a8, a9, b10, b11, b12, b13, a14, a15, a16, a17, a18, a19, b20, b21, b22, b23, a24, a25)) :
    ∃ fu, wX_makeSums_57 post 1 15 0 how 4 fu 0 hc sc lv cl kn vn oc a1 a2 a3 a4 a5 a6 a7 a8 a9 a10 a11 a12 a13 a14 a15 a16 a17 a18 a19 a20 a21 a22 a23 a24 a25 := by
  refine pk_loop (σ := (Nat → Int32) × (Nat → Int32) × (Nat → Int32) × (Nat → Int32)) (fun m i s => wX_makeSums_57 post 1 15 0 how 4 m (nI i) hc sc lv cl kn vn oc a1 a2 a3 a4 a5 a6 a7 a8 a9 a10 a11 a12 a13 a14 a15 a16 a17 a18 a19 s.1 s.2.1 s.2.2.1 s.2.2.2 a24 a25)
    (fun i s => (∀ j, j < 16 → s.2.2.1 j = if g = 1 ∧ 0 < i ∧ j = k then 1 else 0) ∧ (g = 1 → 0 < i → s.2.2.2 k = if how = 3 then 1 else value)) 4 0 (a20, a21, a22, a23) (by omega) ?_ ?_ ?_
  · exact ⟨fun j hj => by rw [if_neg (by omega)]; exact h22 j hj, fun _ z => absurd z (by omega)⟩
  · intro m s h
    refine pk_le 4 4 (fun _ => ?_) (fun z => absurd z (by omega))
    refine ln_s207 hg hk (fun j hj => ?_) (fun e => h.2 e (by omega)) h10 (fun b10 b11 b12 b13 hR => H b10 b11 b12 b13 _ _ _ _ hR)
    rw [h.1 j hj]
    by_cases e : g = 1 ∧ j = k
    · rw [if_pos e, if_pos ⟨e.1, by omega, e.2⟩]
    · rw [if_neg e, if_neg (fun q => e ⟨q.1, q.2.2⟩)]
  · intro m i s hi h hw
    refine pk_le 4 i (fun z => absurd z (by omega)) (fun _ => ?_)
    refine ln_s67 (fun b20 h20 => ?_)
    refine ln_s94 hg hk hi hZ h20 (fun b20 b21 k20 k21 => ?_)
    refine ln_s167 (fun j hj z => ?_) (fun b22 b23 e22 e23 => ?_)
    · rw [k20 j hj] at z
      rw [h.1 j hj]
      by_cases e : g = 1 ∧ i = 0 ∧ j = k
      · rw [if_neg (fun q => absurd q.2.1 (by omega))]
      · rw [if_neg e] at z
        exact absurd rfl z
    · rw [nI_1]
      refine hw (b20, b21, b22, b23) ⟨fun j hj => ?_, fun g1 _ => ?_⟩
      · show b22 j = _
        rw [e22 j hj, k20 j hj, h.1 j hj]
        by_cases e : g = 1 ∧ j = k
        · rw [if_pos (c := g = 1 ∧ 0 < i + 1 ∧ j = k) ⟨e.1, by omega, e.2⟩]
          by_cases y : i = 0
          · rw [if_pos (c := g = 1 ∧ i = 0 ∧ j = k) ⟨e.1, y, e.2⟩, if_neg (by decide)]
          · rw [if_neg (c := g = 1 ∧ i = 0 ∧ j = k) (fun q => y q.2.1), if_pos rfl, if_pos ⟨e.1, by omega, e.2⟩]
        · rw [if_neg (c := g = 1 ∧ 0 < i + 1 ∧ j = k) (fun q => e ⟨q.1, q.2.2⟩), if_neg (c := g = 1 ∧ i = 0 ∧ j = k) (fun q => e ⟨q.1, q.2.2⟩), if_pos rfl, if_neg (fun q => e ⟨q.1, q.2.2⟩)]
      · show b23 k = _
        rw [e23 k hk, k20 k hk]
        by_cases y : i = 0
        · rw [if_pos (c := g = 1 ∧ i = 0 ∧ k = k) ⟨g1, y, rfl⟩, if_neg (c := (1 : Int32) = 0) (by decide)]
          exact k21 g1 y
        · rw [if_neg (c := g = 1 ∧ i = 0 ∧ k = k) (fun q => y q.2.1), if_pos (c := (0 : Int32) = 0) rfl]
          exact h.2 g1 (by omega)
theorem ln_sums {post : St2 → Prop} {hc sc cl kn vn oc : Int32} {a1 a2 a3 a4 a5 a6 a7 a8 a9 a10 a11 a12 a13 a14 a15 a16 a17 a18 a19 a20 a21 a22 a23 a24 a25 : Nat → Int32} {g k : Nat} {value how : Int32} (hg : g = 0 ∨ g = 1) (hk : k < 16) (h4 : a4 1 = 0) (h5 : a5 1 = how) (hZ : ln_Z g k value a10 a11 a12 a13) (h10 : a10 1 = 0)
    (H : ∀ b10 b11 b12 b13 b20 b21 b22 b23 : Nat → Int32, ln_R g k (if how = 3 then 1 else value) b10 b12 b13 → post (hc, sc, 2, cl, kn, vn, oc, a1, a2, a3, a4, a5, a6, a7, a8, a9, b10, b11, b12, b13, a14, a15, a16, a17, a18, a19, b20, b21, b22, b23, a24, a25)) :
    wpX_makeSums post (hc, sc, 2, cl, kn, vn, oc, a1, a2, a3, a4, a5, a6, a7, a8, a9, a10, a11, a12, a13, a14, a15, a16, a17, a18, a19, a20, a21, a22, a23, a24, a25) 1 15 := by
  refine ⟨ln_i1, nm_r (e' := 0) (by rw [ln_c1]; exact h4) ⟨ln_i1, nm_r (e' := how) (by rw [ln_c1]; exact h5) ?_⟩⟩
  refine pk_loop (σ := Nat → Int32) (fun m i s => wX_makeSums_18 post 1 15 0 how hc sc 2 cl kn vn oc m (nI i) a1 a2 a3 a4 a5 a6 a7 a8 a9 a10 a11 a12 a13 a14 a15 a16 a17 a18 a19 a20 a21 s a23 a24 a25) (fun i s => ∀ j, j < i → s j = 0) 16 0 a22 (by omega) (fun j hj => absurd hj (by omega)) ?_ ?_
  · intro m s h
    exact pk_le 16 16 (fun _ => br_t rfl (ln_s57 hg hk hZ h10 h H)) (fun z => absurd z (by omega))
  · intro m i s hi h hw
    have c2 : (nI i).toNatClampNeg = i := nI_clamp (by omega)
    refine pk_le 16 i (fun z => absurd z (by omega)) (fun _ => ⟨pk_in i 16 hi, nm_r (e' := upd s i 0) (by rw [c2]) (nm_r (nI_1 i) (hw (upd s i 0) (fun j hj => ?_)))⟩)
    by_cases e : j = i
    · subst e
      exact pk_us
    · exact (pk_un e).trans (h j (by omega))
end
section
/-! each kind of data set 1 -/
theorem ln_16 (b : Nat → Int32) : ¬ upd b 1 1 1 = 2 := by
  rw [pk_us]
  decide
theorem ln_k0 {g k kk : Nat} {value a b vv : Int32} : ln_mk g k value 0 a b 0 kk vv := by
  intro post hc sc lv cl kn vn oc a1 a2 a3 a4 a5 a6 a7 a8 a9 a10 a11 a12 a13 a14 a15 a16 a17 a18 a19 a20 a21 a22 a23 a24 a25 hP h17 hZ h10 H
  obtain ⟨rfl, rfl, p3, p3', p4, p5, p6, p7, p7', p8, p15, p15'⟩ := hP
  refine ⟨ln_i1, nm_r (e' := 0) (by rw [ln_c1]; exact p3') ⟨ln_i1, nm_r (e' := 15) (by rw [ln_c1]; exact h17) ?_⟩⟩
  refine br_t rfl (ln_rows1 (p7' rfl) ?_)
  exact ln_127 (d := 1) (by omega) (fun b14 => H cl kn vn a10 a11 a12 a13 b14 _ a19 a20 a21 a22 a23 (ln_R0 h10) (ln_16 a16))
theorem ln_hr {g k kk : Nat} {x y vv : Int32} (hg : g = 0 ∨ g = 1) (hk : kk < 16) (hx : x = nI kk) (hy : y = vv) :
    (g = 0 ∧ g = 0) ∨ (g = 1 ∧ (1 : Int32) = 0 ∧ g = 0) ∨ (g = 1 ∧ (1 : Int32) = 1 ∧ g = 1 ∧ x = nI kk ∧ kk < 16 ∧ y = vv) := by
  rcases hg with e | e
  · exact Or.inl ⟨e, e⟩
  · exact Or.inr (Or.inr ⟨e, rfl, e, hx, hk, hy⟩)
theorem ln_k1 {g k : Nat} {value a b : Int32} (hg : g = 0 ∨ g = 1) (hk : k < 16) : ln_mk g k value 1 a b g k (value * a + b) := by
  intro post hc sc lv cl kn vn oc a1 a2 a3 a4 a5 a6 a7 a8 a9 a10 a11 a12 a13 a14 a15 a16 a17 a18 a19 a20 a21 a22 a23 a24 a25 hP h17 hZ h10 H
  obtain ⟨rfl, rfl, p3, p3', p4, p5, p6, p7, p7', p8, p15, p15'⟩ := hP
  refine ⟨ln_i1, nm_r (e' := 1) (by rw [ln_c1]; exact p3') ⟨ln_i1, nm_r (e' := 15) (by rw [ln_c1]; exact h17) ?_⟩⟩
  refine br_f (by decide) (ln_step1 (Or.inl rfl) (br_f (by decide) ?_))
  refine ln_steps (n := g) (kk := k) (vv := value * a + b) (r := 1) (x := nI k) (y := value * a + b) p3 p4 (hZ (by decide)) h10 ?_ (ln_hr (k := k) hg hk rfl rfl) ?_
  · intro φ b19 hφ
    exact ⟨ln_i1, nm_r (e' := 1) (by rw [ln_c1]; exact p3') ⟨ln_i1, nm_r (e' := a) (by rw [ln_c1]; exact p5) (br_f (by decide) (br_t rfl ⟨ln_i1, nm_r (e' := value * a + b) (by rw [ln_c1, p6]) hφ⟩))⟩⟩
  · intro c x y b10 b11 b12 b13 b19 hR
    exact ln_127 (d := 1) (by omega) (fun b14 => H c x y b10 b11 b12 b13 b14 _ b19 a20 a21 a22 a23 hR (ln_16 a16))
theorem ln_k2t {g k : Nat} {value a b : Int32} (hg : g = 0 ∨ g = 1) (hk : k < 16) (hv : ¬ value < a) : ln_mk g k value 2 a b g k value := by
  intro post hc sc lv cl kn vn oc a1 a2 a3 a4 a5 a6 a7 a8 a9 a10 a11 a12 a13 a14 a15 a16 a17 a18 a19 a20 a21 a22 a23 a24 a25 hP h17 hZ h10 H
  obtain ⟨rfl, rfl, p3, p3', p4, p5, p6, p7, p7', p8, p15, p15'⟩ := hP
  refine ⟨ln_i1, nm_r (e' := 2) (by rw [ln_c1]; exact p3') ⟨ln_i1, nm_r (e' := 15) (by rw [ln_c1]; exact h17) ?_⟩⟩
  refine br_f (by decide) (ln_step1 (Or.inr (Or.inl rfl)) (br_f (by decide) ?_))
  refine ln_steps (n := g) (kk := k) (vv := value) (r := 1) (x := nI k) (y := value) p3 p4 (hZ (by decide)) h10 ?_ (ln_hr (k := k) hg hk rfl rfl) ?_
  · intro φ b19 hφ
    exact ⟨ln_i1, nm_r (e' := 2) (by rw [ln_c1]; exact p3') ⟨ln_i1, nm_r (e' := a) (by rw [ln_c1]; exact p5) (br_t rfl (br_f hv hφ))⟩⟩
  · intro c x y b10 b11 b12 b13 b19 hR
    exact ln_127 (d := 1) (by omega) (fun b14 => H c x y b10 b11 b12 b13 b14 _ b19 a20 a21 a22 a23 hR (ln_16 a16))
theorem ln_k2f {g k kk : Nat} {value a b vv : Int32} (hg : g = 0 ∨ g = 1) (hv : value < a) : ln_mk g k value 2 a b 0 kk vv := by
  intro post hc sc lv cl kn vn oc a1 a2 a3 a4 a5 a6 a7 a8 a9 a10 a11 a12 a13 a14 a15 a16 a17 a18 a19 a20 a21 a22 a23 a24 a25 hP h17 hZ h10 H
  obtain ⟨rfl, rfl, p3, p3', p4, p5, p6, p7, p7', p8, p15, p15'⟩ := hP
  refine ⟨ln_i1, nm_r (e' := 2) (by rw [ln_c1]; exact p3') ⟨ln_i1, nm_r (e' := 15) (by rw [ln_c1]; exact h17) ?_⟩⟩
  refine br_f (by decide) (ln_step1 (Or.inr (Or.inl rfl)) (br_f (by decide) ?_))
  refine ln_steps (n := 0) (kk := kk) (vv := vv) (r := 0) (x := nI k) (y := value) p3 p4 (hZ (by decide)) h10 ?_ (hg.elim (fun e => Or.inl ⟨e, rfl⟩) (fun e => Or.inr (Or.inl ⟨e, rfl, rfl⟩))) ?_
  · intro φ b19 hφ
    exact ⟨ln_i1, nm_r (e' := 2) (by rw [ln_c1]; exact p3') ⟨ln_i1, nm_r (e' := a) (by rw [ln_c1]; exact p5) (br_t rfl (br_t hv hφ))⟩⟩
  · intro c x y b10 b11 b12 b13 b19 hR
    exact ln_127 (d := 1) (by omega) (fun b14 => H c x y b10 b11 b12 b13 b14 _ b19 a20 a21 a22 a23 hR (ln_16 a16))
theorem ln_k3 {g k kk : Nat} {value a b : Int32} (hg : g = 0 ∨ g = 1) (hk : kk < 16) (hkk : (nI k * a + b) &&& 15 = nI kk) : ln_mk g k value 3 a b g kk value := by
  intro post hc sc lv cl kn vn oc a1 a2 a3 a4 a5 a6 a7 a8 a9 a10 a11 a12 a13 a14 a15 a16 a17 a18 a19 a20 a21 a22 a23 a24 a25 hP h17 hZ h10 H
  obtain ⟨rfl, rfl, p3, p3', p4, p5, p6, p7, p7', p8, p15, p15'⟩ := hP
  refine ⟨ln_i1, nm_r (e' := 3) (by rw [ln_c1]; exact p3') ⟨ln_i1, nm_r (e' := 15) (by rw [ln_c1]; exact h17) ?_⟩⟩
  refine br_f (by decide) (ln_step1 (Or.inr (Or.inr (Or.inl rfl))) (br_f (by decide) ?_))
  refine ln_steps (n := g) (kk := kk) (vv := value) (r := 1) (x := nI kk) (y := value) p3 p4 (hZ (by decide)) h10 ?_ (ln_hr (k := k) hg hk rfl rfl) ?_
  · intro φ b19 hφ
    exact ⟨ln_i1, nm_r (e' := 3) (by rw [ln_c1]; exact p3') ⟨ln_i1, nm_r (e' := a) (by rw [ln_c1]; exact p5) (br_f (by decide) (br_f (by decide) (br_t rfl ⟨ln_i1, nm_r (e' := nI kk) (by rw [ln_c1, p6]; exact hkk) hφ⟩)))⟩⟩
  · intro c x y b10 b11 b12 b13 b19 hR
    exact ln_127 (d := 1) (by omega) (fun b14 => H c x y b10 b11 b12 b13 b14 _ b19 a20 a21 a22 a23 hR (ln_16 a16))
theorem ln_k11 {g k kk : Nat} {value a b vv : Int32} (hg : g = 0 ∨ g = 1) (hk : kk < 16) (hkk : value &&& 15 = nI kk) (hv : g = 1 → nI k = vv) : ln_mk g k value 11 a b g kk vv := by
  intro post hc sc lv cl kn vn oc a1 a2 a3 a4 a5 a6 a7 a8 a9 a10 a11 a12 a13 a14 a15 a16 a17 a18 a19 a20 a21 a22 a23 a24 a25 hP h17 hZ h10 H
  obtain ⟨rfl, rfl, p3, p3', p4, p5, p6, p7, p7', p8, p15, p15'⟩ := hP
  refine ⟨ln_i1, nm_r (e' := 11) (by rw [ln_c1]; exact p3') ⟨ln_i1, nm_r (e' := 15) (by rw [ln_c1]; exact h17) ?_⟩⟩
  refine br_f (by decide) (ln_step1 (Or.inr (Or.inr (Or.inr rfl))) (br_f (by decide) ?_))
  refine ln_steps (n := g) (kk := kk) (vv := vv) (r := 1) (x := nI kk) (y := nI k) p3 p4 (hZ (by decide)) h10 ?_ (hg.elim (fun e => Or.inl ⟨e, e⟩) (fun e => Or.inr (Or.inr ⟨e, rfl, e, rfl, hk, hv e⟩))) ?_
  · intro φ b19 hφ
    exact ⟨ln_i1, nm_r (e' := 11) (by rw [ln_c1]; exact p3') ⟨ln_i1, nm_r (e' := a) (by rw [ln_c1]; exact p5) (br_f (by decide) (br_f (by decide) (br_f (by decide) (nm_r (e' := nI kk) hkk hφ))))⟩⟩
  · intro c x y b10 b11 b12 b13 b19 hR
    exact ln_127 (d := 1) (by omega) (fun b14 => H c x y b10 b11 b12 b13 b14 _ b19 a20 a21 a22 a23 hR (ln_16 a16))
theorem ln_k4 {g k t : Nat} {value b : Int32} (hg : g = 0 ∨ g = 1) (hk : k < 16) (ht : t ≤ 3) : ln_mk g k value 4 (nI t) b (g * t) k value := by
  intro post hc sc lv cl kn vn oc a1 a2 a3 a4 a5 a6 a7 a8 a9 a10 a11 a12 a13 a14 a15 a16 a17 a18 a19 a20 a21 a22 a23 a24 a25 hP h17 hZ h10 H
  obtain ⟨rfl, rfl, p3, p3', p4, p5, p6, p7, p7', p8, p15, p15'⟩ := hP
  refine ⟨ln_i1, nm_r (e' := 4) (by rw [ln_c1]; exact p3') ⟨ln_i1, nm_r (e' := 15) (by rw [ln_c1]; exact h17) ?_⟩⟩
  refine br_f (by decide) (ln_stepN (by decide) (by decide) (by decide) (by decide) (br_t rfl (br_t rfl ?_)))
  have e4 : a4 (1 : Int32).toNatClampNeg = 0 := by
    rw [ln_c1]
    exact p4
  have e5 : a5 (1 : Int32).toNatClampNeg = nI t := by
    rw [ln_c1]
    exact p5
  refine br_t rfl ⟨ln_i1, ln_i1, ?_⟩
  rw [e4, e5]
  refine ln_copy (c := 0) hg hk (by omega) (hZ (by decide)) (ln_R0 h10) (fun b10 b11 b12 b13 _ hR => br_f (by decide) (br_t rfl ?_))
  rw [Nat.zero_add] at hR
  exact ln_127 (d := 1) (by omega) (fun b14 => H cl kn vn b10 b11 b12 b13 b14 _ a19 a20 a21 a22 a23 hR (ln_16 a16))
theorem ln_k5 {g k : Nat} {value b : Int32} (hg : g = 0 ∨ g = 1) (hk : k < 16) : ln_mk g k value 5 0 b (g * 2) k value := by
  intro post hc sc lv cl kn vn oc a1 a2 a3 a4 a5 a6 a7 a8 a9 a10 a11 a12 a13 a14 a15 a16 a17 a18 a19 a20 a21 a22 a23 a24 a25 hP h17 hZ h10 H
  obtain ⟨rfl, rfl, p3, p3', p4, p5, p6, p7, p7', p8, p15, p15'⟩ := hP
  refine ⟨ln_i1, nm_r (e' := 5) (by rw [ln_c1]; exact p3') ⟨ln_i1, nm_r (e' := 15) (by rw [ln_c1]; exact h17) ?_⟩⟩
  refine br_f (by decide) (ln_stepN (by decide) (by decide) (by decide) (by decide) (br_t rfl (br_f (by decide) (br_t rfl ?_))))
  have e4 : a4 (1 : Int32).toNatClampNeg = 0 := by
    rw [ln_c1]
    exact p4
  have e5 : a5 (1 : Int32).toNatClampNeg = 0 := by
    rw [ln_c1]
    exact p5
  refine br_f (by decide) ⟨ln_i1, ?_⟩
  rw [e4]
  refine ln_copy (c := 0) (t := 1) hg hk (by omega) (hZ (by decide)) (ln_R0 h10) (fun b10 b11 b12 b13 z1 hR => br_f (by decide) (br_f (by decide) ⟨ln_i1, ?_⟩))
  rw [e5]
  refine ln_copy (c := 0 + g * 1) (t := 1) hg hk (by omega) z1 hR (fun b10 b11 b12 b13 _ hR => br_f (by decide) ?_)
  rw [show 0 + g * 1 + g * 1 = g * 2 by omega] at hR
  exact ln_127 (d := 1) (by omega) (fun b14 => H cl kn vn b10 b11 b12 b13 b14 _ a19 a20 a21 a22 a23 hR (ln_16 a16))
theorem ln_k6 {g k : Nat} {value a b : Int32} (hg : g = 0 ∨ g = 1) (hk : k < 16) : ln_mk g k value 6 a b g k (if a = 3 then 1 else value) := by
  intro post hc sc lv cl kn vn oc a1 a2 a3 a4 a5 a6 a7 a8 a9 a10 a11 a12 a13 a14 a15 a16 a17 a18 a19 a20 a21 a22 a23 a24 a25 hP h17 hZ h10 H
  obtain ⟨rfl, rfl, p3, p3', p4, p5, p6, p7, p7', p8, p15, p15'⟩ := hP
  refine ⟨ln_i1, nm_r (e' := 6) (by rw [ln_c1]; exact p3') ⟨ln_i1, nm_r (e' := 15) (by rw [ln_c1]; exact h17) ?_⟩⟩
  refine br_f (by decide) (ln_stepN (by decide) (by decide) (by decide) (by decide) (br_t rfl (br_f (by decide) (br_f (by decide) (br_t rfl ?_)))))
  refine ln_sums hg hk p4 p5 (hZ (by decide)) h10 (fun b10 b11 b12 b13 b20 b21 b22 b23 hR => ?_)
  exact ln_127 (d := 1) (by omega) (fun b14 => H cl kn vn b10 b11 b12 b13 b14 _ a19 b20 b21 b22 b23 hR (ln_16 a16))
theorem ln_k7 {g k : Nat} {value b : Int32} (hg : g = 0 ∨ g = 1) (hk : k < 16) : ln_mk g k value 7 0 b g k (value + value) := by
  intro post hc sc lv cl kn vn oc a1 a2 a3 a4 a5 a6 a7 a8 a9 a10 a11 a12 a13 a14 a15 a16 a17 a18 a19 a20 a21 a22 a23 a24 a25 hP h17 hZ h10 H
  obtain ⟨rfl, rfl, p3, p3', p4, p5, p6, p7, p7', p8, p15, p15'⟩ := hP
  refine ⟨ln_i1, nm_r (e' := 7) (by rw [ln_c1]; exact p3') ⟨ln_i1, nm_r (e' := 15) (by rw [ln_c1]; exact h17) ?_⟩⟩
  refine br_f (by decide) (ln_stepN (by decide) (by decide) (by decide) (by decide) (br_t rfl (br_f (by decide) (br_f (by decide) (br_f (by decide) (br_t rfl ?_))))))
  refine ln_join hg hk p4 p5 (hZ (by decide)) h10 (fun b10 b11 b12 b13 hR => ?_)
  exact ln_127 (d := 1) (by omega) (fun b14 => H cl kn vn b10 b11 b12 b13 b14 _ a19 a20 a21 a22 a23 hR (ln_16 a16))
theorem ln_k8 {g k : Nat} {value a b : Int32} (hg : g = 0 ∨ g = 1) (hk : k < 16) : ln_mk g k value 8 a b g k value := by
  intro post hc sc lv cl kn vn oc a1 a2 a3 a4 a5 a6 a7 a8 a9 a10 a11 a12 a13 a14 a15 a16 a17 a18 a19 a20 a21 a22 a23 a24 a25 hP h17 hZ h10 H
  obtain ⟨rfl, rfl, p3, p3', p4, p5, p6, p7, p7', p8, p15, p15'⟩ := hP
  refine ⟨ln_i1, nm_r (e' := 8) (by rw [ln_c1]; exact p3') ⟨ln_i1, nm_r (e' := 15) (by rw [ln_c1]; exact h17) ?_⟩⟩
  refine br_f (by decide) (ln_stepN (by decide) (by decide) (by decide) (by decide) (br_t rfl (br_f (by decide) (br_f (by decide) (br_f (by decide) (br_f (by decide) (br_f (by decide) ?_)))))))
  refine ln_dist hg hk p4 (hZ (by decide)) h10 (fun b10 b11 b12 b13 hR => ?_)
  exact ln_127 (d := 1) (by omega) (fun b14 => H cl kn vn b10 b11 b12 b13 b14 _ a19 a20 a21 a22 a23 hR (ln_16 a16))
theorem ln_k9 {g k kk : Nat} {value b vv : Int32} (hg : g = 0 ∨ g = 1) (hk : k < 16) : ln_mk g k value 9 0 b 0 kk vv := by
  intro post hc sc lv cl kn vn oc a1 a2 a3 a4 a5 a6 a7 a8 a9 a10 a11 a12 a13 a14 a15 a16 a17 a18 a19 a20 a21 a22 a23 a24 a25 hP h17 hZ h10 H
  obtain ⟨rfl, rfl, p3, p3', p4, p5, p6, p7, p7', p8, p15, p15'⟩ := hP
  refine ⟨ln_i1, nm_r (e' := 9) (by rw [ln_c1]; exact p3') ⟨ln_i1, nm_r (e' := 15) (by rw [ln_c1]; exact h17) ?_⟩⟩
  refine br_f (by decide) (ln_stepN (by decide) (by decide) (by decide) (by decide) (br_t rfl (br_f (by decide) (br_f (by decide) (br_f (by decide) (br_f (by decide) (br_f (by decide) ?_)))))))
  refine ln_wout (kk := kk) (vv := vv) hg hk p4 p5 (hZ (by decide)) h10 (fun hR => ?_)
  exact ln_127 (d := 1) (by omega) (fun b14 => H cl kn vn a10 a11 a12 a13 b14 _ a19 a20 a21 a22 a23 hR (ln_16 a16))
theorem ln_k10 {g k : Nat} {value a b : Int32} (hg : g = 0 ∨ g = 1) (hk : k < 16) (ha : ¬ a ≤ 0) : ln_mk g k value 10 a b g k value := by
  intro post hc sc lv cl kn vn oc a1 a2 a3 a4 a5 a6 a7 a8 a9 a10 a11 a12 a13 a14 a15 a16 a17 a18 a19 a20 a21 a22 a23 a24 a25 hP h17 hZ h10 H
  obtain ⟨rfl, rfl, p3, p3', p4, p5, p6, p7, p7', p8, p15, p15'⟩ := hP
  refine ⟨ln_i1, nm_r (e' := 10) (by rw [ln_c1]; exact p3') ⟨ln_i1, nm_r (e' := 15) (by rw [ln_c1]; exact h17) ?_⟩⟩
  refine br_f (by decide) (ln_stepN (by decide) (by decide) (by decide) (by decide) (br_t rfl (br_f (by decide) (br_f (by decide) (br_f (by decide) (br_f (by decide) (br_t rfl ?_)))))))
  refine ln_last hg hk p4 p5 ha (hZ (by decide)) h10 (fun b10 b11 b12 b13 hR => ?_)
  exact ln_127 (d := 1) (by omega) (fun b14 => H cl kn vn b10 b11 b12 b13 b14 _ a19 a20 a21 a22 a23 hR (ln_16 a16))
end
section
/-! plans -/
theorem ln_h0 : vp_in 0 24 := vp_in_nI (n := 0) (by omega) (by omega)
theorem ln_rowG {post : Int32 → St2 → Prop} {sc lv cl kn vn oc : Int32} {a1 a2 a3 a4 a5 a6 a7 a8 a9 a10 a11 a12 a13 a14 a15 a16 a17 a18 a19 a20 a21 a22 a23 a24 a25 : Nat → Int32} {k : Nat} {v : Int32} (hk : k < 16) (H : ∀ b1 b2 : Nat → Int32, b1 0 = nI k → b2 0 = v → post 1 (1, sc, lv, cl, kn, vn, oc, b1, b2, a3, a4, a5, a6, a7, a8, a9, a10, a11, a12, a13, a14, a15, a16, a17, a18, a19, a20, a21, a22, a23, a24, a25)) : wpX_row post (0, sc, lv, cl, kn, vn, oc, a1, a2, a3, a4, a5, a6, a7, a8, a9, a10, a11, a12, a13, a14, a15, a16, a17, a18, a19, a20, a21, a22, a23, a24, a25) (nI k) v := by
  refine br_t (by decide) (br_f (nI_pos (by omega)) (br_t (nI_le (b := 15) (by omega) (by decide)) ⟨ln_h0, ?_⟩))
  intro b1 e1
  refine ⟨ln_h0, ?_⟩
  intro b2 e2
  refine nm_r (e' := 1) (by decide) (H b1 b2 ?_ ?_)
  · rw [e1, ln_c0]
    exact pk_us.trans (ln_b64 k (by omega))
  · rw [e2, ln_c0]
    exact pk_us
theorem ln_rowB {post : Int32 → St2 → Prop} {sc lv cl kn vn oc : Int32} {a1 a2 a3 a4 a5 a6 a7 a8 a9 a10 a11 a12 a13 a14 a15 a16 a17 a18 a19 a20 a21 a22 a23 a24 a25 : Nat → Int32} {x v : Int32} (hx : x < 0 ∨ 15 < x) (H : post (-1) (0, sc, lv, cl, kn, vn, oc, a1, a2, a3, a4, a5, a6, a7, a8, a9, a10, a11, a12, a13, a14, a15, a16, a17, a18, a19, a20, a21, a22, a23, a24, a25)) : wpX_row post (0, sc, lv, cl, kn, vn, oc, a1, a2, a3, a4, a5, a6, a7, a8, a9, a10, a11, a12, a13, a14, a15, a16, a17, a18, a19, a20, a21, a22, a23, a24, a25) x v :=
  br_t (by decide) (br_c (fun _ => H) (fun z => br_f (Int32.not_le.mpr (hx.elim (fun q => absurd q z) (fun q => q))) H))
theorem ln_hand0 {post : St2 → Prop} {sc lv cl kn vn oc : Int32} {a1 a2 a3 a4 a5 a6 a7 a8 a9 a10 a11 a12 a13 a14 a15 a16 a17 a18 a19 a20 a21 a22 a23 a24 a25 : Nat → Int32} {g k : Nat} {v : Int32} (hg : g = 0 ∨ g = 1) (hk : k < 16) (h1 : g = 1 → a1 0 = nI k ∧ a2 0 = v)
    (H : ∀ b7 b8 b9 : Nat → Int32, b7 0 = nI g → (g = 1 → b8 0 = nI k ∧ b9 0 = v) → post (0, sc, lv, cl, kn, vn, oc, a1, a2, a3, a4, a5, a6, b7, b8, b9, a10, a11, a12, a13, a14, a15, a16, a17, a18, a19, a20, a21, a22, a23, a24, a25)) : wpX_takeHand post (nI g, sc, lv, cl, kn, vn, oc, a1, a2, a3, a4, a5, a6, a7, a8, a9, a10, a11, a12, a13, a14, a15, a16, a17, a18, a19, a20, a21, a22, a23, a24, a25) 0 := by
  refine ⟨ln_i0, ?_⟩
  intro b7 e7
  have h7 : b7 0 = nI g := by
    rw [e7, ln_c0]
    exact pk_us.trans (ln_b64 g (by omega))
  rcases hg with rfl | rfl
  · exact ⟨1, br_t (by decide) (H b7 a8 a9 h7 (fun z => absurd z (by omega)))⟩
  · obtain ⟨q1, q2⟩ := h1 rfl
    have e0 : ((24 : Int32) * 0 + 0).toNatClampNeg = 0 := by decide
    have i0 : vp_in ((24 : Int32) * 0 + 0) 384 := vp_in_iff.mpr (by decide)
    refine ⟨2, br_f (by decide) ⟨ln_h0, i0, ?_⟩⟩
    intro b8 e8
    refine ⟨ln_h0, i0, ?_⟩
    intro b9 e9
    refine nm_r (e' := 1) (by decide) (br_t (by decide) (H b7 b8 b9 h7 (fun _ => ⟨?_, ?_⟩)))
    · rw [e8, e0, ln_c0, q1]
      exact pk_us.trans ((vp_nar_byte _).trans (ln_b64 k (by omega)))
    · rw [e9, e0, ln_c0, q2]
      exact pk_us
theorem ln_hand1 {post : St2 → Prop} {sc lv cl kn vn oc : Int32} {a1 a2 a3 a4 a5 a6 a7 a8 a9 a10 a11 a12 a13 a14 a15 a16 a17 a18 a19 a20 a21 a22 a23 a24 a25 : Nat → Int32} (H : ∀ b7 : Nat → Int32, b7 0 = a7 0 → b7 1 = 0 → post (0, sc, lv, cl, kn, vn, oc, a1, a2, a3, a4, a5, a6, b7, a8, a9, a10, a11, a12, a13, a14, a15, a16, a17, a18, a19, a20, a21, a22, a23, a24, a25)) : wpX_takeHand post (0, sc, lv, cl, kn, vn, oc, a1, a2, a3, a4, a5, a6, a7, a8, a9, a10, a11, a12, a13, a14, a15, a16, a17, a18, a19, a20, a21, a22, a23, a24, a25) 1 := by
  refine ⟨ln_i1, ?_⟩
  intro b7 e7
  refine ⟨1, br_t (by decide) (H b7 ?_ ?_)⟩
  · rw [e7, ln_c1]
    exact pk_un (by omega)
  · rw [e7, ln_c1]
    exact pk_us.trans (by decide)
/-- derive(0, 99, 99, 99), the first -/
theorem ln_der0 {post : Int32 → St2 → Prop} {lv cl kn vn oc : Int32} {a1 a2 a3 a4 a5 a6 a7 a8 a9 a10 a11 a12 a13 a14 a15 a16 a17 a18 a19 a20 a21 a22 a23 a24 a25 : Nat → Int32} {g k : Nat} {v : Int32} (hg : g = 0 ∨ g = 1) (hk : k < 16) (h1 : g = 1 → a1 0 = nI k ∧ a2 0 = v)
    (H : ∀ b3 b4 b5 b6 b7 b8 b9 b10 b14 b15 b16 : Nat → Int32, b3 0 = 0 → b7 0 = nI g → (g = 1 → b8 0 = nI k ∧ b9 0 = v) → b10 0 = 0 → b14 0 = 0 → b15 0 = 0 →
      post 0 (0, 1, lv, cl, kn, vn, oc, a1, a2, b3, b4, b5, b6, b7, b8, b9, b10, a11, a12, a13, b14, b15, b16, a17, a18, a19, a20, a21, a22, a23, a24, a25)) :
    wpX_derive post (nI g, 0, lv, cl, kn, vn, oc, a1, a2, a3, a4, a5, a6, a7, a8, a9, a10, a11, a12, a13, a14, a15, a16, a17, a18, a19, a20, a21, a22, a23, a24, a25) 0 99 99 99 := by
  refine br_t (by decide) (br_f (by decide) (br_t (by decide) (br_t rfl ?_)))
  refine br_f (by decide) (br_f (by decide) (br_f (by decide) (br_t rfl ?_)))
  refine br_f (by decide) (br_f (by decide) (br_f (by decide) ?_))
  refine nm_r (e' := 1) (by decide) ⟨ln_i0, ?_⟩
  intro b3 e3
  refine ⟨ln_i0, ?_⟩
  intro b4 e4
  refine ⟨ln_i0, ?_⟩
  intro b5 e5
  refine ⟨ln_i0, ?_⟩
  intro b6 e6
  refine ln_forget (d := 0) (by omega) ⟨ln_i0, ?_⟩
  intro b15 e15
  refine ⟨ln_i0, ?_⟩
  intro b16 e16
  refine br_t rfl (ln_hand0 hg hk h1 (fun b7 b8 b9 k7 k8 => H b3 b4 b5 b6 b7 b8 b9 _ _ b15 b16 ?_ k7 k8 pk_us pk_us ?_))
  · rw [e3, ln_c0]
    exact pk_us.trans (by decide)
  · rw [e15, ln_c0]
    exact pk_us
/-- what derive takes as data set 1 -/
def ln_D (kind a : Int32) : Prop := ¬ kind < 0 ∧ ¬ 11 < kind ∧ (kind = 5 ∨ kind = 7 ∨ kind = 9 → a = 0) ∧ (kind = 4 ∨ kind = 6 → ¬ a < 0 ∧ ¬ 3 < a) ∧ (kind = 10 → ¬ a < 1 ∧ ¬ 8 < a)
theorem ln_a0 {a : Int32} (h0 : ¬ a < 0) (h1 : ¬ 1 ≤ a) : a = 0 := by
  obtain ⟨j, hj, rfl⟩ := nI_of h0
  have : j = 0 := by
    rcases Nat.lt_or_ge j 1 with z | z
    · omega
    · exact absurd (nI_le z hj) h1
  rw [this]
  rfl
theorem ln_derY {post : Int32 → St2 → Prop} {hc lv cl kn vn oc : Int32} {a1 a2 a3 a4 a5 a6 a7 a8 a9 a10 a11 a12 a13 a14 a15 a16 a17 a18 a19 a20 a21 a22 a23 a24 a25 : Nat → Int32} {kind a b : Int32} (hD : ln_D kind a) (H : wX_derive_97 post kind 0 a b hc 1 lv cl kn vn oc a1 a2 a3 a4 a5 a6 a7 a8 a9 a10 a11 a12 a13 a14 a15 a16 a17 a18 a19 a20 a21 a22 a23 a24 a25) : wpX_derive post (hc, 1, lv, cl, kn, vn, oc, a1, a2, a3, a4, a5, a6, a7, a8, a9, a10, a11, a12, a13, a14, a15, a16, a17, a18, a19, a20, a21, a22, a23, a24, a25) kind 0 a b := by
  obtain ⟨d1, d2, d3, d4, d5⟩ := hD
  have t78 : wX_derive_78 post kind 0 a b hc 1 lv cl kn vn oc a1 a2 a3 a4 a5 a6 a7 a8 a9 a10 a11 a12 a13 a14 a15 a16 a17 a18 a19 a20 a21 a22 a23 a24 a25 := br_c (fun z => br_f (d5 z).1 (br_t (Int32.not_lt.mp (d5 z).2) H)) (fun _ => H)
  have t67 : (kind = 4 ∨ kind = 6) → wX_derive_67 post kind 0 a b hc 1 lv cl kn vn oc a1 a2 a3 a4 a5 a6 a7 a8 a9 a10 a11 a12 a13 a14 a15 a16 a17 a18 a19 a20 a21 a22 a23 a24 a25 := fun z => br_f (d4 z).1 (br_t (Int32.not_lt.mp (d4 z).2) t78)
  have t56 : wX_derive_56 post kind 0 a b hc 1 lv cl kn vn oc a1 a2 a3 a4 a5 a6 a7 a8 a9 a10 a11 a12 a13 a14 a15 a16 a17 a18 a19 a20 a21 a22 a23 a24 a25 := br_c (fun z => t67 (Or.inl z)) (fun _ => br_c (fun z => t67 (Or.inr z)) (fun _ => t78))
  have t38 : wX_derive_38 post kind 0 a b hc 1 lv cl kn vn oc a1 a2 a3 a4 a5 a6 a7 a8 a9 a10 a11 a12 a13 a14 a15 a16 a17 a18 a19 a20 a21 a22 a23 a24 a25 := by
    refine br_c (fun z => br_f (by decide) ?_) (fun _ => br_c (fun z => br_f (by decide) ?_) (fun _ => br_c (fun z => br_f (by decide) ?_) (fun _ => br_t rfl t56)))
    · have e : a = 0 := d3 (Or.inl z)
      exact br_f (by rw [e]; decide) (br_f (by rw [e]; decide) (br_f (by decide) t56))
    · have e : a = 0 := d3 (Or.inr (Or.inl z))
      exact br_f (by rw [e]; decide) (br_f (by rw [e]; decide) (br_f (by decide) t56))
    · have e : a = 0 := d3 (Or.inr (Or.inr z))
      exact br_f (by rw [e]; decide) (br_f (by rw [e]; decide) (br_f (by decide) t56))
  exact br_t (by decide) (br_f d1 (br_t (Int32.not_lt.mp d2) (br_c (fun _ => t38) (fun _ => br_f (by decide) (br_f (by decide) (br_f (by decide) t38))))))
theorem ln_derN {post : Int32 → St2 → Prop} {hc lv cl kn vn oc : Int32} {a1 a2 a3 a4 a5 a6 a7 a8 a9 a10 a11 a12 a13 a14 a15 a16 a17 a18 a19 a20 a21 a22 a23 a24 a25 : Nat → Int32} {kind a b : Int32} (hD : ¬ ln_D kind a) (H : post (-1) (hc, 1, lv, cl, kn, vn, oc, a1, a2, a3, a4, a5, a6, a7, a8, a9, a10, a11, a12, a13, a14, a15, a16, a17, a18, a19, a20, a21, a22, a23, a24, a25)) : wpX_derive post (hc, 1, lv, cl, kn, vn, oc, a1, a2, a3, a4, a5, a6, a7, a8, a9, a10, a11, a12, a13, a14, a15, a16, a17, a18, a19, a20, a21, a22, a23, a24, a25) kind 0 a b := by
  refine br_t (by decide) (br_c (fun _ => H) (fun d1 => br_c (fun d2 => ?_) (fun _ => H)))
  have t78 : (kind = 5 ∨ kind = 7 ∨ kind = 9 → a = 0) → (kind = 4 ∨ kind = 6 → ¬ a < 0 ∧ ¬ 3 < a) → wX_derive_78 post kind 0 a b hc 1 lv cl kn vn oc a1 a2 a3 a4 a5 a6 a7 a8 a9 a10 a11 a12 a13 a14 a15 a16 a17 a18 a19 a20 a21 a22 a23 a24 a25 := fun d3 d4 =>
    br_c (fun _ => br_c (fun _ => H) (fun z1 => br_c (fun z2 => absurd ⟨d1, Int32.not_lt.mpr d2, d3, d4, fun _ => ⟨z1, Int32.not_lt.mpr z2⟩⟩ hD) (fun _ => H)))
      (fun z => absurd ⟨d1, Int32.not_lt.mpr d2, d3, d4, fun q => absurd q z⟩ hD)
  have t67 : (kind = 5 ∨ kind = 7 ∨ kind = 9 → a = 0) → wX_derive_67 post kind 0 a b hc 1 lv cl kn vn oc a1 a2 a3 a4 a5 a6 a7 a8 a9 a10 a11 a12 a13 a14 a15 a16 a17 a18 a19 a20 a21 a22 a23 a24 a25 := fun d3 =>
    br_c (fun _ => H) (fun z1 => br_c (fun z2 => t78 d3 (fun _ => ⟨z1, Int32.not_lt.mpr z2⟩)) (fun _ => H))
  have t56 : (kind = 5 ∨ kind = 7 ∨ kind = 9 → a = 0) → wX_derive_56 post kind 0 a b hc 1 lv cl kn vn oc a1 a2 a3 a4 a5 a6 a7 a8 a9 a10 a11 a12 a13 a14 a15 a16 a17 a18 a19 a20 a21 a22 a23 a24 a25 := fun d3 =>
    br_c (fun _ => t67 d3) (fun z1 => br_c (fun _ => t67 d3) (fun z2 => t78 d3 (fun q => q.elim (fun e => absurd e z1) (fun e => absurd e z2))))
  have t38 : wX_derive_38 post kind 0 a b hc 1 lv cl kn vn oc a1 a2 a3 a4 a5 a6 a7 a8 a9 a10 a11 a12 a13 a14 a15 a16 a17 a18 a19 a20 a21 a22 a23 a24 a25 := by
    refine br_c (fun z => br_f (by decide) ?_) (fun z1 => br_c (fun z => br_f (by decide) ?_) (fun z2 => br_c (fun z => br_f (by decide) ?_) (fun z3 => br_t rfl (t56 (fun q => q.elim (fun e => absurd e z1) (fun q => q.elim (fun e => absurd e z2) (fun e => absurd e z3)))))))
    · exact br_c (fun _ => br_t rfl H) (fun y1 => br_c (fun _ => br_t rfl H) (fun y2 => br_f (by decide) (t56 (fun _ => ln_a0 y1 y2))))
    · exact br_c (fun _ => br_t rfl H) (fun y1 => br_c (fun _ => br_t rfl H) (fun y2 => br_f (by decide) (t56 (fun _ => ln_a0 y1 y2))))
    · exact br_c (fun _ => br_t rfl H) (fun y1 => br_c (fun _ => br_t rfl H) (fun y2 => br_f (by decide) (t56 (fun _ => ln_a0 y1 y2))))
  exact br_c (fun _ => t38) (fun _ => br_f (by decide) (br_f (by decide) (br_f (by decide) t38)))
/-- derive(kind, 0, a, b), the second, where it is taken -/
theorem ln_der1 {post : Int32 → St2 → Prop} {cl kn vn oc : Int32} {a1 a2 a3 a4 a5 a6 a7 a8 a9 a10 a11 a12 a13 a14 a15 a16 a17 a18 a19 a20 a21 a22 a23 a24 a25 : Nat → Int32} {g k : Nat} {value kind a b : Int32} (hD : ln_D kind a)
    (h3 : a3 0 = 0) (h7 : a7 0 = nI g) (h8 : g = 1 → a8 0 = nI k ∧ a9 0 = value) (h10 : a10 0 = 0) (h14 : a14 0 = 0) (h15 : a15 0 = 0)
    (H : ∀ b3 b4 b5 b6 b7 b10 b14 b15 b16 : Nat → Int32, ln_P g k value kind a b 2 2 b3 b4 b5 b6 b7 a8 a9 b15 → ln_E b10 b14 b16 →
      post 1 (0, 2, 2, cl, kn, vn, oc, a1, a2, b3, b4, b5, b6, b7, a8, a9, b10, a11, a12, a13, b14, b15, b16, a17, a18, a19, a20, a21, a22, a23, a24, a25)) :
    wpX_derive post (0, 1, 2, cl, kn, vn, oc, a1, a2, a3, a4, a5, a6, a7, a8, a9, a10, a11, a12, a13, a14, a15, a16, a17, a18, a19, a20, a21, a22, a23, a24, a25) kind 0 a b := by
  refine ln_derY hD ?_
  have hkind : kind.toInt8.toInt32 = kind := by
    obtain ⟨j, hj, e⟩ := nI_of2 (M := 11) (n := 11) (by decide) hD.1 (Int32.not_lt.mp hD.2.1)
    rw [e]
    exact ln_b64 j (by omega)
  refine nm_r (e' := 2) (by decide) ⟨ln_i1, ?_⟩
  intro b3 e3
  refine ⟨ln_i1, ?_⟩
  intro b4 e4
  refine ⟨ln_i1, ?_⟩
  intro b5 e5
  refine ⟨ln_i1, ?_⟩
  intro b6 e6
  refine ln_forget (d := 1) (by omega) ⟨ln_i1, ?_⟩
  intro b15 e15
  refine ⟨ln_i1, ?_⟩
  intro b16 e16
  have f3 : b3 0 = 0 := by
    rw [e3, ln_c1]
    exact (pk_un (by omega)).trans h3
  have f3' : b3 1 = kind := by
    rw [e3, ln_c1]
    exact pk_us.trans hkind
  have f4 : b4 1 = 0 := by
    rw [e4, ln_c1]
    exact pk_us.trans (by decide)
  have f5 : b5 1 = a := by
    rw [e5, ln_c1]
    exact pk_us
  have f6 : b6 1 = b := by
    rw [e6, ln_c1]
    exact pk_us
  have f15 : b15 0 = 0 := by
    rw [e15, ln_c1]
    exact (pk_un (by omega)).trans h15
  have f15' : b15 1 = 0 := by
    rw [e15, ln_c1]
    exact pk_us
  have f16 : ¬ b16 1 = 2 := by
    rw [e16, ln_c1, pk_us]
    decide
  have fE : ln_E (upd a10 1 0) (upd a14 1 0) b16 := ⟨(pk_un (by omega)).trans h10, pk_us, (pk_un (by omega)).trans h14, pk_us, f16⟩
  refine br_c (fun z => ?_) (fun z => ?_)
  · exact ln_hand1 (fun b7 k0 k1 => H b3 b4 b5 b6 b7 _ _ b15 b16 ⟨rfl, rfl, f3, f3', f4, f5, f6, k0.trans h7, fun _ => k1, h8, f15, f15'⟩ fE)
  · exact H b3 b4 b5 b6 a7 _ _ b15 b16 ⟨rfl, rfl, f3, f3', f4, f5, f6, h7, fun q => absurd q z, h8, f15, f15'⟩ fE
end
section
/-! the law -/
theorem ln_init {post : St2 → Prop} (H : post (0, 0, 2, 0, 0, 0, 0, fun _ => 0, fun _ => 0, fun _ => 0, fun _ => 0, fun _ => 0, fun _ => 0, fun _ => 0, fun _ => 0, fun _ => 0, fun _ => 0, fun _ => 0, fun _ => 0, fun _ => 0, fun _ => 0, fun _ => 0, fun _ => 0, fun _ => 0, fun _ => 0, fun _ => 0, fun _ => 0, fun _ => 0, fun _ => 0, fun _ => 0, fun _ => 0, fun _ => 0)) : wpX_init post 25 3472 (0, 0, 0, 0, 0, 0, 0) := by
  unfold wpX_init
  dsimp only
  repeat (refine And.intro (by omega) ?_)
  exact H
theorem ln_402 {post : Int32 → St0 → Prop} {mc ms kc ks : Nat} {z w : Int32} (e : w = z) (hp : post 1 ()) : wL_lawOf_402 post mc ms z w kc ks := br_t e hp
/-- from the first derive on, where the second is taken -/
theorem ln_273Y {post : Int32 → St0 → Prop} {cl kn vn oc : Int32} {a1 a2 a3 a4 a5 a6 a7 a8 a9 a10 a11 a12 a13 a14 a15 a16 a17 a18 a19 a20 a21 a22 a23 a24 a25 : Nat → Int32} {mc ms kc ks g k n kk : Nat} {x0 value kind a b vv z : Int32} (hg : g = 0 ∨ g = 1) (hk : k < 16) (hn : n ≤ 3) (hkk : kk < 16) (hD : ln_D kind a)
    (hM : ln_mk g k value kind a b n kk vv) (h1 : g = 1 → a1 0 = nI k ∧ a2 0 = value)
    (hkey : ¬ n = 0 → nI kk = if kind = 3 then (x0 * a + b) &&& 15 else if kind = 11 then value &&& 15 else x0) (hp : post 1 ()) :
    wL_lawOf_273 post mc ms x0 value kind a b 1 (nI n) (ln_sum vv n) z z kc ks (nI g) 0 2 cl kn vn oc a1 a2 a3 a4 a5 a6 a7 a8 a9 a10 a11 a12 a13 a14 a15 a16 a17 a18 a19 a20 a21 a22 a23 a24 a25 := by
  refine br_t rfl ?_
  refine ln_der0 hg hk h1 ?_
  intro b3 b4 b5 b6 b7 b8 b9 b10 b14 b15 b16 k3 k7 k8 k10 k14 k15
  refine br_t rfl ?_
  refine ln_der1 hD k3 k7 k8 k10 k14 k15 ?_
  intro b3 b4 b5 b6 b7 b10 b14 b15 b16 hP hE
  refine br_f (by decide) (br_t rfl ?_)
  refine ln_count hg hk hP hD.2.2.1 hM hE ?_
  intro c x y b10 b11 b12 b13 b14 b16 b17 b18 b19 b20 b21 b22 b23 hE
  refine br_f (by decide) (br_t rfl ?_)
  refine ln_total hg hk hn hP hD.2.2.1 hM hE ?_
  intro c x y b10 b11 b12 b13 b14 b16 b17 b18 b19 b20 b21 b22 b23 hE
  refine br_t rfl ?_
  refine ln_key hg hk hn hkk hP hD.2.2.1 hM hE ?_ ?_
  · intro n0 u
    obtain ⟨hc', sc', lv', cl', kn', vn', oc', d1, d2, d3, d4, d5, d6, d7, d8, d9, d10, d11, d12, d13, d14, d15, d16, d17, d18, d19, d20, d21, d22, d23, d24, d25⟩ := u
    exact br_t (by rw [n0]; rfl) (ln_402 rfl hp)
  · intro n0 u
    obtain ⟨hc', sc', lv', cl', kn', vn', oc', d1, d2, d3, d4, d5, d6, d7, d8, d9, d10, d11, d12, d13, d14, d15, d16, d17, d18, d19, d20, d21, d22, d23, d24, d25⟩ := u
    have e := hkey n0
    refine br_f (nI_ne0 (by omega) (by omega)) (br_c (fun z => ?_) (fun z => br_c (fun w => ?_) (fun w => ?_)))
    · rw [if_pos z] at e
      exact ln_402 e hp
    · rw [if_neg z, if_pos w] at e
      exact ln_402 e hp
    · rw [if_neg z, if_neg w] at e
      exact ln_402 e hp
theorem ln_countN {post : Int32 → St2 → Prop} {hc lv cl kn vn oc : Int32} {a1 a2 a3 a4 a5 a6 a7 a8 a9 a10 a11 a12 a13 a14 a15 a16 a17 a18 a19 a20 a21 a22 a23 a24 a25 : Nat → Int32} (H : post (-1) (hc, 1, lv, cl, kn, vn, oc, a1, a2, a3, a4, a5, a6, a7, a8, a9, a10, a11, a12, a13, a14, a15, a16, a17, a18, a19, a20, a21, a22, a23, a24, a25)) : wpX_count post (hc, 1, lv, cl, kn, vn, oc, a1, a2, a3, a4, a5, a6, a7, a8, a9, a10, a11, a12, a13, a14, a15, a16, a17, a18, a19, a20, a21, a22, a23, a24, a25) 1 := by
  unfold wpX_count
  exact ln_set0 (br_t rfl H)
theorem ln_totalN {post : Int32 → St2 → Prop} {hc lv cl kn vn oc : Int32} {a1 a2 a3 a4 a5 a6 a7 a8 a9 a10 a11 a12 a13 a14 a15 a16 a17 a18 a19 a20 a21 a22 a23 a24 a25 : Nat → Int32} (H : post 0 (hc, 1, lv, cl, kn, vn, oc, a1, a2, a3, a4, a5, a6, a7, a8, a9, a10, a11, a12, a13, a14, a15, a16, a17, a18, a19, a20, a21, a22, a23, a24, a25)) : wpX_total post (hc, 1, lv, cl, kn, vn, oc, a1, a2, a3, a4, a5, a6, a7, a8, a9, a10, a11, a12, a13, a14, a15, a16, a17, a18, a19, a20, a21, a22, a23, a24, a25) 1 := by
  unfold wpX_total
  exact ln_set0 (br_t rfl H)
theorem ln_keyN {post : Int32 → St2 → Prop} {hc lv cl kn vn oc : Int32} {a1 a2 a3 a4 a5 a6 a7 a8 a9 a10 a11 a12 a13 a14 a15 a16 a17 a18 a19 a20 a21 a22 a23 a24 a25 : Nat → Int32} (H : post (-1) (hc, 1, lv, cl, kn, vn, oc, a1, a2, a3, a4, a5, a6, a7, a8, a9, a10, a11, a12, a13, a14, a15, a16, a17, a18, a19, a20, a21, a22, a23, a24, a25)) : wpX_keyOf post (hc, 1, lv, cl, kn, vn, oc, a1, a2, a3, a4, a5, a6, a7, a8, a9, a10, a11, a12, a13, a14, a15, a16, a17, a18, a19, a20, a21, a22, a23, a24, a25) 1 0 := by
  unfold wpX_keyOf
  exact ln_set0 (br_t rfl H)
/-- from the first derive on, where the second is refused -/
theorem ln_273N {post : Int32 → St0 → Prop} {cl kn vn oc : Int32} {a1 a2 a3 a4 a5 a6 a7 a8 a9 a10 a11 a12 a13 a14 a15 a16 a17 a18 a19 a20 a21 a22 a23 a24 a25 : Nat → Int32} {mc ms kc ks g k : Nat} {x0 value kind a b z : Int32} (hg : g = 0 ∨ g = 1) (hk : k < 16) (hD : ¬ ln_D kind a)
    (h1 : g = 1 → a1 0 = nI k ∧ a2 0 = value) (hp : post 1 ()) :
    wL_lawOf_273 post mc ms x0 value kind a b 0 0 0 z z kc ks (nI g) 0 2 cl kn vn oc a1 a2 a3 a4 a5 a6 a7 a8 a9 a10 a11 a12 a13 a14 a15 a16 a17 a18 a19 a20 a21 a22 a23 a24 a25 := by
  refine br_t rfl ?_
  refine ln_der0 hg hk h1 ?_
  intro b3 b4 b5 b6 b7 b8 b9 b10 b14 b15 b16 k3 k7 k8 k10 k14 k15
  refine br_t rfl ?_
  refine ln_derN hD ?_
  refine br_t rfl (br_t rfl ?_)
  refine ln_countN ?_
  refine br_t rfl (br_t rfl ?_)
  refine ln_totalN ?_
  refine br_t rfl ?_
  refine ln_keyN ?_
  exact br_t rfl (ln_402 rfl hp)
theorem ln_247Y {post : Int32 → St0 → Prop} {g k n kk : Nat} {x0 value kind a b vv : Int32} (hg : (g = 1 ∧ x0 = nI k) ∨ (g = 0 ∧ (x0 < 0 ∨ 15 < x0))) (hk : k < 16) (hn : n ≤ 3) (hkk : kk < 16) (hD : ln_D kind a)
    (hM : ln_mk g k value kind a b n kk vv)
    (hkey : ¬ n = 0 → nI kk = if kind = 3 then (x0 * a + b) &&& 15 else if kind = 11 then value &&& 15 else x0) (hp : post 1 ()) :
    wL_lawOf_247 post 986 15760 x0 value kind a b (nI g) 1 (nI n) (ln_sum vv n) 0 0 := by
  refine ⟨by omega, by omega, 25, 3472, by omega, by omega, ln_init ?_⟩
  rcases hg with ⟨rfl, rfl⟩ | ⟨rfl, hx⟩
  · refine ln_rowG hk (fun b1 b2 e1 e2 => br_f (by decide) ?_)
    exact ln_273Y (Or.inr rfl) hk hn hkk hD hM (fun _ => ⟨e1, e2⟩) hkey hp
  · refine ln_rowB hx (br_t rfl ?_)
    exact ln_273Y (g := 0) (k := k) (Or.inl rfl) hk hn hkk hD hM (fun z => absurd z (by omega)) hkey hp
theorem ln_247N {post : Int32 → St0 → Prop} {g k : Nat} {x0 value kind a b : Int32} (hg : (g = 1 ∧ x0 = nI k) ∨ (g = 0 ∧ (x0 < 0 ∨ 15 < x0))) (hk : k < 16) (hD : ¬ ln_D kind a) (hp : post 1 ()) :
    wL_lawOf_247 post 986 15760 x0 value kind a b (nI g) 0 0 0 0 0 := by
  refine ⟨by omega, by omega, 25, 3472, by omega, by omega, ln_init ?_⟩
  rcases hg with ⟨rfl, rfl⟩ | ⟨rfl, hx⟩
  · refine ln_rowG hk (fun b1 b2 e1 e2 => br_f (by decide) ?_)
    exact ln_273N (Or.inr rfl) hk hD (fun _ => ⟨e1, e2⟩) hp
  · refine ln_rowB hx (br_t rfl ?_)
    exact ln_273N (g := 0) (k := k) (Or.inl rfl) hk hD (fun z => absurd z (by omega)) hp
theorem ln_207 {post : Int32 → St0 → Prop} {mc ms kc ks n : Nat} {x0 x1 x2 x3 x4 x5 x6 v : Int32} (hn : n ≤ 3) (H : wL_lawOf_247 post mc ms x0 x1 x2 x3 x4 x5 x6 (nI n) (ln_sum v n) kc ks) :
    wL_lawOf_207 post mc ms x0 x1 x2 x3 x4 x5 x6 v (nI n) kc ks := by
  have z : ln_sum v 1 = v := Int32.zero_add v
  have hn' : n = 0 ∨ n = 1 ∨ n = 2 ∨ n = 3 := by omega
  rcases hn' with rfl | rfl | rfl | rfl
  · exact br_t (by decide) (br_t (by decide) (br_t (by decide) H))
  · rw [z] at H
    exact br_f (by decide) (br_t (by decide) (br_t (by decide) H))
  · have z2 : ln_sum v 2 = v + v := by
      show ln_sum v 1 + v = v + v
      rw [z]
    rw [z2] at H
    exact br_f (by decide) (br_f (by decide) (nm_e (br_t (by decide) H)))
  · have z3 : ln_sum v 3 = v + v + v := by
      show ln_sum v 1 + v + v = v + v + v
      rw [z]
    rw [z3] at H
    exact br_f (by decide) (br_f (by decide) (nm_e (br_f (by decide) (nm_e H))))
theorem ln_189Y {post : Int32 → St0 → Prop} {mc ms kc ks g c : Nat} {x0 x1 x2 x3 x4 v : Int32} (hg : g = 0 ∨ g = 1) (hc : c ≤ 3)
    (H : wL_lawOf_247 post mc ms x0 x1 x2 x3 x4 (nI g) 1 (nI (g * c)) (ln_sum v (g * c)) kc ks) :
    wL_lawOf_189 post mc ms x0 x1 x2 x3 x4 (nI g) 1 (nI c) v kc ks := by
  rcases hg with rfl | rfl
  · rw [Nat.zero_mul] at H
    exact br_t rfl (ln_207 (n := 0) (by omega) H)
  · rw [Nat.one_mul] at H
    exact br_f (by decide) (br_f (by decide) (ln_207 hc H))
theorem ln_90N {post : Int32 → St0 → Prop} {mc ms kc ks : Nat} {x0 x1 x2 x3 x4 x5 : Int32}
    (H : wL_lawOf_247 post mc ms x0 x1 x2 x3 x4 x5 0 0 0 kc ks) : wL_lawOf_90 post mc ms x0 x1 x2 x3 x4 x5 0 kc ks := by
  have t206 : ∀ v : Int32, wL_lawOf_206 post mc ms x0 x1 x2 x3 x4 x5 0 v kc ks := fun v => ln_207 (n := 0) (by omega) H
  have t189 : ∀ c v : Int32, wL_lawOf_189 post mc ms x0 x1 x2 x3 x4 x5 0 c v kc ks := fun c v => br_c (fun _ => t206 v) (fun _ => br_t rfl (t206 v))
  have t166 : ∀ c : Int32, wL_lawOf_166 post mc ms x0 x1 x2 x3 x4 x5 0 c kc ks := fun c => br_c (fun _ => t189 c _) (fun _ => br_c (fun _ => t189 c _) (fun _ => t189 c _))
  have t135 : ∀ c : Int32, wL_lawOf_135 post mc ms x0 x1 x2 x3 x4 x5 0 c kc ks := fun c => br_c (fun _ => t189 c _) (fun _ => br_c (fun _ => br_c (fun _ => t189 c _) (fun _ => t166 c)) (fun _ => t166 c))
  have t112 : wL_lawOf_112 post mc ms x0 x1 x2 x3 x4 x5 0 kc ks := t135 0
  have t116 : wL_lawOf_116 post mc ms x0 x1 x2 x3 x4 x5 0 kc ks := br_c (fun _ => t135 _) (fun _ => br_c (fun _ => t135 _) (fun _ => t135 _))
  exact br_c (fun _ => t112) (fun _ => br_c (fun _ => t112) (fun _ => br_c (fun _ => br_c (fun _ => t116) (fun _ => t112)) (fun _ => t116)))
theorem ln_15Y {post : Int32 → St0 → Prop} {mc ms kc ks : Nat} {x0 x1 x2 x3 x4 x5 : Int32} (hD : ln_D x2 x3) (H : wL_lawOf_90 post mc ms x0 x1 x2 x3 x4 x5 1 kc ks) : wL_lawOf_15 post mc ms x0 x1 x2 x3 x4 x5 kc ks := by
  obtain ⟨d1, d2, d3, d4, d5⟩ := hD
  have t68 : wL_lawOf_68 post mc ms x0 x1 x2 x3 x4 x5 kc ks := br_c (fun z => br_f (d5 z).1 (br_f (d5 z).2 H)) (fun _ => H)
  have t59 : (x2 = 4 ∨ x2 = 6) → wL_lawOf_59 post mc ms x0 x1 x2 x3 x4 x5 kc ks := fun z => br_f (d4 z).1 (br_f (d4 z).2 t68)
  have t48 : wL_lawOf_48 post mc ms x0 x1 x2 x3 x4 x5 kc ks := br_c (fun z => t59 (Or.inl z)) (fun _ => br_c (fun z => t59 (Or.inr z)) (fun _ => t68))
  have t44 : (x2 = 5 ∨ x2 = 7 ∨ x2 = 9) → wL_lawOf_44 post mc ms x0 x1 x2 x3 x4 x5 kc ks := fun z => br_t (d3 z) t48
  exact br_f d1 (br_f d2 (br_c (fun z => t44 (Or.inl z)) (fun _ => br_c (fun z => t44 (Or.inr (Or.inl z))) (fun _ => br_c (fun z => t44 (Or.inr (Or.inr z))) (fun _ => t48)))))
theorem ln_15N {post : Int32 → St0 → Prop} {mc ms kc ks : Nat} {x0 x1 x2 x3 x4 x5 : Int32} (hD : ¬ ln_D x2 x3) (H : wL_lawOf_90 post mc ms x0 x1 x2 x3 x4 x5 0 kc ks) : wL_lawOf_15 post mc ms x0 x1 x2 x3 x4 x5 kc ks := by
  refine br_c (fun _ => H) (fun d1 => br_c (fun _ => H) (fun d2 => ?_))
  have t68 : (x2 = 5 ∨ x2 = 7 ∨ x2 = 9 → x3 = 0) → (x2 = 4 ∨ x2 = 6 → ¬ x3 < 0 ∧ ¬ 3 < x3) → wL_lawOf_68 post mc ms x0 x1 x2 x3 x4 x5 kc ks := fun d3 d4 =>
    br_c (fun _ => br_c (fun _ => H) (fun z1 => br_c (fun _ => H) (fun z2 => absurd ⟨d1, d2, d3, d4, fun _ => ⟨z1, z2⟩⟩ hD))) (fun z => absurd ⟨d1, d2, d3, d4, fun q => absurd q z⟩ hD)
  have t59 : (x2 = 5 ∨ x2 = 7 ∨ x2 = 9 → x3 = 0) → wL_lawOf_59 post mc ms x0 x1 x2 x3 x4 x5 kc ks := fun d3 =>
    br_c (fun _ => H) (fun z1 => br_c (fun _ => H) (fun z2 => t68 d3 (fun _ => ⟨z1, z2⟩)))
  have t48 : (x2 = 5 ∨ x2 = 7 ∨ x2 = 9 → x3 = 0) → wL_lawOf_48 post mc ms x0 x1 x2 x3 x4 x5 kc ks := fun d3 =>
    br_c (fun _ => t59 d3) (fun z1 => br_c (fun _ => t59 d3) (fun z2 => t68 d3 (fun q => q.elim (fun e => absurd e z1) (fun e => absurd e z2))))
  have t44 : wL_lawOf_44 post mc ms x0 x1 x2 x3 x4 x5 kc ks := br_c (fun z => t48 (fun _ => z)) (fun _ => H)
  exact br_c (fun _ => t44) (fun z1 => br_c (fun _ => t44) (fun z2 => br_c (fun _ => t44) (fun z3 => t48 (fun q => q.elim (fun e => absurd e z1) (fun q => q.elim (fun e => absurd e z2) (fun e => absurd e z3))))))
/-- the law's count and value, a kind at a time -/
theorem ln_90Y {post : Int32 → St0 → Prop} {g k : Nat} {x0 value kind a b : Int32} (hg : (g = 1 ∧ x0 = nI k) ∨ (g = 0 ∧ (x0 < 0 ∨ 15 < x0))) (hk : k < 16) (hD : ln_D kind a) (hp : post 1 ()) :
    wL_lawOf_90 post 986 15760 x0 value kind a b (nI g) 1 0 0 := by
  have hg' : g = 0 ∨ g = 1 := hg.elim (fun e => Or.inr e.1) (fun e => Or.inl e.1)
  have key : ∀ n : Nat, ¬ g * n = 0 → nI k = x0 := by
    intro n hn
    rcases hg with e | e
    · exact e.2.symm
    · rw [e.1, Nat.zero_mul] at hn
      exact absurd rfl hn
  have le3 : ∀ c : Nat, c ≤ 3 → g * c ≤ 3 := by
    intro c hc
    rcases hg' with e | e <;> rw [e] <;> omega
  have fin : ∀ (c kk : Nat) (vv : Int32), c ≤ 3 → kk < 16 → ln_mk g k value kind a b (g * c) kk vv → (¬ g * c = 0 → nI kk = if kind = 3 then (x0 * a + b) &&& 15 else if kind = 11 then value &&& 15 else x0) →
      wL_lawOf_189 post 986 15760 x0 value kind a b (nI g) 1 (nI c) vv 0 0 :=
    fun c kk vv hc hkk hM hkey => ln_189Y hg' hc (ln_247Y hg hk (le3 c hc) hkk hD hM hkey hp)
  obtain ⟨j, hj, rfl⟩ := nI_of2 (M := 11) (n := 11) (by decide) hD.1 (Int32.not_lt.mp hD.2.1)
  have hj' : j = 0 ∨ j = 1 ∨ j = 2 ∨ j = 3 ∨ j = 4 ∨ j = 5 ∨ j = 6 ∨ j = 7 ∨ j = 8 ∨ j = 9 ∨ j = 10 ∨ j = 11 := by omega
  have m1 : g * 1 = g := Nat.mul_one g
  rcases hj' with rfl | rfl | rfl | rfl | rfl | rfl | rfl | rfl | rfl | rfl | rfl | rfl
  · exact br_t rfl (br_f (by decide) (br_f (by decide) (br_f (by decide) (br_f (by decide) (fin 0 0 value (by omega) (by omega) ln_k0 (fun z => absurd rfl z))))))
  · refine br_f (by decide) (br_f (by decide) (br_f (by decide) (br_f (by decide) (br_f (by decide) (br_t rfl (fin 1 k (value * a + b) (by omega) hk ?_ ?_))))))
    · rw [m1]
      exact ln_k1 hg' hk
    · intro z
      rw [if_neg (by decide), if_neg (by decide)]
      exact key 1 z
  · refine br_f (by decide) (br_f (by decide) (br_t rfl (br_c (fun z => ?_) (fun z => ?_))))
    · refine br_f (by decide) (br_f (by decide) (br_f (by decide) (br_f (by decide) (br_f (by decide) (br_f (by decide) (fin 1 k value (by omega) hk ?_ ?_))))))
      · rw [m1]
        exact ln_k2t hg' hk (Int32.not_lt.mpr z)
      · intro y
        rw [if_neg (by decide), if_neg (by decide)]
        exact key 1 y
    · exact br_f (by decide) (br_f (by decide) (br_f (by decide) (br_f (by decide) (fin 0 0 value (by omega) (by omega) (ln_k2f hg' (Int32.not_le.mp z)) (fun z => absurd rfl z)))))
  · obtain ⟨kk, hkk, e⟩ := pk_andE (nI k * a + b) (m := 15) 4 (by decide)
    refine br_f (by decide) (br_f (by decide) (br_f (by decide) (br_f (by decide) (br_f (by decide) (br_f (by decide) (br_f (by decide) (br_f (by decide) (br_f (by decide) (fin 1 kk value (by omega) hkk ?_ ?_)))))))))
    · rw [m1]
      exact ln_k3 hg' hkk e
    · intro y
      rw [if_pos (by decide), ← key 1 y]
      exact e.symm
  · obtain ⟨q1, q2⟩ := hD.2.2.2.1 (Or.inl rfl)
    obtain ⟨t, ht, rfl⟩ := nI_of2 (M := 3) (n := 3) (by decide) q1 (Int32.not_lt.mp q2)
    refine br_f (by decide) (br_f (by decide) (br_f (by decide) (br_t rfl (br_f (by decide) (br_f (by decide) (br_f (by decide) (br_f (by decide) (fin t k value ht hk (ln_k4 hg' hk ht) ?_))))))))
    intro y
    rw [if_neg (by decide), if_neg (by decide)]
    exact key t y
  · have e : a = 0 := hD.2.2.1 (Or.inl rfl)
    subst e
    refine br_f (by decide) (br_f (by decide) (br_f (by decide) (br_f (by decide) (br_t rfl (br_f (by decide) (br_f (by decide) (br_f (by decide) (br_f (by decide) (fin 2 k value (by omega) hk (ln_k5 hg' hk) ?_)))))))))
    intro y
    rw [if_neg (by decide), if_neg (by decide)]
    exact key 2 y
  · refine br_f (by decide) (br_f (by decide) (br_f (by decide) (br_f (by decide) (br_f (by decide) (br_f (by decide) (br_t rfl (br_c (fun z => ?_) (fun z => ?_))))))))
    · refine fin 1 k 1 (by omega) hk ?_ ?_
      · rw [m1]
        have h := ln_k6 (value := value) (a := a) (b := b) hg' hk
        rw [if_pos z] at h
        exact h
      · intro y
        rw [if_neg (by decide), if_neg (by decide)]
        exact key 1 y
    · refine br_f (by decide) (br_f (by decide) (fin 1 k value (by omega) hk ?_ ?_))
      · rw [m1]
        have h := ln_k6 (value := value) (a := a) (b := b) hg' hk
        rw [if_neg z] at h
        exact h
      · intro y
        rw [if_neg (by decide), if_neg (by decide)]
        exact key 1 y
  · have e : a = 0 := hD.2.2.1 (Or.inr (Or.inl rfl))
    subst e
    refine br_f (by decide) (br_f (by decide) (br_f (by decide) (br_f (by decide) (br_f (by decide) (br_f (by decide) (br_f (by decide) (br_t rfl (fin 1 k (value + value) (by omega) hk ?_ ?_))))))))
    · rw [m1]
      exact ln_k7 hg' hk
    · intro y
      rw [if_neg (by decide), if_neg (by decide)]
      exact key 1 y
  · refine br_f (by decide) (br_f (by decide) (br_f (by decide) (br_f (by decide) (br_f (by decide) (br_f (by decide) (br_f (by decide) (br_f (by decide) (br_f (by decide) (fin 1 k value (by omega) hk ?_ ?_)))))))))
    · rw [m1]
      exact ln_k8 hg' hk
    · intro y
      rw [if_neg (by decide), if_neg (by decide)]
      exact key 1 y
  · have e : a = 0 := hD.2.2.1 (Or.inr (Or.inr rfl))
    subst e
    exact br_f (by decide) (br_t rfl (br_f (by decide) (br_f (by decide) (br_f (by decide) (br_f (by decide) (fin 0 0 value (by omega) (by omega) (ln_k9 hg' hk) (fun z => absurd rfl z)))))))
  · obtain ⟨q1, q2⟩ := hD.2.2.2.2 rfl
    have ha : ¬ a ≤ 0 := fun z => q1 (Int32.lt_of_le_of_lt z (by decide))
    refine br_f (by decide) (br_f (by decide) (br_f (by decide) (br_f (by decide) (br_f (by decide) (br_f (by decide) (br_f (by decide) (br_f (by decide) (br_f (by decide) (fin 1 k value (by omega) hk ?_ ?_)))))))))
    · rw [m1]
      exact ln_k10 hg' hk ha
    · intro y
      rw [if_neg (by decide), if_neg (by decide)]
      exact key 1 y
  · obtain ⟨kk, hkk, e⟩ := pk_andE value (m := 15) 4 (by decide)
    refine br_f (by decide) (br_f (by decide) (br_f (by decide) (br_f (by decide) (br_f (by decide) (br_f (by decide) (br_f (by decide) (br_f (by decide) (br_t rfl (fin 1 kk x0 (by omega) hkk ?_ ?_)))))))))
    · rw [m1]
      exact ln_k11 hg' hkk e (fun g1 => key 1 (by rw [g1]; decide))
    · intro y
      rw [if_neg (by decide), if_pos (by decide)]
      exact e.symm
theorem ln_15 {post : Int32 → St0 → Prop} {g k : Nat} {x0 value kind a b : Int32} (hg : (g = 1 ∧ x0 = nI k) ∨ (g = 0 ∧ (x0 < 0 ∨ 15 < x0))) (hk : k < 16) (hp : post 1 ()) :
    wL_lawOf_15 post 986 15760 x0 value kind a b (nI g) 0 0 := by
  by_cases hD : ln_D kind a
  · exact ln_15Y hD (ln_90Y hg hk hD hp)
  · exact ln_15N hD (ln_90N (ln_247N hg hk hD hp))
theorem ln_lawOf {post : Int32 → St0 → Prop} {x0 value kind a b : Int32} (hp : post 1 ()) : wpL_lawOf post 986 15760 () x0 value kind a b := by
  refine br_c (fun z => ?_) (fun z => br_c (fun y => ?_) (fun y => ?_))
  · exact ln_15 (g := 0) (k := 0) (Or.inr ⟨rfl, Or.inl z⟩) (by omega) hp
  · exact ln_15 (g := 0) (k := 0) (Or.inr ⟨rfl, Or.inr y⟩) (by omega) hp
  · obtain ⟨k, hk, e⟩ := nI_of2 (M := 15) (n := 15) (by decide) z (Int32.not_lt.mp y)
    exact ln_15 (g := 1) (k := k) (Or.inl ⟨rfl, e⟩) (by omega) hp
theorem ln_cell {post : Int32 → Prop} {L : Nat} {xs : Nat → Int32} (hL : L ≤ 5) (j : Nat) (hj : j < 5) (H : ∀ r, post r) : wpL_cellAt post L xs () (nI j) :=
  pk_le L j (fun _ => H 0) (fun z => ⟨pk_in j L z, H _⟩)
theorem i_vc (xs : Nat → Int32) (L : Nat) (hL : L ≤ 5) : wpL_law (fun r => r = 1) L xs :=
  ln_cell hL 0 (by omega) (fun _ => ln_cell hL 1 (by omega) (fun _ => ln_cell hL 2 (by omega) (fun _ => ln_cell hL 3 (by omega) (fun _ => ln_cell hL 4 (by omega) (fun _ =>
    ⟨986, 15760, by omega, by omega, ln_lawOf rfl⟩)))))
end
