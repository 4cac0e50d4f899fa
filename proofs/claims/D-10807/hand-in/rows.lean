section
/-- comparisons against a literal, read as whole numbers -/
theorem cy_beq {x c : Int32} {A B : Prop} (z : Int) (f : x.toInt = z → A) (g : ¬ x.toInt = z → B) (hz : c.toInt = z := by decide) : (x = c → A) ∧ (¬ x = c → B) :=
  ⟨fun h => f (by rw [h, hz]), fun h => g (fun e => h (Int32.toInt_inj.mp (by rw [e, hz])))⟩
theorem cy_blt {x c : Int32} {A B : Prop} (z : Int) (f : x.toInt < z → A) (g : z ≤ x.toInt → B) (hz : c.toInt = z := by decide) : (x < c → A) ∧ (¬ x < c → B) :=
  ⟨fun h => f (by rw [← hz]; exact Int32.lt_iff_toInt_lt.mp h), fun h => g (by rw [← hz]; exact Int.not_lt.mp (fun e => h (Int32.lt_iff_toInt_lt.mpr e)))⟩
theorem cy_bgt {x c : Int32} {A B : Prop} (z : Int) (f : z < x.toInt → A) (g : x.toInt ≤ z → B) (hz : c.toInt = z := by decide) : (c < x → A) ∧ (¬ c < x → B) :=
  ⟨fun h => f (by rw [← hz]; exact Int32.lt_iff_toInt_lt.mp h), fun h => g (by rw [← hz]; exact Int.not_lt.mp (fun e => h (Int32.lt_iff_toInt_lt.mpr e)))⟩
theorem cy_ble {x c : Int32} {A B : Prop} (z : Int) (f : x.toInt ≤ z → A) (g : z < x.toInt → B) (hz : c.toInt = z := by decide) : (x ≤ c → A) ∧ (¬ x ≤ c → B) :=
  ⟨fun h => f (by rw [← hz]; exact Int32.le_iff_toInt_le.mp h), fun h => g (by rw [← hz]; exact Int.not_le.mp (fun e => h (Int32.le_iff_toInt_le.mpr e)))⟩
theorem cy_bge {x c : Int32} {A B : Prop} (z : Int) (f : z ≤ x.toInt → A) (g : x.toInt < z → B) (hz : c.toInt = z := by decide) : (c ≤ x → A) ∧ (¬ c ≤ x → B) :=
  ⟨fun h => f (by rw [← hz]; exact Int32.le_iff_toInt_le.mp h), fun h => g (by rw [← hz]; exact Int.not_le.mp (fun e => h (Int32.le_iff_toInt_le.mpr e)))⟩
theorem cy_in {post : Int32 → Prop} {u : St0} {x a b : Int32} (za zb : Int) (f : za ≤ x.toInt → x.toInt < zb → post 1) (g : x.toInt < za ∨ zb ≤ x.toInt → post 0) (ha : a.toInt = za := by decide) (hb : (a + b).toInt = zb := by decide) : wpX_isIn post u x a b :=
  cy_blt za (fun h => g (Or.inl h)) (fun h => cy_bge zb (fun k => g (Or.inr k)) (fun k => f h k) hb) ha
/-- which numbers are statements, which are expressions; parts; whether a part is a statement -/
def cy_sZ (z : Int) : Prop := z = 1 ∨ z = 2 ∨ (9 < z ∧ z < 26) ∨ (29 < z ∧ z < 38) ∨ (38 < z ∧ z < 57) ∨ (59 < z ∧ z < 69)
def cy_eZ (z : Int) : Prop := (99 < z ∧ z < 116) ∨ (119 < z ∧ z < 129) ∨ (129 < z ∧ z < 158) ∨ (209 < z ∧ z < 291)
def cy_pZ (z : Int) (k : Nat) : Prop := k ≤ 4 ∧ (z = 2 → k = 0) ∧ (z = 39 → k = 0) ∧ (cy_sZ z → z ≠ 2 → z ≠ 39 → 0 < k) ∧ (z = 1 → k = 2) ∧ (9 < z → z < 26 → k = 1)
def cy_qZ (z : Int) (s : Int32) : Prop := (z = 1 → s = 1) ∧ (9 < z → z < 26 → s = 0)
theorem cy_isLeaf {post : Int32 → Prop} {u : St0} {t : Int32}
    (f : (99 < t.toInt ∧ t.toInt < 116) ∨ (119 < t.toInt ∧ t.toInt < 128) ∨ (142 < t.toInt ∧ t.toInt < 158) ∨ (209 < t.toInt ∧ t.toInt < 291) → post 1)
    (g : ¬ ((99 < t.toInt ∧ t.toInt < 116) ∨ (119 < t.toInt ∧ t.toInt < 128) ∨ (142 < t.toInt ∧ t.toInt < 158) ∨ (209 < t.toInt ∧ t.toInt < 291)) → post 0) : wpX_isLeaf post u t :=
  cy_in 100 116 (fun h k => br_f (by decide) (f (by omega))) (fun h1 => br_t rfl
    (cy_in 120 124 (fun h k => br_f (by decide) (f (by omega))) (fun h2 => br_t rfl
      (cy_in 124 128 (fun h k => br_f (by decide) (f (by omega))) (fun h3 => br_t rfl
        (cy_in 143 158 (fun h k => br_f (by decide) (f (by omega))) (fun h4 => br_t rfl
          (cy_in 210 291 (fun h k => br_f (by decide) (f (by omega))) (fun h5 => br_t rfl (g (by omega)))))))))))
theorem cy_isExpression {post : Int32 → Prop} {u : St0} {t : Int32} (f : cy_eZ t.toInt → post 1) (g : ¬ cy_eZ t.toInt → post 0) : wpX_isExpression post u t :=
  cy_isLeaf (fun h => br_f (by decide) (f (by unfold cy_eZ; omega))) (fun h => br_t rfl
    (cy_beq 128 (fun e => f (by unfold cy_eZ; omega)) (fun e =>
      cy_in 130 143 (fun h1 k1 => br_f (by decide) (f (by unfold cy_eZ; omega))) (fun h1 => br_t rfl (g (by unfold cy_eZ; omega))))))
theorem cy_isStatement {post : Int32 → Prop} {u : St0} {t : Int32} (f : cy_sZ t.toInt → post 1) (g : ¬ cy_sZ t.toInt → post 0) : wpX_isStatement post u t :=
  cy_beq 1 (fun e => f (by unfold cy_sZ; omega)) (fun e1 =>
    cy_beq 2 (fun e => f (by unfold cy_sZ; omega)) (fun e2 =>
      cy_in 10 26 (fun h k => br_f (by decide) (f (by unfold cy_sZ; omega))) (fun e3 => br_t rfl
        (cy_in 30 38 (fun h k => br_f (by decide) (f (by unfold cy_sZ; omega))) (fun e4 => br_t rfl
          (cy_beq 39 (fun e => f (by unfold cy_sZ; omega)) (fun e5 =>
            cy_in 40 57 (fun h k => br_f (by decide) (f (by unfold cy_sZ; omega))) (fun e6 => br_t rfl
              (cy_in 60 69 (fun h k => br_f (by decide) (f (by unfold cy_sZ; omega))) (fun e7 => br_t rfl (g (by unfold cy_sZ; omega))))))))))))
theorem cy_partsOf {post : Int32 → Prop} {u : St0} {t : Int32} (H : ∀ k : Nat, cy_pZ t.toInt k → post (nI k)) : wpX_partsOf post u t :=
  cy_isLeaf (fun h => br_f (by decide) (H 0 (by unfold cy_pZ cy_sZ; omega))) (fun h => br_t rfl
    (cy_beq 2 (fun e => H 0 (by unfold cy_pZ cy_sZ; omega)) (fun e1 =>
      cy_beq 39 (fun e => H 0 (by unfold cy_pZ cy_sZ; omega)) (fun e2 =>
        cy_beq 128 (fun e => H 1 (by unfold cy_pZ cy_sZ; omega)) (fun e3 =>
          cy_beq 139 (fun e => H 1 (by unfold cy_pZ cy_sZ; omega)) (fun e4 =>
            cy_in 10 26 (fun h k => br_f (by decide) (H 1 (by unfold cy_pZ cy_sZ; omega))) (fun e5 => br_t rfl
              (cy_in 30 34 (fun h k => br_f (by decide) (H 1 (by unfold cy_pZ cy_sZ; omega))) (fun e6 => br_t rfl
                (cy_in 66 69 (fun h k => br_f (by decide) (H 1 (by unfold cy_pZ cy_sZ; omega))) (fun e7 => br_t rfl
                  (cy_beq 56 (fun e => H 4 (by unfold cy_pZ cy_sZ; omega)) (fun e8 =>
                    cy_beq 35 (fun e => H 3 (by unfold cy_pZ cy_sZ; omega)) (fun e9 =>
                      cy_beq 142 (fun e => H 3 (by unfold cy_pZ cy_sZ; omega)) (fun e10 =>
                        cy_in 40 56 (fun h k => br_f (by decide) (H 3 (by unfold cy_pZ cy_sZ; omega))) (fun e11 => br_t rfl
                          (cy_in 63 66 (fun h k => br_f (by decide) (H 3 (by unfold cy_pZ cy_sZ; omega))) (fun e12 => br_t rfl (H 2 (by unfold cy_pZ cy_sZ; omega))))))))))))))))))))
theorem cy_q1 {z : Int} (h : ¬ (9 < z ∧ z < 26)) : cy_qZ z 1 := ⟨fun _ => rfl, fun a b => absurd ⟨a, b⟩ h⟩
theorem cy_q0 {z : Int} (h : z ≠ 1) : cy_qZ z 0 := ⟨fun e => absurd e h, fun _ _ => rfl⟩
theorem cy_part25 {post : Int32 → Prop} {j : Int32} (h0 : post 0) (h1 : post 1) : wX_isStatementPart_25 post j := br_c (fun _ => h0) (fun _ => h1)
theorem cy_isPart {post : Int32 → Prop} {u : St0} {t j : Int32} (h0 : cy_qZ t.toInt 0 → post 0) (h1 : cy_qZ t.toInt 1 → post 1) : wpX_isStatementPart post u t j :=
  cy_beq 1 (fun e => h1 (cy_q1 (by omega))) (fun e1 =>
    cy_beq 35 (fun e => cy_part25 (h0 (cy_q0 e1)) (h1 (cy_q1 (by omega)))) (fun e2 =>
      cy_beq 36 (fun e => cy_part25 (h0 (cy_q0 e1)) (h1 (cy_q1 (by omega)))) (fun e3 =>
        cy_beq 56 (fun e => cy_part25 (h0 (cy_q0 e1)) (h1 (cy_q1 (by omega)))) (fun e4 =>
          cy_beq 37 (fun e => br_c (fun _ => h1 (cy_q1 (by omega))) (fun _ => h0 (cy_q0 e1))) (fun e5 =>
            cy_in 40 56 (fun h k => br_f (by decide) (br_c (fun _ => h1 (cy_q1 (by omega))) (fun _ => h0 (cy_q0 e1)))) (fun e6 => br_t rfl (h0 (cy_q0 e1))))))))
theorem cy_prog {post : Int32 → Prop} {u : St0} {p : Int32} (hp : p = 0 ∨ p = 1) (h : post 1) : wpX_isProgram post u p :=
  br_c (fun _ => h) (fun e => br_t (hp.resolve_left e) h)
theorem cy_progB {post : Int32 → Prop} {u : St0} {p : Int32} (hp : ¬ (p = 0 ∨ p = 1)) (h : post 0) : wpX_isProgram post u p :=
  br_f (fun e => hp (Or.inl e)) (br_f (fun e => hp (Or.inr e)) h)
theorem cy_vin2 {p : Int32} (hp : p = 0 ∨ p = 1) : vp_in p 2 := by
  rcases hp with h | h
  · rw [h]; exact vp_in_nI (n := 0) (by decide) (by decide)
  · rw [h]; exact vp_in_nI (n := 1) (by decide) (by decide)
/-- fixed: running, and p is the active one -/
theorem cy_fixT {post : Int32 → Prop} {p : Int32} {ft fa fr fw fs fd fl fe fh fg fo : Int32} {a1 a2 a3 a4 a5 a6 a7 a8 a9 a10 a11 a12 a13 a14 a15 a16 a17 a18 a19 a20 a21 a22 a23 a24 a25 a26 a27 : Nat → Int32} (hr : ¬ fr = 0) (ha : p = fa) (h : post 1) : wpX_isFixed post (ft, fa, fr, fw, fs, fd, fl, fe, fh, fg, fo, a1, a2, a3, a4, a5, a6, a7, a8, a9, a10, a11, a12, a13, a14, a15, a16, a17, a18, a19, a20, a21, a22, a23, a24, a25, a26, a27) p :=
  br_f hr (br_t ha h)
theorem cy_fixF {post : Int32 → Prop} {p : Int32} {ft fa fr fw fs fd fl fe fh fg fo : Int32} {a1 a2 a3 a4 a5 a6 a7 a8 a9 a10 a11 a12 a13 a14 a15 a16 a17 a18 a19 a20 a21 a22 a23 a24 a25 a26 a27 : Nat → Int32} (hr : fr = 0 ∨ ¬ p = fa) (h : post 0) : wpX_isFixed post (ft, fa, fr, fw, fs, fd, fl, fe, fh, fg, fo, a1, a2, a3, a4, a5, a6, a7, a8, a9, a10, a11, a12, a13, a14, a15, a16, a17, a18, a19, a20, a21, a22, a23, a24, a25, a26, a27) p :=
  br_c (fun _ => h) (fun e => br_f (hr.resolve_left e) h)
end
section
theorem cy_m1 (k : Nat) : nI k + (-1) = nI k - 1 := (Int32.sub_eq_add_neg (nI k) 1).symm
theorem cy_60 (q i : Nat) : 60 * nI q + nI i = nI (60 * q + i) := by
  rw [show (60 : Int32) = nI 60 from rfl, pk_mul, nI_add]
theorem cy_pq {p : Int32} (h : p = 0 ∨ p = 1) : ∃ q : Nat, q < 2 ∧ p = nI q := by
  rcases h with h | h
  · exact ⟨0, by omega, h⟩
  · exact ⟨1, by omega, h⟩
theorem cy_qp {p : Int32} {q : Nat} (hq : q < 2) (h : p = nI q) : p = 0 ∨ p = 1 := by
  have : q = 0 ∨ q = 1 := by omega
  rcases this with e | e
  · left; rw [h, e]; rfl
  · right; rw [h, e]; rfl
/-- the inner loop of scan: k parts are pushed -/
theorem cy_54 {post : St2 → Prop} {J : Int32 → Int32 → (Nat → Int32) → (Nat → Int32) → (Nat → Int32) → (Nat → Int32) → (Nat → Int32) → (Nat → Int32) → (Nat → Int32) → (Nat → Int32) → (Nat → Int32) → (Nat → Int32) → (Nat → Int32) → (Nat → Int32) → (Nat → Int32) → (Nat → Int32) → (Nat → Int32) → (Nat → Int32) → (Nat → Int32) → (Nat → Int32) → (Nat → Int32) → (Nat → Int32) → (Nat → Int32) → (Nat → Int32) → (Nat → Int32) → (Nat → Int32) → (Nat → Int32) → (Nat → Int32) → (Nat → Int32) → Prop} {x1 x2 t : Int32} {ft fa fr fs fd fl fe fh fg fo : Int32} {a1 a2 a3 a4 a5 a6 a7 a8 a9 a10 a11 a12 a14 a15 a16 a17 a18 a19 a20 a21 a22 a23 a24 a25 a26 a27 : Nat → Int32} (k : Nat) : ∀ (m : Nat) (a13 : Nat → Int32), m + k ≤ 130 →
    (∀ b : Nat → Int32, (0 < k → cy_qZ t.toInt (b (m + k - 1))) → (k = 0 → b = a13) → J (x2 + 1) (nI (m + k)) a1 a2 a3 a4 a5 a6 a7 a8 a9 a10 a11 a12 b a14 a15 a16 a17 a18 a19 a20 a21 a22 a23 a24 a25 a26 a27) →
    wX_scan_54 post J x1 x2 t ft fa fr fs fd fl fe fh fg fo (k + 1) (nI k - 1) (nI m) a1 a2 a3 a4 a5 a6 a7 a8 a9 a10 a11 a12 a13 a14 a15 a16 a17 a18 a19 a20 a21 a22 a23 a24 a25 a26 a27 := by
  induction k with
  | zero =>
    intro m a13 hm H
    exact br_t (by decide) (nm_e (H a13 (fun h => absurd h (by omega)) (fun _ => rfl)))
  | succ k ih =>
    intro m a13 hm H
    rw [nI_pred k]
    refine br_f (nI_pos (by omega)) ?_
    have main : ∀ s : Int32, cy_qZ t.toInt s → wX_scan_81 post J (wX_scan_54 post J x1 x2 t ft fa fr fs fd fl fe fh fg fo (k + 1)) x1 x2 t (nI k) s (nI m) ft fa fr (nI m) fs fd fl fe fh fg fo a1 a2 a3 a4 a5 a6 a7 a8 a9 a10 a11 a12 a13 a14 a15 a16 a17 a18 a19 a20 a21 a22 a23 a24 a25 a26 a27 := by
      intro s hs
      refine ⟨pk_in m 130 (by omega), ?_⟩
      rw [nI_clamp (show m < 2 ^ 31 by omega)]
      refine nm_e (nm_r (nI_1 m) (nm_r (cy_m1 k) ?_))
      refine ih (m + 1) (upd a13 m s) (by omega) (fun b h1 h2 => ?_)
      rw [show m + 1 + k = m + (k + 1) by omega]
      refine H b (fun _ => ?_) (fun z => absurd z (by omega))
      rcases Nat.eq_zero_or_pos k with hk | hk
      · rw [show m + (k + 1) - 1 = m by omega, h2 hk, pk_us]
        exact hs
      · have h3 := h1 hk
        rw [show m + 1 + k - 1 = m + (k + 1) - 1 by omega] at h3
        exact h3
    exact cy_isPart (fun z => br_t rfl (main 0 z)) (fun z => br_f (by decide) (main 1 z))
/-- one token of scan -/
theorem cy_14s {post : St2 → Prop} {ft fa fr fs fd fl fe fh fg fo : Int32} {a1 a2 a3 a4 a5 a6 a7 a8 a9 a10 a11 a12 a13 a14 a15 a16 a17 a18 a19 a20 a21 a22 a23 a24 a25 a26 a27 : Nat → Int32} {q i c m n : Nat} (hq : q < 2) (h12 : a12 q = nI c) (hi : i < c) (hc : c ≤ 60) (hm : m ≤ 120)
    (H : ∀ (k : Nat) (b : Nat → Int32), cy_pZ (a11 (60 * q + i)).toInt k → (0 < k → cy_qZ (a11 (60 * q + i)).toInt (b (m + k - 1))) → wX_scan_14 post (nI q) ft fa fr fs fd fl fe fh fg fo n (nI (i + 1)) (nI (m + k)) a1 a2 a3 a4 a5 a6 a7 a8 a9 a10 a11 a12 b a14 a15 a16 a17 a18 a19 a20 a21 a22 a23 a24 a25 a26 a27) :
    wX_scan_14 post (nI q) ft fa fr fs fd fl fe fh fg fo (n + 1) (nI i) (nI (m + 1)) a1 a2 a3 a4 a5 a6 a7 a8 a9 a10 a11 a12 a13 a14 a15 a16 a17 a18 a19 a20 a21 a22 a23 a24 a25 a26 a27 := by
  have eq : (nI q).toNatClampNeg = q := nI_clamp (by omega)
  have ec : (60 * nI q + nI i).toNatClampNeg = 60 * q + i := by
    rw [cy_60]
    exact nI_clamp (by omega)
  refine ⟨pk_in q 2 hq, ?_⟩
  rw [eq, h12]
  refine br_f (nI_ge hi (by omega)) ⟨pk_in (60 * q + i) 120 (by omega) (cy_60 q i), ?_⟩
  rw [ec]
  refine nm_e (nm_r (nI_pred m) (cy_partsOf (fun k hk => nm_e ⟨k + 1, cy_54 k m a13 (by have := hk.1; omega) (fun b h1 h2 => ?_)⟩)))
  rw [nI_1]
  exact H k b hk h1
theorem cy_14x {post : St2 → Prop} {ft fa fr fw fs fd fl fe fh fg fo : Int32} {a1 a2 a3 a4 a5 a6 a7 a8 a9 a10 a11 a12 a13 a14 a15 a16 a17 a18 a19 a20 a21 a22 a23 a24 a25 a26 a27 : Nat → Int32} {q i n : Nat} (hq : q < 2) (h12 : a12 q = nI i) (hi : i ≤ 60) (H : post (ft, fa, fr, fw, fs, fd, fl, fe, fh, fg, fo, a1, a2, a3, a4, a5, a6, a7, a8, a9, a10, a11, a12, a13, a14, a15, a16, a17, a18, a19, a20, a21, a22, a23, a24, a25, a26, a27)) : wX_scan_14 post (nI q) ft fa fr fs fd fl fe fh fg fo (n + 1) (nI i) fw a1 a2 a3 a4 a5 a6 a7 a8 a9 a10 a11 a12 a13 a14 a15 a16 a17 a18 a19 a20 a21 a22 a23 a24 a25 a26 a27 := by
  refine ⟨pk_in q 2 hq, ?_⟩
  rw [nI_clamp (show q < 2 ^ 31 by omega), h12]
  exact br_t (nI_le (Nat.le_refl i) (by omega)) H
/-- what scan answers: m are wanted, M of it; T of the one on top -/
def cy_SR (a11 a12 : Nat → Int32) (p : Int32) (M : Nat → Prop) (T : Int32 → Prop) : Prop := ∀ (post : St2 → Prop) (ft fa fr fw fs fd fl fe fh fg fo : Int32) (a1 a2 a3 a4 a5 a6 a7 a8 a9 a10 a13 a14 a15 a16 a17 a18 a19 a20 a21 a22 a23 a24 a25 a26 a27 : Nat → Int32), (∀ (m : Nat) (b : Nat → Int32), M m → m ≤ 100 → (0 < m → T (b (m - 1))) → post (ft, fa, fr, nI m, fs, fd, fl, fe, fh, fg, fo, a1, a2, a3, a4, a5, a6, a7, a8, a9, a10, a11, a12, b, a14, a15, a16, a17, a18, a19, a20, a21, a22, a23, a24, a25, a26, a27)) → wpX_scan post (ft, fa, fr, fw, fs, fd, fl, fe, fh, fg, fo, a1, a2, a3, a4, a5, a6, a7, a8, a9, a10, a11, a12, a13, a14, a15, a16, a17, a18, a19, a20, a21, a22, a23, a24, a25, a26, a27) p
theorem cy_sc0 {a11 a12 : Nat → Int32} {p : Int32} (q : Nat) (ep : p = nI q) (hq : q < 2) (h12 : a12 q = nI 0) : cy_SR a11 a12 p (fun m => m = 1) (fun s => s = 1) := by
  intro post ft fa fr fw fs fd fl fe fh fg fo a1 a2 a3 a4 a5 a6 a7 a8 a9 a10 a13 a14 a15 a16 a17 a18 a19 a20 a21 a22 a23 a24 a25 a26 a27 H
  subst ep
  exact nm_e ⟨1, cy_14x (i := 0) hq h12 (by omega) (H 1 _ rfl (by omega) (fun _ => pk_us))⟩
theorem cy_sc1 {a11 a12 : Nat → Int32} {p : Int32} (q : Nat) (ep : p = nI q) (hq : q < 2) (h12 : a12 q = nI 1) : cy_SR a11 a12 p (fun m => cy_pZ (a11 (60 * q)).toInt m) (fun s => cy_qZ (a11 (60 * q)).toInt s) := by
  intro post ft fa fr fw fs fd fl fe fh fg fo a1 a2 a3 a4 a5 a6 a7 a8 a9 a10 a13 a14 a15 a16 a17 a18 a19 a20 a21 a22 a23 a24 a25 a26 a27 H
  subst ep
  refine nm_e ⟨2, cy_14s (i := 0) (c := 1) (m := 0) hq h12 (by omega) (by omega) (by omega) (fun k b hk h1 => cy_14x (i := 1) hq h12 (by omega) ?_)⟩
  rw [Nat.zero_add] at h1 ⊢
  exact H k b hk (by have := hk.1; omega) h1
theorem cy_sc2 {a11 a12 : Nat → Int32} {p : Int32} (q : Nat) (ep : p = nI q) (hq : q < 2) (h12 : a12 q = nI 2) (t1 : (a11 (60 * q)).toInt = 1) (t2 : 9 < (a11 (60 * q + 1)).toInt ∧ (a11 (60 * q + 1)).toInt < 26) : cy_SR a11 a12 p (fun m => m = 2) (fun s => s = 0) := by
  intro post ft fa fr fw fs fd fl fe fh fg fo a1 a2 a3 a4 a5 a6 a7 a8 a9 a10 a13 a14 a15 a16 a17 a18 a19 a20 a21 a22 a23 a24 a25 a26 a27 H
  subst ep
  refine nm_e ⟨3, cy_14s (i := 0) (c := 2) (m := 0) hq h12 (by omega) (by omega) (by omega) (fun k b hk h1 => ?_)⟩
  have e : k = 2 := hk.2.2.2.2.1 t1
  subst e
  refine cy_14s (i := 1) (c := 2) (m := 1) hq h12 (by omega) (by omega) (by omega) (fun k b hk h1 => ?_)
  have e : k = 1 := hk.2.2.2.2.2 t2.1 t2.2
  subst e
  exact cy_14x (i := 2) hq h12 (by omega) (H 2 b rfl (by omega) (fun _ => (h1 (by omega)).2 t2.1 t2.2))
theorem cy_sc3 {a11 a12 : Nat → Int32} {p : Int32} (q : Nat) (ep : p = nI q) (hq : q < 2) (h12 : a12 q = nI 3) (t1 : (a11 (60 * q)).toInt = 1) (t2 : 9 < (a11 (60 * q + 1)).toInt ∧ (a11 (60 * q + 1)).toInt < 26) : cy_SR a11 a12 p (fun m => 0 < m) (fun _ => True) := by
  intro post ft fa fr fw fs fd fl fe fh fg fo a1 a2 a3 a4 a5 a6 a7 a8 a9 a10 a13 a14 a15 a16 a17 a18 a19 a20 a21 a22 a23 a24 a25 a26 a27 H
  subst ep
  refine nm_e ⟨4, cy_14s (i := 0) (c := 3) (m := 0) hq h12 (by omega) (by omega) (by omega) (fun k b hk h1 => ?_)⟩
  have e : k = 2 := hk.2.2.2.2.1 t1
  subst e
  refine cy_14s (i := 1) (c := 3) (m := 1) hq h12 (by omega) (by omega) (by omega) (fun k b hk h1 => ?_)
  have e : k = 1 := hk.2.2.2.2.2 t2.1 t2.2
  subst e
  refine cy_14s (i := 2) (c := 3) (m := 1) hq h12 (by omega) (by omega) (by omega) (fun k b hk h1 => ?_)
  exact cy_14x (i := 3) hq h12 (by omega) (H (1 + k) b (by omega) (by have := hk.1; omega) (fun _ => trivial))
end
section
/-- bad programs -/
theorem cy_completeB {post : Int32 → St2 → Prop} {p : Int32} {ft fa fr fw fs fd fl fe fh fg fo : Int32} {a1 a2 a3 a4 a5 a6 a7 a8 a9 a10 a11 a12 a13 a14 a15 a16 a17 a18 a19 a20 a21 a22 a23 a24 a25 a26 a27 : Nat → Int32} (hp : ¬ (p = 0 ∨ p = 1)) (h : post (-1) (ft, fa, fr, fw, fs, fd, fl, fe, fh, fg, fo, a1, a2, a3, a4, a5, a6, a7, a8, a9, a10, a11, a12, a13, a14, a15, a16, a17, a18, a19, a20, a21, a22, a23, a24, a25, a26, a27)) : wpX_complete post (ft, fa, fr, fw, fs, fd, fl, fe, fh, fg, fo, a1, a2, a3, a4, a5, a6, a7, a8, a9, a10, a11, a12, a13, a14, a15, a16, a17, a18, a19, a20, a21, a22, a23, a24, a25, a26, a27) p := by
  unfold wpX_complete
  exact cy_progB hp (br_t rfl h)
theorem cy_backB {post : Int32 → St2 → Prop} {p : Int32} {ft fa fr fw fs fd fl fe fh fg fo : Int32} {a1 a2 a3 a4 a5 a6 a7 a8 a9 a10 a11 a12 a13 a14 a15 a16 a17 a18 a19 a20 a21 a22 a23 a24 a25 a26 a27 : Nat → Int32} (hp : ¬ (p = 0 ∨ p = 1)) (h : post (-1) (ft, fa, fr, fw, fs, fd, fl, fe, fh, fg, fo, a1, a2, a3, a4, a5, a6, a7, a8, a9, a10, a11, a12, a13, a14, a15, a16, a17, a18, a19, a20, a21, a22, a23, a24, a25, a26, a27)) : wpX_back post (ft, fa, fr, fw, fs, fd, fl, fe, fh, fg, fo, a1, a2, a3, a4, a5, a6, a7, a8, a9, a10, a11, a12, a13, a14, a15, a16, a17, a18, a19, a20, a21, a22, a23, a24, a25, a26, a27) p := by
  unfold wpX_back
  exact cy_progB hp (br_t rfl h)
theorem cy_eraseB {post : Int32 → St2 → Prop} {p : Int32} {ft fa fr fw fs fd fl fe fh fg fo : Int32} {a1 a2 a3 a4 a5 a6 a7 a8 a9 a10 a11 a12 a13 a14 a15 a16 a17 a18 a19 a20 a21 a22 a23 a24 a25 a26 a27 : Nat → Int32} (hp : ¬ (p = 0 ∨ p = 1)) (h : post (-1) (ft, fa, fr, fw, fs, fd, fl, fe, fh, fg, fo, a1, a2, a3, a4, a5, a6, a7, a8, a9, a10, a11, a12, a13, a14, a15, a16, a17, a18, a19, a20, a21, a22, a23, a24, a25, a26, a27)) : wpX_erase post (ft, fa, fr, fw, fs, fd, fl, fe, fh, fg, fo, a1, a2, a3, a4, a5, a6, a7, a8, a9, a10, a11, a12, a13, a14, a15, a16, a17, a18, a19, a20, a21, a22, a23, a24, a25, a26, a27) p := by
  unfold wpX_erase
  exact cy_progB hp (br_t rfl h)
theorem cy_activateB {post : Int32 → St2 → Prop} {p : Int32} {ft fa fr fw fs fd fl fe fh fg fo : Int32} {a1 a2 a3 a4 a5 a6 a7 a8 a9 a10 a11 a12 a13 a14 a15 a16 a17 a18 a19 a20 a21 a22 a23 a24 a25 a26 a27 : Nat → Int32} (hp : ¬ (p = 0 ∨ p = 1)) (h : post (-1) (ft, fa, fr, fw, fs, fd, fl, fe, fh, fg, fo, a1, a2, a3, a4, a5, a6, a7, a8, a9, a10, a11, a12, a13, a14, a15, a16, a17, a18, a19, a20, a21, a22, a23, a24, a25, a26, a27)) : wpX_activate post (ft, fa, fr, fw, fs, fd, fl, fe, fh, fg, fo, a1, a2, a3, a4, a5, a6, a7, a8, a9, a10, a11, a12, a13, a14, a15, a16, a17, a18, a19, a20, a21, a22, a23, a24, a25, a26, a27) p := by
  unfold wpX_activate
  exact cy_progB hp (br_t rfl h)
theorem cy_feedB {post : Int32 → St2 → Prop} {p t : Int32} {ft fa fr fw fs fd fl fe fh fg fo : Int32} {a1 a2 a3 a4 a5 a6 a7 a8 a9 a10 a11 a12 a13 a14 a15 a16 a17 a18 a19 a20 a21 a22 a23 a24 a25 a26 a27 : Nat → Int32} (hp : ¬ (p = 0 ∨ p = 1)) (h : post (-1) (ft, fa, fr, fw, fs, fd, fl, fe, fh, fg, fo, a1, a2, a3, a4, a5, a6, a7, a8, a9, a10, a11, a12, a13, a14, a15, a16, a17, a18, a19, a20, a21, a22, a23, a24, a25, a26, a27)) : wpX_feed post (ft, fa, fr, fw, fs, fd, fl, fe, fh, fg, fo, a1, a2, a3, a4, a5, a6, a7, a8, a9, a10, a11, a12, a13, a14, a15, a16, a17, a18, a19, a20, a21, a22, a23, a24, a25, a26, a27) p t := by
  unfold wpX_feed
  exact cy_progB hp (br_t rfl h)
/-- the program that runs is fixed -/
theorem cy_backX {post : Int32 → St2 → Prop} {p : Int32} {ft fa fr fw fs fd fl fe fh fg fo : Int32} {a1 a2 a3 a4 a5 a6 a7 a8 a9 a10 a11 a12 a13 a14 a15 a16 a17 a18 a19 a20 a21 a22 a23 a24 a25 a26 a27 : Nat → Int32} (hp : p = 0 ∨ p = 1) (hr : ¬ fr = 0) (ha : p = fa) (h : post (-2) (ft, fa, fr, fw, fs, fd, fl, fe, fh, fg, fo, a1, a2, a3, a4, a5, a6, a7, a8, a9, a10, a11, a12, a13, a14, a15, a16, a17, a18, a19, a20, a21, a22, a23, a24, a25, a26, a27)) : wpX_back post (ft, fa, fr, fw, fs, fd, fl, fe, fh, fg, fo, a1, a2, a3, a4, a5, a6, a7, a8, a9, a10, a11, a12, a13, a14, a15, a16, a17, a18, a19, a20, a21, a22, a23, a24, a25, a26, a27) p := by
  unfold wpX_back
  exact cy_prog hp (br_f (by decide) (cy_fixT hr ha (br_f (by decide) h)))
theorem cy_eraseX {post : Int32 → St2 → Prop} {p : Int32} {ft fa fr fw fs fd fl fe fh fg fo : Int32} {a1 a2 a3 a4 a5 a6 a7 a8 a9 a10 a11 a12 a13 a14 a15 a16 a17 a18 a19 a20 a21 a22 a23 a24 a25 a26 a27 : Nat → Int32} (hp : p = 0 ∨ p = 1) (hr : ¬ fr = 0) (ha : p = fa) (h : post (-2) (ft, fa, fr, fw, fs, fd, fl, fe, fh, fg, fo, a1, a2, a3, a4, a5, a6, a7, a8, a9, a10, a11, a12, a13, a14, a15, a16, a17, a18, a19, a20, a21, a22, a23, a24, a25, a26, a27)) : wpX_erase post (ft, fa, fr, fw, fs, fd, fl, fe, fh, fg, fo, a1, a2, a3, a4, a5, a6, a7, a8, a9, a10, a11, a12, a13, a14, a15, a16, a17, a18, a19, a20, a21, a22, a23, a24, a25, a26, a27) p := by
  unfold wpX_erase
  exact cy_prog hp (br_f (by decide) (cy_fixT hr ha (br_f (by decide) h)))
theorem cy_feedX {post : Int32 → St2 → Prop} {p t : Int32} {ft fa fr fw fs fd fl fe fh fg fo : Int32} {a1 a2 a3 a4 a5 a6 a7 a8 a9 a10 a11 a12 a13 a14 a15 a16 a17 a18 a19 a20 a21 a22 a23 a24 a25 a26 a27 : Nat → Int32} (hp : p = 0 ∨ p = 1) (hr : ¬ fr = 0) (ha : p = fa) (h : post (-2) (ft, fa, fr, fw, fs, fd, fl, fe, fh, fg, fo, a1, a2, a3, a4, a5, a6, a7, a8, a9, a10, a11, a12, a13, a14, a15, a16, a17, a18, a19, a20, a21, a22, a23, a24, a25, a26, a27)) : wpX_feed post (ft, fa, fr, fw, fs, fd, fl, fe, fh, fg, fo, a1, a2, a3, a4, a5, a6, a7, a8, a9, a10, a11, a12, a13, a14, a15, a16, a17, a18, a19, a20, a21, a22, a23, a24, a25, a26, a27) p t := by
  unfold wpX_feed
  exact cy_prog hp (br_f (by decide) (cy_fixT hr ha (br_f (by decide) h)))
/-- back, erase -/
theorem cy_back0 {post : Int32 → St2 → Prop} {p : Int32} {ft fa fr fw fs fd fl fe fh fg fo : Int32} {a1 a2 a3 a4 a5 a6 a7 a8 a9 a10 a11 a12 a13 a14 a15 a16 a17 a18 a19 a20 a21 a22 a23 a24 a25 a26 a27 : Nat → Int32} (q : Nat) (ep : p = nI q) (hq : q < 2) (hf : fr = 0 ∨ ¬ p = fa) (h12 : a12 q = nI 0) (h : post (-2) (ft, fa, fr, fw, fs, fd, fl, fe, fh, fg, fo, a1, a2, a3, a4, a5, a6, a7, a8, a9, a10, a11, a12, a13, a14, a15, a16, a17, a18, a19, a20, a21, a22, a23, a24, a25, a26, a27)) : wpX_back post (ft, fa, fr, fw, fs, fd, fl, fe, fh, fg, fo, a1, a2, a3, a4, a5, a6, a7, a8, a9, a10, a11, a12, a13, a14, a15, a16, a17, a18, a19, a20, a21, a22, a23, a24, a25, a26, a27) p := by
  unfold wpX_back
  refine cy_prog (cy_qp hq ep) (br_f (by decide) (cy_fixF hf (br_t rfl ⟨cy_vin2 (cy_qp hq ep), ?_⟩)))
  rw [pk_cl q ep, h12]
  exact br_t rfl h
theorem cy_backS {post : Int32 → St2 → Prop} {p : Int32} {ft fa fr fw fs fd fl fe fh fg fo : Int32} {a1 a2 a3 a4 a5 a6 a7 a8 a9 a10 a11 a12 a13 a14 a15 a16 a17 a18 a19 a20 a21 a22 a23 a24 a25 a26 a27 : Nat → Int32} (q c : Nat) (ep : p = nI q) (hq : q < 2) (hf : fr = 0 ∨ ¬ p = fa) (h12 : a12 q = nI (c + 1)) (hc : c ≤ 60) (h : post (nI c) (ft, fa, fr, fw, fs, fd, fl, fe, fh, fg, fo, a1, a2, a3, a4, a5, a6, a7, a8, a9, a10, a11, upd a12 q (nI c), a13, a14, a15, a16, a17, a18, a19, a20, a21, a22, a23, a24, a25, a26, a27)) : wpX_back post (ft, fa, fr, fw, fs, fd, fl, fe, fh, fg, fo, a1, a2, a3, a4, a5, a6, a7, a8, a9, a10, a11, a12, a13, a14, a15, a16, a17, a18, a19, a20, a21, a22, a23, a24, a25, a26, a27) p := by
  have v := cy_vin2 (cy_qp hq ep)
  unfold wpX_back
  refine cy_prog (cy_qp hq ep) (br_f (by decide) (cy_fixF hf (br_t rfl ⟨v, ?_⟩)))
  rw [pk_cl q ep, h12]
  refine br_f (nI_ne0 (by omega) (by omega)) ⟨v, v, ?_⟩
  rw [nI_pred]
  intro b eb
  refine ⟨v, ?_⟩
  rw [eb, pk_us]
  exact h
theorem cy_erase {post : Int32 → St2 → Prop} {p : Int32} {ft fa fr fw fs fd fl fe fh fg fo : Int32} {a1 a2 a3 a4 a5 a6 a7 a8 a9 a10 a11 a12 a13 a14 a15 a16 a17 a18 a19 a20 a21 a22 a23 a24 a25 a26 a27 : Nat → Int32} (q : Nat) (ep : p = nI q) (hq : q < 2) (hf : fr = 0 ∨ ¬ p = fa) (h : post (a12 q) (ft, fa, fr, fw, fs, fd, fl, fe, fh, fg, fo, a1, a2, a3, a4, a5, a6, a7, a8, a9, a10, a11, upd a12 q 0, a13, a14, a15, a16, a17, a18, a19, a20, a21, a22, a23, a24, a25, a26, a27)) : wpX_erase post (ft, fa, fr, fw, fs, fd, fl, fe, fh, fg, fo, a1, a2, a3, a4, a5, a6, a7, a8, a9, a10, a11, a12, a13, a14, a15, a16, a17, a18, a19, a20, a21, a22, a23, a24, a25, a26, a27) p := by
  have v := cy_vin2 (cy_qp hq ep)
  unfold wpX_erase
  refine cy_prog (cy_qp hq ep) (br_f (by decide) (cy_fixF hf (br_t rfl ⟨v, ?_⟩)))
  rw [pk_cl q ep]
  exact nm_e ⟨v, nm_e h⟩
/-- complete, and activate where the program isn't complete -/
theorem cy_isComplete {post : Int32 → St2 → Prop} {p : Int32} {ft fa fr fw fs fd fl fe fh fg fo : Int32} {a1 a2 a3 a4 a5 a6 a7 a8 a9 a10 a11 a12 a13 a14 a15 a16 a17 a18 a19 a20 a21 a22 a23 a24 a25 a26 a27 : Nat → Int32} {M : Nat → Prop} {T : Int32 → Prop} (hs : cy_SR a11 a12 p M T)
    (h1 : ∀ b : Nat → Int32, M 0 → post 1 (ft, fa, fr, nI 0, fs, fd, fl, fe, fh, fg, fo, a1, a2, a3, a4, a5, a6, a7, a8, a9, a10, a11, a12, b, a14, a15, a16, a17, a18, a19, a20, a21, a22, a23, a24, a25, a26, a27)) (h0 : ∀ (m : Nat) (b : Nat → Int32), M m → 0 < m → post 0 (ft, fa, fr, nI m, fs, fd, fl, fe, fh, fg, fo, a1, a2, a3, a4, a5, a6, a7, a8, a9, a10, a11, a12, b, a14, a15, a16, a17, a18, a19, a20, a21, a22, a23, a24, a25, a26, a27)) : wpX_isComplete post (ft, fa, fr, fw, fs, fd, fl, fe, fh, fg, fo, a1, a2, a3, a4, a5, a6, a7, a8, a9, a10, a11, a12, a13, a14, a15, a16, a17, a18, a19, a20, a21, a22, a23, a24, a25, a26, a27) p := by
  unfold wpX_isComplete
  refine hs _ _ _ _ _ _ _ _ _ _ _ _ _ _ _ _ _ _ _ _ _ _ _ _ _ _ _ _ _ _ _ _ _ _ _ _ _ (fun m b hM hm hT => ?_)
  rcases Nat.eq_zero_or_pos m with e | e
  · subst e
    exact br_t rfl (h1 b hM)
  · exact br_f (nI_ne0 e (by omega)) (h0 m b hM e)
theorem cy_complete {post : Int32 → St2 → Prop} {p : Int32} {ft fa fr fw fs fd fl fe fh fg fo : Int32} {a1 a2 a3 a4 a5 a6 a7 a8 a9 a10 a11 a12 a13 a14 a15 a16 a17 a18 a19 a20 a21 a22 a23 a24 a25 a26 a27 : Nat → Int32} {M : Nat → Prop} {T : Int32 → Prop} (hp : p = 0 ∨ p = 1) (hs : cy_SR a11 a12 p M T)
    (h1 : ∀ (w : Int32) (b : Nat → Int32), M 0 → post 1 (ft, fa, fr, w, fs, fd, fl, fe, fh, fg, fo, a1, a2, a3, a4, a5, a6, a7, a8, a9, a10, a11, a12, b, a14, a15, a16, a17, a18, a19, a20, a21, a22, a23, a24, a25, a26, a27)) (h0 : ∀ (m : Nat) (w : Int32) (b : Nat → Int32), M m → 0 < m → post 0 (ft, fa, fr, w, fs, fd, fl, fe, fh, fg, fo, a1, a2, a3, a4, a5, a6, a7, a8, a9, a10, a11, a12, b, a14, a15, a16, a17, a18, a19, a20, a21, a22, a23, a24, a25, a26, a27)) : wpX_complete post (ft, fa, fr, fw, fs, fd, fl, fe, fh, fg, fo, a1, a2, a3, a4, a5, a6, a7, a8, a9, a10, a11, a12, a13, a14, a15, a16, a17, a18, a19, a20, a21, a22, a23, a24, a25, a26, a27) p := by
  unfold wpX_complete
  exact cy_prog hp (br_f (by decide) (cy_isComplete hs (fun b hM => br_f (by decide) (h1 _ b hM)) (fun m b hM hm => br_t rfl (h0 m _ b hM hm))))
theorem cy_activateN {post : Int32 → St2 → Prop} {p : Int32} {ft fa fr fw fs fd fl fe fh fg fo : Int32} {a1 a2 a3 a4 a5 a6 a7 a8 a9 a10 a11 a12 a13 a14 a15 a16 a17 a18 a19 a20 a21 a22 a23 a24 a25 a26 a27 : Nat → Int32} {M : Nat → Prop} {T : Int32 → Prop} (hp : p = 0 ∨ p = 1) (hs : cy_SR a11 a12 p M T) (hM : ¬ M 0)
    (h0 : ∀ (w : Int32) (b : Nat → Int32), post (-2) (ft, fa, fr, w, fs, fd, fl, fe, fh, fg, fo, a1, a2, a3, a4, a5, a6, a7, a8, a9, a10, a11, a12, b, a14, a15, a16, a17, a18, a19, a20, a21, a22, a23, a24, a25, a26, a27)) : wpX_activate post (ft, fa, fr, fw, fs, fd, fl, fe, fh, fg, fo, a1, a2, a3, a4, a5, a6, a7, a8, a9, a10, a11, a12, a13, a14, a15, a16, a17, a18, a19, a20, a21, a22, a23, a24, a25, a26, a27) p := by
  unfold wpX_activate
  exact cy_prog hp (br_f (by decide) (cy_isComplete hs (fun b h => absurd h hM) (fun m b hM hm => br_t rfl (h0 _ b))))
/-- feed -/
def cy_fit (s : Int32) (z : Int) : Prop := (s = 1 ∧ cy_sZ z) ∨ (s ≠ 1 ∧ cy_eZ z)
theorem cy_72 {post : Int32 → St2 → Prop} {t r : Int32} {ft fa fr fw fs fd fl fe fh fg fo : Int32} {a1 a2 a3 a4 a5 a6 a7 a8 a9 a10 a11 a12 a13 a14 a15 a16 a17 a18 a19 a20 a21 a22 a23 a24 a25 a26 a27 : Nat → Int32} (q c : Nat) (hq : q < 2) (h12 : a12 q = nI c) (hc : c < 60) (hr : ¬ r = 0)
    (h : post (nI (c + 1)) (ft, fa, fr, fw, fs, fd, fl, fe, fh, fg, fo, a1, a2, a3, a4, a5, a6, a7, a8, a9, a10, upd a11 (60 * q + c) t, upd a12 q (nI (c + 1)), a13, a14, a15, a16, a17, a18, a19, a20, a21, a22, a23, a24, a25, a26, a27)) : wX_feed_72 post (nI q) t r ft fa fr fw fs fd fl fe fh fg fo a1 a2 a3 a4 a5 a6 a7 a8 a9 a10 a11 a12 a13 a14 a15 a16 a17 a18 a19 a20 a21 a22 a23 a24 a25 a26 a27 := by
  have v : vp_in (nI q) 2 := pk_in q 2 hq
  refine br_f hr ⟨v, ?_⟩
  rw [nI_clamp (show q < 2 ^ 31 by omega), h12, cy_60, nI_clamp (show 60 * q + c < 2 ^ 31 by omega), nI_1]
  refine ⟨pk_in (60 * q + c) 120 (by omega), fun b eb => ⟨v, v, fun d ed => ⟨v, ?_⟩⟩⟩
  rw [ed, eb, pk_us]
  exact h
theorem cy_feed {post : Int32 → St2 → Prop} {p t : Int32} {ft fa fr fw fs fd fl fe fh fg fo : Int32} {a1 a2 a3 a4 a5 a6 a7 a8 a9 a10 a11 a12 a13 a14 a15 a16 a17 a18 a19 a20 a21 a22 a23 a24 a25 a26 a27 : Nat → Int32} {M : Nat → Prop} {T : Int32 → Prop} (q c : Nat) (ep : p = nI q) (hq : q < 2) (hf : fr = 0 ∨ ¬ p = fa) (hs : cy_SR a11 a12 p M T) (h12 : a12 q = nI c) (hc : c < 60)
    (H0 : ∀ (w : Int32) (b : Nat → Int32), M 0 → post (-3) (ft, fa, fr, w, fs, fd, fl, fe, fh, fg, fo, a1, a2, a3, a4, a5, a6, a7, a8, a9, a10, a11, a12, b, a14, a15, a16, a17, a18, a19, a20, a21, a22, a23, a24, a25, a26, a27))
    (HB : ∀ (m : Nat) (s w : Int32) (b : Nat → Int32), M m → 0 < m → T s → ¬ cy_fit s t.toInt → post (-1) (ft, fa, fr, w, fs, fd, fl, fe, fh, fg, fo, a1, a2, a3, a4, a5, a6, a7, a8, a9, a10, a11, a12, b, a14, a15, a16, a17, a18, a19, a20, a21, a22, a23, a24, a25, a26, a27))
    (HT : ∀ (m : Nat) (s w : Int32) (b : Nat → Int32), M m → 0 < m → T s → cy_fit s t.toInt → post (nI (c + 1)) (ft, fa, fr, w, fs, fd, fl, fe, fh, fg, fo, a1, a2, a3, a4, a5, a6, a7, a8, a9, a10, upd a11 (60 * q + c) t, upd a12 q (nI (c + 1)), b, a14, a15, a16, a17, a18, a19, a20, a21, a22, a23, a24, a25, a26, a27)) : wpX_feed post (ft, fa, fr, fw, fs, fd, fl, fe, fh, fg, fo, a1, a2, a3, a4, a5, a6, a7, a8, a9, a10, a11, a12, a13, a14, a15, a16, a17, a18, a19, a20, a21, a22, a23, a24, a25, a26, a27) p t := by
  subst ep
  unfold wpX_feed
  refine cy_prog (cy_qp hq rfl) (br_f (by decide) (cy_fixF hf (br_t rfl (hs _ _ _ _ _ _ _ _ _ _ _ _ _ _ _ _ _ _ _ _ _ _ _ _ _ _ _ _ _ _ _ _ _ _ _ _ _ (fun m b hM hm hT => ?_)))))
  cases m with
  | zero => exact br_t rfl (H0 _ b hM)
  | succ m =>
    have hs' : T (b m) := hT (by omega)
    refine br_f (nI_ne0 (by omega) (by omega)) ⟨pk_in q 2 hq, ?_⟩
    rw [nI_clamp (show q < 2 ^ 31 by omega), h12]
    refine br_t (nI_lt (b := 60) hc (by decide)) ?_
    rw [nI_pred]
    refine ⟨pk_in m 130 (by omega), ?_⟩
    rw [nI_clamp (show m < 2 ^ 31 by omega)]
    refine br_c (fun e => cy_isStatement (fun hz => ?_) (fun hz => br_t rfl ?_)) (fun e => cy_isExpression (fun hz => ?_) (fun hz => br_t rfl ?_))
    · exact cy_72 q c hq h12 hc (by decide) (HT (m + 1) (b m) _ b hM (by omega) hs' (Or.inl ⟨e, hz⟩))
    · exact HB (m + 1) (b m) _ b hM (by omega) hs' (fun z => z.elim (fun y => hz y.2) (fun y => y.1 e))
    · exact cy_72 q c hq h12 hc (by decide) (HT (m + 1) (b m) _ b hM (by omega) hs' (Or.inr ⟨e, hz⟩))
    · exact HB (m + 1) (b m) _ b hM (by omega) hs' (fun z => z.elim (fun y => e y.1) (fun y => hz y.2))
/-- halt -/
theorem cy_halt0 {post : Int32 → St2 → Prop} {ft fa fr fw fs fd fl fe fh fg fo : Int32} {a1 a2 a3 a4 a5 a6 a7 a8 a9 a10 a11 a12 a13 a14 a15 a16 a17 a18 a19 a20 a21 a22 a23 a24 a25 a26 a27 : Nat → Int32} (hr : fr = 0) (h : post 0 (ft, fa, 0, fw, fs, fd, fl, fe, fh, fg, fo, a1, a2, a3, a4, a5, a6, a7, a8, a9, a10, a11, a12, a13, a14, a15, a16, a17, a18, a19, a20, a21, a22, a23, a24, a25, a26, a27)) : wpX_halt post (ft, fa, fr, fw, fs, fd, fl, fe, fh, fg, fo, a1, a2, a3, a4, a5, a6, a7, a8, a9, a10, a11, a12, a13, a14, a15, a16, a17, a18, a19, a20, a21, a22, a23, a24, a25, a26, a27) := br_t hr h
theorem cy_halt1 {post : Int32 → St2 → Prop} {ft fa fr fw fs fd fl fe fh fg fo : Int32} {a1 a2 a3 a4 a5 a6 a7 a8 a9 a10 a11 a12 a13 a14 a15 a16 a17 a18 a19 a20 a21 a22 a23 a24 a25 a26 a27 : Nat → Int32} (hr : ¬ fr = 0) (h : post 1 (ft, fa, 0, fw, fs, fd, fl, fe, fh, fg, fo, a1, a2, a3, a4, a5, a6, a7, a8, a9, a10, a11, a12, a13, a14, a15, a16, a17, a18, a19, a20, a21, a22, a23, a24, a25, a26, a27)) : wpX_halt post (ft, fa, fr, fw, fs, fd, fl, fe, fh, fg, fo, a1, a2, a3, a4, a5, a6, a7, a8, a9, a10, a11, a12, a13, a14, a15, a16, a17, a18, a19, a20, a21, a22, a23, a24, a25, a26, a27) := br_f hr h
/-- looking -/
theorem cy_nj {v : Int32} {n : Nat} (h0 : 0 ≤ v.toInt) (h1 : v.toInt < n) : ∃ j : Nat, j < n ∧ v = nI j := by
  have b := v.toInt_lt
  refine ⟨v.toInt.toNat, by omega, ?_⟩
  apply Int32.toInt_inj.mp
  rw [nI_toInt (by omega)]
  omega
theorem cy_variable {post : Int32 → Prop} {v : Int32} {ft fa fr fw fs fd fl fe fh fg fo : Int32} {a1 a2 a3 a4 a5 a6 a7 a8 a9 a10 a11 a12 a13 a14 a15 a16 a17 a18 a19 a20 a21 a22 a23 a24 a25 a26 a27 : Nat → Int32} (h0 : v.toInt < 0 ∨ 16 ≤ v.toInt → post 0) (h1 : ∀ j : Nat, j < 16 → v = nI j → post (a1 j)) : wpX_variable post (ft, fa, fr, fw, fs, fd, fl, fe, fh, fg, fo, a1, a2, a3, a4, a5, a6, a7, a8, a9, a10, a11, a12, a13, a14, a15, a16, a17, a18, a19, a20, a21, a22, a23, a24, a25, a26, a27) v := by
  unfold wpX_variable
  refine cy_in 0 16 (fun h k => br_f (by decide) ?_) (fun h => br_t rfl (h0 h))
  obtain ⟨j, hj, ej⟩ := cy_nj (n := 16) h k
  refine ⟨pk_in j 16 hj ej, ?_⟩
  rw [pk_cl j ej]
  exact h1 j hj ej
theorem cy_cell {post : Int32 → Prop} {v : Int32} {ft fa fr fw fs fd fl fe fh fg fo : Int32} {a1 a2 a3 a4 a5 a6 a7 a8 a9 a10 a11 a12 a13 a14 a15 a16 a17 a18 a19 a20 a21 a22 a23 a24 a25 a26 a27 : Nat → Int32} (hz : ∀ j, a2 j = 0) (h : post 0) : wpX_cell post (ft, fa, fr, fw, fs, fd, fl, fe, fh, fg, fo, a1, a2, a3, a4, a5, a6, a7, a8, a9, a10, a11, a12, a13, a14, a15, a16, a17, a18, a19, a20, a21, a22, a23, a24, a25, a26, a27) v := by
  unfold wpX_cell
  refine cy_in 0 8 (fun h1 k => br_f (by decide) ?_) (fun _ => br_t rfl h)
  obtain ⟨j, hj, ej⟩ := cy_nj (n := 8) h1 k
  refine ⟨pk_in j 8 hj ej, ?_⟩
  rw [hz]
  exact h
theorem cy_output {post : Int32 → Prop} {v : Int32} {ft fa fr fw fs fd fl fe fh fg fo : Int32} {a1 a2 a3 a4 a5 a6 a7 a8 a9 a10 a11 a12 a13 a14 a15 a16 a17 a18 a19 a20 a21 a22 a23 a24 a25 a26 a27 : Nat → Int32} (hz : ∀ j, a5 j = 0) (h : post 0) : wpX_output post (ft, fa, fr, fw, fs, fd, fl, fe, fh, fg, fo, a1, a2, a3, a4, a5, a6, a7, a8, a9, a10, a11, a12, a13, a14, a15, a16, a17, a18, a19, a20, a21, a22, a23, a24, a25, a26, a27) v := by
  unfold wpX_output
  refine cy_in 0 4 (fun h1 k => br_f (by decide) ?_) (fun _ => br_t rfl h)
  obtain ⟨j, hj, ej⟩ := cy_nj (n := 4) h1 k
  refine ⟨pk_in j 4 hj ej, ?_⟩
  rw [hz]
  exact h
theorem cy_ka {k : Nat} (j : Nat) : (nI k) + nI j = nI (k + j) := nI_add k j
theorem cy_blockOf {post : Int32 → Prop} {k w : Int32} {ft fa fr fw fs fd fl fe fh fg fo : Int32} {a1 a2 a3 a4 a5 a6 a7 a8 a9 a10 a11 a12 a13 a14 a15 a16 a17 a18 a19 a20 a21 a22 a23 a24 a25 a26 a27 : Nat → Int32} (hz : ∀ j, a10 j = 0) (j : Nat) (hj : j < 3) (ek : k = nI j) (h : post 0) : wpX_blockOf post (ft, fa, fr, fw, fs, fd, fl, fe, fh, fg, fo, a1, a2, a3, a4, a5, a6, a7, a8, a9, a10, a11, a12, a13, a14, a15, a16, a17, a18, a19, a20, a21, a22, a23, a24, a25, a26, a27) k w := by
  have b : ∀ (c : Int32) (n : Nat), c = nI n → n + j < 15 → vp_in (c + k) 15 ∧ post (a10 (c + k).toNatClampNeg) := by
    intro c n ec hn
    refine ⟨pk_in (n + j) 15 hn (by rw [ec, ek, nI_add]), ?_⟩
    rw [hz]
    exact h
  refine br_c (fun _ => br_c (fun _ => b 6 6 rfl (by omega)) (fun _ => br_c (fun _ => b 9 9 rfl (by omega)) (fun _ => b 12 12 rfl (by omega)))) (fun _ => br_c (fun _ => b 3 3 rfl (by omega)) (fun _ => ⟨pk_in j 15 (by omega) ek, ?_⟩))
  rw [hz]
  exact h
theorem cy_block {post : Int32 → Prop} {k w : Int32} {ft fa fr fw fs fd fl fe fh fg fo : Int32} {a1 a2 a3 a4 a5 a6 a7 a8 a9 a10 a11 a12 a13 a14 a15 a16 a17 a18 a19 a20 a21 a22 a23 a24 a25 a26 a27 : Nat → Int32} (hz : ∀ j, a10 j = 0) (h : post 0) : wpX_block post (ft, fa, fr, fw, fs, fd, fl, fe, fh, fg, fo, a1, a2, a3, a4, a5, a6, a7, a8, a9, a10, a11, a12, a13, a14, a15, a16, a17, a18, a19, a20, a21, a22, a23, a24, a25, a26, a27) k w := by
  unfold wpX_block
  refine cy_in 0 3 (fun h1 k1 => br_f (by decide) ?_) (fun _ => br_t rfl h)
  obtain ⟨j, hj, ej⟩ := cy_nj (n := 3) h1 k1
  exact cy_in 0 5 (fun _ _ => br_f (by decide) (cy_blockOf hz j hj ej h)) (fun _ => br_t rfl h)
theorem cy_input {post : Int32 → St2 → Prop} {v w : Int32} {ft fa fr fw fs fd fl fe fh fg fo : Int32} {a1 a2 a3 a4 a5 a6 a7 a8 a9 a10 a11 a12 a13 a14 a15 a16 a17 a18 a19 a20 a21 a22 a23 a24 a25 a26 a27 : Nat → Int32} (h0 : v.toInt < 0 ∨ 4 ≤ v.toInt → post (-1) (ft, fa, fr, fw, fs, fd, fl, fe, fh, fg, fo, a1, a2, a3, a4, a5, a6, a7, a8, a9, a10, a11, a12, a13, a14, a15, a16, a17, a18, a19, a20, a21, a22, a23, a24, a25, a26, a27)) (h1 : 0 ≤ v.toInt → v.toInt < 4 → ∀ b : Nat → Int32, post 0 (ft, fa, fr, fw, fs, fd, fl, fe, fh, fg, fo, a1, a2, b, a4, a5, a6, a7, a8, a9, a10, a11, a12, a13, a14, a15, a16, a17, a18, a19, a20, a21, a22, a23, a24, a25, a26, a27)) : wpX_input post (ft, fa, fr, fw, fs, fd, fl, fe, fh, fg, fo, a1, a2, a3, a4, a5, a6, a7, a8, a9, a10, a11, a12, a13, a14, a15, a16, a17, a18, a19, a20, a21, a22, a23, a24, a25, a26, a27) v w := by
  unfold wpX_input
  refine cy_in 0 4 (fun h k => br_f (by decide) ?_) (fun h => br_t rfl (h0 h))
  obtain ⟨j, hj, ej⟩ := cy_nj (n := 4) h k
  exact ⟨pk_in j 4 hj ej, nm_e (h1 h k _)⟩
theorem cy_poke {post : Int32 → St2 → Prop} {v w : Int32} {ft fa fr fw fs fd fl fe fh fg fo : Int32} {a1 a2 a3 a4 a5 a6 a7 a8 a9 a10 a11 a12 a13 a14 a15 a16 a17 a18 a19 a20 a21 a22 a23 a24 a25 a26 a27 : Nat → Int32} (h0 : v.toInt < 0 ∨ 16 ≤ v.toInt → post (-1) (ft, fa, fr, fw, fs, fd, fl, fe, fh, fg, fo, a1, a2, a3, a4, a5, a6, a7, a8, a9, a10, a11, a12, a13, a14, a15, a16, a17, a18, a19, a20, a21, a22, a23, a24, a25, a26, a27)) (h1 : 0 ≤ v.toInt → v.toInt < 16 → ∀ j : Nat, j < 16 → v = nI j → post 0 (ft, fa, fr, fw, fs, fd, fl, fe, fh, fg, fo, upd a1 j w, a2, a3, a4, a5, a6, a7, a8, a9, a10, a11, a12, a13, a14, a15, a16, a17, a18, a19, a20, a21, a22, a23, a24, a25, a26, a27)) : wpX_poke post (ft, fa, fr, fw, fs, fd, fl, fe, fh, fg, fo, a1, a2, a3, a4, a5, a6, a7, a8, a9, a10, a11, a12, a13, a14, a15, a16, a17, a18, a19, a20, a21, a22, a23, a24, a25, a26, a27) v w := by
  unfold wpX_poke
  refine cy_in 0 16 (fun h k => br_f (by decide) ?_) (fun h => br_t rfl (h0 h))
  obtain ⟨j, hj, ej⟩ := cy_nj (n := 16) h k
  refine ⟨pk_in j 16 hj ej, ?_⟩
  rw [pk_cl j ej]
  exact nm_e (h1 h k j hj ej)
end
section
/-- digest: the variables' sum, all else being zero -/
def cy_sum (f : Nat → Int32) : Nat → Int32
  | 0 => 0
  | n + 1 => cy_sum f n + (nI n + 1) * f n
theorem cy_sum0 {f : Nat → Int32} {n : Nat} (h : ∀ j, j < n → f j = 0) : cy_sum f n = 0 := by
  induction n with
  | zero => rfl
  | succ n ih =>
    show cy_sum f n + (nI n + 1) * f n = 0
    rw [ih (fun j hj => h j (by omega)), h n (by omega), Int32.mul_zero, Int32.zero_add]
theorem cy_sum1 {f : Nat → Int32} {n j : Nat} {w : Int32} (hj : j < n) (e : f j = w) (h : ∀ i, i < n → i ≠ j → f i = 0) : cy_sum f n = (nI j + 1) * w := by
  induction n with
  | zero => exact absurd hj (by omega)
  | succ n ih =>
    show cy_sum f n + (nI n + 1) * f n = (nI j + 1) * w
    by_cases ej : j = n
    · subst ej
      rw [cy_sum0 (fun i hi => h i (by omega) (by omega)), e, Int32.zero_add]
    · rw [ih (by omega) (fun i hi ne => h i (by omega) ne), h n (by omega) (fun z => ej z.symm), Int32.mul_zero, Int32.add_zero]
theorem cy_d86 {post : Int32 → Prop} {ft fa fr fw fs fd fl fe fh fg fo : Int32} {a1 a2 a3 a4 a5 a6 a7 a8 a9 a10 a11 a12 a13 a14 a15 a16 a17 a18 a19 a20 a21 a22 a23 a24 a25 a26 a27 : Nat → Int32} (s : Int32) (hz : ∀ j, a10 j = 0) (h : post s) : ∃ n, wX_digest_86 post ft fa fr fw fs fd fl fe fh fg fo a1 a2 a3 a4 a5 a6 a7 a8 a9 a10 a11 a12 a13 a14 a15 a16 a17 a18 a19 a20 a21 a22 a23 a24 a25 a26 a27 n s 0 :=
  pk_loop (σ := Unit) (fun n i _ => wX_digest_86 post ft fa fr fw fs fd fl fe fh fg fo a1 a2 a3 a4 a5 a6 a7 a8 a9 a10 a11 a12 a13 a14 a15 a16 a17 a18 a19 a20 a21 a22 a23 a24 a25 a26 a27 n s (nI i)) (fun _ _ => True) 15 0 () (by omega) trivial
    (fun n _ _ => br_t (nI_le (a := 15) (b := 15) (by omega) (by omega)) h)
    (fun n i _ hi _ hw => br_f (nI_ge (b := 15) hi (by omega)) ⟨by decide, by decide, cy_blockOf hz (i / 5) (by omega) (pk_div (d := 5) (by omega) (by omega) (by omega)) (nm_r (show s + (nI i + 29) * 0 = s by rw [Int32.mul_zero, Int32.add_zero]) (nm_r (nI_1 i) (hw () trivial)))⟩)
theorem cy_d59 {post : Int32 → Prop} {ft fa fr fw fs fd fl fe fh fg fo : Int32} {a1 a2 a3 a4 a5 a6 a7 a8 a9 a10 a11 a12 a13 a14 a15 a16 a17 a18 a19 a20 a21 a22 a23 a24 a25 a26 a27 : Nat → Int32} (s : Int32) (h5 : ∀ j, a5 j = 0) (hz : ∀ j, a10 j = 0) (h : post s) : ∃ n, wX_digest_59 post ft fa fr fw fs fd fl fe fh fg fo a1 a2 a3 a4 a5 a6 a7 a8 a9 a10 a11 a12 a13 a14 a15 a16 a17 a18 a19 a20 a21 a22 a23 a24 a25 a26 a27 n s 0 :=
  pk_loop (σ := Unit) (fun n i _ => wX_digest_59 post ft fa fr fw fs fd fl fe fh fg fo a1 a2 a3 a4 a5 a6 a7 a8 a9 a10 a11 a12 a13 a14 a15 a16 a17 a18 a19 a20 a21 a22 a23 a24 a25 a26 a27 n s (nI i)) (fun _ _ => True) 4 0 () (by omega) trivial
    (fun n _ _ => br_t (nI_le (a := 4) (b := 4) (by omega) (by omega)) (cy_d86 s hz h))
    (fun n i _ hi _ hw => br_f (nI_ge (b := 4) hi (by omega)) ⟨pk_in i 4 hi, nm_r (show s + (nI i + 25) * a5 (nI i).toNatClampNeg = s by rw [h5, Int32.mul_zero, Int32.add_zero]) (nm_r (nI_1 i) (hw () trivial))⟩)
theorem cy_d31 {post : Int32 → Prop} {ft fa fr fw fs fd fl fe fh fg fo : Int32} {a1 a2 a3 a4 a5 a6 a7 a8 a9 a10 a11 a12 a13 a14 a15 a16 a17 a18 a19 a20 a21 a22 a23 a24 a25 a26 a27 : Nat → Int32} (s : Int32) (h2 : ∀ j, a2 j = 0) (h5 : ∀ j, a5 j = 0) (hz : ∀ j, a10 j = 0) (h : post s) : ∃ n, wX_digest_31 post ft fa fr fw fs fd fl fe fh fg fo a1 a2 a3 a4 a5 a6 a7 a8 a9 a10 a11 a12 a13 a14 a15 a16 a17 a18 a19 a20 a21 a22 a23 a24 a25 a26 a27 n s 0 :=
  pk_loop (σ := Unit) (fun n i _ => wX_digest_31 post ft fa fr fw fs fd fl fe fh fg fo a1 a2 a3 a4 a5 a6 a7 a8 a9 a10 a11 a12 a13 a14 a15 a16 a17 a18 a19 a20 a21 a22 a23 a24 a25 a26 a27 n s (nI i)) (fun _ _ => True) 8 0 () (by omega) trivial
    (fun n _ _ => br_t (nI_le (a := 8) (b := 8) (by omega) (by omega)) (cy_d59 s h5 hz h))
    (fun n i _ hi _ hw => br_f (nI_ge (b := 8) hi (by omega)) ⟨pk_in i 8 hi, nm_r (show s + (nI i + 17) * a2 (nI i).toNatClampNeg = s by rw [h2, Int32.mul_zero, Int32.add_zero]) (nm_r (nI_1 i) (hw () trivial))⟩)
theorem cy_digest {post : Int32 → Prop} {ft fa fr fw fs fd fl fe fh fg fo : Int32} {a1 a2 a3 a4 a5 a6 a7 a8 a9 a10 a11 a12 a13 a14 a15 a16 a17 a18 a19 a20 a21 a22 a23 a24 a25 a26 a27 : Nat → Int32} (h2 : ∀ j, a2 j = 0) (h5 : ∀ j, a5 j = 0) (hz : ∀ j, a10 j = 0) (h : post (cy_sum a1 16)) : wpX_digest post (ft, fa, fr, fw, fs, fd, fl, fe, fh, fg, fo, a1, a2, a3, a4, a5, a6, a7, a8, a9, a10, a11, a12, a13, a14, a15, a16, a17, a18, a19, a20, a21, a22, a23, a24, a25, a26, a27) :=
  pk_loop (σ := Int32) (fun n i s => wX_digest_4 post ft fa fr fw fs fd fl fe fh fg fo a1 a2 a3 a4 a5 a6 a7 a8 a9 a10 a11 a12 a13 a14 a15 a16 a17 a18 a19 a20 a21 a22 a23 a24 a25 a26 a27 n s (nI i)) (fun i s => s = cy_sum a1 i) 16 0 0 (by omega) rfl
    (fun n s e => br_t (nI_le (a := 16) (b := 16) (by omega) (by omega)) (cy_d31 s h2 h5 hz (by rw [e]; exact h)))
    (fun n i s hi e hw => br_f (nI_ge (b := 16) hi (by omega)) ⟨pk_in i 16 hi, nm_r (show s + (nI i + 1) * a1 (nI i).toNatClampNeg = cy_sum a1 (i + 1) by rw [nI_clamp (by omega), e]; rfl) (nm_r (nI_1 i) (hw _ rfl))⟩)
/-- restart -/
theorem cy_u0 {f : Nat → Int32} {k : Nat} (h : ∀ j, f j = 0) : ∀ j, upd f k 0 j = 0 := by
  intro j
  by_cases e : j = k
  · rw [e, pk_us]
  · rw [pk_un e, h]
theorem cy_r85 {post : St2 → Prop} {ft fa fr fw fs fd fl fe fh fg fo : Int32} {a1 a2 a3 a4 a5 a6 a7 a8 a9 a10 a11 a12 a13 a14 a15 a16 a17 a18 a19 a20 a21 a22 a23 a24 a25 a26 a27 : Nat → Int32} (H : ∀ b6 b7 b8 b9 : Nat → Int32, post (ft, fa, fr, fw, fs, fd, fl, fe, fh, fg, fo, a1, a2, a3, a4, a5, b6, b7, b8, b9, a10, a11, a12, a13, a14, a15, a16, a17, a18, a19, a20, a21, a22, a23, a24, a25, a26, a27)) : ∃ n, wX_restart_85 post ft fa fr fw fs fd fl fe fh fg fo n 0 a1 a2 a3 a4 a5 a6 a7 a8 a9 a10 a11 a12 a13 a14 a15 a16 a17 a18 a19 a20 a21 a22 a23 a24 a25 a26 a27 :=
  pk_loop (σ := (Nat → Int32) × (Nat → Int32) × (Nat → Int32) × (Nat → Int32)) (fun n i s => wX_restart_85 post ft fa fr fw fs fd fl fe fh fg fo n (nI i) a1 a2 a3 a4 a5 s.1 s.2.1 s.2.2.1 s.2.2.2 a10 a11 a12 a13 a14 a15 a16 a17 a18 a19 a20 a21 a22 a23 a24 a25 a26 a27) (fun _ _ => True) 3 0 (a6, a7, a8, a9) (by omega) trivial
    (fun n s _ => br_t (nI_le (a := 3) (b := 3) (by omega) (by omega)) (H s.1 s.2.1 s.2.2.1 s.2.2.2))
    (fun n i s hi _ hw => br_f (nI_ge (b := 3) hi (by omega)) ⟨pk_in i 3 hi, nm_e ⟨pk_in i 3 hi, nm_e ⟨pk_in i 3 hi, nm_e ⟨pk_in i 3 hi, nm_e (nm_r (nI_1 i) (hw (_, _, _, _) trivial))⟩⟩⟩⟩)
theorem cy_r64 {post : St2 → Prop} {ft fa fr fw fs fd fl fe fh fg fo : Int32} {a1 a2 a3 a4 a5 a6 a7 a8 a9 a10 a11 a12 a13 a14 a15 a16 a17 a18 a19 a20 a21 a22 a23 a24 a25 a26 a27 : Nat → Int32} (hz : ∀ j, a10 j = 0) (H : ∀ b6 b7 b8 b9 b10 : Nat → Int32, (∀ j, b10 j = 0) → post (ft, fa, fr, fw, fs, fd, fl, fe, fh, fg, fo, a1, a2, a3, a4, a5, b6, b7, b8, b9, b10, a11, a12, a13, a14, a15, a16, a17, a18, a19, a20, a21, a22, a23, a24, a25, a26, a27)) : ∃ n, wX_restart_64 post ft fa fr fw fs fd fl fe fh fg fo n 0 a1 a2 a3 a4 a5 a6 a7 a8 a9 a10 a11 a12 a13 a14 a15 a16 a17 a18 a19 a20 a21 a22 a23 a24 a25 a26 a27 :=
  pk_loop (σ := Nat → Int32) (fun n i s => wX_restart_64 post ft fa fr fw fs fd fl fe fh fg fo n (nI i) a1 a2 a3 a4 a5 a6 a7 a8 a9 s a11 a12 a13 a14 a15 a16 a17 a18 a19 a20 a21 a22 a23 a24 a25 a26 a27) (fun _ s => ∀ j, s j = 0) 15 0 a10 (by omega) hz
    (fun n s e => br_t (nI_le (a := 15) (b := 15) (by omega) (by omega)) (cy_r85 (fun b6 b7 b8 b9 => H b6 b7 b8 b9 s e)))
    (fun n i s hi e hw => br_f (nI_ge (b := 15) hi (by omega)) ⟨pk_in i 15 hi, nm_e (nm_r (nI_1 i) (hw _ (cy_u0 e)))⟩)
theorem cy_r44 {post : St2 → Prop} {ft fa fr fw fs fd fl fe fh fg fo : Int32} {a1 a2 a3 a4 a5 a6 a7 a8 a9 a10 a11 a12 a13 a14 a15 a16 a17 a18 a19 a20 a21 a22 a23 a24 a25 a26 a27 : Nat → Int32} (h5 : ∀ j, a5 j = 0) (hz : ∀ j, a10 j = 0) (H : ∀ b5 b6 b7 b8 b9 b10 : Nat → Int32, (∀ j, b5 j = 0) → (∀ j, b10 j = 0) → post (ft, fa, fr, fw, fs, fd, fl, fe, fh, fg, fo, a1, a2, a3, a4, b5, b6, b7, b8, b9, b10, a11, a12, a13, a14, a15, a16, a17, a18, a19, a20, a21, a22, a23, a24, a25, a26, a27)) : ∃ n, wX_restart_44 post ft fa fr fw fs fd fl fe fh fg fo n 0 a1 a2 a3 a4 a5 a6 a7 a8 a9 a10 a11 a12 a13 a14 a15 a16 a17 a18 a19 a20 a21 a22 a23 a24 a25 a26 a27 :=
  pk_loop (σ := Nat → Int32) (fun n i s => wX_restart_44 post ft fa fr fw fs fd fl fe fh fg fo n (nI i) a1 a2 a3 a4 s a6 a7 a8 a9 a10 a11 a12 a13 a14 a15 a16 a17 a18 a19 a20 a21 a22 a23 a24 a25 a26 a27) (fun _ s => ∀ j, s j = 0) 4 0 a5 (by omega) h5
    (fun n s e => br_t (nI_le (a := 4) (b := 4) (by omega) (by omega)) (cy_r64 hz (fun b6 b7 b8 b9 b10 => H s b6 b7 b8 b9 b10 e)))
    (fun n i s hi e hw => br_f (nI_ge (b := 4) hi (by omega)) ⟨pk_in i 4 hi, nm_e (nm_r (nI_1 i) (hw _ (cy_u0 e)))⟩)
theorem cy_r23 {post : St2 → Prop} {ft fa fr fw fs fd fl fe fh fg fo : Int32} {a1 a2 a3 a4 a5 a6 a7 a8 a9 a10 a11 a12 a13 a14 a15 a16 a17 a18 a19 a20 a21 a22 a23 a24 a25 a26 a27 : Nat → Int32} (h2 : ∀ j, a2 j = 0) (h5 : ∀ j, a5 j = 0) (hz : ∀ j, a10 j = 0) (H : ∀ b2 b5 b6 b7 b8 b9 b10 : Nat → Int32, (∀ j, b2 j = 0) → (∀ j, b5 j = 0) → (∀ j, b10 j = 0) → post (ft, fa, fr, fw, fs, fd, fl, fe, fh, fg, fo, a1, b2, a3, a4, b5, b6, b7, b8, b9, b10, a11, a12, a13, a14, a15, a16, a17, a18, a19, a20, a21, a22, a23, a24, a25, a26, a27)) : ∃ n, wX_restart_23 post ft fa fr fw fs fd fl fe fh fg fo n 0 a1 a2 a3 a4 a5 a6 a7 a8 a9 a10 a11 a12 a13 a14 a15 a16 a17 a18 a19 a20 a21 a22 a23 a24 a25 a26 a27 :=
  pk_loop (σ := Nat → Int32) (fun n i s => wX_restart_23 post ft fa fr fw fs fd fl fe fh fg fo n (nI i) a1 s a3 a4 a5 a6 a7 a8 a9 a10 a11 a12 a13 a14 a15 a16 a17 a18 a19 a20 a21 a22 a23 a24 a25 a26 a27) (fun _ s => ∀ j, s j = 0) 8 0 a2 (by omega) h2
    (fun n s e => br_t (nI_le (a := 8) (b := 8) (by omega) (by omega)) (cy_r44 h5 hz (fun b5 b6 b7 b8 b9 b10 => H s b5 b6 b7 b8 b9 b10 e)))
    (fun n i s hi e hw => br_f (nI_ge (b := 8) hi (by omega)) ⟨pk_in i 8 hi, nm_e (nm_r (nI_1 i) (hw _ (cy_u0 e)))⟩)
theorem cy_r2 {f s : Nat → Int32} {i k : Nat} (hk : k = i) (e : 4 ≤ i ∧ (∀ j, j < 4 → s j = f j) ∧ (∀ j, 4 ≤ j → j < i → s j = 0)) : 4 ≤ i + 1 ∧ (∀ j, j < 4 → upd s k 0 j = f j) ∧ (∀ j, 4 ≤ j → j < i + 1 → upd s k 0 j = 0) := by
  obtain ⟨h4, e1, e2⟩ := e
  refine ⟨by omega, fun j hj => ?_, fun j h hj => ?_⟩
  · rw [pk_un (show j ≠ k by omega)]
    exact e1 j hj
  · by_cases ej : j = k
    · rw [ej, pk_us]
    · rw [pk_un ej]
      exact e2 j h (by omega)
theorem cy_restart {post : St2 → Prop} {ft fa fr fw fs fd fl fe fh fg fo : Int32} {a1 a2 a3 a4 a5 a6 a7 a8 a9 a10 a11 a12 a13 a14 a15 a16 a17 a18 a19 a20 a21 a22 a23 a24 a25 a26 a27 : Nat → Int32} (h2 : ∀ j, a2 j = 0) (h5 : ∀ j, a5 j = 0) (hz : ∀ j, a10 j = 0)
    (H : ∀ b1 b2 b5 b6 b7 b8 b9 b10 : Nat → Int32, (∀ j, j < 4 → b1 j = a1 j) → (∀ j, 4 ≤ j → j < 16 → b1 j = 0) → (∀ j, b2 j = 0) → (∀ j, b5 j = 0) → (∀ j, b10 j = 0) → post (ft, fa, fr, fw, fs, fd, fl, fe, fh, fg, fo, b1, b2, a3, a4, b5, b6, b7, b8, b9, b10, a11, a12, a13, a14, a15, a16, a17, a18, a19, a20, a21, a22, a23, a24, a25, a26, a27)) : wpX_restart post (ft, fa, fr, fw, fs, fd, fl, fe, fh, fg, fo, a1, a2, a3, a4, a5, a6, a7, a8, a9, a10, a11, a12, a13, a14, a15, a16, a17, a18, a19, a20, a21, a22, a23, a24, a25, a26, a27) :=
  pk_loop (σ := Nat → Int32) (fun n i s => wX_restart_2 post ft fa fr fw fs fd fl fe fh fg fo n (nI i) s a2 a3 a4 a5 a6 a7 a8 a9 a10 a11 a12 a13 a14 a15 a16 a17 a18 a19 a20 a21 a22 a23 a24 a25 a26 a27) (fun i s => 4 ≤ i ∧ (∀ j, j < 4 → s j = a1 j) ∧ (∀ j, 4 ≤ j → j < i → s j = 0)) 16 4 a1 (by omega) ⟨by omega, fun _ _ => rfl, fun j h k => absurd k (by omega)⟩
    (fun n s e => br_t (nI_le (a := 16) (b := 16) (by omega) (by omega)) (cy_r23 h2 h5 hz (fun b2 b5 b6 b7 b8 b9 b10 => H s b2 b5 b6 b7 b8 b9 b10 e.2.1 e.2.2)))
    (fun n i s hi e hw => br_f (nI_ge (b := 16) hi (by omega)) ⟨pk_in i 16 hi, nm_e (nm_r (nI_1 i) (hw _ (cy_r2 (nI_clamp (by omega)) e)))⟩)
end
section
theorem cy_tokenAt {post : Int32 → Prop} {x : Int32} {ft fa fr fw fs fd fl fe fh fg fo : Int32} {a1 a2 a3 a4 a5 a6 a7 a8 a9 a10 a11 a12 a13 a14 a15 a16 a17 a18 a19 a20 a21 a22 a23 a24 a25 a26 a27 : Nat → Int32} (q i : Nat) (ea : fa = nI q) (hq : q < 2) (hi : i < 60) (ex : x = nI i) (h : post (a11 (60 * q + i))) : wpX_tokenAt post (ft, fa, fr, fw, fs, fd, fl, fe, fh, fg, fo, a1, a2, a3, a4, a5, a6, a7, a8, a9, a10, a11, a12, a13, a14, a15, a16, a17, a18, a19, a20, a21, a22, a23, a24, a25, a26, a27) x := by
  subst ea
  subst ex
  refine ⟨pk_in (60 * q + i) 120 (by omega) (cy_60 q i), ?_⟩
  rw [cy_60, nI_clamp (by omega)]
  exact h
theorem cy_measure {post : St2 → Prop} {ft fa fr fw fs fd fl fe fh fg fo : Int32} {a1 a2 a3 a4 a5 a6 a7 a8 a9 a10 a11 a12 a13 a14 a15 a16 a17 a18 a19 a20 a21 a22 a23 a24 a25 a26 a27 : Nat → Int32} (q : Nat) (ea : fa = nI q) (hq : q < 2) (h12 : a12 q = nI 1) (ht : (a11 (60 * q)).toInt = 2 ∨ (a11 (60 * q)).toInt = 39) (H : ∀ b14 : Nat → Int32, post (ft, fa, fr, fw, fs, fd, fl, fe, fh, fg, fo, a1, a2, a3, a4, a5, a6, a7, a8, a9, a10, a11, a12, a13, b14, a15, a16, a17, a18, a19, a20, a21, a22, a23, a24, a25, a26, a27)) : wpX_measure post (ft, fa, fr, fw, fs, fd, fl, fe, fh, fg, fo, a1, a2, a3, a4, a5, a6, a7, a8, a9, a10, a11, a12, a13, a14, a15, a16, a17, a18, a19, a20, a21, a22, a23, a24, a25, a26, a27) := by
  refine ⟨pk_in q 2 hq ea, ?_⟩
  rw [pk_cl q ea, h12]
  refine nm_r (nI_pred 0) ⟨2, br_f (nI_pos (by omega)) (cy_tokenAt q 0 ea hq (by omega) rfl (cy_partsOf (fun k hk => ⟨1, ?_⟩)))⟩
  have e : k = 0 := by
    rcases ht with h | h
    · exact hk.2.1 h
    · exact hk.2.2.1 h
  subst e
  exact br_t (by decide) ⟨pk_in 0 60 (by omega), nm_e (nm_e (br_t (by decide) (H _)))⟩
theorem cy_enter {post : St2 → Prop} {x : Int32} {ft fa fr fw fs fd fl fe fh fg fo : Int32} {a1 a2 a3 a4 a5 a6 a7 a8 a9 a10 a11 a12 a13 a14 a15 a16 a17 a18 a19 a20 a21 a22 a23 a24 a25 a26 a27 : Nat → Int32} (d : Nat) (ed : fd = nI d) (hd : d < 64) (H : post (ft, fa, fr, fw, fs, nI (d + 1), fl, fe, fh, fg, fo, a1, a2, a3, a4, a5, a6, a7, a8, a9, a10, a11, a12, a13, a14, a15, a16, a17, upd a18 d x, upd a19 d 0, a20, a21, a22, a23, a24, a25, a26, a27)) : wpX_enter post (ft, fa, fr, fw, fs, fd, fl, fe, fh, fg, fo, a1, a2, a3, a4, a5, a6, a7, a8, a9, a10, a11, a12, a13, a14, a15, a16, a17, a18, a19, a20, a21, a22, a23, a24, a25, a26, a27) x := by
  refine ⟨pk_in d 64 hd ed, ?_⟩
  rw [pk_cl d ed]
  exact nm_e ⟨pk_in d 64 hd ed, nm_e (nm_r (by rw [ed, nI_1]) H)⟩
theorem cy_emit {post : Int32 → St2 → Prop} {o x : Int32} {ft fa fr fw fs fd fl fe fh fg fo : Int32} {a1 a2 a3 a4 a5 a6 a7 a8 a9 a10 a11 a12 a13 a14 a15 a16 a17 a18 a19 a20 a21 a22 a23 a24 a25 a26 a27 : Nat → Int32} (n : Nat) (es : fs = nI n) (hn : n < 400) (H : ∀ (r : Int32) (b16 b17 : Nat → Int32), post r (ft, fa, fr, fw, nI (n + 1), fd, fl, fe, fh, fg, fo, a1, a2, a3, a4, a5, a6, a7, a8, a9, a10, a11, a12, a13, a14, upd a15 n o, b16, b17, a18, a19, a20, a21, a22, a23, a24, a25, a26, a27)) : wpX_emit post (ft, fa, fr, fw, fs, fd, fl, fe, fh, fg, fo, a1, a2, a3, a4, a5, a6, a7, a8, a9, a10, a11, a12, a13, a14, a15, a16, a17, a18, a19, a20, a21, a22, a23, a24, a25, a26, a27) o x := by
  subst es
  refine br_f (nI_ge (b := 400) hn (by omega)) ⟨pk_in n 400 hn, ?_⟩
  rw [nI_clamp (show n < 2 ^ 31 by omega)]
  exact nm_e ⟨pk_in n 400 hn, nm_e ⟨pk_in n 400 hn, nm_e (nm_r (nI_1 n) (H _ _ _))⟩⟩
theorem cy_jumpsN {post : Int32 → Prop} {u : St0} {x : Int32} (ex : x = 311) (h : post 0) : wpX_jumps post u x := by
  subst ex
  exact br_f (by decide) (br_f (by decide) (br_f (by decide) (br_f (by decide) (br_f (by decide) (br_f (by decide) h)))))
theorem cy_leadOn {post : St2 → Prop} {ft fa fr fw fs fd fl fe fh fg fo : Int32} {a1 a2 a3 a4 a5 a6 a7 a8 a9 a10 a11 a12 a13 a14 a15 a16 a17 a18 a19 a20 a21 a22 a23 a24 a25 a26 a27 : Nat → Int32} (n : Nat) (es : fs = nI n) (hn : n ≤ 400) (h15 : ∀ j, j < n → a15 j = 311) (H : ∀ b17 : Nat → Int32, post (ft, fa, fr, fw, fs, fd, fl, fe, fh, fg, fo, a1, a2, a3, a4, a5, a6, a7, a8, a9, a10, a11, a12, a13, a14, a15, a16, b17, a18, a19, a20, a21, a22, a23, a24, a25, a26, a27)) : wpX_leadOn post (ft, fa, fr, fw, fs, fd, fl, fe, fh, fg, fo, a1, a2, a3, a4, a5, a6, a7, a8, a9, a10, a11, a12, a13, a14, a15, a16, a17, a18, a19, a20, a21, a22, a23, a24, a25, a26, a27) := by
  subst es
  have ho : ∀ i, i < n → a15 (nI i).toNatClampNeg = 311 := fun i hi => by
    rw [nI_clamp (show i < 2 ^ 31 by omega)]
    exact h15 i hi
  exact pk_loop (σ := Nat → Int32) (fun k i s => wX_leadOn_2 post ft fa fr fw (nI n) fd fl fe fh fg fo k (nI i) a1 a2 a3 a4 a5 a6 a7 a8 a9 a10 a11 a12 a13 a14 a15 a16 s a18 a19 a20 a21 a22 a23 a24 a25 a26 a27) (fun _ _ => True) n 0 a17 (by omega) trivial
    (fun k s _ => br_t (nI_le (Nat.le_refl n) (by omega)) (H s))
    (fun k i s hi _ hw => br_f (nI_ge hi (by omega)) ⟨pk_in i 400 (by omega), nm_e ⟨1, br_f (by decide) ⟨pk_in i 400 (by omega), cy_jumpsN (ho i hi) (br_t rfl ⟨pk_in i 400 (by omega), cy_jumpsN (ho i hi) (br_t rfl ⟨pk_in i 400 (by omega), pk_in i 400 (by omega), nm_e (nm_r (nI_1 i) (hw _ trivial))⟩)⟩)⟩⟩⟩)
/-- the two statements without parts -/
theorem cy_stmt2 {post : St2 → Prop} {i t ph top : Int32} {ft fa fr fw fs fd fl fe fh fg fo : Int32} {a1 a2 a3 a4 a5 a6 a7 a8 a9 a10 a11 a12 a13 a14 a15 a16 a17 a18 a19 a20 a21 a22 a23 a24 a25 a26 a27 : Nat → Int32} (ht : t.toInt = 2) (h : post (ft, fa, fr, fw, fs, fd, fl, fe, fh, fg, fo, a1, a2, a3, a4, a5, a6, a7, a8, a9, a10, a11, a12, a13, a14, a15, a16, a17, a18, a19, a20, a21, a22, a23, a24, a25, a26, a27)) : wpX_statement post (ft, fa, fr, fw, fs, fd, fl, fe, fh, fg, fo, a1, a2, a3, a4, a5, a6, a7, a8, a9, a10, a11, a12, a13, a14, a15, a16, a17, a18, a19, a20, a21, a22, a23, a24, a25, a26, a27) i t ph top := by
  unfold wpX_statement
  exact cy_partsOf (fun k hk => cy_beq 35 (fun e => False.elim (by omega)) (fun _ => cy_beq 56 (fun e => False.elim (by omega)) (fun _ => cy_beq 36 (fun e => False.elim (by omega)) (fun _ => cy_beq 37 (fun e => False.elim (by omega)) (fun _ =>
    cy_in 40 56 (fun e e' => False.elim (by omega)) (fun _ => br_t rfl (cy_beq 39 (fun e => False.elim (by omega)) (fun _ => cy_beq 1 (fun e => False.elim (by omega)) (fun _ => cy_beq 2 (fun _ => h) (fun e => False.elim (by omega)))))))))))
theorem cy_stmt39 {post : St2 → Prop} {i t ph top : Int32} {ft fa fr fw fs fd fl fe fh fg fo : Int32} {a1 a2 a3 a4 a5 a6 a7 a8 a9 a10 a11 a12 a13 a14 a15 a16 a17 a18 a19 a20 a21 a22 a23 a24 a25 a26 a27 : Nat → Int32} (ht : t.toInt = 39) (n : Nat) (es : fs = nI n) (hn : n < 400) (el : fl = 0) (H : ∀ b16 b17 : Nat → Int32, post (ft, fa, fr, fw, nI (n + 1), fd, fl, fe, fh, fg, fo, a1, a2, a3, a4, a5, a6, a7, a8, a9, a10, a11, a12, a13, a14, upd a15 n 311, b16, b17, a18, a19, a20, a21, a22, a23, a24, a25, a26, a27)) : wpX_statement post (ft, fa, fr, fw, fs, fd, fl, fe, fh, fg, fo, a1, a2, a3, a4, a5, a6, a7, a8, a9, a10, a11, a12, a13, a14, a15, a16, a17, a18, a19, a20, a21, a22, a23, a24, a25, a26, a27) i t ph top := by
  unfold wpX_statement
  exact cy_partsOf (fun k hk => cy_beq 35 (fun e => False.elim (by omega)) (fun _ => cy_beq 56 (fun e => False.elim (by omega)) (fun _ => cy_beq 36 (fun e => False.elim (by omega)) (fun _ => cy_beq 37 (fun e => False.elim (by omega)) (fun _ =>
    cy_in 40 56 (fun e e' => False.elim (by omega)) (fun _ => br_t rfl (cy_beq 39 (fun _ => br_t (by rw [el]; decide) (cy_emit n es hn (fun r b16 b17 => br_t (by rw [el]; decide) (H b16 b17)))) (fun e => False.elim (by omega)))))))))
theorem cy_compile {post : St2 → Prop} {ft fa fr fw fs fd fl fe fh fg fo : Int32} {a1 a2 a3 a4 a5 a6 a7 a8 a9 a10 a11 a12 a13 a14 a15 a16 a17 a18 a19 a20 a21 a22 a23 a24 a25 a26 a27 : Nat → Int32} (q : Nat) (ea : fa = nI q) (hq : q < 2) (h12 : a12 q = nI 1) (ht : (a11 (60 * q)).toInt = 2 ∨ (a11 (60 * q)).toInt = 39)
    (H : ∀ (n : Nat) (gd gl ge : Int32) (b14 b15 b16 b17 b18 b19 : Nat → Int32), 0 < n → n ≤ 2 → b15 0 = 311 → post (ft, fa, fr, fw, nI n, gd, gl, ge, fh, fg, fo, a1, a2, a3, a4, a5, a6, a7, a8, a9, a10, a11, a12, a13, b14, b15, b16, b17, b18, b19, a20, a21, a22, a23, a24, a25, a26, a27)) : wpX_compile post (ft, fa, fr, fw, fs, fd, fl, fe, fh, fg, fo, a1, a2, a3, a4, a5, a6, a7, a8, a9, a10, a11, a12, a13, a14, a15, a16, a17, a18, a19, a20, a21, a22, a23, a24, a25, a26, a27) := by
  unfold wpX_compile
  refine cy_measure q ea hq h12 ht (fun b14 => cy_enter 0 rfl (by omega) ⟨2, ?_⟩)
  refine br_f (by decide) (nm_r (nI_pred 0) ⟨pk_in 0 64 (by omega), nm_r (e' := 0) pk_us ⟨pk_in 0 64 (by omega), nm_r (e' := 0) pk_us ⟨pk_in 0 64 (by omega), pk_in 0 64 (by omega), nm_e ?_⟩⟩⟩)
  refine cy_tokenAt q 0 ea hq (by omega) rfl (cy_partsOf (fun k hk => cy_isStatement (fun hz => br_f (by decide) ?_) (fun hz => absurd (show cy_sZ (a11 (60 * q)).toInt by unfold cy_sZ; omega) hz)))
  have e : k = 0 := by
    rcases ht with h | h
    · exact hk.2.1 h
    · exact hk.2.2.1 h
  subst e
  rcases ht with h | h
  · refine cy_stmt2 h (br_t (by decide) (br_t rfl (nm_r (nI_pred 0) (br_t (by decide) (cy_emit 0 rfl (by omega) (fun r b16 b17 => cy_leadOn 1 rfl (by omega) (fun j hj => ?_) (fun c17 => ?_)))))))
    · rw [show j = 0 by omega, pk_us]
    · exact H 1 _ _ _ _ _ _ _ _ _ (by omega) (by omega) pk_us
  · refine cy_stmt39 h 0 rfl (by omega) rfl (fun b16 b17 => br_t (by decide) (br_t rfl (nm_r (nI_pred 0) (br_t (by decide) (cy_emit 1 rfl (by omega) (fun r c16 c17 => cy_leadOn 2 rfl (by omega) (fun j hj => ?_) (fun d17 => ?_)))))))
    · have : j = 0 ∨ j = 1 := by omega
      rcases this with z | z
      · rw [z, pk_un (by decide), pk_us]
      · rw [z, pk_us]
    · exact H 2 _ _ _ _ _ _ _ _ _ (by omega) (by omega) (by rw [pk_un (by decide), pk_us])
theorem cy_activateY {post : Int32 → St2 → Prop} {p : Int32} {ft fa fr fw fs fd fl fe fh fg fo : Int32} {a1 a2 a3 a4 a5 a6 a7 a8 a9 a10 a11 a12 a13 a14 a15 a16 a17 a18 a19 a20 a21 a22 a23 a24 a25 a26 a27 : Nat → Int32} (q : Nat) (ep : p = nI q) (hq : q < 2) (h12 : a12 q = nI 1) (ht : (a11 (60 * q)).toInt = 2 ∨ (a11 (60 * q)).toInt = 39)
    (H : ∀ (n : Nat) (gw gd gl ge : Int32) (b13 b14 b15 b16 b17 b18 b19 : Nat → Int32), 0 < n → n ≤ 2 → b15 0 = 311 → post fa (ft, p, 1, gw, nI n, gd, gl, ge, fh, fg, fo, a1, a2, a3, a4, a5, a6, a7, a8, a9, a10, a11, a12, b13, b14, b15, b16, b17, b18, b19, a20, a21, a22, a23, a24, a25, a26, a27)) : wpX_activate post (ft, fa, fr, fw, fs, fd, fl, fe, fh, fg, fo, a1, a2, a3, a4, a5, a6, a7, a8, a9, a10, a11, a12, a13, a14, a15, a16, a17, a18, a19, a20, a21, a22, a23, a24, a25, a26, a27) p := by
  unfold wpX_activate
  refine cy_prog (cy_qp hq ep) (br_f (by decide) (cy_isComplete (cy_sc1 q ep hq h12) (fun b _ => br_f (by decide) (cy_compile q ep hq h12 ht (fun n gd gl ge b14 b15 b16 b17 b18 b19 h1 h2 h3 => H n _ gd gl ge b b14 b15 b16 b17 b18 b19 h1 h2 h3))) (fun m b hM hm => ?_)))
  exfalso
  have e : m = 0 := by
    rcases ht with h | h
    · exact hM.2.1 h
    · exact hM.2.2.1 h
  omega
/-- cycle -/
theorem cy_cycleN {post : Int32 → St2 → Prop} {t : Int32} {ft fa fr fw fs fd fl fe fh fg fo : Int32} {a1 a2 a3 a4 a5 a6 a7 a8 a9 a10 a11 a12 a13 a14 a15 a16 a17 a18 a19 a20 a21 a22 a23 a24 a25 a26 a27 : Nat → Int32} (hr : fr = 0) (h0 : t.toInt < 0 ∨ 100 < t.toInt → post (-1) (ft, fa, fr, fw, fs, fd, fl, fe, fh, fg, fo, a1, a2, a3, a4, a5, a6, a7, a8, a9, a10, a11, a12, a13, a14, a15, a16, a17, a18, a19, a20, a21, a22, a23, a24, a25, a26, a27)) (h1 : 0 ≤ t.toInt → t.toInt ≤ 100 → post (-2) (ft, fa, fr, fw, fs, fd, fl, fe, fh, fg, fo, a1, a2, a3, a4, a5, a6, a7, a8, a9, a10, a11, a12, a13, a14, a15, a16, a17, a18, a19, a20, a21, a22, a23, a24, a25, a26, a27)) : wpX_cycle post (ft, fa, fr, fw, fs, fd, fl, fe, fh, fg, fo, a1, a2, a3, a4, a5, a6, a7, a8, a9, a10, a11, a12, a13, a14, a15, a16, a17, a18, a19, a20, a21, a22, a23, a24, a25, a26, a27) t :=
  cy_blt 0 (fun h => h0 (Or.inl h)) (fun h => cy_ble 100 (fun k => br_t hr (h1 h k)) (fun k => h0 (Or.inr k)))
theorem cy_cycleB {post : Int32 → St2 → Prop} {ft fa fr fw fs fd fl fe fh fg fo : Int32} {a1 a2 a3 a4 a5 a6 a7 a8 a9 a10 a11 a12 a13 a14 a15 a16 a17 a18 a19 a20 a21 a22 a23 a24 a25 a26 a27 : Nat → Int32} (h0 : post (-1) (ft, fa, fr, fw, fs, fd, fl, fe, fh, fg, fo, a1, a2, a3, a4, a5, a6, a7, a8, a9, a10, a11, a12, a13, a14, a15, a16, a17, a18, a19, a20, a21, a22, a23, a24, a25, a26, a27)) : wpX_cycle post (ft, fa, fr, fw, fs, fd, fl, fe, fh, fg, fo, a1, a2, a3, a4, a5, a6, a7, a8, a9, a10, a11, a12, a13, a14, a15, a16, a17, a18, a19, a20, a21, a22, a23, a24, a25, a26, a27) 101 :=
  br_f (by decide) (br_f (by decide) h0)
theorem cy_begin {post : St2 → Prop} {o x : Int32} {ft fa fr fw fs fd fl fe fh fg fo : Int32} {a1 a2 a3 a4 a5 a6 a7 a8 a9 a10 a11 a12 a13 a14 a15 a16 a17 a18 a19 a20 a21 a22 a23 a24 a25 a26 a27 : Nat → Int32} (eo : o = 311) (h : post (ft, fa, fr, fw, fs, fd, fl, fe, fh, fg, 1, a1, a2, a3, a4, a5, a6, a7, a8, a9, a10, a11, a12, a13, a14, a15, a16, a17, a18, a19, a20, a21, a22, a23, a24, a25, a26, a27)) : wpX_begin post (ft, fa, fr, fw, fs, fd, fl, fe, fh, fg, fo, a1, a2, a3, a4, a5, a6, a7, a8, a9, a10, a11, a12, a13, a14, a15, a16, a17, a18, a19, a20, a21, a22, a23, a24, a25, a26, a27) o x := by
  subst eo
  exact br_f (by decide) (br_f (by decide) (br_f (by decide) (br_f (by decide) h)))
theorem cy_steer {post : Int32 → St2 → Prop} {ft fa fr fw fs fd fl fe fh fg fo : Int32} {a1 a2 a3 a4 a5 a6 a7 a8 a9 a10 a11 a12 a13 a14 a15 a16 a17 a18 a19 a20 a21 a22 a23 a24 a25 a26 a27 : Nat → Int32} (h15 : a15 0 = 311) (h : post (0 + 1) (ft, fa, fr, fw, fs, fd, fl, fe, fh, fg, 1, a1, a2, a3, a4, a5, a6, a7, a8, a9, a10, a11, a12, a13, a14, a15, a16, a17, a18, a19, a20, a21, a22, a23, a24, a25, a26, a27)) : wpX_steer post (ft, fa, fr, fw, fs, fd, fl, fe, fh, fg, fo, a1, a2, a3, a4, a5, a6, a7, a8, a9, a10, a11, a12, a13, a14, a15, a16, a17, a18, a19, a20, a21, a22, a23, a24, a25, a26, a27) 0 :=
  ⟨pk_in 0 400 (by omega), nm_r (e' := 311) h15 ⟨pk_in 0 400 (by omega), nm_e (br_f (by decide) (br_f (by decide) (br_f (by decide) (br_f (by decide) (br_f (by decide) (br_f (by decide) (cy_begin rfl h)))))))⟩⟩
theorem cy_carryOut {post : Int32 → St2 → Prop} {ft fa fr fw fs fd fl fe fh fg fo : Int32} {a1 a2 a3 a4 a5 a6 a7 a8 a9 a10 a11 a12 a13 a14 a15 a16 a17 a18 a19 a20 a21 a22 a23 a24 a25 a26 a27 : Nat → Int32} (h15 : a15 0 = 311) (h : post (0 + 1) (ft, fa, fr, fw, fs, fd, fl, fe, fh, fg, 1, a1, a2, a3, a4, a5, a6, a7, a8, a9, a10, a11, a12, a13, a14, a15, a16, a17, a18, a19, a20, a21, a22, a23, a24, a25, a26, a27)) : wpX_carryOut post (ft, fa, fr, fw, fs, fd, fl, fe, fh, fg, fo, a1, a2, a3, a4, a5, a6, a7, a8, a9, a10, a11, a12, a13, a14, a15, a16, a17, a18, a19, a20, a21, a22, a23, a24, a25, a26, a27) 0 :=
  ⟨pk_in 0 400 (by omega), nm_r (e' := 311) h15 (br_f (by decide) (cy_steer h15 h))⟩
theorem cy_cycleR {post : Int32 → St2 → Prop} {ft fa fr fw fs fd fl fe fh fg fo : Int32} {a1 a2 a3 a4 a5 a6 a7 a8 a9 a10 a11 a12 a13 a14 a15 a16 a17 a18 a19 a20 a21 a22 a23 a24 a25 a26 a27 : Nat → Int32} (n : Nat) (es : fs = nI n) (hn : 0 < n) (hn2 : n ≤ 2) (h15 : a15 0 = 311) (hr : ¬ fr = 0)
    (H : ∀ (gt gh gg go : Int32) (b4 : Nat → Int32), post 0 (gt, fa, fr, fw, fs, fd, fl, fe, gh, gg, go, a1, a2, a3, b4, a5, a6, a7, a8, a9, a10, a11, a12, a13, a14, a15, a16, a17, a18, a19, a20, a21, a22, a23, a24, a25, a26, a27)) : wpX_cycle post (ft, fa, fr, fw, fs, fd, fl, fe, fh, fg, fo, a1, a2, a3, a4, a5, a6, a7, a8, a9, a10, a11, a12, a13, a14, a15, a16, a17, a18, a19, a20, a21, a22, a23, a24, a25, a26, a27) 7 := by
  subst es
  exact br_f (by decide) (br_t (by decide) (br_f hr (nm_e (pk_loop (σ := Nat → Int32) (fun k i s => wX_cycle_34 post (ft + 7) fa fr fw (nI n) fd fl fe fh fg fo k (nI i) a1 a2 a3 s a5 a6 a7 a8 a9 a10 a11 a12 a13 a14 a15 a16 a17 a18 a19 a20 a21 a22 a23 a24 a25 a26 a27) (fun _ _ => True) 4 0 a4 (by omega) trivial
    (fun k s _ => br_t (nI_le (a := 4) (b := 4) (by omega) (by omega)) ⟨2, br_f (by decide) (br_t rfl (br_f (nI_nle hn (by omega)) (cy_carryOut h15 (nm_e (br_f (by decide) (br_f (by decide) (H _ _ _ _ s)))))))⟩)
    (fun k i s hi _ hw => br_f (nI_ge (b := 4) hi (by omega)) ⟨pk_in i 4 hi, pk_in i 4 hi, nm_e (nm_r (nI_1 i) (hw _ trivial))⟩)))))
end
section
/-- the pictures -/
def cy_Z (a2 a5 a10 : Nat → Int32) : Prop := (∀ j, a2 j = 0) ∧ (∀ j, a5 j = 0) ∧ (∀ j, a10 j = 0)
def cy_V (a1 : Nat → Int32) (v w : Int32) : Prop := ∀ j, j < 16 → (v = nI j → a1 j = w) ∧ (¬ v = nI j → a1 j = 0)
def cy_V4 (a1 : Nat → Int32) (v w : Int32) : Prop := ∀ j, j < 16 → (v = nI j → j < 4 → a1 j = w) ∧ (¬ (v = nI j ∧ j < 4) → a1 j = 0)
def cy_E (a11 a12 : Nat → Int32) : Prop := (a12 1 = nI 2 ∨ a12 1 = nI 3) ∧ (a11 60).toInt = 1 ∧ 9 < (a11 61).toInt ∧ (a11 61).toInt < 26
def cy_G (x5 x8 : Int32) : Prop := (x8 = 1 ∧ (x5 = 0 ∨ x5 = 1)) ∨ (x8 = 0 ∧ ¬ (x5 = 0 ∨ x5 = 1))
def cy_S (x6 x9 : Int32) : Prop := (x9 = 1 ∧ cy_sZ x6.toInt) ∨ (x9 = 0 ∧ ¬ cy_sZ x6.toInt)
def cy_A (x6 x10 : Int32) : Prop := (x10 = 1 ∧ (x6.toInt = 2 ∨ x6.toInt = 39)) ∨ (x10 = 0 ∧ ¬ (x6.toInt = 2 ∨ x6.toInt = 39))
def cy_I (fa fr : Int32) (a12 : Nat → Int32) : Prop := fa = 0 ∧ fr = 0 ∧ a12 0 = 0 ∧ a12 1 = 0
theorem cy_toInt {v : Int32} {j : Nat} (h : v = nI j) (hj : j < 2 ^ 31) : v.toInt = j := by rw [h, nI_toInt hj]
theorem cy_sumV {a1 : Nat → Int32} {v w : Int32} (h : cy_V a1 v w) : (0 ≤ v.toInt → v.toInt < 16 → cy_sum a1 16 = (v + 1) * w) ∧ (v.toInt < 0 ∨ 16 ≤ v.toInt → cy_sum a1 16 = 0) := by
  constructor
  · intro h0 h1
    obtain ⟨j, hj, ej⟩ := cy_nj (n := 16) h0 h1
    have e := cy_toInt ej (by omega)
    rw [ej]
    refine cy_sum1 hj ((h j hj).1 ej) (fun i hi ne => (h i hi).2 (fun z => ?_))
    have e2 := cy_toInt z (by omega)
    omega
  · intro h0
    refine cy_sum0 (fun j hj => (h j hj).2 (fun z => ?_))
    have e2 := cy_toInt z (by omega)
    omega
theorem cy_sumV4 {a1 : Nat → Int32} {v w : Int32} (h : cy_V4 a1 v w) : (0 ≤ v.toInt → v.toInt < 4 → cy_sum a1 16 = (v + 1) * w) ∧ (v.toInt < 0 ∨ 4 ≤ v.toInt → cy_sum a1 16 = 0) := by
  constructor
  · intro h0 h1
    obtain ⟨j, hj, ej⟩ := cy_nj (n := 4) h0 h1
    have e := cy_toInt ej (by omega)
    rw [ej]
    refine cy_sum1 (by omega) ((h j (by omega)).1 ej hj) (fun i hi ne => (h i hi).2 (fun z => ?_))
    have e2 := cy_toInt z.1 (by omega)
    omega
  · intro h0
    refine cy_sum0 (fun j hj => (h j hj).2 (fun z => ?_))
    have e2 := cy_toInt z.1 (by omega)
    have e3 := z.2
    omega
theorem cy_VV4 {a1 b1 : Nat → Int32} {v w : Int32} (h : cy_V a1 v w) (h1 : ∀ j, j < 4 → b1 j = a1 j) (h2 : ∀ j, 4 ≤ j → j < 16 → b1 j = 0) : cy_V4 b1 v w := by
  intro j hj
  refine ⟨fun e k => by rw [h1 j k]; exact (h j hj).1 e, fun e => ?_⟩
  by_cases k : j < 4
  · rw [h1 j k]
    exact (h j hj).2 (fun z => e ⟨z, k⟩)
  · exact h2 j (by omega) hj
theorem cy_V0 {a1 : Nat → Int32} {v w : Int32} (h : ∀ j, a1 j = 0) (hv : v.toInt < 0 ∨ 16 ≤ v.toInt) : cy_V a1 v w := by
  intro j hj
  refine ⟨fun e => ?_, fun _ => h j⟩
  have e2 := cy_toInt e (by omega)
  exfalso
  omega
theorem cy_V1 {a1 : Nat → Int32} {v w : Int32} {i : Nat} (h : ∀ j, a1 j = 0) (hi : i < 16) (hv : v = nI i) : cy_V (upd a1 i w) v w := by
  intro j hj
  have e1 := cy_toInt hv (by omega)
  refine ⟨fun e => ?_, fun ne => ?_⟩
  · have e2 := cy_toInt e (by omega)
    rw [show j = i by omega, pk_us]
  · rw [pk_un (fun z => ne (by rw [z]; exact hv)), h]
theorem cy_ESR {a11 a12 : Nat → Int32} (h : cy_E a11 a12) : ∃ (M : Nat → Prop) (T : Int32 → Prop), cy_SR a11 a12 1 M T ∧ ¬ M 0 := by
  obtain ⟨h1 | h1, h2, h3⟩ := h
  · exact ⟨_, _, cy_sc2 1 rfl (by omega) h1 h2 h3, by decide⟩
  · exact ⟨_, _, cy_sc3 1 rfl (by omega) h1 h2 h3, by decide⟩
theorem cy_Iq {fa fr : Int32} {a12 : Nat → Int32} (h : cy_I fa fr a12) {q : Nat} (hq : q < 2) : a12 q = nI 0 := by
  have : q = 0 ∨ q = 1 := by omega
  rcases this with e | e
  · rw [e]; exact h.2.2.1
  · rw [e]; exact h.2.2.2
theorem cy_Iu {fa fr : Int32} {a12 : Nat → Int32} (h : cy_I fa fr a12) {q : Nat} (hq : q < 2) : cy_I fa fr (upd a12 q 0) := by
  refine ⟨h.1, h.2.1, ?_, ?_⟩
  · by_cases e : 0 = q
    · rw [← e, pk_us]
    · rw [pk_un e]; exact h.2.2.1
  · by_cases e : 1 = q
    · rw [← e, pk_us]
    · rw [pk_un e]; exact h.2.2.2
theorem cy_t2 (w : Int32) : 9 < (10 + (w &&& 15)).toInt ∧ (10 + (w &&& 15)).toInt < 26 := by
  obtain ⟨j, hj, ej⟩ := pk_andE w (m := 15) 4 (by decide)
  rw [ej, show (10 : Int32) = nI 10 from rfl, nI_add, nI_toInt (by omega)]
  omega
theorem cy_1q {q : Nat} {p : Int32} (hq : q < 2) (h : p = nI q) : 1 - p = nI (1 - q) ∧ ¬ 1 - p = p := by
  have : q = 0 ∨ q = 1 := by omega
  rcases this with e | e
  · subst e; subst h; exact ⟨by decide, by decide⟩
  · subst e; subst h; exact ⟨by decide, by decide⟩
theorem cy_AS {x6 x9 x10 : Int32} (hS : cy_S x6 x9) (hA : cy_A x6 x10) (h : x9 = 0) : x10 = 0 := by
  rcases hA with e | e
  · rcases hS with z | z
    · rw [h] at z
      exact absurd z.1 (by decide)
    · exact absurd (show cy_sZ x6.toInt by have := e.2; unfold cy_sZ; omega) z.2
  · exact e.1
theorem cy_10 : ¬ (1 : Int32) = 0 := by decide
end
section
theorem cy_L940 {post : Int32 → St0 → Prop} {mc ms kc ks : Nat} {z0 z1 : Int32} {ft fa fr fw fs fd fl fe fh fg fo : Int32} {a1 a2 a3 a4 a5 a6 a7 a8 a9 a10 a11 a12 a13 a14 a15 a16 a17 a18 a19 a20 a21 a22 a23 a24 a25 a26 a27 : Nat → Int32} (hp : post 1 ()) (hE : cy_E a11 a12) (hz : z1 = z0) : wL_lawOf_940 post mc ms z0 z1 kc ks ft fa fr fw fs fd fl fe fh fg fo a1 a2 a3 a4 a5 a6 a7 a8 a9 a10 a11 a12 a13 a14 a15 a16 a17 a18 a19 a20 a21 a22 a23 a24 a25 a26 a27 := by
  obtain ⟨M, T, hs, h0⟩ := cy_ESR hE
  exact br_t hz (cy_complete (Or.inr rfl) hs (fun w b h => absurd h h0) (fun m w b _ _ => br_t rfl (cy_activateN (Or.inr rfl) hs h0 (fun w b => br_t rfl hp))))
theorem cy_L917 {post : Int32 → St0 → Prop} {mc ms kc ks : Nat} {x3 x7 x12 z0 z1 : Int32} {ft fa fr fw fs fd fl fe fh fg fo : Int32} {a1 a2 a3 a4 a5 a6 a7 a8 a9 a10 a11 a12 a13 a14 a15 a16 a17 a18 a19 a20 a21 a22 a23 a24 a25 a26 a27 : Nat → Int32} (hp : post 1 ()) (hE : cy_E a11 a12) (hZ : cy_Z a2 a5 a10) (h0 : x12 = 0 → cy_sum a1 16 = 0) (h1 : ¬ x12 = 0 → cy_sum a1 16 = (x7 + 1) * x3) (hz : z1 = z0) : wL_lawOf_917 post mc ms x3 x7 x12 z0 z1 kc ks ft fa fr fw fs fd fl fe fh fg fo a1 a2 a3 a4 a5 a6 a7 a8 a9 a10 a11 a12 a13 a14 a15 a16 a17 a18 a19 a20 a21 a22 a23 a24 a25 a26 a27 :=
  br_t hz (cy_digest hZ.1 hZ.2.1 hZ.2.2 (br_c (fun e => cy_L940 hp hE (h0 e)) (fun e => cy_L940 hp hE (h1 e))))
theorem cy_L898 {post : Int32 → St0 → Prop} {mc ms kc ks : Nat} {x3 x7 z0 : Int32} {ft fa fr fw fs fd fl fe fh fg fo : Int32} {a1 a2 a3 a4 a5 a6 a7 a8 a9 a10 a11 a12 a13 a14 a15 a16 a17 a18 a19 a20 a21 a22 a23 a24 a25 a26 a27 : Nat → Int32} (hp : post 1 ()) (hE : cy_E a11 a12) (hZ : cy_Z a2 a5 a10) (hV : cy_V4 a1 x7 x3) (hf : (z0 = 1 ∧ 0 ≤ x7.toInt ∧ x7.toInt < 4) ∨ (z0 = 0 ∧ (x7.toInt < 0 ∨ 4 ≤ x7.toInt))) : wL_lawOf_898 post mc ms x3 x7 z0 kc ks ft fa fr fw fs fd fl fe fh fg fo a1 a2 a3 a4 a5 a6 a7 a8 a9 a10 a11 a12 a13 a14 a15 a16 a17 a18 a19 a20 a21 a22 a23 a24 a25 a26 a27 := by
  have s := cy_sumV4 hV
  unfold wL_lawOf_898
  rcases hf with ⟨e, h1, h2⟩ | ⟨e, h1⟩
  · have ne : ¬ z0 = 0 := by rw [e]; decide
    refine cy_variable (fun h => False.elim (by omega)) (fun j hj ej => br_f ne (cy_L917 hp hE hZ (fun z => absurd z ne) (fun _ => s.1 h1 h2) ?_))
    have e2 := cy_toInt ej (by omega)
    exact (hV j hj).1 ej (by omega)
  · refine cy_variable (fun h => br_t e (cy_L917 hp hE hZ (fun _ => s.2 h1) (fun z => absurd e z) rfl)) (fun j hj ej => br_t e (cy_L917 hp hE hZ (fun _ => s.2 h1) (fun z => absurd e z) ?_))
    have e2 := cy_toInt ej (by omega)
    exact (hV j hj).2 (fun z => by have := z.2; omega)
theorem cy_L897 {post : Int32 → St0 → Prop} {mc ms kc ks : Nat} {x3 x7 : Int32} {ft fa fr fw fs fd fl fe fh fg fo : Int32} {a1 a2 a3 a4 a5 a6 a7 a8 a9 a10 a11 a12 a13 a14 a15 a16 a17 a18 a19 a20 a21 a22 a23 a24 a25 a26 a27 : Nat → Int32} (hp : post 1 ()) (hE : cy_E a11 a12) (hZ : cy_Z a2 a5 a10) (hV : cy_V4 a1 x7 x3) (hf : x7.toInt < 0 ∨ 4 ≤ x7.toInt) : wL_lawOf_897 post mc ms x3 x7 kc ks ft fa fr fw fs fd fl fe fh fg fo a1 a2 a3 a4 a5 a6 a7 a8 a9 a10 a11 a12 a13 a14 a15 a16 a17 a18 a19 a20 a21 a22 a23 a24 a25 a26 a27 := by
  unfold wL_lawOf_897
  exact cy_L898 hp hE hZ hV (Or.inr ⟨rfl, hf⟩)
theorem cy_L872 {post : Int32 → St0 → Prop} {mc ms kc ks : Nat} {x3 x7 z0 z1 : Int32} {ft fa fr fw fs fd fl fe fh fg fo : Int32} {a1 a2 a3 a4 a5 a6 a7 a8 a9 a10 a11 a12 a13 a14 a15 a16 a17 a18 a19 a20 a21 a22 a23 a24 a25 a26 a27 : Nat → Int32} (hp : post 1 ()) (hE : cy_E a11 a12) (hZ : cy_Z a2 a5 a10) (hV : cy_V a1 x7 x3) (hz : z1 = z0) : wL_lawOf_872 post mc ms x3 x7 z0 z1 kc ks ft fa fr fw fs fd fl fe fh fg fo a1 a2 a3 a4 a5 a6 a7 a8 a9 a10 a11 a12 a13 a14 a15 a16 a17 a18 a19 a20 a21 a22 a23 a24 a25 a26 a27 :=
  br_t hz (cy_restart hZ.1 hZ.2.1 hZ.2.2 (fun b1 b2 b5 b6 b7 b8 b9 b10 k1 k2 k3 k4 k5 =>
    cy_blt 0 (fun h => cy_L897 hp hE ⟨k3, k4, k5⟩ (cy_VV4 hV k1 k2) (Or.inl h)) (fun h =>
      cy_bge 4 (fun k => cy_L897 hp hE ⟨k3, k4, k5⟩ (cy_VV4 hV k1 k2) (Or.inr k)) (fun k => cy_L898 hp hE ⟨k3, k4, k5⟩ (cy_VV4 hV k1 k2) (Or.inl ⟨rfl, h, k⟩)))))
theorem cy_L867 {post : Int32 → St0 → Prop} {mc ms kc ks : Nat} {x3 x6 x7 z0 : Int32} {ft fa fr fw fs fd fl fe fh fg fo : Int32} {a1 a2 a3 a4 a5 a6 a7 a8 a9 a10 a11 a12 a13 a14 a15 a16 a17 a18 a19 a20 a21 a22 a23 a24 a25 a26 a27 : Nat → Int32} (hp : post 1 ()) (hE : cy_E a11 a12) (hZ : cy_Z a2 a5 a10) (hV : cy_V a1 x7 x3) (hr : cy_eZ x6.toInt → z0 = 3) (he : cy_eZ x6.toInt) : wL_lawOf_867 post mc ms x3 x7 z0 kc ks ft fa fr fw fs fd fl fe fh fg fo a1 a2 a3 a4 a5 a6 a7 a8 a9 a10 a11 a12 a13 a14 a15 a16 a17 a18 a19 a20 a21 a22 a23 a24 a25 a26 a27 := by
  unfold wL_lawOf_867
  exact cy_L872 hp hE hZ hV (hr he)
theorem cy_L871 {post : Int32 → St0 → Prop} {mc ms kc ks : Nat} {x3 x6 x7 z0 : Int32} {ft fa fr fw fs fd fl fe fh fg fo : Int32} {a1 a2 a3 a4 a5 a6 a7 a8 a9 a10 a11 a12 a13 a14 a15 a16 a17 a18 a19 a20 a21 a22 a23 a24 a25 a26 a27 : Nat → Int32} (hp : post 1 ()) (hE : cy_E a11 a12) (hZ : cy_Z a2 a5 a10) (hV : cy_V a1 x7 x3) (hr : ¬ cy_eZ x6.toInt → z0 = -1) (he : ¬ cy_eZ x6.toInt) : wL_lawOf_871 post mc ms x3 x7 z0 kc ks ft fa fr fw fs fd fl fe fh fg fo a1 a2 a3 a4 a5 a6 a7 a8 a9 a10 a11 a12 a13 a14 a15 a16 a17 a18 a19 a20 a21 a22 a23 a24 a25 a26 a27 := by
  unfold wL_lawOf_871
  exact cy_L872 hp hE hZ hV (hr he)
theorem cy_L851 {post : Int32 → St0 → Prop} {mc ms kc ks : Nat} {x3 x6 x7 z0 : Int32} {ft fa fr fw fs fd fl fe fh fg fo : Int32} {a1 a2 a3 a4 a5 a6 a7 a8 a9 a10 a11 a12 a13 a14 a15 a16 a17 a18 a19 a20 a21 a22 a23 a24 a25 a26 a27 : Nat → Int32} (hp : post 1 ()) (hE : cy_E a11 a12) (hZ : cy_Z a2 a5 a10) (hV : cy_V a1 x7 x3) (h3 : cy_eZ x6.toInt → z0 = 3) (hn : ¬ cy_eZ x6.toInt → z0 = -1)
    (e1 : x6.toInt ≤ 99 ∨ 116 ≤ x6.toInt) (e2 : x6.toInt ≤ 119 ∨ 129 ≤ x6.toInt) (e3 : x6.toInt ≤ 129 ∨ 158 ≤ x6.toInt) : wL_lawOf_851 post mc ms x3 x6 x7 z0 kc ks ft fa fr fw fs fd fl fe fh fg fo a1 a2 a3 a4 a5 a6 a7 a8 a9 a10 a11 a12 a13 a14 a15 a16 a17 a18 a19 a20 a21 a22 a23 a24 a25 a26 a27 :=
  cy_ble 209 (fun h => cy_L871 hp hE hZ hV hn (by unfold cy_eZ; omega)) (fun h => cy_bge 291 (fun k => cy_L871 hp hE hZ hV hn (by unfold cy_eZ; omega)) (fun k => cy_L867 hp hE hZ hV h3 (by unfold cy_eZ; omega)))
theorem cy_L835 {post : Int32 → St0 → Prop} {mc ms kc ks : Nat} {x3 x6 x7 z0 : Int32} {ft fa fr fw fs fd fl fe fh fg fo : Int32} {a1 a2 a3 a4 a5 a6 a7 a8 a9 a10 a11 a12 a13 a14 a15 a16 a17 a18 a19 a20 a21 a22 a23 a24 a25 a26 a27 : Nat → Int32} (hp : post 1 ()) (hE : cy_E a11 a12) (hZ : cy_Z a2 a5 a10) (hV : cy_V a1 x7 x3) (h3 : cy_eZ x6.toInt → z0 = 3) (hn : ¬ cy_eZ x6.toInt → z0 = -1)
    (e1 : x6.toInt ≤ 99 ∨ 116 ≤ x6.toInt) (e2 : x6.toInt ≤ 119 ∨ 129 ≤ x6.toInt) : wL_lawOf_835 post mc ms x3 x6 x7 z0 kc ks ft fa fr fw fs fd fl fe fh fg fo a1 a2 a3 a4 a5 a6 a7 a8 a9 a10 a11 a12 a13 a14 a15 a16 a17 a18 a19 a20 a21 a22 a23 a24 a25 a26 a27 :=
  cy_ble 129 (fun h => cy_L851 hp hE hZ hV h3 hn e1 e2 (Or.inl h)) (fun h => cy_blt 158 (fun k => cy_L867 hp hE hZ hV h3 (by unfold cy_eZ; omega)) (fun k => cy_L851 hp hE hZ hV h3 hn e1 e2 (Or.inr k)))
theorem cy_L820 {post : Int32 → St0 → Prop} {mc ms kc ks : Nat} {x3 x6 x7 z0 : Int32} {ft fa fr fw fs fd fl fe fh fg fo : Int32} {a1 a2 a3 a4 a5 a6 a7 a8 a9 a10 a11 a12 a13 a14 a15 a16 a17 a18 a19 a20 a21 a22 a23 a24 a25 a26 a27 : Nat → Int32} (hp : post 1 ()) (hE : cy_E a11 a12) (hZ : cy_Z a2 a5 a10) (hV : cy_V a1 x7 x3) (h3 : cy_eZ x6.toInt → z0 = 3) (hn : ¬ cy_eZ x6.toInt → z0 = -1)
    (e1 : x6.toInt ≤ 99 ∨ 116 ≤ x6.toInt) : wL_lawOf_820 post mc ms x3 x6 x7 z0 kc ks ft fa fr fw fs fd fl fe fh fg fo a1 a2 a3 a4 a5 a6 a7 a8 a9 a10 a11 a12 a13 a14 a15 a16 a17 a18 a19 a20 a21 a22 a23 a24 a25 a26 a27 :=
  cy_ble 119 (fun h => cy_L835 hp hE hZ hV h3 hn e1 (Or.inl h)) (fun h => cy_blt 129 (fun k => cy_L867 hp hE hZ hV h3 (by unfold cy_eZ; omega)) (fun k => cy_L835 hp hE hZ hV h3 hn e1 (Or.inr k)))
theorem cy_L752 {post : Int32 → St0 → Prop} {mc ms kc ks : Nat} {x3 x6 x7 : Int32} {ft fa fr fw fs fd fl fe fh fg fo : Int32} {a1 a2 a3 a4 a5 a6 a7 a8 a9 a10 a11 a12 a13 a14 a15 a16 a17 a18 a19 a20 a21 a22 a23 a24 a25 a26 a27 : Nat → Int32} (hp : post 1 ()) (hr : fr = 0) (hZ : cy_Z a2 a5 a10) (hV : cy_V a1 x7 x3) : wL_lawOf_752 post mc ms x3 x6 x7 kc ks ft fa fr fw fs fd fl fe fh fg fo a1 a2 a3 a4 a5 a6 a7 a8 a9 a10 a11 a12 a13 a14 a15 a16 a17 a18 a19 a20 a21 a22 a23 a24 a25 a26 a27 := by
  unfold wL_lawOf_752
  refine cy_erase 1 rfl (by omega) (Or.inl hr) ?_
  refine cy_feed 1 0 rfl (by omega) (Or.inl hr) (cy_sc0 1 rfl (by omega) pk_us) pk_us (by omega) (fun w b h => absurd h (by decide)) (fun m s w b h1 h2 h3 h4 => absurd (show cy_fit s (1 : Int32).toInt from Or.inl ⟨h3, Or.inl (by decide)⟩) h4) (fun m s w b h1 h2 h3 h4 => br_t rfl ?_)
  have t1 : (upd a11 (60 * 1 + 0) 1 60).toInt = 1 := by rw [pk_us]; decide
  refine cy_feed 1 1 rfl (by omega) (Or.inl hr) (cy_sc1 1 rfl (by omega) pk_us) pk_us (by omega) (fun w b h => absurd (h.2.2.2.2.1 t1) (by decide)) (fun m s w b h1 h2 h3 h4 => absurd (show cy_fit s (10 + (x3 &&& 15)).toInt from Or.inl ⟨h3.1 t1, by have := cy_t2 x3; unfold cy_sZ; omega⟩) h4) (fun m s w b h1 h2 h3 h4 => br_t rfl ?_)
  have t1 : (upd (upd a11 (60 * 1 + 0) 1) (60 * 1 + 1) (10 + (x3 &&& 15)) 60).toInt = 1 := by rw [pk_un (by decide)]; exact t1
  have t2 : 9 < (upd (upd a11 (60 * 1 + 0) 1) (60 * 1 + 1) (10 + (x3 &&& 15)) 61).toInt ∧ (upd (upd a11 (60 * 1 + 0) 1) (60 * 1 + 1) (10 + (x3 &&& 15)) 61).toInt < 26 := by rw [pk_us]; exact cy_t2 x3
  refine cy_feed 1 2 rfl (by omega) (Or.inl hr) (cy_sc2 1 rfl (by omega) pk_us t1 t2) pk_us (by omega) (fun w b h => absurd h (by decide)) (fun m s w b h1 h2 h3 h4 => br_t rfl ?_) (fun m s w b h1 h2 h3 h4 => ?_)
  · refine cy_feed 1 2 rfl (by omega) (Or.inl hr) (cy_sc2 1 rfl (by omega) pk_us t1 t2) pk_us (by omega) (fun w b h => absurd h (by decide)) (fun m s w b h1 h2 h3 h4 => ?_) (fun m s w b h1 h2 h3 h4 => ?_)
    · have hn : ¬ cy_eZ x6.toInt := fun z => h4 (Or.inr ⟨by rw [h3]; decide, z⟩)
      have hE := show cy_E (upd (upd a11 (60 * 1 + 0) 1) (60 * 1 + 1) (10 + (x3 &&& 15))) (upd (upd (upd a12 1 0) 1 (nI (0 + 1))) 1 (nI (1 + 1))) from ⟨Or.inl pk_us, t1, t2⟩
      exact cy_ble 99 (fun h => cy_L820 hp hE hZ hV (fun z => absurd z hn) (fun _ => rfl) (Or.inl h)) (fun h => cy_blt 116 (fun k => absurd (show cy_eZ x6.toInt by unfold cy_eZ; omega) hn) (fun k => cy_L820 hp hE hZ hV (fun z => absurd z hn) (fun _ => rfl) (Or.inr k)))
    · have he : cy_eZ x6.toInt := h4.elim (fun z => absurd (h3.symm.trans z.1) (by decide)) (fun z => z.2)
      have hE : cy_E (upd (upd (upd a11 (60 * 1 + 0) 1) (60 * 1 + 1) (10 + (x3 &&& 15))) (60 * 1 + 2) x6) (upd (upd (upd (upd a12 1 0) 1 (nI (0 + 1))) 1 (nI (1 + 1))) 1 (nI (2 + 1))) := ⟨Or.inr pk_us, by rw [pk_un (by decide)]; exact t1, by rw [pk_un (by decide)]; exact t2⟩
      exact cy_ble 99 (fun h => cy_L820 hp hE hZ hV (fun _ => rfl) (fun z => absurd he z) (Or.inl h)) (fun h => cy_blt 116 (fun k => cy_L867 hp hE hZ hV (fun _ => rfl) he) (fun k => cy_L820 hp hE hZ hV (fun _ => rfl) (fun z => absurd he z) (Or.inr k)))
  · rw [h3] at h4
    exact absurd h4 (by unfold cy_fit cy_sZ cy_eZ; decide)
theorem cy_L613A {post : Int32 → St0 → Prop} {mc ms kc ks : Nat} {x3 x5 x6 x7 x8 x10 : Int32} {ft fa fr fw fs fd fl fe fh fg fo : Int32} {a1 a2 a3 a4 a5 a6 a7 a8 a9 a10 a11 a12 a13 a14 a15 a16 a17 a18 a19 a20 a21 a22 a23 a24 a25 a26 a27 : Nat → Int32} (hp : post 1 ()) (hr : fr = 0) (hZ : cy_Z a2 a5 a10) (hV : cy_V a1 x7 x3) (h : x8 = 0 ∨ x10 = 0) : wL_lawOf_613 post mc ms x3 x5 x6 x7 x8 x10 kc ks ft fa fr fw fs fd fl fe fh fg fo a1 a2 a3 a4 a5 a6 a7 a8 a9 a10 a11 a12 a13 a14 a15 a16 a17 a18 a19 a20 a21 a22 a23 a24 a25 a26 a27 := by
  unfold wL_lawOf_613
  exact cy_digest hZ.1 hZ.2.1 hZ.2.2 (br_c (fun _ => cy_L752 hp hr hZ hV) (fun e => br_t (h.resolve_left e) (cy_L752 hp hr hZ hV)))
theorem cy_L613B {post : Int32 → St0 → Prop} {mc ms kc ks : Nat} {x3 x5 x6 x7 x8 x10 : Int32} {ft fa fr fw fs fd fl fe fh fg fo : Int32} {a1 a2 a3 a4 a5 a6 a7 a8 a9 a10 a11 a12 a13 a14 a15 a16 a17 a18 a19 a20 a21 a22 a23 a24 a25 a26 a27 : Nat → Int32} (hp : post 1 ()) (hr : ¬ fr = 0) (hZ : cy_Z a2 a5 a10) (hV : cy_V a1 x7 x3) (q : Nat) (hq : q < 2) (ep : x5 = nI q) (ea : x5 = fa) (c1 : a12 q = nI 1) (c0 : a12 (1 - q) = nI 0) (h8 : ¬ x8 = 0) (h10 : ¬ x10 = 0) : wL_lawOf_613 post mc ms x3 x5 x6 x7 x8 x10 kc ks ft fa fr fw fs fd fl fe fh fg fo a1 a2 a3 a4 a5 a6 a7 a8 a9 a10 a11 a12 a13 a14 a15 a16 a17 a18 a19 a20 a21 a22 a23 a24 a25 a26 a27 := by
  have hp5 : x5 = 0 ∨ x5 = 1 := cy_qp hq ep
  have hq' : 1 - q < 2 := by omega
  have k1 := cy_1q hq ep
  have hne : ¬ 1 - x5 = fa := by rw [← ea]; exact k1.2
  have hp5' : 1 - x5 = 0 ∨ 1 - x5 = 1 := cy_qp hq' k1.1
  have c2 : upd a12 (1 - q) 0 (1 - q) = nI 0 := pk_us
  have c3 : upd a12 (1 - q) 0 q = nI 1 := by rw [pk_un (by omega)]; exact c1
  unfold wL_lawOf_613
  refine cy_digest hZ.1 hZ.2.1 hZ.2.2 (br_f h8 (br_f h10 ?_))
  refine cy_eraseX hp5 hr ea (br_t rfl ?_)
  refine cy_feedX hp5 hr ea (br_t rfl ?_)
  refine cy_cycleB (br_t rfl ?_)
  refine cy_digest hZ.1 hZ.2.1 hZ.2.2 (br_t rfl ?_)
  refine cy_erase (1 - q) k1.1 hq' (Or.inr hne) (br_t c0 ?_)
  refine cy_activateN hp5' (cy_sc0 (1 - q) k1.1 hq' c2) (by decide) (fun w b => br_t rfl ?_)
  refine cy_halt1 hr (br_t rfl ?_)
  refine cy_halt0 rfl (br_t rfl ?_)
  refine cy_cycleN rfl (fun h => absurd h (by decide)) (fun _ _ => br_t rfl ?_)
  refine cy_backS q 0 ep hq (Or.inl rfl) c3 (by omega) (br_t rfl ?_)
  refine cy_complete hp5 (cy_sc0 q ep hq pk_us) (fun w b h => absurd h (by decide)) (fun m w b _ _ => br_t rfl ?_)
  exact cy_L752 hp rfl hZ hV
end
section
theorem cy_L587a {post : Int32 → St0 → Prop} {mc ms kc ks : Nat} {x3 x5 x6 x7 x8 x10 z0 z1 : Int32} {ft fa fr fw fs fd fl fe fh fg fo : Int32} {a1 a2 a3 a4 a5 a6 a7 a8 a9 a10 a11 a12 a13 a14 a15 a16 a17 a18 a19 a20 a21 a22 a23 a24 a25 a26 a27 : Nat → Int32} (hp : post 1 ()) (hr : ¬ fr = 0) (hZ : cy_Z a2 a5 a10) (hV : cy_V a1 x7 x3) (q : Nat) (hq : q < 2) (ep : x5 = nI q) (ea : x5 = fa) (c1 : a12 q = nI 1) (c0 : a12 (1 - q) = nI 0) (h8 : ¬ x8 = 0) (h10 : ¬ x10 = 0) (hz : z1 = z0) : wL_lawOf_587 post mc ms x3 x5 x6 x7 x8 x10 z0 z1 kc ks ft fa fr fw fs fd fl fe fh fg fo a1 a2 a3 a4 a5 a6 a7 a8 a9 a10 a11 a12 a13 a14 a15 a16 a17 a18 a19 a20 a21 a22 a23 a24 a25 a26 a27 :=
  br_t hz (cy_backX (cy_qp hq ep) hr ea (br_f h10 (br_t rfl (cy_L613B hp hr hZ hV q hq ep ea c1 c0 h8 h10))))
theorem cy_L587n {post : Int32 → St0 → Prop} {mc ms kc ks : Nat} {x3 x5 x6 x7 x8 x10 z0 z1 : Int32} {ft fa fr fw fs fd fl fe fh fg fo : Int32} {a1 a2 a3 a4 a5 a6 a7 a8 a9 a10 a11 a12 a13 a14 a15 a16 a17 a18 a19 a20 a21 a22 a23 a24 a25 a26 a27 : Nat → Int32} (hp : post 1 ()) (hr : fr = 0) (hZ : cy_Z a2 a5 a10) (hV : cy_V a1 x7 x3) (q : Nat) (hq : q < 2) (ep : x5 = nI q) (c1 : a12 q = nI 1) (h10 : x10 = 0) (hz : z1 = z0) : wL_lawOf_587 post mc ms x3 x5 x6 x7 x8 x10 z0 z1 kc ks ft fa fr fw fs fd fl fe fh fg fo a1 a2 a3 a4 a5 a6 a7 a8 a9 a10 a11 a12 a13 a14 a15 a16 a17 a18 a19 a20 a21 a22 a23 a24 a25 a26 a27 :=
  br_t hz (cy_backS q 0 ep hq (Or.inl hr) c1 (by omega) (br_t h10 (br_t rfl (cy_L613A hp hr hZ hV (Or.inr h10)))))
theorem cy_L566a {post : Int32 → St0 → Prop} {mc ms kc ks : Nat} {x3 x5 x6 x7 x8 x10 z0 z1 : Int32} {ft fa fr fw fs fd fl fe fh fg fo : Int32} {a1 a2 a3 a4 a5 a6 a7 a8 a9 a10 a11 a12 a13 a14 a15 a16 a17 a18 a19 a20 a21 a22 a23 a24 a25 a26 a27 : Nat → Int32} (hp : post 1 ()) (hr : ¬ fr = 0) (hZ : cy_Z a2 a5 a10) (hV : cy_V a1 x7 x3) (q : Nat) (hq : q < 2) (ep : x5 = nI q) (ea : x5 = fa) (c1 : a12 q = nI 1) (c0 : a12 (1 - q) = nI 0) (h8 : ¬ x8 = 0) (h10 : ¬ x10 = 0) (n : Nat) (es : fs = nI n) (hn : 0 < n) (hn2 : n ≤ 2) (h15 : a15 0 = 311) (hz : z1 = z0) : wL_lawOf_566 post mc ms x3 x5 x6 x7 x8 x10 z0 z1 kc ks ft fa fr fw fs fd fl fe fh fg fo a1 a2 a3 a4 a5 a6 a7 a8 a9 a10 a11 a12 a13 a14 a15 a16 a17 a18 a19 a20 a21 a22 a23 a24 a25 a26 a27 :=
  br_t hz (cy_cycleR n es hn hn2 h15 hr (fun gt gh gg go b4 => br_f h10 (cy_L587a hp hr hZ hV q hq ep ea c1 c0 h8 h10 rfl)))
theorem cy_L566n {post : Int32 → St0 → Prop} {mc ms kc ks : Nat} {x3 x5 x6 x7 x8 x10 z0 z1 : Int32} {ft fa fr fw fs fd fl fe fh fg fo : Int32} {a1 a2 a3 a4 a5 a6 a7 a8 a9 a10 a11 a12 a13 a14 a15 a16 a17 a18 a19 a20 a21 a22 a23 a24 a25 a26 a27 : Nat → Int32} (hp : post 1 ()) (hr : fr = 0) (hZ : cy_Z a2 a5 a10) (hV : cy_V a1 x7 x3) (q : Nat) (hq : q < 2) (ep : x5 = nI q) (c1 : a12 q = nI 1) (h10 : x10 = 0) (hz : z1 = z0) : wL_lawOf_566 post mc ms x3 x5 x6 x7 x8 x10 z0 z1 kc ks ft fa fr fw fs fd fl fe fh fg fo a1 a2 a3 a4 a5 a6 a7 a8 a9 a10 a11 a12 a13 a14 a15 a16 a17 a18 a19 a20 a21 a22 a23 a24 a25 a26 a27 :=
  br_t hz (cy_cycleN hr (fun h => absurd h (by decide)) (fun _ _ => br_t h10 (cy_L587n hp hr hZ hV q hq ep c1 h10 rfl)))
theorem cy_L545a {post : Int32 → St0 → Prop} {mc ms kc ks : Nat} {x3 x5 x6 x7 x8 x10 z0 z1 : Int32} {ft fa fr fw fs fd fl fe fh fg fo : Int32} {a1 a2 a3 a4 a5 a6 a7 a8 a9 a10 a11 a12 a13 a14 a15 a16 a17 a18 a19 a20 a21 a22 a23 a24 a25 a26 a27 : Nat → Int32} (hp : post 1 ()) (h0 : fa = 0) (hZ : cy_Z a2 a5 a10) (hV : cy_V a1 x7 x3) (q : Nat) (hq : q < 2) (ep : x5 = nI q) (c1 : a12 q = nI 1) (c0 : a12 (1 - q) = nI 0) (ht : (a11 (60 * q)).toInt = 2 ∨ (a11 (60 * q)).toInt = 39) (h8 : ¬ x8 = 0) (h10 : ¬ x10 = 0) (hz : z1 = z0) : wL_lawOf_545 post mc ms x3 x5 x6 x7 x8 x10 z0 z1 kc ks ft fa fr fw fs fd fl fe fh fg fo a1 a2 a3 a4 a5 a6 a7 a8 a9 a10 a11 a12 a13 a14 a15 a16 a17 a18 a19 a20 a21 a22 a23 a24 a25 a26 a27 :=
  br_t hz (cy_activateY q ep hq c1 ht (fun n gw gd gl ge b13 b14 b15 b16 b17 b18 b19 k1 k2 k3 => br_f h10 (cy_L566a hp cy_10 hZ hV q hq ep rfl c1 c0 h8 h10 n rfl k1 k2 k3 h0)))
theorem cy_L545n {post : Int32 → St0 → Prop} {mc ms kc ks : Nat} {x3 x5 x6 x7 x8 x10 z0 z1 : Int32} {ft fa fr fw fs fd fl fe fh fg fo : Int32} {a1 a2 a3 a4 a5 a6 a7 a8 a9 a10 a11 a12 a13 a14 a15 a16 a17 a18 a19 a20 a21 a22 a23 a24 a25 a26 a27 : Nat → Int32} (hp : post 1 ()) (hr : fr = 0) (hZ : cy_Z a2 a5 a10) (hV : cy_V a1 x7 x3) (q : Nat) (hq : q < 2) (ep : x5 = nI q) (c1 : a12 q = nI 1) (hs : cy_sZ (a11 (60 * q)).toInt) (ht : ¬ ((a11 (60 * q)).toInt = 2 ∨ (a11 (60 * q)).toInt = 39)) (h10 : x10 = 0) (hz : z1 = z0) : wL_lawOf_545 post mc ms x3 x5 x6 x7 x8 x10 z0 z1 kc ks ft fa fr fw fs fd fl fe fh fg fo a1 a2 a3 a4 a5 a6 a7 a8 a9 a10 a11 a12 a13 a14 a15 a16 a17 a18 a19 a20 a21 a22 a23 a24 a25 a26 a27 :=
  br_t hz (cy_activateN (cy_qp hq ep) (cy_sc1 q ep hq c1) (fun z => absurd (z.2.2.2.1 hs (fun e => ht (Or.inl e)) (fun e => ht (Or.inr e))) (by decide)) (fun w b => br_t h10 (cy_L566n hp hr hZ hV q hq ep c1 h10 rfl)))
/-- neither a statement nor an expression -/
theorem cy_200 {s : Int32} : ¬ cy_fit s (200 : Int32).toInt := by
  have e : (200 : Int32).toInt = 200 := by decide
  rw [e]
  unfold cy_fit cy_sZ cy_eZ
  omega
theorem cy_L509 {post : Int32 → St0 → Prop} {mc ms kc ks : Nat} {x3 x5 x6 x7 x8 x9 x10 z0 z1 : Int32} {ft fa fr fw fs fd fl fe fh fg fo : Int32} {a1 a2 a3 a4 a5 a6 a7 a8 a9 a10 a11 a12 a13 a14 a15 a16 a17 a18 a19 a20 a21 a22 a23 a24 a25 a26 a27 : Nat → Int32} (hp : post 1 ()) (h0 : fa = 0) (hr : fr = 0) (hZ : cy_Z a2 a5 a10) (hV : cy_V a1 x7 x3) (hG : cy_G x5 x8) (hS : cy_S x6 x9) (hA : cy_A x6 x10) (q : Nat) (hq : q < 2) (ep : x8 = 1 → x5 = nI q) (hst : x8 = 1 → x9 = 1 → a12 q = nI 1 ∧ a12 (1 - q) = nI 0 ∧ a11 (60 * q) = x6) (hz : z1 = z0) : wL_lawOf_509 post mc ms x3 x5 x6 x7 x8 x9 x10 z0 z1 kc ks ft fa fr fw fs fd fl fe fh fg fo a1 a2 a3 a4 a5 a6 a7 a8 a9 a10 a11 a12 a13 a14 a15 a16 a17 a18 a19 a20 a21 a22 a23 a24 a25 a26 a27 := by
  rcases hG with ⟨e8, _⟩ | ⟨e8, _⟩
  · have n8 : ¬ x8 = 0 := by rw [e8]; decide
    have hS' := hS
    rcases hS with ⟨e9, s9⟩ | ⟨e9, s9⟩
    · have n9 : ¬ x9 = 0 := by rw [e9]; decide
      obtain ⟨c1, c0, et⟩ := hst e8 e9
      have ep := ep e8
      refine br_t hz (br_f n8 (br_f n9 ?_))
      rcases hA with ⟨e10, t10⟩ | ⟨e10, t10⟩
      · have n10 : ¬ x10 = 0 := by rw [e10]; decide
        have ht : (a11 (60 * q)).toInt = 2 ∨ (a11 (60 * q)).toInt = 39 := by rw [et]; exact t10
        have hm : ∀ m, cy_pZ (a11 (60 * q)).toInt m → 0 < m → False := fun m h k => by
          have : m = 0 := ht.elim h.2.1 h.2.2.1
          omega
        exact cy_feed q 1 ep hq (Or.inl hr) (cy_sc1 q ep hq c1) c1 (by omega) (fun w b _ => br_f n10 (cy_L545a hp h0 hZ hV q hq ep c1 c0 ht n8 n10 rfl)) (fun m s w b h1 h2 h3 h4 => (hm m h1 h2).elim) (fun m s w b h1 h2 h3 h4 => (hm m h1 h2).elim)
      · have ht : ¬ ((a11 (60 * q)).toInt = 2 ∨ (a11 (60 * q)).toInt = 39) := by rw [et]; exact t10
        have hs : cy_sZ (a11 (60 * q)).toInt := by rw [et]; exact s9
        exact cy_feed q 1 ep hq (Or.inl hr) (cy_sc1 q ep hq c1) c1 (by omega) (fun w b z => absurd (z.2.2.2.1 hs (fun e => ht (Or.inl e)) (fun e => ht (Or.inr e))) (by decide)) (fun m s w b h1 h2 h3 h4 => br_t e10 (cy_L545n hp hr hZ hV q hq ep c1 hs ht e10 rfl)) (fun m s w b h1 h2 h3 h4 => absurd h4 cy_200)
    · exact br_t hz (br_f n8 (br_t e9 (cy_L613A hp hr hZ hV (Or.inr (cy_AS hS' hA e9)))))
  · exact br_t hz (br_t e8 (cy_L613A hp hr hZ hV (Or.inl e8)))
theorem cy_L480 {post : Int32 → St0 → Prop} {mc ms kc ks : Nat} {x3 x5 x6 x7 x8 x9 x10 z0 z1 : Int32} {ft fa fr fw fs fd fl fe fh fg fo : Int32} {a1 a2 a3 a4 a5 a6 a7 a8 a9 a10 a11 a12 a13 a14 a15 a16 a17 a18 a19 a20 a21 a22 a23 a24 a25 a26 a27 : Nat → Int32} (hp : post 1 ()) (h0 : fa = 0) (hr : fr = 0) (hZ : cy_Z a2 a5 a10) (hV : cy_V a1 x7 x3) (hG : cy_G x5 x8) (hS : cy_S x6 x9) (hA : cy_A x6 x10) (q : Nat) (hq : q < 2) (ep : x8 = 1 → x5 = nI q) (hst : x8 = 1 → x9 = 1 → a12 q = nI 1 ∧ a12 (1 - q) = nI 0 ∧ a11 (60 * q) = x6) (hs0 : x9 = 0 → a12 q = nI 0) (hz : z1 = z0) : wL_lawOf_480 post mc ms x3 x5 x6 x7 x8 x9 x10 z0 z1 kc ks ft fa fr fw fs fd fl fe fh fg fo a1 a2 a3 a4 a5 a6 a7 a8 a9 a10 a11 a12 a13 a14 a15 a16 a17 a18 a19 a20 a21 a22 a23 a24 a25 a26 a27 := by
  have hG' := hG
  rcases hG with ⟨e8, g⟩ | ⟨e8, g⟩
  · have n8 : ¬ x8 = 0 := by rw [e8]; decide
    have hS' := hS
    have hA' := hA
    have ep' := ep e8
    rcases hS with ⟨e9, s9⟩ | ⟨e9, s9⟩
    · obtain ⟨c1, c0, et⟩ := hst e8 e9
      rcases hA with ⟨e10, t10⟩ | ⟨e10, t10⟩
      · have n10 : ¬ x10 = 0 := by rw [e10]; decide
        have ht : (a11 (60 * q)).toInt = 2 ∨ (a11 (60 * q)).toInt = 39 := by rw [et]; exact t10
        exact br_t hz (cy_complete g (cy_sc1 q ep' hq c1) (fun w b _ => br_f n8 (br_f n10 (cy_L509 hp h0 hr hZ hV hG' hS' hA' q hq ep hst rfl))) (fun m w b h k => False.elim (by
          have : m = 0 := ht.elim h.2.1 h.2.2.1
          omega)))
      · have ht : ¬ ((a11 (60 * q)).toInt = 2 ∨ (a11 (60 * q)).toInt = 39) := by rw [et]; exact t10
        have hs : cy_sZ (a11 (60 * q)).toInt := by rw [et]; exact s9
        exact br_t hz (cy_complete g (cy_sc1 q ep' hq c1) (fun w b z => absurd (z.2.2.2.1 hs (fun e => ht (Or.inl e)) (fun e => ht (Or.inr e))) (by decide)) (fun m w b h k => br_f n8 (br_t e10 (cy_L509 hp h0 hr hZ hV hG' hS' hA' q hq ep hst rfl))))
    · exact br_t hz (cy_complete g (cy_sc0 q ep' hq (hs0 e9)) (fun w b z => absurd z (by decide)) (fun m w b h k => br_f n8 (br_t (cy_AS hS' hA' e9) (cy_L509 hp h0 hr hZ hV hG' hS' hA' q hq ep hst rfl))))
  · exact br_t hz (cy_completeB g (br_t e8 (cy_L509 hp h0 hr hZ hV hG' hS hA q hq ep hst rfl)))
theorem cy_L479 {post : Int32 → St0 → Prop} {mc ms kc ks : Nat} {x3 x5 x6 x7 x8 x9 x10 z0 : Int32} {ft fa fr fw fs fd fl fe fh fg fo : Int32} {a1 a2 a3 a4 a5 a6 a7 a8 a9 a10 a11 a12 a13 a14 a15 a16 a17 a18 a19 a20 a21 a22 a23 a24 a25 a26 a27 : Nat → Int32} (hp : post 1 ()) (h0 : fa = 0) (hr : fr = 0) (hZ : cy_Z a2 a5 a10) (hV : cy_V a1 x7 x3) (hG : cy_G x5 x8) (hS : cy_S x6 x9) (hA : cy_A x6 x10) (q : Nat) (hq : q < 2) (ep : x8 = 1 → x5 = nI q) (hst : x8 = 1 → x9 = 1 → a12 q = nI 1 ∧ a12 (1 - q) = nI 0 ∧ a11 (60 * q) = x6) (hs0 : x9 = 0 → a12 q = nI 0) (hz : z0 = -1) : wL_lawOf_479 post mc ms x3 x5 x6 x7 x8 x9 x10 z0 kc ks ft fa fr fw fs fd fl fe fh fg fo a1 a2 a3 a4 a5 a6 a7 a8 a9 a10 a11 a12 a13 a14 a15 a16 a17 a18 a19 a20 a21 a22 a23 a24 a25 a26 a27 := by
  unfold wL_lawOf_479
  exact cy_L480 hp h0 hr hZ hV hG hS hA q hq ep hst hs0 hz
theorem cy_L451 {post : Int32 → St0 → Prop} {mc ms kc ks : Nat} {x3 x5 x6 x7 x8 x9 x10 z0 z1 : Int32} {ft fa fr fw fs fd fl fe fh fg fo : Int32} {a1 a2 a3 a4 a5 a6 a7 a8 a9 a10 a11 a12 a13 a14 a15 a16 a17 a18 a19 a20 a21 a22 a23 a24 a25 a26 a27 : Nat → Int32} (hp : post 1 ()) (hI : cy_I fa fr a12) (hZ : cy_Z a2 a5 a10) (hV : cy_V a1 x7 x3) (hG : cy_G x5 x8) (hS : cy_S x6 x9) (hA : cy_A x6 x10) (hz : z1 = z0) : wL_lawOf_451 post mc ms x3 x5 x6 x7 x8 x9 x10 z0 z1 kc ks ft fa fr fw fs fd fl fe fh fg fo a1 a2 a3 a4 a5 a6 a7 a8 a9 a10 a11 a12 a13 a14 a15 a16 a17 a18 a19 a20 a21 a22 a23 a24 a25 a26 a27 := by
  have hG' := hG
  rcases hG with ⟨e8, g⟩ | ⟨e8, g⟩
  · have n8 : ¬ x8 = 0 := by rw [e8]; decide
    obtain ⟨q, hq, ep⟩ := cy_pq g
    have c := cy_Iq hI hq
    have hS' := hS
    refine br_t hz (cy_feed q 0 ep hq (Or.inl hI.2.1) (cy_sc0 q ep hq c) c (by omega) (fun w b z => absurd z (by decide)) (fun m s w b h1 h2 h3 h4 => ?_) (fun m s w b h1 h2 h3 h4 => ?_))
    · rcases hS with ⟨e9, s9⟩ | ⟨e9, s9⟩
      · exact absurd (Or.inl ⟨h3, s9⟩) h4
      · exact br_f n8 (br_t e9 (cy_L479 hp hI.1 hI.2.1 hZ hV hG' hS' hA q hq (fun _ => ep) (fun _ z => absurd (e9.symm.trans z) (by decide)) (fun _ => c) rfl))
    · rcases hS with ⟨e9, s9⟩ | ⟨e9, s9⟩
      · have n9 : ¬ x9 = 0 := by rw [e9]; decide
        exact br_f n8 (br_f n9 (cy_L480 hp hI.1 hI.2.1 hZ hV hG' hS' hA q hq (fun _ => ep) (fun _ _ => ⟨pk_us, by rw [pk_un (by omega)]; exact cy_Iq hI (by omega), pk_us⟩) (fun z => absurd z n9) rfl))
      · exact absurd (h4.elim (fun z => z.2) (fun z => absurd h3 z.1)) s9
  · exact br_t hz (cy_feedB g (br_t e8 (cy_L479 hp hI.1 hI.2.1 hZ hV hG' hS hA 0 (by omega) (fun z => absurd (e8.symm.trans z) (by decide)) (fun z => absurd (e8.symm.trans z) (by decide)) (fun _ => cy_Iq hI (by omega)) rfl)))
theorem cy_L450 {post : Int32 → St0 → Prop} {mc ms kc ks : Nat} {x3 x5 x6 x7 x8 x9 x10 z0 : Int32} {ft fa fr fw fs fd fl fe fh fg fo : Int32} {a1 a2 a3 a4 a5 a6 a7 a8 a9 a10 a11 a12 a13 a14 a15 a16 a17 a18 a19 a20 a21 a22 a23 a24 a25 a26 a27 : Nat → Int32} (hp : post 1 ()) (hI : cy_I fa fr a12) (hZ : cy_Z a2 a5 a10) (hV : cy_V a1 x7 x3) (hG : cy_G x5 x8) (hS : cy_S x6 x9) (hA : cy_A x6 x10) (hz : z0 = 0) : wL_lawOf_450 post mc ms x3 x5 x6 x7 x8 x9 x10 z0 kc ks ft fa fr fw fs fd fl fe fh fg fo a1 a2 a3 a4 a5 a6 a7 a8 a9 a10 a11 a12 a13 a14 a15 a16 a17 a18 a19 a20 a21 a22 a23 a24 a25 a26 a27 := by
  unfold wL_lawOf_450
  exact cy_L451 hp hI hZ hV hG hS hA hz
theorem cy_L421 {post : Int32 → St0 → Prop} {mc ms kc ks : Nat} {x3 x5 x6 x7 x8 x9 x10 z0 z1 : Int32} {ft fa fr fw fs fd fl fe fh fg fo : Int32} {a1 a2 a3 a4 a5 a6 a7 a8 a9 a10 a11 a12 a13 a14 a15 a16 a17 a18 a19 a20 a21 a22 a23 a24 a25 a26 a27 : Nat → Int32} (hp : post 1 ()) (hI : cy_I fa fr a12) (hZ : cy_Z a2 a5 a10) (hV : cy_V a1 x7 x3) (hG : cy_G x5 x8) (hS : cy_S x6 x9) (hA : cy_A x6 x10) (hz : z1 = z0) : wL_lawOf_421 post mc ms x3 x5 x6 x7 x8 x9 x10 z0 z1 kc ks ft fa fr fw fs fd fl fe fh fg fo a1 a2 a3 a4 a5 a6 a7 a8 a9 a10 a11 a12 a13 a14 a15 a16 a17 a18 a19 a20 a21 a22 a23 a24 a25 a26 a27 :=
  br_t hz (cy_digest hZ.1 hZ.2.1 hZ.2.2 (cy_blt 0 (fun h => cy_L450 hp hI hZ hV hG hS hA ((cy_sumV hV).2 (Or.inl h))) (fun h => cy_bge 16 (fun k => cy_L450 hp hI hZ hV hG hS hA ((cy_sumV hV).2 (Or.inr k))) (fun k => cy_L451 hp hI hZ hV hG hS hA ((cy_sumV hV).1 h k)))))
theorem cy_L420 {post : Int32 → St0 → Prop} {mc ms kc ks : Nat} {x3 x5 x6 x7 x8 x9 x10 z0 : Int32} {ft fa fr fw fs fd fl fe fh fg fo : Int32} {a1 a2 a3 a4 a5 a6 a7 a8 a9 a10 a11 a12 a13 a14 a15 a16 a17 a18 a19 a20 a21 a22 a23 a24 a25 a26 a27 : Nat → Int32} (hp : post 1 ()) (hI : cy_I fa fr a12) (hZ : cy_Z a2 a5 a10) (hV : cy_V a1 x7 x3) (hG : cy_G x5 x8) (hS : cy_S x6 x9) (hA : cy_A x6 x10) (hz : z0 = 0) : wL_lawOf_420 post mc ms x3 x5 x6 x7 x8 x9 x10 z0 kc ks ft fa fr fw fs fd fl fe fh fg fo a1 a2 a3 a4 a5 a6 a7 a8 a9 a10 a11 a12 a13 a14 a15 a16 a17 a18 a19 a20 a21 a22 a23 a24 a25 a26 a27 := by
  unfold wL_lawOf_420
  exact cy_L421 hp hI hZ hV hG hS hA hz
theorem cy_L394 {post : Int32 → St0 → Prop} {mc ms kc ks : Nat} {x3 x5 x6 x7 x8 x9 x10 z0 z1 : Int32} {ft fa fr fw fs fd fl fe fh fg fo : Int32} {a1 a2 a3 a4 a5 a6 a7 a8 a9 a10 a11 a12 a13 a14 a15 a16 a17 a18 a19 a20 a21 a22 a23 a24 a25 a26 a27 : Nat → Int32} (hp : post 1 ()) (hI : cy_I fa fr a12) (hZ : cy_Z a2 a5 a10) (hV : cy_V a1 x7 x3) (hG : cy_G x5 x8) (hS : cy_S x6 x9) (hA : cy_A x6 x10) (hz : z1 = z0) : wL_lawOf_394 post mc ms x3 x5 x6 x7 x8 x9 x10 z0 z1 kc ks ft fa fr fw fs fd fl fe fh fg fo a1 a2 a3 a4 a5 a6 a7 a8 a9 a10 a11 a12 a13 a14 a15 a16 a17 a18 a19 a20 a21 a22 a23 a24 a25 a26 a27 := by
  refine br_t hz (cy_variable (fun e => ?_) (fun j hj ej => ?_))
  · exact cy_blt 0 (fun h => cy_L420 hp hI hZ hV hG hS hA rfl) (fun h => cy_bge 16 (fun k => cy_L420 hp hI hZ hV hG hS hA rfl) (fun k => False.elim (by omega)))
  · have e2 := cy_toInt ej (by omega)
    exact cy_blt 0 (fun h => False.elim (by omega)) (fun h => cy_bge 16 (fun k => False.elim (by omega)) (fun k => cy_L421 hp hI hZ hV hG hS hA ((hV j hj).1 ej)))
theorem cy_L393 {post : Int32 → St0 → Prop} {mc ms kc ks : Nat} {x3 x5 x6 x7 x8 x9 x10 z0 : Int32} {ft fa fr fw fs fd fl fe fh fg fo : Int32} {a1 a2 a3 a4 a5 a6 a7 a8 a9 a10 a11 a12 a13 a14 a15 a16 a17 a18 a19 a20 a21 a22 a23 a24 a25 a26 a27 : Nat → Int32} (hp : post 1 ()) (hI : cy_I fa fr a12) (hZ : cy_Z a2 a5 a10) (hV : cy_V a1 x7 x3) (hG : cy_G x5 x8) (hS : cy_S x6 x9) (hA : cy_A x6 x10) (hz : z0 = -1) : wL_lawOf_393 post mc ms x3 x5 x6 x7 x8 x9 x10 z0 kc ks ft fa fr fw fs fd fl fe fh fg fo a1 a2 a3 a4 a5 a6 a7 a8 a9 a10 a11 a12 a13 a14 a15 a16 a17 a18 a19 a20 a21 a22 a23 a24 a25 a26 a27 := by
  unfold wL_lawOf_393
  exact cy_L394 hp hI hZ hV hG hS hA hz
theorem cy_L366 {post : Int32 → St0 → Prop} {mc ms kc ks : Nat} {x3 x5 x6 x7 x8 x9 x10 z0 z1 : Int32} {ft fa fr fw fs fd fl fe fh fg fo : Int32} {a1 a2 a3 a4 a5 a6 a7 a8 a9 a10 a11 a12 a13 a14 a15 a16 a17 a18 a19 a20 a21 a22 a23 a24 a25 a26 a27 : Nat → Int32} (hp : post 1 ()) (hI : cy_I fa fr a12) (hZ : cy_Z a2 a5 a10) (h1 : ∀ j, a1 j = 0) (hG : cy_G x5 x8) (hS : cy_S x6 x9) (hA : cy_A x6 x10) (hz : z1 = z0) : wL_lawOf_366 post mc ms x3 x5 x6 x7 x8 x9 x10 z0 z1 kc ks ft fa fr fw fs fd fl fe fh fg fo a1 a2 a3 a4 a5 a6 a7 a8 a9 a10 a11 a12 a13 a14 a15 a16 a17 a18 a19 a20 a21 a22 a23 a24 a25 a26 a27 := by
  refine br_t hz (cy_poke (fun e => ?_) (fun g g' j hj ej => ?_))
  · exact cy_blt 0 (fun h => cy_L393 hp hI hZ (cy_V0 h1 e) hG hS hA rfl) (fun h => cy_bge 16 (fun k => cy_L393 hp hI hZ (cy_V0 h1 e) hG hS hA rfl) (fun k => False.elim (by omega)))
  · exact cy_blt 0 (fun h => False.elim (by omega)) (fun h => cy_bge 16 (fun k => False.elim (by omega)) (fun k => cy_L394 hp hI hZ (cy_V1 h1 hj ej) hG hS hA rfl))
theorem cy_L365 {post : Int32 → St0 → Prop} {mc ms kc ks : Nat} {x3 x5 x6 x7 x8 x9 x10 z0 : Int32} {ft fa fr fw fs fd fl fe fh fg fo : Int32} {a1 a2 a3 a4 a5 a6 a7 a8 a9 a10 a11 a12 a13 a14 a15 a16 a17 a18 a19 a20 a21 a22 a23 a24 a25 a26 a27 : Nat → Int32} (hp : post 1 ()) (hI : cy_I fa fr a12) (hZ : cy_Z a2 a5 a10) (h1 : ∀ j, a1 j = 0) (hG : cy_G x5 x8) (hS : cy_S x6 x9) (hA : cy_A x6 x10) (hz : z0 = -1) : wL_lawOf_365 post mc ms x3 x5 x6 x7 x8 x9 x10 z0 kc ks ft fa fr fw fs fd fl fe fh fg fo a1 a2 a3 a4 a5 a6 a7 a8 a9 a10 a11 a12 a13 a14 a15 a16 a17 a18 a19 a20 a21 a22 a23 a24 a25 a26 a27 := by
  unfold wL_lawOf_365
  exact cy_L366 hp hI hZ h1 hG hS hA hz
theorem cy_L288 {post : Int32 → St0 → Prop} {mc ms kc ks : Nat} {x0 x3 x5 x6 x7 x8 x9 x10 z0 z1 : Int32} {ft fa fr fw fs fd fl fe fh fg fo : Int32} {a1 a2 a3 a4 a5 a6 a7 a8 a9 a10 a11 a12 a13 a14 a15 a16 a17 a18 a19 a20 a21 a22 a23 a24 a25 a26 a27 : Nat → Int32} (hp : post 1 ()) (hI : cy_I fa fr a12) (hZ : cy_Z a2 a5 a10) (h1 : ∀ j, a1 j = 0) (hG : cy_G x5 x8) (hS : cy_S x6 x9) (hA : cy_A x6 x10) (hz : z1 = z0) : wL_lawOf_288 post mc ms x0 x3 x5 x6 x7 x8 x9 x10 z0 z1 kc ks ft fa fr fw fs fd fl fe fh fg fo a1 a2 a3 a4 a5 a6 a7 a8 a9 a10 a11 a12 a13 a14 a15 a16 a17 a18 a19 a20 a21 a22 a23 a24 a25 a26 a27 := by
  refine br_t hz (cy_variable (fun _ => br_t rfl ?_) (fun j _ _ => br_t (h1 j) ?_)) <;>
  · refine cy_cell hZ.1 (br_t rfl (cy_output hZ.2.1 (br_t rfl (cy_block hZ.2.2 (br_t rfl (cy_digest hZ.1 hZ.2.1 hZ.2.2 (br_t (cy_sum0 (fun j _ => h1 j)) (cy_input (fun e => ?_) (fun g g' b => ?_)))))))))
    · exact cy_blt 0 (fun h => cy_L365 hp hI hZ h1 hG hS hA rfl) (fun h => cy_bge 4 (fun k => cy_L365 hp hI hZ h1 hG hS hA rfl) (fun k => False.elim (by omega)))
    · exact cy_blt 0 (fun h => False.elim (by omega)) (fun h => cy_bge 4 (fun k => False.elim (by omega)) (fun k => cy_L366 hp hI hZ h1 hG hS hA rfl))
theorem cy_L287 {post : Int32 → St0 → Prop} {mc ms kc ks : Nat} {x0 x3 x5 x6 x7 x8 x9 x10 z0 : Int32} {ft fa fr fw fs fd fl fe fh fg fo : Int32} {a1 a2 a3 a4 a5 a6 a7 a8 a9 a10 a11 a12 a13 a14 a15 a16 a17 a18 a19 a20 a21 a22 a23 a24 a25 a26 a27 : Nat → Int32} (hp : post 1 ()) (hI : cy_I fa fr a12) (hZ : cy_Z a2 a5 a10) (h1 : ∀ j, a1 j = 0) (hG : cy_G x5 x8) (hS : cy_S x6 x9) (hA : cy_A x6 x10) (hz : z0 = -1) : wL_lawOf_287 post mc ms x0 x3 x5 x6 x7 x8 x9 x10 z0 kc ks ft fa fr fw fs fd fl fe fh fg fo a1 a2 a3 a4 a5 a6 a7 a8 a9 a10 a11 a12 a13 a14 a15 a16 a17 a18 a19 a20 a21 a22 a23 a24 a25 a26 a27 := by
  unfold wL_lawOf_287
  exact cy_L288 hp hI hZ h1 hG hS hA hz
theorem cy_L255 {post : Int32 → St0 → Prop} {mc ms kc ks : Nat} {x0 x3 x5 x6 x7 x8 x9 x10 z0 z1 : Int32} {ft fa fr fw fs fd fl fe fh fg fo : Int32} {a1 a2 a3 a4 a5 a6 a7 a8 a9 a10 a11 a12 a13 a14 a15 a16 a17 a18 a19 a20 a21 a22 a23 a24 a25 a26 a27 : Nat → Int32} (hp : post 1 ()) (hI : cy_I fa fr a12) (hZ : cy_Z a2 a5 a10) (h1 : ∀ j, a1 j = 0) (hG : cy_G x5 x8) (hS : cy_S x6 x9) (hA : cy_A x6 x10) (hz : z1 = z0) : wL_lawOf_255 post mc ms x0 x3 x5 x6 x7 x8 x9 x10 z0 z1 kc ks ft fa fr fw fs fd fl fe fh fg fo a1 a2 a3 a4 a5 a6 a7 a8 a9 a10 a11 a12 a13 a14 a15 a16 a17 a18 a19 a20 a21 a22 a23 a24 a25 a26 a27 := by
  have hI' : cy_I fa 0 a12 := ⟨hI.1, rfl, hI.2.2⟩
  refine br_t hz (cy_halt0 hI.2.1 (br_t rfl (cy_cycleN rfl (fun e => ?_) (fun g g' => ?_))))
  · exact cy_blt 0 (fun h => cy_L287 hp hI' hZ h1 hG hS hA rfl) (fun h => cy_bgt 100 (fun k => cy_L287 hp hI' hZ h1 hG hS hA rfl) (fun k => False.elim (by omega)))
  · exact cy_blt 0 (fun h => False.elim (by omega)) (fun h => cy_bgt 100 (fun k => False.elim (by omega)) (fun k => cy_L288 hp hI' hZ h1 hG hS hA rfl))
theorem cy_L234 {post : Int32 → St0 → Prop} {mc ms kc ks : Nat} {x0 x3 x5 x6 x7 x8 x9 x10 z0 z1 : Int32} {ft fa fr fw fs fd fl fe fh fg fo : Int32} {a1 a2 a3 a4 a5 a6 a7 a8 a9 a10 a11 a12 a13 a14 a15 a16 a17 a18 a19 a20 a21 a22 a23 a24 a25 a26 a27 : Nat → Int32} (hp : post 1 ()) (hI : cy_I fa fr a12) (hZ : cy_Z a2 a5 a10) (h1 : ∀ j, a1 j = 0) (hG : cy_G x5 x8) (hS : cy_S x6 x9) (hA : cy_A x6 x10) (hz : z1 = z0) : wL_lawOf_234 post mc ms x0 x3 x5 x6 x7 x8 x9 x10 z0 z1 kc ks ft fa fr fw fs fd fl fe fh fg fo a1 a2 a3 a4 a5 a6 a7 a8 a9 a10 a11 a12 a13 a14 a15 a16 a17 a18 a19 a20 a21 a22 a23 a24 a25 a26 a27 := by
  have hG' := hG
  rcases hG with ⟨e8, g⟩ | ⟨e8, g⟩
  · have n8 : ¬ x8 = 0 := by rw [e8]; decide
    obtain ⟨q, hq, ep⟩ := cy_pq g
    exact br_t hz (cy_activateN g (cy_sc0 q ep hq (cy_Iq hI hq)) (by decide) (fun w b => br_f n8 (cy_L255 hp hI hZ h1 hG' hS hA rfl)))
  · exact br_t hz (cy_activateB g (br_t e8 (cy_L255 hp hI hZ h1 hG' hS hA rfl)))
theorem cy_L214 {post : Int32 → St0 → Prop} {mc ms kc ks : Nat} {x0 x3 x5 x6 x7 x8 x9 x10 z0 z1 : Int32} {ft fa fr fw fs fd fl fe fh fg fo : Int32} {a1 a2 a3 a4 a5 a6 a7 a8 a9 a10 a11 a12 a13 a14 a15 a16 a17 a18 a19 a20 a21 a22 a23 a24 a25 a26 a27 : Nat → Int32} (hp : post 1 ()) (hI : cy_I fa fr a12) (hZ : cy_Z a2 a5 a10) (h1 : ∀ j, a1 j = 0) (hG : cy_G x5 x8) (hS : cy_S x6 x9) (hA : cy_A x6 x10) (hz : z1 = z0) : wL_lawOf_214 post mc ms x0 x3 x5 x6 x7 x8 x9 x10 z0 z1 kc ks ft fa fr fw fs fd fl fe fh fg fo a1 a2 a3 a4 a5 a6 a7 a8 a9 a10 a11 a12 a13 a14 a15 a16 a17 a18 a19 a20 a21 a22 a23 a24 a25 a26 a27 := by
  have hG' := hG
  rcases hG with ⟨e8, g⟩ | ⟨e8, g⟩
  · have n8 : ¬ x8 = 0 := by rw [e8]; decide
    obtain ⟨q, hq, ep⟩ := cy_pq g
    exact br_t hz (cy_erase q ep hq (Or.inl hI.2.1) (br_f n8 (cy_L234 hp (cy_Iu hI hq) hZ h1 hG' hS hA (cy_Iq hI hq))))
  · exact br_t hz (cy_eraseB g (br_t e8 (cy_L234 hp hI hZ h1 hG' hS hA rfl)))
theorem cy_L193 {post : Int32 → St0 → Prop} {mc ms kc ks : Nat} {x0 x3 x5 x6 x7 x8 x9 x10 z0 z1 : Int32} {ft fa fr fw fs fd fl fe fh fg fo : Int32} {a1 a2 a3 a4 a5 a6 a7 a8 a9 a10 a11 a12 a13 a14 a15 a16 a17 a18 a19 a20 a21 a22 a23 a24 a25 a26 a27 : Nat → Int32} (hp : post 1 ()) (hI : cy_I fa fr a12) (hZ : cy_Z a2 a5 a10) (h1 : ∀ j, a1 j = 0) (hG : cy_G x5 x8) (hS : cy_S x6 x9) (hA : cy_A x6 x10) (hz : z1 = z0) : wL_lawOf_193 post mc ms x0 x3 x5 x6 x7 x8 x9 x10 z0 z1 kc ks ft fa fr fw fs fd fl fe fh fg fo a1 a2 a3 a4 a5 a6 a7 a8 a9 a10 a11 a12 a13 a14 a15 a16 a17 a18 a19 a20 a21 a22 a23 a24 a25 a26 a27 := by
  have hG' := hG
  rcases hG with ⟨e8, g⟩ | ⟨e8, g⟩
  · have n8 : ¬ x8 = 0 := by rw [e8]; decide
    obtain ⟨q, hq, ep⟩ := cy_pq g
    exact br_t hz (cy_back0 q ep hq (Or.inl hI.2.1) (cy_Iq hI hq) (br_f n8 (cy_L214 hp hI hZ h1 hG' hS hA rfl)))
  · exact br_t hz (cy_backB g (br_t e8 (cy_L214 hp hI hZ h1 hG' hS hA rfl)))
theorem cy_L174 {post : Int32 → St0 → Prop} {mc ms kc ks : Nat} {x0 x3 x5 x6 x7 x8 x9 z0 : Int32} {ft fa fr fw fs fd fl fe fh fg fo : Int32} {a1 a2 a3 a4 a5 a6 a7 a8 a9 a10 a11 a12 a13 a14 a15 a16 a17 a18 a19 a20 a21 a22 a23 a24 a25 a26 a27 : Nat → Int32} (hp : post 1 ()) (hI : cy_I fa fr a12) (hZ : cy_Z a2 a5 a10) (h1 : ∀ j, a1 j = 0) (hG : cy_G x5 x8) (hS : cy_S x6 x9) (hA : cy_A x6 z0) : wL_lawOf_174 post mc ms x0 x3 x5 x6 x7 x8 x9 z0 kc ks ft fa fr fw fs fd fl fe fh fg fo a1 a2 a3 a4 a5 a6 a7 a8 a9 a10 a11 a12 a13 a14 a15 a16 a17 a18 a19 a20 a21 a22 a23 a24 a25 a26 a27 := by
  unfold wL_lawOf_174
  have hG' := hG
  rcases hG with ⟨e8, g⟩ | ⟨e8, g⟩
  · have n8 : ¬ x8 = 0 := by rw [e8]; decide
    obtain ⟨q, hq, ep⟩ := cy_pq g
    exact cy_complete g (cy_sc0 q ep hq (cy_Iq hI hq)) (fun w b z => absurd z (by decide)) (fun m w b _ _ => br_f n8 (cy_L193 hp hI hZ h1 hG' hS hA rfl))
  · exact cy_completeB g (br_t e8 (cy_L193 hp hI hZ h1 hG' hS hA rfl))
theorem cy_L169 {post : Int32 → St0 → Prop} {mc ms kc ks : Nat} {x0 x3 x5 x6 x7 x8 x9 : Int32} {ft fa fr fw fs fd fl fe fh fg fo : Int32} {a1 a2 a3 a4 a5 a6 a7 a8 a9 a10 a11 a12 a13 a14 a15 a16 a17 a18 a19 a20 a21 a22 a23 a24 a25 a26 a27 : Nat → Int32} (hp : post 1 ()) (hI : cy_I fa fr a12) (hZ : cy_Z a2 a5 a10) (h1 : ∀ j, a1 j = 0) (hG : cy_G x5 x8) (hS : cy_S x6 x9) (hA : cy_A x6 1) : wL_lawOf_169 post mc ms x0 x3 x5 x6 x7 x8 x9 kc ks ft fa fr fw fs fd fl fe fh fg fo a1 a2 a3 a4 a5 a6 a7 a8 a9 a10 a11 a12 a13 a14 a15 a16 a17 a18 a19 a20 a21 a22 a23 a24 a25 a26 a27 := by
  unfold wL_lawOf_169
  exact cy_L174 hp hI hZ h1 hG hS hA
theorem cy_L154 {post : Int32 → St0 → Prop} {mc ms kc ks : Nat} {x0 x3 x5 x6 x7 x8 z0 : Int32} {ft fa fr fw fs fd fl fe fh fg fo : Int32} {a1 a2 a3 a4 a5 a6 a7 a8 a9 a10 a11 a12 a13 a14 a15 a16 a17 a18 a19 a20 a21 a22 a23 a24 a25 a26 a27 : Nat → Int32} (hp : post 1 ()) (hI : cy_I fa fr a12) (hZ : cy_Z a2 a5 a10) (h1 : ∀ j, a1 j = 0) (hG : cy_G x5 x8) (hS : cy_S x6 z0) : wL_lawOf_154 post mc ms x0 x3 x5 x6 x7 x8 z0 kc ks ft fa fr fw fs fd fl fe fh fg fo a1 a2 a3 a4 a5 a6 a7 a8 a9 a10 a11 a12 a13 a14 a15 a16 a17 a18 a19 a20 a21 a22 a23 a24 a25 a26 a27 :=
  cy_beq 2 (fun e => cy_L169 hp hI hZ h1 hG hS (Or.inl ⟨rfl, Or.inl e⟩)) (fun e => cy_beq 39 (fun k => cy_L169 hp hI hZ h1 hG hS (Or.inl ⟨rfl, Or.inr k⟩)) (fun k => cy_L174 hp hI hZ h1 hG hS (Or.inr ⟨rfl, fun z => z.elim e k⟩)))
theorem cy_L149 {post : Int32 → St0 → Prop} {mc ms kc ks : Nat} {x0 x3 x5 x6 x7 x8 : Int32} {ft fa fr fw fs fd fl fe fh fg fo : Int32} {a1 a2 a3 a4 a5 a6 a7 a8 a9 a10 a11 a12 a13 a14 a15 a16 a17 a18 a19 a20 a21 a22 a23 a24 a25 a26 a27 : Nat → Int32} (hp : post 1 ()) (hI : cy_I fa fr a12) (hZ : cy_Z a2 a5 a10) (h1 : ∀ j, a1 j = 0) (hG : cy_G x5 x8) (hs : cy_sZ x6.toInt) : wL_lawOf_149 post mc ms x0 x3 x5 x6 x7 x8 kc ks ft fa fr fw fs fd fl fe fh fg fo a1 a2 a3 a4 a5 a6 a7 a8 a9 a10 a11 a12 a13 a14 a15 a16 a17 a18 a19 a20 a21 a22 a23 a24 a25 a26 a27 := by
  unfold wL_lawOf_149
  exact cy_L154 hp hI hZ h1 hG (Or.inl ⟨rfl, hs⟩)
theorem cy_L153 {post : Int32 → St0 → Prop} {mc ms kc ks : Nat} {x0 x3 x5 x6 x7 x8 : Int32} {ft fa fr fw fs fd fl fe fh fg fo : Int32} {a1 a2 a3 a4 a5 a6 a7 a8 a9 a10 a11 a12 a13 a14 a15 a16 a17 a18 a19 a20 a21 a22 a23 a24 a25 a26 a27 : Nat → Int32} (hp : post 1 ()) (hI : cy_I fa fr a12) (hZ : cy_Z a2 a5 a10) (h1 : ∀ j, a1 j = 0) (hG : cy_G x5 x8) (hs : ¬ cy_sZ x6.toInt) : wL_lawOf_153 post mc ms x0 x3 x5 x6 x7 x8 kc ks ft fa fr fw fs fd fl fe fh fg fo a1 a2 a3 a4 a5 a6 a7 a8 a9 a10 a11 a12 a13 a14 a15 a16 a17 a18 a19 a20 a21 a22 a23 a24 a25 a26 a27 := by
  unfold wL_lawOf_153
  exact cy_L154 hp hI hZ h1 hG (Or.inr ⟨rfl, hs⟩)
theorem cy_L135 {post : Int32 → St0 → Prop} {mc ms kc ks : Nat} {x0 x3 x5 x6 x7 x8 : Int32} {ft fa fr fw fs fd fl fe fh fg fo : Int32} {a1 a2 a3 a4 a5 a6 a7 a8 a9 a10 a11 a12 a13 a14 a15 a16 a17 a18 a19 a20 a21 a22 a23 a24 a25 a26 a27 : Nat → Int32} (hp : post 1 ()) (hI : cy_I fa fr a12) (hZ : cy_Z a2 a5 a10) (h1 : ∀ j, a1 j = 0) (hG : cy_G x5 x8) (k1 : x6.toInt ≠ 1) (k2 : x6.toInt ≠ 2) (k3 : x6.toInt ≤ 9 ∨ 26 ≤ x6.toInt) (k4 : x6.toInt ≤ 29 ∨ 38 ≤ x6.toInt) (k5 : x6.toInt ≤ 38 ∨ 57 ≤ x6.toInt) : wL_lawOf_135 post mc ms x0 x3 x5 x6 x7 x8 kc ks ft fa fr fw fs fd fl fe fh fg fo a1 a2 a3 a4 a5 a6 a7 a8 a9 a10 a11 a12 a13 a14 a15 a16 a17 a18 a19 a20 a21 a22 a23 a24 a25 a26 a27 :=
  cy_ble 59 (fun h => cy_L153 hp hI hZ h1 hG (by unfold cy_sZ; omega)) (fun h => cy_bge 69 (fun k => cy_L153 hp hI hZ h1 hG (by unfold cy_sZ; omega)) (fun k => cy_L149 hp hI hZ h1 hG (by unfold cy_sZ; omega)))
theorem cy_L121 {post : Int32 → St0 → Prop} {mc ms kc ks : Nat} {x0 x3 x5 x6 x7 x8 : Int32} {ft fa fr fw fs fd fl fe fh fg fo : Int32} {a1 a2 a3 a4 a5 a6 a7 a8 a9 a10 a11 a12 a13 a14 a15 a16 a17 a18 a19 a20 a21 a22 a23 a24 a25 a26 a27 : Nat → Int32} (hp : post 1 ()) (hI : cy_I fa fr a12) (hZ : cy_Z a2 a5 a10) (h1 : ∀ j, a1 j = 0) (hG : cy_G x5 x8) (k1 : x6.toInt ≠ 1) (k2 : x6.toInt ≠ 2) (k3 : x6.toInt ≤ 9 ∨ 26 ≤ x6.toInt) (k4 : x6.toInt ≤ 29 ∨ 38 ≤ x6.toInt) : wL_lawOf_121 post mc ms x0 x3 x5 x6 x7 x8 kc ks ft fa fr fw fs fd fl fe fh fg fo a1 a2 a3 a4 a5 a6 a7 a8 a9 a10 a11 a12 a13 a14 a15 a16 a17 a18 a19 a20 a21 a22 a23 a24 a25 a26 a27 :=
  cy_ble 38 (fun h => cy_L135 hp hI hZ h1 hG k1 k2 k3 k4 (Or.inl h)) (fun h => cy_blt 57 (fun k => cy_L149 hp hI hZ h1 hG (by unfold cy_sZ; omega)) (fun k => cy_L135 hp hI hZ h1 hG k1 k2 k3 k4 (Or.inr k)))
theorem cy_L107 {post : Int32 → St0 → Prop} {mc ms kc ks : Nat} {x0 x3 x5 x6 x7 x8 : Int32} {ft fa fr fw fs fd fl fe fh fg fo : Int32} {a1 a2 a3 a4 a5 a6 a7 a8 a9 a10 a11 a12 a13 a14 a15 a16 a17 a18 a19 a20 a21 a22 a23 a24 a25 a26 a27 : Nat → Int32} (hp : post 1 ()) (hI : cy_I fa fr a12) (hZ : cy_Z a2 a5 a10) (h1 : ∀ j, a1 j = 0) (hG : cy_G x5 x8) (k1 : x6.toInt ≠ 1) (k2 : x6.toInt ≠ 2) (k3 : x6.toInt ≤ 9 ∨ 26 ≤ x6.toInt) : wL_lawOf_107 post mc ms x0 x3 x5 x6 x7 x8 kc ks ft fa fr fw fs fd fl fe fh fg fo a1 a2 a3 a4 a5 a6 a7 a8 a9 a10 a11 a12 a13 a14 a15 a16 a17 a18 a19 a20 a21 a22 a23 a24 a25 a26 a27 :=
  cy_ble 29 (fun h => cy_L121 hp hI hZ h1 hG k1 k2 k3 (Or.inl h)) (fun h => cy_blt 38 (fun k => cy_L149 hp hI hZ h1 hG (by unfold cy_sZ; omega)) (fun k => cy_L121 hp hI hZ h1 hG k1 k2 k3 (Or.inr k)))
theorem cy_L79 {post : Int32 → St0 → Prop} {mc ms kc ks : Nat} {x0 x3 x5 x6 x7 z0 : Int32} {ft fa fr fw fs fd fl fe fh fg fo : Int32} {a1 a2 a3 a4 a5 a6 a7 a8 a9 a10 a11 a12 a13 a14 a15 a16 a17 a18 a19 a20 a21 a22 a23 a24 a25 a26 a27 : Nat → Int32} (hp : post 1 ()) (hI : cy_I fa fr a12) (hZ : cy_Z a2 a5 a10) (h1 : ∀ j, a1 j = 0) (hG : cy_G x5 z0) : wL_lawOf_79 post mc ms x0 x3 x5 x6 x7 z0 kc ks ft fa fr fw fs fd fl fe fh fg fo a1 a2 a3 a4 a5 a6 a7 a8 a9 a10 a11 a12 a13 a14 a15 a16 a17 a18 a19 a20 a21 a22 a23 a24 a25 a26 a27 :=
  cy_beq 1 (fun e => cy_L149 hp hI hZ h1 hG (Or.inl e)) (fun k1 => cy_beq 2 (fun e => cy_L149 hp hI hZ h1 hG (Or.inr (Or.inl e))) (fun k2 =>
    cy_ble 9 (fun h => cy_L107 hp hI hZ h1 hG k1 k2 (Or.inl h)) (fun h => cy_blt 26 (fun k => cy_L149 hp hI hZ h1 hG (by unfold cy_sZ; omega)) (fun k => cy_L107 hp hI hZ h1 hG k1 k2 (Or.inr k)))))
theorem cy_L74 {post : Int32 → St0 → Prop} {mc ms kc ks : Nat} {x0 x3 x5 x6 x7 : Int32} {ft fa fr fw fs fd fl fe fh fg fo : Int32} {a1 a2 a3 a4 a5 a6 a7 a8 a9 a10 a11 a12 a13 a14 a15 a16 a17 a18 a19 a20 a21 a22 a23 a24 a25 a26 a27 : Nat → Int32} (hp : post 1 ()) (hI : cy_I fa fr a12) (hZ : cy_Z a2 a5 a10) (h1 : ∀ j, a1 j = 0) (hG : cy_G x5 1) : wL_lawOf_74 post mc ms x0 x3 x5 x6 x7 kc ks ft fa fr fw fs fd fl fe fh fg fo a1 a2 a3 a4 a5 a6 a7 a8 a9 a10 a11 a12 a13 a14 a15 a16 a17 a18 a19 a20 a21 a22 a23 a24 a25 a26 a27 := by
  unfold wL_lawOf_74
  exact cy_L79 hp hI hZ h1 hG
theorem cy_L61 {post : Int32 → St0 → Prop} {mc ms kc ks : Nat} {x0 x3 x5 x6 z0 : Int32} {ft fa fr fw fs fd fl fe fh fg fo : Int32} {a1 a2 a3 a4 a5 a6 a7 a8 a9 a10 a11 a12 a13 a14 a15 a16 a17 a18 a19 a20 a21 a22 a23 a24 a25 a26 a27 : Nat → Int32} (hp : post 1 ()) (hI : cy_I fa fr a12) (hZ : cy_Z a2 a5 a10) (h1 : ∀ j, a1 j = 0) : wL_lawOf_61 post mc ms x0 x3 x5 x6 z0 kc ks ft fa fr fw fs fd fl fe fh fg fo a1 a2 a3 a4 a5 a6 a7 a8 a9 a10 a11 a12 a13 a14 a15 a16 a17 a18 a19 a20 a21 a22 a23 a24 a25 a26 a27 :=
  br_c (fun e => cy_L74 hp hI hZ h1 (Or.inl ⟨rfl, Or.inl e⟩)) (fun e => br_c (fun k => cy_L74 hp hI hZ h1 (Or.inl ⟨rfl, Or.inr k⟩)) (fun k => cy_L79 hp hI hZ h1 (Or.inr ⟨rfl, fun z => z.elim e k⟩)))
theorem cy_L43 {post : Int32 → St0 → Prop} {mc ms kc ks : Nat} {x0 x2 x3 x5 z0 : Int32} {ft fa fr fw fs fd fl fe fh fg fo : Int32} {a1 a2 a3 a4 a5 a6 a7 a8 a9 a10 a11 a12 a13 a14 a15 a16 a17 a18 a19 a20 a21 a22 a23 a24 a25 a26 a27 : Nat → Int32} (hp : post 1 ()) (hI : cy_I fa fr a12) (hZ : cy_Z a2 a5 a10) (h1 : ∀ j, a1 j = 0) : wL_lawOf_43 post mc ms x0 x2 x3 x5 z0 kc ks ft fa fr fw fs fd fl fe fh fg fo a1 a2 a3 a4 a5 a6 a7 a8 a9 a10 a11 a12 a13 a14 a15 a16 a17 a18 a19 a20 a21 a22 a23 a24 a25 a26 a27 :=
  br_c (fun _ => cy_L61 hp hI hZ h1) (fun _ => cy_L61 hp hI hZ h1)
theorem cy_L24 {post : Int32 → St0 → Prop} {mc ms kc ks : Nat} {x0 x1 x2 x3 z0 : Int32} {ft fa fr fw fs fd fl fe fh fg fo : Int32} {a1 a2 a3 a4 a5 a6 a7 a8 a9 a10 a11 a12 a13 a14 a15 a16 a17 a18 a19 a20 a21 a22 a23 a24 a25 a26 a27 : Nat → Int32} (hp : post 1 ()) (hI : cy_I fa fr a12) (hZ : cy_Z a2 a5 a10) (h1 : ∀ j, a1 j = 0) : wL_lawOf_24 post mc ms x0 x1 x2 x3 z0 kc ks ft fa fr fw fs fd fl fe fh fg fo a1 a2 a3 a4 a5 a6 a7 a8 a9 a10 a11 a12 a13 a14 a15 a16 a17 a18 a19 a20 a21 a22 a23 a24 a25 a26 a27 :=
  br_c (fun _ => cy_L43 hp hI hZ h1) (fun _ => cy_L43 hp hI hZ h1)
end
section
theorem cy_init {post : St2 → Prop} {u : St1} (H : post (u.1, 0, u.2.2.1, u.2.2.2.1, u.2.2.2.2.1, u.2.2.2.2.2.1, u.2.2.2.2.2.2.1, u.2.2.2.2.2.2.2.1, u.2.2.2.2.2.2.2.2.1, u.2.2.2.2.2.2.2.2.2.1, u.2.2.2.2.2.2.2.2.2.2, (fun _ => 0), (fun _ => 0), (fun _ => 0), (fun _ => 0), (fun _ => 0), (fun _ => 0), (fun _ => 0), (fun _ => 0), (fun _ => 0), (fun _ => 0), (fun _ => 0), (fun _ => 0), (fun _ => 0), (fun _ => 0), (fun _ => 0), (fun _ => 0), (fun _ => 0), (fun _ => 0), (fun _ => 0), (fun _ => 0), (fun _ => 0), (fun _ => 0), (fun _ => 0), (fun _ => 0), (fun _ => 0), (fun _ => 0), (fun _ => 0))) : wpX_init post 100 3000 u :=
  ⟨by decide, by decide, by decide, by decide, by decide, by decide, by decide, by decide, by decide, by decide, by decide, by decide, by decide, by decide, by decide, by decide, by decide, by decide, by decide, by decide, by decide, by decide, by decide, by decide, by decide, by decide, by decide, by decide, by decide, by decide, by decide, by decide, by decide, by decide, by decide, by decide, by decide, by decide, by decide, by decide, by decide, by decide, by decide, by decide, by decide, by decide, by decide, by decide, by decide, by decide, by decide, by decide, by decide, by decide, H⟩
theorem cy_lawOf (x y z w : Int32) : wpL_lawOf (fun r _ => r = 1) 1142 18256 () x y z w :=
  ⟨by decide, by decide, 100, 3000, by decide, by decide, cy_init (br_c
    (fun _ => cy_L24 rfl ⟨rfl, rfl, rfl, rfl⟩ ⟨fun _ => rfl, fun _ => rfl, fun _ => rfl⟩ (fun _ => rfl))
    (fun _ => cy_L24 rfl ⟨rfl, rfl, rfl, rfl⟩ ⟨fun _ => rfl, fun _ => rfl, fun _ => rfl⟩ (fun _ => rfl)))⟩
theorem cy_cellAt {post : Int32 → Prop} {L : Nat} {xs : Nat → Int32} {u : St0} {x : Int32} (i : Nat) (hL : L ≤ 4) (hi : i < 4) (ex : x = nI i) (H : ∀ r, post r) : wpL_cellAt post L xs u x :=
  pk_le L i (fun _ => H 0) (fun h => ⟨pk_in i L h ex, H _⟩) rfl ex
theorem i_vc (xs : Nat → Int32) (L : Nat) (hL : L ≤ 4) : wpL_law (fun r => r = 1) L xs := by
  unfold wpL_law
  exact cy_cellAt 0 hL (by omega) rfl (fun x => cy_cellAt 1 hL (by omega) rfl (fun y => cy_cellAt 2 hL (by omega) rfl (fun z => cy_cellAt 3 hL (by omega) rfl (fun w => ⟨1142, 18256, by decide, by decide, cy_lawOf x y z w⟩))))
end
