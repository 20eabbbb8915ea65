section
/-! ===== the pictures: places of sixteen entries, places of ten coefficients, naturals ===== -/
def sd_u (E : Nat → Nat) (k v : Nat) : Nat → Nat := fun j => if j = k then v else E j
def sd_v (M : Nat → Nat → Nat) (p : Nat) (C : Nat → Nat) : Nat → Nat → Nat := fun q => if q = p then C else M q
def sd_e (M : Nat → Nat → Nat) : Nat → Int32 := fun i => nI (M (i / 16) (i % 16))
def sd_q (Q : Nat → Nat → Nat) : Nat → Int32 := fun i => nI (Q (i / 10) (i % 10))
def sd_t (a b c : Nat) : Nat → Nat := fun j => if j = 0 then a else if j = 1 then b else if j = 2 then c else 0
def sd_b (C : Nat → Nat) : Prop := ∀ j, C j < 5
def sd_bb (M : Nat → Nat → Nat) : Prop := ∀ p, sd_b (M p)
theorem sd_us {E : Nat → Nat} {k v : Nat} : sd_u E k v k = v := if_pos rfl
theorem sd_un {E : Nat → Nat} {k v j : Nat} (h : j ≠ k) : sd_u E k v j = E j := if_neg h
theorem sd_vs {M : Nat → Nat → Nat} {p : Nat} {C : Nat → Nat} : sd_v M p C p = C := if_pos rfl
theorem sd_vn {M : Nat → Nat → Nat} {p q : Nat} {C : Nat → Nat} (h : q ≠ p) : sd_v M p C q = M q := if_neg h
theorem sd_vv {M : Nat → Nat → Nat} {p : Nat} {A B : Nat → Nat} : sd_v (sd_v M p A) p B = sd_v M p B := by
  funext q
  by_cases h : q = p
  · subst h
    rw [sd_vs, sd_vs]
  · rw [sd_vn h, sd_vn h, sd_vn h]
theorem sd_vc {M : Nat → Nat → Nat} {p r : Nat} {A B : Nat → Nat} (h : p ≠ r) : sd_v (sd_v M p A) r B = sd_v (sd_v M r B) p A := by
  funext q
  by_cases h1 : q = p
  · subst h1
    rw [sd_vn h, sd_vs, sd_vs]
  · by_cases h2 : q = r
    · subst h2
      rw [sd_vs, sd_vn h1, sd_vs]
    · rw [sd_vn h2, sd_vn h1, sd_vn h1, sd_vn h2]
theorem sd_bu {E : Nat → Nat} {k v : Nat} (h : sd_b E) (hv : v < 5) : sd_b (sd_u E k v) := by
  intro j
  by_cases e : j = k
  · subst e
    rw [sd_us]
    exact hv
  · rw [sd_un e]
    exact h j
theorem sd_bv {M : Nat → Nat → Nat} {p : Nat} {C : Nat → Nat} (h : sd_bb M) (hC : sd_b C) : sd_bb (sd_v M p C) := by
  intro q
  by_cases e : q = p
  · subst e
    rw [sd_vs]
    exact hC
  · rw [sd_vn e]
    exact h q
theorem sd_b0 : sd_b (fun _ => 0) := fun _ => Nat.zero_lt_succ 4
theorem sd_bt {a b c : Nat} (ha : a < 5) (hb : b < 5) (hc : c < 5) : sd_b (sd_t a b c) := by
  intro j
  unfold sd_t
  split
  · exact ha
  · split
    · exact hb
    · split
      · exact hc
      · decide
/-- the entries' array, written and read -/
theorem sd_eu {M : Nat → Nat → Nat} {m k v : Nat} (hk : k < 16) : upd (sd_e M) (16 * m + k) (nI v) = sd_e (sd_v M m (sd_u (M m) k v)) := by
  funext j
  show (if j = 16 * m + k then nI v else nI (M (j / 16) (j % 16))) = nI ((sd_v M m (sd_u (M m) k v)) (j / 16) (j % 16))
  by_cases h : j = 16 * m + k
  · have h1 : j / 16 = m := by omega
    have h2 : j % 16 = k := by omega
    rw [if_pos h, h1, h2, sd_vs, sd_us]
  · rw [if_neg h]
    by_cases h1 : j / 16 = m
    · have h2 : j % 16 ≠ k := by omega
      rw [h1, sd_vs, sd_un h2]
    · rw [sd_vn h1]
theorem sd_er {M : Nat → Nat → Nat} {m k : Nat} (hk : k < 16) : sd_e M (16 * m + k) = nI (M m k) := by
  show nI (M ((16 * m + k) / 16) ((16 * m + k) % 16)) = _
  rw [show (16 * m + k) / 16 = m by omega, show (16 * m + k) % 16 = k by omega]
theorem sd_ee {M : Nat → Nat → Nat} {p : Nat} {A B : Nat → Nat} (h : ∀ j, j < 16 → A j = B j) : sd_e (sd_v M p A) = sd_e (sd_v M p B) := by
  funext i
  show nI (sd_v M p A (i / 16) (i % 16)) = nI (sd_v M p B (i / 16) (i % 16))
  by_cases e : i / 16 = p
  · rw [e, sd_vs, sd_vs, h _ (Nat.mod_lt _ (by decide))]
  · rw [sd_vn e, sd_vn e]
theorem sd_e0 {M : Nat → Nat → Nat} {p : Nat} {C : Nat → Nat} (h : ∀ j, j < 16 → C j = M p j) : sd_e M = sd_e (sd_v M p C) := by
  funext i
  show nI (M (i / 16) (i % 16)) = nI (sd_v M p C (i / 16) (i % 16))
  by_cases e : i / 16 = p
  · rw [e, sd_vs, h _ (Nat.mod_lt _ (by decide))]
  · rw [sd_vn e]
/-- the coefficients' array -/
theorem sd_qu {M : Nat → Nat → Nat} {m k v : Nat} (hk : k < 10) : upd (sd_q M) (10 * m + k) (nI v) = sd_q (sd_v M m (sd_u (M m) k v)) := by
  funext j
  show (if j = 10 * m + k then nI v else nI (M (j / 10) (j % 10))) = nI ((sd_v M m (sd_u (M m) k v)) (j / 10) (j % 10))
  by_cases h : j = 10 * m + k
  · have h1 : j / 10 = m := by omega
    have h2 : j % 10 = k := by omega
    rw [if_pos h, h1, h2, sd_vs, sd_us]
  · rw [if_neg h]
    by_cases h1 : j / 10 = m
    · have h2 : j % 10 ≠ k := by omega
      rw [h1, sd_vs, sd_un h2]
    · rw [sd_vn h1]
theorem sd_qr {M : Nat → Nat → Nat} {m k : Nat} (hk : k < 10) : sd_q M (10 * m + k) = nI (M m k) := by
  show nI (M ((10 * m + k) / 10) ((10 * m + k) % 10)) = _
  rw [show (10 * m + k) / 10 = m by omega, show (10 * m + k) % 10 = k by omega]
theorem sd_qe {M : Nat → Nat → Nat} {p : Nat} {A B : Nat → Nat} (h : ∀ j, j < 10 → A j = B j) : sd_q (sd_v M p A) = sd_q (sd_v M p B) := by
  funext i
  show nI (sd_v M p A (i / 10) (i % 10)) = nI (sd_v M p B (i / 10) (i % 10))
  by_cases e : i / 10 = p
  · rw [e, sd_vs, sd_vs, h _ (Nat.mod_lt _ (by decide))]
  · rw [sd_vn e, sd_vn e]
theorem sd_q0 {M : Nat → Nat → Nat} {p : Nat} {C : Nat → Nat} (h : ∀ j, j < 10 → C j = M p j) : sd_q M = sd_q (sd_v M p C) := by
  funext i
  show nI (M (i / 10) (i % 10)) = nI (sd_v M p C (i / 10) (i % 10))
  by_cases e : i / 10 = p
  · rw [e, sd_vs, h _ (Nat.mod_lt _ (by decide))]
  · rw [sd_vn e]
/-- filling a place from 0 up -/
theorem sd_fill {A B : Nat → Nat} {i : Nat} : sd_u (fun j => if j < i then A j else B j) i (A i) = fun j => if j < i + 1 then A j else B j := by
  funext j
  by_cases h : j = i
  · subst h
    rw [sd_us, if_pos (Nat.lt_succ_self j)]
  · rw [sd_un h]
    by_cases h2 : j < i
    · rw [if_pos h2, if_pos (by omega)]
    · rw [if_neg h2, if_neg (by omega)]
/-! ===== numbers ===== -/
theorem sd_by : ∀ v, v < 128 → (nI v).toInt8.toInt32 = nI v := by decide +kernel
theorem sd_sh : ∀ v, v < 128 → (nI v).toInt16.toInt32 = nI v := by decide +kernel
theorem sd_50 : ¬ (5 : Int32) = 0 := by decide
theorem sd_ix (m i k : Nat) : (16 * nI m + 4 * nI i) + nI k = nI (16 * m + (4 * i + k)) := by
  show (nI 16 * nI m + nI 4 * nI i) + nI k = _
  rw [pk_mul, pk_mul, nI_add, nI_add, Nat.add_assoc]
theorem sd_kx (m k : Nat) : 16 * nI m + nI k = nI (16 * m + k) := by
  show nI 16 * nI m + nI k = _
  rw [pk_mul, nI_add]
theorem sd_jx (m k : Nat) : 10 * nI m + nI k = nI (10 * m + k) := by
  show nI 10 * nI m + nI k = _
  rw [pk_mul, nI_add]
theorem sd_m5 {x : Int32} (a : Nat) (hx : x = nI a) (h : a < 2 ^ 31) : x - x / 5 * 5 = nI (a % 5) := by
  subst hx
  exact pk_rem h (by decide) (by decide)
theorem sd_m5b {x : Int32} (a : Nat) (hx : x = nI a) (h : a < 2 ^ 31) : (x - x / 5 * 5).toInt8.toInt32 = nI (a % 5) := by
  rw [sd_m5 a hx h]
  exact sd_by _ (by omega)
theorem sd_es {M : Nat → Nat → Nat} {x w : Int32} (m k v : Nat) (hk : k < 16) (hm : m < 9) (hx : x = nI (16 * m + k)) (hw : w = nI v) : upd (sd_e M) x.toNatClampNeg w = sd_e (sd_v M m (sd_u (M m) k v)) := by
  subst hx hw
  rw [nI_clamp (by omega)]
  exact sd_eu hk
theorem sd_ed {M : Nat → Nat → Nat} {x : Int32} (m k : Nat) (hk : k < 16) (hm : m < 9) (hx : x = nI (16 * m + k)) : sd_e M x.toNatClampNeg = nI (M m k) := by
  subst hx
  rw [nI_clamp (by omega)]
  exact sd_er hk
theorem sd_qs {M : Nat → Nat → Nat} {x w : Int32} (m k v : Nat) (hk : k < 10) (hm : m < 13) (hx : x = nI (10 * m + k)) (hw : w = nI v) : upd (sd_q M) x.toNatClampNeg w = sd_q (sd_v M m (sd_u (M m) k v)) := by
  subst hx hw
  rw [nI_clamp (by omega)]
  exact sd_qu hk
theorem sd_qd {M : Nat → Nat → Nat} {x : Int32} (m k : Nat) (hk : k < 10) (hm : m < 13) (hx : x = nI (10 * m + k)) : sd_q M x.toNatClampNeg = nI (M m k) := by
  subst hx
  rw [nI_clamp (by omega)]
  exact sd_qr hk
/-! ===== the small methods ===== -/
section
variable {f0 f1 f2 : Int32} {M Q : Nat → Nat → Nat} {a1 a2 a3 a4 a5 a6 a7 : Nat → Int32}
theorem sd_entry {post : Int32 → Prop} {x0 x1 x2 : Int32} (m i k j : Nat) (hp : post (nI (M m j))) (hj : 4 * i + k = j := by rfl) (hm : m < 9 := by omega) (hk : j < 16 := by omega) (h0 : x0 = nI m := by rfl) (h1 : x1 = nI i := by rfl) (h2 : x2 = nI k := by rfl) :
    wpX_entry post (f0, f1, f2, sd_e M, a2, a3, a4, a5, a6, a7) x0 x1 x2 := by
  subst h0 h1 h2
  have e : (16 * nI m + 4 * nI i) + nI k = nI (16 * m + j) := by rw [sd_ix, hj]
  have r : sd_e M ((16 * nI m + 4 * nI i) + nI k).toNatClampNeg = nI (M m j) := sd_ed m j hk hm e
  refine ⟨pk_in (16 * m + j) 144 (by omega) e, ?_⟩
  rw [r]
  exact hp
theorem sd_setE {post : St2 → Prop} {x0 x1 x2 x3 : Int32} (m i k j v : Nat) (hp : post (f0, f1, f2, sd_e (sd_v M m (sd_u (M m) j v)), a2, a3, a4, a5, a6, a7)) (hv : v < 128) (hj : 4 * i + k = j := by rfl) (hm : m < 9 := by omega) (hk : j < 16 := by omega) (h0 : x0 = nI m := by rfl) (h1 : x1 = nI i := by rfl) (h2 : x2 = nI k := by rfl) (h3 : x3 = nI v := by rfl) :
    wpX_setEntry post (f0, f1, f2, sd_e M, a2, a3, a4, a5, a6, a7) x0 x1 x2 x3 := by
  subst h0 h1 h2 h3
  have e : (16 * nI m + 4 * nI i) + nI k = nI (16 * m + j) := by rw [sd_ix, hj]
  exact ⟨pk_in (16 * m + j) 144 (by omega) e, nm_r (sd_es m j v hk hm e (sd_by v hv)) hp⟩
theorem sd_addC {post : St2 → Prop} {x0 x1 x2 : Int32} (p j v : Nat) (hp : post (f0, f1, f2, a1, sd_q (sd_v Q p (sd_u (Q p) j ((Q p j + v) % 5))), a3, a4, a5, a6, a7)) (hv : Q p j + v < 2 ^ 31) (hj : j < 10 := by omega) (hm : p < 13 := by omega) (h0 : x0 = nI p := by rfl) (h1 : x1 = nI j := by rfl) (h2 : x2 = nI v := by rfl) :
    wpX_addCoefficient post (f0, f1, f2, a1, sd_q Q, a3, a4, a5, a6, a7) x0 x1 x2 := by
  subst h0 h1 h2
  have e : sd_q Q (10 * nI p + nI j).toNatClampNeg + nI v = nI (Q p j + v) := by rw [sd_qd p j hj hm (sd_jx p j), nI_add]
  exact ⟨pk_in (10 * p + j) 130 (by omega) (sd_jx p j), nm_r e ⟨sd_50, pk_in (10 * p + j) 130 (by omega) (sd_jx p j), nm_r (sd_qs p j _ hj hm (sd_jx p j) (sd_m5b _ rfl hv)) hp⟩⟩
theorem sd_inv {post : Int32 → Prop} {x0 : Int32} (v : Nat) (hv : v < 5) (hp : post (nI (v * v % 5 * v % 5))) (h0 : x0 = nI v := by rfl) :
    wpX_inverseOf post (f0, f1, f2, a1, a2, a3, a4, a5, a6, a7) x0 := by
  subst h0
  have k1 : v * v ≤ 4 * 4 := Nat.mul_le_mul (by omega) (by omega)
  have k2 : v * v % 5 * v ≤ 4 * 4 := Nat.mul_le_mul (by omega) (by omega)
  have e1 : nI v * nI v - nI v * nI v / 5 * 5 = nI (v * v % 5) := sd_m5 (v * v) (pk_mul v v) (by omega)
  have e2 : (nI v * nI v - nI v * nI v / 5 * 5) * nI v - (nI v * nI v - nI v * nI v / 5 * 5) * nI v / 5 * 5 = nI (v * v % 5 * v % 5) := sd_m5 (v * v % 5 * v) (by rw [e1, pk_mul]) (by omega)
  refine ⟨sd_50, sd_50, ?_⟩
  rw [e2]
  exact hp
theorem sd_reg {post : Int32 → Prop} {x0 : Int32} (v : Nat) (hv : v ≤ 3) (hp : post 1) (h0 : x0 = nI v := by rfl) :
    wpX_isRegister post (f0, f1, f2, a1, a2, a3, a4, a5, a6, a7) x0 :=
  pk_lt v 0 (fun z => absurd z (by omega)) (fun _ => pk_lt 3 v (fun z => absurd z (by omega)) (fun _ => hp) rfl h0) h0 rfl
theorem sd_copy {post : St2 → Prop} {x0 x1 : Int32} (t f : Nat) (hb : sd_bb M) (hp : post (f0, f1, f2, sd_e (sd_v M t (M f)), a2, a3, a4, a5, a6, a7)) (ht : t < 9 := by omega) (hf : f < 9 := by omega) (h0 : x0 = nI t := by rfl) (h1 : x1 = nI f := by rfl) :
    wpX_copy post (f0, f1, f2, sd_e M, a2, a3, a4, a5, a6, a7) x0 x1 := by
  subst h0 h1
  refine pk_loop (fun n i s => wX_copy_2 post (nI t) (nI f) f0 f1 f2 n (nI i) s a2 a3 a4 a5 a6 a7) (fun i s => s = sd_e (sd_v M t (fun j => if j < i then M f j else M t j))) 16 0 (sd_e M) (by omega) ?_ ?_ ?_
  · exact sd_e0 (fun j _ => if_neg (by omega))
  · intro n s h
    subst h
    refine pk_le 16 16 (fun _ => ?_) (fun z => absurd z (by omega))
    rw [sd_ee (B := M f) (fun j hj => if_pos hj)]
    exact hp
  · intro n i s hi h hw
    subst h
    refine pk_le 16 i (fun z => absurd z (by omega)) (fun _ => ⟨pk_in (16 * f + i) 144 (by omega) (sd_kx f i), pk_in (16 * t + i) 144 (by omega) (sd_kx t i), nm_r ?_ (nm_r (nI_1 i) (hw _ rfl))⟩)
    have e : (sd_v M t (fun j => if j < i then M f j else M t j)) f i = M f i := by
      by_cases h : f = t
      · subst h
        rw [sd_vs]
        exact if_neg (by omega)
      · rw [sd_vn h]
    have d : vp_nar .byte (sd_e (sd_v M t (fun j => if j < i then M f j else M t j)) (16 * nI f + nI i).toNatClampNeg) = nI (M f i) := by
      rw [sd_ed f i hi hf (sd_kx f i), e, vp_nar_byte]
      exact sd_by _ (Nat.lt_of_lt_of_le (hb f i) (by decide))
    rw [sd_es t i (M f i) hi ht (sd_kx t i) d, sd_vs, sd_vv, sd_fill]
theorem sd_clear {post : St2 → Prop} {x0 : Int32} (p : Nat) (hp : post (f0, f1, f2, a1, sd_q (sd_v Q p (fun _ => 0)), a3, a4, a5, a6, a7)) (hm : p < 13 := by omega) (h0 : x0 = nI p := by rfl) :
    wpX_clearPoly post (f0, f1, f2, a1, sd_q Q, a3, a4, a5, a6, a7) x0 := by
  subst h0
  refine pk_loop (fun n i s => wX_clearPoly_2 post (nI p) f0 f1 f2 n (nI i) a1 s a3 a4 a5 a6 a7) (fun i s => s = sd_q (sd_v Q p (fun j => if j < i then 0 else Q p j))) 10 0 (sd_q Q) (by omega) ?_ ?_ ?_
  · exact sd_q0 (fun j _ => if_neg (by omega))
  · intro n s h
    subst h
    refine pk_le 10 10 (fun _ => ?_) (fun z => absurd z (by omega))
    rw [sd_qe (B := fun _ => 0) (fun j hj => if_pos hj)]
    exact hp
  · intro n i s hi h hw
    subst h
    refine pk_le 10 i (fun z => absurd z (by omega)) (fun _ => ⟨pk_in (10 * p + i) 130 (by omega) (sd_jx p i), nm_r ?_ (nm_r (nI_1 i) (hw _ rfl))⟩)
    rw [sd_qs p i 0 hi hm (sd_jx p i) (show (0 : Int32) = nI 0 from rfl), sd_vs, sd_vv]
    exact congrArg (fun C => sd_q (sd_v Q p C)) (sd_fill (A := fun _ => 0))
theorem sd_copyP {post : St2 → Prop} {x0 x1 : Int32} (t f : Nat) (hb : sd_bb Q) (hp : post (f0, f1, f2, a1, sd_q (sd_v Q t (Q f)), a3, a4, a5, a6, a7)) (ht : t < 13 := by omega) (hf : f < 13 := by omega) (h0 : x0 = nI t := by rfl) (h1 : x1 = nI f := by rfl) :
    wpX_copyPoly post (f0, f1, f2, a1, sd_q Q, a3, a4, a5, a6, a7) x0 x1 := by
  subst h0 h1
  refine pk_loop (fun n i s => wX_copyPoly_2 post (nI t) (nI f) f0 f1 f2 n (nI i) a1 s a3 a4 a5 a6 a7) (fun i s => s = sd_q (sd_v Q t (fun j => if j < i then Q f j else Q t j))) 10 0 (sd_q Q) (by omega) ?_ ?_ ?_
  · exact sd_q0 (fun j _ => if_neg (by omega))
  · intro n s h
    subst h
    refine pk_le 10 10 (fun _ => ?_) (fun z => absurd z (by omega))
    rw [sd_qe (B := Q f) (fun j hj => if_pos hj)]
    exact hp
  · intro n i s hi h hw
    subst h
    refine pk_le 10 i (fun z => absurd z (by omega)) (fun _ => ⟨pk_in (10 * f + i) 130 (by omega) (sd_jx f i), pk_in (10 * t + i) 130 (by omega) (sd_jx t i), nm_r ?_ (nm_r (nI_1 i) (hw _ rfl))⟩)
    have e : (sd_v Q t (fun j => if j < i then Q f j else Q t j)) f i = Q f i := by
      by_cases h : f = t
      · subst h
        rw [sd_vs]
        exact if_neg (by omega)
      · rw [sd_vn h]
    have d : vp_nar .byte (sd_q (sd_v Q t (fun j => if j < i then Q f j else Q t j)) (10 * nI f + nI i).toNatClampNeg) = nI (Q f i) := by
      rw [sd_qd f i hi hf (sd_jx f i), e, vp_nar_byte]
      exact sd_by _ (Nat.lt_of_lt_of_le (hb f i) (by decide))
    rw [sd_qs t i (Q f i) hi ht (sd_jx t i) d, sd_vs, sd_vv, sd_fill]
end
end
section
/-! ===== polynomials ===== -/
theorem sd_t3 {a b c : Nat} : sd_u (sd_u (sd_u (fun _ => 0) 0 a) 1 b) 2 c = sd_t a b c := by
  funext j
  by_cases h0 : j = 0
  · subst h0; rfl
  · by_cases h1 : j = 1
    · subst h1; rfl
    · by_cases h2 : j = 2
      · subst h2; rfl
      · simp [sd_u, sd_t, h0, h1, h2]
theorem sd_t2 {a b : Nat} : sd_u (sd_u (fun _ => 0) 0 a) 1 b = sd_t a b 0 := by
  funext j
  by_cases h0 : j = 0
  · subst h0; rfl
  · by_cases h1 : j = 1
    · subst h1; rfl
    · simp [sd_u, sd_t, h0, h1]
theorem sd_t1 {a : Nat} : sd_u (fun _ => 0) 0 a = sd_t a 0 0 := by
  funext j
  by_cases h0 : j = 0
  · subst h0; rfl
  · simp [sd_u, sd_t, h0]
theorem sd_t0 : (fun _ => 0) = sd_t 0 0 0 := by
  funext j
  simp [sd_t]
/-- ten places, one by one -/
theorem sd_10 {P : Nat → Prop} (h0 : P 0) (h1 : P 1) (h2 : P 2) (h3 : P 3) (h4 : P 4) (h5 : P 5) (h6 : P 6) (h7 : P 7) (h8 : P 8) (h9 : P 9) : ∀ j, j < 10 → P j := by
  intro j hj
  have : j = 0 ∨ j = 1 ∨ j = 2 ∨ j = 3 ∨ j = 4 ∨ j = 5 ∨ j = 6 ∨ j = 7 ∨ j = 8 ∨ j = 9 := by omega
  rcases this with rfl | rfl | rfl | rfl | rfl | rfl | rfl | rfl | rfl | rfl <;> assumption
theorem sd_d5 {a : Nat} (h : a < 2 ^ 31) : nI a / 5 = nI (a / 5) := pk_div h (by decide) (by decide)
section
variable {f0 f1 f2 : Int32} {M Q : Nat → Nat → Nat} {a1 a2 a3 a4 a5 a6 a7 : Nat → Int32}
/-! load -/
theorem sd_load1 {post : St2 → Prop} {n : Nat} {C : Nat → Nat} (p j left : Nat) (hj : j < 10) (hp : p < 13) (hl : 0 < left) (hl2 : left < 2 ^ 31)
    (h : wX_load_10 post (nI p) f0 f1 f2 n (nI (left / 5)) (nI (j + 1)) a1 (sd_q (sd_v Q p (sd_u C j (left % 5)))) a3 a4 a5 a6 a7) :
    wX_load_10 post (nI p) f0 f1 f2 (n + 1) (nI left) (nI j) a1 (sd_q (sd_v Q p C)) a3 a4 a5 a6 a7 := by
  have e : upd (sd_q (sd_v Q p C)) (10 * nI p + nI j).toNatClampNeg (nI left - nI left / 5 * 5).toInt8.toInt32 = sd_q (sd_v Q p (sd_u C j (left % 5))) := by
    rw [sd_qs p j (left % 5) hj hp (sd_jx p j) (sd_m5b left rfl hl2), sd_vs, sd_vv]
  exact pk_le left 0 (fun z => absurd z (by omega)) (fun _ => ⟨sd_50, pk_in (10 * p + j) 130 (by omega) (sd_jx p j), nm_r e ⟨sd_50, nm_r (sd_d5 hl2) (nm_r (nI_1 j) h)⟩⟩)
theorem sd_load0 {post : St2 → Prop} {n : Nat} {x1 x4 : Int32} (h : post (f0, f1, f2, a1, a2, a3, a4, a5, a6, a7)) : wX_load_10 post x1 f0 f1 f2 (n + 1) (nI 0) x4 a1 a2 a3 a4 a5 a6 a7 :=
  pk_le 0 0 (fun _ => h) (fun z => absurd z (by omega))
theorem sd_load {post : St2 → Prop} {x0 x1 : Int32} (p n : Nat) (hn : n < 125) (hp : post (f0, f1, f2, a1, sd_q (sd_v Q p (sd_t (n % 5) (n / 5 % 5) (n / 25))), a3, a4, a5, a6, a7)) (hm : p < 13 := by omega) (h0 : x0 = nI p := by rfl) (h1 : x1 = nI n := by rfl) :
    wpX_load post (f0, f1, f2, a1, sd_q Q, a3, a4, a5, a6, a7) x0 x1 := by
  subst h0 h1
  refine sd_clear p ?_
  have goal : wX_load_10 post (nI p) f0 f1 f2 4 (nI n) (nI 0) a1 (sd_q (sd_v Q p (fun _ => 0))) a3 a4 a5 a6 a7 := by
    by_cases e0 : n = 0
    · subst e0
      refine sd_load0 ?_
      rw [sd_t0]
      exact hp
    · refine sd_load1 p 0 n (by omega) hm (by omega) (by omega) ?_
      by_cases e1 : n / 5 = 0
      · rw [e1]
        refine sd_load0 ?_
        rw [sd_t1]
        rw [e1, show n / 25 = 0 by omega] at hp
        exact hp
      · refine sd_load1 p 1 (n / 5) (by omega) hm (by omega) (by omega) ?_
        by_cases e2 : n / 5 / 5 = 0
        · rw [e2]
          refine sd_load0 ?_
          rw [sd_t2]
          rw [show n / 25 = 0 by omega] at hp
          exact hp
        · refine sd_load1 p 2 (n / 5 / 5) (by omega) hm (by omega) (by omega) ?_
          rw [show n / 5 / 5 / 5 = 0 by omega]
          refine sd_load0 ?_
          rw [sd_t3]
          rw [show n / 25 = n / 5 / 5 % 5 by omega] at hp
          exact hp
  exact ⟨4, goal⟩
/-! numberOf -/
def sd_na (C : Nat → Nat) : Nat → Nat
  | 0 => 0
  | k + 1 => 5 * sd_na C k + C (9 - k)
theorem sd_na3 (a b c : Nat) : sd_na (sd_t a b c) 10 = 5 * (5 * c + b) + a := by
  simp [sd_na, sd_t]
theorem sd_naC {A B : Nat → Nat} (h : ∀ j, j < 10 → A j = B j) : ∀ k, k ≤ 10 → sd_na A k = sd_na B k := by
  intro k
  induction k with
  | zero => intro _; rfl
  | succ k ih =>
    intro hk
    show 5 * sd_na A k + A (9 - k) = 5 * sd_na B k + B (9 - k)
    rw [ih (by omega), h _ (by omega)]
theorem sd_numL {post : Int32 → Prop} (p : Nat) (hp : p < 13) (h : post (nI (sd_na (Q p) 10))) : ∀ i, i ≤ 10 → wX_numberOf_5 post (nI p) f0 f1 f2 a1 (sd_q Q) a3 a4 a5 a6 a7 (i + 1) (nI (sd_na (Q p) (10 - i))) (nI i + (-1)) := by
  intro i
  induction i with
  | zero => intro _; exact br_t (by decide) h
  | succ i ih =>
    intro hi
    rw [pk_m1]
    have e : 5 * nI (sd_na (Q p) (10 - (i + 1))) + sd_q Q (10 * nI p + nI i).toNatClampNeg = nI (sd_na (Q p) (10 - i)) := by
      rw [sd_qd p i (by omega) hp (sd_jx p i), show 10 - i = (10 - (i + 1)) + 1 by omega]
      show nI 5 * nI _ + nI _ = nI (5 * sd_na (Q p) (10 - (i + 1)) + Q p (9 - (10 - (i + 1))))
      rw [pk_mul, nI_add, show 9 - (10 - (i + 1)) = i by omega]
    exact pk_lt i 0 (fun z => absurd z (by omega)) (fun _ => ⟨pk_in (10 * p + i) 130 (by omega) (sd_jx p i), nm_r e (nm_e (ih (by omega)))⟩)
theorem sd_num {post : Int32 → Prop} {x0 : Int32} (p : Nat) (h : post (nI (sd_na (Q p) 10))) (hp : p < 13 := by omega) (h0 : x0 = nI p := by rfl) :
    wpX_numberOf post (f0, f1, f2, a1, sd_q Q, a3, a4, a5, a6, a7) x0 := by
  subst h0
  have k := sd_numL (f0 := f0) (f1 := f1) (f2 := f2) (a1 := a1) (a3 := a3) (a4 := a4) (a5 := a5) (a6 := a6) (a7 := a7) p hp h 10 (by omega)
  rw [show nI 10 + (-1) = (9 : Int32) by decide] at k
  exact ⟨11, k⟩
/-! degreeOf -/
theorem sd_degL {post : Int32 → Prop} (p d : Nat) (hp : p < 13) (hb : sd_bb Q) (hd : Q p d ≠ 0) (hz : ∀ j, d < j → j < 10 → Q p j = 0) (h : post (nI d)) : ∀ t, d + t < 10 → wX_degreeOf_3 post (nI p) f0 f1 f2 a1 (sd_q Q) a3 a4 a5 a6 a7 (t + 1) (nI (d + t)) := by
  intro t
  induction t with
  | zero =>
    intro ht
    refine pk_lt d 0 (fun z => absurd z (by omega)) (fun _ => ⟨pk_in (10 * p + d) 130 (by omega) (sd_jx p d), ?_⟩)
    rw [sd_qd p (d + 0) (by omega) hp (sd_jx p _)]
    exact pk_eq (Q p d) 0 (fun z => absurd z hd) (fun _ => h) rfl rfl (Nat.lt_of_lt_of_le (hb p d) (by decide)) (by decide)
  | succ t ih =>
    intro ht
    refine pk_lt (d + (t + 1)) 0 (fun z => absurd z (by omega)) (fun _ => ⟨pk_in (10 * p + (d + (t + 1))) 130 (by omega) (sd_jx p _), ?_⟩)
    rw [sd_qd p (d + (t + 1)) (by omega) hp (sd_jx p _)]
    exact pk_eq (Q p (d + (t + 1))) 0 (fun _ => nm_r (pk_m1 (d + t)) (ih (by omega))) (fun z => absurd (hz _ (by omega) (by omega)) z) rfl rfl (Nat.lt_of_lt_of_le (hb p _) (by decide)) (by decide)
theorem sd_deg {post : Int32 → Prop} {x0 : Int32} (p d : Nat) (hb : sd_bb Q) (hd : Q p d ≠ 0) (hz : ∀ j, d < j → j < 10 → Q p j = 0) (h : post (nI d)) (hd9 : d < 10 := by omega) (hp : p < 13 := by omega) (h0 : x0 = nI p := by rfl) :
    wpX_degreeOf post (f0, f1, f2, a1, sd_q Q, a3, a4, a5, a6, a7) x0 := by
  subst h0
  have k := sd_degL (f0 := f0) (f1 := f1) (f2 := f2) (a1 := a1) (a3 := a3) (a4 := a4) (a5 := a5) (a6 := a6) (a7 := a7) p d hp hb hd hz h (9 - d) (by omega)
  rw [show d + (9 - d) = 9 by omega] at k
  exact ⟨_, k⟩
theorem sd_degNL {post : Int32 → Prop} (p : Nat) (hp : p < 13) (hz : ∀ j, j < 10 → Q p j = 0) (h : post (-1)) : ∀ i, i ≤ 10 → wX_degreeOf_3 post (nI p) f0 f1 f2 a1 (sd_q Q) a3 a4 a5 a6 a7 (i + 1) (nI i + (-1)) := by
  intro i
  induction i with
  | zero =>
    intro _
    rw [show nI 0 + (-1) = (-1 : Int32) by decide]
    exact br_t (by decide) h
  | succ i ih =>
    intro hi
    rw [pk_m1]
    refine pk_lt i 0 (fun z => absurd z (by omega)) (fun _ => ⟨pk_in (10 * p + i) 130 (by omega) (sd_jx p i), ?_⟩)
    rw [sd_qd p i (by omega) hp (sd_jx p i), hz i (by omega)]
    exact pk_eq 0 0 (fun _ => nm_e (ih (by omega))) (fun z => absurd rfl z)
theorem sd_degN {post : Int32 → Prop} {x0 : Int32} (p : Nat) (hz : ∀ j, j < 10 → Q p j = 0) (h : post (-1)) (hp : p < 13 := by omega) (h0 : x0 = nI p := by rfl) :
    wpX_degreeOf post (f0, f1, f2, a1, sd_q Q, a3, a4, a5, a6, a7) x0 := by
  subst h0
  have k := sd_degNL (f0 := f0) (f1 := f1) (f2 := f2) (a1 := a1) (a3 := a3) (a4 := a4) (a5 := a5) (a6 := a6) (a7 := a7) p hp hz h 10 (by omega)
  rw [show nI 10 + (-1) = (9 : Int32) by decide] at k
  exact ⟨11, k⟩
theorem sd_tz {a b c j : Nat} (h : 2 < j) : sd_t a b c j = 0 := by
  unfold sd_t
  rw [if_neg (by omega), if_neg (by omega), if_neg (by omega)]
theorem sd_deg2 {post : Int32 → Prop} {x0 : Int32} (p a b : Nat) (hb : sd_bb Q) (hQ : Q p = sd_t a b 1) (h : post (nI 2)) (hp : p < 13 := by omega) (h0 : x0 = nI p := by rfl) :
    wpX_degreeOf post (f0, f1, f2, a1, sd_q Q, a3, a4, a5, a6, a7) x0 :=
  sd_deg p 2 hb (by rw [hQ]; exact Nat.one_ne_zero) (fun j hj _ => by rw [hQ]; exact sd_tz hj) h (by decide) hp h0
theorem sd_deg1 {post : Int32 → Prop} {x0 : Int32} (p a : Nat) (hb : sd_bb Q) (hQ : Q p = sd_t a 1 0) (h : post (nI 1)) (hp : p < 13 := by omega) (h0 : x0 = nI p := by rfl) :
    wpX_degreeOf post (f0, f1, f2, a1, sd_q Q, a3, a4, a5, a6, a7) x0 :=
  sd_deg p 1 hb (by rw [hQ]; exact Nat.one_ne_zero) (fun j hj _ => by
    rw [hQ]
    by_cases e : j = 2
    · subst e; rfl
    · exact sd_tz (by omega)) h (by decide) hp h0
/-- a remainder that isn't 0 -/
theorem sd_degP {post : Int32 → Prop} {x0 : Int32} (p a b : Nat) (hb : sd_bb Q) (hQ : Q p = sd_t a b 0) (hn : ¬ (a = 0 ∧ b = 0)) (h : ∀ d, d < 10 → post (nI d)) (hp : p < 13 := by omega) (h0 : x0 = nI p := by rfl) :
    wpX_degreeOf post (f0, f1, f2, a1, sd_q Q, a3, a4, a5, a6, a7) x0 := by
  have z2 : ∀ j, 1 < j → sd_t a b 0 j = 0 := fun j hj => by
    by_cases e : j = 2
    · subst e; rfl
    · exact sd_tz (by omega)
  by_cases e : b = 0
  · have ea : a ≠ 0 := fun z => hn ⟨z, e⟩
    exact sd_deg p 0 hb (by rw [hQ]; exact ea) (fun j hj _ => by
      rw [hQ]
      by_cases e1 : j = 1
      · subst e1; exact e
      · exact z2 j (by omega)) (h 0 (by decide)) (by decide) hp h0
  · exact sd_deg p 1 hb (by rw [hQ]; exact e) (fun j hj _ => by rw [hQ]; exact z2 j hj) (h 1 (by decide)) (by decide) hp h0
theorem sd_deg00 {post : Int32 → Prop} {x0 : Int32} (p : Nat) (hb : sd_bb Q) (hQ : Q p = sd_t 1 0 0) (h : post (nI 0)) (hp : p < 13 := by omega) (h0 : x0 = nI p := by rfl) :
    wpX_degreeOf post (f0, f1, f2, a1, sd_q Q, a3, a4, a5, a6, a7) x0 :=
  sd_deg p 0 hb (by rw [hQ]; exact Nat.one_ne_zero) (fun j hj _ => by
    rw [hQ]
    by_cases e : j = 1
    · subst e; rfl
    · by_cases e : j = 2
      · subst e; rfl
      · exact sd_tz (by omega)) h (by decide) hp h0
theorem sd_degZ {post : Int32 → Prop} {x0 : Int32} (p : Nat) (hQ : Q p = sd_t 0 0 0) (h : post (-1)) (hp : p < 13 := by omega) (h0 : x0 = nI p := by rfl) :
    wpX_degreeOf post (f0, f1, f2, a1, sd_q Q, a3, a4, a5, a6, a7) x0 :=
  sd_degN p (fun j _ => by rw [hQ, ← sd_t0]) h hp h0
/-! addMultiple -/
theorem sd_addCr {post : St2 → Prop} {x0 x1 x2 : Int32} (p j v : Nat) (s : Nat → Int32) (he : sd_q (sd_v Q p (sd_u (Q p) j ((Q p j + v) % 5))) = s) (hp : post (f0, f1, f2, a1, s, a3, a4, a5, a6, a7)) (hv : Q p j + v < 2 ^ 31) (hj : j < 10 := by omega) (hm : p < 13 := by omega) (h0 : x0 = nI p := by rfl) (h1 : x1 = nI j := by rfl) (h2 : x2 = nI v := by rfl) :
    wpX_addCoefficient post (f0, f1, f2, a1, sd_q Q, a3, a4, a5, a6, a7) x0 x1 x2 := by
  subst he
  exact sd_addC p j v hp hv hj hm h0 h1 h2
theorem sd_mul4 {a b : Nat} (ha : a ≤ 5) (hb : b < 5) : a * b ≤ 20 := Nat.le_trans (Nat.mul_le_mul ha (show b ≤ 4 by omega)) (by decide)
theorem sd_addM {post : St2 → Prop} {x0 x1 x2 : Int32} (t f c : Nat) (htf : f ≠ t) (hb : sd_bb Q) (hc : c ≤ 5) (hp : post (f0, f1, f2, a1, sd_q (sd_v Q t (fun j => (Q t j + c * Q f j) % 5)), a3, a4, a5, a6, a7)) (ht : t < 13 := by omega) (hf : f < 13 := by omega) (h0 : x0 = nI t := by rfl) (h1 : x1 = nI f := by rfl) (h2 : x2 = nI c := by rfl) :
    wpX_addMultiple post (f0, f1, f2, a1, sd_q Q, a3, a4, a5, a6, a7) x0 x1 x2 := by
  subst h0 h1 h2
  refine pk_loop (fun n i s => wX_addMultiple_3 post (nI t) (nI f) (nI c) n (nI i) f0 f1 f2 a1 s a3 a4 a5 a6 a7) (fun i s => s = sd_q (sd_v Q t (fun j => if j < i then (Q t j + c * Q f j) % 5 else Q t j))) 10 0 (sd_q Q) (by omega) ?_ ?_ ?_
  · exact sd_q0 (fun j _ => if_neg (by omega))
  · intro n s h
    subst h
    refine pk_le 10 10 (fun _ => ?_) (fun z => absurd z (by omega))
    rw [sd_qe (B := fun j => (Q t j + c * Q f j) % 5) (fun j hj => if_pos hj)]
    exact hp
  · intro n i s hi h hw
    subst h
    have d : sd_q (sd_v Q t (fun j => if j < i then (Q t j + c * Q f j) % 5 else Q t j)) (10 * nI f + nI i).toNatClampNeg = nI (Q f i) := by
      rw [sd_qd f i hi hf (sd_jx f i), sd_vn htf]
    have g : sd_v Q t (fun j => if j < i then (Q t j + c * Q f j) % 5 else Q t j) t i = Q t i := by
      rw [sd_vs]
      exact if_neg (by omega)
    have k1 := hb t i
    have k2 := sd_mul4 hc (hb f i)
    refine pk_le 10 i (fun z => absurd z (by omega)) (fun _ => ⟨pk_in (10 * f + i) 130 (by omega) (sd_jx f i), ?_⟩)
    refine sd_addCr t i (c * Q f i) _ ?_ (nm_r (nI_1 i) (hw _ rfl)) (by rw [g]; omega) hi ht rfl rfl (by rw [d, pk_mul])
    rw [g, sd_vs, sd_vv]
    exact congrArg (fun C => sd_q (sd_v Q t C)) (sd_fill (A := fun j => (Q t j + c * Q f j) % 5))
/-! multiplyPoly(0, 0, 1) -/
def sd_mS (A B : Nat → Nat) : Nat → Nat → Nat
  | 0 => fun _ => 0
  | i + 1 => fun k => if i ≤ k then (sd_mS A B i k + A i * B (k - i)) % 5 else sd_mS A B i k
theorem sd_mSb (A B : Nat → Nat) : ∀ i, sd_b (sd_mS A B i) := by
  intro i
  induction i with
  | zero => exact sd_b0
  | succ i ih =>
    intro k
    show (if i ≤ k then (sd_mS A B i k + A i * B (k - i)) % 5 else sd_mS A B i k) < 5
    split
    · exact Nat.mod_lt _ (by decide)
    · exact ih k
theorem sd_mSz {A B : Nat → Nat} {i : Nat} (h : A i = 0) : sd_mS A B (i + 1) = sd_mS A B i := by
  funext k
  show (if i ≤ k then (sd_mS A B i k + A i * B (k - i)) % 5 else sd_mS A B i k) = _
  rw [h, Nat.zero_mul, Nat.add_zero, Nat.mod_eq_of_lt (sd_mSb A B i k), ite_self]
theorem sd_mS3 (x0 x1 b0 b1 b2 : Nat) (h : x1 * b2 = 0) : ∀ k, k < 10 → sd_mS (sd_t x0 x1 0) (sd_t b0 b1 b2) 10 k = sd_t (x0 * b0 % 5) ((x0 * b1 % 5 + x1 * b0) % 5) ((x0 * b2 % 5 + x1 * b1) % 5) k := by
  have e : sd_mS (sd_t x0 x1 0) (sd_t b0 b1 b2) 10 = sd_mS (sd_t x0 x1 0) (sd_t b0 b1 b2) 2 := by
    rw [sd_mSz (i := 9) rfl, sd_mSz (i := 8) rfl, sd_mSz (i := 7) rfl, sd_mSz (i := 6) rfl, sd_mSz (i := 5) rfl, sd_mSz (i := 4) rfl, sd_mSz (i := 3) rfl, sd_mSz (i := 2) rfl]
  rw [e]
  refine sd_10 ?_ ?_ ?_ ?_ ?_ ?_ ?_ ?_ ?_ ?_ <;> simp [sd_mS, sd_t, h]
theorem sd_mpI {post : St2 → Prop} {J9 : Int32 → Int32 → Int32 → Int32 → (Nat → Int32) → (Nat → Int32) → (Nat → Int32) → (Nat → Int32) → (Nat → Int32) → (Nat → Int32) → (Nat → Int32) → Prop} (i : Nat) (S : Nat → Nat) (hi : i < 10) (hS : sd_b S) (hb : sd_bb Q)
    (h : J9 (nI (i + 1)) f0 f1 f2 a1 (sd_q (sd_v Q 7 (fun k => if i ≤ k then (S k + Q 0 i * Q 1 (k - i)) % 5 else S k))) a3 a4 a5 a6 a7) :
    ∃ n, wX_multiplyPoly_19 post J9 0 0 1 (nI i) n 0 f0 f1 f2 a1 (sd_q (sd_v Q 7 S)) a3 a4 a5 a6 a7 := by
  refine pk_loop (fun n j s => wX_multiplyPoly_19 post J9 0 0 1 (nI i) n (nI j) f0 f1 f2 a1 s a3 a4 a5 a6 a7) (fun j s => s = sd_q (sd_v Q 7 (fun k => if i ≤ k ∧ k < i + j then (S k + Q 0 i * Q 1 (k - i)) % 5 else S k))) (10 - i) 0 (sd_q (sd_v Q 7 S)) (by omega) ?_ ?_ ?_
  · exact sd_qe (fun k _ => (if_neg (by omega)).symm)
  · intro n s h'
    subst h'
    refine pk_le 10 10 (fun _ => nm_r (nI_1 i) ?_) (fun z => absurd z (by omega)) rfl (by rw [nI_add, show i + (10 - i) = 10 by omega])
    rw [sd_qe (B := fun k => if i ≤ k then (S k + Q 0 i * Q 1 (k - i)) % 5 else S k) (fun k hk => by
      by_cases e : i ≤ k
      · rw [if_pos e, if_pos ⟨e, by omega⟩]
      · rw [if_neg e, if_neg (fun z => e z.1)])]
    exact h
  · intro n j s hj h' hw
    subst h'
    have d0 : sd_q (sd_v Q 7 (fun k => if i ≤ k ∧ k < i + j then (S k + Q 0 i * Q 1 (k - i)) % 5 else S k)) (10 * 0 + nI i).toNatClampNeg = nI (Q 0 i) :=
      (sd_qd 0 i hi (by decide) (sd_jx 0 i)).trans (by rw [sd_vn (by decide)])
    have d1 : sd_q (sd_v Q 7 (fun k => if i ≤ k ∧ k < i + j then (S k + Q 0 i * Q 1 (k - i)) % 5 else S k)) (10 * 1 + nI j).toNatClampNeg = nI (Q 1 j) :=
      (sd_qd 1 j (by omega) (by decide) (sd_jx 1 j)).trans (by rw [sd_vn (by decide)])
    have g : sd_v Q 7 (fun k => if i ≤ k ∧ k < i + j then (S k + Q 0 i * Q 1 (k - i)) % 5 else S k) 7 (i + j) = S (i + j) := by
      rw [sd_vs]
      exact if_neg (by omega)
    have k1 := hS (i + j)
    have k2 := sd_mul4 (Nat.le_of_lt (hb 0 i)) (hb 1 j)
    refine pk_le 10 (i + j) (fun z => absurd z (by omega)) (fun _ => ⟨pk_in (10 * 0 + i) 130 (by omega) (sd_jx 0 i), pk_in (10 * 1 + j) 130 (by omega) (sd_jx 1 j), ?_⟩) rfl (nI_add i j)
    refine sd_addCr 7 (i + j) (Q 0 i * Q 1 j) _ ?_ (nm_r (nI_1 j) (hw _ rfl)) (by rw [g]; omega) (by omega) (by decide) rfl (nI_add i j) (by rw [d0, d1, pk_mul])
    rw [g, sd_vs, sd_vv]
    refine sd_qe (fun k _ => ?_)
    by_cases e : k = i + j
    · subst e
      rw [sd_us, if_pos ⟨by omega, by omega⟩, show i + j - i = j by omega]
    · rw [sd_un e]
      by_cases e2 : i ≤ k ∧ k < i + j
      · rw [if_pos e2, if_pos ⟨e2.1, by omega⟩]
      · rw [if_neg e2, if_neg (by omega)]
theorem sd_mulP {post : St2 → Prop} (hb : sd_bb Q) (h : post (f0, f1, f2, a1, sd_q (sd_v (sd_v Q 7 (sd_mS (Q 0) (Q 1) 10)) 0 (sd_mS (Q 0) (Q 1) 10)), a3, a4, a5, a6, a7)) :
    wpX_multiplyPoly post (f0, f1, f2, a1, sd_q Q, a3, a4, a5, a6, a7) 0 0 1 := by
  refine sd_clear 7 ?_
  refine pk_loop (fun n i s => wX_multiplyPoly_9 post 0 0 1 n (nI i) f0 f1 f2 a1 s a3 a4 a5 a6 a7) (fun i s => s = sd_q (sd_v Q 7 (sd_mS (Q 0) (Q 1) i))) 10 0 (sd_q (sd_v Q 7 (fun _ => 0))) (by omega) rfl ?_ ?_
  · intro n s h'
    subst h'
    refine pk_le 10 10 (fun _ => sd_copyP 0 7 (sd_bv hb (sd_mSb _ _ _)) ?_) (fun z => absurd z (by omega))
    rw [sd_vs]
    exact h
  · intro n i s hi h' hw
    subst h'
    exact pk_le 10 i (fun z => absurd z (by omega)) (fun _ => sd_mpI i _ hi (sd_mSb _ _ _) hb (hw _ rfl))
/-! dividePoly(0, 1) -/
theorem sd_dvI {post : St2 → Prop} {J26 : Int32 → Int32 → Int32 → Int32 → (Nat → Int32) → (Nat → Int32) → (Nat → Int32) → (Nat → Int32) → (Nat → Int32) → (Nat → Int32) → (Nat → Int32) → Prop} (i dg q : Nat) (R : Nat → Nat) (hdg : i + dg < 10) (hq : q < 5) (hR : sd_b R) (hb : sd_bb Q)
    (h : J26 (nI i + (-1)) f0 f1 f2 a1 (sd_q (sd_v Q 3 (fun k => if i ≤ k ∧ k < i + (dg + 1) then (R k + (5 - q) * Q 1 (k - i)) % 5 else R k))) a3 a4 a5 a6 a7) :
    ∃ n, wX_dividePoly_61 post J26 1 (nI dg) (nI i) (nI q) n 0 f0 f1 f2 a1 (sd_q (sd_v Q 3 R)) a3 a4 a5 a6 a7 := by
  refine pk_loop (fun n j s => wX_dividePoly_61 post J26 1 (nI dg) (nI i) (nI q) n (nI j) f0 f1 f2 a1 s a3 a4 a5 a6 a7) (fun j s => s = sd_q (sd_v Q 3 (fun k => if i ≤ k ∧ k < i + j then (R k + (5 - q) * Q 1 (k - i)) % 5 else R k))) (dg + 1) 0 (sd_q (sd_v Q 3 R)) (by omega) ?_ ?_ ?_
  · exact sd_qe (fun k _ => (if_neg (by omega)).symm)
  · intro n s h'
    subst h'
    exact pk_lt dg (dg + 1) (fun _ => nm_e h) (fun z => absurd z (by omega))
  · intro n j s hj h' hw
    subst h'
    have d1 : sd_q (sd_v Q 3 (fun k => if i ≤ k ∧ k < i + j then (R k + (5 - q) * Q 1 (k - i)) % 5 else R k)) (10 * 1 + nI j).toNatClampNeg = nI (Q 1 j) :=
      (sd_qd 1 j (by omega) (by decide) (sd_jx 1 j)).trans (by rw [sd_vn (by decide)])
    have d5 : (5 : Int32) - nI q = nI (5 - q) := pk_sub (a := 5) (by omega)
    have g : sd_v Q 3 (fun k => if i ≤ k ∧ k < i + j then (R k + (5 - q) * Q 1 (k - i)) % 5 else R k) 3 (i + j) = R (i + j) := by
      rw [sd_vs]
      exact if_neg (by omega)
    have k1 := hR (i + j)
    have k2 := sd_mul4 (show 5 - q ≤ 5 by omega) (hb 1 j)
    refine pk_lt dg j (fun z => absurd z (by omega)) (fun _ => ⟨pk_in (10 * 1 + j) 130 (by omega) (sd_jx 1 j), ?_⟩)
    refine sd_addCr 3 (i + j) ((5 - q) * Q 1 j) _ ?_ (nm_r (nI_1 j) (hw _ rfl)) (by rw [g]; omega) (by omega) (by decide) rfl (nI_add i j) (by rw [d1, d5, pk_mul])
    rw [g, sd_vs, sd_vv]
    refine sd_qe (fun k _ => ?_)
    by_cases e : k = i + j
    · subst e
      rw [sd_us, if_pos ⟨by omega, by omega⟩, show i + j - i = j by omega]
    · rw [sd_un e]
      by_cases e2 : i ≤ k ∧ k < i + j
      · rw [if_pos e2, if_pos ⟨e2.1, by omega⟩]
      · rw [if_neg e2, if_neg (by omega)]
theorem sd_dvS {post : St2 → Prop} {n : Nat} (i dg : Nat) (T R : Nat → Nat) (hdg : i + dg < 10) (hT : sd_b T) (hR : sd_b R) (hb : sd_bb Q)
    (h : wX_dividePoly_26 post 1 (nI dg) n (nI i + (-1)) f0 f1 f2 a1 (sd_q (sd_v (sd_v Q 2 (sd_u T i (R (i + dg)))) 3 (fun k => if i ≤ k ∧ k < i + (dg + 1) then (R k + (5 - R (i + dg)) * Q 1 (k - i)) % 5 else R k))) a3 a4 a5 a6 a7) :
    wX_dividePoly_26 post 1 (nI dg) (n + 1) (nI i) f0 f1 f2 a1 (sd_q (sd_v (sd_v Q 2 T) 3 R)) a3 a4 a5 a6 a7 := by
  have x1 : (30 + nI i) + nI dg = nI (10 * 3 + (i + dg)) := by
    show (nI 30 + nI i) + nI dg = _
    rw [nI_add, nI_add, Nat.add_assoc]
  have x2 : 20 + nI i = nI (10 * 2 + i) := nI_add 20 i
  have d : sd_q (sd_v (sd_v Q 2 T) 3 R) ((30 + nI i) + nI dg).toNatClampNeg = nI (R (i + dg)) := by
    rw [sd_qd 3 (i + dg) hdg (by decide) x1, sd_vs]
  have e : upd (sd_q (sd_v (sd_v Q 2 T) 3 R)) (20 + nI i).toNatClampNeg (nI (R (i + dg))).toInt8.toInt32 = sd_q (sd_v (sd_v Q 2 (sd_u T i (R (i + dg)))) 3 R) := by
    rw [sd_qs 2 i (R (i + dg)) (by omega) (by decide) x2 (sd_by _ (Nat.lt_of_lt_of_le (hR _) (by decide))), sd_vn (by decide), sd_vs, sd_vc (by decide), sd_vv]
  refine pk_lt i 0 (fun z => absurd z (by omega)) (fun _ => ⟨pk_in (10 * 3 + (i + dg)) 130 (by omega) x1, nm_r d ⟨pk_in (10 * 2 + i) 130 (by omega) x2, nm_r e ?_⟩⟩)
  refine sd_dvI i dg (R (i + dg)) R hdg (hR _) hR (sd_bv hb (sd_bu hT (hR _))) ?_
  rw [sd_vn (by decide)]
  exact h
theorem sd_qz {T T' R R' : Nat → Nat} (hT : ∀ j, j < 10 → T j = T' j) (hR : ∀ j, j < 10 → R j = R' j) : sd_q (sd_v (sd_v Q 2 T) 3 R) = sd_q (sd_v (sd_v Q 2 T') 3 R') := by
  rw [sd_qe hR, sd_vc (by decide), sd_qe hT, sd_vc (by decide)]
theorem sd_dvE {post : St2 → Prop} {n : Nat} {x2 x3 : Int32} (h : post (f0, f1, f2, a1, a2, a3, a4, a5, a6, a7)) : wX_dividePoly_26 post x2 x3 (n + 1) (nI 0 + (-1)) f0 f1 f2 a1 a2 a3 a4 a5 a6 a7 :=
  br_t (by decide) h
theorem sd_div21 {post : St2 → Prop} (c0 c1 k : Nat) (hb : sd_bb Q) (h0 : Q 0 = sd_t c0 c1 1) (h1 : Q 1 = sd_t k 1 0)
    (h : post (f0, f1, f2, a1, sd_q (sd_v (sd_v Q 2 (sd_t ((c1 + 4 * k) % 5) 1 0)) 3 (sd_t ((c0 + (5 - (c1 + 4 * k) % 5) * k) % 5) 0 0)), a3, a4, a5, a6, a7)) :
    wpX_dividePoly post (f0, f1, f2, a1, sd_q Q, a3, a4, a5, a6, a7) 0 1 := by
  have hc : sd_b (sd_t c0 c1 1) := h0 ▸ hb 0
  refine sd_copyP 3 0 hb (sd_clear 2 ?_)
  rw [sd_vc (by decide), h0]
  have hb2 : sd_bb (sd_v (sd_v Q 2 (fun _ => 0)) 3 (sd_t c0 c1 1)) := sd_bv (sd_bv hb sd_b0) hc
  refine sd_deg1 1 k hb2 (by rw [sd_vn (by decide), sd_vn (by decide), h1]) ?_
  refine sd_deg2 3 c0 c1 hb2 (by rw [sd_vs]) (nm_r (e' := nI 1) (by decide) ⟨3, ?_⟩)
  refine sd_dvS 1 1 _ _ (by decide) sd_b0 hc hb ?_
  rw [pk_m1]
  refine sd_dvS 0 1 _ _ (by decide) (sd_bu sd_b0 (hc _)) (fun j => ?_) hb (sd_dvE ?_)
  · split
    · exact Nat.mod_lt _ (by decide)
    · exact hc j
  · rw [sd_qz (T' := sd_t ((c1 + 4 * k) % 5) 1 0) (R' := sd_t ((c0 + (5 - (c1 + 4 * k) % 5) * k) % 5) 0 0)]
    · exact h
    · refine sd_10 ?_ ?_ ?_ ?_ ?_ ?_ ?_ ?_ ?_ ?_ <;> simp [sd_u, sd_t, h1]
    · have m5 : (c1 + 4 * k) % 5 < 5 := Nat.mod_lt _ (by decide)
      refine sd_10 ?_ ?_ ?_ ?_ ?_ ?_ ?_ ?_ ?_ ?_ <;> simp [sd_t, h1] <;> omega
theorem sd_div11 {post : St2 → Prop} (c0 k : Nat) (hb : sd_bb Q) (h0 : Q 0 = sd_t c0 1 0) (h1 : Q 1 = sd_t k 1 0)
    (h : post (f0, f1, f2, a1, sd_q (sd_v (sd_v Q 2 (sd_t 1 0 0)) 3 (sd_t ((c0 + 4 * k) % 5) 0 0)), a3, a4, a5, a6, a7)) :
    wpX_dividePoly post (f0, f1, f2, a1, sd_q Q, a3, a4, a5, a6, a7) 0 1 := by
  have hc : sd_b (sd_t c0 1 0) := h0 ▸ hb 0
  refine sd_copyP 3 0 hb (sd_clear 2 ?_)
  rw [sd_vc (by decide), h0]
  have hb2 : sd_bb (sd_v (sd_v Q 2 (fun _ => 0)) 3 (sd_t c0 1 0)) := sd_bv (sd_bv hb sd_b0) hc
  refine sd_deg1 1 k hb2 (by rw [sd_vn (by decide), sd_vn (by decide), h1]) ?_
  refine sd_deg1 3 c0 hb2 (by rw [sd_vs]) (nm_r (e' := nI 0) (by decide) ⟨2, ?_⟩)
  refine sd_dvS 0 1 _ _ (by decide) sd_b0 hc hb (sd_dvE ?_)
  rw [sd_qz (T' := sd_t 1 0 0) (R' := sd_t ((c0 + 4 * k) % 5) 0 0)]
  · exact h
  · refine sd_10 ?_ ?_ ?_ ?_ ?_ ?_ ?_ ?_ ?_ ?_ <;> simp [sd_u, sd_t]
  · refine sd_10 ?_ ?_ ?_ ?_ ?_ ?_ ?_ ?_ ?_ ?_ <;> simp [sd_t, h1]
theorem sd_div22 {post : St2 → Prop} (c0 c1 g0 g1 : Nat) (hb : sd_bb Q) (h0 : Q 0 = sd_t c0 c1 1) (h1 : Q 1 = sd_t g0 g1 1)
    (h : post (f0, f1, f2, a1, sd_q (sd_v (sd_v Q 2 (sd_t 1 0 0)) 3 (sd_t ((c0 + 4 * g0) % 5) ((c1 + 4 * g1) % 5) 0)), a3, a4, a5, a6, a7)) :
    wpX_dividePoly post (f0, f1, f2, a1, sd_q Q, a3, a4, a5, a6, a7) 0 1 := by
  have hc : sd_b (sd_t c0 c1 1) := h0 ▸ hb 0
  refine sd_copyP 3 0 hb (sd_clear 2 ?_)
  rw [sd_vc (by decide), h0]
  have hb2 : sd_bb (sd_v (sd_v Q 2 (fun _ => 0)) 3 (sd_t c0 c1 1)) := sd_bv (sd_bv hb sd_b0) hc
  refine sd_deg2 1 g0 g1 hb2 (by rw [sd_vn (by decide), sd_vn (by decide), h1]) ?_
  refine sd_deg2 3 c0 c1 hb2 (by rw [sd_vs]) (nm_r (e' := nI 0) (by decide) ⟨2, ?_⟩)
  refine sd_dvS 0 2 _ _ (by decide) sd_b0 hc hb (sd_dvE ?_)
  rw [sd_qz (T' := sd_t 1 0 0) (R' := sd_t ((c0 + 4 * g0) % 5) ((c1 + 4 * g1) % 5) 0)]
  · exact h
  · refine sd_10 ?_ ?_ ?_ ?_ ?_ ?_ ?_ ?_ ?_ ?_ <;> simp [sd_u, sd_t]
  · refine sd_10 ?_ ?_ ?_ ?_ ?_ ?_ ?_ ?_ ?_ ?_ <;> simp [sd_t, h1]
end
end
section
/-! ===== matrices, n = 2 ===== -/
theorem sd_lt128 {a : Nat} (h : a < 5) : a < 128 := by omega
theorem sd_md (a : Nat) : a % 5 < 5 := Nat.mod_lt _ (by decide)
def sd_at (K : Nat → Nat) : Nat × Nat × Nat × Nat := (K 0, K 1, K 4, K 5)
def sd_mm (X Y : Nat × Nat × Nat × Nat) : Nat × Nat × Nat × Nat :=
  ((X.1 * Y.1 + X.2.1 * Y.2.2.1) % 5, (X.1 * Y.2.1 + X.2.1 * Y.2.2.2) % 5, (X.2.2.1 * Y.1 + X.2.2.2 * Y.2.2.1) % 5, (X.2.2.1 * Y.2.1 + X.2.2.2 * Y.2.2.2) % 5)
def sd_ad (X : Nat × Nat × Nat × Nat) (c : Nat) : Nat × Nat × Nat × Nat := ((X.1 + c) % 5, X.2.1, X.2.2.1, (X.2.2.2 + c) % 5)
def sd_iv (v : Nat) : Nat := v * v % 5 * v % 5
def sd_xr (A : Nat → Nat) (i k : Nat) : Nat → Nat := sd_u (sd_u (sd_u (sd_u A (4 * i + 0) (A (4 * k + 0))) (4 * k + 0) (A (4 * i + 0))) (4 * i + 1) (A (4 * k + 1))) (4 * k + 1) (A (4 * i + 1))
def sd_sc (A : Nat → Nat) (i v : Nat) : Nat → Nat := sd_u (sd_u A (4 * i + 0) (A (4 * i + 0) * v % 5)) (4 * i + 1) (A (4 * i + 1) * v % 5)
def sd_sb (A : Nat → Nat) (i w f : Nat) : Nat → Nat := sd_u (sd_u A (4 * i + 0) ((A (4 * i + 0) + (5 - f) * A (4 * w + 0)) % 5)) (4 * i + 1) ((A (4 * i + 1) + (5 - f) * A (4 * w + 1)) % 5)
def sd_st (A : Nat → Nat) (w c i : Nat) : Nat → Nat := if i = w then A else if A (4 * i + c) = 0 then A else sd_sb A i w (A (4 * i + c))
def sd_pv (A : Nat → Nat) (w c r : Nat) : Nat → Nat := sd_st (sd_st (sd_sc (sd_xr A r w) w (sd_iv (sd_xr A r w (4 * w + c)))) w c 0) w c 1
theorem sd_xrb {A : Nat → Nat} {i k : Nat} (h : sd_b A) : sd_b (sd_xr A i k) := sd_bu (sd_bu (sd_bu (sd_bu h (h _)) (h _)) (h _)) (h _)
theorem sd_scb {A : Nat → Nat} {i v : Nat} (h : sd_b A) : sd_b (sd_sc A i v) := sd_bu (sd_bu h (sd_md _)) (sd_md _)
theorem sd_sbb {A : Nat → Nat} {i w f : Nat} (h : sd_b A) : sd_b (sd_sb A i w f) := sd_bu (sd_bu h (sd_md _)) (sd_md _)
theorem sd_stb {A : Nat → Nat} {w c i : Nat} (h : sd_b A) : sd_b (sd_st A w c i) := by
  unfold sd_st
  split
  · exact h
  · split
    · exact h
    · exact sd_sbb h
theorem sd_pvb {A : Nat → Nat} {w c r : Nat} (h : sd_b A) : sd_b (sd_pv A w c r) := sd_stb (sd_stb (sd_scb (sd_xrb h)))
section
variable {f0 f1 f2 : Int32} {M Q : Nat → Nat → Nat} {a1 a2 a3 a4 a5 a6 a7 : Nat → Int32}
theorem sd_setEr {post : St2 → Prop} {x0 x1 x2 x3 : Int32} (m i k j v : Nat) (s : Nat → Int32) (he : sd_e (sd_v M m (sd_u (M m) j v)) = s) (hp : post (f0, f1, f2, s, a2, a3, a4, a5, a6, a7)) (hv : v < 128) (hj : 4 * i + k = j := by rfl) (hm : m < 9 := by omega) (hk : j < 16 := by omega) (h0 : x0 = nI m := by rfl) (h1 : x1 = nI i := by rfl) (h2 : x2 = nI k := by rfl) (h3 : x3 = nI v := by rfl) :
    wpX_setEntry post (f0, f1, f2, sd_e M, a2, a3, a4, a5, a6, a7) x0 x1 x2 x3 := by
  subst he
  exact sd_setE m i k j v hp hv hj hm hk h0 h1 h2 h3
/-- an entry of a place whose content is known -/
theorem sd_entryP {post : Int32 → Prop} {x0 x1 x2 : Int32} (m i k j : Nat) (A : Nat → Nat) (hA : M m = A) (hp : post (nI (A j))) (hj : 4 * i + k = j := by rfl) (hm : m < 9 := by omega) (hk : j < 16 := by omega) (h0 : x0 = nI m := by rfl) (h1 : x1 = nI i := by rfl) (h2 : x2 = nI k := by rfl) :
    wpX_entry post (f0, f1, f2, sd_e M, a2, a3, a4, a5, a6, a7) x0 x1 x2 := by
  subst hA
  exact sd_entry m i k j hp hj hm hk h0 h1 h2
/-! exchangeRows -/
theorem sd_xr1 {post : St2 → Prop} {n : Nat} (m i k c : Nat) (A : Nat → Nat) (hm : m < 9) (hi : i < 2) (hk : k < 2) (hc : c < 2) (hA : sd_b A)
    (h : wX_exchangeRows_3 post (nI m) (nI i) (nI k) n (nI (c + 1)) (nI 2) f1 f2 (sd_e (sd_v M m (sd_u (sd_u A (4 * i + c) (A (4 * k + c))) (4 * k + c) (A (4 * i + c))))) a2 a3 a4 a5 a6 a7) :
    wX_exchangeRows_3 post (nI m) (nI i) (nI k) (n + 1) (nI c) (nI 2) f1 f2 (sd_e (sd_v M m A)) a2 a3 a4 a5 a6 a7 := by
  refine pk_le 2 c (fun z => absurd z (by omega)) (fun _ => ?_)
  refine sd_entryP m i c (4 * i + c) A sd_vs ?_
  refine sd_entryP m k c (4 * k + c) A sd_vs ?_
  refine sd_setEr m i c (4 * i + c) (A (4 * k + c)) (sd_e (sd_v M m (sd_u A (4 * i + c) (A (4 * k + c))))) (by rw [sd_vs, sd_vv]) ?_ (sd_lt128 (hA _))
  refine sd_setEr m k c (4 * k + c) (A (4 * i + c)) (sd_e (sd_v M m (sd_u (sd_u A (4 * i + c) (A (4 * k + c))) (4 * k + c) (A (4 * i + c))))) (by rw [sd_vs, sd_vv]) ?_ (sd_lt128 (hA _))
  exact nm_r (nI_1 c) h
theorem sd_exch {post : St2 → Prop} {x0 x1 x2 : Int32} (m i k : Nat) (s : Nat → Int32) (A : Nat → Nat) (hM : M m = A) (hA : sd_b A) (he : sd_e (sd_v M m (sd_xr A i k)) = s) (h : post (nI 2, f1, f2, s, a2, a3, a4, a5, a6, a7)) (hm : m < 9 := by omega) (hi : i < 2 := by omega) (hk : k < 2 := by omega) (h0 : x0 = nI m := by rfl) (h1 : x1 = nI i := by rfl) (h2 : x2 = nI k := by rfl) :
    wpX_exchangeRows post (nI 2, f1, f2, sd_e M, a2, a3, a4, a5, a6, a7) x0 x1 x2 := by
  subst h0 h1 h2 he hM
  have goal : wX_exchangeRows_3 post (nI m) (nI i) (nI k) (0 + 1 + 1 + 1) (nI 0) (nI 2) f1 f2 (sd_e (sd_v M m (M m))) a2 a3 a4 a5 a6 a7 := by
    refine sd_xr1 m i k 0 _ hm hi hk (by decide) hA ?_
    refine sd_xr1 m i k 1 _ hm hi hk (by decide) (sd_bu (sd_bu hA (hA _)) (hA _)) ?_
    rw [sd_un (show 4 * k + 1 ≠ 4 * k + 0 by omega), sd_un (show 4 * k + 1 ≠ 4 * i + 0 by omega), sd_un (show 4 * i + 1 ≠ 4 * k + 0 by omega), sd_un (show 4 * i + 1 ≠ 4 * i + 0 by omega)]
    exact pk_le 2 2 (fun _ => h) (fun z => absurd z (by omega))
  rw [← sd_e0 (M := M) (p := m) (C := M m) (fun _ _ => rfl)] at goal
  exact ⟨0 + 1 + 1 + 1, goal⟩
/-! scaleRow -/
theorem sd_sc1 {post : St2 → Prop} {n : Nat} (m i v c : Nat) (A : Nat → Nat) (hm : m < 9) (hi : i < 2) (hv : v < 5) (hc : c < 2) (hA : sd_b A)
    (h : wX_scaleRow_3 post (nI m) (nI i) (nI v) n (nI (c + 1)) (nI 2) f1 f2 (sd_e (sd_v M m (sd_u A (4 * i + c) (A (4 * i + c) * v % 5)))) a2 a3 a4 a5 a6 a7) :
    wX_scaleRow_3 post (nI m) (nI i) (nI v) (n + 1) (nI c) (nI 2) f1 f2 (sd_e (sd_v M m A)) a2 a3 a4 a5 a6 a7 := by
  have k1 := sd_mul4 (Nat.le_of_lt (hA (4 * i + c))) hv
  refine pk_le 2 c (fun z => absurd z (by omega)) (fun _ => ?_)
  refine sd_entryP m i c (4 * i + c) A sd_vs ?_
  refine nm_r (pk_mul _ _) ⟨sd_50, ?_⟩
  refine sd_setEr m i c (4 * i + c) (A (4 * i + c) * v % 5) (sd_e (sd_v M m (sd_u A (4 * i + c) (A (4 * i + c) * v % 5)))) (by rw [sd_vs, sd_vv]) ?_ (sd_lt128 (sd_md _)) rfl hm (by omega) rfl rfl rfl (sd_m5 _ rfl (by omega))
  exact nm_r (nI_1 c) h
theorem sd_scal {post : St2 → Prop} {x0 x1 x2 : Int32} (m i v : Nat) (s : Nat → Int32) (A : Nat → Nat) (hM : M m = A) (hA : sd_b A) (he : sd_e (sd_v M m (sd_sc A i v)) = s) (h : post (nI 2, f1, f2, s, a2, a3, a4, a5, a6, a7)) (hv : v < 5) (hm : m < 9 := by omega) (hi : i < 2 := by omega) (h0 : x0 = nI m := by rfl) (h1 : x1 = nI i := by rfl) (h2 : x2 = nI v := by rfl) :
    wpX_scaleRow post (nI 2, f1, f2, sd_e M, a2, a3, a4, a5, a6, a7) x0 x1 x2 := by
  subst h0 h1 h2 he hM
  have goal : wX_scaleRow_3 post (nI m) (nI i) (nI v) (0 + 1 + 1 + 1) (nI 0) (nI 2) f1 f2 (sd_e (sd_v M m (M m))) a2 a3 a4 a5 a6 a7 := by
    refine sd_sc1 m i v 0 _ hm hi hv (by decide) hA ?_
    refine sd_sc1 m i v 1 _ hm hi hv (by decide) (sd_bu hA (sd_md _)) ?_
    rw [sd_un (show 4 * i + 1 ≠ 4 * i + 0 by omega)]
    exact pk_le 2 2 (fun _ => h) (fun z => absurd z (by omega))
  rw [← sd_e0 (M := M) (p := m) (C := M m) (fun _ _ => rfl)] at goal
  exact ⟨0 + 1 + 1 + 1, goal⟩
/-! subtractRow -/
theorem sd_sb1 {post : St2 → Prop} {n : Nat} (m i w f c : Nat) (A : Nat → Nat) (hm : m < 9) (hi : i < 2) (hw : w < 2) (hf : f < 5) (hc : c < 2) (hA : sd_b A)
    (h : wX_subtractRow_3 post (nI m) (nI i) (nI w) (nI f) n (nI (c + 1)) (nI 2) f1 f2 (sd_e (sd_v M m (sd_u A (4 * i + c) ((A (4 * i + c) + (5 - f) * A (4 * w + c)) % 5)))) a2 a3 a4 a5 a6 a7) :
    wX_subtractRow_3 post (nI m) (nI i) (nI w) (nI f) (n + 1) (nI c) (nI 2) f1 f2 (sd_e (sd_v M m A)) a2 a3 a4 a5 a6 a7 := by
  have k1 := sd_mul4 (show 5 - f ≤ 5 by omega) (hA (4 * w + c))
  have k2 := hA (4 * i + c)
  have d5 : (5 : Int32) - nI f = nI (5 - f) := pk_sub (a := 5) (by omega)
  refine pk_le 2 c (fun z => absurd z (by omega)) (fun _ => ?_)
  refine sd_entryP m i c (4 * i + c) A sd_vs ?_
  refine sd_entryP m w c (4 * w + c) A sd_vs ?_
  refine nm_r (e' := nI (A (4 * i + c) + (5 - f) * A (4 * w + c))) (by rw [d5, pk_mul, nI_add]) ⟨sd_50, ?_⟩
  refine sd_setEr m i c (4 * i + c) ((A (4 * i + c) + (5 - f) * A (4 * w + c)) % 5) (sd_e (sd_v M m (sd_u A (4 * i + c) ((A (4 * i + c) + (5 - f) * A (4 * w + c)) % 5)))) (by rw [sd_vs, sd_vv]) ?_ (sd_lt128 (sd_md _)) rfl hm (by omega) rfl rfl rfl (sd_m5 _ rfl (by omega))
  exact nm_r (nI_1 c) h
theorem sd_subr {post : St2 → Prop} {x0 x1 x2 x3 : Int32} (m i w f : Nat) (s : Nat → Int32) (A : Nat → Nat) (hM : M m = A) (hA : sd_b A) (he : sd_e (sd_v M m (sd_sb A i w f)) = s) (h : post (nI 2, f1, f2, s, a2, a3, a4, a5, a6, a7)) (hf : f < 5) (hm : m < 9 := by omega) (hi : i < 2 := by omega) (hw : w < 2 := by omega) (h0 : x0 = nI m := by rfl) (h1 : x1 = nI i := by rfl) (h2 : x2 = nI w := by rfl) (h3 : x3 = nI f := by rfl) :
    wpX_subtractRow post (nI 2, f1, f2, sd_e M, a2, a3, a4, a5, a6, a7) x0 x1 x2 x3 := by
  subst h0 h1 h2 h3 he hM
  have goal : wX_subtractRow_3 post (nI m) (nI i) (nI w) (nI f) (0 + 1 + 1 + 1) (nI 0) (nI 2) f1 f2 (sd_e (sd_v M m (M m))) a2 a3 a4 a5 a6 a7 := by
    refine sd_sb1 m i w f 0 _ hm hi hw hf (by decide) hA ?_
    refine sd_sb1 m i w f 1 _ hm hi hw hf (by decide) (sd_bu hA (sd_md _)) ?_
    rw [sd_un (show 4 * i + 1 ≠ 4 * i + 0 by omega), sd_un (show 4 * w + 1 ≠ 4 * i + 0 by omega)]
    exact pk_le 2 2 (fun _ => h) (fun z => absurd z (by omega))
  rw [← sd_e0 (M := M) (p := m) (C := M m) (fun _ _ => rfl)] at goal
  exact ⟨0 + 1 + 1 + 1, goal⟩
/-! setIdentity(6) -/
theorem sd_idI {post : St2 → Prop} {J2 : Int32 → Int32 → Int32 → Int32 → (Nat → Int32) → (Nat → Int32) → (Nat → Int32) → (Nat → Int32) → (Nat → Int32) → (Nat → Int32) → (Nat → Int32) → Prop} (i : Nat) (hi : i < 4) (B : Nat → Nat) (hB : sd_b B)
    (h : ∀ B, sd_b B → J2 (nI (i + 1)) f0 f1 f2 (sd_e (sd_v M 6 B)) a2 a3 a4 a5 a6 a7) : ∃ n, wX_setIdentity_9 post J2 6 (nI i) n 0 f0 f1 f2 (sd_e (sd_v M 6 B)) a2 a3 a4 a5 a6 a7 := by
  refine pk_loop (fun n j s => wX_setIdentity_9 post J2 6 (nI i) n (nI j) f0 f1 f2 s a2 a3 a4 a5 a6 a7) (fun _ s => ∃ B, sd_b B ∧ s = sd_e (sd_v M 6 B)) 4 0 (sd_e (sd_v M 6 B)) (by omega) ⟨B, hB, rfl⟩ ?_ ?_
  · intro n s hs
    obtain ⟨B, hB, e⟩ := hs
    subst e
    exact pk_le 4 4 (fun _ => nm_r (nI_1 i) (h B hB)) (fun z => absurd z (by omega))
  · intro n j s hj hs hw
    obtain ⟨B, hB, e⟩ := hs
    subst e
    refine pk_le 4 j (fun z => absurd z (by omega)) (fun _ => pk_eq i j (fun _ => ?_) (fun _ => ?_))
    · exact sd_setEr 6 i j (4 * i + j) 1 (sd_e (sd_v M 6 (sd_u B (4 * i + j) 1))) (by rw [sd_vs, sd_vv]) (nm_r (nI_1 j) (hw _ ⟨_, sd_bu hB (by decide), rfl⟩)) (by decide)
    · exact sd_setEr 6 i j (4 * i + j) 0 (sd_e (sd_v M 6 (sd_u B (4 * i + j) 0))) (by rw [sd_vs, sd_vv]) (nm_r (nI_1 j) (hw _ ⟨_, sd_bu hB (by decide), rfl⟩)) (by decide)
theorem sd_ident {post : St2 → Prop} (hb : sd_b (M 6)) (h : ∀ B, sd_b B → post (f0, f1, f2, sd_e (sd_v M 6 B), a2, a3, a4, a5, a6, a7)) :
    wpX_setIdentity post (f0, f1, f2, sd_e M, a2, a3, a4, a5, a6, a7) 6 := by
  refine pk_loop (fun n i s => wX_setIdentity_2 post 6 n (nI i) f0 f1 f2 s a2 a3 a4 a5 a6 a7) (fun _ s => ∃ B, sd_b B ∧ s = sd_e (sd_v M 6 B)) 4 0 (sd_e M) (by omega) ⟨M 6, hb, sd_e0 (fun _ _ => rfl)⟩ ?_ ?_
  · intro n s hs
    obtain ⟨B, hB, e⟩ := hs
    subst e
    exact pk_le 4 4 (fun _ => h B hB) (fun z => absurd z (by omega))
  · intro n i s hi hs hw
    obtain ⟨B, hB, e⟩ := hs
    subst e
    exact pk_le 4 i (fun z => absurd z (by omega)) (fun _ => sd_idI i hi B hB (fun B hB => hw _ ⟨B, hB, rfl⟩))
/-! eliminate(5, 6) -/
theorem sd_w56 {A B A' : Nat → Nat} : sd_v (sd_v (sd_v M 5 A) 6 B) 5 A' = sd_v (sd_v M 5 A') 6 B := by
  rw [sd_vc (by decide), sd_vv]
theorem sd_p5 {A B : Nat → Nat} : sd_v (sd_v M 5 A) 6 B 5 = A := by
  rw [sd_vn (by decide), sd_vs]
end
section
variable {f0 f1 f2 : Int32} {M Q : Nat → Nat → Nat} {a1 a2 a3 a4 a5 a6 a7 : Nat → Int32} {post : Int32 → St2 → Prop} {J5 : Int32 → Int32 → Int32 → Int32 → Int32 → (Nat → Int32) → (Nat → Int32) → (Nat → Int32) → (Nat → Int32) → (Nat → Int32) → (Nat → Int32) → (Nat → Int32) → Prop}
theorem sd_el1 {n : Nat} (w c i : Nat) (A B : Nat → Nat) (hw : w < 2) (hc : c < 2) (hi : i < 2) (hA : sd_b A) (hB : sd_b B)
    (h : ∀ B, sd_b B → wX_eliminate_109 post J5 5 6 (nI w) (nI c) n (nI (i + 1)) (nI 2) f1 f2 (sd_e (sd_v (sd_v M 5 (sd_st A w c i)) 6 B)) a2 a3 a4 a5 a6 a7) :
    wX_eliminate_109 post J5 5 6 (nI w) (nI c) (n + 1) (nI i) (nI 2) f1 f2 (sd_e (sd_v (sd_v M 5 A) 6 B)) a2 a3 a4 a5 a6 a7 := by
  have k1 := hA (4 * i + c)
  refine pk_le 2 i (fun z => absurd z (by omega)) (fun _ => ?_)
  refine sd_entryP 5 i c (4 * i + c) A sd_p5 ?_
  refine pk_eq i w (fun z => nm_r (nI_1 i) ?_) (fun z => pk_eq (A (4 * i + c)) 0 (fun y => nm_r (nI_1 i) ?_) (fun y => ?_))
  · have t := h B hB
    rw [show sd_st A w c i = A from if_pos z] at t
    exact t
  · have t := h B hB
    rw [show sd_st A w c i = A from (if_neg z).trans (if_pos y)] at t
    exact t
  · refine sd_subr 5 i w (A (4 * i + c)) (sd_e (sd_v (sd_v M 5 (sd_sb A i w (A (4 * i + c)))) 6 B)) A sd_p5 hA (by rw [sd_w56]) ?_ k1
    refine sd_subr 6 i w (A (4 * i + c)) (sd_e (sd_v (sd_v M 5 (sd_sb A i w (A (4 * i + c)))) 6 (sd_sb B i w (A (4 * i + c))))) B sd_vs hB (by rw [sd_vv]) ?_ k1
    refine nm_r (nI_1 i) ?_
    have t := h _ (sd_sbb (i := i) (w := w) (f := A (4 * i + c)) hB)
    rw [show sd_st A w c i = sd_sb A i w (A (4 * i + c)) from (if_neg z).trans (if_neg y)] at t
    exact t
theorem sd_e44 (w c r : Nat) (A B : Nat → Nat) (hw : w < 2) (hc : c < 2) (hr : r < 2) (hA : sd_b A) (hB : sd_b B)
    (h : ∀ B, sd_b B → J5 (nI (w + 1)) (nI (c + 1)) (nI 2) f1 f2 (sd_e (sd_v (sd_v M 5 (sd_pv A w c r)) 6 B)) a2 a3 a4 a5 a6 a7) :
    wX_eliminate_44 post J5 5 6 (nI w) (nI c) (nI r) (nI 2) f1 f2 (sd_e (sd_v (sd_v M 5 A) 6 B)) a2 a3 a4 a5 a6 a7 := by
  have hA1 : sd_b (sd_xr A r w) := sd_xrb hA
  refine pk_eq r 2 (fun z => absurd z (by omega)) (fun _ => ?_)
  refine sd_exch 5 r w (sd_e (sd_v (sd_v M 5 (sd_xr A r w)) 6 B)) A sd_p5 hA (by rw [sd_w56]) ?_
  refine sd_exch 6 r w (sd_e (sd_v (sd_v M 5 (sd_xr A r w)) 6 (sd_xr B r w))) B sd_vs hB (by rw [sd_vv]) ?_
  refine sd_entryP 5 w c (4 * w + c) (sd_xr A r w) sd_p5 ?_
  refine sd_inv (sd_xr A r w (4 * w + c)) (hA1 _) ?_
  refine sd_scal 5 w (sd_iv (sd_xr A r w (4 * w + c))) (sd_e (sd_v (sd_v M 5 (sd_sc (sd_xr A r w) w (sd_iv (sd_xr A r w (4 * w + c))))) 6 (sd_xr B r w))) (sd_xr A r w) sd_p5 hA1 (by rw [sd_w56]) ?_ (sd_md _)
  refine sd_scal 6 w (sd_iv (sd_xr A r w (4 * w + c))) (sd_e (sd_v (sd_v M 5 (sd_sc (sd_xr A r w) w (sd_iv (sd_xr A r w (4 * w + c))))) 6 (sd_sc (sd_xr B r w) w (sd_iv (sd_xr A r w (4 * w + c)))))) (sd_xr B r w) sd_vs (sd_xrb hB) (by rw [sd_vv]) ?_ (sd_md _)
  have goal : wX_eliminate_109 post J5 5 6 (nI w) (nI c) (0 + 1 + 1 + 1) (nI 0) (nI 2) f1 f2 (sd_e (sd_v (sd_v M 5 (sd_sc (sd_xr A r w) w (sd_iv (sd_xr A r w (4 * w + c))))) 6 (sd_sc (sd_xr B r w) w (sd_iv (sd_xr A r w (4 * w + c)))))) a2 a3 a4 a5 a6 a7 := by
    refine sd_el1 w c 0 _ _ hw hc (by decide) (sd_scb hA1) (sd_scb (sd_xrb hB)) (fun B1 hB1 => ?_)
    refine sd_el1 w c 1 _ _ hw hc (by decide) (sd_stb (sd_scb hA1)) hB1 (fun B2 hB2 => ?_)
    exact pk_le 2 2 (fun _ => nm_r (nI_1 w) (nm_r (nI_1 c) (h B2 hB2))) (fun z => absurd z (by omega))
  exact ⟨0 + 1 + 1 + 1, goal⟩
theorem sd_e17a {n : Nat} (w c r : Nat) (A B : Nat → Nat) (hc : c < 2) (hr : r < 2) (hA : sd_b A) (hz : A (4 * r + c) ≠ 0)
    (h : wX_eliminate_44 post J5 5 6 (nI w) (nI c) (nI r) (nI 2) f1 f2 (sd_e (sd_v (sd_v M 5 A) 6 B)) a2 a3 a4 a5 a6 a7) :
    wX_eliminate_17 post J5 5 6 (nI w) (nI c) (nI 2) f1 f2 (sd_e (sd_v (sd_v M 5 A) 6 B)) a2 a3 a4 a5 a6 a7 (n + 1) (nI r) := by
  have k1 := hA (4 * r + c)
  refine pk_le 2 r (fun z => absurd z (by omega)) (fun _ => ?_)
  refine sd_entryP 5 r c (4 * r + c) A sd_p5 ?_
  exact pk_eq (A (4 * r + c)) 0 (fun z => absurd z hz) (fun _ => h)
theorem sd_e17b {n : Nat} (w c r : Nat) (A B : Nat → Nat) (hc : c < 2) (hr : r < 2) (hz : A (4 * r + c) = 0)
    (h : wX_eliminate_17 post J5 5 6 (nI w) (nI c) (nI 2) f1 f2 (sd_e (sd_v (sd_v M 5 A) 6 B)) a2 a3 a4 a5 a6 a7 n (nI (r + 1))) :
    wX_eliminate_17 post J5 5 6 (nI w) (nI c) (nI 2) f1 f2 (sd_e (sd_v (sd_v M 5 A) 6 B)) a2 a3 a4 a5 a6 a7 (n + 1) (nI r) := by
  refine pk_le 2 r (fun z => absurd z (by omega)) (fun _ => ?_)
  refine sd_entryP 5 r c (4 * r + c) A sd_p5 ?_
  exact pk_eq (A (4 * r + c)) 0 (fun _ => nm_r (nI_1 r) h) (fun z => absurd hz z) rfl rfl (by omega) (by decide)
theorem sd_e17c {n : Nat} {x3 : Int32} (c : Nat) (h : J5 x3 (nI (c + 1)) (nI 2) f1 f2 a1 a2 a3 a4 a5 a6 a7) :
    wX_eliminate_17 post J5 5 6 x3 (nI c) (nI 2) f1 f2 a1 a2 a3 a4 a5 a6 a7 (n + 1) (nI 2) := by
  refine pk_le 2 2 (fun _ => ?_) (fun z => absurd z (by omega))
  exact pk_eq 2 2 (fun _ => nm_r (nI_1 c) h) (fun z => absurd rfl z)
def sd_rk (a b c d : Nat) : Nat := if a = 0 then (if c = 0 then (if b = 0 then (if d = 0 then 0 else 1) else 1) else (if b = 0 then 1 else 2)) else (if (if c = 0 then d else (d + (5 - c) * (b * sd_iv a % 5)) % 5) = 0 then 1 else 2)
theorem sd_e5s {n : Nat} {x3 : Int32} (c : Nat) (hc : c < 2) (h : ∃ m, wX_eliminate_17 post (wX_eliminate_5 post 5 6 n) 5 6 x3 (nI c) (nI 2) f1 f2 a1 a2 a3 a4 a5 a6 a7 m x3) :
    wX_eliminate_5 post 5 6 (n + 1) x3 (nI c) (nI 2) f1 f2 a1 a2 a3 a4 a5 a6 a7 :=
  pk_le 2 c (fun z => absurd z (by omega)) (fun _ => h)
theorem sd_e5e {n : Nat} {x3 : Int32} (h : post x3 (nI 2, f1, f2, a1, a2, a3, a4, a5, a6, a7)) :
    wX_eliminate_5 post 5 6 (n + 1) x3 (nI 2) (nI 2) f1 f2 a1 a2 a3 a4 a5 a6 a7 :=
  pk_le 2 2 (fun _ => h) (fun z => absurd z (by omega))
theorem sd_pv0 {A : Nat → Nat} : sd_pv A 0 0 0 (4 * 1 + 1) = if A 4 = 0 then A 5 else (A 5 + (5 - A 4) * (A 1 * sd_iv (A 0) % 5)) % 5 := by
  by_cases e : A 4 = 0 <;> simp [sd_pv, sd_st, sd_sc, sd_xr, sd_sb, sd_u, e]
theorem sd_pv1 {A : Nat → Nat} (h : A 0 = 0) : sd_pv A 0 0 1 (4 * 1 + 1) = A 1 := by
  simp [sd_pv, sd_st, sd_sc, sd_xr, sd_sb, sd_u, h]
/-- what is left when the first column has a pivot -/
theorem sd_el2 {n : Nat} (A B : Nat → Nat) (hA : sd_b A) (hB : sd_b B)
    (h : ∀ A' B', sd_b A' → sd_b B' → post (nI (if A (4 * 1 + 1) = 0 then 1 else 2)) (nI 2, f1, f2, sd_e (sd_v (sd_v M 5 A') 6 B'), a2, a3, a4, a5, a6, a7)) :
    wX_eliminate_5 post 5 6 (n + 1 + 1) (nI (0 + 1)) (nI (0 + 1)) (nI 2) f1 f2 (sd_e (sd_v (sd_v M 5 A) 6 B)) a2 a3 a4 a5 a6 a7 := by
  refine sd_e5s 1 (by decide) ⟨0 + 1 + 1, ?_⟩
  by_cases e : A (4 * 1 + 1) = 0
  · rw [if_pos e] at h
    exact sd_e17b 1 1 1 A B (by decide) (by decide) e (sd_e17c 1 (sd_e5e (h A B hA hB)))
  · rw [if_neg e] at h
    exact sd_e17a 1 1 1 A B (by decide) (by decide) hA e (sd_e44 1 1 1 A B (by decide) (by decide) (by decide) hA hB (fun B' hB' => sd_e5e (h _ B' (sd_pvb hA) hB')))
theorem sd_elim (hb : sd_bb M) (h : ∀ A B, sd_b A → sd_b B → post (nI (sd_rk (M 5 0) (M 5 1) (M 5 4) (M 5 5))) (nI 2, f1, f2, sd_e (sd_v (sd_v M 5 A) 6 B), a2, a3, a4, a5, a6, a7)) :
    wpX_eliminate post (nI 2, f1, f2, sd_e M, a2, a3, a4, a5, a6, a7) 5 6 := by
  have hA := hb 5
  have hB := hb 6
  have goal : wX_eliminate_5 post 5 6 (0 + 1 + 1 + 1) (nI 0) (nI 0) (nI 2) f1 f2 (sd_e (sd_v (sd_v M 5 (M 5)) 6 (M 6))) a2 a3 a4 a5 a6 a7 := by
    refine sd_e5s 0 (by decide) ⟨0 + 1 + 1 + 1, ?_⟩
    unfold sd_rk at h
    by_cases ea : M 5 0 = 0
    · rw [if_pos ea] at h
      refine sd_e17b 0 0 0 _ _ (by decide) (by decide) ea ?_
      by_cases ec : M 5 4 = 0
      · rw [if_pos ec] at h
        refine sd_e17b 0 0 1 _ _ (by decide) (by decide) ec (sd_e17c 0 ?_)
        refine sd_e5s 1 (by decide) ⟨0 + 1 + 1 + 1, ?_⟩
        by_cases eb : M 5 1 = 0
        · rw [if_pos eb] at h
          refine sd_e17b 0 1 0 _ _ (by decide) (by decide) eb ?_
          by_cases ed : M 5 5 = 0
          · rw [if_pos ed] at h
            exact sd_e17b 0 1 1 _ _ (by decide) (by decide) ed (sd_e17c 1 (sd_e5e (h _ _ hA hB)))
          · rw [if_neg ed] at h
            exact sd_e17a 0 1 1 _ _ (by decide) (by decide) hA ed (sd_e44 0 1 1 _ _ (by decide) (by decide) (by decide) hA hB (fun B' hB' => sd_e5e (h _ B' (sd_pvb hA) hB')))
        · rw [if_neg eb] at h
          exact sd_e17a 0 1 0 _ _ (by decide) (by decide) hA eb (sd_e44 0 1 0 _ _ (by decide) (by decide) (by decide) hA hB (fun B' hB' => sd_e5e (h _ B' (sd_pvb hA) hB')))
      · rw [if_neg ec] at h
        refine sd_e17a 0 0 1 _ _ (by decide) (by decide) hA ec (sd_e44 0 0 1 _ _ (by decide) (by decide) (by decide) hA hB (fun B' hB' => ?_))
        refine sd_el2 _ _ (sd_pvb hA) hB' ?_
        rw [sd_pv1 ea]
        exact h
    · rw [if_neg ea] at h
      refine sd_e17a 0 0 0 _ _ (by decide) (by decide) hA ea (sd_e44 0 0 0 _ _ (by decide) (by decide) (by decide) hA hB (fun B' hB' => ?_))
      refine sd_el2 _ _ (sd_pvb hA) hB' ?_
      rw [sd_pv0]
      exact h
  have e : sd_e (sd_v (sd_v M 5 (M 5)) 6 (M 6)) = sd_e M := by
    rw [sd_vc (by decide), ← sd_e0 (fun j _ => by rw [sd_vn (by decide)]), ← sd_e0 (fun _ _ => rfl)]
  rw [e] at goal
  exact ⟨0 + 1 + 1 + 1, goal⟩
theorem sd_rank (hb : sd_bb M) (h : ∀ A B, sd_b A → sd_b B → post (nI (sd_rk (M 4 0) (M 4 1) (M 4 4) (M 4 5))) (nI 2, f1, f2, sd_e (sd_v (sd_v M 5 A) 6 B), a2, a3, a4, a5, a6, a7)) :
    wpX_rankOf post (nI 2, f1, f2, sd_e M, a2, a3, a4, a5, a6, a7) 4 := by
  refine sd_copy 5 4 hb ?_
  have hb1 : sd_bb (sd_v M 5 (M 4)) := sd_bv hb (hb 4)
  refine sd_ident (hb1 6) (fun B hB => ?_)
  refine sd_elim (sd_bv hb1 hB) (fun A' B' hA' hB' => ?_)
  rw [sd_p5, sd_w56, sd_vv]
  exact h A' B' hA' hB'
end
end
section
/-! ===== multiply(4, 4, 7), evaluate(0, 1), characteristicOf(0) ===== -/
def sd_hz (T : Nat × Nat × Nat × Nat) (C : Nat → Nat) : Nat → Nat × Nat × Nat × Nat
  | 0 => (0, 0, 0, 0)
  | k + 1 => sd_ad (sd_mm (sd_hz T C k) T) (C (9 - k))
def sd_ev (T : Nat × Nat × Nat × Nat) (a b c : Nat) : Nat × Nat × Nat × Nat := sd_ad (sd_mm (sd_ad (sd_mm (sd_ad (0, 0, 0, 0) c) T) b) T) a
theorem sd_mm0 (T : Nat × Nat × Nat × Nat) : sd_mm (0, 0, 0, 0) T = (0, 0, 0, 0) := by
  simp [sd_mm]
theorem sd_hzz {T : Nat × Nat × Nat × Nat} {C : Nat → Nat} {k : Nat} (h : sd_hz T C k = (0, 0, 0, 0)) (hC : C (9 - k) = 0) : sd_hz T C (k + 1) = (0, 0, 0, 0) := by
  show sd_ad (sd_mm (sd_hz T C k) T) (C (9 - k)) = _
  rw [h, hC, sd_mm0]
  rfl
theorem sd_hz3 (T : Nat × Nat × Nat × Nat) (a b c : Nat) : sd_hz T (sd_t a b c) 10 = sd_ev T a b c := by
  have z : sd_hz T (sd_t a b c) 7 = (0, 0, 0, 0) := sd_hzz (sd_hzz (sd_hzz (sd_hzz (sd_hzz (sd_hzz (sd_hzz rfl rfl) rfl) rfl) rfl) rfl) rfl) rfl
  show sd_ad (sd_mm (sd_ad (sd_mm (sd_ad (sd_mm (sd_hz T (sd_t a b c) 7) T) c) T) b) T) a = _
  rw [z, sd_mm0]
  rfl
section
variable {f0 f1 f2 : Int32} {M Q : Nat → Nat → Nat} {a1 a2 a3 a4 a5 a6 a7 : Nat → Int32}
theorem sd_ps {post : Int32 → Prop} {x0 x1 x2 x3 : Int32} (a b i k : Nat) (h : post (nI (M a (4 * i + 0) * M b k + M a (4 * i + 1) * M b (4 + k)))) (ha : a < 9 := by omega) (hb : b < 9 := by omega) (hi : i < 2 := by omega) (hk : k < 2 := by omega) (h0 : x0 = nI a := by rfl) (h1 : x1 = nI b := by rfl) (h2 : x2 = nI i := by rfl) (h3 : x3 = nI k := by rfl) :
    wpX_productSum post (nI 2, f1, f2, sd_e M, a2, a3, a4, a5, a6, a7) x0 x1 x2 x3 := by
  subst h0 h1 h2 h3
  have goal : wX_productSum_6 post (nI a) (nI b) (nI i) (nI k) (nI 2) f1 f2 (sd_e M) a2 a3 a4 a5 a6 a7 (0 + 1 + 1 + 1) (nI 0) (nI 0) := by
    refine pk_le 2 0 (fun z => absurd z (by omega)) (fun _ => ?_)
    refine sd_entry a i 0 (4 * i + 0) (sd_entry b 0 k k ?_ (by omega))
    refine nm_r (e' := nI (M a (4 * i + 0) * M b k)) (by rw [pk_mul, nI_add, Nat.zero_add]) (nm_r (nI_1 0) ?_)
    refine pk_le 2 1 (fun z => absurd z (by omega)) (fun _ => ?_)
    refine sd_entry a i 1 (4 * i + 1) (sd_entry b 1 k (4 + k) ?_ (by omega))
    refine nm_r (e' := nI (M a (4 * i + 0) * M b k + M a (4 * i + 1) * M b (4 + k))) (by rw [pk_mul, nI_add]) (nm_r (nI_1 1) ?_)
    exact pk_le 2 2 (fun _ => h) (fun z => absurd z (by omega))
  exact ⟨0 + 1 + 1 + 1, goal⟩
theorem sd_ml1 {post : St2 → Prop} {J3 : Int32 → Int32 → Int32 → Int32 → (Nat → Int32) → (Nat → Int32) → (Nat → Int32) → (Nat → Int32) → (Nat → Int32) → (Nat → Int32) → (Nat → Int32) → Prop} {n : Nat} (i k : Nat) (K : Nat → Nat) (hi : i < 2) (hk : k < 2) (hb : sd_bb M)
    (h : wX_multiply_15 post J3 4 4 7 (nI i) n (nI (k + 1)) (nI 2) f1 f2 (sd_e (sd_v M 8 (sd_u K (4 * i + k) ((M 4 (4 * i + 0) * M 7 k + M 4 (4 * i + 1) * M 7 (4 + k)) % 5)))) a2 a3 a4 a5 a6 a7) :
    wX_multiply_15 post J3 4 4 7 (nI i) (n + 1) (nI k) (nI 2) f1 f2 (sd_e (sd_v M 8 K)) a2 a3 a4 a5 a6 a7 := by
  have k1 := sd_mul4 (Nat.le_of_lt (hb 4 (4 * i + 0))) (hb 7 k)
  have k2 := sd_mul4 (Nat.le_of_lt (hb 4 (4 * i + 1))) (hb 7 (4 + k))
  refine pk_le 2 k (fun z => absurd z (by omega)) (fun _ => ?_)
  refine sd_ps 4 7 i k ?_
  rw [sd_vn (show 4 ≠ 8 by decide), sd_vn (show 7 ≠ 8 by decide)]
  refine ⟨sd_50, ?_⟩
  refine sd_setEr 8 i k (4 * i + k) ((M 4 (4 * i + 0) * M 7 k + M 4 (4 * i + 1) * M 7 (4 + k)) % 5) (sd_e (sd_v M 8 (sd_u K (4 * i + k) ((M 4 (4 * i + 0) * M 7 k + M 4 (4 * i + 1) * M 7 (4 + k)) % 5)))) (by rw [sd_vs, sd_vv]) ?_ (sd_lt128 (sd_md _)) rfl (by decide) (by omega) rfl rfl rfl (sd_m5 _ rfl (by omega))
  exact nm_r (nI_1 k) h
theorem sd_ml2 {post : St2 → Prop} {J3 : Int32 → Int32 → Int32 → Int32 → (Nat → Int32) → (Nat → Int32) → (Nat → Int32) → (Nat → Int32) → (Nat → Int32) → (Nat → Int32) → (Nat → Int32) → Prop} {n : Nat} (i : Nat)
    (h : J3 (nI (i + 1)) (nI 2) f1 f2 a1 a2 a3 a4 a5 a6 a7) : wX_multiply_15 post J3 4 4 7 (nI i) (n + 1) (nI 2) (nI 2) f1 f2 a1 a2 a3 a4 a5 a6 a7 :=
  pk_le 2 2 (fun _ => nm_r (nI_1 i) h) (fun z => absurd z (by omega))
theorem sd_mult {post : St2 → Prop} (hb : sd_bb M) (h : ∀ K, sd_b K → sd_at K = sd_mm (sd_at (M 4)) (sd_at (M 7)) → post (nI 2, f1, f2, sd_e (sd_v (sd_v M 8 K) 4 K), a2, a3, a4, a5, a6, a7)) :
    wpX_multiply post (nI 2, f1, f2, sd_e M, a2, a3, a4, a5, a6, a7) 4 4 7 := by
  have goal : wX_multiply_3 post 4 4 7 (0 + 1 + 1 + 1) (nI 0) (nI 2) f1 f2 (sd_e (sd_v M 8 (M 8))) a2 a3 a4 a5 a6 a7 := by
    refine pk_le 2 0 (fun z => absurd z (by omega)) (fun _ => ⟨0 + 1 + 1 + 1, ?_⟩)
    refine sd_ml1 0 0 _ (by decide) (by decide) hb (sd_ml1 0 1 _ (by decide) (by decide) hb (sd_ml2 0 ?_))
    refine pk_le 2 1 (fun z => absurd z (by omega)) (fun _ => ⟨0 + 1 + 1 + 1, ?_⟩)
    refine sd_ml1 1 0 _ (by decide) (by decide) hb (sd_ml1 1 1 _ (by decide) (by decide) hb (sd_ml2 1 ?_))
    have hK := sd_bu (k := 4 * 1 + 1) (sd_bu (k := 4 * 1 + 0) (sd_bu (k := 4 * 0 + 1) (sd_bu (k := 4 * 0 + 0) (hb 8) (sd_md (M 4 (4 * 0 + 0) * M 7 0 + M 4 (4 * 0 + 1) * M 7 (4 + 0)))) (sd_md (M 4 (4 * 0 + 0) * M 7 1 + M 4 (4 * 0 + 1) * M 7 (4 + 1)))) (sd_md (M 4 (4 * 1 + 0) * M 7 0 + M 4 (4 * 1 + 1) * M 7 (4 + 0)))) (sd_md (M 4 (4 * 1 + 0) * M 7 1 + M 4 (4 * 1 + 1) * M 7 (4 + 1)))
    refine pk_le 2 2 (fun _ => sd_copy 4 8 (sd_bv hb hK) ?_) (fun z => absurd z (by omega))
    rw [sd_vs]
    exact h _ hK (by simp [sd_at, sd_mm, sd_u])
  rw [← sd_e0 (M := M) (p := 8) (C := M 8) (fun _ _ => rfl)] at goal
  exact ⟨0 + 1 + 1 + 1, goal⟩
/-! evaluate -/
theorem sd_ev1 {post : St2 → Prop} {J34 : Int32 → Int32 → Int32 → Int32 → (Nat → Int32) → (Nat → Int32) → (Nat → Int32) → (Nat → Int32) → (Nat → Int32) → (Nat → Int32) → (Nat → Int32) → Prop} {n : Nat} (i j : Nat) (K : Nat → Nat) (hi : i < 2) (hj : j < 10) (hK : sd_b K) (hq : sd_bb Q)
    (h : wX_evaluate_49 post J34 1 (nI j) n (nI (i + 1)) (nI 2) f1 f2 (sd_e (sd_v M 4 (sd_u K (4 * i + i) ((K (4 * i + i) + Q 1 j) % 5)))) (sd_q Q) a3 a4 a5 a6 a7) :
    wX_evaluate_49 post J34 1 (nI j) (n + 1) (nI i) (nI 2) f1 f2 (sd_e (sd_v M 4 K)) (sd_q Q) a3 a4 a5 a6 a7 := by
  have k1 := hK (4 * i + i)
  have k2 := hq 1 j
  have d1 : sd_q Q (10 * 1 + nI j).toNatClampNeg = nI (Q 1 j) := sd_qd 1 j hj (by decide) (sd_jx 1 j)
  refine pk_le 2 i (fun z => absurd z (by omega)) (fun _ => ?_)
  refine sd_entryP 4 i i (4 * i + i) K sd_vs ⟨pk_in (10 * 1 + j) 130 (by omega) (sd_jx 1 j), ?_⟩
  refine nm_r (e' := nI (K (4 * i + i) + Q 1 j)) (by rw [d1, nI_add]) ⟨sd_50, ?_⟩
  refine sd_setEr 4 i i (4 * i + i) ((K (4 * i + i) + Q 1 j) % 5) (sd_e (sd_v M 4 (sd_u K (4 * i + i) ((K (4 * i + i) + Q 1 j) % 5)))) (by rw [sd_vs, sd_vv]) ?_ (sd_lt128 (sd_md _)) rfl (by decide) (by omega) rfl rfl rfl (sd_m5 _ rfl (by omega))
  exact nm_r (nI_1 i) h
theorem sd_ev49 {post : St2 → Prop} {J34 : Int32 → Int32 → Int32 → Int32 → (Nat → Int32) → (Nat → Int32) → (Nat → Int32) → (Nat → Int32) → (Nat → Int32) → (Nat → Int32) → (Nat → Int32) → Prop} (j : Nat) (K : Nat → Nat) (hj : j < 10) (hK : sd_b K) (hq : sd_bb Q)
    (h : ∀ K', sd_b K' → sd_at K' = sd_ad (sd_at K) (Q 1 j) → J34 (nI j + (-1)) (nI 2) f1 f2 (sd_e (sd_v M 4 K')) (sd_q Q) a3 a4 a5 a6 a7) :
    ∃ n, wX_evaluate_49 post J34 1 (nI j) n 0 (nI 2) f1 f2 (sd_e (sd_v M 4 K)) (sd_q Q) a3 a4 a5 a6 a7 := by
  refine ⟨0 + 1 + 1 + 1, ?_⟩
  refine sd_ev1 0 j K (by decide) hj hK hq ?_
  refine sd_ev1 1 j _ (by decide) hj (sd_bu hK (sd_md _)) hq ?_
  exact pk_le 2 2 (fun _ => nm_e (h _ (sd_bu (sd_bu hK (sd_md _)) (sd_md _)) (by simp [sd_at, sd_ad, sd_u]))) (fun z => absurd z (by omega))
theorem sd_w84 {N : Nat → Nat → Nat} {L K K2 : Nat → Nat} : sd_v (sd_v (sd_v (sd_v N 8 L) 4 K) 8 K2) 4 K2 = sd_v (sd_v N 8 K2) 4 K2 := by
  rw [sd_vc (p := 4) (r := 8) (by decide), sd_vv, sd_vv]
theorem sd_ev34 {post : St2 → Prop} {N : Nat → Nat → Nat} (hb : sd_bb N) (hq : sd_bb Q) (h : ∀ L K, sd_b L → sd_b K → sd_at K = sd_hz (sd_at (N 7)) (Q 1) 10 → post (nI 2, f1, f2, sd_e (sd_v (sd_v N 8 L) 4 K), sd_q Q, a3, a4, a5, a6, a7)) :
    ∀ i, i ≤ 10 → ∀ L K, sd_b L → sd_b K → sd_at K = sd_hz (sd_at (N 7)) (Q 1) (10 - i) → wX_evaluate_34 post 1 (i + 1) (nI i + (-1)) (nI 2) f1 f2 (sd_e (sd_v (sd_v N 8 L) 4 K)) (sd_q Q) a3 a4 a5 a6 a7 := by
  intro i
  induction i with
  | zero =>
    intro _ L K hL hK e
    exact br_t (by decide) (h L K hL hK e)
  | succ i ih =>
    intro hi L K hL hK e
    rw [pk_m1]
    refine pk_lt i 0 (fun z => absurd z (by omega)) (fun _ => sd_mult (sd_bv (sd_bv hb hL) hK) (fun K2 hK2 e2 => ?_))
    rw [sd_w84]
    refine sd_ev49 i K2 (by omega) hK2 hq (fun K3 hK3 e3 => ih (by omega) K2 K3 hK2 hK3 ?_)
    rw [sd_vs, sd_vn (show 7 ≠ 4 by decide), sd_vn (show 7 ≠ 8 by decide)] at e2
    rw [e3, e2, e, show 10 - i = (10 - (i + 1)) + 1 by omega]
    show _ = sd_ad (sd_mm (sd_hz (sd_at (N 7)) (Q 1) (10 - (i + 1))) (sd_at (N 7))) (Q 1 (9 - (10 - (i + 1))))
    rw [show 9 - (10 - (i + 1)) = i by omega]
theorem sd_eval {post : St2 → Prop} (hb : sd_bb M) (hq : sd_bb Q) (h : ∀ L K, sd_b L → sd_b K → sd_at K = sd_hz (sd_at (M 0)) (Q 1) 10 → post (nI 2, f1, f2, sd_e (sd_v (sd_v (sd_v M 7 (M 0)) 8 L) 4 K), sd_q Q, a3, a4, a5, a6, a7)) :
    wpX_evaluate post (nI 2, f1, f2, sd_e M, sd_q Q, a3, a4, a5, a6, a7) 0 1 := by
  refine sd_copy 7 0 hb ?_
  have hb1 : sd_bb (sd_v M 7 (M 0)) := sd_bv hb (hb 0)
  refine pk_loop (fun n i s => wX_evaluate_9 post 1 (nI 2) f1 f2 n (nI i) s (sd_q Q) a3 a4 a5 a6 a7) (fun i s => s = sd_e (sd_v (sd_v M 7 (M 0)) 4 (fun j => if j < i then 0 else sd_v M 7 (M 0) 4 j))) 16 0 (sd_e (sd_v M 7 (M 0))) (by omega) ?_ ?_ ?_
  · exact sd_e0 (fun j _ => if_neg (by omega))
  · intro n s h'
    subst h'
    refine pk_le 16 16 (fun _ => ⟨10 + 1, ?_⟩) (fun z => absurd z (by omega))
    rw [sd_ee (B := fun _ => 0) (fun j hj => if_pos hj)]
    have t := sd_ev34 (f1 := f1) (f2 := f2) (a3 := a3) (a4 := a4) (a5 := a5) (a6 := a6) (a7 := a7) hb1 hq (by rw [sd_vs]; exact h) 10 (by omega) (M 8) (fun _ => 0) (hb 8) sd_b0 rfl
    have e8 : sd_e (sd_v (sd_v (sd_v M 7 (M 0)) 8 (M 8)) 4 (fun _ => 0)) = sd_e (sd_v (sd_v M 7 (M 0)) 4 (fun _ => 0)) := by
      rw [sd_vc (by decide)]
      exact (sd_e0 (fun j _ => by rw [sd_vn (by decide), sd_vn (by decide)])).symm
    rw [show nI 10 + (-1) = (9 : Int32) by decide, e8] at t
    exact t
  · intro n i s hi h' hw
    subst h'
    have x : 64 + nI i = nI (16 * 4 + i) := nI_add 64 i
    refine pk_le 16 i (fun z => absurd z (by omega)) (fun _ => ⟨pk_in (16 * 4 + i) 144 (by omega) x, nm_r ?_ (nm_r (nI_1 i) (hw _ rfl))⟩)
    rw [sd_es 4 i 0 hi (by decide) x (show (0 : Int32) = nI 0 from rfl), sd_vs, sd_vv]
    exact congrArg (fun C => sd_e (sd_v (sd_v M 7 (M 0)) 4 C)) (sd_fill (A := fun _ => 0))
end
end
section
/-! ===== characteristicOf(0) ===== -/
def sd_cn (p q r s : Nat) : Nat := 5 * (5 * 1 + ((5 - p) % 5 + (5 - s)) % 5) + (((5 - s) * ((5 - p) % 5)) % 5 + (5 - r % 5 * q % 5)) % 5
section
variable {f0 f1 f2 : Int32} {M Q : Nat → Nat → Nat} {a1 a2 a3 a4 a5 a6 a7 : Nat → Int32} {post : Int32 → St2 → Prop} {J27 : Int32 → Int32 → Int32 → Int32 → (Nat → Int32) → (Nat → Int32) → (Nat → Int32) → (Nat → Int32) → (Nat → Int32) → (Nat → Int32) → (Nat → Int32) → Prop}
def sd_chC (A C : Nat → Nat) (d j : Nat) : Nat → Nat := sd_u (sd_u C (j + 1) ((C (j + 1) + A j) % 5)) j ((C j + (5 - d) * A j) % 5)
theorem sd_chb {A C : Nat → Nat} {d j : Nat} (h : sd_b C) : sd_b (sd_chC A C d j) := sd_bu (sd_bu h (sd_md _)) (sd_md _)
theorem sd_ch1 {n : Nat} (k t d j : Nat) (A C : Nat → Nat) (hk : k < 2) (hj : j ≤ k) (ht : t < 12) (hd : d < 5) (hA : Q t = A) (hq : sd_bb Q) (hC : sd_b C)
    (h : wX_characteristicOf_59 post J27 (nI k) (nI (t + 1)) (nI d) n (nI (j + 1)) f0 f1 f2 a1 (sd_q (sd_v Q (t + 1) (sd_chC A C d j))) a3 a4 a5 a6 a7) :
    wX_characteristicOf_59 post J27 (nI k) (nI (t + 1)) (nI d) (n + 1) (nI j) f0 f1 f2 a1 (sd_q (sd_v Q (t + 1) C)) a3 a4 a5 a6 a7 := by
  have x : 10 * (nI (t + 1) - 1) + nI j = nI (10 * t + j) := by rw [nI_pred, sd_jx]
  have hA' : ∀ B, sd_v Q (t + 1) B t = A := fun B => by rw [sd_vn (by omega), hA]
  have d1 : ∀ B, sd_q (sd_v Q (t + 1) B) (10 * (nI (t + 1) - 1) + nI j).toNatClampNeg = nI (A j) := fun B => by rw [sd_qd t j (by omega) (by omega) x, hA']
  have d5 : (5 : Int32) - nI d = nI (5 - d) := pk_sub (a := 5) (by omega)
  have hAb : sd_b A := hA ▸ hq t
  have k1 := hC (j + 1)
  have k2 := hC j
  have k3 := hAb j
  have k4 := sd_mul4 (show 5 - d ≤ 5 by omega) k3
  refine pk_lt k j (fun z => absurd z (by omega)) (fun _ => ⟨pk_in (10 * t + j) 130 (by omega) x, ?_⟩)
  refine sd_addCr (t + 1) (j + 1) (A j) (sd_q (sd_v Q (t + 1) (sd_u C (j + 1) ((C (j + 1) + A j) % 5)))) (by rw [sd_vs, sd_vv]) ⟨pk_in (10 * t + j) 130 (by omega) x, ?_⟩ (by rw [sd_vs]; omega) (by omega) (by omega) rfl (nI_1 j) (d1 _)
  refine sd_addCr (t + 1) j ((5 - d) * A j) (sd_q (sd_v Q (t + 1) (sd_chC A C d j))) ?_ (nm_r (nI_1 j) h) (by rw [sd_vs, sd_un (by omega)]; omega) (by omega) (by omega) rfl rfl (by rw [d1, d5, pk_mul])
  rw [sd_vs, sd_vv, sd_un (show j ≠ j + 1 by omega)]
  rfl
theorem sd_char (hb : sd_bb M) (hq : sd_bb Q) (h : ∀ Q', sd_bb Q' → post (nI (sd_cn (M 0 0) (M 0 1) (M 0 4) (M 0 5))) (nI 2, f1, f2, sd_e (sd_v M 5 (M 0)), sd_q Q', a3, a4, a5, a6, a7)) :
    wpX_characteristicOf post (nI 2, f1, f2, sd_e M, sd_q Q, a3, a4, a5, a6, a7) 0 := by
  have p0 := hb 0 0
  have p5 := hb 0 5
  refine sd_copy 5 0 hb ?_
  refine ⟨1, br_t (by decide) ?_⟩
  refine sd_clear 8 ?_
  refine nm_r (e' := sd_q (sd_v Q 8 (sd_t 1 0 0))) ((sd_qu (M := sd_v Q 8 (fun _ => 0)) (m := 8) (k := 0) (v := 1) (by decide)).trans (by rw [sd_vs, sd_vv, sd_t1])) ⟨0 + 1 + 1 + 1, ?_⟩
  have h8 : sd_bb (sd_v Q 8 (sd_t 1 0 0)) := sd_bv hq (sd_bt (by decide) (by decide) (by decide))
  refine pk_le 2 0 (fun z => absurd z (by omega)) (fun _ => nm_r (e' := nI (8 + 1)) (by decide) ?_)
  refine sd_clear 9 ?_
  refine sd_entryP 5 0 0 0 (M 0) sd_vs ⟨0 + 1 + 1, ?_⟩
  refine sd_ch1 0 8 (M 0 0) 0 (sd_t 1 0 0) _ (by decide) (by decide) (by decide) p0 sd_vs h8 sd_b0 ?_
  refine pk_lt 0 1 (fun _ => nm_r (e' := -1) (by decide) ⟨0 + 1, br_t (by decide) (nm_r (nI_1 0) ?_)⟩) (fun z => absurd z (by omega))
  have e9 : sd_q (sd_v (sd_v Q 8 (sd_t 1 0 0)) 9 (sd_chC (sd_t 1 0 0) (fun _ => 0) (M 0 0) 0)) = sd_q (sd_v (sd_v Q 8 (sd_t 1 0 0)) 9 (sd_t ((5 - M 0 0) % 5) 1 0)) := by
    refine sd_qe ?_
    refine sd_10 ?_ ?_ ?_ ?_ ?_ ?_ ?_ ?_ ?_ ?_ <;> simp [sd_chC, sd_u, sd_t]
  have h9 : sd_bb (sd_v (sd_v Q 8 (sd_t 1 0 0)) 9 (sd_t ((5 - M 0 0) % 5) 1 0)) := sd_bv h8 (sd_bt (sd_md _) (by decide) (by decide))
  rw [e9]
  refine pk_le 2 1 (fun z => absurd z (by omega)) (fun _ => nm_r (e' := nI (9 + 1)) (by decide) ?_)
  refine sd_clear 10 ?_
  refine sd_entryP 5 1 1 5 (M 0) sd_vs ⟨0 + 1 + 1 + 1, ?_⟩
  refine sd_ch1 1 9 (M 0 5) 0 (sd_t ((5 - M 0 0) % 5) 1 0) _ (by decide) (by decide) (by decide) p5 sd_vs h9 sd_b0 ?_
  refine sd_ch1 1 9 (M 0 5) 1 (sd_t ((5 - M 0 0) % 5) 1 0) _ (by decide) (by decide) (by decide) p5 sd_vs h9 (sd_chb sd_b0) ?_
  have hX : sd_bb (sd_v (sd_v (sd_v Q 8 (sd_t 1 0 0)) 9 (sd_t ((5 - M 0 0) % 5) 1 0)) (9 + 1) (sd_chC (sd_t ((5 - M 0 0) % 5) 1 0) (sd_chC (sd_t ((5 - M 0 0) % 5) 1 0) (fun _ => 0) (M 0 5) 0) (M 0 5) 1)) := sd_bv h9 (sd_chb (sd_chb sd_b0))
  refine pk_lt 1 2 (fun _ => nm_r (e' := nI 0) (by decide) ⟨0 + 1 + 1, ?_⟩) (fun z => absurd z (by omega))
  refine pk_lt 0 0 (fun z => absurd z (by omega)) (fun _ => ?_)
  refine sd_entryP 5 1 0 4 (M 0) sd_vs ⟨sd_50, nm_r (e' := nI (M 0 4 % 5)) (sd_m5 (M 0 4) (by rw [show (1 : Int32) = nI 1 from rfl, pk_mul, Nat.one_mul]) (Nat.lt_of_lt_of_le (hb 0 4) (by decide))) ?_⟩
  have k4 := sd_mul4 (Nat.le_of_lt (sd_md (M 0 4))) (hb 0 1)
  refine sd_entryP 5 0 1 1 (M 0) sd_vs ⟨sd_50, nm_r (e' := nI (M 0 4 % 5 * M 0 1 % 5)) (sd_m5 _ (pk_mul _ _) (by omega)) ?_⟩
  refine sd_addM 10 8 (5 - M 0 4 % 5 * M 0 1 % 5) (by decide) hX (by omega) ?_ (by decide) (by decide) rfl (by decide) (pk_sub (a := 5) (by omega))
  refine nm_e (br_t (by decide) (nm_r (nI_1 1) ?_))
  refine pk_le 2 2 (fun _ => ?_) (fun z => absurd z (by omega))
  refine sd_num 10 ?_ (by decide) (by decide)
  rw [sd_vs]
  have e10 : sd_na (fun j => ((sd_v (sd_v (sd_v Q 8 (sd_t 1 0 0)) 9 (sd_t ((5 - M 0 0) % 5) 1 0)) (9 + 1) (sd_chC (sd_t ((5 - M 0 0) % 5) 1 0) (sd_chC (sd_t ((5 - M 0 0) % 5) 1 0) (fun _ => 0) (M 0 5) 0) (M 0 5) 1)) 10 j + (5 - M 0 4 % 5 * M 0 1 % 5) * (sd_v (sd_v (sd_v Q 8 (sd_t 1 0 0)) 9 (sd_t ((5 - M 0 0) % 5) 1 0)) (9 + 1) (sd_chC (sd_t ((5 - M 0 0) % 5) 1 0) (sd_chC (sd_t ((5 - M 0 0) % 5) 1 0) (fun _ => 0) (M 0 5) 0) (M 0 5) 1)) 8 j) % 5) 10 = sd_cn (M 0 0) (M 0 1) (M 0 4) (M 0 5) := by
    rw [sd_naC (B := sd_t ((((5 - M 0 5) * ((5 - M 0 0) % 5)) % 5 + (5 - M 0 4 % 5 * M 0 1 % 5)) % 5) (((5 - M 0 0) % 5 + (5 - M 0 5)) % 5) 1) ?_ 10 (by decide), sd_na3]
    · rfl
    · have v10 : ∀ (N : Nat → Nat → Nat) (C : Nat → Nat), sd_v N (9 + 1) C 10 = C := fun N C => sd_vs
      have v8 : ∀ (N : Nat → Nat → Nat) (C D : Nat → Nat), sd_v (sd_v (sd_v N 8 (sd_t 1 0 0)) 9 D) (9 + 1) C 8 = sd_t 1 0 0 := fun N C D => by rw [sd_vn (by decide), sd_vn (by decide), sd_vs]
      rw [v10, v8]
      refine sd_10 ?_ ?_ ?_ ?_ ?_ ?_ ?_ ?_ ?_ ?_ <;> simp [sd_chC, sd_u, sd_t]
  rw [e10]
  exact h _ (sd_bv hX (fun _ => sd_md _))
end
end
section
/-! ===== tryFactor, findFactors ===== -/
def sd_T (m : Nat × Nat × Nat) : Nat → Nat := sd_t m.1 m.2.1 m.2.2
def sd_r1 (c k : Nat) (fd : Bool) : (Nat × Nat × Nat) × Bool := if (c + 4 * k) % 5 = 0 then ((1, 0, 0), true) else ((c, 1, 0), fd)
def sd_tr (m : Nat × Nat × Nat) (num dg : Nat) : (Nat × Nat × Nat) × Bool :=
  if m.2.2 = 1 then
    (if dg = 1 then (if (m.1 + (5 - (m.2.1 + 4 * (num % 5)) % 5) * (num % 5)) % 5 = 0 then sd_r1 ((m.2.1 + 4 * (num % 5)) % 5) (num % 5) true else (m, false))
     else (if (m.1 + 4 * (num % 5)) % 5 = 0 ∧ (m.2.1 + 4 * (num / 5 % 5)) % 5 = 0 then ((1, 0, 0), true) else (m, false)))
  else if m.2.1 = 1 then (if dg = 1 then sd_r1 m.1 (num % 5) false else (m, false)) else (m, false)
abbrev sd_mo (m : Nat × Nat × Nat) : Prop := m.2.2 = 1 ∨ (m.2.2 = 0 ∧ m.2.1 = 1) ∨ (m.2.2 = 0 ∧ m.2.1 = 0 ∧ m.1 = 1)
theorem sd_tr21 {c0 c1 num : Nat} : sd_tr (c0, c1, 1) num 1 = if (c0 + (5 - (c1 + 4 * (num % 5)) % 5) * (num % 5)) % 5 = 0 then sd_r1 ((c1 + 4 * (num % 5)) % 5) (num % 5) true else ((c0, c1, 1), false) := by
  unfold sd_tr
  rw [if_pos rfl, if_pos rfl]
theorem sd_tr22 {c0 c1 num : Nat} : sd_tr (c0, c1, 1) num 2 = if (c0 + 4 * (num % 5)) % 5 = 0 ∧ (c1 + 4 * (num / 5 % 5)) % 5 = 0 then ((1, 0, 0), true) else ((c0, c1, 1), false) := by
  unfold sd_tr
  rw [if_pos rfl, if_neg (by decide)]
theorem sd_tr11 {c0 num : Nat} : sd_tr (c0, 1, 0) num 1 = sd_r1 c0 (num % 5) false := by
  unfold sd_tr
  rw [if_neg (show ¬ (c0, 1, 0).2.2 = 1 from Nat.zero_ne_one), if_pos rfl, if_pos rfl]
theorem sd_tr12 {c0 num : Nat} : sd_tr (c0, 1, 0) num 2 = ((c0, 1, 0), false) := by
  unfold sd_tr
  rw [if_neg (show ¬ (c0, 1, 0).2.2 = 1 from Nat.zero_ne_one), if_pos rfl, if_neg (by decide)]
theorem sd_tr0 {num dg : Nat} : sd_tr (1, 0, 0) num dg = ((1, 0, 0), false) := rfl
section
variable {f0 f1 f2 : Int32} {M Q : Nat → Nat → Nat} {a1 a2 a3 a4 a5 a6 a7 : Nat → Int32} {post : St2 → Prop}
theorem sd_addF (fc num dg : Nat) (hfc : fc < 4) (hn : num < 128) (hd : dg < 128) (h : post (f0, nI (fc + 1), f2, a1, a2, upd a3 fc (nI num), upd a4 fc (nI dg), a5, a6, a7)) :
    wpX_addFactor post (f0, nI fc, f2, a1, a2, a3, a4, a5, a6, a7) (nI num) (nI dg) :=
  ⟨pk_in fc 4 hfc, nm_r (by rw [nI_clamp (by omega), sd_sh num hn]) ⟨pk_in fc 4 hfc, nm_r (by rw [nI_clamp (by omega), sd_by dg hd]) (nm_r (nI_1 fc) h)⟩⟩
theorem sd_tx0 {n : Nat} {x1 x2 : Int32} (h : post (f0, f1, f2, a1, a2, a3, a4, a5, a6, a7)) : wX_tryFactor_24 post x1 x2 (n + 1) 0 0 f0 f1 f2 a1 a2 a3 a4 a5 a6 a7 :=
  br_t rfl (br_t rfl h)
theorem sd_tx1 {n : Nat} (fc num dg : Nat) (hfc : fc < 4) (hn : num < 128) (hd : dg < 128) (h : post (f0, nI (fc + 1), f2, a1, a2, upd a3 fc (nI num), upd a4 fc (nI dg), a5, a6, a7)) :
    wX_tryFactor_24 post (nI num) (nI dg) (n + 1) 1 0 f0 (nI fc) f2 a1 a2 a3 a4 a5 a6 a7 :=
  br_t rfl (br_f (by decide) (sd_addF fc num dg hfc hn hd h))
/-- a division that leaves something -/
theorem sd_tg0 {n : Nat} {x1 x2 x3 : Int32} (T : Nat → Nat) (e0 e1 : Nat) (hq : sd_bb Q) (hT : sd_b T) (h0 : e0 < 5) (h1 : e1 < 5) (hn : ¬ (e0 = 0 ∧ e1 = 0))
    (hd : ∀ P : St2 → Prop, P (f0, f1, f2, a1, sd_q (sd_v (sd_v Q 2 T) 3 (sd_t e0 e1 0)), a3, a4, a5, a6, a7) → wpX_dividePoly P (f0, f1, f2, a1, sd_q Q, a3, a4, a5, a6, a7) 0 1)
    (h : ∀ Q', sd_bb Q' → Q' 0 = Q 0 → wX_tryFactor_24 post x1 x2 n x3 0 f0 f1 f2 a1 (sd_q Q') a3 a4 a5 a6 a7) :
    wX_tryFactor_24 post x1 x2 (n + 1) x3 1 f0 f1 f2 a1 (sd_q Q) a3 a4 a5 a6 a7 := by
  have hb : sd_bb (sd_v (sd_v Q 2 T) 3 (sd_t e0 e1 0)) := sd_bv (sd_bv hq hT) (sd_bt h0 h1 (by decide))
  refine br_f (by decide) (hd _ ?_)
  refine sd_degP 3 e0 e1 hb sd_vs hn (fun d hd => ?_)
  refine pk_le 0 d (fun _ => br_t rfl (h _ hb ?_)) (fun z => absurd z (by omega))
  rw [sd_vn (by decide), sd_vn (by decide)]
/-- a division that leaves nothing -/
theorem sd_tg1 {n : Nat} {x1 x2 x3 : Int32} (T : Nat → Nat) (hq : sd_bb Q) (hT : sd_b T)
    (hd : ∀ P : St2 → Prop, P (f0, f1, f2, a1, sd_q (sd_v (sd_v Q 2 T) 3 (sd_t 0 0 0)), a3, a4, a5, a6, a7) → wpX_dividePoly P (f0, f1, f2, a1, sd_q Q, a3, a4, a5, a6, a7) 0 1)
    (h : ∀ Q', sd_bb Q' → Q' 0 = T → Q' 1 = Q 1 → wpX_degreeOf (fun r => (r < x2 → wX_tryFactor_24 post x1 x2 n 1 0 f0 f1 f2 a1 (sd_q Q') a3 a4 a5 a6 a7) ∧ (¬ r < x2 → wX_tryFactor_24 post x1 x2 n 1 1 f0 f1 f2 a1 (sd_q Q') a3 a4 a5 a6 a7)) (f0, f1, f2, a1, sd_q Q', a3, a4, a5, a6, a7) 0) :
    wX_tryFactor_24 post x1 x2 (n + 1) x3 1 f0 f1 f2 a1 (sd_q Q) a3 a4 a5 a6 a7 := by
  have hb : sd_bb (sd_v (sd_v Q 2 T) 3 (sd_t 0 0 0)) := sd_bv (sd_bv hq hT) (sd_bt (by decide) (by decide) (by decide))
  refine br_f (by decide) (hd _ ?_)
  refine sd_degZ 3 sd_vs ?_
  refine br_f (by decide) (br_f (by decide) (sd_copyP 0 2 hb ?_))
  rw [sd_vn (show 2 ≠ 3 by decide), sd_vs]
  exact h _ (sd_bv hb hT) sd_vs (by rw [sd_vn (by decide), sd_vn (by decide), sd_vn (by decide)])
theorem sd_tL1 {n : Nat} {x1 x3 : Int32} (c k : Nat) (hq : sd_bb Q) (h0 : Q 0 = sd_t c 1 0) (h1 : Q 1 = sd_t k 1 0)
    (hz : (c + 4 * k) % 5 = 0 → ∀ Q', sd_bb Q' → Q' 0 = sd_t 1 0 0 → wX_tryFactor_24 post x1 (nI 1) n 1 0 f0 f1 f2 a1 (sd_q Q') a3 a4 a5 a6 a7)
    (hn : ¬ (c + 4 * k) % 5 = 0 → ∀ Q', sd_bb Q' → Q' 0 = sd_t c 1 0 → wX_tryFactor_24 post x1 (nI 1) n x3 0 f0 f1 f2 a1 (sd_q Q') a3 a4 a5 a6 a7) :
    wX_tryFactor_24 post x1 (nI 1) (n + 1) x3 1 f0 f1 f2 a1 (sd_q Q) a3 a4 a5 a6 a7 := by
  by_cases e : (c + 4 * k) % 5 = 0
  · refine sd_tg1 (sd_t 1 0 0) hq (sd_bt (by decide) (by decide) (by decide)) (fun P hP => sd_div11 c k hq h0 h1 (by rw [e]; exact hP)) (fun Q' hq' h0' h1' => ?_)
    exact sd_deg00 0 hq' h0' (pk_lt 0 1 (fun _ => hz e Q' hq' h0') (fun z => absurd z (by omega)))
  · exact sd_tg0 (sd_t 1 0 0) _ 0 hq (sd_bt (by decide) (by decide) (by decide)) (sd_md _) (by decide) (fun z => e z.1) (fun P hP => sd_div11 c k hq h0 h1 hP) (fun Q' hq' h0' => hn e Q' hq' (h0'.trans h0))
theorem sd_tL2 {n : Nat} {x1 x3 : Int32} (c0 c1 k : Nat) (hq : sd_bb Q) (h0 : Q 0 = sd_t c0 c1 1) (h1 : Q 1 = sd_t k 1 0)
    (hz : (c0 + (5 - (c1 + 4 * k) % 5) * k) % 5 = 0 → ∀ Q', sd_bb Q' → Q' 0 = sd_t ((c1 + 4 * k) % 5) 1 0 → Q' 1 = sd_t k 1 0 → wX_tryFactor_24 post x1 (nI 1) n 1 1 f0 f1 f2 a1 (sd_q Q') a3 a4 a5 a6 a7)
    (hn : ¬ (c0 + (5 - (c1 + 4 * k) % 5) * k) % 5 = 0 → ∀ Q', sd_bb Q' → Q' 0 = sd_t c0 c1 1 → wX_tryFactor_24 post x1 (nI 1) n x3 0 f0 f1 f2 a1 (sd_q Q') a3 a4 a5 a6 a7) :
    wX_tryFactor_24 post x1 (nI 1) (n + 1) x3 1 f0 f1 f2 a1 (sd_q Q) a3 a4 a5 a6 a7 := by
  have hT : sd_b (sd_t ((c1 + 4 * k) % 5) 1 0) := sd_bt (sd_md _) (by decide) (by decide)
  by_cases e : (c0 + (5 - (c1 + 4 * k) % 5) * k) % 5 = 0
  · refine sd_tg1 (sd_t ((c1 + 4 * k) % 5) 1 0) hq hT (fun P hP => sd_div21 c0 c1 k hq h0 h1 (by rw [e]; exact hP)) (fun Q' hq' h0' h1' => ?_)
    exact sd_deg1 0 _ hq' h0' (pk_lt 1 1 (fun z => absurd z (by omega)) (fun _ => hz e Q' hq' h0' (h1'.trans h1)))
  · exact sd_tg0 (sd_t ((c1 + 4 * k) % 5) 1 0) _ 0 hq hT (sd_md _) (by decide) (fun z => e z.1) (fun P hP => sd_div21 c0 c1 k hq h0 h1 hP) (fun Q' hq' h0' => hn e Q' hq' (h0'.trans h0))
theorem sd_tL3 {n : Nat} {x1 x3 : Int32} (c0 c1 g0 g1 : Nat) (hq : sd_bb Q) (h0 : Q 0 = sd_t c0 c1 1) (h1 : Q 1 = sd_t g0 g1 1)
    (hz : ((c0 + 4 * g0) % 5 = 0 ∧ (c1 + 4 * g1) % 5 = 0) → ∀ Q', sd_bb Q' → Q' 0 = sd_t 1 0 0 → wX_tryFactor_24 post x1 (nI 2) n 1 0 f0 f1 f2 a1 (sd_q Q') a3 a4 a5 a6 a7)
    (hn : ¬ ((c0 + 4 * g0) % 5 = 0 ∧ (c1 + 4 * g1) % 5 = 0) → ∀ Q', sd_bb Q' → Q' 0 = sd_t c0 c1 1 → wX_tryFactor_24 post x1 (nI 2) n x3 0 f0 f1 f2 a1 (sd_q Q') a3 a4 a5 a6 a7) :
    wX_tryFactor_24 post x1 (nI 2) (n + 1) x3 1 f0 f1 f2 a1 (sd_q Q) a3 a4 a5 a6 a7 := by
  have hT : sd_b (sd_t 1 0 0) := sd_bt (by decide) (by decide) (by decide)
  by_cases e : (c0 + 4 * g0) % 5 = 0 ∧ (c1 + 4 * g1) % 5 = 0
  · refine sd_tg1 (sd_t 1 0 0) hq hT (fun P hP => sd_div22 c0 c1 g0 g1 hq h0 h1 (by rw [e.1, e.2]; exact hP)) (fun Q' hq' h0' h1' => ?_)
    exact sd_deg00 0 hq' h0' (pk_lt 0 2 (fun _ => hz e Q' hq' h0') (fun z => absurd z (by omega)))
  · exact sd_tg0 (sd_t 1 0 0) _ _ hq hT (sd_md _) (sd_md _) e (fun P hP => sd_div22 c0 c1 g0 g1 hq h0 h1 hP) (fun Q' hq' h0' => hn e Q' hq' (h0'.trans h0))
theorem sd_try {x0 x1 : Int32} (m : Nat × Nat × Nat) (num dg fc : Nat) (hm : sd_mo m) (hdg : (dg = 1 ∧ 5 ≤ num ∧ num < 10) ∨ (dg = 2 ∧ 25 ≤ num ∧ num < 50)) (hq : sd_bb Q) (h0 : Q 0 = sd_T m) (hfc : fc < 4)
    (H0 : (sd_tr m num dg).2 = false → ∀ Q', sd_bb Q' → Q' 0 = sd_T (sd_tr m num dg).1 → post (f0, nI fc, f2, a1, sd_q Q', a3, a4, a5, a6, a7))
    (H1 : (sd_tr m num dg).2 = true → ∀ Q', sd_bb Q' → Q' 0 = sd_T (sd_tr m num dg).1 → post (f0, nI (fc + 1), f2, a1, sd_q Q', upd a3 fc (nI num), upd a4 fc (nI dg), a5, a6, a7))
    (hx0 : x0 = nI num := by rfl) (hx1 : x1 = nI dg := by rfl) :
    wpX_tryFactor post (f0, nI fc, f2, a1, sd_q Q, a3, a4, a5, a6, a7) x0 x1 := by
  subst hx0 hx1
  have hnum : num < 125 := by omega
  refine sd_load 1 num hnum ?_
  have hb : sd_bb (sd_v Q 1 (sd_t (num % 5) (num / 5 % 5) (num / 25))) := sd_bv hq (sd_bt (sd_md _) (sd_md _) (by omega))
  have hQ0 : sd_v Q 1 (sd_t (num % 5) (num / 5 % 5) (num / 25)) 0 = sd_T m := by rw [sd_vn (by decide), h0]
  obtain ⟨c0, c1, c2⟩ := m
  rcases hm with e2 | ⟨e2, e1⟩ | ⟨e2, e1, e0⟩
  · have e2 : c2 = 1 := e2
    subst e2
    refine sd_deg2 0 c0 c1 hb hQ0 (pk_lt 2 dg (fun z => absurd z (by omega)) (fun _ => ⟨0 + 1 + 1 + 1, ?_⟩))
    rcases hdg with ⟨d1, d2, d3⟩ | ⟨d1, d2, d3⟩
    · subst d1
      have hQ1 : sd_v Q 1 (sd_t (num % 5) (num / 5 % 5) (num / 25)) 1 = sd_t (num % 5) 1 0 := by rw [sd_vs, show num / 5 % 5 = 1 by omega, show num / 25 = 0 by omega]
      rw [sd_tr21] at H0 H1
      refine sd_tL2 c0 c1 (num % 5) hb hQ0 hQ1 (fun e Q' hq' h0' h1' => ?_) (fun e Q' hq' h0' => ?_)
      · rw [if_pos e] at H0 H1
        refine sd_tL1 _ (num % 5) hq' h0' h1' (fun e' Q'' hq'' h0'' => ?_) (fun e' Q'' hq'' h0'' => ?_)
        · unfold sd_r1 at H1
          rw [if_pos e'] at H1
          exact sd_tx1 fc num 1 hfc (by omega) (by decide) (H1 rfl Q'' hq'' h0'')
        · unfold sd_r1 at H1
          rw [if_neg e'] at H1
          exact sd_tx1 fc num 1 hfc (by omega) (by decide) (H1 rfl Q'' hq'' h0'')
      · rw [if_neg e] at H0
        exact sd_tx0 (H0 rfl Q' hq' h0')
    · subst d1
      have hQ1 : sd_v Q 1 (sd_t (num % 5) (num / 5 % 5) (num / 25)) 1 = sd_t (num % 5) (num / 5 % 5) 1 := by rw [sd_vs, show num / 25 = 1 by omega]
      rw [sd_tr22] at H0 H1
      refine sd_tL3 c0 c1 (num % 5) (num / 5 % 5) hb hQ0 hQ1 (fun e Q' hq' h0' => ?_) (fun e Q' hq' h0' => ?_)
      · rw [if_pos e] at H1
        exact sd_tx1 fc num 2 hfc (by omega) (by decide) (H1 rfl Q' hq' h0')
      · rw [if_neg e] at H0
        exact sd_tx0 (H0 rfl Q' hq' h0')
  · have e2 : c2 = 0 := e2
    have e1 : c1 = 1 := e1
    subst e2 e1
    refine sd_deg1 0 c0 hb hQ0 (pk_lt 1 dg (fun z => ⟨0 + 1, ?_⟩) (fun z => ⟨0 + 1 + 1, ?_⟩))
    · have d1 : dg = 2 := by omega
      subst d1
      rw [sd_tr12] at H0
      exact sd_tx0 (H0 rfl _ hb hQ0)
    · have d1 : dg = 1 := by omega
      subst d1
      have hQ1 : sd_v Q 1 (sd_t (num % 5) (num / 5 % 5) (num / 25)) 1 = sd_t (num % 5) 1 0 := by rw [sd_vs, show num / 5 % 5 = 1 by omega, show num / 25 = 0 by omega]
      rw [sd_tr11] at H0 H1
      refine sd_tL1 c0 (num % 5) hb hQ0 hQ1 (fun e' Q'' hq'' h0'' => ?_) (fun e' Q'' hq'' h0'' => ?_)
      · unfold sd_r1 at H1
        rw [if_pos e'] at H1
        exact sd_tx1 fc num 1 hfc (by omega) (by decide) (H1 rfl Q'' hq'' h0'')
      · unfold sd_r1 at H0
        rw [if_neg e'] at H0
        exact sd_tx0 (H0 rfl Q'' hq'' h0'')
  · have e2 : c2 = 0 := e2
    have e1 : c1 = 0 := e1
    have e0 : c0 = 1 := e0
    subst e2 e1 e0
    rw [sd_tr0] at H0
    exact sd_deg00 0 hb hQ0 (pk_lt 0 dg (fun _ => ⟨0 + 1, sd_tx0 (H0 rfl _ hb hQ0)⟩) (fun z => absurd z (by omega)))
end
end
section
/-! ===== findFactors ===== -/
def sd_step (x : (Nat × Nat × Nat) × List (Nat × Nat)) (num dg : Nat) : (Nat × Nat × Nat) × List (Nat × Nat) := ((sd_tr x.1 num dg).1, if (sd_tr x.1 num dg).2 = true then x.2 ++ [(num, dg)] else x.2)
def sd_f1 (c0 c1 : Nat) : Nat → (Nat × Nat × Nat) × List (Nat × Nat)
  | 0 => ((c0, c1, 1), [])
  | k + 1 => sd_step (sd_f1 c0 c1 k) (5 + k) 1
def sd_f2 (c0 c1 : Nat) : Nat → (Nat × Nat × Nat) × List (Nat × Nat)
  | 0 => sd_f1 c0 c1 5
  | k + 1 => sd_step (sd_f2 c0 c1 k) (25 + k) 2
def sd_fl (c0 c1 : Nat) : List (Nat × Nat) := (sd_f2 c0 c1 25).2
theorem sd_ok1 : ∀ c0, c0 < 5 → ∀ c1, c1 < 5 → ∀ k, k < 6 → sd_mo (sd_f1 c0 c1 k).1 ∧ (sd_f1 c0 c1 k).2.length < 3 := by decide +kernel
theorem sd_ok2 : ∀ c0, c0 < 5 → ∀ c1, c1 < 5 → ∀ k, k < 26 → sd_mo (sd_f2 c0 c1 k).1 ∧ (sd_f2 c0 c1 k).2.length < 3 := by decide +kernel
theorem sd_ok3 : ∀ c0, c0 < 5 → ∀ c1, c1 < 5 → (sd_f2 c0 c1 25).1 = (1, 0, 0) := by decide +kernel
def sd_R (l : List (Nat × Nat)) (a3 a4 : Nat → Int32) : Prop := ∀ i x, l[i]? = some x → a3 i = nI x.1 ∧ a4 i = nI x.2
theorem sd_R0 {a3 a4 : Nat → Int32} : sd_R [] a3 a4 := fun i x h => by simp at h
theorem sd_Ra {l : List (Nat × Nat)} {a3 a4 : Nat → Int32} (num dg : Nat) (h : sd_R l a3 a4) : sd_R (l ++ [(num, dg)]) (upd a3 l.length (nI num)) (upd a4 l.length (nI dg)) := by
  intro i x hx
  rw [List.getElem?_append] at hx
  by_cases e : i < l.length
  · rw [if_pos e] at hx
    rw [pk_un (by omega), pk_un (by omega)]
    exact h i x hx
  · rw [if_neg e] at hx
    by_cases e2 : i = l.length
    · subst e2
      rw [Nat.sub_self] at hx
      have ex : (num, dg) = x := by simpa using hx
      subst ex
      rw [pk_us, pk_us]
      exact ⟨rfl, rfl⟩
    · have : i - l.length = (i - l.length - 1) + 1 := by omega
      rw [this] at hx
      simp at hx
section
variable {f0 f1 f2 : Int32} {M Q : Nat → Nat → Nat} {a1 a2 a3 a4 a5 a6 a7 : Nat → Int32} {post : St2 → Prop}
/-- what holds of the fields behind a number of trials -/
def sd_In (x : (Nat × Nat × Nat) × List (Nat × Nat)) (s : Int32 × (Nat → Int32) × (Nat → Int32) × (Nat → Int32)) : Prop :=
  ∃ Q, sd_bb Q ∧ Q 0 = sd_T x.1 ∧ s.1 = nI x.2.length ∧ s.2.1 = sd_q Q ∧ sd_R x.2 s.2.2.1 s.2.2.2
theorem sd_tryI {x0 x1 : Int32} (x : (Nat × Nat × Nat) × List (Nat × Nat)) (s : Int32 × (Nat → Int32) × (Nat → Int32) × (Nat → Int32)) (num dg : Nat) (hI : sd_In x s) (hm : sd_mo x.1) (hl : x.2.length < 3) (hdg : (dg = 1 ∧ 5 ≤ num ∧ num < 10) ∨ (dg = 2 ∧ 25 ≤ num ∧ num < 50))
    (H : ∀ s', sd_In (sd_step x num dg) s' → post (f0, s'.1, f2, a1, s'.2.1, s'.2.2.1, s'.2.2.2, a5, a6, a7)) (hx0 : x0 = nI num := by rfl) (hx1 : x1 = nI dg := by rfl) :
    wpX_tryFactor post (f0, s.1, f2, a1, s.2.1, s.2.2.1, s.2.2.2, a5, a6, a7) x0 x1 := by
  obtain ⟨s1, s2, s3, s4⟩ := s
  obtain ⟨Q, hq, h0, e1, e2, hR⟩ := hI
  have e1 : s1 = nI x.2.length := e1
  have e2 : s2 = sd_q Q := e2
  subst e1 e2
  refine sd_try x.1 num dg x.2.length hm hdg hq h0 (by omega) (fun e Q' hq' h0' => ?_) (fun e Q' hq' h0' => ?_) hx0 hx1
  · refine H (nI x.2.length, sd_q Q', s3, s4) ⟨Q', hq', h0', ?_, rfl, ?_⟩
    · show nI x.2.length = nI (if (sd_tr x.1 num dg).2 = true then x.2 ++ [(num, dg)] else x.2).length
      rw [if_neg (by rw [e]; decide)]
    · show sd_R (if (sd_tr x.1 num dg).2 = true then x.2 ++ [(num, dg)] else x.2) s3 s4
      rw [if_neg (by rw [e]; decide)]
      exact hR
  · refine H (nI (x.2.length + 1), sd_q Q', upd s3 x.2.length (nI num), upd s4 x.2.length (nI dg)) ⟨Q', hq', h0', ?_, rfl, ?_⟩
    · show nI (x.2.length + 1) = nI (if (sd_tr x.1 num dg).2 = true then x.2 ++ [(num, dg)] else x.2).length
      rw [if_pos e, List.length_append]
      rfl
    · show sd_R (if (sd_tr x.1 num dg).2 = true then x.2 ++ [(num, dg)] else x.2) (upd s3 x.2.length (nI num)) (upd s4 x.2.length (nI dg))
      rw [if_pos e]
      exact sd_Ra num dg hR
theorem sd_find (c0 c1 : Nat) (hc0 : c0 < 5) (hc1 : c1 < 5) (hq : sd_bb Q) (h0 : Q 0 = sd_t c0 c1 1)
    (H : ∀ Q' b3 b4, sd_bb Q' → sd_R (sd_fl c0 c1) b3 b4 → post (f0, nI (sd_fl c0 c1).length, f2, a1, sd_q Q', b3, b4, a5, a6, a7)) :
    wpX_findFactors post (f0, f1, f2, a1, sd_q Q, a3, a4, a5, a6, a7) := by
  have second : ∀ s, sd_In (sd_f2 c0 c1 0) s → ∃ n, wX_findFactors_28 post n (nI 25) f0 s.1 f2 a1 s.2.1 s.2.2.1 s.2.2.2 a5 a6 a7 := by
    intro s hs
    refine pk_loop (fun n i s => wX_findFactors_28 post n (nI i) f0 s.1 f2 a1 s.2.1 s.2.2.1 s.2.2.2 a5 a6 a7) (fun i s => 25 ≤ i ∧ sd_In (sd_f2 c0 c1 (i - 25)) s) 50 25 s (by omega) ⟨by omega, hs⟩ ?_ ?_
    · intro n s hI
      obtain ⟨s1, s2, s3, s4⟩ := s
      obtain ⟨_, Q', hq', h0', e1, e2, hR⟩ := hI
      have e1 : s1 = nI (sd_f2 c0 c1 25).2.length := e1
      have e2 : s2 = sd_q Q' := e2
      have hR : sd_R (sd_fl c0 c1) s3 s4 := hR
      have h0' : Q' 0 = sd_T (sd_f2 c0 c1 25).1 := h0'
      rw [sd_ok3 c0 hc0 c1 hc1] at h0'
      subst e1 e2
      refine pk_le 50 50 (fun _ => ?_) (fun z => absurd z (by omega))
      exact sd_deg00 0 hq' h0' (pk_le 0 0 (fun _ => H Q' s3 s4 hq' hR) (fun z => absurd z (by omega)))
    · intro n i s hi hI hw
      obtain ⟨h25, hI⟩ := hI
      obtain ⟨m1, m2⟩ := sd_ok2 c0 hc0 c1 hc1 (i - 25) (by omega)
      refine pk_le 50 i (fun z => absurd z (by omega)) (fun _ => ?_)
      refine sd_tryI (sd_f2 c0 c1 (i - 25)) s i 2 hI m1 m2 (Or.inr ⟨rfl, h25, hi⟩) (fun s' hs' => nm_r (nI_1 i) (hw s' ⟨by omega, ?_⟩))
      rw [show i + 1 - 25 = (i - 25) + 1 by omega]
      show sd_In (sd_step (sd_f2 c0 c1 (i - 25)) (25 + (i - 25)) 2) s'
      rw [show 25 + (i - 25) = i by omega]
      exact hs'
  have first : ∀ s, sd_In (sd_f1 c0 c1 0) s → ∃ n, wX_findFactors_7 post n (nI 5) f0 s.1 f2 a1 s.2.1 s.2.2.1 s.2.2.2 a5 a6 a7 := by
    intro s hs
    refine pk_loop (fun n i s => wX_findFactors_7 post n (nI i) f0 s.1 f2 a1 s.2.1 s.2.2.1 s.2.2.2 a5 a6 a7) (fun i s => 5 ≤ i ∧ sd_In (sd_f1 c0 c1 (i - 5)) s) 10 5 s (by omega) ⟨by omega, hs⟩ ?_ ?_
    · intro n s hI
      exact pk_le 10 10 (fun _ => second s hI.2) (fun z => absurd z (by omega))
    · intro n i s hi hI hw
      obtain ⟨h5, hI⟩ := hI
      obtain ⟨m1, m2⟩ := sd_ok1 c0 hc0 c1 hc1 (i - 5) (by omega)
      refine pk_le 10 i (fun z => absurd z (by omega)) (fun _ => ?_)
      refine sd_tryI (sd_f1 c0 c1 (i - 5)) s i 1 hI m1 m2 (Or.inl ⟨rfl, h5, hi⟩) (fun s' hs' => nm_r (nI_1 i) (hw s' ⟨by omega, ?_⟩))
      rw [show i + 1 - 5 = (i - 5) + 1 by omega]
      show sd_In (sd_step (sd_f1 c0 c1 (i - 5)) (5 + (i - 5)) 1) s'
      rw [show 5 + (i - 5) = i by omega]
      exact hs'
  exact first (0, sd_q Q, a3, a4) ⟨Q, hq, h0, rfl, rfl, sd_R0⟩
end
end
section
/-! ===== countBlocks(0, f), multiplyPowers, buildInvariants ===== -/
def sd_rT (X : Nat × Nat × Nat × Nat) : Nat := sd_rk X.1 X.2.1 X.2.2.1 X.2.2.2
theorem sd_fx (f k : Nat) : 4 * nI f + nI k = nI (4 * f + k) := by
  show nI 4 * nI f + nI k = _
  rw [pk_mul, nI_add]
section
variable {f0 f1 f2 : Int32} {M Q : Nat → Nat → Nat} {a1 a2 a3 a4 a5 a6 a7 : Nat → Int32} {post : St2 → Prop}
theorem sd_cb1 {n : Nat} (f k bef dg e : Nat) (X T : Nat × Nat × Nat × Nat) (hf : f < 4) (hk : k < 4) (hM : sd_bb M) (hX : sd_at (M 4) = X) (hT : sd_at (M 7) = T) (h4 : a4 f = nI dg) (he : sd_rT X = e) (hle : e ≤ bef) (hbef : bef ≤ 2) (hdg : 0 < dg) (hdg2 : dg ≤ 2)
    (h : ∀ M', sd_bb M' → M' 0 = M 0 → sd_at (M' 7) = T → sd_at (M' 4) = sd_mm X T → wX_countBlocks_32 post (nI f) n (nI e) (nI (k + 1)) (nI 2) f1 f2 (sd_e M') a2 a3 a4 (upd a5 (4 * f + k) (nI ((bef - e) / dg))) a6 a7) :
    wX_countBlocks_32 post (nI f) (n + 1) (nI bef) (nI k) (nI 2) f1 f2 (sd_e M) a2 a3 a4 a5 a6 a7 := by
  have hr : sd_rk (M 4 0) (M 4 1) (M 4 4) (M 4 5) = e := by rw [← he, ← hX]; rfl
  have d4 : a4 (nI f).toNatClampNeg = nI dg := by rw [nI_clamp (by omega), h4]
  have hq2 : (bef - e) / dg < 128 := Nat.lt_of_le_of_lt (Nat.div_le_self _ _) (by omega)
  have v : ((nI bef - nI e) / a4 (nI f).toNatClampNeg).toInt8.toInt32 = nI ((bef - e) / dg) := by
    rw [d4, pk_sub hle, pk_div (by omega) hdg (by omega)]
    exact sd_by _ hq2
  refine pk_le 4 k (fun z => absurd z (by omega)) (fun _ => ?_)
  refine sd_rank hM (fun A B hA hB => ?_)
  rw [hr]
  have hM1 : sd_bb (sd_v (sd_v M 5 A) 6 B) := sd_bv (sd_bv hM hA) hB
  refine ⟨pk_in f 4 hf, by rw [d4]; exact nI_ne0 hdg (by omega), pk_in (4 * f + k) 16 (by omega) (sd_fx f k), nm_r (e' := upd a5 (4 * f + k) (nI ((bef - e) / dg))) (by rw [v, sd_fx, nI_clamp (by omega)]) ?_⟩
  refine sd_mult hM1 (fun K hK eK => nm_r (nI_1 k) (h _ (sd_bv (sd_bv hM1 hK) hK) ?_ ?_ ?_))
  · rw [sd_vn (by decide), sd_vn (by decide), sd_vn (by decide), sd_vn (by decide)]
  · rw [sd_vn (by decide), sd_vn (by decide), sd_vn (by decide), sd_vn (by decide), hT]
  · rw [sd_vs, eK, sd_vn (show 4 ≠ 6 by decide), sd_vn (show 4 ≠ 5 by decide), sd_vn (show 7 ≠ 6 by decide), sd_vn (show 7 ≠ 5 by decide), hX, hT]
theorem sd_cblk {x0 x1 : Int32} (f num dg e0 e1 e2 e3 : Nat) (X : Nat × Nat × Nat × Nat) (hf : f < 4) (hM : sd_bb M) (hq : sd_bb Q) (h3 : a3 f = nI num) (h4 : a4 f = nI dg) (hn : num < 125) (hdg : 0 < dg) (hdg2 : dg ≤ 2)
    (hX : sd_ev (sd_at (M 0)) (num % 5) (num / 5 % 5) (num / 25) = X) (r0 : sd_rT X = e0) (r1 : sd_rT (sd_mm X X) = e1) (r2 : sd_rT (sd_mm (sd_mm X X) X) = e2) (r3 : sd_rT (sd_mm (sd_mm (sd_mm X X) X) X) = e3)
    (l0 : e0 ≤ 2) (l1 : e1 ≤ e0) (l2 : e2 ≤ e1) (l3 : e3 ≤ e2)
    (H : ∀ M' Q', sd_bb M' → sd_bb Q' → M' 0 = M 0 → post (nI 2, f1, f2, sd_e M', sd_q Q', a3, a4, upd (upd (upd (upd a5 (4 * f + 0) (nI ((2 - e0) / dg))) (4 * f + 1) (nI ((e0 - e1) / dg))) (4 * f + 2) (nI ((e1 - e2) / dg))) (4 * f + 3) (nI ((e2 - e3) / dg)), a6, a7))
    (hx0 : x0 = nI 0 := by rfl) (hx1 : x1 = nI f := by rfl) :
    wpX_countBlocks post (nI 2, f1, f2, sd_e M, sd_q Q, a3, a4, a5, a6, a7) x0 x1 := by
  subst hx0 hx1
  refine ⟨pk_in f 4 hf, ?_⟩
  refine sd_load 1 num hn ?_ (by decide) rfl (by rw [nI_clamp (by omega), h3])
  have hq1 : sd_bb (sd_v Q 1 (sd_t (num % 5) (num / 5 % 5) (num / 25))) := sd_bv hq (sd_bt (sd_md _) (sd_md _) (by omega))
  refine sd_eval hM hq1 (fun L K hL hK eK => ?_)
  rw [sd_vs, sd_hz3, hX] at eK
  have hM1 : sd_bb (sd_v (sd_v (sd_v M 7 (M 0)) 8 L) 4 K) := sd_bv (sd_bv (sd_bv hM (hM 0)) hL) hK
  refine sd_copy 7 4 hM1 ?_
  rw [sd_vs]
  have hM2 := sd_bv (p := 7) hM1 hK
  refine ⟨0 + 1 + 1 + 1 + 1 + 1, ?_⟩
  refine sd_cb1 f 0 2 dg e0 X X hf (by decide) hM2 (by rw [sd_vn (by decide), sd_vs, eK]) (by rw [sd_vs, eK]) h4 r0 l0 (by omega) hdg hdg2 (fun M3 b3 z3 t3 x3 => ?_)
  refine sd_cb1 f 1 e0 dg e1 (sd_mm X X) X hf (by decide) b3 x3 t3 h4 r1 l1 (by omega) hdg hdg2 (fun M4 b4 z4 t4 x4 => ?_)
  refine sd_cb1 f 2 e1 dg e2 (sd_mm (sd_mm X X) X) X hf (by decide) b4 x4 t4 h4 r2 l2 (by omega) hdg hdg2 (fun M5 b5 z5 t5 x5 => ?_)
  refine sd_cb1 f 3 e2 dg e3 (sd_mm (sd_mm (sd_mm X X) X) X) X hf (by decide) b5 x5 t5 h4 r3 l3 (by omega) hdg hdg2 (fun M6 b6 z6 t6 x6 => ?_)
  refine pk_le 4 4 (fun _ => H M6 _ b6 hq1 ?_) (fun z => absurd z (by omega))
  rw [z6, z5, z4, z3, sd_vn (by decide), sd_vn (by decide), sd_vn (by decide), sd_vn (by decide)]
/-! multiplyPowers -/
def sd_mp (C F : Nat → Nat) (b j : Nat) : Nat → Nat := if b ≤ j then C else sd_mS C F 10
theorem sd_mp1 {n : Nat} (f k j b : Nat) (hf : f < 4) (hk : k < 4) (hj : j < 4) (hb : b < 128) (hq : sd_bb Q) (h5 : a5 (4 * f + k) = nI b)
    (h : ∀ Q', sd_bb Q' → Q' 0 = sd_mp (Q 0) (Q 1) b j → Q' 1 = Q 1 → wX_multiplyPowers_13 post (nI f) (nI j) n (nI (k + 1)) f0 f1 f2 a1 (sd_q Q') a3 a4 a5 a6 a7) :
    wX_multiplyPowers_13 post (nI f) (nI j) (n + 1) (nI k) f0 f1 f2 a1 (sd_q Q) a3 a4 a5 a6 a7 := by
  refine pk_le 4 k (fun z => absurd z (by omega)) (fun _ => ⟨pk_in (4 * f + k) 16 (by omega) (sd_fx f k), ?_⟩)
  rw [sd_fx, nI_clamp (by omega), h5]
  refine pk_le b j (fun z => nm_r (nI_1 k) (h Q hq ?_ rfl)) (fun z => sd_mulP hq (nm_r (nI_1 k) (h _ (sd_bv (sd_bv hq (sd_mSb _ _ _)) (sd_mSb _ _ _)) ?_ ?_)))
  · exact (if_pos z).symm
  · rw [sd_vs]
    exact (if_neg (by omega)).symm
  · rw [sd_vn (by decide), sd_vn (by decide)]
theorem sd_mpow {x0 x1 : Int32} (f j num b0 b1 b2 b3 : Nat) (C F : Nat → Nat) (hf : f < 4) (hj : j < 4) (hq : sd_bb Q) (h3 : a3 f = nI num) (hn : num < 125) (hC : Q 0 = C) (hF : sd_t (num % 5) (num / 5 % 5) (num / 25) = F)
    (k0 : a5 (4 * f + 0) = nI b0) (k1 : a5 (4 * f + 1) = nI b1) (k2 : a5 (4 * f + 2) = nI b2) (k3 : a5 (4 * f + 3) = nI b3) (hb0 : b0 < 128) (hb1 : b1 < 128) (hb2 : b2 < 128) (hb3 : b3 < 128)
    (H : ∀ Q', sd_bb Q' → Q' 0 = sd_mp (sd_mp (sd_mp (sd_mp C F b0 j) F b1 j) F b2 j) F b3 j → post (f0, f1, f2, a1, sd_q Q', a3, a4, a5, a6, a7))
    (hx0 : x0 = nI f := by rfl) (hx1 : x1 = nI j := by rfl) :
    wpX_multiplyPowers post (f0, f1, f2, a1, sd_q Q, a3, a4, a5, a6, a7) x0 x1 := by
  subst hx0 hx1 hC hF
  refine ⟨pk_in f 4 hf, ?_⟩
  refine sd_load 1 num hn ?_ (by decide) rfl (by rw [nI_clamp (by omega), h3])
  have hq1 : sd_bb (sd_v Q 1 (sd_t (num % 5) (num / 5 % 5) (num / 25))) := sd_bv hq (sd_bt (sd_md _) (sd_md _) (by omega))
  refine ⟨0 + 1 + 1 + 1 + 1 + 1, ?_⟩
  refine sd_mp1 f 0 j b0 hf (by decide) hj hb0 hq1 k0 (fun Q2 q2 z2 y2 => ?_)
  rw [sd_vs] at y2
  rw [sd_vn (by decide), sd_vs] at z2
  refine sd_mp1 f 1 j b1 hf (by decide) hj hb1 q2 k1 (fun Q3 q3 z3 y3 => ?_)
  rw [y2] at y3
  rw [z2, y2] at z3
  refine sd_mp1 f 2 j b2 hf (by decide) hj hb2 q3 k2 (fun Q4 q4 z4 y4 => ?_)
  rw [y3] at y4
  rw [z3, y3] at z4
  refine sd_mp1 f 3 j b3 hf (by decide) hj hb3 q4 k3 (fun Q5 q5 z5 y5 => ?_)
  rw [z4, y4] at z5
  exact pk_le 4 4 (fun _ => H Q5 q5 z5) (fun z => absurd z (by omega))
/-! buildInvariants -/
theorem sd_bEnd {J50 : Int32 → Int32 → Int32 → Int32 → (Nat → Int32) → (Nat → Int32) → (Nat → Int32) → (Nat → Int32) → (Nat → Int32) → (Nat → Int32) → (Nat → Int32) → Prop} {n : Nat} {x2 : Int32} (fc ic j v : Nat) (hj : j < ic) (hic : ic ≤ 4) (hfc : fc ≤ 4) (hv : sd_na (Q 0) 10 = v) (hv2 : v < 128)
    (h : J50 (nI (j + 1)) f0 (nI fc) (nI ic) a1 (sd_q Q) a3 a4 a5 (upd a6 (ic - 1 - j) (nI v)) a7) (hx2 : x2 = nI fc := by rfl) :
    wX_buildInvariants_66 post J50 (nI j) (n + 1) x2 f0 (nI fc) (nI ic) a1 (sd_q Q) a3 a4 a5 a6 a7 := by
  subst hx2
  have x : (nI ic - 1) - nI j = nI (ic - 1 - j) := by
    rw [show (1 : Int32) = nI 1 from rfl, pk_sub (by omega), pk_sub (by omega)]
  refine pk_le fc fc (fun _ => ?_) (fun z => absurd z (by omega))
  refine sd_num 0 ?_
  rw [hv]
  exact ⟨pk_in (ic - 1 - j) 4 (by omega) x, nm_r (by rw [x, nI_clamp (by omega), sd_sh v hv2]) (nm_r (nI_1 j) h)⟩
theorem sd_bi1 {n : Nat} (j ic num b0 b1 b2 b3 v : Nat) (F : Nat → Nat) (hj : j < ic) (hic : ic ≤ 4) (hq : sd_bb Q) (h3 : a3 0 = nI num) (hn : num < 125) (hF : sd_t (num % 5) (num / 5 % 5) (num / 25) = F)
    (k0 : a5 0 = nI b0) (k1 : a5 1 = nI b1) (k2 : a5 2 = nI b2) (k3 : a5 3 = nI b3) (hb0 : b0 < 128) (hb1 : b1 < 128) (hb2 : b2 < 128) (hb3 : b3 < 128)
    (hv : sd_na (sd_mp (sd_mp (sd_mp (sd_mp (sd_t 1 0 0) F b0 j) F b1 j) F b2 j) F b3 j) 10 = v) (hv2 : v < 128)
    (h : ∀ Q', sd_bb Q' → wX_buildInvariants_50 post n (nI (j + 1)) f0 (nI 1) (nI ic) a1 (sd_q Q') a3 a4 a5 (upd a6 (ic - 1 - j) (nI v)) a7) :
    wX_buildInvariants_50 post (n + 1) (nI j) f0 (nI 1) (nI ic) a1 (sd_q Q) a3 a4 a5 a6 a7 := by
  refine pk_le ic j (fun z => absurd z (by omega)) (fun _ => ?_)
  refine sd_load 0 1 (by decide) ⟨0 + 1 + 1, ?_⟩
  have hq1 : sd_bb (sd_v Q 0 (sd_t (1 % 5) (1 / 5 % 5) (1 / 25))) := sd_bv hq (sd_bt (by decide) (by decide) (by decide))
  refine pk_le 1 0 (fun z => absurd z (by omega)) (fun _ => ?_)
  refine sd_mpow 0 j num b0 b1 b2 b3 (sd_t 1 0 0) F (by decide) (by omega) hq1 h3 hn sd_vs hF k0 k1 k2 k3 hb0 hb1 hb2 hb3 (fun Q' q' z' => nm_r (nI_1 0) ?_)
  exact sd_bEnd 1 ic j v hj hic (by decide) (by rw [z', hv]) hv2 (h Q' q')
theorem sd_bi2 {n : Nat} (j ic num num' v : Nat) (F F' : Nat → Nat) (hj : j < ic) (hic : ic ≤ 4) (hq : sd_bb Q) (h3 : a3 0 = nI num) (h3' : a3 1 = nI num') (hn : num < 125) (hn' : num' < 125) (hF : sd_t (num % 5) (num / 5 % 5) (num / 25) = F) (hF' : sd_t (num' % 5) (num' / 5 % 5) (num' / 25) = F')
    (b : Nat × Nat × Nat × Nat) (b' : Nat × Nat × Nat × Nat)
    (k0 : a5 0 = nI b.1) (k1 : a5 1 = nI b.2.1) (k2 : a5 2 = nI b.2.2.1) (k3 : a5 3 = nI b.2.2.2) (hb0 : b.1 < 128) (hb1 : b.2.1 < 128) (hb2 : b.2.2.1 < 128) (hb3 : b.2.2.2 < 128)
    (k4 : a5 4 = nI b'.1) (k5 : a5 5 = nI b'.2.1) (k6 : a5 6 = nI b'.2.2.1) (k7 : a5 7 = nI b'.2.2.2) (hb4 : b'.1 < 128) (hb5 : b'.2.1 < 128) (hb6 : b'.2.2.1 < 128) (hb7 : b'.2.2.2 < 128)
    (hv : sd_na (sd_mp (sd_mp (sd_mp (sd_mp (sd_mp (sd_mp (sd_mp (sd_mp (sd_t 1 0 0) F b.1 j) F b.2.1 j) F b.2.2.1 j) F b.2.2.2 j) F' b'.1 j) F' b'.2.1 j) F' b'.2.2.1 j) F' b'.2.2.2 j) 10 = v) (hv2 : v < 128)
    (h : ∀ Q', sd_bb Q' → wX_buildInvariants_50 post n (nI (j + 1)) f0 (nI 2) (nI ic) a1 (sd_q Q') a3 a4 a5 (upd a6 (ic - 1 - j) (nI v)) a7) :
    wX_buildInvariants_50 post (n + 1) (nI j) f0 (nI 2) (nI ic) a1 (sd_q Q) a3 a4 a5 a6 a7 := by
  refine pk_le ic j (fun z => absurd z (by omega)) (fun _ => ?_)
  refine sd_load 0 1 (by decide) ⟨0 + 1 + 1 + 1, ?_⟩
  have hq1 : sd_bb (sd_v Q 0 (sd_t (1 % 5) (1 / 5 % 5) (1 / 25))) := sd_bv hq (sd_bt (by decide) (by decide) (by decide))
  refine pk_le 2 0 (fun z => absurd z (by omega)) (fun _ => ?_)
  refine sd_mpow 0 j num b.1 b.2.1 b.2.2.1 b.2.2.2 (sd_t 1 0 0) F (by decide) (by omega) hq1 h3 hn sd_vs hF k0 k1 k2 k3 hb0 hb1 hb2 hb3 (fun Q2 q2 z2 => nm_r (nI_1 0) ?_)
  refine pk_le 2 1 (fun z => absurd z (by omega)) (fun _ => ?_)
  refine sd_mpow 1 j num' b'.1 b'.2.1 b'.2.2.1 b'.2.2.2 _ F' (by decide) (by omega) q2 h3' hn' z2 hF' k4 k5 k6 k7 hb4 hb5 hb6 hb7 (fun Q' q' z' => nm_r (nI_1 1) ?_)
  exact sd_bEnd 2 ic j v hj hic (by decide) (by rw [z', hv]) hv2 (h Q' q')
theorem sd_b50 {n : Nat} {x1 : Int32} (ic : Nat) (hic : ic ≤ 4) (h : post (f0, f1, nI ic, a1, a2, a3, a4, a5, a6, a7)) (hx1 : x1 = nI ic := by rfl) : wX_buildInvariants_50 post (n + 1) x1 f0 f1 (nI ic) a1 a2 a3 a4 a5 a6 a7 := by
  subst hx1
  exact pk_le ic ic (fun _ => h) (fun z => absurd z (by omega))
theorem sd_b71 (b : Nat) (hb : 0 < b) (hb2 : b < 128) (k0 : a5 0 = nI b) (h : ∃ n, wX_buildInvariants_50 post n 0 f0 (nI 1) (nI b) a1 a2 a3 a4 a5 a6 a7) : wpX_buildInvariants post (f0, nI 1, f2, a1, a2, a3, a4, a5, a6, a7) := by
  have k0' : a5 (4 * 0 : Int32).toNatClampNeg = nI b := k0
  refine ⟨0 + 1 + 1, ?_⟩
  refine pk_le 1 0 (fun z => absurd z (by omega)) (fun _ => ⟨pk_in 0 16 (by decide), ?_⟩)
  rw [k0']
  refine pk_le b 0 (fun z => absurd z (by omega)) (fun _ => ⟨pk_in 0 16 (by decide), nm_e (nm_r (nI_1 0) ?_)⟩)
  exact pk_le 1 1 (fun _ => h) (fun z => absurd z (by omega))
theorem sd_b72 (k0 : a5 0 = nI 1) (k4 : a5 4 = nI 1) (h : ∃ n, wX_buildInvariants_50 post n 0 f0 (nI 2) (nI 1) a1 a2 a3 a4 a5 a6 a7) : wpX_buildInvariants post (f0, nI 2, f2, a1, a2, a3, a4, a5, a6, a7) := by
  have k0' : a5 (4 * 0 : Int32).toNatClampNeg = nI 1 := k0
  have k4' : a5 (4 * nI (0 + 1)).toNatClampNeg = nI 1 := k4
  refine ⟨0 + 1 + 1 + 1, ?_⟩
  refine pk_le 2 0 (fun z => absurd z (by omega)) (fun _ => ⟨pk_in 0 16 (by decide), ?_⟩)
  rw [k0']
  refine pk_le 1 0 (fun z => absurd z (by omega)) (fun _ => ⟨pk_in 0 16 (by decide), nm_e (nm_r (nI_1 0) ?_)⟩)
  refine pk_le 2 1 (fun z => absurd z (by omega)) (fun _ => ⟨pk_in 4 16 (by decide), ?_⟩)
  rw [k4']
  refine pk_le 1 1 (fun _ => nm_r (nI_1 1) ?_) (fun z => absurd z (by omega))
  exact pk_le 2 2 (fun _ => h) (fun z => absurd z (by omega))
end
end
section
/-! ===== the plain law: 625 cases ===== -/
def sd_e4 (T : Nat × Nat × Nat × Nat) (num : Nat) : Nat × Nat × Nat × Nat :=
  (sd_rT (sd_ev T (num % 5) (num / 5 % 5) (num / 25)), sd_rT (sd_mm (sd_ev T (num % 5) (num / 5 % 5) (num / 25)) (sd_ev T (num % 5) (num / 5 % 5) (num / 25))), sd_rT (sd_mm (sd_mm (sd_ev T (num % 5) (num / 5 % 5) (num / 25)) (sd_ev T (num % 5) (num / 5 % 5) (num / 25))) (sd_ev T (num % 5) (num / 5 % 5) (num / 25))), sd_rT (sd_mm (sd_mm (sd_mm (sd_ev T (num % 5) (num / 5 % 5) (num / 25)) (sd_ev T (num % 5) (num / 5 % 5) (num / 25))) (sd_ev T (num % 5) (num / 5 % 5) (num / 25))) (sd_ev T (num % 5) (num / 5 % 5) (num / 25))))
def sd_b4 (e : Nat × Nat × Nat × Nat) (d : Nat) : Nat × Nat × Nat × Nat := ((2 - e.1) / d, (e.1 - e.2.1) / d, (e.2.1 - e.2.2.1) / d, (e.2.2.1 - e.2.2.2) / d)
def sd_mp4 (C : Nat → Nat) (num : Nat) (b : Nat × Nat × Nat × Nat) (j : Nat) : Nat → Nat :=
  sd_mp (sd_mp (sd_mp (sd_mp C (sd_t (num % 5) (num / 5 % 5) (num / 25)) b.1 j) (sd_t (num % 5) (num / 5 % 5) (num / 25)) b.2.1 j) (sd_t (num % 5) (num / 5 % 5) (num / 25)) b.2.2.1 j) (sd_t (num % 5) (num / 5 % 5) (num / 25)) b.2.2.2 j
def sd_sq (d : Nat) (b : Nat × Nat × Nat × Nat) : Nat := d * b.1 * b.1 + d * b.2.1 * b.2.1 + d * b.2.2.1 * b.2.2.1 + d * b.2.2.2 * b.2.2.2
def sd_fok (T : Nat × Nat × Nat × Nat) (x : Nat × Nat) : Bool :=
  decide (x.1 < 50 ∧ 0 < x.2 ∧ x.2 ≤ 2 ∧ (sd_e4 T x.1).1 ≤ 2 ∧ (sd_e4 T x.1).2.1 ≤ (sd_e4 T x.1).1 ∧ (sd_e4 T x.1).2.2.1 ≤ (sd_e4 T x.1).2.1 ∧ (sd_e4 T x.1).2.2.2 ≤ (sd_e4 T x.1).2.2.1)
/-- a number times the identity -/
def sd_nb (T : Nat × Nat × Nat × Nat) : Bool := decide (T.2.1 = 0 ∧ T.2.2.1 = 0 ∧ T.1 = T.2.2.2)
def sd_one (T : Nat × Nat × Nat × Nat) (c : Nat) (x : Nat × Nat) (b : Nat × Nat × Nat × Nat) : Bool :=
  sd_fok T x && (if sd_nb T = true then decide (b.1 = 2 ∧ sd_na (sd_mp4 (sd_t 1 0 0) x.1 b 0) 10 = 5 + (5 - T.1) % 5 ∧ sd_na (sd_mp4 (sd_t 1 0 0) x.1 b 1) 10 = 5 + (5 - T.1) % 5 ∧ sd_sq x.2 b = 4)
    else decide (b.1 = 1 ∧ sd_na (sd_mp4 (sd_t 1 0 0) x.1 b 0) 10 = c ∧ sd_sq x.2 b = 2))
def sd_two (T : Nat × Nat × Nat × Nat) (c : Nat) (x y : Nat × Nat) (b b' : Nat × Nat × Nat × Nat) : Bool :=
  sd_fok T x && (sd_fok T y && (! sd_nb T && decide (b.1 = 1 ∧ b'.1 = 1 ∧ sd_na (sd_mp4 (sd_mp4 (sd_t 1 0 0) x.1 b 0) y.1 b' 0) 10 = c ∧ sd_sq x.2 b + sd_sq y.2 b' = 2)))
def sd_all (T : Nat × Nat × Nat × Nat) (c : Nat) (l : List (Nat × Nat)) : Bool :=
  decide (25 ≤ c ∧ c < 50) && ((decide (l.length = 1) && sd_one T c (l.getD 0 (0, 0)) (sd_b4 (sd_e4 T (l.getD 0 (0, 0)).1) (l.getD 0 (0, 0)).2)) ||
    (decide (l.length = 2) && sd_two T c (l.getD 0 (0, 0)) (l.getD 1 (0, 0)) (sd_b4 (sd_e4 T (l.getD 0 (0, 0)).1) (l.getD 0 (0, 0)).2) (sd_b4 (sd_e4 T (l.getD 1 (0, 0)).1) (l.getD 1 (0, 0)).2)))
theorem sd_pure0 : ∀ q, q < 5 → ∀ r, r < 5 → ∀ s, s < 5 → sd_all (0, q, r, s) (sd_cn 0 q r s) (sd_fl (sd_cn 0 q r s % 5) (sd_cn 0 q r s / 5 % 5)) = true := by decide +kernel
theorem sd_pure1 : ∀ q, q < 5 → ∀ r, r < 5 → ∀ s, s < 5 → sd_all (1, q, r, s) (sd_cn 1 q r s) (sd_fl (sd_cn 1 q r s % 5) (sd_cn 1 q r s / 5 % 5)) = true := by decide +kernel
theorem sd_pure2 : ∀ q, q < 5 → ∀ r, r < 5 → ∀ s, s < 5 → sd_all (2, q, r, s) (sd_cn 2 q r s) (sd_fl (sd_cn 2 q r s % 5) (sd_cn 2 q r s / 5 % 5)) = true := by decide +kernel
theorem sd_pure3 : ∀ q, q < 5 → ∀ r, r < 5 → ∀ s, s < 5 → sd_all (3, q, r, s) (sd_cn 3 q r s) (sd_fl (sd_cn 3 q r s % 5) (sd_cn 3 q r s / 5 % 5)) = true := by decide +kernel
theorem sd_pure4 : ∀ q, q < 5 → ∀ r, r < 5 → ∀ s, s < 5 → sd_all (4, q, r, s) (sd_cn 4 q r s) (sd_fl (sd_cn 4 q r s % 5) (sd_cn 4 q r s / 5 % 5)) = true := by decide +kernel
theorem sd_pure {p q r s : Nat} (hp : p < 5) (hq : q < 5) (hr : r < 5) (hs : s < 5) : sd_all (p, q, r, s) (sd_cn p q r s) (sd_fl (sd_cn p q r s % 5) (sd_cn p q r s / 5 % 5)) = true := by
  have : p = 0 ∨ p = 1 ∨ p = 2 ∨ p = 3 ∨ p = 4 := by omega
  rcases this with rfl | rfl | rfl | rfl | rfl
  · exact sd_pure0 q hq r hr s hs
  · exact sd_pure1 q hq r hr s hs
  · exact sd_pure2 q hq r hr s hs
  · exact sd_pure3 q hq r hr s hs
  · exact sd_pure4 q hq r hr s hs
theorem sd_cnw : ∀ p, p < 5 → ∀ q, q < 5 → ∀ r, r < 5 → ∀ s, s < 5 → sd_cn p q r s = 25 + 5 * ((5 - (p + s) % 5) % 5) + (p * s + 20 - q * r) % 5 := by decide +kernel
theorem sd_rkw : ∀ p, p < 5 → ∀ q, q < 5 → ∀ r, r < 5 → ∀ s, s < 5 → sd_rk p q r s = if (p * s + 20 - q * r) % 5 = 0 then sd_rk p q r s else 2 := by decide +kernel
theorem sd_rkz : ∀ p, p < 5 → ∀ q, q < 5 → ∀ r, r < 5 → ∀ s, s < 5 → (p * s + 20 - q * r) % 5 = 0 → sd_rk p q r s < 2 := by decide +kernel
/-! unpacked -/
theorem sd_un1 {T : Nat × Nat × Nat × Nat} {c : Nat} {x : Nat × Nat} {b : Nat × Nat × Nat × Nat} (h : sd_one T c x b = true) :
    sd_fok T x = true ∧ (sd_nb T = true → b.1 = 2 ∧ sd_na (sd_mp4 (sd_t 1 0 0) x.1 b 0) 10 = 5 + (5 - T.1) % 5 ∧ sd_na (sd_mp4 (sd_t 1 0 0) x.1 b 1) 10 = 5 + (5 - T.1) % 5 ∧ sd_sq x.2 b = 4) ∧
    (¬ sd_nb T = true → b.1 = 1 ∧ sd_na (sd_mp4 (sd_t 1 0 0) x.1 b 0) 10 = c ∧ sd_sq x.2 b = 2) := by
  unfold sd_one at h
  rw [Bool.and_eq_true] at h
  refine ⟨h.1, fun e => ?_, fun e => ?_⟩
  · have t := h.2
    rw [if_pos e] at t
    exact of_decide_eq_true t
  · have t := h.2
    rw [if_neg e] at t
    exact of_decide_eq_true t
theorem sd_un2 {T : Nat × Nat × Nat × Nat} {c : Nat} {x y : Nat × Nat} {b b' : Nat × Nat × Nat × Nat} (h : sd_two T c x y b b' = true) :
    sd_fok T x = true ∧ sd_fok T y = true ∧ ¬ sd_nb T = true ∧ b.1 = 1 ∧ b'.1 = 1 ∧ sd_na (sd_mp4 (sd_mp4 (sd_t 1 0 0) x.1 b 0) y.1 b' 0) 10 = c ∧ sd_sq x.2 b + sd_sq y.2 b' = 2 := by
  unfold sd_two at h
  rw [Bool.and_eq_true, Bool.and_eq_true, Bool.and_eq_true] at h
  obtain ⟨h1, h2, h3, h4⟩ := h
  refine ⟨h1, h2, fun e => ?_, of_decide_eq_true h4⟩
  rw [e] at h3
  exact absurd h3 (by decide)
theorem sd_una {T : Nat × Nat × Nat × Nat} {c : Nat} {l : List (Nat × Nat)} (h : sd_all T c l = true) :
    (25 ≤ c ∧ c < 50) ∧ ((l.length = 1 ∧ sd_one T c (l.getD 0 (0, 0)) (sd_b4 (sd_e4 T (l.getD 0 (0, 0)).1) (l.getD 0 (0, 0)).2) = true) ∨
    (l.length = 2 ∧ sd_two T c (l.getD 0 (0, 0)) (l.getD 1 (0, 0)) (sd_b4 (sd_e4 T (l.getD 0 (0, 0)).1) (l.getD 0 (0, 0)).2) (sd_b4 (sd_e4 T (l.getD 1 (0, 0)).1) (l.getD 1 (0, 0)).2) = true)) := by
  unfold sd_all at h
  rw [Bool.and_eq_true, Bool.or_eq_true, Bool.and_eq_true, Bool.and_eq_true] at h
  obtain ⟨h1, h2⟩ := h
  refine ⟨of_decide_eq_true h1, ?_⟩
  rcases h2 with h2 | h2
  · exact Or.inl ⟨of_decide_eq_true h2.1, h2.2⟩
  · exact Or.inr ⟨of_decide_eq_true h2.1, h2.2⟩
theorem sd_get {l : List (Nat × Nat)} {i : Nat} (h : i < l.length) : l[i]? = some (l.getD i (0, 0)) := by
  simp [List.getD, h]
theorem sd_b4l {T : Nat × Nat × Nat × Nat} {x : Nat × Nat} (h : sd_fok T x = true) : (sd_b4 (sd_e4 T x.1) x.2).1 < 3 ∧ (sd_b4 (sd_e4 T x.1) x.2).2.1 < 3 ∧ (sd_b4 (sd_e4 T x.1) x.2).2.2.1 < 3 ∧ (sd_b4 (sd_e4 T x.1) x.2).2.2.2 < 3 := by
  obtain ⟨_, _, _, h1, h2, h3, h4⟩ := of_decide_eq_true h
  have g : ∀ a b : Nat, a ≤ 2 → a / b < 3 := fun a b ha => Nat.lt_of_le_of_lt (Nat.div_le_self a b) (by omega)
  exact ⟨g _ _ (by omega), g _ _ (by omega), g _ _ (by omega), g _ _ (by omega)⟩
end
section
/-! ===== analyse(0) ===== -/
/-- one factor's fields -/
def sd_G (f d : Nat) (b : Nat × Nat × Nat × Nat) (a4 a5 : Nat → Int32) : Prop := a4 f = nI d ∧ a5 (4 * f + 0) = nI b.1 ∧ a5 (4 * f + 1) = nI b.2.1 ∧ a5 (4 * f + 2) = nI b.2.2.1 ∧ a5 (4 * f + 3) = nI b.2.2.2
/-- what an analysis leaves -/
def sd_fin (T : Nat × Nat × Nat × Nat) (c fc ic : Nat) (a4 a5 a6 : Nat → Int32) : Prop :=
  (sd_nb T = true → ic = 2 ∧ a6 1 = nI (5 + (5 - T.1) % 5)) ∧ (¬ sd_nb T = true → ic = 1 ∧ a6 0 = nI c) ∧
  ((fc = 1 ∧ ∃ d b, sd_G 0 d b a4 a5 ∧ sd_sq d b = if sd_nb T = true then 4 else 2) ∨ (fc = 2 ∧ ∃ d b d' b', sd_G 0 d b a4 a5 ∧ sd_G 1 d' b' a4 a5 ∧ sd_sq d b + sd_sq d' b' = if sd_nb T = true then 4 else 2))
section
variable {f0 f1 f2 : Int32} {M Q : Nat → Nat → Nat} {a1 a2 a3 a4 a5 a6 a7 : Nat → Int32} {post : St2 → Prop}
/-- countBlocks with the pure numbers -/
theorem sd_cbk {x0 x1 : Int32} (f : Nat) (T : Nat × Nat × Nat × Nat) (x : Nat × Nat) (hf : f < 4) (hM : sd_bb M) (hq : sd_bb Q) (hT : sd_at (M 0) = T) (h3 : a3 f = nI x.1) (h4 : a4 f = nI x.2) (hx : sd_fok T x = true)
    (H : ∀ M' Q', sd_bb M' → sd_bb Q' → M' 0 = M 0 → post (nI 2, f1, f2, sd_e M', sd_q Q', a3, a4, upd (upd (upd (upd a5 (4 * f + 0) (nI (sd_b4 (sd_e4 T x.1) x.2).1)) (4 * f + 1) (nI (sd_b4 (sd_e4 T x.1) x.2).2.1)) (4 * f + 2) (nI (sd_b4 (sd_e4 T x.1) x.2).2.2.1)) (4 * f + 3) (nI (sd_b4 (sd_e4 T x.1) x.2).2.2.2), a6, a7))
    (hx0 : x0 = nI 0 := by rfl) (hx1 : x1 = nI f := by rfl) :
    wpX_countBlocks post (nI 2, f1, f2, sd_e M, sd_q Q, a3, a4, a5, a6, a7) x0 x1 := by
  obtain ⟨h50, hd, hd2, l0, l1, l2, l3⟩ := of_decide_eq_true hx
  exact sd_cblk f x.1 x.2 _ _ _ _ (sd_ev T (x.1 % 5) (x.1 / 5 % 5) (x.1 / 25)) hf hM hq h3 h4 (by omega) hd hd2 (by rw [hT]) rfl rfl rfl rfl l0 l1 l2 l3 H hx0 hx1
theorem sd_ana {x0 : Int32} (p q r s : Nat) (hM : sd_bb M) (hq : sd_bb Q) (hT : sd_at (M 0) = (p, q, r, s))
    (H : ∀ M' Q' fc ic b3 b4 b5 b6, sd_bb M' → sd_bb Q' → M' 0 = M 0 → sd_fin (p, q, r, s) (sd_cn p q r s) fc ic b4 b5 b6 → post (nI 2, nI fc, nI ic, sd_e M', sd_q Q', b3, b4, b5, b6, a7))
    (hx0 : x0 = nI 0 := by rfl) :
    wpX_analyse post (nI 2, f1, f2, sd_e M, sd_q Q, a3, a4, a5, a6, a7) x0 := by
  subst hx0
  have tp : M 0 0 = p := congrArg (fun t => t.1) hT
  have tq : M 0 1 = q := congrArg (fun t => t.2.1) hT
  have tr : M 0 4 = r := congrArg (fun t => t.2.2.1) hT
  have ts : M 0 5 = s := congrArg (fun t => t.2.2.2) hT
  have hp5 : p < 5 := tp ▸ hM 0 0
  have hq5 : q < 5 := tq ▸ hM 0 1
  have hr5 : r < 5 := tr ▸ hM 0 4
  have hs5 : s < 5 := ts ▸ hM 0 5
  obtain ⟨⟨c1, c2⟩, hl⟩ := sd_una (sd_pure hp5 hq5 hr5 hs5)
  refine sd_char hM hq (fun Q1 q1 => ?_)
  rw [tp, tq, tr, ts]
  refine sd_load 0 (sd_cn p q r s) (by omega) ?_
  have q2 : sd_bb (sd_v Q1 0 (sd_t (sd_cn p q r s % 5) (sd_cn p q r s / 5 % 5) (sd_cn p q r s / 25))) := sd_bv q1 (sd_bt (sd_md _) (sd_md _) (by omega))
  refine sd_find (sd_cn p q r s % 5) (sd_cn p q r s / 5 % 5) (sd_md _) (sd_md _) q2 (by rw [sd_vs, show sd_cn p q r s / 25 = 1 by omega]) (fun Q3 b3 b4 q3 hR => ?_)
  have hM1 : sd_bb (sd_v M 5 (M 0)) := sd_bv hM (hM 0)
  have m0 : sd_v M 5 (M 0) 0 = M 0 := sd_vn (by decide)
  have hT1 : sd_at (sd_v M 5 (M 0) 0) = (p, q, r, s) := by rw [m0, hT]
  generalize sd_fl (sd_cn p q r s % 5) (sd_cn p q r s / 5 % 5) = l at hl hR ⊢
  generalize hc : sd_cn p q r s = c at H hl c1 c2
  rcases hl with ⟨hl, h⟩ | ⟨hl, h⟩
  · obtain ⟨r0, r1⟩ := hR 0 _ (sd_get (by omega))
    generalize l.getD 0 (0, 0) = x at h r0 r1
    obtain ⟨hf, hy, hn⟩ := sd_un1 h
    obtain ⟨g0, g1, g2, g3⟩ := sd_b4l hf
    have x50 := (of_decide_eq_true hf).1
    rw [hl]
    refine ⟨0 + 1 + 1, ?_⟩
    refine pk_le 1 0 (fun z => absurd z (by omega)) (fun _ => ?_)
    refine sd_cbk 0 (p, q, r, s) x (by decide) hM1 q3 hT1 r0 r1 hf (fun M' Q' hM' hQ' e0 => nm_r (nI_1 0) ?_)
    rw [m0] at e0
    generalize sd_b4 (sd_e4 (p, q, r, s) x.1) x.2 = b at hy hn g0 g1 g2 g3 ⊢
    refine pk_le 1 1 (fun _ => ?_) (fun z => absurd z (by omega))
    by_cases e : sd_nb (p, q, r, s) = true
    · obtain ⟨y0, y1, y2, y3⟩ := hy e
      refine sd_b71 b.1 (by omega) (by omega) rfl ⟨0 + 1 + 1 + 1, ?_⟩
      rw [y0]
      refine sd_bi1 0 2 x.1 b.1 b.2.1 b.2.2.1 b.2.2.2 (5 + (5 - p) % 5) _ (by decide) (by decide) hQ' r0 (by omega) rfl (by rw [y0]; rfl) rfl rfl rfl (by omega) (by omega) (by omega) (by omega) y1 (by omega) (fun Q4 q4 => ?_)
      refine sd_bi1 1 2 x.1 b.1 b.2.1 b.2.2.1 b.2.2.2 (5 + (5 - p) % 5) _ (by decide) (by decide) q4 r0 (by omega) rfl (by rw [y0]; rfl) rfl rfl rfl (by omega) (by omega) (by omega) (by omega) y2 (by omega) (fun Q5 q5 => ?_)
      refine sd_b50 2 (by decide) (H M' Q5 1 2 b3 b4 _ _ hM' q5 e0 ⟨fun _ => ⟨rfl, rfl⟩, fun z => absurd e z, Or.inl ⟨rfl, x.2, b, ⟨r1, by rw [y0]; rfl, rfl, rfl, rfl⟩, ?_⟩⟩)
      rw [if_pos e]
      exact y3
    · obtain ⟨y0, y1, y3⟩ := hn e
      refine sd_b71 b.1 (by omega) (by omega) rfl ⟨0 + 1 + 1, ?_⟩
      rw [y0]
      refine sd_bi1 0 1 x.1 b.1 b.2.1 b.2.2.1 b.2.2.2 c _ (by decide) (by decide) hQ' r0 (by omega) rfl (by rw [y0]; rfl) rfl rfl rfl (by omega) (by omega) (by omega) (by omega) y1 (by omega) (fun Q4 q4 => ?_)
      refine sd_b50 1 (by decide) (H M' Q4 1 1 b3 b4 _ _ hM' q4 e0 ⟨fun z => absurd z e, fun _ => ⟨rfl, rfl⟩, Or.inl ⟨rfl, x.2, b, ⟨r1, by rw [y0]; rfl, rfl, rfl, rfl⟩, ?_⟩⟩)
      rw [if_neg e]
      exact y3
  · obtain ⟨r0, r1⟩ := hR 0 _ (sd_get (by omega))
    obtain ⟨s0, s1⟩ := hR 1 _ (sd_get (by omega))
    generalize l.getD 0 (0, 0) = x at h r0 r1
    generalize l.getD 1 (0, 0) = y at h s0 s1
    obtain ⟨hf, hf', e, y0, y0', y1, y3⟩ := sd_un2 h
    obtain ⟨g0, g1, g2, g3⟩ := sd_b4l hf
    obtain ⟨g4, g5, g6, g7⟩ := sd_b4l hf'
    have x50 := (of_decide_eq_true hf).1
    have y50 := (of_decide_eq_true hf').1
    rw [hl]
    refine ⟨0 + 1 + 1 + 1, ?_⟩
    refine pk_le 2 0 (fun z => absurd z (by omega)) (fun _ => ?_)
    refine sd_cbk 0 (p, q, r, s) x (by decide) hM1 q3 hT1 r0 r1 hf (fun M2 Q2 hM2 hQ2 e2 => nm_r (nI_1 0) ?_)
    rw [m0] at e2
    refine pk_le 2 1 (fun z => absurd z (by omega)) (fun _ => ?_)
    refine sd_cbk 1 (p, q, r, s) y (by decide) hM2 hQ2 (by rw [e2, hT]) s0 s1 hf' (fun M' Q' hM' hQ' e0 => nm_r (nI_1 1) ?_)
    rw [e2] at e0
    generalize sd_b4 (sd_e4 (p, q, r, s) x.1) x.2 = b at y0 y1 y3 g0 g1 g2 g3 ⊢
    generalize sd_b4 (sd_e4 (p, q, r, s) y.1) y.2 = b' at y0' y1 y3 g4 g5 g6 g7 ⊢
    refine pk_le 2 2 (fun _ => ?_) (fun z => absurd z (by omega))
    refine sd_b72 (by rw [y0]; rfl) (by rw [y0']; rfl) ⟨0 + 1 + 1, ?_⟩
    refine sd_bi2 0 1 x.1 y.1 c _ _ (by decide) (by decide) hQ' r0 s0 (by omega) (by omega) rfl rfl b b' rfl rfl rfl rfl (by omega) (by omega) (by omega) (by omega) rfl rfl rfl rfl (by omega) (by omega) (by omega) (by omega) y1 (by omega) (fun Q4 q4 => ?_)
    refine sd_b50 1 (by decide) (H M' Q4 2 1 b3 b4 _ _ hM' q4 e0 ⟨fun z => absurd z e, fun _ => ⟨rfl, rfl⟩, Or.inr ⟨rfl, x.2, b, y.2, b', ⟨r1, rfl, rfl, rfl, rfl⟩, ⟨s1, rfl, rfl, rfl, rfl⟩, ?_⟩⟩)
    rw [if_neg e]
    exact y3
end
end
section
/-! ===== the answers ===== -/
theorem sd_one0 : ¬ (1 : Int32) = 0 := by decide
section
variable {f0 f1 f2 : Int32} {M Q : Nat → Nat → Nat} {a1 a2 a3 a4 a5 a6 a7 : Nat → Int32} {post : Int32 → St2 → Prop} {p q r s : Nat}
theorem sd_cn2 (hp : p < 5) (hq : q < 5) (hr : r < 5) (hs : s < 5) : sd_cn p q r s < 50 := (sd_una (sd_pure hp hq hr hs)).1.2
theorem sd_set {x0 x1 x2 : Int32} (i v j : Nat) (hi : i < 4) (hv : v < 5) (hj : 4 * (i / 2) + i % 2 = j) (h : post 1 (nI 2, f1, f2, sd_e (sd_v M 0 (sd_u (M 0) j v)), a2, a3, a4, a5, a6, a7)) (h0 : x0 = nI 0 := by rfl) (h1 : x1 = nI i := by rfl) (h2 : x2 = nI v := by rfl) :
    wpX_set post (nI 2, f1, f2, sd_e M, a2, a3, a4, a5, a6, a7) x0 x1 x2 := by
  subst h0 h1 h2
  unfold wpX_set
  refine sd_reg 0 (by decide) ?_
  refine br_f sd_one0 ?_
  refine pk_lt i 0 (fun z => absurd z (by omega)) (fun _ => ?_)
  refine pk_le 4 i (fun z => absurd z (by omega)) (fun _ => ?_) (by decide) rfl
  refine pk_lt v 0 (fun z => absurd z (by omega)) (fun _ => ?_)
  refine pk_le v 4 (fun _ => ⟨by decide, by decide, ?_⟩) (fun z => absurd z (by omega))
  exact sd_setE 0 (i / 2) (i % 2) j v h (by omega) hj (by decide) (by omega) rfl (pk_div (by omega) (by decide) (by decide)) (pk_rem (by omega) (by decide) (by decide)) rfl
theorem sd_det (hM : sd_bb M) (hq : sd_bb Q) (hT : sd_at (M 0) = (p, q, r, s)) (H : ∀ M' Q', sd_bb M' → sd_bb Q' → M' 0 = M 0 → post (nI (sd_cn p q r s % 5)) (nI 2, f1, f2, sd_e M', sd_q Q', a3, a4, a5, a6, a7)) :
    wpX_determinant post (nI 2, f1, f2, sd_e M, sd_q Q, a3, a4, a5, a6, a7) 0 := by
  have tp : M 0 0 = p := congrArg (fun t => t.1) hT
  have tq : M 0 1 = q := congrArg (fun t => t.2.1) hT
  have tr : M 0 4 = r := congrArg (fun t => t.2.2.1) hT
  have ts : M 0 5 = s := congrArg (fun t => t.2.2.2) hT
  have c5 := sd_cn2 (tp ▸ hM 0 0) (tq ▸ hM 0 1) (tr ▸ hM 0 4) (ts ▸ hM 0 5)
  unfold wpX_determinant
  refine sd_reg 0 (by decide) ?_
  refine br_f sd_one0 (sd_char hM hq (fun Q' q' => ?_))
  rw [tp, tq, tr, ts]
  exact ⟨sd_50, nm_r (sd_m5 _ rfl (by omega)) (br_t (by decide) (H _ _ (sd_bv hM (hM 0)) q' (sd_vn (by decide))))⟩
theorem sd_chr (hM : sd_bb M) (hq : sd_bb Q) (hT : sd_at (M 0) = (p, q, r, s)) (H : ∀ M' Q', sd_bb M' → sd_bb Q' → M' 0 = M 0 → post (nI (sd_cn p q r s)) (nI 2, f1, f2, sd_e M', sd_q Q', a3, a4, a5, a6, a7)) :
    wpX_characteristic post (nI 2, f1, f2, sd_e M, sd_q Q, a3, a4, a5, a6, a7) 0 := by
  have tp : M 0 0 = p := congrArg (fun t => t.1) hT
  have tq : M 0 1 = q := congrArg (fun t => t.2.1) hT
  have tr : M 0 4 = r := congrArg (fun t => t.2.2.1) hT
  have ts : M 0 5 = s := congrArg (fun t => t.2.2.2) hT
  unfold wpX_characteristic
  refine sd_reg 0 (by decide) ?_
  refine br_f sd_one0 (sd_char hM hq (fun Q' q' => ?_))
  rw [tp, tq, tr, ts]
  exact H _ _ (sd_bv hM (hM 0)) q' (sd_vn (by decide))
theorem sd_min (hM : sd_bb M) (hq : sd_bb Q) (hT : sd_at (M 0) = (p, q, r, s)) (H : ∀ M' Q' g1 g2 b3 b4 b5 b6, sd_bb M' → sd_bb Q' → M' 0 = M 0 → post (nI (if sd_nb (p, q, r, s) = true then 5 + (5 - p) % 5 else sd_cn p q r s)) (nI 2, g1, g2, sd_e M', sd_q Q', b3, b4, b5, b6, a7)) :
    wpX_minimal post (nI 2, f1, f2, sd_e M, sd_q Q, a3, a4, a5, a6, a7) 0 := by
  unfold wpX_minimal
  refine sd_reg 0 (by decide) ?_
  refine br_f sd_one0 (sd_ana p q r s hM hq hT (fun M' Q' fc ic b3 b4 b5 b6 hM' hQ' e0 hF => ?_))
  obtain ⟨F1, F2, _⟩ := hF
  have t := H M' Q' (nI fc) (nI ic) b3 b4 b5 b6 hM' hQ' e0
  by_cases e : sd_nb (p, q, r, s) = true
  · rw [if_pos e] at t
    obtain ⟨i2, k⟩ := F1 e
    subst i2
    have k' : b6 (nI 2 - 1).toNatClampNeg = nI (5 + (5 - p) % 5) := k
    refine ⟨pk_in 1 4 (by decide) (by decide), ?_⟩
    rw [k']
    exact t
  · rw [if_neg e] at t
    obtain ⟨i2, k⟩ := F2 e
    subst i2
    have k' : b6 (nI 1 - 1).toNatClampNeg = nI (sd_cn p q r s) := k
    refine ⟨pk_in 0 4 (by decide) (by decide), ?_⟩
    rw [k']
    exact t
theorem sd_invr (hM : sd_bb M) (hq : sd_bb Q) (hT : sd_at (M 0) = (p, q, r, s)) (H : ∀ M' Q' g1 g2 b3 b4 b5 b6, sd_bb M' → sd_bb Q' → M' 0 = M 0 → post (if sd_nb (p, q, r, s) = true then nI (5 + (5 - p) % 5) else -2) (nI 2, g1, g2, sd_e M', sd_q Q', b3, b4, b5, b6, a7)) :
    wpX_invariant post (nI 2, f1, f2, sd_e M, sd_q Q, a3, a4, a5, a6, a7) 0 1 := by
  unfold wpX_invariant
  refine sd_reg 0 (by decide) ?_
  refine br_f sd_one0 (sd_ana p q r s hM hq hT (fun M' Q' fc ic b3 b4 b5 b6 hM' hQ' e0 hF => ?_))
  obtain ⟨F1, F2, _⟩ := hF
  have t := H M' Q' (nI fc) (nI ic) b3 b4 b5 b6 hM' hQ' e0
  refine br_f (by decide) ?_
  by_cases e : sd_nb (p, q, r, s) = true
  · rw [if_pos e] at t
    obtain ⟨i2, k⟩ := F1 e
    subst i2
    have k' : b6 (1 : Int32).toNatClampNeg = nI (5 + (5 - p) % 5) := k
    refine pk_lt 1 2 (fun _ => ⟨pk_in 1 4 (by decide), ?_⟩) (fun z => absurd z (by omega))
    rw [k']
    exact t
  · rw [if_neg e] at t
    obtain ⟨i2, k⟩ := F2 e
    subst i2
    exact pk_lt 1 1 (fun z => absurd z (by omega)) (fun _ => t)
/-! commutant -/
theorem sd_c1 {J19 : Int32 → Int32 → Prop} {n : Nat} (f k d b t : Nat) (hf : f < 4) (hk : k < 4) (h4 : a4 f = nI d) (h5 : a5 (4 * f + k) = nI b) (h : wX_commutant_30 post J19 (nI f) f0 f1 f2 a1 a2 a3 a4 a5 a6 a7 n (nI (t + d * b * b)) (nI (k + 1))) :
    wX_commutant_30 post J19 (nI f) f0 f1 f2 a1 a2 a3 a4 a5 a6 a7 (n + 1) (nI t) (nI k) := by
  refine pk_le 4 k (fun z => absurd z (by omega)) (fun _ => ⟨pk_in f 4 hf, pk_in (4 * f + k) 16 (by omega) (sd_fx f k), pk_in (4 * f + k) 16 (by omega) (sd_fx f k), nm_r ?_ (nm_r (nI_1 k) h)⟩)
  rw [sd_fx, nI_clamp (by omega), nI_clamp (by omega), h4, h5, pk_mul, pk_mul, nI_add]
theorem sd_c30 {J19 : Int32 → Int32 → Prop} (f d t : Nat) (b : Nat × Nat × Nat × Nat) (hf : f < 4) (hG : sd_G f d b a4 a5) (h : J19 (nI (t + sd_sq d b)) (nI (f + 1))) :
    ∃ n, wX_commutant_30 post J19 (nI f) f0 f1 f2 a1 a2 a3 a4 a5 a6 a7 n (nI t) 0 := by
  obtain ⟨g4, g0, g1, g2, g3⟩ := hG
  refine ⟨0 + 1 + 1 + 1 + 1 + 1, ?_⟩
  refine sd_c1 f 0 d b.1 t hf (by decide) g4 g0 (sd_c1 f 1 d b.2.1 _ hf (by decide) g4 g1 (sd_c1 f 2 d b.2.2.1 _ hf (by decide) g4 g2 (sd_c1 f 3 d b.2.2.2 _ hf (by decide) g4 g3 ?_)))
  refine pk_le 4 4 (fun _ => nm_r (nI_1 f) ?_) (fun z => absurd z (by omega))
  rw [show t + d * b.1 * b.1 + d * b.2.1 * b.2.1 + d * b.2.2.1 * b.2.2.1 + d * b.2.2.2 * b.2.2.2 = t + sd_sq d b by unfold sd_sq; omega]
  exact h
theorem sd_com (hM : sd_bb M) (hq : sd_bb Q) (hT : sd_at (M 0) = (p, q, r, s)) (H : ∀ M' Q' g1 g2 b3 b4 b5 b6, sd_bb M' → sd_bb Q' → M' 0 = M 0 → post (nI (if sd_nb (p, q, r, s) = true then 4 else 2)) (nI 2, g1, g2, sd_e M', sd_q Q', b3, b4, b5, b6, a7)) :
    wpX_commutant post (nI 2, f1, f2, sd_e M, sd_q Q, a3, a4, a5, a6, a7) 0 := by
  unfold wpX_commutant
  refine sd_reg 0 (by decide) ?_
  refine br_f sd_one0 (sd_ana p q r s hM hq hT (fun M' Q' fc ic b3 b4 b5 b6 hM' hQ' e0 hF => ?_))
  obtain ⟨_, _, F⟩ := hF
  have t := H M' Q' (nI fc) (nI ic) b3 b4 b5 b6 hM' hQ' e0
  rcases F with ⟨e, d, b, hG, hs⟩ | ⟨e, d, b, d', b', hG, hG', hs⟩
  · subst e
    rw [← hs] at t
    refine ⟨0 + 1 + 1, ?_⟩
    refine pk_le 1 0 (fun z => absurd z (by omega)) (fun _ => sd_c30 0 d 0 b (by decide) hG ?_)
    rw [Nat.zero_add]
    exact pk_le 1 1 (fun _ => t) (fun z => absurd z (by omega))
  · subst e
    rw [← hs] at t
    refine ⟨0 + 1 + 1 + 1, ?_⟩
    refine pk_le 2 0 (fun z => absurd z (by omega)) (fun _ => sd_c30 0 d 0 b (by decide) hG ?_)
    rw [Nat.zero_add]
    refine pk_le 2 1 (fun z => absurd z (by omega)) (fun _ => sd_c30 1 d' (sd_sq d b) b' (by decide) hG' ?_)
    exact pk_le 2 2 (fun _ => t) (fun z => absurd z (by omega))
/-! invert(1, 0) -/
theorem sd_invt (hM : sd_bb M) (hT : sd_at (M 0) = (p, q, r, s)) (H0 : sd_rk p q r s < 2 → ∀ M', post 0 (nI 2, f1, f2, sd_e M', a2, a3, a4, a5, a6, a7)) (H1 : 2 ≤ sd_rk p q r s → ∀ M', post 1 (nI 2, f1, f2, sd_e M', a2, a3, a4, a5, a6, a7)) (hrk : sd_rk p q r s < 3) :
    wpX_invert post (nI 2, f1, f2, sd_e M, a2, a3, a4, a5, a6, a7) 1 0 := by
  have tp : M 0 0 = p := congrArg (fun t => t.1) hT
  have tq : M 0 1 = q := congrArg (fun t => t.2.1) hT
  have tr : M 0 4 = r := congrArg (fun t => t.2.2.1) hT
  have ts : M 0 5 = s := congrArg (fun t => t.2.2.2) hT
  unfold wpX_invert
  refine sd_reg 1 (by decide) ?_
  refine br_f sd_one0 ?_
  refine sd_reg 0 (by decide) ?_
  refine br_f sd_one0 (sd_copy 5 0 hM ?_)
  have hM1 : sd_bb (sd_v M 5 (M 0)) := sd_bv hM (hM 0)
  refine sd_ident (hM1 6) (fun B hB => sd_elim (sd_bv hM1 hB) (fun A B' hA hB' => ?_))
  rw [sd_p5, tp, tq, tr, ts]
  exact pk_le 2 (sd_rk p q r s) (fun z => sd_copy 1 6 (sd_bv (sd_bv (sd_bv hM1 hB) hA) hB') (H1 z _)) (fun z => H0 z _)
end
end
section
/-! ===== the law ===== -/
theorem sd_rkl (a b c d : Nat) : sd_rk a b c d < 3 := by
  unfold sd_rk
  repeat' split
  all_goals decide
theorem sd_arg (x : Int32) : ∃ a, a < 5 ∧ (x &&& 255) - (x &&& 255) / 5 * 5 = nI a := by
  obtain ⟨j, hj, e⟩ := pk_andE x (m := 255) 8 (by decide)
  exact ⟨j % 5, sd_md _, sd_m5 j e (by omega)⟩
section
variable {mc ms kc ks : Nat} {f1 f2 : Int32} {M Q : Nat → Nat → Nat} {a2 a3 a4 a5 a6 a7 : Nat → Int32} {p q r s : Nat}
theorem sd_270 {z0 z1 : Int32} (hz : z1 = z0) (hM : sd_bb M) (hT : sd_at (M 0) = (p, q, r, s)) :
    wL_lawOf_270 (fun r _ => r = 1) mc ms (nI ((p * s + 20 - q * r) % 5)) z0 z1 kc ks (nI 2) f1 f2 (sd_e M) a2 a3 a4 a5 a6 a7 := by
  have tp : M 0 0 = p := congrArg (fun t => t.1) hT
  have tq : M 0 1 = q := congrArg (fun t => t.2.1) hT
  have tr : M 0 4 = r := congrArg (fun t => t.2.2.1) hT
  have ts : M 0 5 = s := congrArg (fun t => t.2.2.2) hT
  have hp5 : p < 5 := tp ▸ hM 0 0
  have hq5 : q < 5 := tq ▸ hM 0 1
  have hr5 : r < 5 := tr ▸ hM 0 4
  have hs5 : s < 5 := ts ▸ hM 0 5
  have w1 := sd_rkw p hp5 q hq5 r hr5 s hs5
  have w2 := sd_rkz p hp5 q hq5 r hr5 s hs5
  have w3 := sd_md (p * s + 20 - q * r)
  generalize (p * s + 20 - q * r) % 5 = det at w1 w2 w3
  refine br_t hz (sd_invt hM hT (fun k M' => ?_) (fun k M' => ?_) (sd_rkl p q r s))
  · have e : det = 0 := by
      by_cases e : det = 0
      · exact e
      · rw [if_neg e] at w1
        omega
    exact pk_le det 0 (fun _ => br_t rfl rfl) (fun z => absurd z (by omega))
  · have e : ¬ det = 0 := fun e => by
      have := w2 e
      omega
    exact pk_le det 0 (fun z => absurd z (by omega)) (fun _ => br_t rfl rfl)
theorem sd_101 (hp : p < 5) (hq : q < 5) (hr : r < 5) (hs : s < 5) (z : Nat) (hz : z = if sd_nb (p, q, r, s) = true then 1 else 0) (hmc : 8 ≤ mc) (hms : 316 ≤ ms) :
    wL_lawOf_101 (fun r _ => r = 1) mc ms (nI p) (nI q) (nI r) (nI s) (nI ((p * s + 20 - q * r) % 5)) (nI (sd_cn p q r s)) (nI z) 0 0 := by
  have c5 := sd_cn2 hp hq hr hs
  have cw := sd_cnw p hp q hq r hr s hs
  have vx : 5 + ((5 - nI p) - (5 - nI p) / 5 * 5) = nI (5 + (5 - p) % 5) := by
    have d5 : (5 : Int32) - nI p = nI (5 - p) := pk_sub (a := 5) (by omega)
    rw [sd_m5 (5 - p) d5 (by omega)]
    exact nI_add 5 _
  refine ⟨by omega, by omega, 7, 306, by omega, by omega, ?_⟩
  refine ⟨by decide, by decide, by decide, by decide, by decide, by decide, by decide, by decide, by decide, by decide, by decide, by decide, by decide, by decide, br_t (by decide) (br_t (by decide) ?_)⟩
  have b0 : sd_bb (fun _ _ => 0) := fun _ => sd_b0
  have bM : sd_bb (sd_v (sd_v (sd_v (sd_v (fun _ _ => 0) 0 (sd_u (fun _ => 0) 0 p)) 0 (sd_u (sd_u (fun _ => 0) 0 p) 1 q)) 0 (sd_u (sd_u (sd_u (fun _ => 0) 0 p) 1 q) 4 r)) 0 (sd_u (sd_u (sd_u (sd_u (fun _ => 0) 0 p) 1 q) 4 r) 5 s)) :=
    sd_bv (sd_bv (sd_bv (sd_bv b0 (sd_bu sd_b0 hp)) (sd_bu (sd_bu sd_b0 hp) hq)) (sd_bu (sd_bu (sd_bu sd_b0 hp) hq) hr)) (sd_bu (sd_bu (sd_bu (sd_bu sd_b0 hp) hq) hr) hs)
  have tM : sd_at (sd_v (sd_v (sd_v (sd_v (fun _ _ => 0) 0 (sd_u (fun _ => 0) 0 p)) 0 (sd_u (sd_u (fun _ => 0) 0 p) 1 q)) 0 (sd_u (sd_u (sd_u (fun _ => 0) 0 p) 1 q) 4 r)) 0 (sd_u (sd_u (sd_u (sd_u (fun _ => 0) 0 p) 1 q) 4 r) 5 s) 0) = (p, q, r, s) := rfl
  refine sd_set (M := fun _ _ => 0) 0 p 0 (by decide) hp rfl (br_f sd_one0 ?_)
  refine sd_set 1 q 1 (by decide) hq rfl (br_f sd_one0 ?_)
  refine sd_set 2 r 4 (by decide) hr rfl (br_f sd_one0 ?_)
  refine sd_set 3 s 5 (by decide) hs rfl (br_f sd_one0 ?_)
  refine sd_det (p := p) (q := q) (r := r) (s := s) (Q := fun _ _ => 0) bM b0 tM (fun M1 Q1 m1 q1 e1 => ?_)
  refine br_t (by rw [cw]; exact congrArg nI (by omega)) ?_
  have t1 : sd_at (M1 0) = (p, q, r, s) := (congrArg sd_at e1).trans tM
  refine sd_chr m1 q1 t1 (fun M2 Q2 m2 q2 e2 => ?_)
  refine br_t rfl ?_
  have t2 : sd_at (M2 0) = (p, q, r, s) := (congrArg sd_at e2).trans t1
  refine sd_min m2 q2 t2 (fun M3 Q3 g1 g2 b3 b4 b5 b6 m3 q3 e3 => ?_)
  have t3 : sd_at (M3 0) = (p, q, r, s) := (congrArg sd_at e3).trans t2
  by_cases e : sd_nb (p, q, r, s) = true
  · rw [if_pos e] at hz
    subst hz
    rw [if_pos e]
    refine br_f sd_one0 ⟨sd_50, ?_⟩
    rw [vx]
    refine br_t rfl (sd_invr m3 q3 t3 (fun M4 Q4 g3 g4 c3 c4 c5 c6 m4 q4 e4 => ?_))
    rw [if_pos e]
    refine br_f sd_one0 ⟨sd_50, ?_⟩
    rw [vx]
    refine br_t rfl (sd_com m4 q4 ((congrArg sd_at e4).trans t3) (fun M5 Q5 g5 g6 d3 d4 d5 d6 m5 q5 e5 => ?_))
    rw [if_pos e]
    exact br_f sd_one0 (sd_270 rfl m5 ((congrArg sd_at e5).trans ((congrArg sd_at e4).trans t3)))
  · rw [if_neg e] at hz
    subst hz
    rw [if_neg e]
    refine br_t rfl ?_
    refine br_t rfl (sd_invr m3 q3 t3 (fun M4 Q4 g3 g4 c3 c4 c5 c6 m4 q4 e4 => ?_))
    rw [if_neg e]
    refine br_t rfl ?_
    refine br_t rfl (sd_com m4 q4 ((congrArg sd_at e4).trans t3) (fun M5 Q5 g5 g6 d3 d4 d5 d6 m5 q5 e5 => ?_))
    rw [if_neg e]
    exact br_t rfl (sd_270 rfl m5 ((congrArg sd_at e5).trans ((congrArg sd_at e4).trans t3)))
end
theorem sd_lawOf (p0 p1 p2 p3 p4 : Int32) : wpL_lawOf (fun r _ => r = 1) 8 316 () p0 p1 p2 p3 p4 := by
  obtain ⟨p, hp, ep⟩ := sd_arg p0
  obtain ⟨q, hq, eq⟩ := sd_arg p1
  obtain ⟨r, hr, er⟩ := sd_arg p2
  obtain ⟨s, hs, es⟩ := sd_arg p3
  have k1 := sd_mul4 (Nat.le_of_lt hp) hs
  have k2 := sd_mul4 (Nat.le_of_lt hq) hr
  have cw := sd_cnw p hp q hq r hr s hs
  have e9 : ((nI p * nI s) + 20) - (nI q * nI r) = nI (p * s + 20 - q * r) := by
    rw [pk_mul, pk_mul, show (20 : Int32) = nI 20 from rfl, nI_add, pk_sub (by omega)]
  have e10 : (nI p + nI s) - (nI p + nI s) / 5 * 5 = nI ((p + s) % 5) := sd_m5 _ (nI_add p s) (by omega)
  have e11 : (25 + (5 * ((5 - nI ((p + s) % 5)) - (5 - nI ((p + s) % 5)) / 5 * 5))) + nI ((p * s + 20 - q * r) % 5) = nI (sd_cn p q r s) := by
    have d5 : (5 : Int32) - nI ((p + s) % 5) = nI (5 - (p + s) % 5) := pk_sub (a := 5) (by omega)
    rw [sd_m5 (5 - (p + s) % 5) d5 (by omega), cw]
    show (nI 25 + nI 5 * nI _) + nI _ = _
    rw [pk_mul, nI_add, nI_add]
  refine ⟨sd_50, nm_r ep ⟨sd_50, nm_r eq ⟨sd_50, nm_r er ⟨sd_50, nm_r es ⟨sd_50, nm_r (sd_m5 _ e9 (by omega)) ⟨sd_50, nm_r e10 ⟨sd_50, nm_r e11 ?_⟩⟩⟩⟩⟩⟩⟩
  have n0 : ∀ h : ¬ (q = 0 ∧ r = 0 ∧ p = s), wL_lawOf_101 (fun r _ => r = 1) 8 316 (nI p) (nI q) (nI r) (nI s) (nI ((p * s + 20 - q * r) % 5)) (nI (sd_cn p q r s)) (nI 0) 0 0 := fun h =>
    sd_101 hp hq hr hs 0 (by rw [if_neg]; exact fun z => h (of_decide_eq_true z)) (by decide) (by decide)
  refine pk_eq q 0 (fun z1 => pk_eq r 0 (fun z2 => pk_eq p s (fun z3 => ?_) (fun z => n0 (fun y => z y.2.2))) (fun z => n0 (fun y => z y.2.1))) (fun z => n0 (fun y => z y.1))
  exact sd_101 hp hq hr hs 1 (by rw [if_pos]; exact decide_eq_true ⟨z1, z2, z3⟩) (by decide) (by decide)
theorem sd_cell {post : Int32 → Prop} {L : Nat} {xs : Nat → Int32} {x : Int32} (i : Nat) (hi : i < 5) (hL : L ≤ 5) (h : ∀ v, post v) (hx : x = nI i := by rfl) : wpL_cellAt post L xs () x := by
  subst hx
  exact pk_le L i (fun _ => h _) (fun z => ⟨pk_in i L z rfl (by omega), h _⟩)
theorem i_vc (xs : Nat → Int32) (L : Nat) (hL : L ≤ 5) : wpL_law (fun r => r = 1) L xs := by
  refine sd_cell 0 (by decide) hL (fun v0 => ?_)
  refine sd_cell 1 (by decide) hL (fun v1 => ?_)
  refine sd_cell 2 (by decide) hL (fun v2 => ?_)
  refine sd_cell 3 (by decide) hL (fun v3 => ?_)
  refine sd_cell 4 (by decide) hL (fun v4 => ?_)
  exact ⟨8, 316, by decide, by decide, sd_lawOf v0 v1 v2 v3 v4⟩
end
