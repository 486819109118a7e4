section
section
/- plain rows about ints and arrays -/
theorem fq_ti {x y : Int32} (h : x ≤ y) : x.toInt ≤ y.toInt := Int32.le_iff_toInt_le.mp h
theorem fq_tl {x y : Int32} (h : x < y) : x.toInt < y.toInt := Int32.lt_iff_toInt_lt.mp h
theorem fq_in {x : Int32} {n : Nat} (N : Int32) (hN : N.toInt = n) (h0 : 0 ≤ x) (h1 : x < N) : vp_in x n := by
  have e0 := fq_ti h0
  have e1 := fq_tl h1
  rw [Int32.toInt_zero] at e0
  exact vp_in_iff.mpr ⟨e0, by omega⟩
theorem fq_in4 {x : Int32} (h0 : 0 ≤ x) (h1 : x < 4) : vp_in x 4 := fq_in 4 rfl h0 h1
theorem fq_in8 {x : Int32} (h0 : 0 ≤ x) (h1 : x < 8) : vp_in x 8 := fq_in 8 rfl h0 h1
theorem fq_in24 {x : Int32} (h0 : 0 ≤ x) (h1 : x < 24) : vp_in x 24 := fq_in 24 rfl h0 h1
theorem fq_in96 {x : Int32} (h0 : 0 ≤ x) (h1 : x < 96) : vp_in x 96 := fq_in 96 rfl h0 h1
theorem fq_in300 {x : Int32} (h0 : 0 ≤ x) (h1 : x < 300) : vp_in x 300 := fq_in 300 rfl h0 h1
theorem fq_in1210 {x : Int32} (h0 : 0 ≤ x) (h1 : x < 1210) : vp_in x 1210 := fq_in 1210 rfl h0 h1
theorem fq_clj {x : Int32} (h : 0 ≤ x) : (x.toNatClampNeg : Int) = x.toInt := Int32.cast_toNatClampNeg x h
theorem fq_inj {x y : Int32} (hx : 0 ≤ x) (hy : 0 ≤ y) (h : x.toNatClampNeg = y.toNatClampNeg) : x = y := by
  apply Int32.toInt_inj.mp
  rw [← fq_clj hx, ← fq_clj hy, h]
theorem fq_us {a : Nat → Int32} {k v : Int32} : upd a k.toNatClampNeg v k.toNatClampNeg = v := pk_us
theorem fq_un {a : Nat → Int32} {k x v : Int32} (hk : 0 ≤ k) (hx : 0 ≤ x) (h : x ≠ k) : upd a k.toNatClampNeg v x.toNatClampNeg = a x.toNatClampNeg :=
  pk_un (fun e => h (fq_inj hx hk e))
/-- a fact of every place below n is kept by a store -/
theorem fq_up {P : Int32 → Int32 → Prop} {a : Nat → Int32} {k v n : Int32} (hk : 0 ≤ k) (h : ∀ x : Int32, 0 ≤ x → x < n → x ≠ k → P x (a x.toNatClampNeg)) (hv : P k v) :
    ∀ x : Int32, 0 ≤ x → x < n → P x (upd a k.toNatClampNeg v x.toNatClampNeg) := by
  intro x hx hn
  by_cases e : x = k
  · rw [e, fq_us]
    exact hv
  · rw [fq_un hk hx e]
    exact h x hx hn e
theorem fq_ud {P : Int32 → Prop} {a : Nat → Int32} {k v n : Int32} (hk : 0 ≤ k) (h : ∀ x : Int32, 0 ≤ x → x < n → P (a x.toNatClampNeg)) (hv : P v) :
    ∀ x : Int32, 0 ≤ x → x < n → P (upd a k.toNatClampNeg v x.toNatClampNeg) := fq_up (P := fun _ y => P y) hk (fun x h0 h1 _ => h x h0 h1) hv
theorem fq_b {x : Int32} (h : -128 ≤ x) (h2 : x ≤ 127) : x.toInt8.toInt32 = x := by
  apply Int32.toInt_inj.mp
  have e1 := fq_ti h
  have e2 := fq_ti h2
  have c1 : (-128 : Int32).toInt = -128 := rfl
  have c2 : (127 : Int32).toInt = 127 := rfl
  rw [c1] at e1
  rw [c2] at e2
  rw [Int8.toInt_toInt32, Int32.toInt_toInt8]
  exact Int.bmod_eq_of_le (by omega) (by omega)
theorem fq_h {x : Int32} (h : -32768 ≤ x) (h2 : x ≤ 32767) : x.toInt16.toInt32 = x := by
  apply Int32.toInt_inj.mp
  have e1 := fq_ti h
  have e2 := fq_ti h2
  have c1 : (-32768 : Int32).toInt = -32768 := rfl
  have c2 : (32767 : Int32).toInt = 32767 := rfl
  rw [c1] at e1
  rw [c2] at e2
  rw [Int16.toInt_toInt32, Int32.toInt_toInt16]
  exact Int.bmod_eq_of_le (by omega) (by omega)
/- loops: a counter x that goes up to e, fuel n -/
theorem fq_s1 {e x : Int32} (h : x < e) : (x + 1).toInt = x.toInt + 1 := by
  have h1 := fq_tl h
  have h2 := e.toInt_lt
  have h3 := x.le_toInt
  rw [Int32.toInt_add, Int32.toInt_one]
  exact Int.bmod_eq_of_le (by omega) (by omega)
theorem fq_z {e x : Int32} (hm : e.toInt < x.toInt + ((0 : Nat) : Int)) (h : x ≤ e) : False := by
  have := fq_ti h
  omega
theorem fq_n {e x : Int32} {n : Nat} (hm : e.toInt < x.toInt + ((n + 1 : Nat) : Int)) (h : x < e) : e.toInt < (x + 1).toInt + ((n : Nat) : Int) := by
  rw [fq_s1 h]
  omega
theorem fq_f {e x : Int32} (h : e ≤ 4000) (hx : 0 ≤ x) : e.toInt < x.toInt + ((5000 : Nat) : Int) := by
  have h1 := fq_ti h
  have h2 := fq_ti hx
  have c1 : (4000 : Int32).toInt = 4000 := rfl
  rw [c1] at h1
  rw [Int32.toInt_zero] at h2
  omega
theorem fq_c1 {x e : Int32} (h0 : 0 ≤ x) (h : x < e) : (x + 1).toNatClampNeg = x.toNatClampNeg + 1 := by
  have h1 := fq_s1 h
  have h2 := fq_ti h0
  rw [Int32.toInt_zero] at h2
  have h3 : (0 : Int32) ≤ x + 1 := Int32.le_iff_toInt_le.mpr (by rw [Int32.toInt_zero]; omega)
  have h4 := fq_clj h0
  have h5 := fq_clj h3
  omega
/-- a sample -/
def fq_S (x : Int32) : Prop := -32768 ≤ x ∧ x ≤ 32767
end
end
section
section
/-- node x of kind k with parts px and py -/
def fq_N (x k px py : Int32) : Prop :=
  0 ≤ k ∧ k ≤ 10 ∧ (k = 0 → 0 ≤ px ∧ px ≤ 1) ∧ (k = 1 → fq_S px) ∧ (k = 5 → 0 ≤ px ∧ px < 24) ∧ (2 ≤ k → ¬ k = 5 → 0 ≤ px ∧ px < x) ∧ (k = 2 ∨ k = 3 ∨ 9 ≤ k → 0 ≤ py ∧ py < x) ∧ (k = 4 → fq_S py) ∧ (k = 6 → 0 ≤ py ∧ py ≤ 3) ∧ (k = 7 → 0 ≤ py ∧ py ≤ 32767)
/-- how many of the first n are filters -/
def fq_F (a : Nat → Int32) : Nat → Nat
  | 0 => 0
  | n + 1 => fq_F a n + (if a n = 6 then 1 else 0)
/-- the nodes -/
def fq_K (nc fc : Int32) (a3 a4 a5 a6 a7 a8 : Nat → Int32) : Prop :=
  0 ≤ nc ∧ nc ≤ 24 ∧ (∀ x : Int32, 0 ≤ x → x < nc → fq_N x (a3 x.toNatClampNeg) (a4 x.toNatClampNeg) (a5 x.toNatClampNeg)) ∧
  fc = nI (fq_F a3 nc.toNatClampNeg) ∧ fq_F a3 nc.toNatClampNeg ≤ 4 ∧
  (∀ x : Int32, 0 ≤ x → x < nc → a3 x.toNatClampNeg = 6 → a6 x.toNatClampNeg = nI (fq_F a3 x.toNatClampNeg)) ∧
  (∀ x : Int32, 0 ≤ x → x < fc → 1 ≤ a7 x.toNatClampNeg ∧ a7 x.toNatClampNeg ≤ 6) ∧
  (∀ x : Int32, 0 ≤ x → x < 24 → fq_S (a8 x.toNatClampNeg))
/-- the lists -/
def fq_L (a1 a2 : Nat → Int32) : Prop :=
  (∀ x : Int32, 0 ≤ x → x < 4 → 1 ≤ a1 x.toNatClampNeg ∧ a1 x.toNatClampNeg ≤ 6) ∧ (∀ x : Int32, 0 ≤ x → x < 24 → fq_S (a2 x.toNatClampNeg))
/-- the outputs -/
def fq_O (nc : Int32) (a9 : Nat → Int32) : Prop := ∀ x : Int32, 0 ≤ x → x < 4 → -1 ≤ a9 x.toNatClampNeg ∧ a9 x.toNatClampNeg < nc
/-- every delay takes a node -/
def fq_V (nc : Int32) (a3 a4 : Nat → Int32) : Prop := ∀ x : Int32, 0 ≤ x → x < nc → a3 x.toNatClampNeg = 5 → a4 x.toNatClampNeg < nc
/-- an instruction -/
def fq_I (a7 : Nat → Int32) (o d a b n : Int32) : Prop :=
  (o < 16 → o = 1 ∨ o = 13 ∨ o = 11 ∨ o = 7 ∨ o = 8 ∨ o = 2 ∨ o = 3 ∨ o = 9 ∨ o = 10 ∨ o = 12) ∧
  (¬ o = 11 → ¬ o = 12 → d < 8) ∧ (o = 1 → fq_S n) ∧ (o = 7 → 0 ≤ n ∧ n ≤ 32767) ∧
  (o = 2 ∨ o = 3 ∨ o = 7 ∨ o = 8 ∨ o = 9 ∨ o = 10 ∨ o = 12 ∨ o = 17 ∨ o = 19 → 0 ≤ a ∧ a < 8) ∧
  (o = 2 ∨ o = 3 ∨ o = 9 ∨ o = 10 ∨ o = 12 → 0 ≤ b ∧ b < 8) ∧ (o = 16 ∨ o = 17 → 0 ≤ n ∧ n < 96) ∧
  (18 ≤ o → ∃ f k : Int32, n = 8 * f + k ∧ 0 ≤ f ∧ f < 4 ∧ 0 ≤ k ∧ k < a7 f.toNatClampNeg ∧ a7 f.toNatClampNeg ≤ 6)
def fq_Code (li : Int32) (a7 a14 a15 a16 a17 a18 : Nat → Int32) : Prop :=
  0 ≤ li ∧ li ≤ 300 ∧ ∀ i : Int32, 0 ≤ i → i < li → fq_I a7 (a14 i.toNatClampNeg) (a15 i.toNatClampNeg) (a16 i.toNatClampNeg) (a17 i.toNatClampNeg) (a18 i.toNatClampNeg)
/-- a place of the words: v is 0 or 1 + an instruction's number, of the right half -/
def fq_wd (li : Int32) (a14 : Nat → Int32) (h v : Int32) : Prop :=
  0 ≤ v ∧ v ≤ li ∧ (1 ≤ v → h = 0 → a14 (v - 1).toNatClampNeg < 16) ∧ (1 ≤ v → ¬ h = 0 → 16 ≤ a14 (v - 1).toNatClampNeg)
def fq_W (li wc : Int32) (a14 a20 : Nat → Int32) : Prop :=
  0 ≤ wc ∧ wc ≤ 605 ∧ ∀ w h : Int32, 0 ≤ w → w < 605 → 0 ≤ h → h ≤ 1 → fq_wd li a14 h (a20 (2 * w + h).toNatClampNeg)
def fq_M (a21 : Nat → Int32) : Prop := ∀ x : Int32, 0 ≤ x → x < 96 → fq_S (a21 x.toNatClampNeg)
def fq_Z (a21 : Nat → Int32) : Prop := ∀ x : Int32, 2 ≤ x → x < 96 → a21 x.toNatClampNeg = 0
def fq_Q (a22 : Nat → Int32) : Prop := ∀ x : Int32, 0 ≤ x → x < 4 → 0 ≤ a22 x.toNatClampNeg ∧ a22 x.toNatClampNeg ≤ 5
def fq_G (a23 : Nat → Int32) : Prop := ∀ x : Int32, 0 ≤ x → x < 8 → fq_S (a23 x.toNatClampNeg)
/-- what holds between calls -/
def fq_Inv (nc fc lv cp nd pn li wc : Int32) (ac : Int64) (dc sc : Int32) (a1 a2 a3 a4 a5 a6 a7 a8 a9 a10 a11 a12 a13 a14 a15 a16 a17 a18 a19 a20 a21 a22 a23 a24 a25 a26 : Nat → Int32) : Prop :=
  fq_K nc fc a3 a4 a5 a6 a7 a8 ∧ fq_L a1 a2 ∧ fq_O nc a9 ∧ (0 ≤ lv ∧ lv ≤ 2) ∧ fq_M a21 ∧ fq_Q a22 ∧ fq_G a23 ∧ (sc = 0 → fq_Z a21) ∧ (¬ cp = 0 → fq_Code li a7 a14 a15 a16 a17 a18 ∧ fq_W li wc a14 a20)
theorem fq_Fmono (a : Nat → Int32) {m n : Nat} (h : m ≤ n) : fq_F a m ≤ fq_F a n := by
  induction n with
  | zero => rw [Nat.le_zero.mp h]; exact Nat.le_refl _
  | succ n ih =>
    by_cases e : m = n + 1
    · rw [e]; exact Nat.le_refl _
    · have := ih (by omega)
      show fq_F a m ≤ fq_F a n + _
      omega
theorem fq_Fstep (a : Nat → Int32) {m n : Nat} (h : m < n) (h6 : a m = 6) : fq_F a m < fq_F a n := by
  have h1 := fq_Fmono a (show m + 1 ≤ n from h)
  have h2 : fq_F a (m + 1) = fq_F a m + 1 := by
    show fq_F a m + (if a m = 6 then 1 else 0) = _
    rw [if_pos h6]
  omega
theorem fq_Fcong {a b : Nat → Int32} {n : Nat} (h : ∀ j, j < n → a j = b j) : fq_F a n = fq_F b n := by
  induction n with
  | zero => rfl
  | succ n ih =>
    show fq_F a n + (if a n = 6 then 1 else 0) = fq_F b n + (if b n = 6 then 1 else 0)
    rw [ih (fun j hj => h j (by omega)), h n (by omega)]
theorem fq_Fle (a : Nat → Int32) (n : Nat) : fq_F a n ≤ n := by
  induction n with
  | zero => exact Nat.le_refl _
  | succ n ih =>
    show fq_F a n + (if a n = 6 then 1 else 0) ≤ n + 1
    split <;> omega
end
end
section
section
variable {nc fc lv cp nd pn li wc : Int32} {ac : Int64} {dc sc : Int32} {a1 a2 a3 a4 a5 a6 a7 a8 a9 a10 a11 a12 a13 a14 a15 a16 a17 a18 a19 a20 a21 a22 a23 a24 a25 a26 : Nat → Int32}
theorem fq_clip {p : Int64} (h : -32768 ≤ p) (h2 : p ≤ 32767) : fq_S p.toInt32 := by
  have e1 := Int64.le_iff_toInt_le.mp h
  have e2 := Int64.le_iff_toInt_le.mp h2
  have c1 : (-32768 : Int64).toInt = -32768 := rfl
  have c2 : (32767 : Int64).toInt = 32767 := rfl
  rw [c1] at e1
  rw [c2] at e2
  have e : p.toInt32.toInt = p.toInt := by
    rw [Int64.toInt_toInt32]
    exact Int.bmod_eq_of_le (by omega) (by omega)
  have c3 : (-32768 : Int32).toInt = -32768 := rfl
  have c4 : (32767 : Int32).toInt = 32767 := rfl
  exact ⟨Int32.le_iff_toInt_le.mpr (by omega), Int32.le_iff_toInt_le.mpr (by omega)⟩
theorem fq_isNode {post : Int32 → Prop} {p : Int32} (H1 : 0 ≤ p → p < nc → post 1) (H0 : ¬ (0 ≤ p ∧ p < nc) → post 0) : wpX_isNode post (nc, fc, lv, cp, nd, pn, li, wc, ac, dc, sc, a1, a2, a3, a4, a5, a6, a7, a8, a9, a10, a11, a12, a13, a14, a15, a16, a17, a18, a19, a20, a21, a22, a23, a24, a25, a26) p :=
  br_c (fun g => H0 (by lia)) (fun g => br_c (fun g2 => H0 (by lia)) (fun g2 => H1 (by lia) (by lia)))
theorem fq_isSample {post : Int32 → Prop} {p : Int32} (H1 : fq_S p → post 1) (H0 : ¬ fq_S p → post 0) : wpX_isSample post (nc, fc, lv, cp, nd, pn, li, wc, ac, dc, sc, a1, a2, a3, a4, a5, a6, a7, a8, a9, a10, a11, a12, a13, a14, a15, a16, a17, a18, a19, a20, a21, a22, a23, a24, a25, a26) p :=
  br_c (fun g => H0 (by unfold fq_S; lia)) (fun g => br_c (fun g2 => H0 (by unfold fq_S; lia)) (fun g2 => H1 (by unfold fq_S; lia)))
theorem fq_fit {post : Int32 → Prop} {k px py : Int32} (hk : 0 ≤ k) (hk2 : k ≤ 10) (H1 : fq_N nc k px py → post 1) (H0 : ¬ fq_N nc k px py → post 0) :
    wpX_operandsFit post (nc, fc, lv, cp, nd, pn, li, wc, ac, dc, sc, a1, a2, a3, a4, a5, a6, a7, a8, a9, a10, a11, a12, a13, a14, a15, a16, a17, a18, a19, a20, a21, a22, a23, a24, a25, a26) k px py := by
  unfold fq_N at H1 H0
  refine br_c (fun g0 => br_c (fun g => H1 (by lia (splits := 40))) (fun g => br_c (fun g' => H1 (by lia (splits := 40))) (fun g' => H0 (by lia (splits := 40))))) (fun g0 => ?_)
  refine br_c (fun g1 => fq_isSample (fun s => ⟨rfl, H1 (by lia (splits := 40))⟩) (fun s => ⟨rfl, H0 (by lia (splits := 40))⟩)) (fun g1 => ?_)
  refine br_c (fun g5 => br_c (fun g => H0 (by lia (splits := 40))) (fun g => br_c (fun g' => H0 (by lia (splits := 40))) (fun g' => H1 (by lia (splits := 40))))) (fun g5 => ?_)
  refine fq_isNode (fun i1 i2 => br_f (by decide) ?_) (fun i => br_t rfl (H0 (by lia (splits := 40))))
  refine br_c (fun g4 => fq_isSample (fun s => ⟨rfl, H1 (by lia (splits := 40))⟩) (fun s => ⟨rfl, H0 (by lia (splits := 40))⟩)) (fun g4 => ?_)
  refine br_c (fun g6 => br_c (fun g => H0 (by lia (splits := 40))) (fun g => br_c (fun g' => H0 (by lia (splits := 40))) (fun g' => H1 (by lia (splits := 40))))) (fun g6 => ?_)
  refine br_c (fun g7 => br_c (fun g => H0 (by lia (splits := 40))) (fun g => br_c (fun g' => H0 (by lia (splits := 40))) (fun g' => H1 (by lia (splits := 40))))) (fun g7 => ?_)
  refine br_c (fun g8 => H1 (by lia (splits := 40))) (fun g8 => ?_)
  exact fq_isNode (fun j1 j2 => br_f (by decide) (H1 (by lia (splits := 40)))) (fun j => br_t rfl (H0 (by lia (splits := 40))))
theorem fq_clipped {post : Int32 → Prop} {p : Int64} (H : ∀ r, fq_S r → post r) : wpX_clipped post (nc, fc, lv, cp, nd, pn, li, wc, ac, dc, sc, a1, a2, a3, a4, a5, a6, a7, a8, a9, a10, a11, a12, a13, a14, a15, a16, a17, a18, a19, a20, a21, a22, a23, a24, a25, a26) p :=
  br_c (fun g => br_c (fun g2 => H _ (fq_clip g g2)) (fun _ => H _ ⟨by decide, by decide⟩)) (fun _ => H _ ⟨by decide, by decide⟩)
theorem fq_delay {post : Int32 → Prop} {p : Int32} (H : ∀ r, 1 ≤ r → r ≤ 2 → post r) : wpX_delayOf post (nc, fc, lv, cp, nd, pn, li, wc, ac, dc, sc, a1, a2, a3, a4, a5, a6, a7, a8, a9, a10, a11, a12, a13, a14, a15, a16, a17, a18, a19, a20, a21, a22, a23, a24, a25, a26) p :=
  br_c (fun _ => H _ (by decide) (by decide)) (fun _ => br_c (fun _ => H _ (by decide) (by decide)) (fun _ => br_c (fun _ => H _ (by decide) (by decide)) (fun _ => H _ (by decide) (by decide))))
theorem fq_two {post : Int32 → Prop} {p : Int32} (H1 : p = 2 ∨ p = 3 ∨ 9 ≤ p → post 1) (H0 : ¬ (p = 2 ∨ p = 3 ∨ 9 ≤ p) → post 0) : wpX_hasTwo post (nc, fc, lv, cp, nd, pn, li, wc, ac, dc, sc, a1, a2, a3, a4, a5, a6, a7, a8, a9, a10, a11, a12, a13, a14, a15, a16, a17, a18, a19, a20, a21, a22, a23, a24, a25, a26) p :=
  br_c (fun g => H1 (by lia)) (fun g => br_c (fun g2 => H1 (by lia)) (fun g2 => br_c (fun g3 => H0 (by lia)) (fun g3 => H1 (by lia))))
theorem fq_ring {post : Int32 → Prop} {p : Int32} (H0 : p < 18 → post 0) (H1 : ¬ p < 18 → post 1) : wpX_isRing post (nc, fc, lv, cp, nd, pn, li, wc, ac, dc, sc, a1, a2, a3, a4, a5, a6, a7, a8, a9, a10, a11, a12, a13, a14, a15, a16, a17, a18, a19, a20, a21, a22, a23, a24, a25, a26) p := br_c H0 H1
theorem fq_mem {post : Int32 → Prop} {p : Int32} (H0 : p < 16 → post 0) (H1 : ¬ p < 16 → post 1) : wpX_isMemory post (nc, fc, lv, cp, nd, pn, li, wc, ac, dc, sc, a1, a2, a3, a4, a5, a6, a7, a8, a9, a10, a11, a12, a13, a14, a15, a16, a17, a18, a19, a20, a21, a22, a23, a24, a25, a26) p := br_c H0 H1
theorem fq_need {post : Int32 → Prop} {p : Int32} (H : ∀ r, post r) : wpX_isNeeded post (nc, fc, lv, cp, nd, pn, li, wc, ac, dc, sc, a1, a2, a3, a4, a5, a6, a7, a8, a9, a10, a11, a12, a13, a14, a15, a16, a17, a18, a19, a20, a21, a22, a23, a24, a25, a26) p := br_c (fun _ => H _) (fun _ => H _)
theorem fq_reads {post : Int32 → Prop} {p q : Int32} (h0 : 0 ≤ p) (h1 : p < 300) (H : ∀ r, post r) : wpX_reads post (nc, fc, lv, cp, nd, pn, li, wc, ac, dc, sc, a1, a2, a3, a4, a5, a6, a7, a8, a9, a10, a11, a12, a13, a14, a15, a16, a17, a18, a19, a20, a21, a22, a23, a24, a25, a26) p q :=
  br_c (fun _ => H _) (fun _ => ⟨fq_in300 h0 h1, br_c (fun _ => H _) (fun _ => ⟨fq_in300 h0 h1, br_c (fun _ => H _) (fun _ => ⟨fq_in300 h0 h1, br_c (fun _ => br_c (fun _ => H _) (fun _ => H _)) (fun _ => H _)⟩)⟩)⟩)
theorem fq_tsame {post : Int32 → Prop} {p q : Int32} (h0 : 0 ≤ p) (h1 : p < 300) (k0 : 0 ≤ q) (k1 : q < 300) (H : ∀ r, post r) : wpX_touchSame post (nc, fc, lv, cp, nd, pn, li, wc, ac, dc, sc, a1, a2, a3, a4, a5, a6, a7, a8, a9, a10, a11, a12, a13, a14, a15, a16, a17, a18, a19, a20, a21, a22, a23, a24, a25, a26) p q := by
  have hp := fq_in300 h0 h1
  have hq := fq_in300 k0 k1
  have F : ∀ (Q : Int32 → Prop) (z : Int32), (∀ r, Q r) → wpX_isRing Q (nc, fc, lv, cp, nd, pn, li, wc, ac, dc, sc, a1, a2, a3, a4, a5, a6, a7, a8, a9, a10, a11, a12, a13, a14, a15, a16, a17, a18, a19, a20, a21, a22, a23, a24, a25, a26) z := fun Q z h => fq_ring (fun _ => h _) (fun _ => h _)
  refine And.intro hp (F _ _ (fun r => ⟨hq, F _ _ (fun r' => br_c (fun _ => ⟨hp, F _ _ (fun r'' => br_c (fun _ => ⟨hp, hq, br_c (fun _ => H _) (fun _ => H _)⟩) (fun _ => ⟨hp, by decide, hq, by decide, br_c (fun _ => H _) (fun _ => H _)⟩))⟩) (fun _ => H _))⟩))
theorem fq_d107 {post : Int32 → Prop} {x1 x2 x3 : Int32} (h0 : 0 ≤ x1) (h1 : x1 < 300) (k0 : 0 ≤ x2) (k1 : x2 < 300) (g0 : -1000 ≤ x3) (g1 : x3 ≤ 2) (H : ∀ r, -1000 ≤ r → r ≤ 2 → post r) :
    wX_distance_107 post x1 x2 x3 nc fc lv cp nd pn li wc ac dc sc a1 a2 a3 a4 a5 a6 a7 a8 a9 a10 a11 a12 a13 a14 a15 a16 a17 a18 a19 a20 a21 a22 a23 a24 a25 a26 := by
  have F : ∀ (Q : Int32 → Prop) (z : Int32), (∀ r, Q r) → wpX_isMemory Q (nc, fc, lv, cp, nd, pn, li, wc, ac, dc, sc, a1, a2, a3, a4, a5, a6, a7, a8, a9, a10, a11, a12, a13, a14, a15, a16, a17, a18, a19, a20, a21, a22, a23, a24, a25, a26) z := fun Q z h => fq_mem (fun _ => h _) (fun _ => h _)
  refine And.intro (fq_in300 k0 k1) (F _ _ (fun r => br_c (fun _ => H _ g0 g1) (fun _ => ⟨fq_in300 h0 h1, F _ _ (fun r' => br_c (fun _ => H _ g0 g1) (fun _ => ?_))⟩)))
  exact fq_tsame k0 k1 h0 h1 (fun r => br_c (fun _ => H _ g0 g1) (fun _ => br_c (fun _ => H _ g0 g1) (fun _ => H _ (by decide) (by decide))))
theorem fq_d49 {post : Int32 → Prop} {x1 x2 x3 : Int32} (h0 : 0 ≤ x1) (h1 : x1 < 300) (k0 : 0 ≤ x2) (k1 : x2 < 300) (g0 : -1000 ≤ x3) (g1 : x3 ≤ 2) (H : ∀ r, -1000 ≤ r → r ≤ 2 → post r) :
    wX_distance_49 post x1 x2 x3 nc fc lv cp nd pn li wc ac dc sc a1 a2 a3 a4 a5 a6 a7 a8 a9 a10 a11 a12 a13 a14 a15 a16 a17 a18 a19 a20 a21 a22 a23 a24 a25 a26 := by
  have hp := fq_in300 h0 h1
  have hq := fq_in300 k0 k1
  have E := fun x3 g0 g1 => @fq_d107 nc fc lv cp nd pn li wc ac dc sc a1 a2 a3 a4 a5 a6 a7 a8 a9 a10 a11 a12 a13 a14 a15 a16 a17 a18 a19 a20 a21 a22 a23 a24 a25 a26 post x1 x2 x3 h0 h1 k0 k1 g0 g1 H
  refine And.intro hq (br_c (fun _ => E _ g0 g1) (fun _ => ⟨hq, hp, br_c (fun _ => ⟨hp, fq_delay (fun r r1 r2 => ⟨hq, fq_delay (fun s s1 s2 => nm_e ?_)⟩)⟩) (fun _ => E _ g0 g1)⟩))
  exact br_c (fun _ => E _ g0 g1) (fun _ => E _ (by lia) (by lia))
theorem fq_d29 {post : Int32 → Prop} {x1 x2 x3 : Int32} (h0 : 0 ≤ x1) (h1 : x1 < 300) (k0 : 0 ≤ x2) (k1 : x2 < 300) (g0 : -1000 ≤ x3) (g1 : x3 ≤ 2) (H : ∀ r, -1000 ≤ r → r ≤ 2 → post r) :
    wX_distance_29 post x1 x2 x3 nc fc lv cp nd pn li wc ac dc sc a1 a2 a3 a4 a5 a6 a7 a8 a9 a10 a11 a12 a13 a14 a15 a16 a17 a18 a19 a20 a21 a22 a23 a24 a25 a26 := by
  have E := fun x3 g0 g1 => @fq_d49 nc fc lv cp nd pn li wc ac dc sc a1 a2 a3 a4 a5 a6 a7 a8 a9 a10 a11 a12 a13 a14 a15 a16 a17 a18 a19 a20 a21 a22 a23 a24 a25 a26 post x1 x2 x3 h0 h1 k0 k1 g0 g1 H
  exact And.intro (fq_in300 k0 k1) (fq_reads h0 h1 (fun r => br_c (fun _ => E _ g0 g1) (fun _ => br_c (fun _ => E _ g0 g1) (fun _ => E _ (by decide) (by decide)))))
theorem fq_dist {post : Int32 → Prop} {x1 x2 : Int32} (h0 : 0 ≤ x1) (h1 : x1 < 300) (k0 : 0 ≤ x2) (k1 : x2 < 300) (H : ∀ r, -1000 ≤ r → r ≤ 2 → post r) :
    wpX_distance post (nc, fc, lv, cp, nd, pn, li, wc, ac, dc, sc, a1, a2, a3, a4, a5, a6, a7, a8, a9, a10, a11, a12, a13, a14, a15, a16, a17, a18, a19, a20, a21, a22, a23, a24, a25, a26) x1 x2 := by
  have E := fun x3 g0 g1 => @fq_d29 nc fc lv cp nd pn li wc ac dc sc a1 a2 a3 a4 a5 a6 a7 a8 a9 a10 a11 a12 a13 a14 a15 a16 a17 a18 a19 a20 a21 a22 a23 a24 a25 a26 post x1 x2 x3 h0 h1 k0 k1 g0 g1 H
  exact And.intro (fq_in300 h0 h1) (fq_reads k0 k1 (fun r => br_c (fun _ => E _ (by decide) (by decide)) (fun _ => ⟨fq_in300 h0 h1, fq_delay (fun r r1 r2 => E _ (by lia) (by lia))⟩)))
end
end
section
section
variable {nc fc lv cp nd pn li wc : Int32} {ac : Int64} {dc sc : Int32} {a1 a2 a3 a4 a5 a6 a7 a8 a9 a10 a11 a12 a13 a14 a15 a16 a17 a18 a19 a20 a21 a22 a23 a24 a25 a26 : Nat → Int32}
theorem fq_reset23 {post : St1 → Prop} (H : ∀ a22 : Nat → Int32, fq_Q a22 → post (nc, fc, lv, cp, nd, pn, li, wc, ac, dc, 0, a1, a2, a3, a4, a5, a6, a7, a8, a9, a10, a11, a12, a13, a14, a15, a16, a17, a18, a19, a20, a21, a22, a23, a24, a25, a26)) :
    ∀ (n : Nat) (x : Int32) (a22 : Nat → Int32), 0 ≤ x → x ≤ 4 → (4 : Int32).toInt < x.toInt + ((n : Nat) : Int) →
      (∀ y : Int32, 0 ≤ y → y < x → 0 ≤ a22 y.toNatClampNeg ∧ a22 y.toNatClampNeg ≤ 5) → wX_reset_23 post nc fc lv cp nd pn li wc ac dc sc n x a1 a2 a3 a4 a5 a6 a7 a8 a9 a10 a11 a12 a13 a14 a15 a16 a17 a18 a19 a20 a21 a22 a23 a24 a25 a26 := by
  intro n
  induction n with
  | zero => intro x a22 h0 h1 hm; exact (fq_z hm h1).elim
  | succ n ih =>
    intro x a22 h0 h1 hm h
    refine br_c (fun g => H a22 (fun y y0 y1 => h y y0 (by lia))) (fun g => ?_)
    have g' : x < 4 := by lia
    exact ⟨fq_in4 h0 g', nm_e (nm_e (ih (x + 1) _ (by lia) (by lia) (fq_n hm g') (fq_up (P := fun _ v => 0 ≤ v ∧ v ≤ 5) h0 (fun y y0 y1 ne => h y y0 (by lia)) ⟨by decide, by decide⟩)))⟩
theorem fq_reset2 {post : St1 → Prop} (H : ∀ a21 a22 : Nat → Int32, fq_M a21 → fq_Z a21 → fq_Q a22 → post (nc, fc, lv, cp, nd, pn, li, wc, ac, dc, 0, a1, a2, a3, a4, a5, a6, a7, a8, a9, a10, a11, a12, a13, a14, a15, a16, a17, a18, a19, a20, a21, a22, a23, a24, a25, a26)) :
    ∀ (n : Nat) (x : Int32) (a21 : Nat → Int32), 2 ≤ x → x ≤ 96 → (96 : Int32).toInt < x.toInt + ((n : Nat) : Int) → fq_M a21 →
      (∀ y : Int32, 2 ≤ y → y < x → a21 y.toNatClampNeg = 0) → wX_reset_2 post nc fc lv cp nd pn li wc ac dc sc n x a1 a2 a3 a4 a5 a6 a7 a8 a9 a10 a11 a12 a13 a14 a15 a16 a17 a18 a19 a20 a21 a22 a23 a24 a25 a26 := by
  intro n
  induction n with
  | zero => intro x a21 h0 h1 hm; exact (fq_z hm h1).elim
  | succ n ih =>
    intro x a21 h0 h1 hm hM h
    have h0' : 0 ≤ x := by lia
    refine br_c (fun g => ⟨5000, fq_reset23 (fun a22 q => H a21 a22 hM (fun y y0 y1 => h y y0 (by lia)) q) 5000 0 a22 (by decide) (by decide) (fq_f (by decide) (by decide)) (fun y y0 y1 => absurd y1 (by lia))⟩) (fun g => ?_)
    have g' : x < 96 := by lia
    refine ⟨fq_in96 h0' g', nm_e (nm_e (ih (x + 1) _ (by lia) (by lia) (fq_n hm g') (fq_ud (P := fq_S) h0' hM ⟨by decide, by decide⟩) ?_))⟩
    intro y y0 y1
    by_cases e : y = x
    · rw [e, fq_us]
    · rw [fq_un h0' (by lia) e]
      exact h y y0 (by lia)
theorem fq_reset {post : St1 → Prop} (hM : fq_M a21) (H : ∀ a21 a22 : Nat → Int32, fq_M a21 → fq_Z a21 → fq_Q a22 → post (nc, fc, lv, cp, nd, pn, li, wc, ac, dc, 0, a1, a2, a3, a4, a5, a6, a7, a8, a9, a10, a11, a12, a13, a14, a15, a16, a17, a18, a19, a20, a21, a22, a23, a24, a25, a26)) : wpX_reset post (nc, fc, lv, cp, nd, pn, li, wc, ac, dc, sc, a1, a2, a3, a4, a5, a6, a7, a8, a9, a10, a11, a12, a13, a14, a15, a16, a17, a18, a19, a20, a21, a22, a23, a24, a25, a26) :=
  Exists.intro 5000 (fq_reset2 H 5000 2 a21 (by decide) (by decide) (fq_f (by decide) (by decide)) hM (fun y y0 y1 => absurd y1 (by lia)))
theorem fq_change {post : St1 → Prop} (hM : fq_M a21) (H : ∀ a21 a22 : Nat → Int32, fq_M a21 → fq_Z a21 → fq_Q a22 → post (nc, fc, lv, 0, nd, pn, li, wc, ac, dc, 0, a1, a2, a3, a4, a5, a6, a7, a8, a9, a10, a11, a12, a13, a14, a15, a16, a17, a18, a19, a20, a21, a22, a23, a24, a25, a26)) : wpX_change post (nc, fc, lv, cp, nd, pn, li, wc, ac, dc, sc, a1, a2, a3, a4, a5, a6, a7, a8, a9, a10, a11, a12, a13, a14, a15, a16, a17, a18, a19, a20, a21, a22, a23, a24, a25, a26) :=
  fq_reset hM (fun a21 a22 m z q => H a21 a22 m z q)
theorem fq_take38 {post : St1 → Prop} {x2 x3 : Int32} (hL : fq_L a1 a2) (h0 : 0 ≤ x2) (h1 : x2 < 4) (k0 : 0 ≤ x3) (k1 : x3 < 4) (g0 : 1 ≤ a7 x3.toNatClampNeg) (g1 : a7 x3.toNatClampNeg ≤ 6)
    (H : ∀ a8 : Nat → Int32, (∀ x : Int32, 0 ≤ x → x < 24 → fq_S (a8 x.toNatClampNeg)) → post (nc, fc, lv, cp, nd, pn, li, wc, ac, dc, sc, a1, a2, a3, a4, a5, a6, a7, a8, a9, a10, a11, a12, a13, a14, a15, a16, a17, a18, a19, a20, a21, a22, a23, a24, a25, a26)) :
    ∀ (n : Nat) (x : Int32) (a8 : Nat → Int32), 0 ≤ x → x ≤ a7 x3.toNatClampNeg → (a7 x3.toNatClampNeg).toInt < x.toInt + ((n : Nat) : Int) →
      (∀ x : Int32, 0 ≤ x → x < 24 → fq_S (a8 x.toNatClampNeg)) → wX_takeList_38 post x2 x3 nc fc lv cp nd pn li wc ac dc sc n x a1 a2 a3 a4 a5 a6 a7 a8 a9 a10 a11 a12 a13 a14 a15 a16 a17 a18 a19 a20 a21 a22 a23 a24 a25 a26 := by
  intro n
  induction n with
  | zero => intro x a8 i0 i1 hm; exact (fq_z hm i1).elim
  | succ n ih =>
    intro x a8 i0 i1 hm h
    refine And.intro (fq_in4 k0 k1) (br_c (fun g => H a8 h) (fun g => ?_))
    have g' : x < a7 x3.toNatClampNeg := by lia
    have b0 : 0 ≤ 6 * x2 + x ∧ 6 * x2 + x < 24 := by lia
    have b1 : 0 ≤ 6 * x3 + x ∧ 6 * x3 + x < 24 := by lia
    exact ⟨fq_in24 b0.1 b0.2, fq_in24 b1.1 b1.2, nm_e (nm_e (ih (x + 1) _ (by lia) (by lia) (fq_n hm g') (fq_ud (P := fq_S) b1.1 h (hL.2 _ b0.1 b0.2))))⟩
theorem fq_take {post : St1 → Prop} {p0 p1 : Int32} (hL : fq_L a1 a2) (h0 : 0 ≤ p0) (h1 : p0 < 24) (k0 : 0 ≤ p1) (k1 : p1 < 4) (f0 : 0 ≤ fc) (f1 : fc < 4)
    (h8 : ∀ x : Int32, 0 ≤ x → x < 24 → fq_S (a8 x.toNatClampNeg))
    (H : ∀ a8' : Nat → Int32, (∀ x : Int32, 0 ≤ x → x < 24 → fq_S (a8' x.toNatClampNeg)) →
      post (nc, fc + 1, lv, cp, nd, pn, li, wc, ac, dc, sc, a1, a2, a3, a4, a5, upd a6 p0.toNatClampNeg fc.toInt8.toInt32, upd a7 fc.toNatClampNeg (vp_nar .byte (a1 p1.toNatClampNeg)), a8', a9, a10, a11, a12, a13, a14, a15, a16, a17, a18, a19, a20, a21, a22, a23, a24, a25, a26)) :
    wpX_takeList post (nc, fc, lv, cp, nd, pn, li, wc, ac, dc, sc, a1, a2, a3, a4, a5, a6, a7, a8, a9, a10, a11, a12, a13, a14, a15, a16, a17, a18, a19, a20, a21, a22, a23, a24, a25, a26) p0 p1 := by
  have l := hL.1 p1 k0 k1
  have e : upd a7 fc.toNatClampNeg (vp_nar .byte (a1 p1.toNatClampNeg)) fc.toNatClampNeg = a1 p1.toNatClampNeg := by
    rw [fq_us, vp_nar_byte, fq_b (by lia) (by lia)]
  refine nm_e ⟨fq_in24 h0 h1, nm_e ⟨fq_in4 k0 k1, fq_in4 f0 f1, nm_e ⟨5000, ?_⟩⟩⟩
  refine fq_take38 hL k0 k1 f0 f1 ?_ ?_ H 5000 0 a8 (by decide) ?_ (fq_f ?_ (by decide)) h8
  · rw [e]; exact l.1
  · rw [e]; exact l.2
  · rw [e]; lia
  · rw [e]; lia
end
end
section
section
variable {nc fc lv cp nd pn li wc : Int32} {ac : Int64} {dc sc : Int32} {a1 a2 a3 a4 a5 a6 a7 a8 a9 a10 a11 a12 a13 a14 a15 a16 a17 a18 a19 a20 a21 a22 a23 a24 a25 a26 : Nat → Int32}
theorem fq_cle {x y : Int32} (h0 : 0 ≤ x) (h : x ≤ y) : x.toNatClampNeg ≤ y.toNatClampNeg := by
  have h1 := fq_clj h0
  have h2 := fq_clj (show 0 ≤ y by lia)
  have h3 := fq_ti h
  omega
theorem fq_clt {x y : Int32} (h0 : 0 ≤ x) (h : x < y) : x.toNatClampNeg < y.toNatClampNeg := by
  have h1 := fq_clj h0
  have h2 := fq_clj (show 0 ≤ y by lia)
  have h3 := fq_tl h
  omega
theorem fq_Fkeep {a : Nat → Int32} {k x v : Int32} (h0 : 0 ≤ x) (h : x ≤ k) : fq_F (upd a k.toNatClampNeg v) x.toNatClampNeg = fq_F a x.toNatClampNeg := by
  have := fq_cle h0 h
  exact fq_Fcong (fun j hj => pk_un (by omega))
theorem fq_Fnew {a : Nat → Int32} {k v : Int32} (h0 : 0 ≤ k) (h : k < 24) : fq_F (upd a k.toNatClampNeg v) (k + 1).toNatClampNeg = fq_F a k.toNatClampNeg + (if v = 6 then 1 else 0) := by
  rw [fq_c1 h0 h]
  show fq_F (upd a k.toNatClampNeg v) k.toNatClampNeg + (if upd a k.toNatClampNeg v k.toNatClampNeg = 6 then 1 else 0) = _
  rw [fq_us, fq_Fkeep h0 (by lia)]
theorem fq_Kfc (h : fq_K nc fc a3 a4 a5 a6 a7 a8) : 0 ≤ fc ∧ fc ≤ 4 := by
  obtain ⟨n0, n1, hN, hF, hF4, h6, h7, h8⟩ := h
  rw [hF]
  exact ⟨nI_pos' (by omega), nI_le (b := 4) hF4 (by decide)⟩
theorem fq_Knew {p0 p1 p2 : Int32} (h : fq_K nc fc a3 a4 a5 a6 a7 a8) (hn : nc < 24) (hN : fq_N nc p0 p1 p2) (g6 : ¬ p0 = 6) :
    fq_K (nc + 1) fc (upd a3 nc.toNatClampNeg p0) (upd a4 nc.toNatClampNeg p1) (upd a5 nc.toNatClampNeg p2) a6 a7 a8 := by
  obtain ⟨n0, n1, hN', hF, hF4, h6, h7, h8⟩ := h
  refine ⟨by lia, by lia, ?_, ?_, ?_, ?_, h7, h8⟩
  · intro x x0 x1
    by_cases e : x = nc
    · rw [e, fq_us, fq_us, fq_us]; exact hN
    · rw [fq_un n0 x0 e, fq_un n0 x0 e, fq_un n0 x0 e]; exact hN' x x0 (by lia)
  · rw [fq_Fnew n0 hn, if_neg g6]; exact hF
  · rw [fq_Fnew n0 hn, if_neg g6]; exact hF4
  · intro x x0 x1
    by_cases e : x = nc
    · rw [e, fq_us]; intro z; exact absurd z g6
    · rw [fq_un n0 x0 e, fq_Fkeep x0 (by lia)]; exact h6 x x0 (by lia)
theorem fq_Knew6 {p1 p2 t : Int32} {b8 : Nat → Int32} (h : fq_K nc fc a3 a4 a5 a6 a7 a8) (hn : nc < 24) (hN : fq_N nc 6 p1 p2) (hf : fc < 4) (t1 : 1 ≤ t) (t6 : t ≤ 6)
    (hb : ∀ x : Int32, 0 ≤ x → x < 24 → fq_S (b8 x.toNatClampNeg)) :
    fq_K (nc + 1) (fc + 1) (upd a3 nc.toNatClampNeg 6) (upd a4 nc.toNatClampNeg p1) (upd a5 nc.toNatClampNeg p2) (upd a6 nc.toNatClampNeg fc) (upd a7 fc.toNatClampNeg t) b8 := by
  have hfc := fq_Kfc h
  obtain ⟨n0, n1, hN', hF, hF4, h6, h7, h8⟩ := h
  have F4 : fq_F a3 nc.toNatClampNeg < 4 := by
    rcases Nat.lt_or_ge (fq_F a3 nc.toNatClampNeg) 4 with z | z
    · exact z
    · exfalso
      rw [hF, show fq_F a3 nc.toNatClampNeg = 4 by omega] at hf
      exact absurd hf (by decide)
  refine ⟨by lia, by lia, ?_, ?_, ?_, ?_, ?_, hb⟩
  · intro x x0 x1
    by_cases e : x = nc
    · rw [e, fq_us, fq_us, fq_us]; exact hN
    · rw [fq_un n0 x0 e, fq_un n0 x0 e, fq_un n0 x0 e]; exact hN' x x0 (by lia)
  · rw [fq_Fnew n0 hn, if_pos rfl, ← nI_1, ← hF]
  · rw [fq_Fnew n0 hn, if_pos rfl]; omega
  · intro x x0 x1
    by_cases e : x = nc
    · rw [e, fq_us, fq_us, fq_Fkeep n0 (by lia)]; intro _; exact hF
    · rw [fq_un n0 x0 e, fq_un n0 x0 e, fq_Fkeep x0 (by lia)]; exact h6 x x0 (by lia)
  · exact fq_up (P := fun _ v => 1 ≤ v ∧ v ≤ 6) hfc.1 (fun y y0 y1 ne => h7 y y0 (by lia)) ⟨t1, t6⟩
theorem fq_pred {x : Int32} (h0 : 0 ≤ x) (h : ¬ x = 0) : x.toNatClampNeg = (x - 1).toNatClampNeg + 1 := by
  have h1 := fq_c1 (x := x - 1) (e := x) (by lia) (by lia)
  rw [← h1, show x - 1 + 1 = x by lia]
theorem fq_Kret (h : fq_K nc fc a3 a4 a5 a6 a7 a8) (hn : ¬ nc = 0) (g6 : ¬ a3 (nc - 1).toNatClampNeg = 6) : fq_K (nc - 1) fc a3 a4 a5 a6 a7 a8 := by
  obtain ⟨n0, n1, hN', hF, hF4, h6, h7, h8⟩ := h
  have e : fq_F a3 nc.toNatClampNeg = fq_F a3 (nc - 1).toNatClampNeg := by
    rw [fq_pred n0 hn]
    show fq_F a3 (nc - 1).toNatClampNeg + (if a3 (nc - 1).toNatClampNeg = 6 then 1 else 0) = _
    rw [if_neg g6]; rfl
  rw [e] at hF hF4
  exact ⟨by lia, by lia, fun x x0 x1 => hN' x x0 (by lia), hF, hF4, fun x x0 x1 => h6 x x0 (by lia), h7, h8⟩
theorem fq_Kret6 (h : fq_K nc fc a3 a4 a5 a6 a7 a8) (hn : ¬ nc = 0) (g6 : a3 (nc - 1).toNatClampNeg = 6) : fq_K (nc - 1) (fc - 1) a3 a4 a5 a6 a7 a8 := by
  obtain ⟨n0, n1, hN', hF, hF4, h6, h7, h8⟩ := h
  have e : fq_F a3 nc.toNatClampNeg = fq_F a3 (nc - 1).toNatClampNeg + 1 := by
    rw [fq_pred n0 hn]
    show fq_F a3 (nc - 1).toNatClampNeg + (if a3 (nc - 1).toNatClampNeg = 6 then 1 else 0) = _
    rw [if_pos g6]
  rw [e] at hF hF4
  have e2 : fc - 1 = nI (fq_F a3 (nc - 1).toNatClampNeg) := by rw [hF, nI_pred]
  refine ⟨by lia, by lia, fun x x0 x1 => hN' x x0 (by lia), e2, by omega, fun x x0 x1 => h6 x x0 (by lia), fun x x0 x1 => h7 x x0 ?_, h8⟩
  have : 0 ≤ fc - 1 := by rw [e2]; exact nI_pos' (by omega)
  have : fc ≤ 4 := by rw [hF]; exact nI_le (b := 4) hF4 (by decide)
  have : 0 ≤ fc := by rw [hF]; exact nI_pos' (by omega)
  lia
theorem fq_Nbad {x k px py : Int32} (h : k < 0 ∨ 10 < k) : ¬ fq_N x k px py := fun z => by
  have h1 := z.1
  have h2 := z.2.1
  lia
theorem fq_node {post : Int32 → St1 → Prop} {p0 p1 p2 : Int32} (hI : fq_Inv nc fc lv cp nd pn li wc ac dc sc a1 a2 a3 a4 a5 a6 a7 a8 a9 a10 a11 a12 a13 a14 a15 a16 a17 a18 a19 a20 a21 a22 a23 a24 a25 a26)
    (HF : nc = 24 ∨ (p0 = 6 ∧ fc = 4) → post (-100001) (nc, fc, lv, cp, nd, pn, li, wc, ac, dc, sc, a1, a2, a3, a4, a5, a6, a7, a8, a9, a10, a11, a12, a13, a14, a15, a16, a17, a18, a19, a20, a21, a22, a23, a24, a25, a26))
    (HB : ¬ (nc = 24 ∨ (p0 = 6 ∧ fc = 4)) → ¬ fq_N nc p0 p1 p2 → post (-100000) (nc, fc, lv, cp, nd, pn, li, wc, ac, dc, sc, a1, a2, a3, a4, a5, a6, a7, a8, a9, a10, a11, a12, a13, a14, a15, a16, a17, a18, a19, a20, a21, a22, a23, a24, a25, a26))
    (HN : ¬ (nc = 24 ∨ (p0 = 6 ∧ fc = 4)) → fq_N nc p0 p1 p2 → ∀ (fc' : Int32) (a3' : Nat → Int32) (a4' : Nat → Int32) (a5' : Nat → Int32) (a6' : Nat → Int32) (a7' : Nat → Int32) (a8' : Nat → Int32) (a21' : Nat → Int32) (a22' : Nat → Int32), a3' = upd a3 nc.toNatClampNeg p0 →
      fq_Inv (nc + 1) fc' lv 0 nd pn li wc ac dc 0 a1 a2 a3' a4' a5' a6' a7' a8' a9 a10 a11 a12 a13 a14 a15 a16 a17 a18 a19 a20 a21' a22' a23 a24 a25 a26 → post nc (nc + 1, fc', lv, 0, nd, pn, li, wc, ac, dc, 0, a1, a2, a3', a4', a5', a6', a7', a8', a9, a10, a11, a12, a13, a14, a15, a16, a17, a18, a19, a20, a21', a22', a23, a24, a25, a26)) :
    wpX_node post (nc, fc, lv, cp, nd, pn, li, wc, ac, dc, sc, a1, a2, a3, a4, a5, a6, a7, a8, a9, a10, a11, a12, a13, a14, a15, a16, a17, a18, a19, a20, a21, a22, a23, a24, a25, a26) p0 p1 p2 := by
  obtain ⟨hK, hL, hO, hlv, hM, hQ, hG, hZ, hC⟩ := hI
  have n0 := hK.1
  have n1 := hK.2.1
  have hfc := fq_Kfc hK
  have h8 := hK.2.2.2.2.2.2.2
  have core : ¬ (nc = 24 ∨ (p0 = 6 ∧ fc = 4)) → wX_node_26 post p0 p1 p2 nc fc lv cp nd pn li wc ac dc sc a1 a2 a3 a4 a5 a6 a7 a8 a9 a10 a11 a12 a13 a14 a15 a16 a17 a18 a19 a20 a21 a22 a23 a24 a25 a26 := by
    intro nf
    have hn : nc < 24 := by lia
    refine br_c (fun g => HB nf (fq_Nbad (Or.inl g))) (fun g => br_c (fun g' => HB nf (fq_Nbad (Or.inr g'))) (fun g' => ?_))
    have eb : p0.toInt8.toInt32 = p0 := fq_b (by lia) (by lia)
    refine fq_fit (by lia) (by lia) (fun hN => br_f (by decide) ?_) (fun hN => br_t rfl (HB nf hN))
    have hO' : fq_O (nc + 1) a9 := fun x x0 x1 => ⟨(hO x x0 x1).1, by have := (hO x x0 x1).2; lia⟩
    refine nm_e ⟨fq_in24 n0 hn, nm_e ⟨fq_in24 n0 hn, nm_e ⟨fq_in24 n0 hn, nm_e ?_⟩⟩⟩
    refine br_c (fun g6 => ?_) (fun g6 => ?_)
    · have hp2 := hN.2.2.2.2.2.2.2.2.1 g6
      have hf4 : fc < 4 := by lia
      have l := hL.1 p2 (by lia) (by lia)
      refine fq_take hL n0 hn (by lia) (by lia) hfc.1 hf4 h8 (fun a8' h8' => ?_)
      refine fq_change hM (fun a21 a22 m z q => HN nf hN _ _ _ _ _ _ _ _ _ (by rw [eb]) ?_)
      have e6 : fc.toInt8.toInt32 = fc := fq_b (by lia) (by lia)
      have e7 : vp_nar .byte (a1 p2.toNatClampNeg) = a1 p2.toNatClampNeg := by rw [vp_nar_byte, fq_b (by lia) (by lia)]
      rw [eb, e6, e7]
      rw [g6] at hN ⊢
      exact ⟨fq_Knew6 hK hn hN hf4 l.1 l.2 h8', hL, hO', hlv, m, q, hG, fun _ => z, fun z => absurd rfl z⟩
    · refine fq_change hM (fun a21 a22 m z q => HN nf hN _ _ _ _ _ _ _ _ _ (by rw [eb]) ?_)
      rw [eb]
      exact ⟨fq_Knew hK hn hN g6, hL, hO', hlv, m, q, hG, fun _ => z, fun z => absurd rfl z⟩
  exact br_c (fun g => HF (Or.inl (by lia))) (fun g => br_c (fun g6 => br_c (fun g4 => core (by lia)) (fun g4 => HF (Or.inr ⟨g6, by lia⟩))) (fun g6 => core (by lia)))
end
end
section
section
variable {nc fc lv cp nd pn li wc : Int32} {ac : Int64} {dc sc : Int32} {a1 a2 a3 a4 a5 a6 a7 a8 a9 a10 a11 a12 a13 a14 a15 a16 a17 a18 a19 a20 a21 a22 a23 a24 a25 a26 : Nat → Int32}
theorem fq_output {post : Int32 → St1 → Prop} {p0 p1 : Int32} (hI : fq_Inv nc fc lv cp nd pn li wc ac dc sc a1 a2 a3 a4 a5 a6 a7 a8 a9 a10 a11 a12 a13 a14 a15 a16 a17 a18 a19 a20 a21 a22 a23 a24 a25 a26)
    (H0 : ¬ (0 ≤ p0 ∧ p0 < 4 ∧ -1 ≤ p1 ∧ p1 < nc) → post 0 (nc, fc, lv, cp, nd, pn, li, wc, ac, dc, sc, a1, a2, a3, a4, a5, a6, a7, a8, a9, a10, a11, a12, a13, a14, a15, a16, a17, a18, a19, a20, a21, a22, a23, a24, a25, a26))
    (H1 : 0 ≤ p0 ∧ p0 < 4 ∧ -1 ≤ p1 ∧ p1 < nc → ∀ (a9' : Nat → Int32) (a21' : Nat → Int32) (a22' : Nat → Int32), a9' = upd a9 p0.toNatClampNeg p1 → fq_Inv nc fc lv 0 nd pn li wc ac dc 0 a1 a2 a3 a4 a5 a6 a7 a8 a9' a10 a11 a12 a13 a14 a15 a16 a17 a18 a19 a20 a21' a22' a23 a24 a25 a26 → post 1 (nc, fc, lv, 0, nd, pn, li, wc, ac, dc, 0, a1, a2, a3, a4, a5, a6, a7, a8, a9', a10, a11, a12, a13, a14, a15, a16, a17, a18, a19, a20, a21', a22', a23, a24, a25, a26)) :
    wpX_output post (nc, fc, lv, cp, nd, pn, li, wc, ac, dc, sc, a1, a2, a3, a4, a5, a6, a7, a8, a9, a10, a11, a12, a13, a14, a15, a16, a17, a18, a19, a20, a21, a22, a23, a24, a25, a26) p0 p1 := by
  obtain ⟨hK, hL, hO, hlv, hM, hQ, hG, hZ, hC⟩ := hI
  have n0 := hK.1
  have n1 := hK.2.1
  refine br_c (fun g => H0 (by lia)) (fun g => br_c (fun g1 => H0 (by lia)) (fun g1 => br_c (fun g2 => H0 (by lia)) (fun g2 => br_c (fun g3 => ?_) (fun g3 => H0 (by lia)))))
  have eb : p1.toInt8.toInt32 = p1 := fq_b (by lia) (by lia)
  refine ⟨fq_in4 (by lia) (by lia), nm_e (fq_change hM (fun a21 a22 m z q => H1 (by lia) _ _ _ (by rw [eb]) ?_))⟩
  refine ⟨hK, hL, ?_, hlv, m, q, hG, fun _ => z, fun z => absurd rfl z⟩
  rw [eb]
  exact fq_ud (P := fun v => -1 ≤ v ∧ v < nc) (by lia) hO (by lia)
theorem fq_tie {post : Int32 → St1 → Prop} {p0 p1 : Int32} (hI : fq_Inv nc fc lv cp nd pn li wc ac dc sc a1 a2 a3 a4 a5 a6 a7 a8 a9 a10 a11 a12 a13 a14 a15 a16 a17 a18 a19 a20 a21 a22 a23 a24 a25 a26)
    (H0 : ¬ (0 ≤ p0 ∧ p0 < nc ∧ a3 p0.toNatClampNeg = 5 ∧ 0 ≤ p1 ∧ p1 < 24) → post 0 (nc, fc, lv, cp, nd, pn, li, wc, ac, dc, sc, a1, a2, a3, a4, a5, a6, a7, a8, a9, a10, a11, a12, a13, a14, a15, a16, a17, a18, a19, a20, a21, a22, a23, a24, a25, a26))
    (H1 : 0 ≤ p0 ∧ p0 < nc ∧ a3 p0.toNatClampNeg = 5 ∧ 0 ≤ p1 ∧ p1 < 24 → ∀ (a4' : Nat → Int32) (a21' : Nat → Int32) (a22' : Nat → Int32), fq_Inv nc fc lv 0 nd pn li wc ac dc 0 a1 a2 a3 a4' a5 a6 a7 a8 a9 a10 a11 a12 a13 a14 a15 a16 a17 a18 a19 a20 a21' a22' a23 a24 a25 a26 → post 1 (nc, fc, lv, 0, nd, pn, li, wc, ac, dc, 0, a1, a2, a3, a4', a5, a6, a7, a8, a9, a10, a11, a12, a13, a14, a15, a16, a17, a18, a19, a20, a21', a22', a23, a24, a25, a26)) :
    wpX_tie post (nc, fc, lv, cp, nd, pn, li, wc, ac, dc, sc, a1, a2, a3, a4, a5, a6, a7, a8, a9, a10, a11, a12, a13, a14, a15, a16, a17, a18, a19, a20, a21, a22, a23, a24, a25, a26) p0 p1 := by
  obtain ⟨hK, hL, hO, hlv, hM, hQ, hG, hZ, hC⟩ := hI
  have n0 := hK.1
  have n1 := hK.2.1
  unfold wpX_tie
  dsimp only
  refine fq_isNode (fun i0 i1 => br_f (by decide) ⟨fq_in24 i0 (by lia), br_c (fun g5 => ?_) (fun g5 => H0 (by lia))⟩) (fun i => br_t rfl (H0 (by lia)))
  refine br_c (fun g => H0 (by lia)) (fun g => br_c (fun g1 => ⟨fq_in24 i0 (by lia), nm_e ?_⟩) (fun g1 => H0 (by lia)))
  refine fq_change hM (fun a21 a22 m z q => H1 (by lia) (upd a4 p0.toNatClampNeg p1) a21 a22 ?_)
  refine ⟨?_, hL, hO, hlv, m, q, hG, fun _ => z, fun z => absurd rfl z⟩
  obtain ⟨_, _, hN', hF, hF4, h6, h7, h8⟩ := hK
  refine ⟨n0, n1, ?_, hF, hF4, h6, h7, h8⟩
  intro x x0 x1
  by_cases e : x = p0
  · rw [e, fq_us, g5]
    refine ⟨by decide, by decide, fun z => absurd z (by decide), fun z => absurd z (by decide), fun _ => by lia, fun _ z => absurd rfl z, fun z => absurd z (by decide), fun z => absurd z (by decide), fun z => absurd z (by decide), fun z => absurd z (by decide)⟩
  · rw [fq_un i0 x0 e]
    exact hN' x x0 x1
theorem fq_ret46 {post : Int32 → St1 → Prop} (hM : fq_M a21)
    (H : ∀ (a9' : Nat → Int32) (a21' : Nat → Int32) (a22' : Nat → Int32), (∀ o : Int32, 0 ≤ o → o < 4 → a9' o.toNatClampNeg = if a9 o.toNatClampNeg = nc then -1 else a9 o.toNatClampNeg) → fq_M a21' → fq_Z a21' → fq_Q a22' → post nc (nc, fc, lv, 0, nd, pn, li, wc, ac, dc, 0, a1, a2, a3, a4, a5, a6, a7, a8, a9', a10, a11, a12, a13, a14, a15, a16, a17, a18, a19, a20, a21', a22', a23, a24, a25, a26)) :
    ∀ (n : Nat) (x : Int32) (b9 : Nat → Int32), 0 ≤ x → x ≤ 4 → (4 : Int32).toInt < x.toInt + ((n : Nat) : Int) →
      (∀ o : Int32, 0 ≤ o → o < x → b9 o.toNatClampNeg = if a9 o.toNatClampNeg = nc then -1 else a9 o.toNatClampNeg) →
      (∀ o : Int32, x ≤ o → o < 4 → b9 o.toNatClampNeg = a9 o.toNatClampNeg) → wX_retract_46 post nc fc lv cp nd pn li wc ac dc sc n x a1 a2 a3 a4 a5 a6 a7 a8 b9 a10 a11 a12 a13 a14 a15 a16 a17 a18 a19 a20 a21 a22 a23 a24 a25 a26 := by
  intro n
  induction n with
  | zero => intro x b9 h0 h1 hm; exact (fq_z hm h1).elim
  | succ n ih =>
    intro x b9 h0 h1 hm h k
    refine br_c (fun g => fq_change hM (fun a21 a22 m z q => H b9 a21 a22 (fun o o0 o1 => h o o0 (by lia)) m z q)) (fun g => ?_)
    have g' : x < 4 := by lia
    have kx := k x (by lia) g'
    refine ⟨fq_in4 h0 g', br_c (fun e => ⟨fq_in4 h0 g', nm_e (nm_e (ih (x + 1) _ (by lia) (by lia) (fq_n hm g') ?_ ?_))⟩) (fun e => nm_e (ih (x + 1) _ (by lia) (by lia) (fq_n hm g') ?_ ?_))⟩
    · intro o o0 o1
      by_cases d : o = x
      · rw [d, fq_us, ← kx, if_pos e]
      · rw [fq_un h0 o0 d]; exact h o o0 (by lia)
    · intro o o0 o1
      rw [fq_un h0 (by lia) (by lia)]
      exact k o (by lia) o1
    · intro o o0 o1
      by_cases d : o = x
      · rw [d, ← kx, if_neg e]
      · exact h o o0 (by lia)
    · intro o o0 o1
      exact k o (by lia) o1
theorem fq_retract {post : Int32 → St1 → Prop} (hI : fq_Inv nc fc lv cp nd pn li wc ac dc sc a1 a2 a3 a4 a5 a6 a7 a8 a9 a10 a11 a12 a13 a14 a15 a16 a17 a18 a19 a20 a21 a22 a23 a24 a25 a26)
    (H0 : nc = 0 → post (-100000) (nc, fc, lv, cp, nd, pn, li, wc, ac, dc, sc, a1, a2, a3, a4, a5, a6, a7, a8, a9, a10, a11, a12, a13, a14, a15, a16, a17, a18, a19, a20, a21, a22, a23, a24, a25, a26))
    (H1 : ¬ nc = 0 → ∀ (fc' : Int32) (a9' : Nat → Int32) (a21' : Nat → Int32) (a22' : Nat → Int32), (∀ o : Int32, 0 ≤ o → o < 4 → a9' o.toNatClampNeg = if a9 o.toNatClampNeg = nc - 1 then -1 else a9 o.toNatClampNeg) →
      fq_Inv (nc - 1) fc' lv 0 nd pn li wc ac dc 0 a1 a2 a3 a4 a5 a6 a7 a8 a9' a10 a11 a12 a13 a14 a15 a16 a17 a18 a19 a20 a21' a22' a23 a24 a25 a26 → post (nc - 1) (nc - 1, fc', lv, 0, nd, pn, li, wc, ac, dc, 0, a1, a2, a3, a4, a5, a6, a7, a8, a9', a10, a11, a12, a13, a14, a15, a16, a17, a18, a19, a20, a21', a22', a23, a24, a25, a26)) :
    wpX_retract post (nc, fc, lv, cp, nd, pn, li, wc, ac, dc, sc, a1, a2, a3, a4, a5, a6, a7, a8, a9, a10, a11, a12, a13, a14, a15, a16, a17, a18, a19, a20, a21, a22, a23, a24, a25, a26) := by
  obtain ⟨hK, hL, hO, hlv, hM, hQ, hG, hZ, hC⟩ := hI
  have n0 := hK.1
  have n1 := hK.2.1
  refine br_c (fun g => H0 g) (fun g => nm_e ⟨fq_in24 (by lia) (by lia), ?_⟩)
  have hO' : ∀ b9 : Nat → Int32, (∀ o : Int32, 0 ≤ o → o < 4 → b9 o.toNatClampNeg = if a9 o.toNatClampNeg = nc - 1 then -1 else a9 o.toNatClampNeg) → fq_O (nc - 1) b9 := by
    intro b9 h x x0 x1
    have := hO x x0 x1
    rw [h x x0 x1]
    split <;> lia
  have Z : ∀ o : Int32, 0 ≤ o → o < 0 → a9 o.toNatClampNeg = if a9 o.toNatClampNeg = nc - 1 then -1 else a9 o.toNatClampNeg := fun o o0 o1 => absurd o1 (by lia)
  refine br_c (fun g6 => nm_e ⟨5000, fq_ret46 hM (fun b9 a21 a22 h m z q => H1 g _ _ _ _ h ?_) 5000 0 a9 (by decide) (by decide) (fq_f (by decide) (by decide)) Z (fun o _ _ => rfl)⟩)
    (fun g6 => ⟨5000, fq_ret46 hM (fun b9 a21 a22 h m z q => H1 g _ _ _ _ h ?_) 5000 0 a9 (by decide) (by decide) (fq_f (by decide) (by decide)) Z (fun o _ _ => rfl)⟩)
  · exact ⟨fq_Kret6 hK g g6, hL, hO' b9 h, hlv, m, q, hG, fun _ => z, fun z => absurd rfl z⟩
  · exact ⟨fq_Kret hK g g6, hL, hO' b9 h, hlv, m, q, hG, fun _ => z, fun z => absurd rfl z⟩
theorem fq_level {post : Int32 → St1 → Prop} {p : Int32} (hI : fq_Inv nc fc lv cp nd pn li wc ac dc sc a1 a2 a3 a4 a5 a6 a7 a8 a9 a10 a11 a12 a13 a14 a15 a16 a17 a18 a19 a20 a21 a22 a23 a24 a25 a26) (H0 : ¬ (0 ≤ p ∧ p ≤ 2) → post 0 (nc, fc, lv, cp, nd, pn, li, wc, ac, dc, sc, a1, a2, a3, a4, a5, a6, a7, a8, a9, a10, a11, a12, a13, a14, a15, a16, a17, a18, a19, a20, a21, a22, a23, a24, a25, a26))
    (H1 : 0 ≤ p ∧ p ≤ 2 → ∀ cp', fq_Inv nc fc p cp' nd pn li wc ac dc sc a1 a2 a3 a4 a5 a6 a7 a8 a9 a10 a11 a12 a13 a14 a15 a16 a17 a18 a19 a20 a21 a22 a23 a24 a25 a26 → post 1 (nc, fc, p, cp', nd, pn, li, wc, ac, dc, sc, a1, a2, a3, a4, a5, a6, a7, a8, a9, a10, a11, a12, a13, a14, a15, a16, a17, a18, a19, a20, a21, a22, a23, a24, a25, a26)) : wpX_level post (nc, fc, lv, cp, nd, pn, li, wc, ac, dc, sc, a1, a2, a3, a4, a5, a6, a7, a8, a9, a10, a11, a12, a13, a14, a15, a16, a17, a18, a19, a20, a21, a22, a23, a24, a25, a26) p := by
  obtain ⟨hK, hL, hO, hlv, hM, hQ, hG, hZ, hC⟩ := hI
  refine br_c (fun g => H0 (by lia)) (fun g => br_c (fun g1 => br_c (fun e => H1 (by lia) _ ?_) (fun e => H1 (by lia) _ ?_)) (fun g1 => H0 (by lia)))
  · exact ⟨hK, hL, hO, by lia, hM, hQ, hG, hZ, hC⟩
  · exact ⟨hK, hL, hO, by lia, hM, hQ, hG, hZ, fun z => absurd rfl z⟩
theorem fq_input {post : Int32 → St1 → Prop} {p0 p1 : Int32} (hI : fq_Inv nc fc lv cp nd pn li wc ac dc sc a1 a2 a3 a4 a5 a6 a7 a8 a9 a10 a11 a12 a13 a14 a15 a16 a17 a18 a19 a20 a21 a22 a23 a24 a25 a26) (H0 : ¬ (0 ≤ p0 ∧ p0 ≤ 1 ∧ fq_S p1) → post 0 (nc, fc, lv, cp, nd, pn, li, wc, ac, dc, sc, a1, a2, a3, a4, a5, a6, a7, a8, a9, a10, a11, a12, a13, a14, a15, a16, a17, a18, a19, a20, a21, a22, a23, a24, a25, a26))
    (H1 : 0 ≤ p0 ∧ p0 ≤ 1 ∧ fq_S p1 → ∀ a21', fq_Inv nc fc lv cp nd pn li wc ac dc sc a1 a2 a3 a4 a5 a6 a7 a8 a9 a10 a11 a12 a13 a14 a15 a16 a17 a18 a19 a20 a21' a22 a23 a24 a25 a26 → post 1 (nc, fc, lv, cp, nd, pn, li, wc, ac, dc, sc, a1, a2, a3, a4, a5, a6, a7, a8, a9, a10, a11, a12, a13, a14, a15, a16, a17, a18, a19, a20, a21', a22, a23, a24, a25, a26)) : wpX_input post (nc, fc, lv, cp, nd, pn, li, wc, ac, dc, sc, a1, a2, a3, a4, a5, a6, a7, a8, a9, a10, a11, a12, a13, a14, a15, a16, a17, a18, a19, a20, a21, a22, a23, a24, a25, a26) p0 p1 := by
  obtain ⟨hK, hL, hO, hlv, hM, hQ, hG, hZ, hC⟩ := hI
  refine br_c (fun g => H0 (by lia)) (fun g => br_c (fun g1 => H0 (by lia)) (fun g1 => fq_isSample (fun s => br_f (by decide) ⟨fq_in96 (by lia) (by lia), nm_e (H1 ⟨by lia, by lia, s⟩ _ ?_)⟩) (fun s => br_t rfl (H0 (fun z => s z.2.2)))))
  refine ⟨hK, hL, hO, hlv, fq_ud (P := fq_S) (by lia) hM s, hQ, hG, fun z x x0 x1 => ?_, hC⟩
  rw [fq_un (by lia) (by lia) (by lia)]
  exact hZ z x x0 x1
theorem fq_coef36 {post : Int32 → St1 → Prop} {p0 p1 p2 : Int32} (h1 : ∀ x : Int32, 0 ≤ x → x < 4 → 1 ≤ a1 x.toNatClampNeg ∧ a1 x.toNatClampNeg ≤ 6) (g0 : 0 ≤ p0) (g1 : p0 ≤ 3) (k0 : 0 ≤ p1) (k1 : p1 ≤ 5) (s : fq_S p2)
    (H : ∀ (a1' : Nat → Int32) (a2' : Nat → Int32), fq_L a1' a2' → post 1 (nc, fc, lv, cp, nd, pn, li, wc, ac, dc, sc, a1', a2', a3, a4, a5, a6, a7, a8, a9, a10, a11, a12, a13, a14, a15, a16, a17, a18, a19, a20, a21, a22, a23, a24, a25, a26)) :
    ∀ (n : Nat) (x : Int32) (a2 : Nat → Int32), 0 ≤ x → x ≤ 6 → (6 : Int32).toInt < x.toInt + ((n : Nat) : Int) → (∀ x : Int32, 0 ≤ x → x < 24 → fq_S (a2 x.toNatClampNeg)) → wX_coefficient_36 post p0 p1 p2 nc fc lv cp nd pn li wc ac dc sc n x a1 a2 a3 a4 a5 a6 a7 a8 a9 a10 a11 a12 a13 a14 a15 a16 a17 a18 a19 a20 a21 a22 a23 a24 a25 a26 := by
  intro n
  induction n with
  | zero => intro x a2 h0 i1 hm; exact (fq_z hm i1).elim
  | succ n ih =>
    intro x a2 h0 i1 hm h
    have eb : (p1 + 1).toInt8.toInt32 = p1 + 1 := fq_b (by lia) (by lia)
    refine br_c (fun g => ⟨fq_in24 (by lia) (by lia), nm_e ⟨fq_in4 (by lia) (by lia), nm_e (H _ _ ⟨?_, fq_ud (P := fq_S) (by lia) h s⟩)⟩⟩) (fun g => ?_)
    · rw [eb]
      exact fq_ud (P := fun v => 1 ≤ v ∧ v ≤ 6) g0 h1 (by lia)
    · have g' : x < 6 := by lia
      exact ⟨fq_in24 (by lia) (by lia), nm_e (nm_e (ih (x + 1) _ (by lia) (by lia) (fq_n hm g') (fq_ud (P := fq_S) (by lia) h ⟨by decide, by decide⟩)))⟩
theorem fq_coef {post : Int32 → St1 → Prop} {p0 p1 p2 : Int32} (hI : fq_Inv nc fc lv cp nd pn li wc ac dc sc a1 a2 a3 a4 a5 a6 a7 a8 a9 a10 a11 a12 a13 a14 a15 a16 a17 a18 a19 a20 a21 a22 a23 a24 a25 a26) (H0 : ¬ (0 ≤ p0 ∧ p0 ≤ 3 ∧ 0 ≤ p1 ∧ p1 ≤ 5 ∧ fq_S p2) → post 0 (nc, fc, lv, cp, nd, pn, li, wc, ac, dc, sc, a1, a2, a3, a4, a5, a6, a7, a8, a9, a10, a11, a12, a13, a14, a15, a16, a17, a18, a19, a20, a21, a22, a23, a24, a25, a26))
    (H1 : 0 ≤ p0 ∧ p0 ≤ 3 ∧ 0 ≤ p1 ∧ p1 ≤ 5 ∧ fq_S p2 → ∀ (a1' : Nat → Int32) (a2' : Nat → Int32), fq_Inv nc fc lv cp nd pn li wc ac dc sc a1' a2' a3 a4 a5 a6 a7 a8 a9 a10 a11 a12 a13 a14 a15 a16 a17 a18 a19 a20 a21 a22 a23 a24 a25 a26 → post 1 (nc, fc, lv, cp, nd, pn, li, wc, ac, dc, sc, a1', a2', a3, a4, a5, a6, a7, a8, a9, a10, a11, a12, a13, a14, a15, a16, a17, a18, a19, a20, a21, a22, a23, a24, a25, a26)) : wpX_coefficient post (nc, fc, lv, cp, nd, pn, li, wc, ac, dc, sc, a1, a2, a3, a4, a5, a6, a7, a8, a9, a10, a11, a12, a13, a14, a15, a16, a17, a18, a19, a20, a21, a22, a23, a24, a25, a26) p0 p1 p2 := by
  obtain ⟨hK, hL, hO, hlv, hM, hQ, hG, hZ, hC⟩ := hI
  refine br_c (fun g => H0 (by lia)) (fun g => br_c (fun g1 => H0 (by lia)) (fun g1 => br_c (fun g2 => H0 (by lia)) (fun g2 => br_c (fun g3 => H0 (by lia)) (fun g3 => fq_isSample (fun s => br_f (by decide) ⟨fq_in4 (by lia) (by lia), nm_e ⟨5000, ?_⟩⟩) (fun s => br_t rfl (H0 (fun z => s z.2.2.2.2)))))))
  have l := hL.1 p0 (by lia) (by lia)
  exact fq_coef36 hL.1 (by lia) (by lia) (by lia) (by lia) s (fun a1' a2' l' => H1 ⟨by lia, by lia, by lia, by lia, s⟩ a1' a2' ⟨hK, l', hO, hlv, hM, hQ, hG, hZ, hC⟩) 5000 _ a2 (by lia) (by lia) (fq_f (by decide) (by lia)) hL.2
theorem fq_value {post : Int32 → Prop} {p : Int32} (hI : fq_Inv nc fc lv cp nd pn li wc ac dc sc a1 a2 a3 a4 a5 a6 a7 a8 a9 a10 a11 a12 a13 a14 a15 a16 a17 a18 a19 a20 a21 a22 a23 a24 a25 a26) (H : ∀ r, fq_S r → (¬ r = 0 → 0 ≤ p ∧ p < 4 ∧ 0 ≤ a9 p.toNatClampNeg ∧ ¬ sc = 0) → post r) : wpX_value post (nc, fc, lv, cp, nd, pn, li, wc, ac, dc, sc, a1, a2, a3, a4, a5, a6, a7, a8, a9, a10, a11, a12, a13, a14, a15, a16, a17, a18, a19, a20, a21, a22, a23, a24, a25, a26) p := by
  obtain ⟨hK, hL, hO, hlv, hM, hQ, hG, hZ, hC⟩ := hI
  have s0 : fq_S 0 := ⟨by decide, by decide⟩
  refine br_c (fun g => H 0 s0 (fun z => absurd rfl z)) (fun g => br_c (fun g' => H 0 s0 (fun z => absurd rfl z)) (fun g' => ⟨fq_in4 (by lia) (by lia), br_c (fun g9 => ⟨fq_in96 (by lia) (by lia), H _ (hM _ (by lia) (by lia)) (fun z => ⟨by lia, by lia, g9, fun zs => z (hZ zs _ (by lia) (by lia))⟩)⟩) (fun g9 => H 0 s0 (fun z => absurd rfl z))⟩))
theorem fq_valid2 {post : Int32 → Prop} (n0 : 0 ≤ nc) (n1 : nc ≤ 24) (H1 : fq_V nc a3 a4 → post 1) (H0 : ¬ fq_V nc a3 a4 → post 0) :
    ∀ (n : Nat) (x : Int32), 0 ≤ x → x ≤ nc → nc.toInt < x.toInt + ((n : Nat) : Int) → (∀ y : Int32, 0 ≤ y → y < x → a3 y.toNatClampNeg = 5 → a4 y.toNatClampNeg < nc) → wX_valid_2 post nc fc lv cp nd pn li wc ac dc sc a1 a2 a3 a4 a5 a6 a7 a8 a9 a10 a11 a12 a13 a14 a15 a16 a17 a18 a19 a20 a21 a22 a23 a24 a25 a26 n x := by
  intro n
  induction n with
  | zero => intro x h0 i1 hm; exact (fq_z hm i1).elim
  | succ n ih =>
    intro x h0 i1 hm h
    refine br_c (fun g => H1 (fun y y0 y1 => h y y0 (by lia))) (fun g => ?_)
    have g' : x < nc := by lia
    refine ⟨fq_in24 h0 (by lia), br_c (fun e => ⟨fq_in24 h0 (by lia), br_c (fun k => nm_e (ih (x + 1) (by lia) (by lia) (fq_n hm g') ?_)) (fun k => H0 (fun v => k (v x h0 g' e)))⟩) (fun e => nm_e (ih (x + 1) (by lia) (by lia) (fq_n hm g') ?_))⟩
    · intro y y0 y1 y5
      by_cases d : y = x
      · rw [d]; exact k
      · exact h y y0 (by lia) y5
    · intro y y0 y1 y5
      by_cases d : y = x
      · rw [d] at y5; exact absurd y5 e
      · exact h y y0 (by lia) y5
theorem fq_valid {post : Int32 → Prop} (n0 : 0 ≤ nc) (n1 : nc ≤ 24) (H1 : fq_V nc a3 a4 → post 1) (H0 : ¬ fq_V nc a3 a4 → post 0) : wpX_valid post (nc, fc, lv, cp, nd, pn, li, wc, ac, dc, sc, a1, a2, a3, a4, a5, a6, a7, a8, a9, a10, a11, a12, a13, a14, a15, a16, a17, a18, a19, a20, a21, a22, a23, a24, a25, a26) :=
  Exists.intro 5000 (fq_valid2 n0 n1 H1 H0 5000 0 (by decide) n0 (fq_f (by lia) (by decide)) (fun y y0 y1 => absurd y1 (by lia)))
end
end
section
section
variable {nc fc lv cp nd pn li wc : Int32} {ac : Int64} {dc sc : Int32} {a1 a2 a3 a4 a5 a6 a7 a8 a9 a10 a11 a12 a13 a14 a15 a16 a17 a18 a19 a20 a21 a22 a23 a24 a25 a26 : Nat → Int32}
/-- the due entries below k: register, value, word at most b -/
def fq_due (k b : Int32) (a24 a25 a26 : Nat → Int32) : Prop :=
  ∀ j : Int32, 0 ≤ j → j < k → 0 ≤ a24 j.toNatClampNeg ∧ a24 j.toNatClampNeg < 8 ∧ fq_S (a25 j.toNatClampNeg) ∧ 0 ≤ a26 j.toNatClampNeg ∧ a26 j.toNatClampNeg ≤ b
/-- after the deliveries of word w, and among its promises: m are left, all others are new -/
def fq_P (m w dc : Int32) (a24 a25 a26 : Nat → Int32) : Prop :=
  0 ≤ m ∧ m ≤ 2 ∧ m ≤ dc ∧ fq_due dc (w + 2) a24 a25 a26 ∧ ∀ j : Int32, 0 ≤ j → j < m → a26 j.toNatClampNeg ≤ w + 1
theorem fq_ad {a b : Int32} (a0 : 0 ≤ a) (a1 : a ≤ 10000) (b0 : 0 ≤ b) (b1 : b ≤ 10000) : (a + b).toInt = a.toInt + b.toInt := by
  have h1 := fq_ti a0
  have h2 := fq_ti a1
  have h3 := fq_ti b0
  have h4 := fq_ti b1
  have e0 : (0 : Int32).toInt = 0 := rfl
  have e1 : (10000 : Int32).toInt = 10000 := rfl
  rw [Int32.toInt_add]
  exact Int.bmod_eq_of_le (by omega) (by omega)
theorem fq_q1 {m dc x y : Int32} (m0 : 0 ≤ m) (m2 : dc ≤ m + 2) (m3 : m ≤ 2) (i1 : x ≤ dc) (y0 : 0 ≤ y) (y1 : y ≤ 10) (y2 : y = 0 ∨ y + m ≤ x) : y ≤ 2 := by
  rcases y2 with y2 | y2
  · rw [y2]; decide
  · have a1 := fq_ad m0 (b := 2) (by lia) (by decide) (by decide)
    have a2 := fq_ad y0 (b := m) (by lia) m0 (by lia)
    have e2 : (2 : Int32).toInt = 2 := rfl
    have h1 := fq_ti m2
    have h2 := fq_ti y2
    have h3 := fq_ti i1
    exact Int32.le_iff_toInt_le.mpr (by omega)
theorem fq_q2 {m x y : Int32} (m0 : 0 ≤ m) (m3 : m ≤ 2) (x0 : 0 ≤ x) (x1 : x ≤ 10) (y0 : 0 ≤ y) (y1 : y ≤ x) (y2 : y = 0 ∨ y + m ≤ x) (h : m ≤ x) : y + 1 + m ≤ x + 1 := by
  have e1 : (1 : Int32).toInt = 1 := rfl
  have e0 : (0 : Int32).toInt = 0 := rfl
  have a1 := fq_ad y0 (b := 1) (by lia) (by decide) (by decide)
  have a2 := fq_ad (a := y + 1) (b := m) (by lia) (by lia) m0 (by lia)
  have a3 := fq_ad x0 (b := 1) (by lia) (by decide) (by decide)
  have a4 := fq_ad y0 (b := m) (by lia) m0 (by lia)
  have h1 := fq_ti h
  apply Int32.le_iff_toInt_le.mpr
  rcases y2 with y2 | y2
  · rw [y2] at a1 a2 ⊢
    omega
  · have h2 := fq_ti y2
    omega
theorem fq_q3 {x y j : Int32} (y0 : 0 ≤ y) (y1 : y ≤ x) (x1 : x ≤ 10) (h : j < y + 1 ∨ x + 1 ≤ j) (e : ¬ j = y) (j0 : 0 ≤ j) (j1 : j ≤ 10) : j < y ∨ x ≤ j := by lia
theorem fq_del4 {post : St1 → Prop} {w m : Int32} (w0 : 0 ≤ w) (w1 : w ≤ 700) (m0 : 0 ≤ m) (m1 : m ≤ dc) (m2 : dc ≤ m + 2) (m3 : m ≤ 2)
    (H : ∀ k (a23' : Nat → Int32) (a24' : Nat → Int32) (a25' : Nat → Int32) (a26' : Nat → Int32), 0 ≤ k → k ≤ 2 → fq_G a23' → fq_due k (w + 1) a24' a25' a26' → post (nc, fc, lv, cp, nd, pn, li, wc, ac, k, sc, a1, a2, a3, a4, a5, a6, a7, a8, a9, a10, a11, a12, a13, a14, a15, a16, a17, a18, a19, a20, a21, a22, a23', a24', a25', a26')) :
    ∀ (n : Nat) (y x : Int32) (a23 : Nat → Int32) (a24 : Nat → Int32) (a25 : Nat → Int32) (a26 : Nat → Int32), 0 ≤ x → x ≤ dc → dc.toInt < x.toInt + ((n : Nat) : Int) → 0 ≤ y → y ≤ x → (y = 0 ∨ y + m ≤ x) → fq_G a23 →
      (∀ j : Int32, 0 ≤ j → j < dc → j < y ∨ x ≤ j → 0 ≤ a24 j.toNatClampNeg ∧ a24 j.toNatClampNeg < 8 ∧ fq_S (a25 j.toNatClampNeg) ∧ 0 ≤ a26 j.toNatClampNeg ∧ a26 j.toNatClampNeg ≤ w + 1) →
      (∀ j : Int32, x ≤ j → j < m → a26 j.toNatClampNeg ≤ w) → wX_deliver_4 post w nc fc lv cp nd pn li wc ac dc sc n y x a1 a2 a3 a4 a5 a6 a7 a8 a9 a10 a11 a12 a13 a14 a15 a16 a17 a18 a19 a20 a21 a22 a23 a24 a25 a26 := by
  intro n
  induction n with
  | zero => intro y x a23 a24 a25 a26 h0 i1 hm; exact (fq_z hm i1).elim
  | succ n ih =>
    intro y x a23 a24 a25 a26 h0 i1 hm y0 y1 y2 hG hD hW
    refine br_c (fun g => H y a23 a24 a25 a26 y0 (fq_q1 m0 m2 m3 i1 y0 (by lia) y2) hG (fun j j0 j1 => hD j j0 (by lia) (Or.inl j1))) (fun g => ?_)
    have g' : x < dc := by lia
    have dx := hD x h0 g' (by lia)
    refine ⟨fq_in8 h0 (by lia), br_c (fun late => ?_) (fun late => ?_)⟩
    · have hxm : m ≤ x := by
        by_cases c : m ≤ x
        · exact c
        · exact absurd (hW x (by lia) (by lia)) (by lia)
      have eb : vp_nar .byte (a24 x.toNatClampNeg) = a24 x.toNatClampNeg := by rw [vp_nar_byte, fq_b (by lia) (by lia)]
      have es : vp_nar .short (a26 x.toNatClampNeg) = a26 x.toNatClampNeg := by rw [vp_nar_short, fq_h (by lia) (by lia)]
      rw [eb, es]
      refine ⟨fq_in8 h0 (by lia), fq_in8 y0 (by lia), nm_e ⟨fq_in8 h0 (by lia), fq_in8 y0 (by lia), nm_e ⟨fq_in8 h0 (by lia), fq_in8 y0 (by lia), nm_e (nm_e (nm_e ?_))⟩⟩⟩
      refine ih (y + 1) (x + 1) _ _ _ _ (by lia) (by lia) (fq_n hm g') (by lia) (by lia) (Or.inr (fq_q2 m0 m3 h0 (by lia) y0 y1 y2 hxm)) hG ?_ ?_
      · intro j j0 j1 j2
        by_cases e : j = y
        · rw [e, fq_us, fq_us, fq_us]; exact dx
        · rw [fq_un y0 j0 e, fq_un y0 j0 e, fq_un y0 j0 e]; exact hD j j0 j1 (fq_q3 y0 y1 (by lia) j2 e j0 (by lia))
      · intro j j0 j1
        exact absurd j1 (by lia)
    · refine ⟨fq_in8 h0 (by lia), fq_in8 h0 (by lia), fq_in8 dx.1 dx.2.1, nm_e (nm_e ?_)⟩
      refine ih y (x + 1) _ _ _ _ (by lia) (by lia) (fq_n hm g') y0 (by lia) (by lia) (fq_ud (P := fq_S) dx.1 hG dx.2.2.1) ?_ ?_
      · intro j j0 j1 j2
        exact hD j j0 j1 (by lia)
      · intro j j0 j1
        exact hW j (by lia) j1
theorem fq_deliver {post : St1 → Prop} {w m : Int32} (w0 : 0 ≤ w) (w1 : w ≤ 700) (m0 : 0 ≤ m) (m1 : m ≤ dc) (m2 : dc ≤ m + 2) (m3 : m ≤ 2) (hG : fq_G a23) (hD : fq_due dc (w + 1) a24 a25 a26)
    (hW : ∀ j : Int32, 0 ≤ j → j < m → a26 j.toNatClampNeg ≤ w)
    (H : ∀ k (a23' : Nat → Int32) (a24' : Nat → Int32) (a25' : Nat → Int32) (a26' : Nat → Int32), 0 ≤ k → k ≤ 2 → fq_G a23' → fq_due k (w + 1) a24' a25' a26' → post (nc, fc, lv, cp, nd, pn, li, wc, ac, k, sc, a1, a2, a3, a4, a5, a6, a7, a8, a9, a10, a11, a12, a13, a14, a15, a16, a17, a18, a19, a20, a21, a22, a23', a24', a25', a26')) : wpX_deliver post (nc, fc, lv, cp, nd, pn, li, wc, ac, dc, sc, a1, a2, a3, a4, a5, a6, a7, a8, a9, a10, a11, a12, a13, a14, a15, a16, a17, a18, a19, a20, a21, a22, a23, a24, a25, a26) w :=
  Exists.intro 5000 (fq_del4 w0 w1 m0 m1 m2 m3 H 5000 0 0 a23 a24 a25 a26 (by decide) (by lia) (fq_f (by lia) (by decide)) (by decide) (by decide) (Or.inl rfl) hG (fun j j0 j1 _ => hD j j0 j1) hW)
theorem fq_promise {post : St1 → Prop} {i v w m : Int32} (i0 : 0 ≤ i) (i1 : i < 300) (hd : a15 i.toNatClampNeg < 8) (hv : fq_S v) (w0 : 0 ≤ w) (w1 : w ≤ 700) (d1 : dc < 8) (hP : fq_P m w dc a24 a25 a26)
    (H : ∀ (dc' : Int32) (a24' : Nat → Int32) (a25' : Nat → Int32) (a26' : Nat → Int32), dc ≤ dc' → dc' ≤ dc + 1 → fq_P m w dc' a24' a25' a26' → post (nc, fc, lv, cp, nd, pn, li, wc, ac, dc', sc, a1, a2, a3, a4, a5, a6, a7, a8, a9, a10, a11, a12, a13, a14, a15, a16, a17, a18, a19, a20, a21, a22, a23, a24', a25', a26')) : wpX_promise post (nc, fc, lv, cp, nd, pn, li, wc, ac, dc, sc, a1, a2, a3, a4, a5, a6, a7, a8, a9, a10, a11, a12, a13, a14, a15, a16, a17, a18, a19, a20, a21, a22, a23, a24, a25, a26) i v w := by
  obtain ⟨m0, m2, m1, hD, hW⟩ := hP
  refine And.intro (fq_in300 i0 i1) (br_c (fun g => ?_) (fun g => H dc a24 a25 a26 (by lia) (by lia) ⟨m0, m2, m1, hD, hW⟩))
  have eb : vp_nar .byte (a15 i.toNatClampNeg) = a15 i.toNatClampNeg := by rw [vp_nar_byte, fq_b (by lia) (by lia)]
  refine ⟨fq_in300 i0 i1, fq_delay (fun r r1 r2 => ?_)⟩
  have es : (w + r).toInt16.toInt32 = w + r := fq_h (by lia) (by lia)
  have dc0 : 0 ≤ dc := by lia
  rw [eb]
  refine nm_e ⟨fq_in300 i0 i1, fq_in8 dc0 d1, nm_e ⟨fq_in8 dc0 d1, nm_e ⟨fq_in8 dc0 d1, nm_e (nm_e ?_)⟩⟩⟩
  rw [es]
  refine H _ _ _ _ (by lia) (by lia) ⟨m0, m2, by lia, ?_, ?_⟩
  · intro j j0 j1
    by_cases e : j = dc
    · rw [e, fq_us, fq_us, fq_us]; exact ⟨g, hd, hv, by lia, by lia⟩
    · rw [fq_un dc0 j0 e, fq_un dc0 j0 e, fq_un dc0 j0 e]; exact hD j j0 (by lia)
  · intro j j0 j1
    rw [fq_un dc0 j0 (by lia)]
    exact hW j j0 j1
theorem fq_finish {post : St1 → Prop} {i v w m : Int32} (i0 : 0 ≤ i) (i1 : i < 300) (hd : ¬ a14 i.toNatClampNeg = 11 → ¬ a14 i.toNatClampNeg = 12 → a15 i.toNatClampNeg < 8 ∧ fq_S v) (w0 : 0 ≤ w) (w1 : w ≤ 700) (d1 : dc < 8) (hP : fq_P m w dc a24 a25 a26)
    (H : ∀ (ac' : Int64) (dc' : Int32) (a24' : Nat → Int32) (a25' : Nat → Int32) (a26' : Nat → Int32), dc ≤ dc' → dc' ≤ dc + 1 → fq_P m w dc' a24' a25' a26' → post (nc, fc, lv, cp, nd, pn, li, wc, ac', dc', sc, a1, a2, a3, a4, a5, a6, a7, a8, a9, a10, a11, a12, a13, a14, a15, a16, a17, a18, a19, a20, a21, a22, a23, a24', a25', a26')) : wpX_finish post (nc, fc, lv, cp, nd, pn, li, wc, ac, dc, sc, a1, a2, a3, a4, a5, a6, a7, a8, a9, a10, a11, a12, a13, a14, a15, a16, a17, a18, a19, a20, a21, a22, a23, a24, a25, a26) i v w := by
  have dc0 : 0 ≤ dc := by have h1 := hP.1; have h2 := hP.2.2.1; lia
  refine And.intro (fq_in300 i0 i1) (br_c (fun g => H 0 dc a24 a25 a26 (by lia) (by lia) hP) (fun g => ⟨fq_in300 i0 i1, br_c (fun g1 => nm_e (H _ dc a24 a25 a26 (by lia) (by lia) hP)) (fun g1 => ?_)⟩))
  exact fq_promise i0 i1 (hd g g1).1 (hd g g1).2 w0 w1 d1 hP (fun dc' a24' a25' a26' h1 h2 h3 => H ac dc' a24' a25' a26' h1 h2 h3)
end
end
section
section
variable {nc fc lv cp nd pn li wc : Int32} {ac : Int64} {dc sc : Int32} {a1 a2 a3 a4 a5 a6 a7 a8 a9 a10 a11 a12 a13 a14 a15 a16 a17 a18 a19 a20 a21 a22 a23 a24 a25 a26 : Nat → Int32}
theorem fq_div8 {f k : Int32} (f0 : 0 ≤ f) (f1 : f < 4) (k0 : 0 ≤ k) (k1 : k < 8) : (8 * f + k) / 8 = f := by
  obtain ⟨a, ha, rfl⟩ := nI_of (x := f) (by lia)
  obtain ⟨b, hb, rfl⟩ := nI_of (x := k) (by lia)
  have ha4 := (nI_ltI ha (b := 4) (by decide)).mp f1
  have hb8 := (nI_ltI hb (b := 8) (by decide)).mp k1
  have e8 : (8 : Int32) = nI 8 := rfl
  rw [e8, pk_mul, nI_add, pk_div (by omega) (by decide) (by decide)]
  congr 1
  omega
theorem fq_rem {y m : Int32} (y0 : 0 ≤ y) (m1 : 1 ≤ m) : 0 ≤ y - y / m * m ∧ y - y / m * m < m := by
  obtain ⟨a, ha, rfl⟩ := nI_of (x := y) (by lia)
  obtain ⟨b, hb, rfl⟩ := nI_of (x := m) (by lia)
  have hb1 := (nI_leI (a := 1) (by decide) hb).mp m1
  rw [pk_rem ha (by omega) hb]
  have := Nat.mod_lt a (show b > 0 by omega)
  exact ⟨nI_pos' (by omega), nI_lt this hb⟩
theorem fq_touch50 {post : Int32 → St1 → Prop} {i o n : Int32} (i0 : 0 ≤ i) (i1 : i < 300)
    (h18 : 18 ≤ o → ∃ f k : Int32, n = 8 * f + k ∧ 0 ≤ f ∧ f < 4 ∧ 0 ≤ k ∧ k < a7 f.toNatClampNeg ∧ a7 f.toNatClampNeg ≤ 6)
    (h19 : o = 19 → 0 ≤ a16 i.toNatClampNeg ∧ a16 i.toNatClampNeg < 8) (hM : fq_M a21) (hQ : fq_Q a22) (hG : fq_G a23)
    (H : ∀ r (a21' : Nat → Int32) (a22' : Nat → Int32), fq_S r → fq_M a21' → fq_Q a22' → post r (nc, fc, lv, cp, nd, pn, li, wc, ac, dc, sc, a1, a2, a3, a4, a5, a6, a7, a8, a9, a10, a11, a12, a13, a14, a15, a16, a17, a18, a19, a20, a21', a22', a23, a24, a25, a26)) : wX_touch_50 post i o n nc fc lv cp nd pn li wc ac dc sc a1 a2 a3 a4 a5 a6 a7 a8 a9 a10 a11 a12 a13 a14 a15 a16 a17 a18 a19 a20 a21 a22 a23 a24 a25 a26 := by
  have s0 : fq_S 0 := ⟨by decide, by decide⟩
  refine fq_ring (fun g => br_t rfl (H 0 a21 a22 s0 hM hQ)) (fun g => br_f (by decide) ?_)
  obtain ⟨f, k, en, f0, f1, k0, k1, k6⟩ := h18 (by lia)
  subst en
  have ed : (8 * f + k) / 8 = f := fq_div8 f0 f1 k0 (by lia)
  have q := hQ f f0 f1
  refine ⟨by decide, nm_r ed ⟨fq_in4 f0 f1, nm_e ⟨fq_in4 f0 f1, by decide, by lia, ?_⟩⟩⟩
  intro x6 e6
  have hr : 0 ≤ x6 ∧ x6 < a7 f.toNatClampNeg := by
    rw [e6, ed, show 8 * f + k - f * 8 = k by lia]
    exact fq_rem (by lia) (by lia)
  refine br_c (fun g8 => ⟨fq_in96 (by lia) (by lia), H _ a21 a22 (hM _ (by lia) (by lia)) hM hQ⟩) (fun g8 => br_c (fun g9 => ?_) (fun g9 => ?_))
  · have h := h19 g9
    exact ⟨fq_in300 i0 i1, fq_in8 h.1 h.2, fq_in96 (by lia) (by lia), nm_e (H 0 _ a22 s0 (fq_ud (P := fq_S) (by lia) hM (hG _ h.1 h.2)) hQ)⟩
  · have hr2 := fq_rem (y := a22 f.toNatClampNeg + 1) (m := a7 f.toNatClampNeg) (by lia) (by lia)
    refine ⟨fq_in4 f0 f1, by lia, fq_in4 f0 f1, nm_e (H 0 a21 _ s0 hM ?_)⟩
    rw [fq_b (by lia) (by lia)]
    exact fq_ud (P := fun v => 0 ≤ v ∧ v ≤ 5) f0 hQ (by lia)
theorem fq_touch {post : Int32 → St1 → Prop} {i : Int32} (i0 : 0 ≤ i) (i1 : i < 300)
    (hi : fq_I a7 (a14 i.toNatClampNeg) (a15 i.toNatClampNeg) (a16 i.toNatClampNeg) (a17 i.toNatClampNeg) (a18 i.toNatClampNeg))
    (hM : fq_M a21) (hQ : fq_Q a22) (hG : fq_G a23)
    (H : ∀ r (a21' : Nat → Int32) (a22' : Nat → Int32), fq_S r → fq_M a21' → fq_Q a22' → post r (nc, fc, lv, cp, nd, pn, li, wc, ac, dc, sc, a1, a2, a3, a4, a5, a6, a7, a8, a9, a10, a11, a12, a13, a14, a15, a16, a17, a18, a19, a20, a21', a22', a23, a24, a25, a26)) : wpX_touch post (nc, fc, lv, cp, nd, pn, li, wc, ac, dc, sc, a1, a2, a3, a4, a5, a6, a7, a8, a9, a10, a11, a12, a13, a14, a15, a16, a17, a18, a19, a20, a21, a22, a23, a24, a25, a26) i := by
  obtain ⟨_, _, _, _, hA, _, hN, hR⟩ := hi
  refine And.intro (fq_in300 i0 i1) (nm_e ⟨fq_in300 i0 i1, nm_e (br_c (fun g => ?_) (fun g => br_c (fun g1 => ?_) (fun g1 => ?_)))⟩)
  · have h := hN (Or.inl g)
    exact ⟨fq_in96 h.1 h.2, H _ a21 a22 (hM _ h.1 h.2) hM hQ⟩
  · have h := hN (Or.inr g1)
    have ha := hA (by lia)
    refine ⟨fq_in300 i0 i1, fq_in8 ha.1 ha.2, fq_in96 h.1 h.2, nm_e ?_⟩
    exact fq_touch50 i0 i1 (fun z => absurd z (by lia)) (fun z => absurd z (by lia)) (fq_ud (P := fq_S) h.1 hM (hG _ ha.1 ha.2)) hQ hG H
  · exact fq_touch50 i0 i1 hR (fun z => hA (by lia)) hM hQ hG H
theorem fq_calc {post : Int32 → Prop} {i : Int32} (i0 : 0 ≤ i) (i1 : i < 300)
    (hi : fq_I a7 (a14 i.toNatClampNeg) (a15 i.toNatClampNeg) (a16 i.toNatClampNeg) (a17 i.toNatClampNeg) (a18 i.toNatClampNeg))
    (ho : a14 i.toNatClampNeg < 16) (hG : fq_G a23)
    (H : ∀ r, (¬ a14 i.toNatClampNeg = 11 → ¬ a14 i.toNatClampNeg = 12 → fq_S r) → post r) : wpX_calculate post (nc, fc, lv, cp, nd, pn, li, wc, ac, dc, sc, a1, a2, a3, a4, a5, a6, a7, a8, a9, a10, a11, a12, a13, a14, a15, a16, a17, a18, a19, a20, a21, a22, a23, a24, a25, a26) i := by
  obtain ⟨hO, _, h1, h7, hA, hB, _, _⟩ := hi
  have hO := hO ho
  refine And.intro (fq_in300 i0 i1) (nm_e ⟨fq_in300 i0 i1, nm_e (br_c (fun g => H _ (fun _ _ => h1 g)) (fun g => br_c (fun g1 => fq_clipped (fun r s => H r (fun _ _ => s))) (fun g1 => br_c (fun g2 => H _ (fun z _ => absurd g2 z)) (fun g2 => ?_))))⟩)
  have ha := hA (by lia)
  have sa := hG _ ha.1 ha.2
  refine ⟨fq_in300 i0 i1, fq_in8 ha.1 ha.2, nm_e (br_c (fun g3 => ?_) (fun g3 => br_c (fun g4 => ?_) (fun g4 => ?_)))⟩
  · have hn := h7 g3
    exact br_c (fun _ => br_c (fun _ => H _ (fun _ _ => sa)) (fun _ => H _ (fun _ _ => by unfold fq_S; lia))) (fun _ => H _ (fun _ _ => by unfold fq_S; lia))
  · exact br_c (fun _ => fq_clipped (fun r s => H r (fun _ _ => s))) (fun _ => fq_clipped (fun r s => H r (fun _ _ => s)))
  · have hb := hB (by lia)
    have sb := hG _ hb.1 hb.2
    refine ⟨fq_in300 i0 i1, fq_in8 hb.1 hb.2, nm_e ?_⟩
    refine br_c (fun _ => fq_clipped (fun r s => H r (fun _ _ => s))) (fun g5 => br_c (fun _ => fq_clipped (fun r s => H r (fun _ _ => s))) (fun g6 => ?_))
    refine br_c (fun _ => br_c (fun _ => H _ (fun _ _ => sb)) (fun _ => H _ (fun _ _ => sa))) (fun g7 => br_c (fun _ => fq_clipped (fun r s => H r (fun _ _ => s))) (fun g8 => ?_))
    exact H _ (fun _ z => absurd (show a14 i.toNatClampNeg = 12 by lia) z)
theorem fq_st84 {post : St1 → Prop} {J : Int32 → Int32 → Int32 → Int32 → Int32 → Int32 → Int32 → Int32 → Int32 → Int64 → Int32 → Int32 → (Nat → Int32) → (Nat → Int32) → (Nat → Int32) → (Nat → Int32) → (Nat → Int32) → (Nat → Int32) → (Nat → Int32) → (Nat → Int32) → (Nat → Int32) → (Nat → Int32) → (Nat → Int32) → (Nat → Int32) → (Nat → Int32) → (Nat → Int32) → (Nat → Int32) → (Nat → Int32) → (Nat → Int32) → (Nat → Int32) → (Nat → Int32) → (Nat → Int32) → (Nat → Int32) → (Nat → Int32) → (Nat → Int32) → (Nat → Int32) → (Nat → Int32) → (Nat → Int32) → Prop} {w i v m : Int32} (i1 : i < 300) (hd : 0 ≤ i → a15 i.toNatClampNeg < 8) (hv : fq_S v) (w0 : 0 ≤ w) (w1 : w ≤ 700) (d1 : dc < 8)
    (hP : fq_P m w dc a24 a25 a26)
    (H : ∀ (dc' : Int32) (a24' : Nat → Int32) (a25' : Nat → Int32) (a26' : Nat → Int32), dc ≤ dc' → dc' ≤ dc + 1 → fq_P m w dc' a24' a25' a26' → J (w + 1) nc fc lv cp nd pn li wc ac dc' sc a1 a2 a3 a4 a5 a6 a7 a8 a9 a10 a11 a12 a13 a14 a15 a16 a17 a18 a19 a20 a21 a22 a23 a24' a25' a26') : wX_step_84 post J w i v nc fc lv cp nd pn li wc ac dc sc a1 a2 a3 a4 a5 a6 a7 a8 a9 a10 a11 a12 a13 a14 a15 a16 a17 a18 a19 a20 a21 a22 a23 a24 a25 a26 := by
  have dc0 : 0 ≤ dc := by have h1 := hP.1; have h2 := hP.2.2.1; lia
  refine br_c (fun g => nm_e (H dc a24 a25 a26 (by lia) (by lia) hP)) (fun g => ?_)
  exact fq_promise (by lia) i1 (hd (by lia)) hv w0 w1 d1 hP (fun dc' a24' a25' a26' h1 h2 h3 => nm_e (H dc' a24' a25' a26' h1 h2 h3))
theorem fq_st72 {post : St1 → Prop} {J : Int32 → Int32 → Int32 → Int32 → Int32 → Int32 → Int32 → Int32 → Int32 → Int64 → Int32 → Int32 → (Nat → Int32) → (Nat → Int32) → (Nat → Int32) → (Nat → Int32) → (Nat → Int32) → (Nat → Int32) → (Nat → Int32) → (Nat → Int32) → (Nat → Int32) → (Nat → Int32) → (Nat → Int32) → (Nat → Int32) → (Nat → Int32) → (Nat → Int32) → (Nat → Int32) → (Nat → Int32) → (Nat → Int32) → (Nat → Int32) → (Nat → Int32) → (Nat → Int32) → (Nat → Int32) → (Nat → Int32) → (Nat → Int32) → (Nat → Int32) → (Nat → Int32) → (Nat → Int32) → Prop} {w c i u v m : Int32} (c1 : c < 300) (i1 : i < 300) (hc : 0 ≤ c → ¬ a14 c.toNatClampNeg = 11 → ¬ a14 c.toNatClampNeg = 12 → a15 c.toNatClampNeg < 8 ∧ fq_S u)
    (hd : 0 ≤ i → a15 i.toNatClampNeg < 8) (hv : fq_S v) (w0 : 0 ≤ w) (w1 : w ≤ 700) (d1 : dc < 7)
    (hP : fq_P m w dc a24 a25 a26)
    (H : ∀ (ac' : Int64) (dc' : Int32) (a24' : Nat → Int32) (a25' : Nat → Int32) (a26' : Nat → Int32), dc ≤ dc' → dc' ≤ dc + 2 → fq_P m w dc' a24' a25' a26' → J (w + 1) nc fc lv cp nd pn li wc ac' dc' sc a1 a2 a3 a4 a5 a6 a7 a8 a9 a10 a11 a12 a13 a14 a15 a16 a17 a18 a19 a20 a21 a22 a23 a24' a25' a26') : wX_step_72 post J w c i u v nc fc lv cp nd pn li wc ac dc sc a1 a2 a3 a4 a5 a6 a7 a8 a9 a10 a11 a12 a13 a14 a15 a16 a17 a18 a19 a20 a21 a22 a23 a24 a25 a26 := by
  have dc0 : 0 ≤ dc := by have h1 := hP.1; have h2 := hP.2.2.1; lia
  refine br_c (fun g => ?_) (fun g => ?_)
  · exact fq_st84 i1 hd hv w0 w1 (by lia) hP (fun dc' a24' a25' a26' h1 h2 h3 => H ac dc' a24' a25' a26' (by lia) (by lia) h3)
  · refine fq_finish (by lia) c1 (hc (by lia)) w0 w1 (by lia) hP (fun ac dc' a24' a25' a26' h1 h2 h3 => ?_)
    exact fq_st84 i1 hd hv w0 w1 (by lia) h3 (fun dc'' a24'' a25'' a26'' k1 k2 k3 => H ac dc'' a24'' a25'' a26'' (by lia) (by lia) k3)
theorem fq_st58 {post : St1 → Prop} {J : Int32 → Int32 → Int32 → Int32 → Int32 → Int32 → Int32 → Int32 → Int32 → Int64 → Int32 → Int32 → (Nat → Int32) → (Nat → Int32) → (Nat → Int32) → (Nat → Int32) → (Nat → Int32) → (Nat → Int32) → (Nat → Int32) → (Nat → Int32) → (Nat → Int32) → (Nat → Int32) → (Nat → Int32) → (Nat → Int32) → (Nat → Int32) → (Nat → Int32) → (Nat → Int32) → (Nat → Int32) → (Nat → Int32) → (Nat → Int32) → (Nat → Int32) → (Nat → Int32) → (Nat → Int32) → (Nat → Int32) → (Nat → Int32) → (Nat → Int32) → (Nat → Int32) → (Nat → Int32) → Prop} {w c i u m : Int32} (c1 : c < 300) (i1 : i < 300) (hc : 0 ≤ c → ¬ a14 c.toNatClampNeg = 11 → ¬ a14 c.toNatClampNeg = 12 → a15 c.toNatClampNeg < 8 ∧ fq_S u)
    (hi : 0 ≤ i → 16 ≤ a14 i.toNatClampNeg ∧ fq_I a7 (a14 i.toNatClampNeg) (a15 i.toNatClampNeg) (a16 i.toNatClampNeg) (a17 i.toNatClampNeg) (a18 i.toNatClampNeg))
    (w0 : 0 ≤ w) (w1 : w ≤ 700) (d1 : dc < 7) (hP : fq_P m w dc a24 a25 a26) (hM : fq_M a21) (hQ : fq_Q a22) (hG : fq_G a23)
    (H : ∀ (ac' : Int64) (dc' : Int32) (a21' : Nat → Int32) (a22' : Nat → Int32) (a24' : Nat → Int32) (a25' : Nat → Int32) (a26' : Nat → Int32), dc ≤ dc' → dc' ≤ dc + 2 → fq_P m w dc' a24' a25' a26' → fq_M a21' → fq_Q a22' → J (w + 1) nc fc lv cp nd pn li wc ac' dc' sc a1 a2 a3 a4 a5 a6 a7 a8 a9 a10 a11 a12 a13 a14 a15 a16 a17 a18 a19 a20 a21' a22' a23 a24' a25' a26') :
    wX_step_58 post J w c i u nc fc lv cp nd pn li wc ac dc sc a1 a2 a3 a4 a5 a6 a7 a8 a9 a10 a11 a12 a13 a14 a15 a16 a17 a18 a19 a20 a21 a22 a23 a24 a25 a26 := by
  have hd : 0 ≤ i → a15 i.toNatClampNeg < 8 := fun z => by
    have h := hi z
    exact h.2.2.1 (by have := h.1; lia) (by have := h.1; lia)
  refine br_c (fun g => ?_) (fun g => ?_)
  · exact fq_st72 c1 i1 hc hd ⟨by decide, by decide⟩ w0 w1 d1 hP (fun ac' dc' a24' a25' a26' h1 h2 h3 => H ac' dc' a21 a22 a24' a25' a26' h1 h2 h3 hM hQ)
  · refine fq_touch (by lia) i1 (hi (by lia)).2 hM hQ hG (fun r a21' a22' s m' q' => ?_)
    exact fq_st72 c1 i1 hc hd s w0 w1 d1 hP (fun ac' dc' a24' a25' a26' h1 h2 h3 => H ac' dc' a21' a22' a24' a25' a26' h1 h2 h3 m' q')
theorem fq_step7 {post : St1 → Prop} (hC : fq_Code li a7 a14 a15 a16 a17 a18) (hW : fq_W li wc a14 a20)
    (H : ∀ (ac : Int64) (dc : Int32) (a21 : Nat → Int32) (a22 : Nat → Int32) (a23 : Nat → Int32) (a24 : Nat → Int32) (a25 : Nat → Int32) (a26 : Nat → Int32), fq_M a21 → fq_Q a22 → fq_G a23 → post (nc, fc, lv, cp, nd, pn, li, wc, ac, dc, sc, a1, a2, a3, a4, a5, a6, a7, a8, a9, a10, a11, a12, a13, a14, a15, a16, a17, a18, a19, a20, a21, a22, a23, a24, a25, a26)) :
    ∀ (n : Nat) (x : Int32) (ac : Int64) (dc : Int32) (a21 : Nat → Int32) (a22 : Nat → Int32) (a23 : Nat → Int32) (a24 : Nat → Int32) (a25 : Nat → Int32) (a26 : Nat → Int32), 0 ≤ x → x ≤ wc → wc.toInt < x.toInt + ((n : Nat) : Int) → fq_M a21 → fq_Q a22 → fq_G a23 → fq_due dc (x + 1) a24 a25 a26 →
      (∃ m : Int32, 0 ≤ m ∧ m ≤ 2 ∧ m ≤ dc ∧ dc ≤ m + 2 ∧ ∀ j : Int32, 0 ≤ j → j < m → a26 j.toNatClampNeg ≤ x) → wX_step_7 post n x nc fc lv cp nd pn li wc ac dc sc a1 a2 a3 a4 a5 a6 a7 a8 a9 a10 a11 a12 a13 a14 a15 a16 a17 a18 a19 a20 a21 a22 a23 a24 a25 a26 := by
  obtain ⟨l0, l1, hC⟩ := hC
  obtain ⟨v0, v1, hW⟩ := hW
  intro n
  induction n with
  | zero => intro x ac dc a21 a22 a23 a24 a25 a26 h0 i1 hm; exact (fq_z hm i1).elim
  | succ n ih =>
    intro x ac dc a21 a22 a23 a24 a25 a26 h0 i1 hm hM hQ hG hD hE
    obtain ⟨m, m0, m2, m1, m3, hE⟩ := hE
    refine br_c (fun g => H ac dc a21 a22 a23 a24 a25 a26 hM hQ hG) (fun g => ?_)
    have g' : x < wc := by lia
    refine fq_deliver h0 (by lia) m0 m1 m3 m2 hG hD hE (fun k a23 a24 a25 a26 k0 k2 hG hD => ?_)
    have e0 : 2 * x + 0 = 2 * x := by lia
    have w0 := hW x 0 h0 (by lia) (by decide) (by decide)
    have w1 := hW x 1 h0 (by lia) (by decide) (by decide)
    rw [e0] at w0
    obtain ⟨p0, p1, p2, _⟩ := w0
    obtain ⟨q0, q1, _, q2⟩ := w1
    refine ⟨fq_in1210 (by lia) (by lia), ?_⟩
    intro c ec
    refine ⟨fq_in1210 (by lia) (by lia), ?_⟩
    intro i ei
    have hP : fq_P k x k a24 a25 a26 := ⟨k0, k2, by lia, fun j j0 j1 => by have := hD j j0 j1; exact ⟨this.1, this.2.1, this.2.2.1, this.2.2.2.1, by have := this.2.2.2.2; lia⟩, fun j j0 j1 => (hD j j0 j1).2.2.2.2⟩
    have hi : 0 ≤ i → 16 ≤ a14 i.toNatClampNeg ∧ fq_I a7 (a14 i.toNatClampNeg) (a15 i.toNatClampNeg) (a16 i.toNatClampNeg) (a17 i.toNatClampNeg) (a18 i.toNatClampNeg) := fun z => by
      have := q2 (by lia) (by decide)
      rw [← ei] at this
      exact ⟨this, hC i z (by lia)⟩
    have next : ∀ (ac' : Int64) (dc' : Int32) (a21' : Nat → Int32) (a22' : Nat → Int32) (a24' : Nat → Int32) (a25' : Nat → Int32) (a26' : Nat → Int32), k ≤ dc' → dc' ≤ k + 2 → fq_P k x dc' a24' a25' a26' → fq_M a21' → fq_Q a22' → wX_step_7 post n (x + 1) nc fc lv cp nd pn li wc ac' dc' sc a1 a2 a3 a4 a5 a6 a7 a8 a9 a10 a11 a12 a13 a14 a15 a16 a17 a18 a19 a20 a21' a22' a23 a24' a25' a26' := by
      intro ac' dc' a21' a22' a24' a25' a26' h1 h2 h3 hM' hQ'
      obtain ⟨_, _, _, b1, b2⟩ := h3
      refine ih (x + 1) ac' dc' a21' a22' a23 a24' a25' a26' (by lia) (by lia) (fq_n hm g') hM' hQ' hG ?_ ⟨k, k0, k2, h1, h2, b2⟩
      rw [show x + 1 + 1 = x + 2 by lia]
      exact b1
    refine br_c (fun gc => ?_) (fun gc => ?_)
    · exact fq_st58 (by lia) (by lia) (fun z => absurd z (by lia)) hi h0 (by lia) (by lia) hP hM hQ hG next
    · have hc : 0 ≤ c ∧ c < li ∧ a14 c.toNatClampNeg < 16 := by
        have := p2 (by lia) rfl
        rw [← ec] at this
        exact ⟨by lia, by lia, this⟩
      have hcI := hC c hc.1 hc.2.1
      refine fq_calc hc.1 (by lia) hcI hc.2.2 hG (fun r hr => ?_)
      exact fq_st58 (by lia) (by lia) (fun _ z1 z2 => ⟨hcI.2.1 z1 z2, hr z1 z2⟩) hi h0 (by lia) (by lia) hP hM hQ hG next
theorem fq_step {post : St1 → Prop} (hC : fq_Code li a7 a14 a15 a16 a17 a18) (hW : fq_W li wc a14 a20) (hM : fq_M a21) (hQ : fq_Q a22) (hG : fq_G a23)
    (H : ∀ (ac : Int64) (dc : Int32) (a21 : Nat → Int32) (a22 : Nat → Int32) (a23 : Nat → Int32) (a24 : Nat → Int32) (a25 : Nat → Int32) (a26 : Nat → Int32), fq_M a21 → fq_Q a22 → fq_G a23 → post (nc, fc, lv, cp, nd, pn, li, wc, ac, dc, sc, a1, a2, a3, a4, a5, a6, a7, a8, a9, a10, a11, a12, a13, a14, a15, a16, a17, a18, a19, a20, a21, a22, a23, a24, a25, a26)) : wpX_step post (nc, fc, lv, cp, nd, pn, li, wc, ac, dc, sc, a1, a2, a3, a4, a5, a6, a7, a8, a9, a10, a11, a12, a13, a14, a15, a16, a17, a18, a19, a20, a21, a22, a23, a24, a25, a26) :=
  Exists.intro 5000 (fq_step7 hC hW H 5000 0 ac 0 a21 a22 a23 a24 a25 a26 (by decide) hW.1 (fq_f (by have := hW.2.1; lia) (by decide)) hM hQ hG (fun j j0 j1 => absurd j1 (by lia)) ⟨0, by decide, by decide, by decide, by decide, fun j j0 j1 => absurd j1 (by lia)⟩)
end
end
section
section
variable {nc fc lv cp nd pn li wc : Int32} {ac : Int64} {dc sc : Int32} {a1 a2 a3 a4 a5 a6 a7 a8 a9 a10 a11 a12 a13 a14 a15 a16 a17 a18 a19 a20 a21 a22 a23 a24 a25 a26 : Nat → Int32}
theorem fq_px {x : Int32} (hK : fq_K nc fc a3 a4 a5 a6 a7 a8) (x0 : 0 ≤ x) (x1 : x < nc) (h : 2 ≤ a3 x.toNatClampNeg) : 0 ≤ a4 x.toNatClampNeg ∧ a4 x.toNatClampNeg < 24 := by
  have n1 := hK.2.1
  obtain ⟨_, _, _, _, h5, h2, _⟩ := hK.2.2.1 x x0 x1
  by_cases e : a3 x.toNatClampNeg = 5
  · exact h5 e
  · have := h2 h e
    lia
theorem fq_py {x : Int32} (hK : fq_K nc fc a3 a4 a5 a6 a7 a8) (x0 : 0 ≤ x) (x1 : x < nc) (h : a3 x.toNatClampNeg = 2 ∨ a3 x.toNatClampNeg = 3 ∨ 9 ≤ a3 x.toNatClampNeg) : 0 ≤ a5 x.toNatClampNeg ∧ a5 x.toNatClampNeg < 24 := by
  have n1 := hK.2.1
  obtain ⟨_, _, _, _, _, _, h2, _⟩ := hK.2.2.1 x x0 x1
  have := h2 h
  lia
theorem fq_alike {post : Int32 → Prop} {m n : Int32} (hK : fq_K nc fc a3 a4 a5 a6 a7 a8) (m0 : 0 ≤ m) (m1 : m < nc) (n0 : 0 ≤ n) (n1 : n < nc) (H : ∀ r, post r) : wpX_areAlike post (nc, fc, lv, cp, nd, pn, li, wc, ac, dc, sc, a1, a2, a3, a4, a5, a6, a7, a8, a9, a10, a11, a12, a13, a14, a15, a16, a17, a18, a19, a20, a21, a22, a23, a24, a25, a26) m n := by
  have c1 := hK.2.1
  have im : vp_in m 24 := fq_in24 m0 (by lia)
  have iN : vp_in n 24 := fq_in24 n0 (by lia)
  refine And.intro iN (nm_e ⟨im, br_c (fun e => br_c (fun g => ?_) (fun g => ⟨im, iN, br_c (fun _ => H _) (fun _ => H _)⟩)) (fun _ => H _)⟩)
  have pm := fq_px hK m0 m1 (by lia)
  have pn := fq_px hK n0 n1 g
  refine ⟨im, fq_in24 pm.1 pm.2, iN, fq_in24 pn.1 pn.2, br_c (fun _ => br_c (fun _ => H _) (fun _ => ?_)) (fun _ => H _)⟩
  refine fq_two (fun t => br_f (by decide) ?_) (fun t => br_t rfl ⟨im, iN, br_c (fun _ => H _) (fun _ => H _)⟩)
  have qm := fq_py hK m0 m1 (by lia)
  have qn := fq_py hK n0 n1 t
  exact ⟨im, fq_in24 qm.1 qm.2, iN, fq_in24 qn.1 qn.2, br_c (fun _ => H _) (fun _ => H _)⟩
def fq_Sm (x : Int32) (a10 : Nat → Int32) : Prop := ∀ j : Int32, 0 ≤ j → j < x → 0 ≤ a10 j.toNatClampNeg ∧ a10 j.toNatClampNeg ≤ j
theorem fq_same52 {post : St1 → Prop} {J : Int32 → (Nat → Int32) → (Nat → Int32) → (Nat → Int32) → (Nat → Int32) → (Nat → Int32) → (Nat → Int32) → (Nat → Int32) → (Nat → Int32) → (Nat → Int32) → (Nat → Int32) → (Nat → Int32) → (Nat → Int32) → (Nat → Int32) → (Nat → Int32) → (Nat → Int32) → (Nat → Int32) → (Nat → Int32) → (Nat → Int32) → (Nat → Int32) → (Nat → Int32) → (Nat → Int32) → (Nat → Int32) → (Nat → Int32) → (Nat → Int32) → (Nat → Int32) → (Nat → Int32) → Prop} {x1 : Int32} (hK : fq_K nc fc a3 a4 a5 a6 a7 a8) (h0 : 0 ≤ x1) (h1 : x1 < nc) (hS : fq_Sm (x1 + 1) a10)
    (H : ∀ a10 : Nat → Int32, fq_Sm (x1 + 1) a10 → J (x1 + 1) a1 a2 a3 a4 a5 a6 a7 a8 a9 a10 a11 a12 a13 a14 a15 a16 a17 a18 a19 a20 a21 a22 a23 a24 a25 a26) :
    ∀ (n : Nat) (x : Int32), 0 ≤ x → x ≤ x1 → x1.toInt < x.toInt + ((n : Nat) : Int) → wX_findSame_52 post J x1 nc fc lv cp nd pn li wc ac dc sc a1 a2 a3 a4 a5 a6 a7 a8 a9 a10 a11 a12 a13 a14 a15 a16 a17 a18 a19 a20 a21 a22 a23 a24 a25 a26 n x := by
  have c1 := hK.2.1
  intro n
  induction n with
  | zero => intro x i0 i1 hm; exact (fq_z hm i1).elim
  | succ n ih =>
    intro x i0 i1 hm
    refine br_c (fun g => nm_e (H _ hS)) (fun g => ?_)
    have g' : x < x1 := by lia
    have next := ih (x + 1) (by lia) (by lia) (fq_n hm g')
    refine ⟨fq_in24 i0 (by lia), br_c (fun _ => ?_) (fun _ => nm_e next)⟩
    refine fq_alike hK i0 (by lia) h0 h1 (fun r => br_c (fun _ => nm_e next) (fun _ => ⟨fq_in24 h0 (by lia), nm_e (nm_e (H _ ?_))⟩))
    rw [fq_b (by lia) (by lia)]
    exact fq_up (P := fun j v => 0 ≤ v ∧ v ≤ j) h0 (fun j j0 j1 _ => hS j j0 j1) (by lia)
theorem fq_same2 {post : St1 → Prop} (hK : fq_K nc fc a3 a4 a5 a6 a7 a8) (H : ∀ a10 : Nat → Int32, fq_Sm nc a10 → post (nc, fc, lv, cp, nd, pn, li, wc, ac, dc, sc, a1, a2, a3, a4, a5, a6, a7, a8, a9, a10, a11, a12, a13, a14, a15, a16, a17, a18, a19, a20, a21, a22, a23, a24, a25, a26)) :
    ∀ (n : Nat) (x : Int32) (a10 : Nat → Int32), 0 ≤ x → x ≤ nc → nc.toInt < x.toInt + ((n : Nat) : Int) → fq_Sm x a10 → wX_findSame_2 post nc fc lv cp nd pn li wc ac dc sc n x a1 a2 a3 a4 a5 a6 a7 a8 a9 a10 a11 a12 a13 a14 a15 a16 a17 a18 a19 a20 a21 a22 a23 a24 a25 a26 := by
  have c1 := hK.2.1
  intro n
  induction n with
  | zero => intro x a10 i0 i1 hm; exact (fq_z hm i1).elim
  | succ n ih =>
    intro x a10 i0 i1 hm hS
    refine br_c (fun g => H a10 (fun j j0 j1 => hS j j0 (by lia))) (fun g => ?_)
    have g' : x < nc := by lia
    have eb : x.toInt8.toInt32 = x := fq_b (by lia) (by lia)
    have hS' : fq_Sm (x + 1) (upd a10 x.toNatClampNeg x.toInt8.toInt32) := by
      rw [eb]
      exact fq_up (P := fun j v => 0 ≤ v ∧ v ≤ j) i0 (fun j j0 j1 ne => hS j j0 (by lia)) (by lia)
    have next : ∀ a10 : Nat → Int32, fq_Sm (x + 1) a10 → wX_findSame_2 post nc fc lv cp nd pn li wc ac dc sc n (x + 1) a1 a2 a3 a4 a5 a6 a7 a8 a9 a10 a11 a12 a13 a14 a15 a16 a17 a18 a19 a20 a21 a22 a23 a24 a25 a26 := fun b10 hb => ih (x + 1) b10 (by lia) (by lia) (fq_n hm g') hb
    have ix : vp_in x 24 := fq_in24 i0 (by lia)
    refine ⟨ix, nm_e (br_c (fun _ => nm_e (next _ hS')) (fun _ => ⟨ix, br_c (fun _ => nm_e (next _ hS')) (fun _ => ⟨ix, br_c (fun _ => nm_e (next _ hS')) (fun _ => ⟨5000, ?_⟩)⟩)⟩))⟩
    exact fq_same52 hK i0 g' hS' next 5000 0 (by decide) i0 (fq_f (by lia) (by decide))
theorem fq_findSame {post : St1 → Prop} (hK : fq_K nc fc a3 a4 a5 a6 a7 a8) (H : ∀ a10 : Nat → Int32, fq_Sm nc a10 → post (nc, fc, lv, cp, nd, pn, li, wc, ac, dc, sc, a1, a2, a3, a4, a5, a6, a7, a8, a9, a10, a11, a12, a13, a14, a15, a16, a17, a18, a19, a20, a21, a22, a23, a24, a25, a26)) : wpX_findSame post (nc, fc, lv, cp, nd, pn, li, wc, ac, dc, sc, a1, a2, a3, a4, a5, a6, a7, a8, a9, a10, a11, a12, a13, a14, a15, a16, a17, a18, a19, a20, a21, a22, a23, a24, a25, a26) :=
  Exists.intro 5000 (fq_same2 hK H 5000 0 a10 (by decide) hK.1 (fq_f (by have := hK.2.1; lia) (by decide)) (fun j j0 j1 => absurd j1 (by lia)))
theorem fq_dn {x : Int32} {n : Nat} (h0 : 0 ≤ x) (hm : x.toInt + 1 < ((n + 1 : Nat) : Int)) : (x + (-1)).toInt + 1 < ((n : Nat) : Int) := by
  have h := fq_ti h0
  rw [Int32.toInt_zero] at h
  have h2 := x.toInt_lt
  have e : (-1 : Int32).toInt = -1 := rfl
  have e2 : (x + (-1)).toInt = x.toInt - 1 := by
    rw [Int32.toInt_add, e]
    exact Int.bmod_eq_of_le (by omega) (by omega)
  omega
theorem fq_orle (x y : Int32) : x.toBitVec.toNat ≤ (x ||| y).toBitVec.toNat := by
  rw [Int32.toBitVec_or, BitVec.toNat_or]
  exact Nat.left_le_or
theorem fq_need89 {post : St1 → Prop} {J : Int32 → Int32 → Prop} {x1 : Int32} {M : Nat} (hK : fq_K nc fc a3 a4 a5 a6 a7 a8) (H : ∀ v : Int32, M ≤ v.toBitVec.toNat → J x1 v) :
    ∀ (n : Nat) (x nd : Int32), -1 ≤ x → x < nc → x.toInt + 1 < ((n : Nat) : Int) → M ≤ nd.toBitVec.toNat → wX_findNeeded_89 post J x1 nc fc lv cp pn li wc ac dc sc a1 a2 a3 a4 a5 a6 a7 a8 a9 a10 a11 a12 a13 a14 a15 a16 a17 a18 a19 a20 a21 a22 a23 a24 a25 a26 n x nd := by
  have c1 := hK.2.1
  intro n
  induction n with
  | zero =>
    intro x nd i0 i1 hm
    have h := fq_ti i0
    have e : (-1 : Int32).toInt = -1 := rfl
    omega
  | succ n ih =>
    intro x nd i0 i1 hm hM
    refine br_c (fun g => H nd hM) (fun g => ?_)
    have x0 : 0 ≤ x := by lia
    have ix : vp_in x 24 := fq_in24 x0 (by lia)
    have next : ∀ v : Int32, M ≤ v.toBitVec.toNat → wX_findNeeded_89 post J x1 nc fc lv cp pn li wc ac dc sc a1 a2 a3 a4 a5 a6 a7 a8 a9 a10 a11 a12 a13 a14 a15 a16 a17 a18 a19 a20 a21 a22 a23 a24 a25 a26 n (x + (-1)) v := fun v hv => ih (x + (-1)) v (by lia) (by lia) (fq_dn x0 hm) hv
    refine fq_need (fun r => br_c (fun _ => nm_e (next nd hM)) (fun _ => ⟨ix, br_c (fun g2 => ?_) (fun _ => nm_e (next nd hM))⟩))
    have p := fq_px hK x0 i1 g2
    have M1 : ∀ y : Int32, M ≤ (nd ||| y).toBitVec.toNat := fun y => Nat.le_trans hM (fq_orle nd y)
    refine ⟨ix, fq_in24 p.1 p.2, nm_e ⟨ix, fq_two (fun t => br_f (by decide) ?_) (fun t => br_t rfl (nm_e (next _ (M1 _))))⟩⟩
    have q := fq_py hK x0 i1 t
    exact ⟨ix, fq_in24 q.1 q.2, nm_e (nm_e (next _ (Nat.le_trans (M1 _) (fq_orle _ _))))⟩
theorem fq_need69 {post : St1 → Prop} (hK : fq_K nc fc a3 a4 a5 a6 a7 a8) (H : ∀ nd : Int32, post (nc, fc, lv, cp, nd, pn, li, wc, ac, dc, sc, a1, a2, a3, a4, a5, a6, a7, a8, a9, a10, a11, a12, a13, a14, a15, a16, a17, a18, a19, a20, a21, a22, a23, a24, a25, a26)) :
    ∀ (n : Nat) (x1 nd : Int32), 4294967296 - nd.toBitVec.toNat + (if nd = x1 then 0 else 1) < n → wX_findNeeded_69 post nc fc lv cp pn li wc ac dc sc a1 a2 a3 a4 a5 a6 a7 a8 a9 a10 a11 a12 a13 a14 a15 a16 a17 a18 a19 a20 a21 a22 a23 a24 a25 a26 n x1 nd := by
  have c0 := hK.1
  have c1 := hK.2.1
  intro n
  induction n with
  | zero => intro x1 nd hm; exact absurd hm (Nat.not_lt_zero _)
  | succ n ih =>
    intro x1 nd hm
    refine br_c (fun g => H nd) (fun g => nm_e ⟨5000, ?_⟩)
    rw [if_neg g] at hm
    have lim := nd.toBitVec.isLt
    refine fq_need89 (M := nd.toBitVec.toNat) hK (fun v hv => ih nd v ?_) 5000 (nc - 1) nd (by lia) (by lia) ?_ (Nat.le_refl _)
    · by_cases e : v = nd
      · rw [if_pos e, e]; omega
      · rw [if_neg e]
        have ne : v.toBitVec.toNat ≠ nd.toBitVec.toNat := fun z => e (Int32.toBitVec.inj (BitVec.eq_of_toNat_eq z))
        omega
    · have h := fq_ti (show nc - 1 ≤ 23 by lia)
      have e : (23 : Int32).toInt = 23 := rfl
      omega
theorem fq_need25 {post : St1 → Prop} (hK : fq_K nc fc a3 a4 a5 a6 a7 a8) (hO : fq_O nc a9) (H : ∀ nd : Int32, post (nc, fc, lv, cp, nd, pn, li, wc, ac, dc, sc, a1, a2, a3, a4, a5, a6, a7, a8, a9, a10, a11, a12, a13, a14, a15, a16, a17, a18, a19, a20, a21, a22, a23, a24, a25, a26)) :
    ∀ (n : Nat) (x nd : Int32), 0 ≤ x → x ≤ 4 → (4 : Int32).toInt < x.toInt + ((n : Nat) : Int) → wX_findNeeded_25 post nc fc lv cp pn li wc ac dc sc a1 a2 a3 a4 a5 a6 a7 a8 a9 a10 a11 a12 a13 a14 a15 a16 a17 a18 a19 a20 a21 a22 a23 a24 a25 a26 n x nd := by
  have c1 := hK.2.1
  intro n
  induction n with
  | zero => intro x nd i0 i1 hm; exact (fq_z hm i1).elim
  | succ n ih =>
    intro x nd i0 i1 hm
    refine br_c (fun g => ⟨4294967300, fq_need69 hK H 4294967300 (-1) nd ?_⟩) (fun g => ?_)
    · split <;> omega
    · have g' : x < 4 := by lia
      have o := hO x i0 g'
      have next := fun v => ih (x + 1) v (by lia) (by lia) (fq_n hm g')
      exact ⟨fq_in4 i0 g', br_c (fun _ => nm_e (next _)) (fun _ => ⟨fq_in4 i0 g', fq_in24 (by lia) (by lia), nm_e (nm_e (next _))⟩)⟩
theorem fq_findNeeded {post : St1 → Prop} (hK : fq_K nc fc a3 a4 a5 a6 a7 a8) (hO : fq_O nc a9) (H : ∀ nd : Int32, post (nc, fc, lv, cp, nd, pn, li, wc, ac, dc, sc, a1, a2, a3, a4, a5, a6, a7, a8, a9, a10, a11, a12, a13, a14, a15, a16, a17, a18, a19, a20, a21, a22, a23, a24, a25, a26)) : wpX_findNeeded post (nc, fc, lv, cp, nd, pn, li, wc, ac, dc, sc, a1, a2, a3, a4, a5, a6, a7, a8, a9, a10, a11, a12, a13, a14, a15, a16, a17, a18, a19, a20, a21, a22, a23, a24, a25, a26) := by
  have E := fun v => fq_need25 (lv := lv) (cp := cp) (pn := pn) (li := li) (wc := wc) (ac := ac) (dc := dc) (sc := sc) hK hO H 5000 0 v (by decide) (by decide) (fq_f (by decide) (by decide))
  exact br_c (fun _ => nm_e ⟨5000, E _⟩) (fun _ => ⟨5000, E _⟩)
theorem fq_n0 {e x : Int32} {n : Nat} (hm : e.toInt < x.toInt + ((n + 1 : Nat) : Int)) (h : x < e) : 0 < n := by
  have := fq_tl h
  omega
theorem fq_next110 {post : Int32 → Prop} {q : Int32} (hK : fq_K nc fc a3 a4 a5 a6 a7 a8) (H : ∀ r : Int32, 0 ≤ r → post r) :
    ∀ (n : Nat) (x : Int32), 0 ≤ x → 0 < n → nc.toInt < x.toInt + ((n : Nat) : Int) → wX_nextUse_110 post q nc fc lv cp nd pn li wc ac dc sc a1 a2 a3 a4 a5 a6 a7 a8 a9 a10 a11 a12 a13 a14 a15 a16 a17 a18 a19 a20 a21 a22 a23 a24 a25 a26 n x := by
  have c1 := hK.2.1
  intro n
  induction n with
  | zero => intro x i0 hp; exact absurd hp (Nat.lt_irrefl _)
  | succ n ih =>
    intro x i0 _ hm
    refine br_c (fun g => H _ (by decide)) (fun g => ?_)
    have g' : x < nc := by lia
    have ix : vp_in x 24 := fq_in24 i0 (by lia)
    have next := ih (x + 1) (by lia) (fq_n0 hm g') (fq_n hm g')
    refine fq_need (fun r => br_c (fun _ => nm_e next) (fun _ => ⟨ix, br_c (fun e => ?_) (fun _ => nm_e next)⟩))
    have p := fq_px hK i0 g' (by lia)
    exact ⟨ix, fq_in24 p.1 p.2, br_c (fun _ => H _ (by lia)) (fun _ => nm_e next)⟩
theorem fq_next2 {post : Int32 → Prop} {q place : Int32} (hK : fq_K nc fc a3 a4 a5 a6 a7 a8) (p0 : 0 ≤ place) (p1 : place ≤ 200) (H : ∀ r : Int32, 0 ≤ r → post r) :
    ∀ (n : Nat) (x : Int32), 0 ≤ x → 0 < n → nc.toInt < x.toInt + ((n : Nat) : Int) → wX_nextUse_2 post q place nc fc lv cp nd pn li wc ac dc sc a1 a2 a3 a4 a5 a6 a7 a8 a9 a10 a11 a12 a13 a14 a15 a16 a17 a18 a19 a20 a21 a22 a23 a24 a25 a26 n x := by
  have c1 := hK.2.1
  intro n
  induction n with
  | zero => intro x i0 hp; exact absurd hp (Nat.lt_irrefl _)
  | succ n ih =>
    intro x i0 _ hm
    refine br_c (fun g => br_c (fun g1 => nm_e ⟨5000, fq_next110 hK H 5000 _ (by lia) (by decide) (fq_f (by lia) (by lia))⟩) (fun g1 => ⟨5000, fq_next110 hK H 5000 _ (by decide) (by decide) (fq_f (by lia) (by decide))⟩)) (fun g => ?_)
    have g' : x < nc := by lia
    have ix : vp_in x 24 := fq_in24 i0 (by lia)
    have next := ih (x + 1) (by lia) (fq_n0 hm g') (fq_n hm g')
    refine fq_need (fun r => br_c (fun _ => nm_e next) (fun _ => ⟨ix, br_c (fun _ => nm_e next) (fun g2 => ⟨ix, br_c (fun _ => nm_e next) (fun g5 => ?_)⟩)⟩))
    have p := fq_px hK i0 g' (by lia)
    refine ⟨ix, fq_in24 p.1 p.2, br_c (fun _ => H _ i0) (fun _ => ⟨ix, fq_two (fun t => br_f (by decide) ?_) (fun t => br_t rfl (nm_e next))⟩)⟩
    have q := fq_py hK i0 g' t
    exact ⟨ix, fq_in24 q.1 q.2, br_c (fun _ => H _ i0) (fun _ => nm_e next)⟩
theorem fq_next {post : Int32 → Prop} {q place : Int32} (hK : fq_K nc fc a3 a4 a5 a6 a7 a8) (p0 : 0 ≤ place) (p1 : place ≤ 200) (H : ∀ r : Int32, 0 ≤ r → post r) : wpX_nextUse post (nc, fc, lv, cp, nd, pn, li, wc, ac, dc, sc, a1, a2, a3, a4, a5, a6, a7, a8, a9, a10, a11, a12, a13, a14, a15, a16, a17, a18, a19, a20, a21, a22, a23, a24, a25, a26) q place :=
  Exists.intro 5000 (fq_next2 hK p0 p1 H 5000 place p0 (by decide) (fq_f (by have := hK.2.1; lia) p0))
end
end
section
section
variable {nc fc lv cp nd pn li wc : Int32} {ac : Int64} {dc sc : Int32} {a1 a2 a3 a4 a5 a6 a7 a8 a9 a10 a11 a12 a13 a14 a15 a16 a17 a18 a19 a20 a21 a22 a23 a24 a25 a26 : Nat → Int32}
def fq_pc (p : Nat) : Nat := p % 2 + p / 2 % 2 + p / 4 % 2 + p / 8 % 2 + p / 16 % 2 + p / 32 % 2 + p / 64 % 2 + p / 128 % 2
/-- at most k registers are pinned -/
def fq_pin (k : Nat) (pn : Int32) : Prop := ∃ p : Nat, p < 256 ∧ fq_pc p ≤ k ∧ pn = nI p
theorem fq_pin0 : fq_pin 0 0 := ⟨0, by decide, by decide, rfl⟩
theorem fq_pinA : ∀ p, p < 256 → ∀ r, r < 8 → (p ||| 2 ^ r) < 256 ∧ fq_pc (p ||| 2 ^ r) ≤ fq_pc p + 1 ∧ nI p ||| ((1 : Int32) <<< (nI r &&& 31)) = nI (p ||| 2 ^ r) := by decide +kernel
theorem fq_pinB : ∀ p, p < 256 → fq_pc p < 8 → (List.range 8).any (fun r => decide (((nI p >>> (nI r &&& 31)) &&& 1) = 0)) = true := by decide +kernel
theorem fq_pinOr {k : Nat} {pn r : Int32} (h : fq_pin k pn) (r0 : 0 ≤ r) (r1 : r < 8) : fq_pin (k + 1) (pn ||| ((1 : Int32) <<< (r &&& 31))) := by
  obtain ⟨p, h1, h2, rfl⟩ := h
  obtain ⟨j, hj, rfl⟩ := nI_of (x := r) (by lia)
  have hj8 := (nI_ltI hj (b := 8) (by decide)).mp r1
  obtain ⟨e1, e2, e3⟩ := fq_pinA p h1 j hj8
  exact ⟨p ||| 2 ^ j, e1, by omega, e3⟩
theorem fq_pinEx {k : Nat} {pn : Int32} (h : fq_pin k pn) (hk : k < 8) : ∃ r : Int32, 0 ≤ r ∧ r < 8 ∧ ((pn >>> (r &&& 31)) &&& 1) = 0 := by
  obtain ⟨p, h1, h2, rfl⟩ := h
  obtain ⟨r, hr, h⟩ := List.any_eq_true.mp (fq_pinB p h1 (by omega))
  have hr := List.mem_range.mp hr
  exact ⟨nI r, nI_pos' (by omega), nI_lt (b := 8) hr (by decide), of_decide_eq_true h⟩
def fq_H (a11 : Nat → Int32) : Prop := ∀ x : Int32, 0 ≤ x → x < 8 → -1 ≤ a11 x.toNatClampNeg ∧ a11 x.toNatClampNeg < 24
def fq_R (a12 : Nat → Int32) : Prop := ∀ x : Int32, 0 ≤ x → x < 24 → -1 ≤ a12 x.toNatClampNeg ∧ a12 x.toNatClampNeg < 8
/-- while instructions are made: at most k pins, at most B instructions -/
def fq_RS (B k : Nat) (pn li : Int32) (a7 a11 a12 a14 a15 a16 a17 a18 : Nat → Int32) : Prop :=
  fq_pin k pn ∧ li ≤ nI B ∧ fq_Code li a7 a14 a15 a16 a17 a18 ∧ fq_H a11 ∧ fq_R a12
theorem fq_nB {li : Int32} {B : Nat} (h : li ≤ nI B) (hB : B < 300) (h0 : 0 ≤ li) : li < 300 ∧ li + 1 ≤ nI (B + 1) := by
  have h1 := nI_lt hB (by decide)
  have e : nI 300 = 300 := rfl
  rw [e] at h1
  rw [nI_succ]
  lia
theorem fq_RSm {B B' k k' : Nat} (h : fq_RS B k pn li a7 a11 a12 a14 a15 a16 a17 a18) (hB : B ≤ B') (hB' : B' ≤ 1000) (hk : k ≤ k') : fq_RS B' k' pn li a7 a11 a12 a14 a15 a16 a17 a18 := by
  obtain ⟨⟨p, h1, h2, h3⟩, h4, h5⟩ := h
  have h6 := nI_le hB (by omega)
  exact ⟨⟨p, h1, by omega, h3⟩, by lia, h5⟩
theorem fq_RSp {B k : Nat} (h : fq_RS B k pn li a7 a11 a12 a14 a15 a16 a17 a18) : fq_RS B 0 0 li a7 a11 a12 a14 a15 a16 a17 a18 := ⟨fq_pin0, h.2⟩
theorem fq_I1 {r n : Int32} (h : r < 8) (s : fq_S n) : fq_I a7 1 r (-1) (-1) n :=
  ⟨fun _ => Or.inl rfl, fun _ _ => h, fun _ => s, fun z => absurd z (by decide), fun z => absurd z (by decide), fun z => absurd z (by decide), fun z => absurd z (by decide), fun z => absurd z (by decide)⟩
theorem fq_I16 {r n : Int32} (h : r < 8) (n0 : 0 ≤ n) (n1 : n < 96) : fq_I a7 16 r (-1) (-1) n :=
  ⟨fun z => absurd z (by decide), fun _ _ => h, fun z => absurd z (by decide), fun z => absurd z (by decide), fun z => absurd z (by decide), fun z => absurd z (by decide), fun _ => ⟨n0, n1⟩, fun z => absurd z (by decide)⟩
theorem fq_I17 {r n : Int32} (h0 : 0 ≤ r) (h : r < 8) (n0 : 0 ≤ n) (n1 : n < 96) : fq_I a7 17 (-1) r (-1) n :=
  ⟨fun z => absurd z (by decide), fun _ _ => by decide, fun z => absurd z (by decide), fun z => absurd z (by decide), fun _ => ⟨h0, h⟩, fun z => absurd z (by decide), fun _ => ⟨n0, n1⟩, fun z => absurd z (by decide)⟩
theorem fq_I18 {r f k : Int32} (h : r < 8) (f0 : 0 ≤ f) (f1 : f < 4) (k0 : 0 ≤ k) (k1 : k < a7 f.toNatClampNeg) (k6 : a7 f.toNatClampNeg ≤ 6) : fq_I a7 18 r (-1) (-1) (8 * f + k) :=
  ⟨fun z => absurd z (by decide), fun _ _ => h, fun z => absurd z (by decide), fun z => absurd z (by decide), fun z => absurd z (by decide), fun z => absurd z (by decide), fun z => absurd z (by decide), fun _ => ⟨f, k, rfl, f0, f1, k0, k1, k6⟩⟩
theorem fq_I19 {r f : Int32} (h0 : 0 ≤ r) (h : r < 8) (f0 : 0 ≤ f) (f1 : f < 4) (k1 : 1 ≤ a7 f.toNatClampNeg) (k6 : a7 f.toNatClampNeg ≤ 6) : fq_I a7 19 (-1) r (-1) (8 * f) :=
  ⟨fun z => absurd z (by decide), fun _ _ => by decide, fun z => absurd z (by decide), fun z => absurd z (by decide), fun _ => ⟨h0, h⟩, fun z => absurd z (by decide), fun z => absurd z (by decide), fun _ => ⟨f, 0, by lia, f0, f1, by decide, by lia, k6⟩⟩
theorem fq_I20 {f : Int32} (f0 : 0 ≤ f) (f1 : f < 4) (k1 : 1 ≤ a7 f.toNatClampNeg) (k6 : a7 f.toNatClampNeg ≤ 6) : fq_I a7 20 (-1) (-1) (-1) (8 * f) :=
  ⟨fun z => absurd z (by decide), fun _ _ => by decide, fun z => absurd z (by decide), fun z => absurd z (by decide), fun z => absurd z (by decide), fun z => absurd z (by decide), fun z => absurd z (by decide), fun _ => ⟨f, 0, by lia, f0, f1, by decide, by lia, k6⟩⟩
theorem fq_I11 : fq_I a7 11 8 (-1) (-1) 0 :=
  ⟨fun _ => by decide, fun z => absurd rfl z, fun z => absurd z (by decide), fun z => absurd z (by decide), fun z => absurd z (by decide), fun z => absurd z (by decide), fun z => absurd z (by decide), fun z => absurd z (by decide)⟩
theorem fq_I12 {t u : Int32} (t0 : 0 ≤ t) (t1 : t < 8) (u0 : 0 ≤ u) (u1 : u < 8) : fq_I a7 12 8 t u 0 :=
  ⟨fun _ => by decide, fun _ z => absurd rfl z, fun z => absurd z (by decide), fun z => absurd z (by decide), fun _ => ⟨t0, t1⟩, fun _ => ⟨u0, u1⟩, fun z => absurd z (by decide), fun z => absurd z (by decide)⟩
theorem fq_I13 {t : Int32} (t1 : t < 8) : fq_I a7 13 t 8 (-1) 0 :=
  ⟨fun _ => by decide, fun _ _ => t1, fun z => absurd z (by decide), fun z => absurd z (by decide), fun z => absurd z (by decide), fun z => absurd z (by decide), fun z => absurd z (by decide), fun z => absurd z (by decide)⟩
theorem fq_Ip {o r a b n : Int32} (ho : o = 2 ∨ o = 3 ∨ o = 7 ∨ o = 8 ∨ o = 9 ∨ o = 10) (h : r < 8) (a0 : 0 ≤ a) (a1 : a < 8) (hb : o = 2 ∨ o = 3 ∨ o = 9 ∨ o = 10 → 0 ≤ b ∧ b < 8) (h7 : o = 7 → 0 ≤ n ∧ n ≤ 32767) : fq_I a7 o r a b n :=
  ⟨fun _ => by lia, fun _ _ => h, fun z => by lia, h7, fun _ => ⟨a0, a1⟩, fun z => hb (by lia), fun z => by lia, fun z => by lia⟩
theorem fq_emit {post : St1 → Prop} {B k : Nat} {p0 p1 p2 p3 p4 : Int32} (h : fq_RS B k pn li a7 a11 a12 a14 a15 a16 a17 a18) (hB : B < 300)
    (b0 : -128 ≤ p0 ∧ p0 ≤ 127) (b1 : -128 ≤ p1 ∧ p1 ≤ 127) (b2 : -128 ≤ p2 ∧ p2 ≤ 127) (b3 : -128 ≤ p3 ∧ p3 ≤ 127) (hI : fq_I a7 p0 p1 p2 p3 p4)
    (H : ∀ (li' : Int32) (a14' : Nat → Int32) (a15' : Nat → Int32) (a16' : Nat → Int32) (a17' : Nat → Int32) (a18' : Nat → Int32), fq_RS (B + 1) k pn li' a7 a11 a12 a14' a15' a16' a17' a18' → post (nc, fc, lv, cp, nd, pn, li', wc, ac, dc, sc, a1, a2, a3, a4, a5, a6, a7, a8, a9, a10, a11, a12, a13, a14', a15', a16', a17', a18', a19, a20, a21, a22, a23, a24, a25, a26)) : wpX_emit post (nc, fc, lv, cp, nd, pn, li, wc, ac, dc, sc, a1, a2, a3, a4, a5, a6, a7, a8, a9, a10, a11, a12, a13, a14, a15, a16, a17, a18, a19, a20, a21, a22, a23, a24, a25, a26) p0 p1 p2 p3 p4 := by
  obtain ⟨hp, hl, ⟨l0, l1, hC⟩, hH, hR⟩ := h
  obtain ⟨l3, l4⟩ := fq_nB hl hB l0
  have i3 : vp_in li 300 := fq_in300 l0 l3
  refine And.intro i3 (nm_e ⟨i3, nm_e ⟨i3, nm_e ⟨i3, nm_e ⟨i3, nm_e (nm_e ?_)⟩⟩⟩⟩)
  rw [fq_b b0.1 b0.2, fq_b b1.1 b1.2, fq_b b2.1 b2.2, fq_b b3.1 b3.2]
  refine H _ _ _ _ _ _ ⟨hp, l4, ⟨by lia, by lia, ?_⟩, hH, hR⟩
  intro i i0 i1
  by_cases e : i = li
  · rw [e, fq_us, fq_us, fq_us, fq_us, fq_us]; exact hI
  · rw [fq_un l0 i0 e, fq_un l0 i0 e, fq_un l0 i0 e, fq_un l0 i0 e, fq_un l0 i0 e]; exact hC i i0 (by lia)
theorem fq_f158 {post : Int32 → St1 → Prop} {B k : Nat} {x2 : Int32} (h : fq_RS B k pn li a7 a11 a12 a14 a15 a16 a17 a18) (x0 : 0 ≤ x2) (x1 : x2 < 8)
    (H : ∀ (pn' : Int32), fq_RS B (k + 1) pn' li a7 a11 a12 a14 a15 a16 a17 a18 → post x2 (nc, fc, lv, cp, nd, pn', li, wc, ac, dc, sc, a1, a2, a3, a4, a5, a6, a7, a8, a9, a10, a11, a12, a13, a14, a15, a16, a17, a18, a19, a20, a21, a22, a23, a24, a25, a26)) : wX_freeRegister_158 post x2 nc fc lv cp nd pn li wc ac dc sc a1 a2 a3 a4 a5 a6 a7 a8 a9 a10 a11 a12 a13 a14 a15 a16 a17 a18 a19 a20 a21 a22 a23 a24 a25 a26 :=
  nm_e (H _ ⟨fq_pinOr h.1 x0 x1, h.2⟩)
theorem fq_f143 {post : Int32 → St1 → Prop} {B k : Nat} {x2 x4 : Int32} (h : fq_RS B k pn li a7 a11 a12 a14 a15 a16 a17 a18) (x0 : 0 ≤ x2) (x1 : x2 < 8) (y0 : 0 ≤ x4) (y1 : x4 < 24)
    (H : ∀ (pn' : Int32) (a11' : Nat → Int32) (a12' : Nat → Int32), fq_RS B (k + 1) pn' li a7 a11' a12' a14 a15 a16 a17 a18 → post x2 (nc, fc, lv, cp, nd, pn', li, wc, ac, dc, sc, a1, a2, a3, a4, a5, a6, a7, a8, a9, a10, a11', a12', a13, a14, a15, a16, a17, a18, a19, a20, a21, a22, a23, a24, a25, a26)) : wX_freeRegister_143 post x2 x4 nc fc lv cp nd pn li wc ac dc sc a1 a2 a3 a4 a5 a6 a7 a8 a9 a10 a11 a12 a13 a14 a15 a16 a17 a18 a19 a20 a21 a22 a23 a24 a25 a26 := by
  obtain ⟨hp, hl, hC, hH, hR⟩ := h
  refine And.intro (fq_in24 y0 y1) (nm_e ⟨fq_in8 x0 x1, nm_e ?_⟩)
  exact fq_f158 ⟨hp, hl, hC, fq_ud (P := fun v => -1 ≤ v ∧ v < 24) x0 hH ⟨by decide, by decide⟩, fq_ud (P := fun v => -1 ≤ v ∧ v < 8) y0 hR ⟨by decide, by decide⟩⟩ x0 x1 (fun pn' hh => H pn' _ _ hh)
theorem fq_f7 {post : Int32 → St1 → Prop} {B k : Nat} {place : Int32} (hK : fq_K nc fc a3 a4 a5 a6 a7 a8) (p0 : 0 ≤ place) (p1 : place ≤ 200) (h : fq_RS B k pn li a7 a11 a12 a14 a15 a16 a17 a18) (hB : B < 300) (hk : k < 8)
    (H : ∀ r (pn' : Int32) (li' : Int32) (a11' : Nat → Int32) (a12' : Nat → Int32) (a13' : Nat → Int32) (a14' : Nat → Int32) (a15' : Nat → Int32) (a16' : Nat → Int32) (a17' : Nat → Int32) (a18' : Nat → Int32), 0 ≤ r → r < 8 → fq_RS (B + 1) (k + 1) pn' li' a7 a11' a12' a14' a15' a16' a17' a18' → post r (nc, fc, lv, cp, nd, pn', li', wc, ac, dc, sc, a1, a2, a3, a4, a5, a6, a7, a8, a9, a10, a11', a12', a13', a14', a15', a16', a17', a18', a19, a20, a21, a22, a23, a24, a25, a26)) :
    ∀ (n : Nat) (x2 x3 x : Int32), 0 ≤ x → x ≤ 8 → (8 : Int32).toInt < x.toInt + ((n : Nat) : Int) →
      ((x3 = -1 ∧ ∀ y : Int32, 0 ≤ y → y < x → ¬ ((pn >>> (y &&& 31)) &&& 1) = 0) ∨ (0 ≤ x2 ∧ x2 < 8 ∧ 0 ≤ x3)) → wX_freeRegister_7 post place nc fc lv cp nd pn li wc ac dc sc a1 a2 a3 a4 a5 a6 a7 a8 a9 a10 a11 a12 a13 a14 a15 a16 a17 a18 a19 a20 a21 a22 a23 a24 a25 a26 n x2 x3 x := by
  intro n
  induction n with
  | zero => intro x2 x3 x i0 i1 hm; exact (fq_z hm i1).elim
  | succ n ih =>
    intro x2 x3 x i0 i1 hm hb
    refine br_c (fun g => ?_) (fun g => ?_)
    · have hx : 0 ≤ x2 ∧ x2 < 8 := by
        rcases hb with ⟨_, hb⟩ | hb
        · obtain ⟨r, r0, r1, hr⟩ := fq_pinEx h.1 hk
          exact absurd hr (hb r r0 (by lia))
        · exact ⟨hb.1, hb.2.1⟩
      have hh := h.2.2.2.1 x2 hx.1 hx.2
      have hm1 := fq_RSm h (Nat.le_succ B) (by omega) (Nat.le_refl k)
      refine ⟨fq_in8 hx.1 hx.2, nm_e (br_c (fun g1 => fq_f158 hm1 hx.1 hx.2 (fun pn' h' => H x2 pn' li a11 a12 a13 a14 a15 a16 a17 a18 hx.1 hx.2 h')) (fun g1 => ?_))⟩
      have g0 : 0 ≤ a11 x2.toNatClampNeg := by lia
      have stay : wX_freeRegister_143 post x2 (a11 x2.toNatClampNeg) nc fc lv cp nd pn li wc ac dc sc a1 a2 a3 a4 a5 a6 a7 a8 a9 a10 a11 a12 a13 a14 a15 a16 a17 a18 a19 a20 a21 a22 a23 a24 a25 a26 := fq_f143 hm1 hx.1 hx.2 g0 hh.2 (fun pn' a11' a12' h' => H x2 pn' li a11' a12' a13 a14 a15 a16 a17 a18 hx.1 hx.2 h')
      refine br_c (fun _ => stay) (fun _ => ⟨fq_in24 g0 hh.2, br_c (fun _ => stay) (fun _ => ⟨fq_in24 g0 hh.2, br_c (fun _ => ?_) (fun _ => stay)⟩)⟩)
      refine fq_emit h hB ⟨by decide, by decide⟩ ⟨by decide, by decide⟩ (by lia) ⟨by decide, by decide⟩ (fq_I17 hx.1 hx.2 (by lia) (by lia)) (fun li' a14' a15' a16' a17' a18' h' => ⟨fq_in24 g0 hh.2, nm_e ?_⟩)
      exact fq_f143 h' hx.1 hx.2 g0 hh.2 (fun pn' a11' a12' h'' => H x2 pn' li' a11' a12' _ a14' a15' a16' a17' a18' hx.1 hx.2 h'')
    · have g' : x < 8 := by lia
      have next : ∀ x2 x3 : Int32, ((x3 = -1 ∧ ∀ y : Int32, 0 ≤ y → y < x + 1 → ¬ ((pn >>> (y &&& 31)) &&& 1) = 0) ∨ (0 ≤ x2 ∧ x2 < 8 ∧ 0 ≤ x3)) → wX_freeRegister_7 post place nc fc lv cp nd pn li wc ac dc sc a1 a2 a3 a4 a5 a6 a7 a8 a9 a10 a11 a12 a13 a14 a15 a16 a17 a18 a19 a20 a21 a22 a23 a24 a25 a26 n x2 x3 (x + 1) :=
        fun x2 x3 hb => ih x2 x3 (x + 1) (by lia) (by lia) (fq_n hm g') hb
      have f57 : ∀ z0 : Int32, 0 ≤ z0 → wX_freeRegister_57 post (wX_freeRegister_7 post place nc fc lv cp nd pn li wc ac dc sc a1 a2 a3 a4 a5 a6 a7 a8 a9 a10 a11 a12 a13 a14 a15 a16 a17 a18 a19 a20 a21 a22 a23 a24 a25 a26 n) place x2 x3 x z0 nc fc lv cp nd pn li wc ac dc sc a1 a2 a3 a4 a5 a6 a7 a8 a9 a10 a11 a12 a13 a14 a15 a16 a17 a18 a19 a20 a21 a22 a23 a24 a25 a26 := by
        intro z0 hz
        refine br_c (fun g1 => nm_e (next x z0 (Or.inr ⟨i0, g', hz⟩))) (fun g1 => nm_e (next x2 x3 ?_))
        rcases hb with ⟨e, _⟩ | hb
        · exact absurd g1 (by lia)
        · exact Or.inr hb
      refine br_c (fun g1 => ⟨fq_in8 i0 g', br_c (fun g2 => ⟨fq_in8 i0 g', fq_next hK p0 p1 (fun r r0 => f57 r r0)⟩) (fun g2 => f57 300 (by decide))⟩) (fun g1 => nm_e (next x2 x3 ?_))
      rcases hb with ⟨e, hb⟩ | hb
      · refine Or.inl ⟨e, fun y y0 y1 => ?_⟩
        by_cases d : y = x
        · rw [d]; exact g1
        · exact hb y y0 (by lia)
      · exact Or.inr hb
theorem fq_free {post : Int32 → St1 → Prop} {B k : Nat} {place : Int32} (hK : fq_K nc fc a3 a4 a5 a6 a7 a8) (p0 : 0 ≤ place) (p1 : place ≤ 200) (h : fq_RS B k pn li a7 a11 a12 a14 a15 a16 a17 a18) (hB : B < 300) (hk : k < 8)
    (H : ∀ r (pn' : Int32) (li' : Int32) (a11' : Nat → Int32) (a12' : Nat → Int32) (a13' : Nat → Int32) (a14' : Nat → Int32) (a15' : Nat → Int32) (a16' : Nat → Int32) (a17' : Nat → Int32) (a18' : Nat → Int32), 0 ≤ r → r < 8 → fq_RS (B + 1) (k + 1) pn' li' a7 a11' a12' a14' a15' a16' a17' a18' → post r (nc, fc, lv, cp, nd, pn', li', wc, ac, dc, sc, a1, a2, a3, a4, a5, a6, a7, a8, a9, a10, a11', a12', a13', a14', a15', a16', a17', a18', a19, a20, a21, a22, a23, a24, a25, a26)) :
    wpX_freeRegister post (nc, fc, lv, cp, nd, pn, li, wc, ac, dc, sc, a1, a2, a3, a4, a5, a6, a7, a8, a9, a10, a11, a12, a13, a14, a15, a16, a17, a18, a19, a20, a21, a22, a23, a24, a25, a26) place :=
  Exists.intro 5000 (fq_f7 hK p0 p1 h hB hk H 5000 (-1) (-1) 0 (by decide) (by decide) (fq_f (by decide) (by decide)) (Or.inl ⟨rfl, fun y y0 y1 => absurd y1 (by lia)⟩))
theorem fq_keep {post : St1 → Prop} {B k : Nat} {m r : Int32} (h : fq_RS B k pn li a7 a11 a12 a14 a15 a16 a17 a18) (m0 : 0 ≤ m) (m1 : m < 24) (r0 : 0 ≤ r) (r1 : r < 8)
    (H : ∀ (a11' : Nat → Int32) (a12' : Nat → Int32), fq_RS B k pn li a7 a11' a12' a14 a15 a16 a17 a18 → post (nc, fc, lv, cp, nd, pn, li, wc, ac, dc, sc, a1, a2, a3, a4, a5, a6, a7, a8, a9, a10, a11', a12', a13, a14, a15, a16, a17, a18, a19, a20, a21, a22, a23, a24, a25, a26)) : wpX_keepIn post (nc, fc, lv, cp, nd, pn, li, wc, ac, dc, sc, a1, a2, a3, a4, a5, a6, a7, a8, a9, a10, a11, a12, a13, a14, a15, a16, a17, a18, a19, a20, a21, a22, a23, a24, a25, a26) m r := by
  obtain ⟨hp, hl, hC, hH, hR⟩ := h
  refine And.intro (fq_in8 r0 r1) (nm_e ⟨fq_in24 m0 m1, nm_e (H _ _ ⟨hp, hl, hC, ?_, ?_⟩)⟩)
  · rw [fq_b (by lia) (by lia)]
    exact fq_ud (P := fun v => -1 ≤ v ∧ v < 24) r0 hH (by lia)
  · rw [fq_b (by lia) (by lia)]
    exact fq_ud (P := fun v => -1 ≤ v ∧ v < 8) m0 hR (by lia)
theorem fq_b69 {post : Int32 → St1 → Prop} {B k : Nat} {m r : Int32} (h : fq_RS B k pn li a7 a11 a12 a14 a15 a16 a17 a18) (m0 : 0 ≤ m) (m1 : m < 24) (r0 : 0 ≤ r) (r1 : r < 8)
    (H : ∀ (pn' : Int32) (a11' : Nat → Int32) (a12' : Nat → Int32), fq_RS B (k + 1) pn' li a7 a11' a12' a14 a15 a16 a17 a18 → post r (nc, fc, lv, cp, nd, pn', li, wc, ac, dc, sc, a1, a2, a3, a4, a5, a6, a7, a8, a9, a10, a11', a12', a13, a14, a15, a16, a17, a18, a19, a20, a21, a22, a23, a24, a25, a26)) : wX_bring_69 post m r nc fc lv cp nd pn li wc ac dc sc a1 a2 a3 a4 a5 a6 a7 a8 a9 a10 a11 a12 a13 a14 a15 a16 a17 a18 a19 a20 a21 a22 a23 a24 a25 a26 :=
  fq_keep h m0 m1 r0 r1 (fun a11' a12' h' => nm_e (H _ a11' a12' ⟨fq_pinOr h'.1 r0 r1, h'.2⟩))
end
end
section
section
variable {nc fc lv cp nd pn li wc : Int32} {ac : Int64} {dc sc : Int32} {a1 a2 a3 a4 a5 a6 a7 a8 a9 a10 a11 a12 a13 a14 a15 a16 a17 a18 a19 a20 a21 a22 a23 a24 a25 a26 : Nat → Int32}
theorem fq_bring {post : Int32 → St1 → Prop} {B k : Nat} {node place : Int32} (hK : fq_K nc fc a3 a4 a5 a6 a7 a8) (hS : fq_Sm nc a10) (q0 : 0 ≤ node) (q1 : node < nc) (p0 : 0 ≤ place) (p1 : place ≤ 200)
    (h : fq_RS B k pn li a7 a11 a12 a14 a15 a16 a17 a18) (hB : B + 2 ≤ 300) (hk : k < 8)
    (H : ∀ r (pn' : Int32) (li' : Int32) (a11' : Nat → Int32) (a12' : Nat → Int32) (a13' : Nat → Int32) (a14' : Nat → Int32) (a15' : Nat → Int32) (a16' : Nat → Int32) (a17' : Nat → Int32) (a18' : Nat → Int32), 0 ≤ r → r < 8 → fq_RS (B + 2) (k + 2) pn' li' a7 a11' a12' a14' a15' a16' a17' a18' → post r (nc, fc, lv, cp, nd, pn', li', wc, ac, dc, sc, a1, a2, a3, a4, a5, a6, a7, a8, a9, a10, a11', a12', a13', a14', a15', a16', a17', a18', a19, a20, a21, a22, a23, a24, a25, a26)) :
    wpX_bring post (nc, fc, lv, cp, nd, pn, li, wc, ac, dc, sc, a1, a2, a3, a4, a5, a6, a7, a8, a9, a10, a11, a12, a13, a14, a15, a16, a17, a18, a19, a20, a21, a22, a23, a24, a25, a26) node place := by
  have n1 := hK.2.1
  have s := hS node q0 q1
  have im : vp_in (a10 node.toNatClampNeg) 24 := fq_in24 s.1 (by lia)
  have hr := h.2.2.2.2 _ s.1 (by lia)
  refine And.intro (fq_in24 q0 (by lia)) (nm_e ⟨im, nm_e (br_c (fun g => ?_) (fun g => ?_))⟩)
  · exact nm_e (H _ _ li a11 a12 a13 a14 a15 a16 a17 a18 g hr.2 (fq_RSm (B := B) (k := k + 1) ⟨fq_pinOr h.1 g hr.2, h.2⟩ (by omega) (by omega) (by omega)))
  · refine fq_free hK p0 p1 h (by omega) hk (fun r pn' li' a11' a12' a13' a14' a15' a16' a17' a18' r0 r1 h' => ⟨im, br_c (fun g1 => ⟨im, ?_⟩) (fun g1 => ?_)⟩)
    · have hs : fq_S (a4 (a10 node.toNatClampNeg).toNatClampNeg) := (hK.2.2.1 _ s.1 (by lia)).2.2.2.1 g1
      refine fq_emit h' (by omega) ⟨by decide, by decide⟩ (by lia) ⟨by decide, by decide⟩ ⟨by decide, by decide⟩ (fq_I1 r1 hs) (fun li' a14' a15' a16' a17' a18' h' => ?_)
      exact fq_b69 h' s.1 (by lia) r0 r1 (fun pn' a11' a12' h' => H r pn' li' a11' a12' _ a14' a15' a16' a17' a18' r0 r1 h')
    · refine fq_emit h' (by omega) ⟨by decide, by decide⟩ (by lia) ⟨by decide, by decide⟩ ⟨by decide, by decide⟩ (fq_I16 r1 (by lia) (by lia)) (fun li' a14' a15' a16' a17' a18' h' => ?_)
      exact fq_b69 h' s.1 (by lia) r0 r1 (fun pn' a11' a12' h' => H r pn' li' a11' a12' _ a14' a15' a16' a17' a18' r0 r1 h')
theorem fq_emitDelay {post : St1 → Prop} {B : Nat} {m : Int32} (hK : fq_K nc fc a3 a4 a5 a6 a7 a8) (hV : fq_V nc a3 a4) (hS : fq_Sm nc a10) (q0 : 0 ≤ m) (q1 : m < nc) (h5 : a3 m.toNatClampNeg = 5)
    (h : fq_RS B 0 pn li a7 a11 a12 a14 a15 a16 a17 a18) (hB : B + 3 ≤ 300)
    (H : ∀ (pn' : Int32) (li' : Int32) (a11' : Nat → Int32) (a12' : Nat → Int32) (a13' : Nat → Int32) (a14' : Nat → Int32) (a15' : Nat → Int32) (a16' : Nat → Int32) (a17' : Nat → Int32) (a18' : Nat → Int32), fq_RS (B + 3) 0 pn' li' a7 a11' a12' a14' a15' a16' a17' a18' → post (nc, fc, lv, cp, nd, pn', li', wc, ac, dc, sc, a1, a2, a3, a4, a5, a6, a7, a8, a9, a10, a11', a12', a13', a14', a15', a16', a17', a18', a19, a20, a21, a22, a23, a24, a25, a26)) :
    wpX_emitDelay post (nc, fc, lv, cp, nd, pn, li, wc, ac, dc, sc, a1, a2, a3, a4, a5, a6, a7, a8, a9, a10, a11, a12, a13, a14, a15, a16, a17, a18, a19, a20, a21, a22, a23, a24, a25, a26) m := by
  have n1 := hK.2.1
  have hp := (hK.2.2.1 m q0 q1).2.2.2.2.1 h5
  have hv := hV m q0 q1 h5
  refine And.intro (fq_in24 q0 (by lia)) (fq_bring hK hS hp.1 hv (by lia) (by lia) h (by omega) (by omega) (fun r pn' li' a11' a12' a13' a14' a15' a16' a17' a18' r0 r1 h' => ?_))
  refine fq_emit h' (by omega) ⟨by decide, by decide⟩ ⟨by decide, by decide⟩ (by lia) ⟨by decide, by decide⟩ (fq_I17 r0 r1 (by lia) (by lia)) (fun li' a14' a15' a16' a17' a18' h' => ?_)
  exact H _ _ _ _ _ _ _ _ _ _ (fq_RSp h')
theorem fq_ep84 {post : Int32 → St1 → Prop} {B k : Nat} {m a b r o : Int32} (q0 : 0 ≤ m) (q1 : m < 24) (h : fq_RS B k pn li a7 a11 a12 a14 a15 a16 a17 a18) (hB : B < 300)
    (b0 : 0 ≤ o ∧ o ≤ 10) (b1 : 0 ≤ r ∧ r < 8) (b2 : -1 ≤ a ∧ a < 8) (b3 : -1 ≤ b ∧ b < 8) (hI : fq_I a7 o r a b (a5 m.toNatClampNeg))
    (H : ∀ (li' : Int32) (a14' : Nat → Int32) (a15' : Nat → Int32) (a16' : Nat → Int32) (a17' : Nat → Int32) (a18' : Nat → Int32), fq_RS (B + 1) k pn li' a7 a11 a12 a14' a15' a16' a17' a18' → post r (nc, fc, lv, cp, nd, pn, li', wc, ac, dc, sc, a1, a2, a3, a4, a5, a6, a7, a8, a9, a10, a11, a12, a13, a14', a15', a16', a17', a18', a19, a20, a21, a22, a23, a24, a25, a26)) : wX_emitPlain_84 post m a b r o nc fc lv cp nd pn li wc ac dc sc a1 a2 a3 a4 a5 a6 a7 a8 a9 a10 a11 a12 a13 a14 a15 a16 a17 a18 a19 a20 a21 a22 a23 a24 a25 a26 :=
  And.intro (fq_in24 q0 q1) (fq_emit h hB (by lia) (by lia) (by lia) (by lia) hI (fun li' a14' a15' a16' a17' a18' h' => H li' a14' a15' a16' a17' a18' h'))
theorem fq_ep63 {post : Int32 → St1 → Prop} {B k : Nat} {m kd a b : Int32} (hK : fq_K nc fc a3 a4 a5 a6 a7 a8) (q0 : 0 ≤ m) (q1 : m < 24) (h : fq_RS B k pn li a7 a11 a12 a14 a15 a16 a17 a18) (hB : B + 2 ≤ 300) (hk : k < 8)
    (b0 : 0 ≤ kd ∧ kd ≤ 10) (b2 : -1 ≤ a ∧ a < 8) (b3 : -1 ≤ b ∧ b < 8)
    (h4 : kd = 4 → ∀ r : Int32, r < 8 → fq_I a7 10 r a b (a5 m.toNatClampNeg)) (hI : ¬ kd = 4 → ∀ r : Int32, r < 8 → fq_I a7 kd r a b (a5 m.toNatClampNeg))
    (H : ∀ r (pn' : Int32) (li' : Int32) (a11' : Nat → Int32) (a12' : Nat → Int32) (a13' : Nat → Int32) (a14' : Nat → Int32) (a15' : Nat → Int32) (a16' : Nat → Int32) (a17' : Nat → Int32) (a18' : Nat → Int32), 0 ≤ r → r < 8 → fq_RS (B + 2) (k + 1) pn' li' a7 a11' a12' a14' a15' a16' a17' a18' → post r (nc, fc, lv, cp, nd, pn', li', wc, ac, dc, sc, a1, a2, a3, a4, a5, a6, a7, a8, a9, a10, a11', a12', a13', a14', a15', a16', a17', a18', a19, a20, a21, a22, a23, a24, a25, a26)) : wX_emitPlain_63 post m kd a b nc fc lv cp nd pn li wc ac dc sc a1 a2 a3 a4 a5 a6 a7 a8 a9 a10 a11 a12 a13 a14 a15 a16 a17 a18 a19 a20 a21 a22 a23 a24 a25 a26 := by
  refine fq_free hK (by lia) (by lia) h (by omega) hk (fun r pn' li' a11' a12' a13' a14' a15' a16' a17' a18' r0 r1 h' => br_c (fun g => ?_) (fun g => ?_))
  · exact fq_ep84 q0 q1 h' (by omega) ⟨by decide, by decide⟩ ⟨r0, r1⟩ b2 b3 (h4 g r r1) (fun li' a14' a15' a16' a17' a18' h' => H r pn' li' a11' a12' a13' a14' a15' a16' a17' a18' r0 r1 h')
  · exact fq_ep84 q0 q1 h' (by omega) b0 ⟨r0, r1⟩ b2 b3 (hI g r r1) (fun li' a14' a15' a16' a17' a18' h' => H r pn' li' a11' a12' a13' a14' a15' a16' a17' a18' r0 r1 h')
theorem fq_emitPlain {post : Int32 → St1 → Prop} {B : Nat} {m : Int32} (hK : fq_K nc fc a3 a4 a5 a6 a7 a8) (hS : fq_Sm nc a10) (q0 : 0 ≤ m) (q1 : m < nc) (g1 : 2 ≤ a3 m.toNatClampNeg) (g5 : ¬ a3 m.toNatClampNeg = 5) (g6 : ¬ a3 m.toNatClampNeg = 6)
    (h : fq_RS B 0 pn li a7 a11 a12 a14 a15 a16 a17 a18) (hB : B + 6 ≤ 300)
    (H : ∀ r (pn' : Int32) (li' : Int32) (a11' : Nat → Int32) (a12' : Nat → Int32) (a13' : Nat → Int32) (a14' : Nat → Int32) (a15' : Nat → Int32) (a16' : Nat → Int32) (a17' : Nat → Int32) (a18' : Nat → Int32), 0 ≤ r → r < 8 → fq_RS (B + 6) 8 pn' li' a7 a11' a12' a14' a15' a16' a17' a18' → post r (nc, fc, lv, cp, nd, pn', li', wc, ac, dc, sc, a1, a2, a3, a4, a5, a6, a7, a8, a9, a10, a11', a12', a13', a14', a15', a16', a17', a18', a19, a20, a21, a22, a23, a24, a25, a26)) :
    wpX_emitPlain post (nc, fc, lv, cp, nd, pn, li, wc, ac, dc, sc, a1, a2, a3, a4, a5, a6, a7, a8, a9, a10, a11, a12, a13, a14, a15, a16, a17, a18, a19, a20, a21, a22, a23, a24, a25, a26) m (a3 m.toNatClampNeg) := by
  have n1 := hK.2.1
  obtain ⟨k0, k10, _, _, _, hx, hy, h4, _, h7⟩ := hK.2.2.1 m q0 q1
  have px := hx g1 g5
  refine And.intro (fq_in24 q0 (by lia)) (fq_bring hK hS px.1 (by lia) q0 (by lia) h (by omega) (by omega) (fun a pn' li' a11' a12' a13' a14' a15' a16' a17' a18' r0 r1 h' => ?_))
  refine fq_two (fun t => br_f (by decide) ⟨fq_in24 q0 (by lia), ?_⟩) (fun t => br_t rfl ?_)
  · have py := hy t
    refine fq_bring hK hS py.1 (by lia) q0 (by lia) h' (by omega) (by omega) (fun b pn' li' a11' a12' a13' a14' a15' a16' a17' a18' s0 s1 h' => ?_)
    refine br_f (by lia) ?_
    exact fq_ep63 hK q0 (by lia) h' (by omega) (by omega) ⟨k0, k10⟩ ⟨by lia, r1⟩ ⟨by lia, s1⟩ (fun z => absurd z (by lia)) (fun _ r hr => fq_Ip (by lia) hr r0 r1 (fun _ => ⟨s0, s1⟩) h7)
      (fun r pn' li' a11' a12' a13' a14' a15' a16' a17' a18' t0 t1 h' => H r pn' li' a11' a12' a13' a14' a15' a16' a17' a18' t0 t1 (fq_RSm h' (by omega) (by omega) (by omega)))
  · refine br_c (fun g4 => ?_) (fun g4 => ?_)
    · refine fq_free hK q0 (by lia) h' (by omega) (by omega) (fun b pn' li' a11' a12' a13' a14' a15' a16' a17' a18' s0 s1 h' => ⟨fq_in24 q0 (by lia), ?_⟩)
      refine fq_emit h' (by omega) ⟨by decide, by decide⟩ (by lia) ⟨by decide, by decide⟩ ⟨by decide, by decide⟩ (fq_I1 s1 (h4 g4)) (fun li' a14' a15' a16' a17' a18' h' => ?_)
      exact fq_ep63 hK q0 (by lia) h' (by omega) (by omega) ⟨k0, k10⟩ ⟨by lia, r1⟩ ⟨by lia, s1⟩ (fun _ r hr => fq_Ip (by decide) hr r0 r1 (fun _ => ⟨s0, s1⟩) (fun z => absurd z (by decide))) (fun z => absurd g4 z)
        (fun r pn' li' a11' a12' a13' a14' a15' a16' a17' a18' t0 t1 h' => H r pn' li' a11' a12' a13' a14' a15' a16' a17' a18' t0 t1 (fq_RSm h' (by omega) (by omega) (by omega)))
    · exact fq_ep63 hK q0 (by lia) h' (by omega) (by omega) ⟨k0, k10⟩ ⟨by lia, r1⟩ ⟨by decide, by decide⟩ (fun z => absurd z g4) (fun _ r hr => fq_Ip (by lia) hr r0 r1 (fun z => absurd z (by lia)) h7)
        (fun r pn' li' a11' a12' a13' a14' a15' a16' a17' a18' t0 t1 h' => H r pn' li' a11' a12' a13' a14' a15' a16' a17' a18' t0 t1 (fq_RSm h' (by omega) (by omega) (by omega)))
theorem fq_ef64 {post : Int32 → St1 → Prop} {C k : Nat} {f t u : Int32} (f0 : 0 ≤ f) (f1 : f < 4) (k1 : 1 ≤ a7 f.toNatClampNeg) (k6 : a7 f.toNatClampNeg ≤ 6) (t0 : 0 ≤ t) (t1 : t < 8) (u0 : 0 ≤ u) (u1 : u < 8)
    (h8 : ∀ x : Int32, 0 ≤ x → x < 24 → fq_S (a8 x.toNatClampNeg)) (hB : C + 20 ≤ 300)
    (H : ∀ (li' : Int32) (a14' : Nat → Int32) (a15' : Nat → Int32) (a16' : Nat → Int32) (a17' : Nat → Int32) (a18' : Nat → Int32), fq_RS (C + 20) k pn li' a7 a11 a12 a14' a15' a16' a17' a18' → post t (nc, fc, lv, cp, nd, pn, li', wc, ac, dc, sc, a1, a2, a3, a4, a5, a6, a7, a8, a9, a10, a11, a12, a13, a14', a15', a16', a17', a18', a19, a20, a21, a22, a23, a24, a25, a26)) :
    ∀ (n : Nat) (x : Int32) (li : Int32) (a14 : Nat → Int32) (a15 : Nat → Int32) (a16 : Nat → Int32) (a17 : Nat → Int32) (a18 : Nat → Int32), 0 ≤ x → x ≤ a7 f.toNatClampNeg → (a7 f.toNatClampNeg).toInt < x.toInt + ((n : Nat) : Int) →
      fq_RS (C + 3 * x.toNatClampNeg) k pn li a7 a11 a12 a14 a15 a16 a17 a18 → wX_emitFilter_64 post f t u n x nc fc lv cp nd pn li wc ac dc sc a1 a2 a3 a4 a5 a6 a7 a8 a9 a10 a11 a12 a13 a14 a15 a16 a17 a18 a19 a20 a21 a22 a23 a24 a25 a26 := by
  intro n
  induction n with
  | zero => intro x li a14 a15 a16 a17 a18 i0 i1 hm; exact (fq_z hm i1).elim
  | succ n ih =>
    intro x li a14 a15 a16 a17 a18 i0 i1 hm h
    have cx : x.toNatClampNeg ≤ 6 := fq_cle (y := 6) i0 (by lia)
    refine And.intro (fq_in4 f0 f1) (br_c (fun g => ?_) (fun g => ?_))
    · refine fq_emit h (by omega) ⟨by decide, by decide⟩ (by lia) ⟨by decide, by decide⟩ ⟨by decide, by decide⟩ (fq_I13 t1) (fun li' a14' a15' a16' a17' a18' h' => ?_)
      refine fq_emit h' (by omega) ⟨by decide, by decide⟩ ⟨by decide, by decide⟩ ⟨by decide, by decide⟩ ⟨by decide, by decide⟩ (fq_I20 f0 f1 k1 k6) (fun li' a14' a15' a16' a17' a18' h' => ?_)
      exact H _ _ _ _ _ _ (fq_RSm h' (by omega) (by omega) (Nat.le_refl _))
    · have g' : x < a7 f.toNatClampNeg := by lia
      have cx : x.toNatClampNeg < 6 := fq_clt (y := 6) i0 (by lia)
      refine fq_emit h (by omega) ⟨by decide, by decide⟩ (by lia) ⟨by decide, by decide⟩ ⟨by decide, by decide⟩ (fq_I18 t1 f0 f1 i0 g' k6) (fun li' a14' a15' a16' a17' a18' h' => ⟨fq_in24 (by lia) (by lia), ?_⟩)
      refine fq_emit h' (by omega) ⟨by decide, by decide⟩ (by lia) ⟨by decide, by decide⟩ ⟨by decide, by decide⟩ (fq_I1 u1 (h8 _ (by lia) (by lia))) (fun li' a14' a15' a16' a17' a18' h' => ?_)
      refine fq_emit h' (by omega) ⟨by decide, by decide⟩ ⟨by decide, by decide⟩ (by lia) (by lia) (fq_I12 t0 t1 u0 u1) (fun li' a14' a15' a16' a17' a18' h' => nm_e ?_)
      refine ih (x + 1) li' a14' a15' a16' a17' a18' (by lia) (by lia) (fq_n hm g') ?_
      rw [fq_c1 i0 g']
      exact fq_RSm h' (by omega) (by omega) (Nat.le_refl _)
theorem fq_emitFilter {post : Int32 → St1 → Prop} {B : Nat} {m : Int32} (hK : fq_K nc fc a3 a4 a5 a6 a7 a8) (hS : fq_Sm nc a10) (q0 : 0 ≤ m) (q1 : m < nc) (g6 : a3 m.toNatClampNeg = 6)
    (h : fq_RS B 0 pn li a7 a11 a12 a14 a15 a16 a17 a18) (hB : B + 26 ≤ 300)
    (H : ∀ r (pn' : Int32) (li' : Int32) (a11' : Nat → Int32) (a12' : Nat → Int32) (a13' : Nat → Int32) (a14' : Nat → Int32) (a15' : Nat → Int32) (a16' : Nat → Int32) (a17' : Nat → Int32) (a18' : Nat → Int32), 0 ≤ r → r < 8 → fq_RS (B + 26) 8 pn' li' a7 a11' a12' a14' a15' a16' a17' a18' → post r (nc, fc, lv, cp, nd, pn', li', wc, ac, dc, sc, a1, a2, a3, a4, a5, a6, a7, a8, a9, a10, a11', a12', a13', a14', a15', a16', a17', a18', a19, a20, a21, a22, a23, a24, a25, a26)) :
    wpX_emitFilter post (nc, fc, lv, cp, nd, pn, li, wc, ac, dc, sc, a1, a2, a3, a4, a5, a6, a7, a8, a9, a10, a11, a12, a13, a14, a15, a16, a17, a18, a19, a20, a21, a22, a23, a24, a25, a26) m := by
  have n1 := hK.2.1
  have hfc := fq_Kfc hK
  obtain ⟨_, _, hN, hF, hF4, hf6, h7, h8⟩ := id hK
  have px := (hN m q0 q1).2.2.2.2.2.1 (by lia) (by lia)
  have ef := hf6 m q0 q1 g6
  have lt := fq_Fstep a3 (fq_clt q0 q1) g6
  have f0 : 0 ≤ a6 m.toNatClampNeg := by rw [ef]; exact nI_pos' (by omega)
  have f1 : a6 m.toNatClampNeg < fc := by rw [ef, hF]; exact nI_lt lt (by omega)
  have l := h7 _ f0 f1
  have f2 : a6 m.toNatClampNeg < 4 := by lia
  refine And.intro (fq_in24 q0 (by lia)) (nm_e ⟨fq_in24 q0 (by lia), ?_⟩)
  refine fq_bring hK hS px.1 (by lia) q0 (by lia) h (by omega) (by omega) (fun a pn' li' a11' a12' a13' a14' a15' a16' a17' a18' r0 r1 h' => ?_)
  refine fq_emit h' (by omega) ⟨by decide, by decide⟩ ⟨by decide, by decide⟩ (by lia) ⟨by decide, by decide⟩ (fq_I19 r0 r1 f0 f2 l.1 l.2) (fun li' a14' a15' a16' a17' a18' h' => ?_)
  refine fq_emit h' (by omega) ⟨by decide, by decide⟩ ⟨by decide, by decide⟩ ⟨by decide, by decide⟩ ⟨by decide, by decide⟩ fq_I11 (fun li' a14' a15' a16' a17' a18' h' => ?_)
  refine fq_free hK (by lia) (by lia) h' (by omega) (by omega) (fun t pn' li' a11' a12' a13' a14' a15' a16' a17' a18' t0 t1 h' => ?_)
  refine fq_free hK (by lia) (by lia) h' (by omega) (by omega) (fun u pn' li' a11' a12' a13' a14' a15' a16' a17' a18' u0 u1 h' => ⟨5000, ?_⟩)
  exact fq_ef64 (C := B + 6) (k := 4) f0 f2 l.1 l.2 t0 t1 u0 u1 h8 (by omega) (fun li' a14' a15' a16' a17' a18' h' => H t _ li' _ _ _ a14' a15' a16' a17' a18' t0 t1 (fq_RSm h' (by omega) (by omega) (by omega)))
    5000 0 _ _ _ _ _ _ (by decide) (by lia) (fq_f (by lia) (by decide)) h'
theorem fq_isOut2 {post : Int32 → Prop} {v : Int32} (n1 : nc ≤ 24) (hO : fq_O nc a9) (H : ∀ r, post r) :
    ∀ (n : Nat) (x : Int32), 0 ≤ x → x ≤ 4 → (4 : Int32).toInt < x.toInt + ((n : Nat) : Int) → wX_isOutput_2 post v nc fc lv cp nd pn li wc ac dc sc a1 a2 a3 a4 a5 a6 a7 a8 a9 a10 a11 a12 a13 a14 a15 a16 a17 a18 a19 a20 a21 a22 a23 a24 a25 a26 n x := by
  intro n
  induction n with
  | zero => intro x i0 i1 hm; exact (fq_z hm i1).elim
  | succ n ih =>
    intro x i0 i1 hm
    refine br_c (fun g => H _) (fun g => ?_)
    have g' : x < 4 := by lia
    have o := hO x i0 g'
    have next := ih (x + 1) (by lia) (by lia) (fq_n hm g')
    exact ⟨fq_in4 i0 g', br_c (fun _ => nm_e next) (fun _ => ⟨fq_in4 i0 g', fq_in24 (by lia) (by lia), br_c (fun _ => H _) (fun _ => nm_e next)⟩)⟩
theorem fq_isOut {post : Int32 → Prop} {v : Int32} (n1 : nc ≤ 24) (hO : fq_O nc a9) (H : ∀ r, post r) : wpX_isOutput post (nc, fc, lv, cp, nd, pn, li, wc, ac, dc, sc, a1, a2, a3, a4, a5, a6, a7, a8, a9, a10, a11, a12, a13, a14, a15, a16, a17, a18, a19, a20, a21, a22, a23, a24, a25, a26) v :=
  Exists.intro 5000 (fq_isOut2 n1 hO H 5000 0 (by decide) (by decide) (fq_f (by decide) (by decide)))
/-- how many of the first n outputs are stood for by v; by a node below v -/
def fq_oc (a9 a10 : Nat → Int32) (v : Int32) : Nat → Nat
  | 0 => 0
  | n + 1 => fq_oc a9 a10 v n + (if 0 ≤ a9 n ∧ a10 (a9 n).toNatClampNeg = v then 1 else 0)
def fq_od (a9 a10 : Nat → Int32) (v : Int32) : Nat → Nat
  | 0 => 0
  | n + 1 => fq_od a9 a10 v n + (if 0 ≤ a9 n ∧ a10 (a9 n).toNatClampNeg < v then 1 else 0)
theorem fq_odle (a9 a10 : Nat → Int32) (v : Int32) (n : Nat) : fq_od a9 a10 v n ≤ n := by
  induction n with
  | zero => exact Nat.le_refl _
  | succ n ih =>
    show fq_od a9 a10 v n + (if 0 ≤ a9 n ∧ a10 (a9 n).toNatClampNeg < v then 1 else 0) ≤ n + 1
    split <;> omega
theorem fq_ocle (a9 a10 : Nat → Int32) (v : Int32) (n : Nat) : fq_oc a9 a10 v n ≤ n := by
  induction n with
  | zero => exact Nat.le_refl _
  | succ n ih =>
    show fq_oc a9 a10 v n + (if 0 ≤ a9 n ∧ a10 (a9 n).toNatClampNeg = v then 1 else 0) ≤ n + 1
    split <;> omega
theorem fq_odS (a9 a10 : Nat → Int32) {v : Int32} (h0 : 0 ≤ v) (h1 : v < 24) (n : Nat) : fq_od a9 a10 (v + 1) n = fq_od a9 a10 v n + fq_oc a9 a10 v n := by
  induction n with
  | zero => rfl
  | succ n ih =>
    show fq_od a9 a10 (v + 1) n + (if 0 ≤ a9 n ∧ a10 (a9 n).toNatClampNeg < v + 1 then 1 else 0) = (fq_od a9 a10 v n + (if 0 ≤ a9 n ∧ a10 (a9 n).toNatClampNeg < v then 1 else 0)) + (fq_oc a9 a10 v n + (if 0 ≤ a9 n ∧ a10 (a9 n).toNatClampNeg = v then 1 else 0))
    rw [ih]
    generalize a10 (a9 n).toNatClampNeg = y
    generalize a9 n = z
    by_cases c0 : 0 ≤ z
    · by_cases c1 : y < v
      · rw [if_pos ⟨c0, by lia⟩, if_pos ⟨c0, c1⟩, if_neg (by lia)]; omega
      · by_cases c2 : y = v
        · rw [if_pos ⟨c0, by lia⟩, if_neg (by lia), if_pos ⟨c0, c2⟩]; omega
        · rw [if_neg (by lia), if_neg (by lia), if_neg (by lia)]; omega
    · rw [if_neg (by lia), if_neg (by lia), if_neg (by lia)]; omega
theorem fq_en121 {post : St1 → Prop} {C k : Nat} {m r : Int32} (n1 : nc ≤ 24) (hO : fq_O nc a9) (r0 : 0 ≤ r) (r1 : r < 8) (hB : C + 4 ≤ 300)
    (H : ∀ (pn' : Int32) (li' : Int32) (a14' : Nat → Int32) (a15' : Nat → Int32) (a16' : Nat → Int32) (a17' : Nat → Int32) (a18' : Nat → Int32), fq_RS (C + fq_oc a9 a10 m 4) 0 pn' li' a7 a11 a12 a14' a15' a16' a17' a18' → post (nc, fc, lv, cp, nd, pn', li', wc, ac, dc, sc, a1, a2, a3, a4, a5, a6, a7, a8, a9, a10, a11, a12, a13, a14', a15', a16', a17', a18', a19, a20, a21, a22, a23, a24, a25, a26)) :
    ∀ (n : Nat) (x : Int32) (li : Int32) (a14 : Nat → Int32) (a15 : Nat → Int32) (a16 : Nat → Int32) (a17 : Nat → Int32) (a18 : Nat → Int32), 0 ≤ x → x ≤ 4 → (4 : Int32).toInt < x.toInt + ((n : Nat) : Int) →
      fq_RS (C + fq_oc a9 a10 m x.toNatClampNeg) k pn li a7 a11 a12 a14 a15 a16 a17 a18 → wX_emitNode_121 post m r n x nc fc lv cp nd pn li wc ac dc sc a1 a2 a3 a4 a5 a6 a7 a8 a9 a10 a11 a12 a13 a14 a15 a16 a17 a18 a19 a20 a21 a22 a23 a24 a25 a26 := by
  intro n
  induction n with
  | zero => intro x li a14 a15 a16 a17 a18 i0 i1 hm; exact (fq_z hm i1).elim
  | succ n ih =>
    intro x li a14 a15 a16 a17 a18 i0 i1 hm h
    refine br_c (fun g => ?_) (fun g => ?_)
    · have e : x = 4 := by lia
      rw [e] at h
      exact H _ _ _ _ _ _ _ (fq_RSp h)
    · have g' : x < 4 := by lia
      have o := hO x i0 g'
      have cx : x.toNatClampNeg < 4 := fq_clt (y := 4) i0 g'
      have ex := fq_c1 i0 g'
      have ol := fq_ocle a9 a10 m x.toNatClampNeg
      have eo : fq_oc a9 a10 m (x.toNatClampNeg + 1) = fq_oc a9 a10 m x.toNatClampNeg + (if 0 ≤ a9 x.toNatClampNeg ∧ a10 (a9 x.toNatClampNeg).toNatClampNeg = m then 1 else 0) := rfl
      refine ⟨fq_in4 i0 g', br_c (fun g1 => nm_e (ih (x + 1) li a14 a15 a16 a17 a18 (by lia) (by lia) (fq_n hm g') ?_)) (fun g1 => ⟨fq_in4 i0 g', fq_in24 (by lia) (by lia), br_c (fun g2 => ?_) (fun g2 => nm_e (ih (x + 1) li a14 a15 a16 a17 a18 (by lia) (by lia) (fq_n hm g') ?_))⟩)⟩
      · rw [ex, eo, if_neg (by lia)]
        exact h
      · refine fq_emit h (by omega) ⟨by decide, by decide⟩ ⟨by decide, by decide⟩ (by lia) ⟨by decide, by decide⟩ (fq_I17 r0 r1 (by lia) (by lia)) (fun li' a14' a15' a16' a17' a18' h' => nm_e (ih (x + 1) li' a14' a15' a16' a17' a18' (by lia) (by lia) (fq_n hm g') ?_))
        rw [ex, eo, if_pos ⟨by lia, g2⟩]
        exact h'
      · rw [ex, eo, if_neg (fun z => g2 z.2)]
        exact h
theorem fq_en112 {post : St1 → Prop} {C k : Nat} {m r : Int32} (n1 : nc ≤ 24) (hO : fq_O nc a9) (m0 : 0 ≤ m) (m1 : m < 24) (r0 : 0 ≤ r) (r1 : r < 8) (hB : C + 4 ≤ 300) (h : fq_RS C k pn li a7 a11 a12 a14 a15 a16 a17 a18)
    (H : ∀ (pn' : Int32) (li' : Int32) (a11' : Nat → Int32) (a12' : Nat → Int32) (a14' : Nat → Int32) (a15' : Nat → Int32) (a16' : Nat → Int32) (a17' : Nat → Int32) (a18' : Nat → Int32), fq_RS (C + fq_oc a9 a10 m 4) 0 pn' li' a7 a11' a12' a14' a15' a16' a17' a18' → post (nc, fc, lv, cp, nd, pn', li', wc, ac, dc, sc, a1, a2, a3, a4, a5, a6, a7, a8, a9, a10, a11', a12', a13, a14', a15', a16', a17', a18', a19, a20, a21, a22, a23, a24, a25, a26)) :
    wX_emitNode_112 post m r nc fc lv cp nd pn li wc ac dc sc a1 a2 a3 a4 a5 a6 a7 a8 a9 a10 a11 a12 a13 a14 a15 a16 a17 a18 a19 a20 a21 a22 a23 a24 a25 a26 :=
  fq_keep h m0 m1 r0 r1 (fun a11' a12' h' => ⟨5000, fq_en121 n1 hO r0 r1 hB (fun pn' li' a14' a15' a16' a17' a18' h' => H pn' li' a11' a12' a14' a15' a16' a17' a18' h') 5000 0 li a14 a15 a16 a17 a18 (by decide) (by decide) (fq_f (by decide) (by decide)) h'⟩)
theorem fq_emitNode {post : St1 → Prop} {B : Nat} {m : Int32} (hK : fq_K nc fc a3 a4 a5 a6 a7 a8) (hO : fq_O nc a9) (hS : fq_Sm nc a10) (q0 : 0 ≤ m) (q1 : m < nc)
    (h : fq_RS B 0 pn li a7 a11 a12 a14 a15 a16 a17 a18) (hB : B + 30 ≤ 300)
    (H : ∀ (pn' : Int32) (li' : Int32) (a11' : Nat → Int32) (a12' : Nat → Int32) (a13' : Nat → Int32) (a14' : Nat → Int32) (a15' : Nat → Int32) (a16' : Nat → Int32) (a17' : Nat → Int32) (a18' : Nat → Int32), fq_RS (B + 6 + 20 * (if a3 m.toNatClampNeg = 6 then 1 else 0) + fq_oc a9 a10 m 4) 0 pn' li' a7 a11' a12' a14' a15' a16' a17' a18' → post (nc, fc, lv, cp, nd, pn', li', wc, ac, dc, sc, a1, a2, a3, a4, a5, a6, a7, a8, a9, a10, a11', a12', a13', a14', a15', a16', a17', a18', a19, a20, a21, a22, a23, a24, a25, a26)) :
    wpX_emitNode post (nc, fc, lv, cp, nd, pn, li, wc, ac, dc, sc, a1, a2, a3, a4, a5, a6, a7, a8, a9, a10, a11, a12, a13, a14, a15, a16, a17, a18, a19, a20, a21, a22, a23, a24, a25, a26) m := by
  have n1 := hK.2.1
  obtain ⟨k0, k10, k_0, k_1, _⟩ := hK.2.2.1 m q0 q1
  have ol := fq_ocle a9 a10 m 4
  have im : vp_in m 24 := fq_in24 q0 (by lia)
  have big : B + 6 + 20 * (if a3 m.toNatClampNeg = 6 then 1 else 0) + fq_oc a9 a10 m 4 ≤ 300 := by split <;> omega
  have same : post (nc, fc, lv, cp, nd, pn, li, wc, ac, dc, sc, a1, a2, a3, a4, a5, a6, a7, a8, a9, a10, a11, a12, a13, a14, a15, a16, a17, a18, a19, a20, a21, a22, a23, a24, a25, a26) := H pn li a11 a12 a13 a14 a15 a16 a17 a18 (fq_RSm h (by omega) (by omega) (Nat.le_refl _))
  refine And.intro im (nm_e ⟨im, br_c (fun gs => ?_) (fun _ => same)⟩)
  have mem : ∀ {n : Int32}, (0 ≤ n ∧ n < 96) → ∀ r (pn' : Int32) (li' : Int32) (a11' : Nat → Int32) (a12' : Nat → Int32) (a13' : Nat → Int32) (a14' : Nat → Int32) (a15' : Nat → Int32) (a16' : Nat → Int32) (a17' : Nat → Int32) (a18' : Nat → Int32), 0 ≤ r → r < 8 → fq_RS (B + 1) 1 pn' li' a7 a11' a12' a14' a15' a16' a17' a18' → wX_emitNode_84 post m r n (-1) (-1) r 16 nc fc lv cp nd pn' li' wc ac dc sc a1 a2 a3 a4 a5 a6 a7 a8 a9 a10 a11' a12' a13' a14' a15' a16' a17' a18' a19 a20 a21 a22 a23 a24 a25 a26 := by
    intro n hn r pn' li' a11' a12' a13' a14' a15' a16' a17' a18' r0 r1 h'
    refine fq_emit h' (by omega) ⟨by decide, by decide⟩ (by lia) ⟨by decide, by decide⟩ ⟨by decide, by decide⟩ (fq_I16 r1 hn.1 hn.2) (fun li' a14' a15' a16' a17' a18' h' => ?_)
    exact fq_en112 n1 hO q0 (by lia) r0 r1 (by omega) h' (fun pn' li' a11' a12' a14' a15' a16' a17' a18' h' => H pn' li' a11' a12' _ a14' a15' a16' a17' a18' (fq_RSm h' (by omega) (by omega) (Nat.le_refl _)))
  refine br_c (fun g1 => ?_) (fun g1 => br_c (fun g0 => ?_) (fun g0 => br_c (fun g5 => ?_) (fun g5 => br_c (fun g6 => ?_) (fun g6 => ?_))))
  · refine fq_isOut n1 hO (fun r => br_c (fun _ => same) (fun _ => ?_))
    refine fq_bring hK hS q0 q1 q0 (by lia) h (by omega) (by omega) (fun r pn' li' a11' a12' a13' a14' a15' a16' a17' a18' r0 r1 h' => ?_)
    exact fq_en112 n1 hO q0 (by lia) r0 r1 (by omega) h' (fun pn' li' a11' a12' a14' a15' a16' a17' a18' h' => H pn' li' a11' a12' _ a14' a15' a16' a17' a18' (fq_RSm h' (by omega) (by omega) (Nat.le_refl _)))
  · refine fq_free hK (by lia) (by lia) h (by omega) (by omega) (fun r pn' li' a11' a12' a13' a14' a15' a16' a17' a18' r0 r1 h' => br_t g0 ⟨im, ?_⟩)
    exact mem (by have := k_0 g0; lia) r pn' li' a11' a12' a13' a14' a15' a16' a17' a18' r0 r1 h'
  · refine fq_free hK (by lia) (by lia) h (by omega) (by omega) (fun r pn' li' a11' a12' a13' a14' a15' a16' a17' a18' r0 r1 h' => br_f g0 ?_)
    exact mem (by lia) r pn' li' a11' a12' a13' a14' a15' a16' a17' a18' r0 r1 h'
  · refine fq_emitFilter hK hS q0 q1 g6 h (by omega) (fun r pn' li' a11' a12' a13' a14' a15' a16' a17' a18' r0 r1 h' => ?_)
    exact fq_en112 n1 hO q0 (by lia) r0 r1 (by omega) h' (fun pn' li' a11' a12' a14' a15' a16' a17' a18' h' => H pn' li' a11' a12' _ a14' a15' a16' a17' a18' (fq_RSm h' (by rw [if_pos g6]; omega) (by omega) (Nat.le_refl _)))
  · refine fq_emitPlain hK hS q0 q1 (by lia) g5 g6 h (by omega) (fun r pn' li' a11' a12' a13' a14' a15' a16' a17' a18' r0 r1 h' => ?_)
    exact fq_en112 n1 hO q0 (by lia) r0 r1 (by omega) h' (fun pn' li' a11' a12' a14' a15' a16' a17' a18' h' => H pn' li' a11' a12' _ a14' a15' a16' a17' a18' (fq_RSm h' (by rw [if_neg g6]; omega) (by omega) (Nat.le_refl _)))
end
end
section
section
variable {nc fc lv cp nd pn li wc : Int32} {ac : Int64} {dc sc : Int32} {a1 a2 a3 a4 a5 a6 a7 a8 a9 a10 a11 a12 a13 a14 a15 a16 a17 a18 a19 a20 a21 a22 a23 a24 a25 a26 : Nat → Int32}
/-- i instructions are in their words -/
def fq_X (i wc : Int32) (a14 a19 a20 : Nat → Int32) : Prop :=
  0 ≤ wc ∧ wc ≤ 2 * i ∧ (∀ j : Int32, 0 ≤ j → j < i → 0 ≤ a19 j.toNatClampNeg ∧ a19 j.toNatClampNeg ≤ 2 * j) ∧
  ∀ w h : Int32, 0 ≤ w → w < 605 → 0 ≤ h → h ≤ 1 → fq_wd i a14 h (a20 (2 * w + h).toNatClampNeg) ∧ (2 * i ≤ w → a20 (2 * w + h).toNatClampNeg = 0)
theorem fq_s106 {post : St1 → Prop} {J : Int32 → Int32 → (Nat → Int32) → (Nat → Int32) → (Nat → Int32) → (Nat → Int32) → (Nat → Int32) → (Nat → Int32) → (Nat → Int32) → (Nat → Int32) → (Nat → Int32) → (Nat → Int32) → (Nat → Int32) → (Nat → Int32) → (Nat → Int32) → (Nat → Int32) → (Nat → Int32) → (Nat → Int32) → (Nat → Int32) → (Nat → Int32) → (Nat → Int32) → (Nat → Int32) → (Nat → Int32) → (Nat → Int32) → (Nat → Int32) → (Nat → Int32) → (Nat → Int32) → (Nat → Int32) → Prop} {i h : Int32} (i0 : 0 ≤ i) (i1 : i < 300) (h0 : 0 ≤ h) (h1 : h ≤ 1) (t0 : h = 0 → a14 i.toNatClampNeg < 16) (t1 : ¬ h = 0 → 16 ≤ a14 i.toNatClampNeg) (hX : fq_X i wc a14 a19 a20)
    (H : ∀ (wc' : Int32) (a19' : Nat → Int32) (a20' : Nat → Int32), fq_X (i + 1) wc' a14 a19' a20' → J (i + 1) wc' a1 a2 a3 a4 a5 a6 a7 a8 a9 a10 a11 a12 a13 a14 a15 a16 a17 a18 a19' a20' a21 a22 a23 a24 a25 a26) :
    ∀ (n : Nat) (x : Int32), 0 ≤ x → x ≤ 2 * i → (2 * i).toInt < x.toInt + ((n : Nat) : Int) → wX_schedule_106 post J i h nc fc lv cp nd pn li wc ac dc sc a1 a2 a3 a4 a5 a6 a7 a8 a9 a10 a11 a12 a13 a14 a15 a16 a17 a18 a19 a20 a21 a22 a23 a24 a25 a26 n x := by
  obtain ⟨w0, w1, hJ, hX⟩ := hX
  intro n
  induction n with
  | zero => intro x j0 j1 hm; exact (fq_z hm j1).elim
  | succ n ih =>
    intro x j0 j1 hm
    have ix : vp_in (2 * x + h) 1210 := fq_in1210 (by lia) (by lia)
    refine And.intro ix (br_c (fun g => ?_) (fun g => ?_))
    · have es : x.toInt16.toInt32 = x := fq_h (by lia) (by lia)
      have ei : (i + 1).toInt16.toInt32 = i + 1 := fq_h (by lia) (by lia)
      rw [es, ei]
      have hX' : ∀ wc' : Int32, 0 ≤ wc' → wc' ≤ 2 * (i + 1) → fq_X (i + 1) wc' a14 (upd a19 i.toNatClampNeg x) (upd a20 (2 * x + h).toNatClampNeg (i + 1)) := by
        intro wc' c0 c1
        refine ⟨c0, c1, fq_up (P := fun j v => 0 ≤ v ∧ v ≤ 2 * j) i0 (fun j b0 b1 ne => hJ j b0 (by lia)) ⟨j0, j1⟩, ?_⟩
        intro w k b0 b1 k0 k1
        have old := hX w k b0 b1 k0 k1
        by_cases e : 2 * w + k = 2 * x + h
        · have ek : k = h := by lia
          have ew : w = x := by lia
          rw [e, fq_us]
          refine ⟨⟨by lia, by lia, fun _ z => ?_, fun _ z => ?_⟩, fun z => absurd z (by lia)⟩
          · rw [show i + 1 - 1 = i by lia]; exact t0 (by lia)
          · rw [show i + 1 - 1 = i by lia]; exact t1 (by lia)
        · rw [fq_un (by lia) (by lia) e]
          obtain ⟨⟨o1, o2, o3, o4⟩, o5⟩ := old
          exact ⟨⟨o1, by lia, o3, o4⟩, fun z => o5 (by lia)⟩
      refine ⟨fq_in300 i0 i1, nm_e ⟨ix, nm_e (br_c (fun g1 => nm_e (H _ _ _ (hX' wc w0 (by lia)))) (fun g1 => nm_e (nm_e (H _ _ _ (hX' (x + 1) (by lia) (by lia))))))⟩⟩
    · have g' : x < 2 * i := by
        have z := (hX x h j0 (by lia) h0 h1).2
        by_cases c : 2 * i ≤ x
        · exact absurd (z c) g
        · lia
      exact nm_e (ih (x + 1) (by lia) (by lia) (fq_n hm g'))
theorem fq_s87 {post : St1 → Prop} {J : Int32 → Int32 → (Nat → Int32) → (Nat → Int32) → (Nat → Int32) → (Nat → Int32) → (Nat → Int32) → (Nat → Int32) → (Nat → Int32) → (Nat → Int32) → (Nat → Int32) → (Nat → Int32) → (Nat → Int32) → (Nat → Int32) → (Nat → Int32) → (Nat → Int32) → (Nat → Int32) → (Nat → Int32) → (Nat → Int32) → (Nat → Int32) → (Nat → Int32) → (Nat → Int32) → (Nat → Int32) → (Nat → Int32) → (Nat → Int32) → (Nat → Int32) → (Nat → Int32) → (Nat → Int32) → Prop} {i x : Int32} (i0 : 0 ≤ i) (i1 : i < 300) (x0 : 0 ≤ x) (x1 : x ≤ 2 * i) (hX : fq_X i wc a14 a19 a20)
    (H : ∀ (wc' : Int32) (a19' : Nat → Int32) (a20' : Nat → Int32), fq_X (i + 1) wc' a14 a19' a20' → J (i + 1) wc' a1 a2 a3 a4 a5 a6 a7 a8 a9 a10 a11 a12 a13 a14 a15 a16 a17 a18 a19' a20' a21 a22 a23 a24 a25 a26) : wX_schedule_87 post J i x nc fc lv cp nd pn li wc ac dc sc a1 a2 a3 a4 a5 a6 a7 a8 a9 a10 a11 a12 a13 a14 a15 a16 a17 a18 a19 a20 a21 a22 a23 a24 a25 a26 := by
  refine And.intro (fq_in300 i0 i1) (fq_mem (fun g => br_t rfl ⟨5000, ?_⟩) (fun g => br_f (by decide) ⟨5000, ?_⟩))
  · exact fq_s106 i0 i1 (by decide) (by decide) (fun _ => g) (fun z => absurd rfl z) hX H 5000 x x0 x1 (fq_f (by lia) x0)
  · exact fq_s106 i0 i1 (by decide) (by decide) (fun z => absurd z (by decide)) (fun _ => by lia) hX H 5000 x x0 x1 (fq_f (by lia) x0)
theorem fq_s52 {post : St1 → Prop} {J : Int32 → Int32 → (Nat → Int32) → (Nat → Int32) → (Nat → Int32) → (Nat → Int32) → (Nat → Int32) → (Nat → Int32) → (Nat → Int32) → (Nat → Int32) → (Nat → Int32) → (Nat → Int32) → (Nat → Int32) → (Nat → Int32) → (Nat → Int32) → (Nat → Int32) → (Nat → Int32) → (Nat → Int32) → (Nat → Int32) → (Nat → Int32) → (Nat → Int32) → (Nat → Int32) → (Nat → Int32) → (Nat → Int32) → (Nat → Int32) → (Nat → Int32) → (Nat → Int32) → (Nat → Int32) → Prop} {i : Int32} (i0 : 0 ≤ i) (i1 : i < 300) (hX : fq_X i wc a14 a19 a20)
    (H : ∀ (wc' : Int32) (a19' : Nat → Int32) (a20' : Nat → Int32), fq_X (i + 1) wc' a14 a19' a20' → J (i + 1) wc' a1 a2 a3 a4 a5 a6 a7 a8 a9 a10 a11 a12 a13 a14 a15 a16 a17 a18 a19' a20' a21 a22 a23 a24 a25 a26) :
    ∀ (n : Nat) (w x : Int32), 0 ≤ w → w ≤ 2 * i → 0 ≤ x → x ≤ i → i.toInt < x.toInt + ((n : Nat) : Int) → wX_schedule_52 post J i nc fc lv cp nd pn li wc ac dc sc a1 a2 a3 a4 a5 a6 a7 a8 a9 a10 a11 a12 a13 a14 a15 a16 a17 a18 a19 a20 a21 a22 a23 a24 a25 a26 n w x := by
  intro n
  induction n with
  | zero => intro w x w0 w1 j0 j1 hm; exact (fq_z hm j1).elim
  | succ n ih =>
    intro w x w0 w1 j0 j1 hm
    refine br_c (fun g => fq_s87 i0 i1 w0 w1 hX H) (fun g => ?_)
    have g' : x < i := by lia
    have hx := hX.2.2.1 x j0 g'
    have next := fun v v0 v1 => ih v (x + 1) v0 v1 (by lia) (by lia) (fq_n hm g')
    refine ⟨fq_in300 j0 (by lia), fq_dist j0 (by lia) i0 i1 (fun r r0 r1 => nm_e (br_c (fun c => nm_e (next w w0 w1)) (fun c => nm_e (next _ (by lia) (by lia)))))⟩
theorem fq_s29 {post : St1 → Prop} (l0 : 0 ≤ li) (l1 : li ≤ 300) (H : ∀ (wc : Int32) (a19 : Nat → Int32) (a20 : Nat → Int32), fq_W li wc a14 a20 → post (nc, fc, lv, cp, nd, pn, li, wc, ac, dc, sc, a1, a2, a3, a4, a5, a6, a7, a8, a9, a10, a11, a12, a13, a14, a15, a16, a17, a18, a19, a20, a21, a22, a23, a24, a25, a26)) :
    ∀ (n : Nat) (x : Int32) (wc : Int32) (a19 : Nat → Int32) (a20 : Nat → Int32), 0 ≤ x → x ≤ li → li.toInt < x.toInt + ((n : Nat) : Int) → fq_X x wc a14 a19 a20 → wX_schedule_29 post nc fc lv cp nd pn li ac dc sc n x wc a1 a2 a3 a4 a5 a6 a7 a8 a9 a10 a11 a12 a13 a14 a15 a16 a17 a18 a19 a20 a21 a22 a23 a24 a25 a26 := by
  intro n
  induction n with
  | zero => intro x wc a19 a20 j0 j1 hm; exact (fq_z hm j1).elim
  | succ n ih =>
    intro x wc a19 a20 j0 j1 hm hX
    refine br_c (fun g => ?_) (fun g => ?_)
    · have e : x = li := by lia
      subst e
      exact H wc a19 a20 ⟨hX.1, by have := hX.2.1; lia, fun w h b0 b1 k0 k1 => (hX.2.2.2 w h b0 b1 k0 k1).1⟩
    · have g' : x < li := by lia
      have next : ∀ (wc' : Int32) (a19' : Nat → Int32) (a20' : Nat → Int32), fq_X (x + 1) wc' a14 a19' a20' → wX_schedule_29 post nc fc lv cp nd pn li ac dc sc n (x + 1) wc' a1 a2 a3 a4 a5 a6 a7 a8 a9 a10 a11 a12 a13 a14 a15 a16 a17 a18 a19' a20' a21 a22 a23 a24 a25 a26 := fun wc' a19' a20' h' => ih (x + 1) wc' a19' a20' (by lia) (by lia) (fq_n hm g') h'
      refine nm_e (br_c (fun _ => fq_s87 j0 (by lia) (by lia) (by lia) hX next) (fun _ => ⟨5000, ?_⟩))
      exact fq_s52 j0 (by lia) hX next 5000 0 0 (by decide) (by lia) (by decide) j0 (fq_f (by lia) (by decide))
theorem fq_s2 {post : St1 → Prop} (l0 : 0 ≤ li) (l1 : li ≤ 300) (H : ∀ (wc : Int32) (a19 : Nat → Int32) (a20 : Nat → Int32), fq_W li wc a14 a20 → post (nc, fc, lv, cp, nd, pn, li, wc, ac, dc, sc, a1, a2, a3, a4, a5, a6, a7, a8, a9, a10, a11, a12, a13, a14, a15, a16, a17, a18, a19, a20, a21, a22, a23, a24, a25, a26)) :
    ∀ (n : Nat) (x : Int32) (a20 : Nat → Int32), 0 ≤ x → x ≤ 1210 → (1210 : Int32).toInt < x.toInt + ((n : Nat) : Int) → (∀ y : Int32, 0 ≤ y → y < x → a20 y.toNatClampNeg = 0) → wX_schedule_2 post nc fc lv cp nd pn li wc ac dc sc n x a1 a2 a3 a4 a5 a6 a7 a8 a9 a10 a11 a12 a13 a14 a15 a16 a17 a18 a19 a20 a21 a22 a23 a24 a25 a26 := by
  intro n
  induction n with
  | zero => intro x a20 j0 j1 hm; exact (fq_z hm j1).elim
  | succ n ih =>
    intro x a20 j0 j1 hm h
    refine br_c (fun g => ⟨5000, ?_⟩) (fun g => ?_)
    · refine fq_s29 l0 l1 H 5000 0 0 a19 a20 (by decide) l0 (fq_f (by lia) (by decide)) ⟨by decide, by decide, fun j b0 b1 => absurd b1 (by lia), ?_⟩
      intro w k b0 b1 k0 k1
      have e := h (2 * w + k) (by lia) (by lia)
      rw [e]
      exact ⟨⟨by decide, by decide, fun z => absurd z (by decide), fun z => absurd z (by decide)⟩, fun _ => rfl⟩
    · have g' : x < 1210 := by lia
      exact ⟨fq_in1210 j0 g', nm_e (nm_e (ih (x + 1) _ (by lia) (by lia) (fq_n hm g') (fq_up (P := fun _ v => v = 0) j0 (fun y y0 y1 ne => h y y0 (by lia)) rfl)))⟩
theorem fq_sched {post : St1 → Prop} (l0 : 0 ≤ li) (l1 : li ≤ 300) (H : ∀ (wc : Int32) (a19 : Nat → Int32) (a20 : Nat → Int32), fq_W li wc a14 a20 → post (nc, fc, lv, cp, nd, pn, li, wc, ac, dc, sc, a1, a2, a3, a4, a5, a6, a7, a8, a9, a10, a11, a12, a13, a14, a15, a16, a17, a18, a19, a20, a21, a22, a23, a24, a25, a26)) : wpX_schedule post (nc, fc, lv, cp, nd, pn, li, wc, ac, dc, sc, a1, a2, a3, a4, a5, a6, a7, a8, a9, a10, a11, a12, a13, a14, a15, a16, a17, a18, a19, a20, a21, a22, a23, a24, a25, a26) :=
  Exists.intro 5000 (fq_s2 l0 l1 H 5000 0 a20 (by decide) (by decide) (fq_f (by decide) (by decide)) (fun y y0 y1 => absurd y1 (by lia)))
end
end
section
section
variable {nc fc lv cp nd pn li wc : Int32} {ac : Int64} {dc sc : Int32} {a1 a2 a3 a4 a5 a6 a7 a8 a9 a10 a11 a12 a13 a14 a15 a16 a17 a18 a19 a20 a21 a22 a23 a24 a25 a26 : Nat → Int32}
theorem fq_c103 {post : St1 → Prop} (hK : fq_K nc fc a3 a4 a5 a6 a7 a8) (hV : fq_V nc a3 a4) (hS : fq_Sm nc a10)
    (H : ∀ (pn : Int32) (li : Int32) (wc : Int32) (a11 : Nat → Int32) (a12 : Nat → Int32) (a13 : Nat → Int32) (a14 : Nat → Int32) (a15 : Nat → Int32) (a16 : Nat → Int32) (a17 : Nat → Int32) (a18 : Nat → Int32) (a19 : Nat → Int32) (a20 : Nat → Int32), fq_Code li a7 a14 a15 a16 a17 a18 → fq_W li wc a14 a20 → post (nc, fc, lv, cp, nd, pn, li, wc, ac, dc, sc, a1, a2, a3, a4, a5, a6, a7, a8, a9, a10, a11, a12, a13, a14, a15, a16, a17, a18, a19, a20, a21, a22, a23, a24, a25, a26)) :
    ∀ (n : Nat) (x : Int32) (pn : Int32) (li : Int32) (a11 : Nat → Int32) (a12 : Nat → Int32) (a13 : Nat → Int32) (a14 : Nat → Int32) (a15 : Nat → Int32) (a16 : Nat → Int32) (a17 : Nat → Int32) (a18 : Nat → Int32), 0 ≤ x → x ≤ nc → nc.toInt < x.toInt + ((n : Nat) : Int) → fq_RS (228 + 3 * x.toNatClampNeg) 0 pn li a7 a11 a12 a14 a15 a16 a17 a18 → wX_compile_103 post n x nc fc lv cp nd pn li wc ac dc sc a1 a2 a3 a4 a5 a6 a7 a8 a9 a10 a11 a12 a13 a14 a15 a16 a17 a18 a19 a20 a21 a22 a23 a24 a25 a26 := by
  have n1 := hK.2.1
  intro n
  induction n with
  | zero => intro x pn li a11 a12 a13 a14 a15 a16 a17 a18 i0 i1 hm; exact (fq_z hm i1).elim
  | succ n ih =>
    intro x pn li a11 a12 a13 a14 a15 a16 a17 a18 i0 i1 hm h
    refine br_c (fun g => ?_) (fun g => ?_)
    · have hC := h.2.2.1
      exact fq_sched hC.1 hC.2.1 (fun wc a19 a20 w => H pn li wc a11 a12 a13 a14 a15 a16 a17 a18 a19 a20 hC w)
    · have g' : x < nc := by lia
      have cx : x.toNatClampNeg < 24 := fq_clt (y := 24) i0 (by lia)
      have next : ∀ (pn' : Int32) (li' : Int32) (a11' : Nat → Int32) (a12' : Nat → Int32) (a13' : Nat → Int32) (a14' : Nat → Int32) (a15' : Nat → Int32) (a16' : Nat → Int32) (a17' : Nat → Int32) (a18' : Nat → Int32), fq_RS (228 + 3 * x.toNatClampNeg + 3) 0 pn' li' a7 a11' a12' a14' a15' a16' a17' a18' → wX_compile_103 post n (x + 1) nc fc lv cp nd pn' li' wc ac dc sc a1 a2 a3 a4 a5 a6 a7 a8 a9 a10 a11' a12' a13' a14' a15' a16' a17' a18' a19 a20 a21 a22 a23 a24 a25 a26 := by
        intro pn' li' a11' a12' a13' a14' a15' a16' a17' a18' h'
        refine ih (x + 1) pn' li' a11' a12' a13' a14' a15' a16' a17' a18' (by lia) (by lia) (fq_n hm g') ?_
        rw [fq_c1 i0 g']
        exact fq_RSm h' (by omega) (by omega) (Nat.le_refl _)
      have stay := next pn li a11 a12 a13 a14 a15 a16 a17 a18 (fq_RSm h (by omega) (by omega) (Nat.le_refl _))
      refine fq_need (fun r => br_c (fun _ => nm_e stay) (fun _ => ⟨fq_in24 i0 (by lia), br_c (fun g5 => ?_) (fun _ => nm_e stay)⟩))
      exact fq_emitDelay hK hV hS i0 g' g5 h (by omega) (fun pn' li' a11' a12' a13' a14' a15' a16' a17' a18' h' => nm_e (next pn' li' a11' a12' a13' a14' a15' a16' a17' a18' h'))
theorem fq_c74 {post : St1 → Prop} (hK : fq_K nc fc a3 a4 a5 a6 a7 a8) (hV : fq_V nc a3 a4) (hO : fq_O nc a9) (hS : fq_Sm nc a10)
    (H : ∀ (pn : Int32) (li : Int32) (wc : Int32) (a11 : Nat → Int32) (a12 : Nat → Int32) (a13 : Nat → Int32) (a14 : Nat → Int32) (a15 : Nat → Int32) (a16 : Nat → Int32) (a17 : Nat → Int32) (a18 : Nat → Int32) (a19 : Nat → Int32) (a20 : Nat → Int32), fq_Code li a7 a14 a15 a16 a17 a18 → fq_W li wc a14 a20 → post (nc, fc, lv, cp, nd, pn, li, wc, ac, dc, sc, a1, a2, a3, a4, a5, a6, a7, a8, a9, a10, a11, a12, a13, a14, a15, a16, a17, a18, a19, a20, a21, a22, a23, a24, a25, a26)) :
    ∀ (n : Nat) (x : Int32) (pn : Int32) (li : Int32) (a11 : Nat → Int32) (a12 : Nat → Int32) (a13 : Nat → Int32) (a14 : Nat → Int32) (a15 : Nat → Int32) (a16 : Nat → Int32) (a17 : Nat → Int32) (a18 : Nat → Int32), 0 ≤ x → x ≤ nc → nc.toInt < x.toInt + ((n : Nat) : Int) →
      fq_RS (6 * x.toNatClampNeg + 20 * fq_F a3 x.toNatClampNeg + fq_od a9 a10 x 4) 0 pn li a7 a11 a12 a14 a15 a16 a17 a18 → wX_compile_74 post n x nc fc lv cp nd pn li wc ac dc sc a1 a2 a3 a4 a5 a6 a7 a8 a9 a10 a11 a12 a13 a14 a15 a16 a17 a18 a19 a20 a21 a22 a23 a24 a25 a26 := by
  have n0 := hK.1
  have n1 := hK.2.1
  have F4 := hK.2.2.2.2.1
  intro n
  induction n with
  | zero => intro x pn li a11 a12 a13 a14 a15 a16 a17 a18 i0 i1 hm; exact (fq_z hm i1).elim
  | succ n ih =>
    intro x pn li a11 a12 a13 a14 a15 a16 a17 a18 i0 i1 hm h
    have fm := fq_Fmono a3 (fq_cle i0 i1)
    have od := fq_odle a9 a10 x 4
    have cx : x.toNatClampNeg ≤ 24 := fq_cle (y := 24) i0 (by lia)
    refine br_c (fun g => ⟨5000, ?_⟩) (fun g => ?_)
    · exact fq_c103 hK hV hS H 5000 0 pn li a11 a12 a13 a14 a15 a16 a17 a18 (by decide) n0 (fq_f (by lia) (by decide)) (fq_RSm h (by omega) (by decide) (Nat.le_refl _))
    · have g' : x < nc := by lia
      have cx : x.toNatClampNeg < 24 := fq_clt (y := 24) i0 (by lia)
      have fm1 := fq_Fmono a3 (show x.toNatClampNeg + 1 ≤ nc.toNatClampNeg from fq_clt i0 g')
      have eF : fq_F a3 (x.toNatClampNeg + 1) = fq_F a3 x.toNatClampNeg + (if a3 x.toNatClampNeg = 6 then 1 else 0) := rfl
      have eo := fq_odS a9 a10 i0 (show x < 24 by lia) 4
      have od1 := fq_odle a9 a10 (x + 1) 4
      have next : ∀ (pn' : Int32) (li' : Int32) (a11' : Nat → Int32) (a12' : Nat → Int32) (a13' : Nat → Int32) (a14' : Nat → Int32) (a15' : Nat → Int32) (a16' : Nat → Int32) (a17' : Nat → Int32) (a18' : Nat → Int32), fq_RS (6 * x.toNatClampNeg + 20 * fq_F a3 x.toNatClampNeg + fq_od a9 a10 x 4 + 6 + 20 * (if a3 x.toNatClampNeg = 6 then 1 else 0) + fq_oc a9 a10 x 4) 0 pn' li' a7 a11' a12' a14' a15' a16' a17' a18' → wX_compile_74 post n (x + 1) nc fc lv cp nd pn' li' wc ac dc sc a1 a2 a3 a4 a5 a6 a7 a8 a9 a10 a11' a12' a13' a14' a15' a16' a17' a18' a19 a20 a21 a22 a23 a24 a25 a26 := by
        intro pn' li' a11' a12' a13' a14' a15' a16' a17' a18' h'
        refine ih (x + 1) pn' li' a11' a12' a13' a14' a15' a16' a17' a18' (by lia) (by lia) (fq_n hm g') ?_
        rw [fq_c1 i0 g']
        exact fq_RSm h' (by omega) (by omega) (Nat.le_refl _)
      have stay := next pn li a11 a12 a13 a14 a15 a16 a17 a18 (fq_RSm h (by omega) (by omega) (Nat.le_refl _))
      refine fq_need (fun r => br_c (fun _ => nm_e stay) (fun _ => ?_))
      exact fq_emitNode hK hO hS i0 g' h (by omega) (fun pn' li' a11' a12' a13' a14' a15' a16' a17' a18' h' => nm_e (next pn' li' a11' a12' a13' a14' a15' a16' a17' a18' h'))
theorem fq_c46 {post : St1 → Prop} (H : ∀ (a12 : Nat → Int32) (a13 : Nat → Int32), fq_R a12 → ∃ n : Nat, wX_compile_74 post n 0 nc fc lv cp nd pn li wc ac dc sc a1 a2 a3 a4 a5 a6 a7 a8 a9 a10 a11 a12 a13 a14 a15 a16 a17 a18 a19 a20 a21 a22 a23 a24 a25 a26) :
    ∀ (n : Nat) (x : Int32) (a12 : Nat → Int32) (a13 : Nat → Int32), 0 ≤ x → x ≤ 24 → (24 : Int32).toInt < x.toInt + ((n : Nat) : Int) → (∀ y : Int32, 0 ≤ y → y < x → -1 ≤ a12 y.toNatClampNeg ∧ a12 y.toNatClampNeg < 8) → wX_compile_46 post nc fc lv cp nd pn li wc ac dc sc n x a1 a2 a3 a4 a5 a6 a7 a8 a9 a10 a11 a12 a13 a14 a15 a16 a17 a18 a19 a20 a21 a22 a23 a24 a25 a26 := by
  intro n
  induction n with
  | zero => intro x a12 a13 i0 i1 hm; exact (fq_z hm i1).elim
  | succ n ih =>
    intro x a12 a13 i0 i1 hm h
    refine br_c (fun g => H a12 a13 (fun y y0 y1 => h y y0 (by lia))) (fun g => ?_)
    have g' : x < 24 := by lia
    exact ⟨fq_in24 i0 g', nm_e ⟨fq_in24 i0 g', nm_e (nm_e (ih (x + 1) _ _ (by lia) (by lia) (fq_n hm g') (fq_up (P := fun _ v => -1 ≤ v ∧ v < 8) i0 (fun y y0 y1 ne => h y y0 (by lia)) ⟨by decide, by decide⟩)))⟩⟩
theorem fq_c25 {post : St1 → Prop} (H : ∀ a11 : Nat → Int32, fq_H a11 → ∃ n : Nat, wX_compile_46 post nc fc lv cp nd pn li wc ac dc sc n 0 a1 a2 a3 a4 a5 a6 a7 a8 a9 a10 a11 a12 a13 a14 a15 a16 a17 a18 a19 a20 a21 a22 a23 a24 a25 a26) :
    ∀ (n : Nat) (x : Int32) (a11 : Nat → Int32), 0 ≤ x → x ≤ 8 → (8 : Int32).toInt < x.toInt + ((n : Nat) : Int) → (∀ y : Int32, 0 ≤ y → y < x → -1 ≤ a11 y.toNatClampNeg ∧ a11 y.toNatClampNeg < 24) → wX_compile_25 post nc fc lv cp nd pn li wc ac dc sc n x a1 a2 a3 a4 a5 a6 a7 a8 a9 a10 a11 a12 a13 a14 a15 a16 a17 a18 a19 a20 a21 a22 a23 a24 a25 a26 := by
  intro n
  induction n with
  | zero => intro x a11 i0 i1 hm; exact (fq_z hm i1).elim
  | succ n ih =>
    intro x a11 i0 i1 hm h
    refine br_c (fun g => H a11 (fun y y0 y1 => h y y0 (by lia))) (fun g => ?_)
    have g' : x < 8 := by lia
    exact ⟨fq_in8 i0 g', nm_e (nm_e (ih (x + 1) _ (by lia) (by lia) (fq_n hm g') (fq_up (P := fun _ v => -1 ≤ v ∧ v < 24) i0 (fun y y0 y1 ne => h y y0 (by lia)) ⟨by decide, by decide⟩)))⟩
theorem fq_compile {post : St1 → Prop} (hK : fq_K nc fc a3 a4 a5 a6 a7 a8) (hV : fq_V nc a3 a4) (hO : fq_O nc a9)
    (H : ∀ (nd : Int32) (pn : Int32) (li : Int32) (wc : Int32) (a10 : Nat → Int32) (a11 : Nat → Int32) (a12 : Nat → Int32) (a13 : Nat → Int32) (a14 : Nat → Int32) (a15 : Nat → Int32) (a16 : Nat → Int32) (a17 : Nat → Int32) (a18 : Nat → Int32) (a19 : Nat → Int32) (a20 : Nat → Int32), fq_Code li a7 a14 a15 a16 a17 a18 → fq_W li wc a14 a20 → post (nc, fc, lv, 1, nd, pn, li, wc, ac, dc, sc, a1, a2, a3, a4, a5, a6, a7, a8, a9, a10, a11, a12, a13, a14, a15, a16, a17, a18, a19, a20, a21, a22, a23, a24, a25, a26)) : wpX_compile post (nc, fc, lv, cp, nd, pn, li, wc, ac, dc, sc, a1, a2, a3, a4, a5, a6, a7, a8, a9, a10, a11, a12, a13, a14, a15, a16, a17, a18, a19, a20, a21, a22, a23, a24, a25, a26) := by
  refine fq_findSame hK (fun a10 hS => fq_findNeeded hK hO (fun nd => ⟨5000, ?_⟩))
  refine fq_c25 (fun a11 hH => ⟨5000, fq_c46 (fun a12 a13 hR => ⟨5000, ?_⟩) 5000 0 a12 a13 (by decide) (by decide) (fq_f (by decide) (by decide)) (fun y y0 y1 => absurd y1 (by lia))⟩) 5000 0 a11 (by decide) (by decide) (fq_f (by decide) (by decide)) (fun y y0 y1 => absurd y1 (by lia))
  refine fq_c74 hK hV hO hS (fun pn li wc a11 a12 a13 a14 a15 a16 a17 a18 a19 a20 c w => H nd pn li wc a10 a11 a12 a13 a14 a15 a16 a17 a18 a19 a20 c w) 5000 0 0 0 a11 a12 a13 a14 a15 a16 a17 a18 (by decide) hK.1 (fq_f (by have := hK.2.1; lia) (by decide)) ?_
  have hz : fq_RS 0 0 0 0 a7 a11 a12 a14 a15 a16 a17 a18 := ⟨fq_pin0, by decide, ⟨by decide, by decide, fun i i0 i1 => absurd i1 (by lia)⟩, hH, hR⟩
  have od := fq_odle a9 a10 0 4
  have e : fq_F a3 (0 : Int32).toNatClampNeg = 0 := rfl
  have e2 : (0 : Int32).toNatClampNeg = 0 := rfl
  exact fq_RSm hz (by omega) (by omega) (Nat.le_refl _)
theorem fq_run44 {post : Int32 → St1 → Prop} {c : Int32} (c0 : 0 ≤ c) (c1 : c ≤ 50) (hC : fq_Code li a7 a14 a15 a16 a17 a18) (hW : fq_W li wc a14 a20) (s0 : 0 ≤ sc)
    (H : ∀ (ac : Int64) (dc : Int32) (a21 : Nat → Int32) (a22 : Nat → Int32) (a23 : Nat → Int32) (a24 : Nat → Int32) (a25 : Nat → Int32) (a26 : Nat → Int32), fq_M a21 → fq_Q a22 → fq_G a23 → (c = 0 → sc = 0 → fq_Z a21) → post c (nc, fc, lv, cp, nd, pn, li, wc, ac, dc, sc + c, a1, a2, a3, a4, a5, a6, a7, a8, a9, a10, a11, a12, a13, a14, a15, a16, a17, a18, a19, a20, a21, a22, a23, a24, a25, a26)) :
    ∀ (n : Nat) (x : Int32) (ac : Int64) (dc : Int32) (a21 : Nat → Int32) (a22 : Nat → Int32) (a23 : Nat → Int32) (a24 : Nat → Int32) (a25 : Nat → Int32) (a26 : Nat → Int32), 0 ≤ x → x ≤ c → c.toInt < x.toInt + ((n : Nat) : Int) → fq_M a21 → fq_Q a22 → fq_G a23 → (x = 0 → sc = 0 → fq_Z a21) → wX_run_44 post c n x nc fc lv cp nd pn li wc ac dc sc a1 a2 a3 a4 a5 a6 a7 a8 a9 a10 a11 a12 a13 a14 a15 a16 a17 a18 a19 a20 a21 a22 a23 a24 a25 a26 := by
  intro n
  induction n with
  | zero => intro x ac dc a21 a22 a23 a24 a25 a26 i0 i1 hm; exact (fq_z hm i1).elim
  | succ n ih =>
    intro x ac dc a21 a22 a23 a24 a25 a26 i0 i1 hm hM hQ hG hZ
    refine br_c (fun g => nm_e (H ac dc a21 a22 a23 a24 a25 a26 hM hQ hG (fun z => hZ (by lia)))) (fun g => ?_)
    have g' : x < c := by lia
    exact fq_step hC hW hM hQ hG (fun ac dc a21 a22 a23 a24 a25 a26 m q g => nm_e (ih (x + 1) ac dc a21 a22 a23 a24 a25 a26 (by lia) (by lia) (fq_n hm g') m q g (fun z => absurd z (by lia))))
theorem fq_run30 {post : Int32 → St1 → Prop} {c : Int32} (c0 : 0 ≤ c) (c1 : c ≤ 50) (hI : fq_Inv nc fc lv cp nd pn li wc ac dc sc a1 a2 a3 a4 a5 a6 a7 a8 a9 a10 a11 a12 a13 a14 a15 a16 a17 a18 a19 a20 a21 a22 a23 a24 a25 a26) (hV : fq_V nc a3 a4) (s0 : 0 ≤ sc) (s1 : sc ≤ 100000)
    (H : ∀ (cp' : Int32) (nd' : Int32) (pn' : Int32) (li' : Int32) (wc' : Int32) (ac' : Int64) (dc' : Int32) (a10' : Nat → Int32) (a11' : Nat → Int32) (a12' : Nat → Int32) (a13' : Nat → Int32) (a14' : Nat → Int32) (a15' : Nat → Int32) (a16' : Nat → Int32) (a17' : Nat → Int32) (a18' : Nat → Int32) (a19' : Nat → Int32) (a20' : Nat → Int32) (a21' : Nat → Int32) (a22' : Nat → Int32) (a23' : Nat → Int32) (a24' : Nat → Int32) (a25' : Nat → Int32) (a26' : Nat → Int32), fq_Inv nc fc lv cp' nd' pn' li' wc' ac' dc' (sc + c) a1 a2 a3 a4 a5 a6 a7 a8 a9 a10' a11' a12' a13' a14' a15' a16' a17' a18' a19' a20' a21' a22' a23' a24' a25' a26' → post c (nc, fc, lv, cp', nd', pn', li', wc', ac', dc', sc + c, a1, a2, a3, a4, a5, a6, a7, a8, a9, a10', a11', a12', a13', a14', a15', a16', a17', a18', a19', a20', a21', a22', a23', a24', a25', a26')) :
    wX_run_30 post c nc fc lv cp nd pn li wc ac dc sc a1 a2 a3 a4 a5 a6 a7 a8 a9 a10 a11 a12 a13 a14 a15 a16 a17 a18 a19 a20 a21 a22 a23 a24 a25 a26 := by
  obtain ⟨hK, hL, hO, hlv, hM, hQ, hG, hZ, hC⟩ := hI
  have go : ∀ (cp' : Int32) (nd' : Int32) (pn' : Int32) (li' : Int32) (wc' : Int32) (a10' : Nat → Int32) (a11' : Nat → Int32) (a12' : Nat → Int32) (a13' : Nat → Int32) (a14' : Nat → Int32) (a15' : Nat → Int32) (a16' : Nat → Int32) (a17' : Nat → Int32) (a18' : Nat → Int32) (a19' : Nat → Int32) (a20' : Nat → Int32), fq_Code li' a7 a14' a15' a16' a17' a18' → fq_W li' wc' a14' a20' → ∃ n : Nat, wX_run_44 post c n 0 nc fc lv cp' nd' pn' li' wc' ac dc sc a1 a2 a3 a4 a5 a6 a7 a8 a9 a10' a11' a12' a13' a14' a15' a16' a17' a18' a19' a20' a21 a22 a23 a24 a25 a26 := by
    intro cp' nd' pn' li' wc' a10' a11' a12' a13' a14' a15' a16' a17' a18' a19' a20' hC' hW'
    refine ⟨5000, fq_run44 c0 c1 hC' hW' s0 (fun ac' dc' a21' a22' a23' a24' a25' a26' m q g z => H cp' nd' pn' li' wc' ac' dc' a10' a11' a12' a13' a14' a15' a16' a17' a18' a19' a20' a21' a22' a23' a24' a25' a26' ?_)
      5000 0 ac dc a21 a22 a23 a24 a25 a26 (by decide) c0 (fq_f (by lia) (by decide)) hM hQ hG (fun _ z => hZ z)⟩
    exact ⟨hK, hL, hO, hlv, m, q, g, fun e => z (by lia) (by lia), fun _ => ⟨hC', hW'⟩⟩
  refine br_c (fun g => ?_) (fun g => ?_)
  · exact fq_compile hK hV hO (fun nd pn li wc a10 a11 a12 a13 a14 a15 a16 a17 a18 a19 a20 hC' hW' => go 1 nd pn li wc a10 a11 a12 a13 a14 a15 a16 a17 a18 a19 a20 hC' hW')
  · exact go cp nd pn li wc a10 a11 a12 a13 a14 a15 a16 a17 a18 a19 a20 (hC g).1 (hC g).2
def fq_cnt (p : Int32) : Int32 := if 0 ≤ p then (if p ≤ 50 then p else 50) else 0
theorem fq_run {post : Int32 → St1 → Prop} {p : Int32} (hI : fq_Inv nc fc lv cp nd pn li wc ac dc sc a1 a2 a3 a4 a5 a6 a7 a8 a9 a10 a11 a12 a13 a14 a15 a16 a17 a18 a19 a20 a21 a22 a23 a24 a25 a26) (s0 : 0 ≤ sc) (s1 : sc ≤ 100000) (H0 : ¬ fq_V nc a3 a4 → post (-100002) (nc, fc, lv, cp, nd, pn, li, wc, ac, dc, sc, a1, a2, a3, a4, a5, a6, a7, a8, a9, a10, a11, a12, a13, a14, a15, a16, a17, a18, a19, a20, a21, a22, a23, a24, a25, a26))
    (H1 : fq_V nc a3 a4 → ∀ (cp' : Int32) (nd' : Int32) (pn' : Int32) (li' : Int32) (wc' : Int32) (ac' : Int64) (dc' : Int32) (a10' : Nat → Int32) (a11' : Nat → Int32) (a12' : Nat → Int32) (a13' : Nat → Int32) (a14' : Nat → Int32) (a15' : Nat → Int32) (a16' : Nat → Int32) (a17' : Nat → Int32) (a18' : Nat → Int32) (a19' : Nat → Int32) (a20' : Nat → Int32) (a21' : Nat → Int32) (a22' : Nat → Int32) (a23' : Nat → Int32) (a24' : Nat → Int32) (a25' : Nat → Int32) (a26' : Nat → Int32), fq_Inv nc fc lv cp' nd' pn' li' wc' ac' dc' (sc + fq_cnt p) a1 a2 a3 a4 a5 a6 a7 a8 a9 a10' a11' a12' a13' a14' a15' a16' a17' a18' a19' a20' a21' a22' a23' a24' a25' a26' → post (fq_cnt p) (nc, fc, lv, cp', nd', pn', li', wc', ac', dc', sc + fq_cnt p, a1, a2, a3, a4, a5, a6, a7, a8, a9, a10', a11', a12', a13', a14', a15', a16', a17', a18', a19', a20', a21', a22', a23', a24', a25', a26')) :
    wpX_run post (nc, fc, lv, cp, nd, pn, li, wc, ac, dc, sc, a1, a2, a3, a4, a5, a6, a7, a8, a9, a10, a11, a12, a13, a14, a15, a16, a17, a18, a19, a20, a21, a22, a23, a24, a25, a26) p := by
  have n0 := hI.1.1
  have n1 := hI.1.2.1
  refine fq_valid n0 n1 (fun v => br_f (by decide) ?_) (fun v => br_t rfl (H0 v))
  have H1 := H1 v
  unfold fq_cnt at H1
  refine br_c (fun g => br_c (fun g1 => ?_) (fun g1 => ?_)) (fun g => ?_)
  · rw [if_pos g, if_pos g1] at H1
    exact fq_run30 g g1 hI v s0 s1 H1
  · rw [if_pos g, if_neg g1] at H1
    exact fq_run30 (by decide) (by decide) hI v s0 s1 H1
  · rw [if_neg g] at H1
    exact fq_run30 (by decide) (by decide) hI v s0 s1 H1
end
end
section
section
/- Int32 by its bits: these eight rows began as rows of laws/BITS.to-paste (renamed) -/
def fq_bt (x : Int32) (i : Nat) : Bool := x.toBitVec.getLsbD i
theorem fq_bext {x y : Int32} (h : ∀ i, i < 32 → fq_bt x i = fq_bt y i) : x = y := Int32.toBitVec_inj.mp (BitVec.eq_of_getLsbD_eq (fun i hi => h i hi))
theorem fq_bor (x y : Int32) (i : Nat) : fq_bt (x ||| y) i = (fq_bt x i || fq_bt y i) := by unfold fq_bt; rw [Int32.toBitVec_or, BitVec.getLsbD_or]
theorem fq_band (x y : Int32) (i : Nat) : fq_bt (x &&& y) i = (fq_bt x i && fq_bt y i) := by unfold fq_bt; rw [Int32.toBitVec_and, BitVec.getLsbD_and]
theorem fq_bxor (x y : Int32) (i : Nat) : fq_bt (x ^^^ y) i = (fq_bt x i ^^ fq_bt y i) := by unfold fq_bt; rw [Int32.toBitVec_xor, BitVec.getLsbD_xor]
theorem fq_bm1 : ∀ i, i < 32 → fq_bt (-1) i = true := by decide +kernel
theorem fq_bs : ∀ n, n < 32 → ((nI n &&& 31).toBitVec.smod 32).toNat = n := by decide +kernel
theorem fq_bshl (n : Nat) (hn : n < 32) (x : Int32) {i : Nat} (hi : i < 32) : fq_bt (x <<< (nI n &&& 31)) i = (decide (n ≤ i) && fq_bt x (i - n)) := by
  unfold fq_bt
  rw [Int32.toBitVec_shiftLeft]
  show (x.toBitVec <<< ((nI n &&& 31).toBitVec.smod 32).toNat).getLsbD i = _
  rw [fq_bs n hn, BitVec.getLsbD_shiftLeft]
  rcases Nat.lt_or_ge i n with h | h
  · simp [h, Nat.not_le.mpr h]
  · simp [hi, h, Nat.not_lt.mpr h]
theorem fq_bshr (n : Nat) (hn : n < 32) (x : Int32) {i : Nat} (hi : i < 32) : fq_bt (x >>> (nI n &&& 31)) i = if n + i < 32 then fq_bt x (n + i) else fq_bt x 31 := by
  unfold fq_bt
  rw [Int32.toBitVec_shiftRight]
  show (x.toBitVec.sshiftRight ((nI n &&& 31).toBitVec.smod 32).toNat).getLsbD i = _
  rw [fq_bs n hn, BitVec.getLsbD_sshiftRight, BitVec.msb_eq_getLsbD_last]
  simp [hi]
/- the same for Int64 -/
theorem fq_Ls : ∀ n, n < 64 → (((nI n).toInt64 &&& 63).toBitVec.smod 64).toNat = n := by decide +kernel
theorem fq_Lu : ∀ n, n < 64 → (((nI n).toInt64.toUInt64 &&& Int64.toUInt64 63).toBitVec % 64).toNat = n := by decide +kernel
theorem fq_Lshl (n : Nat) (hn : n < 64) (x : Int64) {i : Nat} (hi : i < 64) : (x <<< ((nI n).toInt64 &&& 63)).toBitVec.getLsbD i = (decide (n ≤ i) && x.toBitVec.getLsbD (i - n)) := by
  rw [Int64.toBitVec_shiftLeft]
  show (x.toBitVec <<< (((nI n).toInt64 &&& 63).toBitVec.smod 64).toNat).getLsbD i = _
  rw [fq_Ls n hn, BitVec.getLsbD_shiftLeft]
  rcases Nat.lt_or_ge i n with h | h
  · simp [h, Nat.not_le.mpr h]
  · simp [hi, h, Nat.not_lt.mpr h]
theorem fq_Lshr (n : Nat) (hn : n < 64) (x : Int64) (i : Nat) : (x.toUInt64 >>> ((nI n).toInt64.toUInt64 &&& Int64.toUInt64 63)).toInt64.toBitVec.getLsbD i = x.toBitVec.getLsbD (n + i) := by
  show (x.toUInt64 >>> ((nI n).toInt64.toUInt64 &&& Int64.toUInt64 63)).toBitVec.getLsbD i = x.toUInt64.toBitVec.getLsbD (n + i)
  rw [UInt64.toBitVec_shiftRight]
  show (x.toUInt64.toBitVec >>> (((nI n).toInt64.toUInt64 &&& Int64.toUInt64 63).toBitVec % 64).toNat).getLsbD i = _
  rw [fq_Lu n hn, BitVec.getLsbD_ushiftRight]
theorem fq_L32 (x : Int64) {i : Nat} (hi : i < 32) : fq_bt x.toInt32 i = x.toBitVec.getLsbD i := by
  unfold fq_bt
  rw [Int64.toBitVec_toInt32, BitVec.getLsbD_signExtend]
  simp [hi, show i < 64 by omega]
theorem fq_b15 : ∀ i, i < 32 → fq_bt 15 i = decide (i < 4) := by decide +kernel
theorem fq_b31 : ∀ i, i < 32 → fq_bt 31 i = decide (i < 5) := by decide +kernel
theorem fq_L15 : ∀ i, i < 64 → (15 : Int64).toBitVec.getLsbD i = decide (i < 4) := by decide +kernel
theorem fq_Lm1 : ∀ i, i < 64 → (-1 : Int64).toBitVec.getLsbD i = true := by decide +kernel
theorem fq_btn {v i : Nat} (hi : i < 32) : fq_bt (nI v) i = v.testBit i := by
  show (BitVec.ofNat 32 v).getLsbD i = _
  rw [BitVec.getLsbD_ofNat]
  simp [hi]
theorem fq_Ltn {v i : Nat} (hv : v < 2 ^ 31) (hi : i < 64) : (nI v).toInt64.toBitVec.getLsbD i = v.testBit i := by
  rw [nI_l hv]
  show (BitVec.ofNat 64 v).getLsbD i = _
  rw [BitVec.getLsbD_ofNat]
  simp [hi]
theorem fq_tb0 {v i k : Nat} (hv : v < 2 ^ k) (hi : k ≤ i) : v.testBit i = false := Nat.testBit_lt_two_pow (Nat.lt_of_lt_of_le hv (Nat.pow_le_pow_right (by decide) hi))
/- nibbles of a long -/
def fq_nib (z : Int64) (k : Int32) : Int32 := ((z.toUInt64 >>> ((4 * k).toInt64.toUInt64 &&& Int64.toUInt64 63)).toInt64).toInt32 &&& 15
def fq_put (z : Int64) (k v : Int32) : Int64 := (z &&& (((15 : Int64) <<< ((4 * k).toInt64 &&& 63)) ^^^ (-1))) ||| (v.toInt64 <<< ((4 * k).toInt64 &&& 63))
theorem fq_e4 (b : Nat) : 4 * nI b = nI (4 * b) := pk_mul 4 b
theorem fq_nibB (z : Int64) {b i : Nat} (hb : b < 12) (hi : i < 32) : fq_bt (fq_nib z (nI b)) i = (z.toBitVec.getLsbD (4 * b + i) && decide (i < 4)) := by
  unfold fq_nib
  rw [fq_band, fq_b15 i hi, fq_L32 _ hi, fq_e4, fq_Lshr _ (by omega)]
theorem fq_putB (z : Int64) {a v t : Nat} (ha : a < 12) (hv : v < 16) (ht : t < 64) :
    (fq_put z (nI a) (nI v)).toBitVec.getLsbD t = ((z.toBitVec.getLsbD t && ((decide (4 * a ≤ t) && decide (t - 4 * a < 4)) ^^ true)) || (decide (4 * a ≤ t) && v.testBit (t - 4 * a))) := by
  unfold fq_put
  rw [Int64.toBitVec_or, BitVec.getLsbD_or, Int64.toBitVec_and, BitVec.getLsbD_and, Int64.toBitVec_xor, BitVec.getLsbD_xor, fq_Lm1 t ht, fq_e4, fq_Lshl _ (by omega) _ ht, fq_Lshl _ (by omega) _ ht, fq_L15 _ (by omega), fq_Ltn (by omega) (by omega)]
theorem fq_nibput {z : Int64} {k j v : Int32} (k0 : 0 ≤ k) (k1 : k < 12) (j0 : 0 ≤ j) (j1 : j < 12) (v0 : 0 ≤ v) (v1 : v < 16) : fq_nib (fq_put z k v) j = if j = k then v else fq_nib z j := by
  obtain ⟨a, ha, rfl⟩ := nI_of (x := k) (by lia)
  obtain ⟨b, hb, rfl⟩ := nI_of (x := j) (by lia)
  obtain ⟨c, hc, rfl⟩ := nI_of (x := v) (by lia)
  have ha' := (nI_ltI ha (b := 12) (by decide)).mp k1
  have hb' := (nI_ltI hb (b := 12) (by decide)).mp j1
  have hc' := (nI_ltI hc (b := 16) (by decide)).mp v1
  by_cases e : b = a
  · rw [if_pos (by rw [e])]
    apply fq_bext
    intro i hi
    rw [fq_nibB _ hb' hi, fq_btn hi]
    rcases Nat.lt_or_ge i 4 with h | h
    · rw [fq_putB z ha' hc' (by omega), e]
      simp [show 4 * a + i - 4 * a = i by omega, h]
    · rw [fq_tb0 (k := 4) hc' h]
      simp [Nat.not_lt.mpr h]
  · rw [if_neg (fun z => e ((nI_eq hb ha).mp z))]
    apply fq_bext
    intro i hi
    rw [fq_nibB _ hb' hi, fq_nibB _ hb' hi]
    rcases Nat.lt_or_ge i 4 with h | h
    · rw [fq_putB z ha' hc' (by omega)]
      rcases Nat.lt_or_ge (4 * b + i) (4 * a) with g | g
      · simp [Nat.not_le.mpr g]
      · rw [fq_tb0 (k := 4) hc' (show 4 ≤ 4 * b + i - 4 * a by omega)]
        simp [g, show ¬ (4 * b + i - 4 * a < 4) by omega]
    · simp [Nat.not_lt.mpr h]
theorem fq_nibI (z : Int64) (k : Int32) : 0 ≤ fq_nib z k ∧ fq_nib z k < 16 := by
  obtain ⟨j, hj, e⟩ := pk_andE ((z.toUInt64 >>> ((4 * k).toInt64.toUInt64 &&& Int64.toUInt64 63)).toInt64).toInt32 (m := 15) 4 (by decide)
  unfold fq_nib
  rw [e]
  exact ⟨nI_pos' (by omega), nI_lt (b := 16) hj (by decide)⟩
/- fields of five bits -/
def fq_fld (x o : Int32) : Int32 := (x >>> ((5 * o) &&& 31)) &&& 31
def fq_pf (x k v : Int32) : Int32 := (x &&& (((31 : Int32) <<< ((5 * k) &&& 31)) ^^^ (-1))) ||| (v <<< ((5 * k) &&& 31))
theorem fq_e5 (b : Nat) : 5 * nI b = nI (5 * b) := pk_mul 5 b
theorem fq_fldB (x : Int32) {b i : Nat} (hb : b < 4) (hi : i < 32) : fq_bt (fq_fld x (nI b)) i = (fq_bt x (5 * b + i) && decide (i < 5)) := by
  unfold fq_fld
  rw [fq_band, fq_b31 i hi, fq_e5, fq_bshr _ (by omega) _ hi]
  rcases Nat.lt_or_ge i 5 with h | h
  · rw [if_pos (by omega)]
  · simp [Nat.not_lt.mpr h]
theorem fq_pfB (x : Int32) {a v t : Nat} (ha : a < 4) (hv : v < 32) (ht : t < 32) :
    fq_bt (fq_pf x (nI a) (nI v)) t = ((fq_bt x t && ((decide (5 * a ≤ t) && decide (t - 5 * a < 5)) ^^ true)) || (decide (5 * a ≤ t) && v.testBit (t - 5 * a))) := by
  unfold fq_pf
  rw [fq_bor, fq_band, fq_bxor, fq_bm1 t ht, fq_e5, fq_bshl _ (by omega) _ ht, fq_bshl _ (by omega) _ ht, fq_b31 _ (by omega), fq_btn (by omega)]
theorem fq_fldput {x k o v : Int32} (k0 : 0 ≤ k) (k1 : k < 4) (j0 : 0 ≤ o) (j1 : o < 4) (v0 : 0 ≤ v) (v1 : v < 32) : fq_fld (fq_pf x k v) o = if o = k then v else fq_fld x o := by
  obtain ⟨a, ha, rfl⟩ := nI_of (x := k) (by lia)
  obtain ⟨b, hb, rfl⟩ := nI_of (x := o) (by lia)
  obtain ⟨c, hc, rfl⟩ := nI_of (x := v) (by lia)
  have ha' := (nI_ltI ha (b := 4) (by decide)).mp k1
  have hb' := (nI_ltI hb (b := 4) (by decide)).mp j1
  have hc' := (nI_ltI hc (b := 32) (by decide)).mp v1
  by_cases e : b = a
  · rw [if_pos (by rw [e])]
    apply fq_bext
    intro i hi
    rw [fq_fldB _ hb' hi, fq_btn hi]
    rcases Nat.lt_or_ge i 5 with h | h
    · rw [fq_pfB x ha' hc' (by omega), e]
      simp [show 5 * a + i - 5 * a = i by omega, h]
    · rw [fq_tb0 (k := 5) hc' h]
      simp [Nat.not_lt.mpr h]
  · rw [if_neg (fun z => e ((nI_eq hb ha).mp z))]
    apply fq_bext
    intro i hi
    rw [fq_fldB _ hb' hi, fq_fldB _ hb' hi]
    rcases Nat.lt_or_ge i 5 with h | h
    · rw [fq_pfB x ha' hc' (by omega)]
      rcases Nat.lt_or_ge (5 * b + i) (5 * a) with g | g
      · simp [Nat.not_le.mpr g]
      · rw [fq_tb0 (k := 5) hc' (show 5 ≤ 5 * b + i - 5 * a by omega)]
        simp [g, show ¬ (5 * b + i - 5 * a < 5) by omega]
    · simp [Nat.not_lt.mpr h]
/- four bits -/
def fq_bit (x o : Int32) : Prop := ¬ ((x >>> (o &&& 31)) &&& 1) = 0
theorem fq_bitA : ∀ m, m < 16 → ∀ k, k < 4 → (m ||| 2 ^ k) < 16 ∧ nI m ||| ((1 : Int32) <<< (nI k &&& 31)) = nI (m ||| 2 ^ k) ∧ ∀ o, o < 4 → ((nI (m ||| 2 ^ k) >>> (nI o &&& 31)) &&& 1 = 0 ↔ ¬ (o = k) ∧ (nI m >>> (nI o &&& 31)) &&& 1 = 0) := by decide +kernel
theorem fq_bitC : ∀ m, m < 16 → ∀ k, k < 4 → (m &&& (15 - 2 ^ k)) < 16 ∧ nI m &&& (((1 : Int32) <<< (nI k &&& 31)) ^^^ (-1)) = nI (m &&& (15 - 2 ^ k)) ∧ ∀ o, o < 4 → ((nI (m &&& (15 - 2 ^ k)) >>> (nI o &&& 31)) &&& 1 = 0 ↔ (o = k) ∨ (nI m >>> (nI o &&& 31)) &&& 1 = 0) := by decide +kernel
def fq_four (x : Int32) : Prop := ∃ m : Nat, m < 16 ∧ x = nI m
theorem fq_bset {x k : Int32} (h : fq_four x) (k0 : 0 ≤ k) (k1 : k < 4) : fq_four (x ||| ((1 : Int32) <<< (k &&& 31))) ∧ ∀ o : Int32, 0 ≤ o → o < 4 → (fq_bit (x ||| ((1 : Int32) <<< (k &&& 31))) o ↔ o = k ∨ fq_bit x o) := by
  obtain ⟨m, hm, rfl⟩ := h
  obtain ⟨a, ha, rfl⟩ := nI_of (x := k) (by lia)
  have ha' := (nI_ltI ha (b := 4) (by decide)).mp k1
  obtain ⟨e1, e2, e3⟩ := fq_bitA m hm a ha'
  refine ⟨⟨_, e1, e2⟩, fun o o0 o1 => ?_⟩
  obtain ⟨b, hb, rfl⟩ := nI_of (x := o) (by lia)
  have hb' := (nI_ltI hb (b := 4) (by decide)).mp o1
  unfold fq_bit
  rw [e2, e3 b hb', nI_eq hb ha]
  by_cases c : b = a
  · simp [c]
  · simp [c]
theorem fq_bclr {x k : Int32} (h : fq_four x) (k0 : 0 ≤ k) (k1 : k < 4) : fq_four (x &&& (((1 : Int32) <<< (k &&& 31)) ^^^ (-1))) ∧ ∀ o : Int32, 0 ≤ o → o < 4 → (fq_bit (x &&& (((1 : Int32) <<< (k &&& 31)) ^^^ (-1))) o ↔ ¬ o = k ∧ fq_bit x o) := by
  obtain ⟨m, hm, rfl⟩ := h
  obtain ⟨a, ha, rfl⟩ := nI_of (x := k) (by lia)
  have ha' := (nI_ltI ha (b := 4) (by decide)).mp k1
  obtain ⟨e1, e2, e3⟩ := fq_bitC m hm a ha'
  refine ⟨⟨_, e1, e2⟩, fun o o0 o1 => ?_⟩
  obtain ⟨b, hb, rfl⟩ := nI_of (x := o) (by lia)
  have hb' := (nI_ltI hb (b := 4) (by decide)).mp o1
  unfold fq_bit
  rw [e2, e3 b hb', nI_eq hb ha]
  by_cases c : b = a
  · simp [c]
  · simp [c]
end
end
section
section
variable {nc fc lv cp nd pn li wc : Int32} {ac : Int64} {dc sc : Int32} {a1 a2 a3 a4 a5 a6 a7 a8 a9 a10 a11 a12 a13 a14 a15 a16 a17 a18 a19 a20 a21 a22 a23 a24 a25 a26 : Nat → Int32}
def fq_nb (p q : Int64) (nc : Int32) (a3 : Nat → Int32) : Prop := ∀ k : Int32, 0 ≤ k → k < nc → (k < 12 → fq_nib p k = a3 k.toNatClampNeg) ∧ (12 ≤ k → fq_nib q (k - 12) = a3 k.toNatClampNeg)
def fq_sh (s f : Int32) (a9 : Nat → Int32) : Prop := fq_four s ∧ ∀ o : Int32, 0 ≤ o → o < 4 → (fq_bit s o → a9 o.toNatClampNeg = fq_fld f o) ∧ (¬ fq_bit s o → a9 o.toNatClampNeg = -1)
/-- the law's mirrors: n, p, q, shown, nodes, steps; at most b steps -/
def fq_J (b x2 : Int32) (x3 x5 : Int64) (x7 x8 x9 : Int32) (nc fc lv cp nd pn li wc : Int32) (ac : Int64) (dc sc : Int32) (a1 a2 a3 a4 a5 a6 a7 a8 a9 a10 a11 a12 a13 a14 a15 a16 a17 a18 a19 a20 a21 a22 a23 a24 a25 a26 : Nat → Int32) : Prop :=
  fq_Inv nc fc lv cp nd pn li wc ac dc sc a1 a2 a3 a4 a5 a6 a7 a8 a9 a10 a11 a12 a13 a14 a15 a16 a17 a18 a19 a20 a21 a22 a23 a24 a25 a26 ∧ x2 = nc ∧ x9 = sc ∧ 0 ≤ sc ∧ sc ≤ b ∧ fq_nb x3 x5 nc a3 ∧ fq_sh x7 x8 a9
theorem fq_inn {post : Int32 → Prop} {u : St2} {p a b : Int32} (H1 : a ≤ p → p ≤ b → post 1) (H0 : ¬ (a ≤ p ∧ p ≤ b) → post 0) : wpL_in post u p a b :=
  br_c (fun g => H0 (by lia)) (fun g => br_c (fun g1 => H0 (by lia)) (fun g1 => H1 (by lia) (by lia)))
theorem fq_steps {post : Int32 → Prop} (h : post sc) : wpX_steps post (nc, fc, lv, cp, nd, pn, li, wc, ac, dc, sc, a1, a2, a3, a4, a5, a6, a7, a8, a9, a10, a11, a12, a13, a14, a15, a16, a17, a18, a19, a20, a21, a22, a23, a24, a25, a26) := h
theorem fq_hold2 {post : Int32 → St1 → Prop} {x7 x8 : Int32} (hI : fq_Inv nc fc lv cp nd pn li wc ac dc sc a1 a2 a3 a4 a5 a6 a7 a8 a9 a10 a11 a12 a13 a14 a15 a16 a17 a18 a19 a20 a21 a22 a23 a24 a25 a26) (hs : fq_sh x7 x8 a9) (s0 : 0 ≤ sc) (H : post 1 (nc, fc, lv, cp, nd, pn, li, wc, ac, dc, sc, a1, a2, a3, a4, a5, a6, a7, a8, a9, a10, a11, a12, a13, a14, a15, a16, a17, a18, a19, a20, a21, a22, a23, a24, a25, a26)) :
    ∀ (n : Nat) (x : Int32), 0 ≤ x → x ≤ 4 → (4 : Int32).toInt < x.toInt + ((n : Nat) : Int) → wL_holds_2 post x7 nc fc lv cp nd pn li wc ac dc sc a1 a2 a3 a4 a5 a6 a7 a8 a9 a10 a11 a12 a13 a14 a15 a16 a17 a18 a19 a20 a21 a22 a23 a24 a25 a26 n x := by
  have n1 := hI.1.2.1
  intro n
  induction n with
  | zero => intro x i0 i1 hm; exact (fq_z hm i1).elim
  | succ n ih =>
    intro x i0 i1 hm
    refine br_c (fun g => ?_) (fun g => ?_)
    · refine fq_value hI (fun r s hr => br_t (Classical.byContradiction (fun c => absurd (hr c).2.1 (by decide))) ?_)
      refine fq_value hI (fun r s hr => br_t (Classical.byContradiction (fun c => absurd (hr c).1 (by decide))) ?_)
      refine fq_steps (br_f (by lia) ?_)
      refine fq_level hI (fun _ => br_t rfl ?_) (fun z => absurd z.1 (by decide))
      refine fq_output hI (fun _ => br_t rfl ?_) (fun z => absurd z.2.1 (by decide))
      refine fq_tie hI (fun _ => br_t rfl ?_) (fun z => absurd z.2.1 (by lia))
      refine fq_tie hI (fun _ => br_t rfl H) (fun z => absurd z.1 (by decide))
    · have g' : x < 4 := by lia
      have next := ih (x + 1) (by lia) (by lia) (fq_n hm g')
      refine fq_value hI (fun r s hr => ?_)
      have s1 := s.1
      have s2 := s.2
      refine br_f (by lia) (br_f (by lia) (br_c (fun _ => nm_e next) (fun c => ?_)))
      obtain ⟨_, _, h9, hsc⟩ := hr c
      refine br_f (fun z => ?_) (fq_steps (br_f hsc (nm_e next)))
      have := (hs.2 x i0 g').2 (fun q => q z)
      lia
theorem fq_holds {post : Int32 → St1 → Prop} {x7 x8 : Int32} (hI : fq_Inv nc fc lv cp nd pn li wc ac dc sc a1 a2 a3 a4 a5 a6 a7 a8 a9 a10 a11 a12 a13 a14 a15 a16 a17 a18 a19 a20 a21 a22 a23 a24 a25 a26) (hs : fq_sh x7 x8 a9) (s0 : 0 ≤ sc) (H : post 1 (nc, fc, lv, cp, nd, pn, li, wc, ac, dc, sc, a1, a2, a3, a4, a5, a6, a7, a8, a9, a10, a11, a12, a13, a14, a15, a16, a17, a18, a19, a20, a21, a22, a23, a24, a25, a26)) : wpL_holds post (nc, fc, lv, cp, nd, pn, li, wc, ac, dc, sc, a1, a2, a3, a4, a5, a6, a7, a8, a9, a10, a11, a12, a13, a14, a15, a16, a17, a18, a19, a20, a21, a22, a23, a24, a25, a26) x7 :=
  Exists.intro 5000 (fq_hold2 hI hs s0 H 5000 0 (by decide) (by decide) (fq_f (by decide) (by decide)))
theorem fq_m255 (x : Int32) {m : Int32} (h : 1 ≤ m) : 0 ≤ (x &&& 255) - (x &&& 255) / m * m ∧ (x &&& 255) - (x &&& 255) / m * m < m := by
  obtain ⟨j, hj, e⟩ := pk_andE x (m := 255) 8 (by decide)
  rw [e]
  exact fq_rem (nI_pos' (by omega)) h
theorem fq_fin {post : Int32 → Prop} {L : Nat} {xs : Nat → Int32} {J : Int32 → Int64 → Int64 → Int32 → Int32 → Int32 → Int32 → Int32 → Int32 → Int32 → Int32 → Int32 → Int32 → Int32 → Int32 → Int64 → Int32 → Int32 → (Nat → Int32) → (Nat → Int32) → (Nat → Int32) → (Nat → Int32) → (Nat → Int32) → (Nat → Int32) → (Nat → Int32) → (Nat → Int32) → (Nat → Int32) → (Nat → Int32) → (Nat → Int32) → (Nat → Int32) → (Nat → Int32) → (Nat → Int32) → (Nat → Int32) → (Nat → Int32) → (Nat → Int32) → (Nat → Int32) → (Nat → Int32) → (Nat → Int32) → (Nat → Int32) → (Nat → Int32) → (Nat → Int32) → (Nat → Int32) → (Nat → Int32) → (Nat → Int32) → Prop} {x2 : Int32} {x3 x5 : Int64} {x7 x8 x9 x10 x14 : Int32} {kc ks : Nat}
    (HJ : ∀ (x2 : Int32) (x3 x5 : Int64) (x7 x8 x9 : Int32) (nc : Int32) (fc : Int32) (lv : Int32) (cp : Int32) (nd : Int32) (pn : Int32) (li : Int32) (wc : Int32) (ac : Int64) (dc : Int32) (sc : Int32) (a1 : Nat → Int32) (a2 : Nat → Int32) (a3 : Nat → Int32) (a4 : Nat → Int32) (a5 : Nat → Int32) (a6 : Nat → Int32) (a7 : Nat → Int32) (a8 : Nat → Int32) (a9 : Nat → Int32) (a10 : Nat → Int32) (a11 : Nat → Int32) (a12 : Nat → Int32) (a13 : Nat → Int32) (a14 : Nat → Int32) (a15 : Nat → Int32) (a16 : Nat → Int32) (a17 : Nat → Int32) (a18 : Nat → Int32) (a19 : Nat → Int32) (a20 : Nat → Int32) (a21 : Nat → Int32) (a22 : Nat → Int32) (a23 : Nat → Int32) (a24 : Nat → Int32) (a25 : Nat → Int32) (a26 : Nat → Int32), fq_J (10 * (x10 + 5)) x2 x3 x5 x7 x8 x9 nc fc lv cp nd pn li wc ac dc sc a1 a2 a3 a4 a5 a6 a7 a8 a9 a10 a11 a12 a13 a14 a15 a16 a17 a18 a19 a20 a21 a22 a23 a24 a25 a26 → J x2 x3 x5 x7 x8 x9 (x10 + 5) nc fc lv cp nd pn li wc ac dc sc a1 a2 a3 a4 a5 a6 a7 a8 a9 a10 a11 a12 a13 a14 a15 a16 a17 a18 a19 a20 a21 a22 a23 a24 a25 a26)
    (h : fq_J (10 * (x10 + 5)) x2 x3 x5 x7 x8 x9 nc fc lv cp nd pn li wc ac dc sc a1 a2 a3 a4 a5 a6 a7 a8 a9 a10 a11 a12 a13 a14 a15 a16 a17 a18 a19 a20 a21 a22 a23 a24 a25 a26) : wL_law_1079 post L xs J x2 x3 x5 x7 x8 x9 x10 x14 kc ks nc fc lv cp nd pn li wc ac dc sc a1 a2 a3 a4 a5 a6 a7 a8 a9 a10 a11 a12 a13 a14 a15 a16 a17 a18 a19 a20 a21 a22 a23 a24 a25 a26 := by
  obtain ⟨hI, e2, e9, s0, s1, hn, hs⟩ := h
  refine fq_steps (br_t e9.symm (fq_holds hI hs s0 (br_f (by decide) ⟨by decide, ?_⟩)))
  have m := fq_m255 x14 (m := 3) (by decide)
  refine fq_level hI (fun z => absurd (show _ ∧ _ from ⟨m.1, by lia⟩) z) (fun _ cp' hI' => br_f (by decide) (nm_e (HJ _ _ _ _ _ _ nc fc _ cp' nd pn li wc ac dc sc a1 a2 a3 a4 a5 a6 a7 a8 a9 a10 a11 a12 a13 a14 a15 a16 a17 a18 a19 a20 a21 a22 a23 a24 a25 a26 ⟨hI', e2, e9, s0, s1, hn, hs⟩)))
theorem fq_fin7 {post : Int32 → Prop} {L : Nat} {xs : Nat → Int32} {J : Int32 → Int64 → Int64 → Int32 → Int32 → Int32 → Int32 → Int32 → Int32 → Int32 → Int32 → Int32 → Int32 → Int32 → Int32 → Int64 → Int32 → Int32 → (Nat → Int32) → (Nat → Int32) → (Nat → Int32) → (Nat → Int32) → (Nat → Int32) → (Nat → Int32) → (Nat → Int32) → (Nat → Int32) → (Nat → Int32) → (Nat → Int32) → (Nat → Int32) → (Nat → Int32) → (Nat → Int32) → (Nat → Int32) → (Nat → Int32) → (Nat → Int32) → (Nat → Int32) → (Nat → Int32) → (Nat → Int32) → (Nat → Int32) → (Nat → Int32) → (Nat → Int32) → (Nat → Int32) → (Nat → Int32) → (Nat → Int32) → (Nat → Int32) → Prop} {x2 : Int32} {x3 x5 : Int64} {x7 x8 x9 x10 x14 x15 x16 : Int32} {kc ks : Nat}
    (HJ : ∀ (x2 : Int32) (x3 x5 : Int64) (x7 x8 x9 : Int32) (nc : Int32) (fc : Int32) (lv : Int32) (cp : Int32) (nd : Int32) (pn : Int32) (li : Int32) (wc : Int32) (ac : Int64) (dc : Int32) (sc : Int32) (a1 : Nat → Int32) (a2 : Nat → Int32) (a3 : Nat → Int32) (a4 : Nat → Int32) (a5 : Nat → Int32) (a6 : Nat → Int32) (a7 : Nat → Int32) (a8 : Nat → Int32) (a9 : Nat → Int32) (a10 : Nat → Int32) (a11 : Nat → Int32) (a12 : Nat → Int32) (a13 : Nat → Int32) (a14 : Nat → Int32) (a15 : Nat → Int32) (a16 : Nat → Int32) (a17 : Nat → Int32) (a18 : Nat → Int32) (a19 : Nat → Int32) (a20 : Nat → Int32) (a21 : Nat → Int32) (a22 : Nat → Int32) (a23 : Nat → Int32) (a24 : Nat → Int32) (a25 : Nat → Int32) (a26 : Nat → Int32), fq_J (10 * (x10 + 5)) x2 x3 x5 x7 x8 x9 nc fc lv cp nd pn li wc ac dc sc a1 a2 a3 a4 a5 a6 a7 a8 a9 a10 a11 a12 a13 a14 a15 a16 a17 a18 a19 a20 a21 a22 a23 a24 a25 a26 → J x2 x3 x5 x7 x8 x9 (x10 + 5) nc fc lv cp nd pn li wc ac dc sc a1 a2 a3 a4 a5 a6 a7 a8 a9 a10 a11 a12 a13 a14 a15 a16 a17 a18 a19 a20 a21 a22 a23 a24 a25 a26)
    (hx : x16 < 0) (h : fq_J (10 * (x10 + 5)) x2 x3 x5 x7 x8 x9 nc fc lv cp nd pn li wc ac dc sc a1 a2 a3 a4 a5 a6 a7 a8 a9 a10 a11 a12 a13 a14 a15 a16 a17 a18 a19 a20 a21 a22 a23 a24 a25 a26) : wL_law_1007 post L xs J x2 x3 x5 x7 x8 x9 x10 x14 x15 x16 kc ks nc fc lv cp nd pn li wc ac dc sc a1 a2 a3 a4 a5 a6 a7 a8 a9 a10 a11 a12 a13 a14 a15 a16 a17 a18 a19 a20 a21 a22 a23 a24 a25 a26 :=
  br_t hx (fq_fin HJ h)
theorem fq_new {post : Int32 → Prop} {L : Nat} {xs : Nat → Int32} {J : Int32 → Int64 → Int64 → Int32 → Int32 → Int32 → Int32 → Int32 → Int32 → Int32 → Int32 → Int32 → Int32 → Int32 → Int32 → Int64 → Int32 → Int32 → (Nat → Int32) → (Nat → Int32) → (Nat → Int32) → (Nat → Int32) → (Nat → Int32) → (Nat → Int32) → (Nat → Int32) → (Nat → Int32) → (Nat → Int32) → (Nat → Int32) → (Nat → Int32) → (Nat → Int32) → (Nat → Int32) → (Nat → Int32) → (Nat → Int32) → (Nat → Int32) → (Nat → Int32) → (Nat → Int32) → (Nat → Int32) → (Nat → Int32) → (Nat → Int32) → (Nat → Int32) → (Nat → Int32) → (Nat → Int32) → (Nat → Int32) → (Nat → Int32) → Prop} {x2 : Int32} {x3 x5 : Int64} {x7 x8 x9 x10 x14 k r : Int32} {kc ks : Nat} {b3 : Nat → Int32}
    (HJ : ∀ (x2 : Int32) (x3 x5 : Int64) (x7 x8 x9 : Int32) (nc : Int32) (fc : Int32) (lv : Int32) (cp : Int32) (nd : Int32) (pn : Int32) (li : Int32) (wc : Int32) (ac : Int64) (dc : Int32) (sc : Int32) (a1 : Nat → Int32) (a2 : Nat → Int32) (a3 : Nat → Int32) (a4 : Nat → Int32) (a5 : Nat → Int32) (a6 : Nat → Int32) (a7 : Nat → Int32) (a8 : Nat → Int32) (a9 : Nat → Int32) (a10 : Nat → Int32) (a11 : Nat → Int32) (a12 : Nat → Int32) (a13 : Nat → Int32) (a14 : Nat → Int32) (a15 : Nat → Int32) (a16 : Nat → Int32) (a17 : Nat → Int32) (a18 : Nat → Int32) (a19 : Nat → Int32) (a20 : Nat → Int32) (a21 : Nat → Int32) (a22 : Nat → Int32) (a23 : Nat → Int32) (a24 : Nat → Int32) (a25 : Nat → Int32) (a26 : Nat → Int32), fq_J (10 * (x10 + 5)) x2 x3 x5 x7 x8 x9 nc fc lv cp nd pn li wc ac dc sc a1 a2 a3 a4 a5 a6 a7 a8 a9 a10 a11 a12 a13 a14 a15 a16 a17 a18 a19 a20 a21 a22 a23 a24 a25 a26 → J x2 x3 x5 x7 x8 x9 (x10 + 5) nc fc lv cp nd pn li wc ac dc sc a1 a2 a3 a4 a5 a6 a7 a8 a9 a10 a11 a12 a13 a14 a15 a16 a17 a18 a19 a20 a21 a22 a23 a24 a25 a26)
    (g0 : 0 ≤ x10) (g1 : x10 ≤ 300) (k0 : 0 ≤ k) (k1 : k ≤ 10) (hr : ¬ r < 0) (n0 : 0 ≤ x2) (n1 : x2 < 24) (hI : fq_Inv (x2 + 1) fc lv cp nd pn li wc ac dc 0 a1 a2 a3 a4 a5 a6 a7 a8 a9 a10 a11 a12 a13 a14 a15 a16 a17 a18 a19 a20 a21 a22 a23 a24 a25 a26) (hn : fq_nb x3 x5 x2 b3) (e3 : a3 = upd b3 x2.toNatClampNeg k) (hs : fq_sh x7 x8 a9) :
    wL_law_1007 post L xs J x2 x3 x5 x7 x8 x9 x10 x14 k r kc ks (x2 + 1) fc lv cp nd pn li wc ac dc 0 a1 a2 a3 a4 a5 a6 a7 a8 a9 a10 a11 a12 a13 a14 a15 a16 a17 a18 a19 a20 a21 a22 a23 a24 a25 a26 := by
  refine br_f hr (br_c (fun g => nm_e (nm_e ?_)) (fun g => nm_e (nm_e ?_)))
  · refine fq_fin (x5 := fq_put x5 (x2 - 12) k) HJ ⟨hI, rfl, rfl, by decide, by lia, ?_, hs⟩
    intro j j0 j1
    rw [e3]
    by_cases e : j = x2
    · rw [e, fq_us]
      exact ⟨fun z => absurd z (by lia), fun _ => by rw [fq_nibput (by lia) (by lia) (by lia) (by lia) k0 (by lia), if_pos rfl]⟩
    · rw [fq_un n0 j0 e]
      have old := hn j j0 (by lia)
      refine ⟨old.1, fun z => ?_⟩
      rw [fq_nibput (by lia) (by lia) (by lia) (by lia) k0 (by lia), if_neg (by lia)]
      exact old.2 z
  · refine fq_fin (x3 := fq_put x3 x2 k) HJ ⟨hI, rfl, rfl, by decide, by lia, ?_, hs⟩
    intro j j0 j1
    rw [e3]
    by_cases e : j = x2
    · rw [e, fq_us]
      exact ⟨fun _ => by rw [fq_nibput (by lia) (by lia) (by lia) (by lia) k0 (by lia), if_pos rfl], fun z => absurd z (by lia)⟩
    · rw [fq_un n0 j0 e]
      have old := hn j j0 (by lia)
      refine ⟨fun z => ?_, old.2⟩
      rw [fq_nibput (by lia) (by lia) (by lia) (by lia) k0 (by lia), if_neg (by lia)]
      exact old.1 z
theorem fq_filters6 {post : Int32 → Prop} {p q : Int64} {nc : Int32} {a3 : Nat → Int32} (n0 : 0 ≤ nc) (n1 : nc ≤ 24) (hn : fq_nb p q nc a3) (H : post (nI (fq_F a3 nc.toNatClampNeg))) :
    ∀ (n : Nat) (c x : Int32), 0 ≤ x → x ≤ nc → nc.toInt < x.toInt + ((n : Nat) : Int) → c = nI (fq_F a3 x.toNatClampNeg) → wL_filters_6 post p q nc n c x := by
  intro n
  induction n with
  | zero => intro c x i0 i1 hm; exact (fq_z hm i1).elim
  | succ n ih =>
    intro c x i0 i1 hm hc
    refine br_c (fun g => ?_) (fun g => ?_)
    · rw [hc, show x = nc by lia]; exact H
    · have g' : x < nc := by lia
      have next := fun c' hc' => ih c' (x + 1) (by lia) (by lia) (fq_n hm g') hc'
      have ex := fq_c1 i0 g'
      have eF : fq_F a3 (x.toNatClampNeg + 1) = fq_F a3 x.toNatClampNeg + (if a3 x.toNatClampNeg = 6 then 1 else 0) := rfl
      have k6 : a3 x.toNatClampNeg = 6 → c + 1 = nI (fq_F a3 (x + 1).toNatClampNeg) := fun e => by rw [ex, eF, if_pos e, hc, nI_1]
      have k7 : ¬ a3 x.toNatClampNeg = 6 → c = nI (fq_F a3 (x + 1).toNatClampNeg) := fun e => by rw [ex, eF, if_neg e, hc]; rfl
      have old := hn x i0 g'
      refine br_c (fun g2 => ?_) (fun g2 => ?_)
      · have e := old.2 g2
        unfold fq_nib at e
        refine br_c (fun z => nm_e (nm_e (next _ (k6 ?_)))) (fun z => nm_e (next _ (k7 ?_)))
        · rw [← e]; exact z
        · rw [← e]; exact z
      · have e := old.1 (by lia)
        unfold fq_nib at e
        refine br_c (fun z => nm_e (nm_e (next _ (k6 ?_)))) (fun z => nm_e (next _ (k7 ?_)))
        · rw [← e]; exact z
        · rw [← e]; exact z
theorem fq_filters {post : Int32 → Prop} {u : St2} {p q : Int64} {nc : Int32} {a3 : Nat → Int32} (n0 : 0 ≤ nc) (n1 : nc ≤ 24) (hn : fq_nb p q nc a3) (H : post (nI (fq_F a3 nc.toNatClampNeg))) : wpL_filters post u p q nc :=
  Exists.intro 5000 (fq_filters6 n0 n1 hn H 5000 0 0 (by decide) n0 (fq_f (by lia) (by decide)) rfl)
theorem fq_short (x : Int32) : fq_S x.toInt16.toInt32 := by
  have e : x.toInt16.toInt32.toInt = x.toInt16.toInt := Int16.toInt_toInt32 _
  have h1 := x.toInt16.le_toInt
  have h2 := x.toInt16.toInt_lt
  have c3 : (-32768 : Int32).toInt = -32768 := rfl
  have c4 : (32767 : Int32).toInt = 32767 := rfl
  exact ⟨Int32.le_iff_toInt_le.mpr (by omega), Int32.le_iff_toInt_le.mpr (by omega)⟩
theorem fq_m46 {post : Int32 → St1 → Prop} {x2 x3 x5 x6 z0 k : Int32} (hI : fq_Inv nc fc lv cp nd pn li wc ac dc sc a1 a2 a3 a4 a5 a6 a7 a8 a9 a10 a11 a12 a13 a14 a15 a16 a17 a18 a19 a20 a21 a22 a23 a24 a25 a26) (h0 : 0 ≤ x5) (h1 : x5 ≤ 10) (hx : ¬ nc = 0 → 0 ≤ x6 ∧ x6 < nc ∧ 0 ≤ z0 ∧ z0 < nc) (e0 : nc = 0 → k = 0) (e1 : ¬ nc = 0 → k = x5)
    (HF : nc = 24 ∨ (k = 6 ∧ fc = 4) → post (-100001) (nc, fc, lv, cp, nd, pn, li, wc, ac, dc, sc, a1, a2, a3, a4, a5, a6, a7, a8, a9, a10, a11, a12, a13, a14, a15, a16, a17, a18, a19, a20, a21, a22, a23, a24, a25, a26))
    (HN : ¬ (nc = 24 ∨ (k = 6 ∧ fc = 4)) → ∀ (fc' : Int32) (a3' : Nat → Int32) (a4' : Nat → Int32) (a5' : Nat → Int32) (a6' : Nat → Int32) (a7' : Nat → Int32) (a8' : Nat → Int32) (a21' : Nat → Int32) (a22' : Nat → Int32), a3' = upd a3 nc.toNatClampNeg k →
      fq_Inv (nc + 1) fc' lv 0 nd pn li wc ac dc 0 a1 a2 a3' a4' a5' a6' a7' a8' a9 a10 a11 a12 a13 a14 a15 a16 a17 a18 a19 a20 a21' a22' a23 a24 a25 a26 → post nc (nc + 1, fc', lv, 0, nd, pn, li, wc, ac, dc, 0, a1, a2, a3', a4', a5', a6', a7', a8', a9, a10, a11, a12, a13, a14, a15, a16, a17, a18, a19, a20, a21', a22', a23, a24, a25, a26)) :
    wL_made_46 post x2 x3 nc x5 x6 z0 nc fc lv cp nd pn li wc ac dc sc a1 a2 a3 a4 a5 a6 a7 a8 a9 a10 a11 a12 a13 a14 a15 a16 a17 a18 a19 a20 a21 a22 a23 a24 a25 a26 := by
  have n0 := hI.1.1
  have n1 := hI.1.2.1
  have go : ∀ px py : Int32, (nc < 24 → fq_N nc k px py) → wpX_node post (nc, fc, lv, cp, nd, pn, li, wc, ac, dc, sc, a1, a2, a3, a4, a5, a6, a7, a8, a9, a10, a11, a12, a13, a14, a15, a16, a17, a18, a19, a20, a21, a22, a23, a24, a25, a26) k px py := fun px py good =>
    fq_node hI HF (fun nf bad => absurd (good (by lia)) bad) (fun nf _ => HN nf)
  have go58 : k = 0 → wL_made_58 post x2 nc fc lv cp nd pn li wc ac dc sc a1 a2 a3 a4 a5 a6 a7 a8 a9 a10 a11 a12 a13 a14 a15 a16 a17 a18 a19 a20 a21 a22 a23 a24 a25 a26 := by
    intro e
    subst e
    obtain ⟨j, hj, ej⟩ := pk_andE x2 (m := 1) 1 (by decide)
    have j0 : 0 ≤ x2 &&& 1 := by rw [ej]; exact nI_pos' (by omega)
    have j1 : x2 &&& 1 < 2 := by rw [ej]; exact nI_lt (b := 2) hj (by decide)
    exact go (x2 &&& 1) 0 (fun _ => by unfold fq_N fq_S; lia (splits := 40))
  refine br_c (fun g => go58 (e0 g)) (fun g => ?_)
  have ek := e1 g
  have hx := hx g
  refine br_c (fun g0 => go58 (by rw [ek, g0])) (fun g0 => br_c (fun g1 => ?_) (fun g1 => br_c (fun g5 => ⟨by lia, ?_⟩) (fun g5 => br_c (fun g4 => ?_) (fun g4 => br_c (fun g6 => ?_) (fun g6 => br_c (fun g7 => ?_) (fun g7 => ?_))))))
  · have s := fq_short x3
    have e : k = 1 := by rw [ek, g1]
    subst e
    exact go _ 0 (fun _ => by unfold fq_N; unfold fq_S at s ⊢; lia (splits := 40))
  · have m := fq_m255 x2 (m := nc + 1) (by lia)
    have e : k = 5 := by rw [ek, g5]
    subst e
    exact go _ 0 (fun _ => by unfold fq_N fq_S; lia (splits := 40))
  · have s := fq_short x3
    have e : k = 4 := by rw [ek, g4]
    subst e
    exact go _ _ (fun _ => by unfold fq_N; unfold fq_S at s ⊢; lia (splits := 40))
  · obtain ⟨j, hj, ej⟩ := pk_andE x3 (m := 3) 2 (by decide)
    have j0 : 0 ≤ x3 &&& 3 := by rw [ej]; exact nI_pos' (by omega)
    have j1 : x3 &&& 3 < 4 := by rw [ej]; exact nI_lt (b := 4) hj (by decide)
    subst ek
    exact go _ _ (fun _ => by unfold fq_N fq_S; lia (splits := 40))
  · obtain ⟨j, hj, ej⟩ := pk_andE x3 (m := 32767) 15 (by decide)
    have j0 : 0 ≤ x3 &&& 32767 := by rw [ej]; exact nI_pos' (by omega)
    have j1 : x3 &&& 32767 < 32768 := by rw [ej]; exact nI_lt (b := 32768) hj (by decide)
    subst ek
    exact go _ _ (fun _ => by unfold fq_N fq_S; lia (splits := 40))
  · subst ek
    exact go _ _ (fun _ => by unfold fq_N fq_S; lia (splits := 40))
theorem fq_made {post : Int32 → St1 → Prop} {p1 p2 p3 k : Int32} (hI : fq_Inv nc fc lv cp nd pn li wc ac dc sc a1 a2 a3 a4 a5 a6 a7 a8 a9 a10 a11 a12 a13 a14 a15 a16 a17 a18 a19 a20 a21 a22 a23 a24 a25 a26) (e0 : nc = 0 → k = 0) (e1 : ¬ nc = 0 → k = (p1 &&& 255) - (p1 &&& 255) / 11 * 11)
    (HF : nc = 24 ∨ (k = 6 ∧ fc = 4) → post (-100001) (nc, fc, lv, cp, nd, pn, li, wc, ac, dc, sc, a1, a2, a3, a4, a5, a6, a7, a8, a9, a10, a11, a12, a13, a14, a15, a16, a17, a18, a19, a20, a21, a22, a23, a24, a25, a26))
    (HN : ¬ (nc = 24 ∨ (k = 6 ∧ fc = 4)) → ∀ (fc' : Int32) (a3' : Nat → Int32) (a4' : Nat → Int32) (a5' : Nat → Int32) (a6' : Nat → Int32) (a7' : Nat → Int32) (a8' : Nat → Int32) (a21' : Nat → Int32) (a22' : Nat → Int32), a3' = upd a3 nc.toNatClampNeg k →
      fq_Inv (nc + 1) fc' lv 0 nd pn li wc ac dc 0 a1 a2 a3' a4' a5' a6' a7' a8' a9 a10 a11 a12 a13 a14 a15 a16 a17 a18 a19 a20 a21' a22' a23 a24 a25 a26 → post nc (nc + 1, fc', lv, 0, nd, pn, li, wc, ac, dc, 0, a1, a2, a3', a4', a5', a6', a7', a8', a9, a10, a11, a12, a13, a14, a15, a16, a17, a18, a19, a20, a21', a22', a23, a24, a25, a26)) :
    wpL_made post (nc, fc, lv, cp, nd, pn, li, wc, ac, dc, sc, a1, a2, a3, a4, a5, a6, a7, a8, a9, a10, a11, a12, a13, a14, a15, a16, a17, a18, a19, a20, a21, a22, a23, a24, a25, a26) p1 p2 p3 nc := by
  have n0 := hI.1.1
  have m := fq_m255 p1 (m := 11) (by decide)
  refine And.intro (by decide) (nm_e (br_c (fun g => br_t g ?_) (fun g => ⟨g, br_f g ⟨g, ?_⟩⟩)))
  · exact fq_m46 hI m.1 (by lia) (fun z => absurd g z) e0 e1 HF HN
  · have m2 := fq_m255 p2 (m := nc) (by lia)
    have m3 := fq_m255 p3 (m := nc) (by lia)
    exact fq_m46 hI m.1 (by lia) (fun _ => ⟨m2.1, m2.2, m3.1, m3.2⟩) e0 e1 HF HN
end
end
section
section
variable {nc fc lv cp nd pn li wc : Int32} {ac : Int64} {dc sc : Int32} {a1 a2 a3 a4 a5 a6 a7 a8 a9 a10 a11 a12 a13 a14 a15 a16 a17 a18 a19 a20 a21 a22 a23 a24 a25 a26 : Nat → Int32}
variable {post : Int32 → Prop} {L : Nat} {xs : Nat → Int32} {J : Int32 → Int64 → Int64 → Int32 → Int32 → Int32 → Int32 → Int32 → Int32 → Int32 → Int32 → Int32 → Int32 → Int32 → Int32 → Int64 → Int32 → Int32 → (Nat → Int32) → (Nat → Int32) → (Nat → Int32) → (Nat → Int32) → (Nat → Int32) → (Nat → Int32) → (Nat → Int32) → (Nat → Int32) → (Nat → Int32) → (Nat → Int32) → (Nat → Int32) → (Nat → Int32) → (Nat → Int32) → (Nat → Int32) → (Nat → Int32) → (Nat → Int32) → (Nat → Int32) → (Nat → Int32) → (Nat → Int32) → (Nat → Int32) → (Nat → Int32) → (Nat → Int32) → (Nat → Int32) → (Nat → Int32) → (Nat → Int32) → (Nat → Int32) → Prop} {x2 : Int32} {x3 x5 : Int64} {x7 x8 x9 x10 x11 x12 x13 x14 : Int32} {kc ks : Nat}
theorem fq_868 {x17 x23 : Int32} (hx : (x23 = 0 ∧ ¬ (0 ≤ x12 ∧ x12 < x2)) ∨ (¬ x23 = 0 ∧ 0 ≤ x12 ∧ x12 < x2)) (hN : fq_N x2 x11 x12 x13 → x11 = 8)
    (H1 : fq_N x2 x11 x12 x13 → wL_law_885 post L xs J x2 x3 x5 x7 x8 x9 x10 x11 x12 x13 x14 x17 1 kc ks nc fc lv cp nd pn li wc ac dc sc a1 a2 a3 a4 a5 a6 a7 a8 a9 a10 a11 a12 a13 a14 a15 a16 a17 a18 a19 a20 a21 a22 a23 a24 a25 a26)
    (H0 : ¬ fq_N x2 x11 x12 x13 → wL_law_885 post L xs J x2 x3 x5 x7 x8 x9 x10 x11 x12 x13 x14 x17 0 kc ks nc fc lv cp nd pn li wc ac dc sc a1 a2 a3 a4 a5 a6 a7 a8 a9 a10 a11 a12 a13 a14 a15 a16 a17 a18 a19 a20 a21 a22 a23 a24 a25 a26) :
    wL_law_868 post L xs J x2 x3 x5 x7 x8 x9 x10 x11 x12 x13 x14 x17 x23 kc ks nc fc lv cp nd pn li wc ac dc sc a1 a2 a3 a4 a5 a6 a7 a8 a9 a10 a11 a12 a13 a14 a15 a16 a17 a18 a19 a20 a21 a22 a23 a24 a25 a26 :=
  br_c (fun g => br_c (fun z => H0 (fun n => by unfold fq_N fq_S at n; lia (splits := 40))) (fun z => H1 (by unfold fq_N fq_S; lia (splits := 40)))) (fun g => H0 (fun n => g (hN n)))
theorem fq_844 {x17 x23 : Int32} (hx : (x23 = 0 ∧ ¬ (0 ≤ x12 ∧ x12 < x2)) ∨ (¬ x23 = 0 ∧ 0 ≤ x12 ∧ x12 < x2)) (hN : fq_N x2 x11 x12 x13 → x11 = 7 ∨ x11 = 8)
    (H1 : fq_N x2 x11 x12 x13 → wL_law_885 post L xs J x2 x3 x5 x7 x8 x9 x10 x11 x12 x13 x14 x17 1 kc ks nc fc lv cp nd pn li wc ac dc sc a1 a2 a3 a4 a5 a6 a7 a8 a9 a10 a11 a12 a13 a14 a15 a16 a17 a18 a19 a20 a21 a22 a23 a24 a25 a26)
    (H0 : ¬ fq_N x2 x11 x12 x13 → wL_law_885 post L xs J x2 x3 x5 x7 x8 x9 x10 x11 x12 x13 x14 x17 0 kc ks nc fc lv cp nd pn li wc ac dc sc a1 a2 a3 a4 a5 a6 a7 a8 a9 a10 a11 a12 a13 a14 a15 a16 a17 a18 a19 a20 a21 a22 a23 a24 a25 a26) :
    wL_law_844 post L xs J x2 x3 x5 x7 x8 x9 x10 x11 x12 x13 x14 x17 x23 kc ks nc fc lv cp nd pn li wc ac dc sc a1 a2 a3 a4 a5 a6 a7 a8 a9 a10 a11 a12 a13 a14 a15 a16 a17 a18 a19 a20 a21 a22 a23 a24 a25 a26 := by
  refine br_c (fun g => br_c (fun z => fq_868 hx (fun n => ?_) H1 H0) (fun z => fq_inn (fun a b => br_f (by decide) (H1 ?_)) (fun c => br_t rfl (fq_868 hx (fun n => ?_) H1 H0)))) (fun g => fq_868 hx (fun n => ?_) H1 H0)
  · unfold fq_N fq_S at n; lia (splits := 40)
  · unfold fq_N fq_S; lia (splits := 40)
  · unfold fq_N fq_S at n; lia (splits := 40)
  · have := hN n; lia
theorem fq_822 {x17 x23 : Int32} (hx : (x23 = 0 ∧ ¬ (0 ≤ x12 ∧ x12 < x2)) ∨ (¬ x23 = 0 ∧ 0 ≤ x12 ∧ x12 < x2)) (hN : fq_N x2 x11 x12 x13 → x11 = 6 ∨ x11 = 7 ∨ x11 = 8)
    (H1 : fq_N x2 x11 x12 x13 → wL_law_885 post L xs J x2 x3 x5 x7 x8 x9 x10 x11 x12 x13 x14 x17 1 kc ks nc fc lv cp nd pn li wc ac dc sc a1 a2 a3 a4 a5 a6 a7 a8 a9 a10 a11 a12 a13 a14 a15 a16 a17 a18 a19 a20 a21 a22 a23 a24 a25 a26)
    (H0 : ¬ fq_N x2 x11 x12 x13 → wL_law_885 post L xs J x2 x3 x5 x7 x8 x9 x10 x11 x12 x13 x14 x17 0 kc ks nc fc lv cp nd pn li wc ac dc sc a1 a2 a3 a4 a5 a6 a7 a8 a9 a10 a11 a12 a13 a14 a15 a16 a17 a18 a19 a20 a21 a22 a23 a24 a25 a26) :
    wL_law_822 post L xs J x2 x3 x5 x7 x8 x9 x10 x11 x12 x13 x14 x17 x23 kc ks nc fc lv cp nd pn li wc ac dc sc a1 a2 a3 a4 a5 a6 a7 a8 a9 a10 a11 a12 a13 a14 a15 a16 a17 a18 a19 a20 a21 a22 a23 a24 a25 a26 := by
  refine br_c (fun g => br_c (fun z => fq_844 hx (fun n => ?_) H1 H0) (fun z => fq_inn (fun a b => br_f (by decide) (H1 ?_)) (fun c => br_t rfl (fq_844 hx (fun n => ?_) H1 H0)))) (fun g => fq_844 hx (fun n => ?_) H1 H0)
  · unfold fq_N fq_S at n; lia (splits := 40)
  · unfold fq_N fq_S; lia (splits := 40)
  · unfold fq_N fq_S at n; lia (splits := 40)
  · have := hN n; lia
theorem fq_805 {x17 x23 : Int32} (hx : (x23 = 0 ∧ ¬ (0 ≤ x12 ∧ x12 < x2)) ∨ (¬ x23 = 0 ∧ 0 ≤ x12 ∧ x12 < x2)) (hN : fq_N x2 x11 x12 x13 → x11 = 5 ∨ x11 = 6 ∨ x11 = 7 ∨ x11 = 8)
    (H1 : fq_N x2 x11 x12 x13 → wL_law_885 post L xs J x2 x3 x5 x7 x8 x9 x10 x11 x12 x13 x14 x17 1 kc ks nc fc lv cp nd pn li wc ac dc sc a1 a2 a3 a4 a5 a6 a7 a8 a9 a10 a11 a12 a13 a14 a15 a16 a17 a18 a19 a20 a21 a22 a23 a24 a25 a26)
    (H0 : ¬ fq_N x2 x11 x12 x13 → wL_law_885 post L xs J x2 x3 x5 x7 x8 x9 x10 x11 x12 x13 x14 x17 0 kc ks nc fc lv cp nd pn li wc ac dc sc a1 a2 a3 a4 a5 a6 a7 a8 a9 a10 a11 a12 a13 a14 a15 a16 a17 a18 a19 a20 a21 a22 a23 a24 a25 a26) :
    wL_law_805 post L xs J x2 x3 x5 x7 x8 x9 x10 x11 x12 x13 x14 x17 x23 kc ks nc fc lv cp nd pn li wc ac dc sc a1 a2 a3 a4 a5 a6 a7 a8 a9 a10 a11 a12 a13 a14 a15 a16 a17 a18 a19 a20 a21 a22 a23 a24 a25 a26 := by
  refine br_c (fun g => fq_inn (fun a b => br_f (by decide) (H1 ?_)) (fun c => br_t rfl (fq_822 hx (fun n => ?_) H1 H0))) (fun g => fq_822 hx (fun n => ?_) H1 H0)
  · unfold fq_N fq_S; lia (splits := 40)
  · unfold fq_N fq_S at n; lia (splits := 40)
  · have := hN n; lia
theorem fq_780 {x17 x23 : Int32} (hx : (x23 = 0 ∧ ¬ (0 ≤ x12 ∧ x12 < x2)) ∨ (¬ x23 = 0 ∧ 0 ≤ x12 ∧ x12 < x2)) (hN : fq_N x2 x11 x12 x13 → x11 = 4 ∨ x11 = 5 ∨ x11 = 6 ∨ x11 = 7 ∨ x11 = 8)
    (H1 : fq_N x2 x11 x12 x13 → wL_law_885 post L xs J x2 x3 x5 x7 x8 x9 x10 x11 x12 x13 x14 x17 1 kc ks nc fc lv cp nd pn li wc ac dc sc a1 a2 a3 a4 a5 a6 a7 a8 a9 a10 a11 a12 a13 a14 a15 a16 a17 a18 a19 a20 a21 a22 a23 a24 a25 a26)
    (H0 : ¬ fq_N x2 x11 x12 x13 → wL_law_885 post L xs J x2 x3 x5 x7 x8 x9 x10 x11 x12 x13 x14 x17 0 kc ks nc fc lv cp nd pn li wc ac dc sc a1 a2 a3 a4 a5 a6 a7 a8 a9 a10 a11 a12 a13 a14 a15 a16 a17 a18 a19 a20 a21 a22 a23 a24 a25 a26) :
    wL_law_780 post L xs J x2 x3 x5 x7 x8 x9 x10 x11 x12 x13 x14 x17 x23 kc ks nc fc lv cp nd pn li wc ac dc sc a1 a2 a3 a4 a5 a6 a7 a8 a9 a10 a11 a12 a13 a14 a15 a16 a17 a18 a19 a20 a21 a22 a23 a24 a25 a26 := by
  refine br_c (fun g => br_c (fun z => fq_805 hx (fun n => ?_) H1 H0) (fun z => fq_inn (fun a b => br_f (by decide) (H1 ?_)) (fun c => br_t rfl (fq_805 hx (fun n => ?_) H1 H0)))) (fun g => fq_805 hx (fun n => ?_) H1 H0)
  · unfold fq_N fq_S at n; lia (splits := 40)
  · unfold fq_N fq_S; lia (splits := 40)
  · unfold fq_N fq_S at n; lia (splits := 40)
  · have := hN n; lia
theorem fq_770 {x17 x23 x24 : Int32} (hx : (x23 = 0 ∧ ¬ (0 ≤ x12 ∧ x12 < x2)) ∨ (¬ x23 = 0 ∧ 0 ≤ x12 ∧ x12 < x2)) (hy : (x24 = 0 ∧ ¬ (0 ≤ x13 ∧ x13 < x2)) ∨ (¬ x24 = 0 ∧ 0 ≤ x13 ∧ x13 < x2)) (hk : x11 = 2 ∨ x11 = 3 ∨ x11 = 9 ∨ x11 = 10)
    (H1 : fq_N x2 x11 x12 x13 → wL_law_885 post L xs J x2 x3 x5 x7 x8 x9 x10 x11 x12 x13 x14 x17 1 kc ks nc fc lv cp nd pn li wc ac dc sc a1 a2 a3 a4 a5 a6 a7 a8 a9 a10 a11 a12 a13 a14 a15 a16 a17 a18 a19 a20 a21 a22 a23 a24 a25 a26)
    (H0 : ¬ fq_N x2 x11 x12 x13 → wL_law_885 post L xs J x2 x3 x5 x7 x8 x9 x10 x11 x12 x13 x14 x17 0 kc ks nc fc lv cp nd pn li wc ac dc sc a1 a2 a3 a4 a5 a6 a7 a8 a9 a10 a11 a12 a13 a14 a15 a16 a17 a18 a19 a20 a21 a22 a23 a24 a25 a26) :
    wL_law_770 post L xs J x2 x3 x5 x7 x8 x9 x10 x11 x12 x13 x14 x17 x23 x24 kc ks nc fc lv cp nd pn li wc ac dc sc a1 a2 a3 a4 a5 a6 a7 a8 a9 a10 a11 a12 a13 a14 a15 a16 a17 a18 a19 a20 a21 a22 a23 a24 a25 a26 := by
  refine br_c (fun z => fq_780 hx (fun n => ?_) H1 H0) (fun z => br_c (fun z2 => fq_780 hx (fun n => ?_) H1 H0) (fun z2 => H1 ?_))
  · unfold fq_N fq_S at n; lia (splits := 40)
  · unfold fq_N fq_S at n; lia (splits := 40)
  · unfold fq_N fq_S; lia (splits := 40)
theorem fq_748 {x17 x23 x24 : Int32} (hx : (x23 = 0 ∧ ¬ (0 ≤ x12 ∧ x12 < x2)) ∨ (¬ x23 = 0 ∧ 0 ≤ x12 ∧ x12 < x2)) (hy : (x24 = 0 ∧ ¬ (0 ≤ x13 ∧ x13 < x2)) ∨ (¬ x24 = 0 ∧ 0 ≤ x13 ∧ x13 < x2)) (hN : fq_N x2 x11 x12 x13 → 2 ≤ x11 ∧ x11 ≤ 10)
    (H1 : fq_N x2 x11 x12 x13 → wL_law_885 post L xs J x2 x3 x5 x7 x8 x9 x10 x11 x12 x13 x14 x17 1 kc ks nc fc lv cp nd pn li wc ac dc sc a1 a2 a3 a4 a5 a6 a7 a8 a9 a10 a11 a12 a13 a14 a15 a16 a17 a18 a19 a20 a21 a22 a23 a24 a25 a26)
    (H0 : ¬ fq_N x2 x11 x12 x13 → wL_law_885 post L xs J x2 x3 x5 x7 x8 x9 x10 x11 x12 x13 x14 x17 0 kc ks nc fc lv cp nd pn li wc ac dc sc a1 a2 a3 a4 a5 a6 a7 a8 a9 a10 a11 a12 a13 a14 a15 a16 a17 a18 a19 a20 a21 a22 a23 a24 a25 a26) :
    wL_law_748 post L xs J x2 x3 x5 x7 x8 x9 x10 x11 x12 x13 x14 x17 x23 x24 kc ks nc fc lv cp nd pn li wc ac dc sc a1 a2 a3 a4 a5 a6 a7 a8 a9 a10 a11 a12 a13 a14 a15 a16 a17 a18 a19 a20 a21 a22 a23 a24 a25 a26 := by
  refine fq_inn (fun a b => br_f (by decide) (fq_770 hx hy (by lia) H1 H0)) (fun c => br_t rfl ?_)
  refine fq_inn (fun a b => br_f (by decide) (fq_770 hx hy (by lia) H1 H0)) (fun c2 => br_t rfl (fq_780 hx (fun n => ?_) H1 H0))
  have := hN n
  lia
theorem fq_728 {x17 x23 x24 : Int32} (hx : (x23 = 0 ∧ ¬ (0 ≤ x12 ∧ x12 < x2)) ∨ (¬ x23 = 0 ∧ 0 ≤ x12 ∧ x12 < x2)) (hy : (x24 = 0 ∧ ¬ (0 ≤ x13 ∧ x13 < x2)) ∨ (¬ x24 = 0 ∧ 0 ≤ x13 ∧ x13 < x2)) (hN : fq_N x2 x11 x12 x13 → 1 ≤ x11 ∧ x11 ≤ 10)
    (H1 : fq_N x2 x11 x12 x13 → wL_law_885 post L xs J x2 x3 x5 x7 x8 x9 x10 x11 x12 x13 x14 x17 1 kc ks nc fc lv cp nd pn li wc ac dc sc a1 a2 a3 a4 a5 a6 a7 a8 a9 a10 a11 a12 a13 a14 a15 a16 a17 a18 a19 a20 a21 a22 a23 a24 a25 a26)
    (H0 : ¬ fq_N x2 x11 x12 x13 → wL_law_885 post L xs J x2 x3 x5 x7 x8 x9 x10 x11 x12 x13 x14 x17 0 kc ks nc fc lv cp nd pn li wc ac dc sc a1 a2 a3 a4 a5 a6 a7 a8 a9 a10 a11 a12 a13 a14 a15 a16 a17 a18 a19 a20 a21 a22 a23 a24 a25 a26) :
    wL_law_728 post L xs J x2 x3 x5 x7 x8 x9 x10 x11 x12 x13 x14 x17 x23 x24 kc ks nc fc lv cp nd pn li wc ac dc sc a1 a2 a3 a4 a5 a6 a7 a8 a9 a10 a11 a12 a13 a14 a15 a16 a17 a18 a19 a20 a21 a22 a23 a24 a25 a26 := by
  refine br_c (fun g => fq_inn (fun a b => br_f (by decide) (H1 ?_)) (fun c => br_t rfl (fq_748 hx hy (fun n => ?_) H1 H0))) (fun g => fq_748 hx hy (fun n => ?_) H1 H0)
  · unfold fq_N fq_S; lia (splits := 40)
  · unfold fq_N fq_S at n; lia (splits := 40)
  · have := hN n; lia
theorem fq_691 {x17 : Int32} (n0 : 0 ≤ x2) (n1 : x2 ≤ 24)
    (H1 : fq_N x2 x11 x12 x13 → wL_law_885 post L xs J x2 x3 x5 x7 x8 x9 x10 x11 x12 x13 x14 x17 1 kc ks nc fc lv cp nd pn li wc ac dc sc a1 a2 a3 a4 a5 a6 a7 a8 a9 a10 a11 a12 a13 a14 a15 a16 a17 a18 a19 a20 a21 a22 a23 a24 a25 a26)
    (H0 : ¬ fq_N x2 x11 x12 x13 → wL_law_885 post L xs J x2 x3 x5 x7 x8 x9 x10 x11 x12 x13 x14 x17 0 kc ks nc fc lv cp nd pn li wc ac dc sc a1 a2 a3 a4 a5 a6 a7 a8 a9 a10 a11 a12 a13 a14 a15 a16 a17 a18 a19 a20 a21 a22 a23 a24 a25 a26) :
    wL_law_691 post L xs J x2 x3 x5 x7 x8 x9 x10 x11 x12 x13 x14 x17 kc ks nc fc lv cp nd pn li wc ac dc sc a1 a2 a3 a4 a5 a6 a7 a8 a9 a10 a11 a12 a13 a14 a15 a16 a17 a18 a19 a20 a21 a22 a23 a24 a25 a26 := by
  have go : ∀ x23 x24 : Int32, ((x23 = 0 ∧ ¬ (0 ≤ x12 ∧ x12 < x2)) ∨ (¬ x23 = 0 ∧ 0 ≤ x12 ∧ x12 < x2)) → ((x24 = 0 ∧ ¬ (0 ≤ x13 ∧ x13 < x2)) ∨ (¬ x24 = 0 ∧ 0 ≤ x13 ∧ x13 < x2)) →
      ((x11 = 0 → wpL_in (fun r => (r = 0 → wL_law_728 post L xs J x2 x3 x5 x7 x8 x9 x10 x11 x12 x13 x14 x17 x23 x24 kc ks nc fc lv cp nd pn li wc ac dc sc a1 a2 a3 a4 a5 a6 a7 a8 a9 a10 a11 a12 a13 a14 a15 a16 a17 a18 a19 a20 a21 a22 a23 a24 a25 a26) ∧ (¬ r = 0 → wL_law_880 post L xs J x2 x3 x5 x7 x8 x9 x10 x11 x12 x13 x14 x17 kc ks nc fc lv cp nd pn li wc ac dc sc a1 a2 a3 a4 a5 a6 a7 a8 a9 a10 a11 a12 a13 a14 a15 a16 a17 a18 a19 a20 a21 a22 a23 a24 a25 a26)) () x12 0 1) ∧
       (¬ x11 = 0 → wL_law_728 post L xs J x2 x3 x5 x7 x8 x9 x10 x11 x12 x13 x14 x17 x23 x24 kc ks nc fc lv cp nd pn li wc ac dc sc a1 a2 a3 a4 a5 a6 a7 a8 a9 a10 a11 a12 a13 a14 a15 a16 a17 a18 a19 a20 a21 a22 a23 a24 a25 a26)) := by
    intro x23 x24 hx hy
    refine br_c (fun g => fq_inn (fun a b => br_f (by decide) (H1 ?_)) (fun c => br_t rfl (fq_728 hx hy (fun n => ?_) H1 H0))) (fun g => fq_728 hx hy (fun n => ?_) H1 H0)
    · unfold fq_N fq_S; lia (splits := 40)
    · unfold fq_N fq_S at n; lia (splits := 40)
    · unfold fq_N fq_S at n; lia (splits := 40)
  refine fq_inn (fun a b => fq_inn (fun a' b' => go 1 1 ?_ ?_) (fun c' => go 1 0 ?_ ?_)) (fun c => fq_inn (fun a' b' => go 0 1 ?_ ?_) (fun c' => go 0 0 ?_ ?_))
  · exact Or.inr ⟨by decide, a, by lia⟩
  · exact Or.inr ⟨by decide, a', by lia⟩
  · exact Or.inr ⟨by decide, a, by lia⟩
  · exact Or.inl ⟨rfl, by lia⟩
  · exact Or.inl ⟨rfl, by lia⟩
  · exact Or.inr ⟨by decide, a', by lia⟩
  · exact Or.inl ⟨rfl, by lia⟩
  · exact Or.inl ⟨rfl, by lia⟩
theorem fq_885 {x17 z : Int32} (HJ : ∀ (x2 : Int32) (x3 x5 : Int64) (x7 x8 x9 : Int32) (nc : Int32) (fc : Int32) (lv : Int32) (cp : Int32) (nd : Int32) (pn : Int32) (li : Int32) (wc : Int32) (ac : Int64) (dc : Int32) (sc : Int32) (a1 : Nat → Int32) (a2 : Nat → Int32) (a3 : Nat → Int32) (a4 : Nat → Int32) (a5 : Nat → Int32) (a6 : Nat → Int32) (a7 : Nat → Int32) (a8 : Nat → Int32) (a9 : Nat → Int32) (a10 : Nat → Int32) (a11 : Nat → Int32) (a12 : Nat → Int32) (a13 : Nat → Int32) (a14 : Nat → Int32) (a15 : Nat → Int32) (a16 : Nat → Int32) (a17 : Nat → Int32) (a18 : Nat → Int32) (a19 : Nat → Int32) (a20 : Nat → Int32) (a21 : Nat → Int32) (a22 : Nat → Int32) (a23 : Nat → Int32) (a24 : Nat → Int32) (a25 : Nat → Int32) (a26 : Nat → Int32), fq_J (10 * (x10 + 5)) x2 x3 x5 x7 x8 x9 nc fc lv cp nd pn li wc ac dc sc a1 a2 a3 a4 a5 a6 a7 a8 a9 a10 a11 a12 a13 a14 a15 a16 a17 a18 a19 a20 a21 a22 a23 a24 a25 a26 → J x2 x3 x5 x7 x8 x9 (x10 + 5) nc fc lv cp nd pn li wc ac dc sc a1 a2 a3 a4 a5 a6 a7 a8 a9 a10 a11 a12 a13 a14 a15 a16 a17 a18 a19 a20 a21 a22 a23 a24 a25 a26) (g0 : 0 ≤ x10) (g1 : x10 ≤ 300) (h : fq_J (10 * x10) x2 x3 x5 x7 x8 x9 nc fc lv cp nd pn li wc ac dc sc a1 a2 a3 a4 a5 a6 a7 a8 a9 a10 a11 a12 a13 a14 a15 a16 a17 a18 a19 a20 a21 a22 a23 a24 a25 a26) (hz : (x17 = 0 ∧ ¬ fc = 4) ∨ (¬ x17 = 0 ∧ fc = 4))
    (hf : (z = 0 ∧ ¬ fq_N x2 x11 x12 x13) ∨ (¬ z = 0 ∧ fq_N x2 x11 x12 x13)) : wL_law_885 post L xs J x2 x3 x5 x7 x8 x9 x10 x11 x12 x13 x14 x17 z kc ks nc fc lv cp nd pn li wc ac dc sc a1 a2 a3 a4 a5 a6 a7 a8 a9 a10 a11 a12 a13 a14 a15 a16 a17 a18 a19 a20 a21 a22 a23 a24 a25 a26 := by
  obtain ⟨hI, e2, e9, s0, s1, hn, hs⟩ := h
  subst e2
  have n0 := hI.1.1
  have n1 := hI.1.2.1
  have stay : fq_J (10 * (x10 + 5)) x2 x3 x5 x7 x8 x9 x2 fc lv cp nd pn li wc ac dc sc a1 a2 a3 a4 a5 a6 a7 a8 a9 a10 a11 a12 a13 a14 a15 a16 a17 a18 a19 a20 a21 a22 a23 a24 a25 a26 := ⟨hI, rfl, e9, s0, by lia, hn, hs⟩
  refine fq_node hI (fun f => ?_) (fun nf bad => ?_) (fun nf good fc' a3' a4' a5' a6' a7' a8' a21' a22' e3 hI' => ?_)
  · have fin := fq_fin7 (post := post) (L := L) (xs := xs) (x14 := x14) (x15 := x11) (x16 := -100001) (kc := kc) (ks := ks) HJ (by decide) stay
    refine br_c (fun _ => br_t rfl fin) (fun c => br_c (fun c6 => br_c (fun c7 => absurd f (by lia)) (fun c7 => br_t rfl fin)) (fun c6 => absurd f (by lia)))
  · have fin := fq_fin7 (post := post) (L := L) (xs := xs) (x14 := x14) (x15 := x11) (x16 := -100000) (kc := kc) (ks := ks) HJ (by decide) stay
    have z0 : z = 0 := by
      rcases hf with hf | hf
      · exact hf.1
      · exact absurd hf.2 bad
    refine br_f (by lia) (br_c (fun c6 => br_t (by lia) (br_t z0 (br_t rfl fin))) (fun c6 => br_t z0 (br_t rfl fin)))
  · have fin := fq_new (post := post) (L := L) (xs := xs) (x9 := x9) (x14 := x14) (k := x11) (r := x2) (kc := kc) (ks := ks) HJ g0 g1 good.1 good.2.1 (by lia) n0 (by lia) hI' hn e3 hs
    have z0 : ¬ z = 0 := by
      rcases hf with hf | hf
      · exact absurd good hf.2
      · exact hf.1
    refine br_f (by lia) (br_c (fun c6 => br_t (by lia) (br_f z0 (br_t rfl fin))) (fun c6 => br_f z0 (br_t rfl fin)))
theorem fq_961 {x17 k : Int32} (HJ : ∀ (x2 : Int32) (x3 x5 : Int64) (x7 x8 x9 : Int32) (nc : Int32) (fc : Int32) (lv : Int32) (cp : Int32) (nd : Int32) (pn : Int32) (li : Int32) (wc : Int32) (ac : Int64) (dc : Int32) (sc : Int32) (a1 : Nat → Int32) (a2 : Nat → Int32) (a3 : Nat → Int32) (a4 : Nat → Int32) (a5 : Nat → Int32) (a6 : Nat → Int32) (a7 : Nat → Int32) (a8 : Nat → Int32) (a9 : Nat → Int32) (a10 : Nat → Int32) (a11 : Nat → Int32) (a12 : Nat → Int32) (a13 : Nat → Int32) (a14 : Nat → Int32) (a15 : Nat → Int32) (a16 : Nat → Int32) (a17 : Nat → Int32) (a18 : Nat → Int32) (a19 : Nat → Int32) (a20 : Nat → Int32) (a21 : Nat → Int32) (a22 : Nat → Int32) (a23 : Nat → Int32) (a24 : Nat → Int32) (a25 : Nat → Int32) (a26 : Nat → Int32), fq_J (10 * (x10 + 5)) x2 x3 x5 x7 x8 x9 nc fc lv cp nd pn li wc ac dc sc a1 a2 a3 a4 a5 a6 a7 a8 a9 a10 a11 a12 a13 a14 a15 a16 a17 a18 a19 a20 a21 a22 a23 a24 a25 a26 → J x2 x3 x5 x7 x8 x9 (x10 + 5) nc fc lv cp nd pn li wc ac dc sc a1 a2 a3 a4 a5 a6 a7 a8 a9 a10 a11 a12 a13 a14 a15 a16 a17 a18 a19 a20 a21 a22 a23 a24 a25 a26) (g0 : 0 ≤ x10) (g1 : x10 ≤ 300) (h : fq_J (10 * x10) x2 x3 x5 x7 x8 x9 nc fc lv cp nd pn li wc ac dc sc a1 a2 a3 a4 a5 a6 a7 a8 a9 a10 a11 a12 a13 a14 a15 a16 a17 a18 a19 a20 a21 a22 a23 a24 a25 a26) (hz : (x17 = 0 ∧ ¬ fc = 4) ∨ (¬ x17 = 0 ∧ fc = 4))
    (k0 : 0 ≤ k) (k1 : k ≤ 10) (e0 : x2 = 0 → k = 0) (e1 : ¬ x2 = 0 → k = (x11 &&& 255) - (x11 &&& 255) / 11 * 11) : wL_law_961 post L xs J x2 x3 x5 x7 x8 x9 x10 x11 x12 x13 x14 x17 k kc ks nc fc lv cp nd pn li wc ac dc sc a1 a2 a3 a4 a5 a6 a7 a8 a9 a10 a11 a12 a13 a14 a15 a16 a17 a18 a19 a20 a21 a22 a23 a24 a25 a26 := by
  obtain ⟨hI, e2, e9, s0, s1, hn, hs⟩ := h
  subst e2
  have n0 := hI.1.1
  have n1 := hI.1.2.1
  have stay : fq_J (10 * (x10 + 5)) x2 x3 x5 x7 x8 x9 x2 fc lv cp nd pn li wc ac dc sc a1 a2 a3 a4 a5 a6 a7 a8 a9 a10 a11 a12 a13 a14 a15 a16 a17 a18 a19 a20 a21 a22 a23 a24 a25 a26 := ⟨hI, rfl, e9, s0, by lia, hn, hs⟩
  refine fq_made hI e0 e1 (fun f => ?_) (fun nf fc' a3' a4' a5' a6' a7' a8' a21' a22' e3 hI' => ?_)
  · have fin := fq_fin7 (post := post) (L := L) (xs := xs) (x14 := x14) (x15 := k) (x16 := -100001) (kc := kc) (ks := ks) HJ (by decide) stay
    refine br_c (fun _ => br_t rfl fin) (fun c => br_c (fun c6 => br_c (fun c7 => absurd f (by lia)) (fun c7 => br_t rfl fin)) (fun c6 => absurd f (by lia)))
  · have fin := fq_new (post := post) (L := L) (xs := xs) (x9 := x9) (x14 := x14) (k := k) (r := x2) (kc := kc) (ks := ks) HJ g0 g1 k0 k1 (by lia) n0 (by lia) hI' hn e3 hs
    refine br_f (by lia) (br_c (fun c6 => br_t (by lia) (br_t rfl fin)) (fun c6 => br_t rfl fin))
end
end
section
section
variable {nc fc lv cp nd pn li wc : Int32} {ac : Int64} {dc sc : Int32} {a1 a2 a3 a4 a5 a6 a7 a8 a9 a10 a11 a12 a13 a14 a15 a16 a17 a18 a19 a20 a21 a22 a23 a24 a25 a26 : Nat → Int32}
variable {post : Int32 → Prop} {L : Nat} {xs : Nat → Int32} {J : Int32 → Int64 → Int64 → Int32 → Int32 → Int32 → Int32 → Int32 → Int32 → Int32 → Int32 → Int32 → Int32 → Int32 → Int32 → Int64 → Int32 → Int32 → (Nat → Int32) → (Nat → Int32) → (Nat → Int32) → (Nat → Int32) → (Nat → Int32) → (Nat → Int32) → (Nat → Int32) → (Nat → Int32) → (Nat → Int32) → (Nat → Int32) → (Nat → Int32) → (Nat → Int32) → (Nat → Int32) → (Nat → Int32) → (Nat → Int32) → (Nat → Int32) → (Nat → Int32) → (Nat → Int32) → (Nat → Int32) → (Nat → Int32) → (Nat → Int32) → (Nat → Int32) → (Nat → Int32) → (Nat → Int32) → (Nat → Int32) → (Nat → Int32) → Prop} {x2 : Int32} {x3 x5 : Int64} {x7 x8 x9 x10 x11 x12 x13 x14 : Int32} {kc ks : Nat}
theorem fq_283 {s x15 x16 : Int32} (H : ∀ x7 : Int32, fq_four x7 → (∀ o : Int32, 0 ≤ o → o < 4 → (fq_bit x7 o ↔ fq_bit s o ∧ ¬ fq_fld x8 o = x2)) → wL_law_1007 post L xs J x2 x3 x5 x7 x8 0 x10 x14 x15 x16 kc ks nc fc lv cp nd pn li wc ac dc sc a1 a2 a3 a4 a5 a6 a7 a8 a9 a10 a11 a12 a13 a14 a15 a16 a17 a18 a19 a20 a21 a22 a23 a24 a25 a26) :
    ∀ (n : Nat) (x7 x : Int32), 0 ≤ x → x ≤ 4 → (4 : Int32).toInt < x.toInt + ((n : Nat) : Int) → fq_four x7 →
      (∀ o : Int32, 0 ≤ o → o < x → (fq_bit x7 o ↔ fq_bit s o ∧ ¬ fq_fld x8 o = x2)) → (∀ o : Int32, x ≤ o → o < 4 → (fq_bit x7 o ↔ fq_bit s o)) →
      wL_law_283 post L xs J x2 x3 x5 x8 x10 x14 x15 x16 kc ks nc fc lv cp nd pn li wc ac dc sc a1 a2 a3 a4 a5 a6 a7 a8 a9 a10 a11 a12 a13 a14 a15 a16 a17 a18 a19 a20 a21 a22 a23 a24 a25 a26 n x7 x := by
  intro n
  induction n with
  | zero => intro x7 x i0 i1 hm; exact (fq_z hm i1).elim
  | succ n ih =>
    intro x7 x i0 i1 hm h4 hA hB
    refine br_c (fun g => H x7 h4 (fun o o0 o1 => hA o o0 (by lia))) (fun g => ?_)
    have g' : x < 4 := by lia
    obtain ⟨c4, cb⟩ := fq_bclr h4 i0 g'
    refine br_c (fun e => nm_e (nm_e (ih _ (x + 1) (by lia) (by lia) (fq_n hm g') c4 ?_ ?_))) (fun e => nm_e (ih x7 (x + 1) (by lia) (by lia) (fq_n hm g') h4 ?_ ?_))
    · intro o o0 o1
      rw [cb o o0 (by lia)]
      by_cases d : o = x
      · rw [d]
        exact ⟨fun z => absurd rfl z.1, fun z => absurd e z.2⟩
      · rw [hA o o0 (by lia)]
        exact ⟨fun z => z.2, fun z => ⟨d, z⟩⟩
    · intro o o0 o1
      rw [cb o (by lia) o1, hB o (by lia) o1]
      exact ⟨fun z => z.2, fun z => ⟨by lia, z⟩⟩
    · intro o o0 o1
      by_cases d : o = x
      · rw [d, hB x (by lia) g']
        exact ⟨fun z => ⟨z, e⟩, fun z => z.1⟩
      · exact hA o o0 (by lia)
    · intro o o0 o1
      exact hB o (by lia) o1
theorem fq_k2 (HJ : ∀ (x2 : Int32) (x3 x5 : Int64) (x7 x8 x9 : Int32) (nc : Int32) (fc : Int32) (lv : Int32) (cp : Int32) (nd : Int32) (pn : Int32) (li : Int32) (wc : Int32) (ac : Int64) (dc : Int32) (sc : Int32) (a1 : Nat → Int32) (a2 : Nat → Int32) (a3 : Nat → Int32) (a4 : Nat → Int32) (a5 : Nat → Int32) (a6 : Nat → Int32) (a7 : Nat → Int32) (a8 : Nat → Int32) (a9 : Nat → Int32) (a10 : Nat → Int32) (a11 : Nat → Int32) (a12 : Nat → Int32) (a13 : Nat → Int32) (a14 : Nat → Int32) (a15 : Nat → Int32) (a16 : Nat → Int32) (a17 : Nat → Int32) (a18 : Nat → Int32) (a19 : Nat → Int32) (a20 : Nat → Int32) (a21 : Nat → Int32) (a22 : Nat → Int32) (a23 : Nat → Int32) (a24 : Nat → Int32) (a25 : Nat → Int32) (a26 : Nat → Int32), fq_J (10 * (x10 + 5)) x2 x3 x5 x7 x8 x9 nc fc lv cp nd pn li wc ac dc sc a1 a2 a3 a4 a5 a6 a7 a8 a9 a10 a11 a12 a13 a14 a15 a16 a17 a18 a19 a20 a21 a22 a23 a24 a25 a26 → J x2 x3 x5 x7 x8 x9 (x10 + 5) nc fc lv cp nd pn li wc ac dc sc a1 a2 a3 a4 a5 a6 a7 a8 a9 a10 a11 a12 a13 a14 a15 a16 a17 a18 a19 a20 a21 a22 a23 a24 a25 a26) (g0 : 0 ≤ x10) (g1 : x10 ≤ 300) (h : fq_J (10 * x10) x2 x3 x5 x7 x8 x9 nc fc lv cp nd pn li wc ac dc sc a1 a2 a3 a4 a5 a6 a7 a8 a9 a10 a11 a12 a13 a14 a15 a16 a17 a18 a19 a20 a21 a22 a23 a24 a25 a26) {fc' : Int32} {a9' a21' a22' : Nat → Int32} (nz : ¬ x2 = 0)
    (h9 : ∀ o : Int32, 0 ≤ o → o < 4 → a9' o.toNatClampNeg = if a9 o.toNatClampNeg = nc - 1 then -1 else a9 o.toNatClampNeg)
    (hI' : fq_Inv (nc - 1) fc' lv 0 nd pn li wc ac dc 0 a1 a2 a3 a4 a5 a6 a7 a8 a9' a10 a11 a12 a13 a14 a15 a16 a17 a18 a19 a20 a21' a22' a23 a24 a25 a26) :
    wL_law_268 post L xs J x2 x3 x5 x7 x8 x9 x10 x14 (-1) (-1) (x2 - 1) (nc - 1) kc ks (nc - 1) fc' lv 0 nd pn li wc ac dc 0 a1 a2 a3 a4 a5 a6 a7 a8 a9' a10 a11 a12 a13 a14 a15 a16 a17 a18 a19 a20 a21' a22' a23 a24 a25 a26 := by
  obtain ⟨hI, e2, e9, s0, s1, hn, hs⟩ := h
  subst e2
  have n0 := hI.1.1
  have n1 := hI.1.2.1
  have ex : x2 + (-1) = x2 - 1 := by lia
  refine br_t rfl (br_f (by lia) (nm_r ex ⟨5000, ?_⟩))
  refine fq_283 (s := x7) (fun x7' f4 hb => fq_fin7 HJ (by decide) ⟨hI', rfl, rfl, by decide, by lia, ?_, f4, ?_⟩) 5000 x7 0 (by decide) (by decide) (fq_f (by decide) (by decide)) hs.1 (fun o o0 o1 => absurd o1 (by lia)) (fun o _ _ => Iff.rfl)
  · exact fun k k0 k1 => hn k k0 (by lia)
  · intro o o0 o1
    have old := hs.2 o o0 o1
    rw [hb o o0 o1, h9 o o0 o1]
    by_cases c : fq_bit x7 o
    · rw [old.1 c]
      refine ⟨fun z => by rw [if_neg z.2], fun z => ?_⟩
      rw [if_pos (Classical.byContradiction (fun q => z ⟨c, q⟩))]
    · rw [old.2 c]
      refine ⟨fun z => absurd z.1 c, fun _ => ?_⟩
      split <;> rfl
theorem fq_359 {z : Int32} (HJ : ∀ (x2 : Int32) (x3 x5 : Int64) (x7 x8 x9 : Int32) (nc : Int32) (fc : Int32) (lv : Int32) (cp : Int32) (nd : Int32) (pn : Int32) (li : Int32) (wc : Int32) (ac : Int64) (dc : Int32) (sc : Int32) (a1 : Nat → Int32) (a2 : Nat → Int32) (a3 : Nat → Int32) (a4 : Nat → Int32) (a5 : Nat → Int32) (a6 : Nat → Int32) (a7 : Nat → Int32) (a8 : Nat → Int32) (a9 : Nat → Int32) (a10 : Nat → Int32) (a11 : Nat → Int32) (a12 : Nat → Int32) (a13 : Nat → Int32) (a14 : Nat → Int32) (a15 : Nat → Int32) (a16 : Nat → Int32) (a17 : Nat → Int32) (a18 : Nat → Int32) (a19 : Nat → Int32) (a20 : Nat → Int32) (a21 : Nat → Int32) (a22 : Nat → Int32) (a23 : Nat → Int32) (a24 : Nat → Int32) (a25 : Nat → Int32) (a26 : Nat → Int32), fq_J (10 * (x10 + 5)) x2 x3 x5 x7 x8 x9 nc fc lv cp nd pn li wc ac dc sc a1 a2 a3 a4 a5 a6 a7 a8 a9 a10 a11 a12 a13 a14 a15 a16 a17 a18 a19 a20 a21 a22 a23 a24 a25 a26 → J x2 x3 x5 x7 x8 x9 (x10 + 5) nc fc lv cp nd pn li wc ac dc sc a1 a2 a3 a4 a5 a6 a7 a8 a9 a10 a11 a12 a13 a14 a15 a16 a17 a18 a19 a20 a21 a22 a23 a24 a25 a26) (g0 : 0 ≤ x10) (g1 : x10 ≤ 300) (h : fq_J (10 * x10) x2 x3 x5 x7 x8 x9 nc fc lv cp nd pn li wc ac dc sc a1 a2 a3 a4 a5 a6 a7 a8 a9 a10 a11 a12 a13 a14 a15 a16 a17 a18 a19 a20 a21 a22 a23 a24 a25 a26) (hz : (z = 0 ∧ ¬ (0 ≤ x11 ∧ x11 < 4 ∧ -1 ≤ x12 ∧ x12 < nc)) ∨ (z = 1 ∧ (0 ≤ x11 ∧ x11 < 4 ∧ -1 ≤ x12 ∧ x12 < nc))) :
    wL_law_359 post L xs J x2 x3 x5 x7 x8 x9 x10 x11 x12 x14 (-1) (-1) z kc ks nc fc lv cp nd pn li wc ac dc sc a1 a2 a3 a4 a5 a6 a7 a8 a9 a10 a11 a12 a13 a14 a15 a16 a17 a18 a19 a20 a21 a22 a23 a24 a25 a26 := by
  obtain ⟨hI, e2, e9, s0, s1, hn, hs⟩ := h
  subst e2
  have n1 := hI.1.2.1
  refine fq_output hI (fun c => ?_) (fun c a9' a21' a22' e hI' => ?_)
  · have ez : z = 0 := by
      rcases hz with hz | hz
      · exact hz.1
      · exact absurd hz.2 c
    exact br_t ez.symm (br_t ez (fq_fin7 HJ (by decide) ⟨hI, rfl, e9, s0, by lia, hn, hs⟩))
  · have ez : z = 1 := by
      rcases hz with hz | hz
      · exact absurd c hz.2
      · exact hz.1
    refine br_t ez.symm (br_f (by rw [ez]; decide) (br_c (fun p => br_f (by lia) (nm_e ?_)) (fun p => br_t (by lia) ?_)))
    · obtain ⟨f4, fb⟩ := fq_bset hs.1 c.1 c.2.1
      refine fq_fin7 (x8 := fq_pf x8 x11 x12) HJ (by decide) ⟨hI', rfl, rfl, by decide, by lia, hn, f4, fun o o0 o1 => ?_⟩
      have old := hs.2 o o0 o1
      rw [fb o o0 o1, e, fq_fldput c.1 c.2.1 o0 o1 p (by lia)]
      by_cases d : o = x11
      · rw [d, fq_us, if_pos rfl]
        exact ⟨fun _ => rfl, fun z => absurd (Or.inl rfl) z⟩
      · rw [fq_un c.1 o0 d, if_neg d]
        exact ⟨fun z => old.1 (z.resolve_left d), fun z => old.2 (fun q => z (Or.inr q))⟩
    · obtain ⟨f4, fb⟩ := fq_bclr hs.1 c.1 c.2.1
      refine fq_fin7 HJ (by decide) ⟨hI', rfl, rfl, by decide, by lia, hn, f4, fun o o0 o1 => ?_⟩
      have old := hs.2 o o0 o1
      rw [fb o o0 o1, e]
      by_cases d : o = x11
      · rw [d, fq_us]
        exact ⟨fun z => absurd rfl z.1, fun _ => by lia⟩
      · rw [fq_un c.1 o0 d]
        exact ⟨fun z => old.1 z.2, fun z => old.2 (fun q => z ⟨d, q⟩)⟩
theorem fq_584 {x19 z : Int32} (HJ : ∀ (x2 : Int32) (x3 x5 : Int64) (x7 x8 x9 : Int32) (nc : Int32) (fc : Int32) (lv : Int32) (cp : Int32) (nd : Int32) (pn : Int32) (li : Int32) (wc : Int32) (ac : Int64) (dc : Int32) (sc : Int32) (a1 : Nat → Int32) (a2 : Nat → Int32) (a3 : Nat → Int32) (a4 : Nat → Int32) (a5 : Nat → Int32) (a6 : Nat → Int32) (a7 : Nat → Int32) (a8 : Nat → Int32) (a9 : Nat → Int32) (a10 : Nat → Int32) (a11 : Nat → Int32) (a12 : Nat → Int32) (a13 : Nat → Int32) (a14 : Nat → Int32) (a15 : Nat → Int32) (a16 : Nat → Int32) (a17 : Nat → Int32) (a18 : Nat → Int32) (a19 : Nat → Int32) (a20 : Nat → Int32) (a21 : Nat → Int32) (a22 : Nat → Int32) (a23 : Nat → Int32) (a24 : Nat → Int32) (a25 : Nat → Int32) (a26 : Nat → Int32), fq_J (10 * (x10 + 5)) x2 x3 x5 x7 x8 x9 nc fc lv cp nd pn li wc ac dc sc a1 a2 a3 a4 a5 a6 a7 a8 a9 a10 a11 a12 a13 a14 a15 a16 a17 a18 a19 a20 a21 a22 a23 a24 a25 a26 → J x2 x3 x5 x7 x8 x9 (x10 + 5) nc fc lv cp nd pn li wc ac dc sc a1 a2 a3 a4 a5 a6 a7 a8 a9 a10 a11 a12 a13 a14 a15 a16 a17 a18 a19 a20 a21 a22 a23 a24 a25 a26) (g0 : 0 ≤ x10) (g1 : x10 ≤ 300) (h : fq_J (10 * x10) x2 x3 x5 x7 x8 x9 nc fc lv cp nd pn li wc ac dc sc a1 a2 a3 a4 a5 a6 a7 a8 a9 a10 a11 a12 a13 a14 a15 a16 a17 a18 a19 a20 a21 a22 a23 a24 a25 a26)
    (hz : (z = 0 ∧ ¬ (0 ≤ x19 ∧ x19 < nc ∧ a3 x19.toNatClampNeg = 5 ∧ 0 ≤ x12 ∧ x12 < 24)) ∨ (z = 1 ∧ (0 ≤ x19 ∧ x19 < nc ∧ a3 x19.toNatClampNeg = 5 ∧ 0 ≤ x12 ∧ x12 < 24))) :
    wL_law_584 post L xs J x2 x3 x5 x7 x8 x9 x10 x12 x14 (-1) (-1) x19 z kc ks nc fc lv cp nd pn li wc ac dc sc a1 a2 a3 a4 a5 a6 a7 a8 a9 a10 a11 a12 a13 a14 a15 a16 a17 a18 a19 a20 a21 a22 a23 a24 a25 a26 := by
  obtain ⟨hI, e2, e9, s0, s1, hn, hs⟩ := h
  subst e2
  refine fq_tie hI (fun c => ?_) (fun c a4' a21' a22' hI' => ?_)
  · have ez : z = 0 := by
      rcases hz with hz | hz
      · exact hz.1
      · exact absurd hz.2 c
    exact br_t ez.symm (br_t ez (fq_fin7 HJ (by decide) ⟨hI, rfl, e9, s0, by lia, hn, hs⟩))
  · have ez : z = 1 := by
      rcases hz with hz | hz
      · exact absurd c hz.2
      · exact hz.1
    exact br_t ez.symm (br_f (by rw [ez]; decide) (fq_fin7 HJ (by decide) ⟨hI', rfl, rfl, by decide, by lia, hn, hs⟩))
theorem fq_528 {x19 : Int32} (HJ : ∀ (x2 : Int32) (x3 x5 : Int64) (x7 x8 x9 : Int32) (nc : Int32) (fc : Int32) (lv : Int32) (cp : Int32) (nd : Int32) (pn : Int32) (li : Int32) (wc : Int32) (ac : Int64) (dc : Int32) (sc : Int32) (a1 : Nat → Int32) (a2 : Nat → Int32) (a3 : Nat → Int32) (a4 : Nat → Int32) (a5 : Nat → Int32) (a6 : Nat → Int32) (a7 : Nat → Int32) (a8 : Nat → Int32) (a9 : Nat → Int32) (a10 : Nat → Int32) (a11 : Nat → Int32) (a12 : Nat → Int32) (a13 : Nat → Int32) (a14 : Nat → Int32) (a15 : Nat → Int32) (a16 : Nat → Int32) (a17 : Nat → Int32) (a18 : Nat → Int32) (a19 : Nat → Int32) (a20 : Nat → Int32) (a21 : Nat → Int32) (a22 : Nat → Int32) (a23 : Nat → Int32) (a24 : Nat → Int32) (a25 : Nat → Int32) (a26 : Nat → Int32), fq_J (10 * (x10 + 5)) x2 x3 x5 x7 x8 x9 nc fc lv cp nd pn li wc ac dc sc a1 a2 a3 a4 a5 a6 a7 a8 a9 a10 a11 a12 a13 a14 a15 a16 a17 a18 a19 a20 a21 a22 a23 a24 a25 a26 → J x2 x3 x5 x7 x8 x9 (x10 + 5) nc fc lv cp nd pn li wc ac dc sc a1 a2 a3 a4 a5 a6 a7 a8 a9 a10 a11 a12 a13 a14 a15 a16 a17 a18 a19 a20 a21 a22 a23 a24 a25 a26) (g0 : 0 ≤ x10) (g1 : x10 ≤ 300) (h : fq_J (10 * x10) x2 x3 x5 x7 x8 x9 nc fc lv cp nd pn li wc ac dc sc a1 a2 a3 a4 a5 a6 a7 a8 a9 a10 a11 a12 a13 a14 a15 a16 a17 a18 a19 a20 a21 a22 a23 a24 a25 a26) (k0 : 0 ≤ x19) (k1 : ¬ x2 = 0 → x19 < x2) :
    wL_law_528 post L xs J x2 x3 x5 x7 x8 x9 x10 x12 x14 (-1) (-1) x19 kc ks nc fc lv cp nd pn li wc ac dc sc a1 a2 a3 a4 a5 a6 a7 a8 a9 a10 a11 a12 a13 a14 a15 a16 a17 a18 a19 a20 a21 a22 a23 a24 a25 a26 := by
  have n0 : 0 ≤ x2 := by have a := h.1.1.1; have b := h.2.1; lia
  have n1 : x2 ≤ 24 := by have a := h.1.1.2.1; have b := h.2.1; lia
  have e2 := h.2.1
  have hn := h.2.2.2.2.2.1
  have no : ¬ (0 ≤ x19 ∧ x19 < nc ∧ a3 x19.toNatClampNeg = 5 ∧ 0 ≤ x12 ∧ x12 < 24) → wL_law_583 post L xs J x2 x3 x5 x7 x8 x9 x10 x12 x14 (-1) (-1) x19 kc ks nc fc lv cp nd pn li wc ac dc sc a1 a2 a3 a4 a5 a6 a7 a8 a9 a10 a11 a12 a13 a14 a15 a16 a17 a18 a19 a20 a21 a22 a23 a24 a25 a26 := fun c => fq_584 HJ g0 g1 h (Or.inl ⟨rfl, c⟩)
  have f560 : ∀ y : Int64, x19 < nc → y.toInt32 &&& 15 = a3 x19.toNatClampNeg → wL_law_560 post L xs J x2 x3 x5 x7 x8 x9 x10 x12 x14 (-1) (-1) x19 y kc ks nc fc lv cp nd pn li wc ac dc sc a1 a2 a3 a4 a5 a6 a7 a8 a9 a10 a11 a12 a13 a14 a15 a16 a17 a18 a19 a20 a21 a22 a23 a24 a25 a26 := by
    intro y hx e
    refine br_c (fun c => fq_inn (fun a b => br_f (by decide) (fq_584 HJ g0 g1 h (Or.inr ⟨rfl, k0, hx, by rw [← e]; exact c, a, by lia⟩))) (fun a => br_t rfl (no (fun z => a (by lia))))) (fun c => no (fun z => c (by rw [e]; exact z.2.2.1)))
  refine br_c (fun g => no (by lia)) (fun g => ?_)
  have lt := k1 (by lia)
  have old := hn x19 k0 (by lia)
  refine br_c (fun c => f560 _ (by lia) (old.2 c)) (fun c => f560 _ (by lia) (old.1 (by lia)))
theorem fq_651 {x21 : Int32} (HJ : ∀ (x2 : Int32) (x3 x5 : Int64) (x7 x8 x9 : Int32) (nc : Int32) (fc : Int32) (lv : Int32) (cp : Int32) (nd : Int32) (pn : Int32) (li : Int32) (wc : Int32) (ac : Int64) (dc : Int32) (sc : Int32) (a1 : Nat → Int32) (a2 : Nat → Int32) (a3 : Nat → Int32) (a4 : Nat → Int32) (a5 : Nat → Int32) (a6 : Nat → Int32) (a7 : Nat → Int32) (a8 : Nat → Int32) (a9 : Nat → Int32) (a10 : Nat → Int32) (a11 : Nat → Int32) (a12 : Nat → Int32) (a13 : Nat → Int32) (a14 : Nat → Int32) (a15 : Nat → Int32) (a16 : Nat → Int32) (a17 : Nat → Int32) (a18 : Nat → Int32) (a19 : Nat → Int32) (a20 : Nat → Int32) (a21 : Nat → Int32) (a22 : Nat → Int32) (a23 : Nat → Int32) (a24 : Nat → Int32) (a25 : Nat → Int32) (a26 : Nat → Int32), fq_J (10 * (x10 + 5)) x2 x3 x5 x7 x8 x9 nc fc lv cp nd pn li wc ac dc sc a1 a2 a3 a4 a5 a6 a7 a8 a9 a10 a11 a12 a13 a14 a15 a16 a17 a18 a19 a20 a21 a22 a23 a24 a25 a26 → J x2 x3 x5 x7 x8 x9 (x10 + 5) nc fc lv cp nd pn li wc ac dc sc a1 a2 a3 a4 a5 a6 a7 a8 a9 a10 a11 a12 a13 a14 a15 a16 a17 a18 a19 a20 a21 a22 a23 a24 a25 a26) (g0 : 0 ≤ x10) (g1 : x10 ≤ 300) (h : fq_J (10 * x10) x2 x3 x5 x7 x8 x9 nc fc lv cp nd pn li wc ac dc sc a1 a2 a3 a4 a5 a6 a7 a8 a9 a10 a11 a12 a13 a14 a15 a16 a17 a18 a19 a20 a21 a22 a23 a24 a25 a26) (hv : (x21 = 0 ∧ ¬ fq_V nc a3 a4) ∨ (x21 = 1 ∧ fq_V nc a3 a4)) :
    wL_law_651 post L xs J x2 x3 x5 x7 x8 x9 x10 x11 x14 (-1) (-1) x21 (fq_cnt x11) kc ks nc fc lv cp nd pn li wc ac dc sc a1 a2 a3 a4 a5 a6 a7 a8 a9 a10 a11 a12 a13 a14 a15 a16 a17 a18 a19 a20 a21 a22 a23 a24 a25 a26 := by
  obtain ⟨hI, e2, e9, s0, s1, hn, hs⟩ := h
  subst e2
  have c0 : 0 ≤ fq_cnt x11 ∧ fq_cnt x11 ≤ 50 := by
    unfold fq_cnt
    split
    · split
      · lia
      · exact ⟨by decide, by decide⟩
    · exact ⟨by decide, by decide⟩
  refine fq_run hI s0 (by lia) (fun v => ?_) (fun v cp' nd' pn' li' wc' ac' dc' a10' a11' a12' a13' a14' a15' a16' a17' a18' a19' a20' a21' a22' a23' a24' a25' a26' hI' => ?_)
  · have ex : x21 = 0 := by
      rcases hv with hv | hv
      · exact hv.1
      · exact absurd hv.2 v
    exact br_t ex (br_t rfl (br_t ex (fq_fin7 HJ (by decide) ⟨hI, rfl, e9, s0, by lia, hn, hs⟩)))
  · have ex : ¬ x21 = 0 := by
      rcases hv with hv | hv
      · exact absurd v hv.2
      · rw [hv.1]; decide
    exact br_f ex (br_t rfl (br_f ex (nm_e (fq_fin7 HJ (by decide) ⟨hI', rfl, by rw [e9], by lia, by lia, hn, hs⟩))))
theorem fq_622 (HJ : ∀ (x2 : Int32) (x3 x5 : Int64) (x7 x8 x9 : Int32) (nc : Int32) (fc : Int32) (lv : Int32) (cp : Int32) (nd : Int32) (pn : Int32) (li : Int32) (wc : Int32) (ac : Int64) (dc : Int32) (sc : Int32) (a1 : Nat → Int32) (a2 : Nat → Int32) (a3 : Nat → Int32) (a4 : Nat → Int32) (a5 : Nat → Int32) (a6 : Nat → Int32) (a7 : Nat → Int32) (a8 : Nat → Int32) (a9 : Nat → Int32) (a10 : Nat → Int32) (a11 : Nat → Int32) (a12 : Nat → Int32) (a13 : Nat → Int32) (a14 : Nat → Int32) (a15 : Nat → Int32) (a16 : Nat → Int32) (a17 : Nat → Int32) (a18 : Nat → Int32) (a19 : Nat → Int32) (a20 : Nat → Int32) (a21 : Nat → Int32) (a22 : Nat → Int32) (a23 : Nat → Int32) (a24 : Nat → Int32) (a25 : Nat → Int32) (a26 : Nat → Int32), fq_J (10 * (x10 + 5)) x2 x3 x5 x7 x8 x9 nc fc lv cp nd pn li wc ac dc sc a1 a2 a3 a4 a5 a6 a7 a8 a9 a10 a11 a12 a13 a14 a15 a16 a17 a18 a19 a20 a21 a22 a23 a24 a25 a26 → J x2 x3 x5 x7 x8 x9 (x10 + 5) nc fc lv cp nd pn li wc ac dc sc a1 a2 a3 a4 a5 a6 a7 a8 a9 a10 a11 a12 a13 a14 a15 a16 a17 a18 a19 a20 a21 a22 a23 a24 a25 a26) (g0 : 0 ≤ x10) (g1 : x10 ≤ 300) (h : fq_J (10 * x10) x2 x3 x5 x7 x8 x9 nc fc lv cp nd pn li wc ac dc sc a1 a2 a3 a4 a5 a6 a7 a8 a9 a10 a11 a12 a13 a14 a15 a16 a17 a18 a19 a20 a21 a22 a23 a24 a25 a26) : wL_law_622 post L xs J x2 x3 x5 x7 x8 x9 x10 x11 x14 (-1) (-1) kc ks nc fc lv cp nd pn li wc ac dc sc a1 a2 a3 a4 a5 a6 a7 a8 a9 a10 a11 a12 a13 a14 a15 a16 a17 a18 a19 a20 a21 a22 a23 a24 a25 a26 := by
  have n0 := h.1.1.1
  have n1 := h.1.1.2.1
  have go : ∀ r : Int32, ((r = 0 ∧ ¬ fq_V nc a3 a4) ∨ (r = 1 ∧ fq_V nc a3 a4)) → ((0 ≤ x11 → ((x11 ≤ 50 → wL_law_651 post L xs J x2 x3 x5 x7 x8 x9 x10 x11 x14 (-1) (-1) r x11 kc ks nc fc lv cp nd pn li wc ac dc sc a1 a2 a3 a4 a5 a6 a7 a8 a9 a10 a11 a12 a13 a14 a15 a16 a17 a18 a19 a20 a21 a22 a23 a24 a25 a26) ∧ (¬ x11 ≤ 50 → wL_law_651 post L xs J x2 x3 x5 x7 x8 x9 x10 x11 x14 (-1) (-1) r 50 kc ks nc fc lv cp nd pn li wc ac dc sc a1 a2 a3 a4 a5 a6 a7 a8 a9 a10 a11 a12 a13 a14 a15 a16 a17 a18 a19 a20 a21 a22 a23 a24 a25 a26))) ∧ (¬ 0 ≤ x11 → wL_law_651 post L xs J x2 x3 x5 x7 x8 x9 x10 x11 x14 (-1) (-1) r 0 kc ks nc fc lv cp nd pn li wc ac dc sc a1 a2 a3 a4 a5 a6 a7 a8 a9 a10 a11 a12 a13 a14 a15 a16 a17 a18 a19 a20 a21 a22 a23 a24 a25 a26)) := by
    intro r hv
    have k := fq_651 (post := post) (L := L) (xs := xs) (x11 := x11) (x14 := x14) (kc := kc) (ks := ks) HJ g0 g1 h hv
    unfold fq_cnt at k
    refine br_c (fun a => br_c (fun b => ?_) (fun b => ?_)) (fun a => ?_)
    · rw [if_pos a, if_pos b] at k; exact k
    · rw [if_pos a, if_neg b] at k; exact k
    · rw [if_neg a] at k; exact k
  exact fq_valid n0 n1 (fun v => go 1 (Or.inr ⟨rfl, v⟩)) (fun v => go 0 (Or.inl ⟨rfl, v⟩))
end
end
section
section
variable {nc fc lv cp nd pn li wc : Int32} {ac : Int64} {dc sc : Int32} {a1 a2 a3 a4 a5 a6 a7 a8 a9 a10 a11 a12 a13 a14 a15 a16 a17 a18 a19 a20 a21 a22 a23 a24 a25 a26 : Nat → Int32}
variable {post : Int32 → Prop} {L : Nat} {xs : Nat → Int32} {J : Int32 → Int64 → Int64 → Int32 → Int32 → Int32 → Int32 → Int32 → Int32 → Int32 → Int32 → Int32 → Int32 → Int32 → Int32 → Int64 → Int32 → Int32 → (Nat → Int32) → (Nat → Int32) → (Nat → Int32) → (Nat → Int32) → (Nat → Int32) → (Nat → Int32) → (Nat → Int32) → (Nat → Int32) → (Nat → Int32) → (Nat → Int32) → (Nat → Int32) → (Nat → Int32) → (Nat → Int32) → (Nat → Int32) → (Nat → Int32) → (Nat → Int32) → (Nat → Int32) → (Nat → Int32) → (Nat → Int32) → (Nat → Int32) → (Nat → Int32) → (Nat → Int32) → (Nat → Int32) → (Nat → Int32) → (Nat → Int32) → (Nat → Int32) → Prop} {x2 : Int32} {x3 x5 : Int64} {x7 x8 x9 x10 x11 x12 x13 x14 : Int32} {kc ks : Nat}
theorem fq_l90 {z : Int32} (HJ : ∀ (x2 : Int32) (x3 x5 : Int64) (x7 x8 x9 : Int32) (nc : Int32) (fc : Int32) (lv : Int32) (cp : Int32) (nd : Int32) (pn : Int32) (li : Int32) (wc : Int32) (ac : Int64) (dc : Int32) (sc : Int32) (a1 : Nat → Int32) (a2 : Nat → Int32) (a3 : Nat → Int32) (a4 : Nat → Int32) (a5 : Nat → Int32) (a6 : Nat → Int32) (a7 : Nat → Int32) (a8 : Nat → Int32) (a9 : Nat → Int32) (a10 : Nat → Int32) (a11 : Nat → Int32) (a12 : Nat → Int32) (a13 : Nat → Int32) (a14 : Nat → Int32) (a15 : Nat → Int32) (a16 : Nat → Int32) (a17 : Nat → Int32) (a18 : Nat → Int32) (a19 : Nat → Int32) (a20 : Nat → Int32) (a21 : Nat → Int32) (a22 : Nat → Int32) (a23 : Nat → Int32) (a24 : Nat → Int32) (a25 : Nat → Int32) (a26 : Nat → Int32), fq_J (10 * (x10 + 5)) x2 x3 x5 x7 x8 x9 nc fc lv cp nd pn li wc ac dc sc a1 a2 a3 a4 a5 a6 a7 a8 a9 a10 a11 a12 a13 a14 a15 a16 a17 a18 a19 a20 a21 a22 a23 a24 a25 a26 → J x2 x3 x5 x7 x8 x9 (x10 + 5) nc fc lv cp nd pn li wc ac dc sc a1 a2 a3 a4 a5 a6 a7 a8 a9 a10 a11 a12 a13 a14 a15 a16 a17 a18 a19 a20 a21 a22 a23 a24 a25 a26) (g0 : 0 ≤ x10) (g1 : x10 ≤ 300) (ix : vp_in x10 L) (h : fq_J (10 * x10) x2 x3 x5 x7 x8 x9 nc fc lv cp nd pn li wc ac dc sc a1 a2 a3 a4 a5 a6 a7 a8 a9 a10 a11 a12 a13 a14 a15 a16 a17 a18 a19 a20 a21 a22 a23 a24 a25 a26) (hz : (z = 0 ∧ ¬ fc = 4) ∨ (¬ z = 0 ∧ fc = 4)) :
    wL_law_90 post L xs J x2 x3 x5 x7 x8 x9 x10 x11 x12 x13 x14 (-1) (-1) z kc ks nc fc lv cp nd pn li wc ac dc sc a1 a2 a3 a4 a5 a6 a7 a8 a9 a10 a11 a12 a13 a14 a15 a16 a17 a18 a19 a20 a21 a22 a23 a24 a25 a26 := by
  have m11 := fq_m255 x11 (m := 11) (by decide)
  have made : (x2 = 0 → wL_law_961 post L xs J x2 x3 x5 x7 x8 x9 x10 x11 x12 x13 x14 z 0 kc ks nc fc lv cp nd pn li wc ac dc sc a1 a2 a3 a4 a5 a6 a7 a8 a9 a10 a11 a12 a13 a14 a15 a16 a17 a18 a19 a20 a21 a22 a23 a24 a25 a26) ∧
      (¬ x2 = 0 → (¬ (11 : Int32) = 0 ∧ wL_law_961 post L xs J x2 x3 x5 x7 x8 x9 x10 x11 x12 x13 x14 z ((x11 &&& 255) - (x11 &&& 255) / 11 * 11) kc ks nc fc lv cp nd pn li wc ac dc sc a1 a2 a3 a4 a5 a6 a7 a8 a9 a10 a11 a12 a13 a14 a15 a16 a17 a18 a19 a20 a21 a22 a23 a24 a25 a26)) :=
    ⟨fun e => fq_961 HJ g0 g1 h hz (by decide) (by decide) (fun _ => rfl) (fun ne => absurd e ne), fun ne => ⟨by decide, fq_961 HJ g0 g1 h hz m11.1 (by lia) (fun e => absurd e ne) (fun _ => rfl)⟩⟩
  obtain ⟨hI, e2, e9, s0, s1, hn, hs⟩ := id h
  have n0 := hI.1.1
  have n1 := hI.1.2.1
  have stay : fq_J (10 * (x10 + 5)) x2 x3 x5 x7 x8 x9 nc fc lv cp nd pn li wc ac dc sc a1 a2 a3 a4 a5 a6 a7 a8 a9 a10 a11 a12 a13 a14 a15 a16 a17 a18 a19 a20 a21 a22 a23 a24 a25 a26 := ⟨hI, e2, e9, s0, by lia, hn, hs⟩
  have fin : wL_law_1007 post L xs J x2 x3 x5 x7 x8 x9 x10 x14 (-1) (-1) kc ks nc fc lv cp nd pn li wc ac dc sc a1 a2 a3 a4 a5 a6 a7 a8 a9 a10 a11 a12 a13 a14 a15 a16 a17 a18 a19 a20 a21 a22 a23 a24 a25 a26 := fq_fin7 HJ (by decide) stay
  refine And.intro ix (nm_e (br_c (fun _ => made) (fun _ => br_c (fun _ => made) (fun _ => ?_))))
  refine br_c (fun _ => ?_) (fun _ => br_c (fun _ => ?_) (fun _ => br_c (fun _ => ?_) (fun _ => br_c (fun _ => ?_) (fun _ => br_c (fun _ => ?_) (fun _ => ?_)))))
  · refine fq_input hI (fun c => ?_) (fun c a21' hI' => ?_)
    · exact fq_inn (fun a b => br_f (by decide) (fq_inn (fun a' b' => absurd ⟨a, b, a', b'⟩ c) (fun _ => br_t rfl (br_t rfl fin)))) (fun _ => br_t rfl (br_t rfl fin))
    · have fin' := fq_fin7 (post := post) (L := L) (xs := xs) (x14 := x14) (x15 := -1) (x16 := -1) (kc := kc) (ks := ks) HJ (by decide) (show fq_J (10 * (x10 + 5)) x2 x3 x5 x7 x8 x9 nc fc lv cp nd pn li wc ac dc sc a1 a2 a3 a4 a5 a6 a7 a8 a9 a10 a11 a12 a13 a14 a15 a16 a17 a18 a19 a20 a21' a22 a23 a24 a25 a26 from ⟨hI', e2, e9, s0, by lia, hn, hs⟩)
      exact fq_inn (fun a b => br_f (by decide) (fq_inn (fun a' b' => br_f (by decide) (br_t rfl fin')) (fun c' => absurd c.2.2 c'))) (fun c' => absurd ⟨c.1, c.2.1⟩ c')
  · refine fq_coef hI (fun c => ?_) (fun c a1' a2' hI' => ?_)
    · exact fq_inn (fun a b => br_f (by decide) (fq_inn (fun a' b' => br_f (by decide) (fq_inn (fun a'' b'' => absurd ⟨a, b, a', b', a'', b''⟩ c) (fun _ => br_t rfl (br_t rfl fin)))) (fun _ => br_t rfl (br_t rfl fin)))) (fun _ => br_t rfl (br_t rfl fin))
    · have fin' := fq_fin7 (post := post) (L := L) (xs := xs) (x14 := x14) (x15 := -1) (x16 := -1) (kc := kc) (ks := ks) HJ (by decide) (show fq_J (10 * (x10 + 5)) x2 x3 x5 x7 x8 x9 nc fc lv cp nd pn li wc ac dc sc a1' a2' a3 a4 a5 a6 a7 a8 a9 a10 a11 a12 a13 a14 a15 a16 a17 a18 a19 a20 a21 a22 a23 a24 a25 a26 from ⟨hI', e2, e9, s0, by lia, hn, hs⟩)
      exact fq_inn (fun a b => br_f (by decide) (fq_inn (fun a' b' => br_f (by decide) (fq_inn (fun a'' b'' => br_f (by decide) (br_t rfl fin')) (fun c' => absurd c.2.2.2.2 c'))) (fun c' => absurd ⟨c.2.2.1, c.2.2.2.1⟩ c'))) (fun c' => absurd ⟨c.1, c.2.1⟩ c')
  · refine fq_retract hI (fun e => ?_) (fun ne fc' a9' a21' a22' h9 hI' => ?_)
    · exact br_t (by rw [e2, e]) (br_t rfl (br_t (by lia) fin))
    · exact br_f (by rw [e2]; exact ne) (fq_k2 HJ g0 g1 h (by rw [e2]; exact ne) h9 hI')
  · have yes : 0 ≤ x11 → x11 ≤ 3 → (x12 = -1 ∨ (0 ≤ x12 ∧ x12 ≤ x2 - 1)) → wL_law_354 post L xs J x2 x3 x5 x7 x8 x9 x10 x11 x12 x14 (-1) (-1) kc ks nc fc lv cp nd pn li wc ac dc sc a1 a2 a3 a4 a5 a6 a7 a8 a9 a10 a11 a12 a13 a14 a15 a16 a17 a18 a19 a20 a21 a22 a23 a24 a25 a26 := fun a b c => fq_359 HJ g0 g1 h (Or.inr ⟨rfl, by lia⟩)
    have no : ¬ (0 ≤ x11 ∧ x11 ≤ 3 ∧ (x12 = -1 ∨ (0 ≤ x12 ∧ x12 ≤ x2 - 1))) → wL_law_358 post L xs J x2 x3 x5 x7 x8 x9 x10 x11 x12 x14 (-1) (-1) kc ks nc fc lv cp nd pn li wc ac dc sc a1 a2 a3 a4 a5 a6 a7 a8 a9 a10 a11 a12 a13 a14 a15 a16 a17 a18 a19 a20 a21 a22 a23 a24 a25 a26 := fun c => fq_359 HJ g0 g1 h (Or.inl ⟨rfl, by lia⟩)
    exact fq_inn (fun a b => br_f (by decide) (br_c (fun e => yes a b (Or.inl e)) (fun e => fq_inn (fun a' b' => br_f (by decide) (yes a b (Or.inr ⟨a', b'⟩))) (fun c' => br_t rfl (no (by lia)))))) (fun c => br_t rfl (no (by lia)))
  · refine br_c (fun _ => fin) (fun g => ⟨by lia, nm_e ?_⟩)
    have m := fq_m255 x12 (m := x2) (by lia)
    obtain ⟨j, hj, ej⟩ := pk_andE x11 (m := 3) 2 (by decide)
    have j0 : 0 ≤ x11 &&& 3 := by rw [ej]; exact nI_pos' (by omega)
    have j1 : x11 &&& 3 < 4 := by rw [ej]; exact nI_lt (b := 4) hj (by decide)
    refine fq_output hI (fun c => absurd ⟨j0, j1, by lia, by lia⟩ c) (fun c a9' a21' a22' e hI' => br_f (by decide) (nm_e (nm_e ?_)))
    obtain ⟨f4, fb⟩ := fq_bset hs.1 j0 j1
    refine fq_fin7 (x8 := fq_pf x8 (x11 &&& 3) ((x12 &&& 255) - (x12 &&& 255) / x2 * x2)) HJ (by decide) ⟨hI', e2, rfl, by decide, by lia, hn, f4, fun o o0 o1 => ?_⟩
    have old := hs.2 o o0 o1
    rw [fb o o0 o1, e, fq_fldput j0 j1 o0 o1 m.1 (by lia)]
    by_cases d : o = x11 &&& 3
    · rw [d, fq_us, if_pos rfl]
      exact ⟨fun _ => rfl, fun z => absurd (Or.inl rfl) z⟩
    · rw [fq_un j0 o0 d, if_neg d]
      exact ⟨fun z => old.1 (z.resolve_left d), fun z => old.2 (fun q => z (Or.inr q))⟩
  refine br_c (fun _ => ?_) (fun _ => br_c (fun _ => ?_) (fun _ => br_c (fun _ => ?_) (fun _ => br_c (fun _ => ?_) (fun _ => br_c (fun _ => ?_) (fun _ => br_c (fun _ => ?_) (fun _ => trivial))))))
  · refine br_c (fun e => fq_528 HJ g0 g1 h (by decide) (fun ne => absurd e ne)) (fun ne => ⟨ne, ?_⟩)
    have m := fq_m255 x11 (m := x2) (by lia)
    exact fq_528 HJ g0 g1 h m.1 (fun _ => m.2)
  · exact fq_reset hI.2.2.2.2.1 (fun a21' a22' m z q => fq_fin7 HJ (by decide) ⟨⟨hI.1, hI.2.1, hI.2.2.1, hI.2.2.2.1, m, q, hI.2.2.2.2.2.2.1, fun _ => z, hI.2.2.2.2.2.2.2.2⟩, e2, rfl, by decide, by lia, hn, hs⟩)
  · exact fq_622 HJ g0 g1 h
  · exact fq_622 HJ g0 g1 h
  · exact fq_691 (by lia) (by lia) (fun y => fq_885 HJ g0 g1 h hz (Or.inr ⟨by decide, y⟩)) (fun y => fq_885 HJ g0 g1 h hz (Or.inl ⟨rfl, y⟩))
  · exact fq_691 (by lia) (by lia) (fun y => fq_885 HJ g0 g1 h hz (Or.inr ⟨by decide, y⟩)) (fun y => fq_885 HJ g0 g1 h hz (Or.inl ⟨rfl, y⟩))
theorem fq_fill (hp : post 1) : ∀ (n : Nat) (x : Int32) (nc : Int32) (fc : Int32) (lv : Int32) (cp : Int32) (nd : Int32) (pn : Int32) (li : Int32) (wc : Int32) (ac : Int64) (dc : Int32) (sc : Int32) (a1 : Nat → Int32) (a2 : Nat → Int32) (a3 : Nat → Int32) (a4 : Nat → Int32) (a5 : Nat → Int32) (a6 : Nat → Int32) (a7 : Nat → Int32) (a8 : Nat → Int32) (a9 : Nat → Int32) (a10 : Nat → Int32) (a11 : Nat → Int32) (a12 : Nat → Int32) (a13 : Nat → Int32) (a14 : Nat → Int32) (a15 : Nat → Int32) (a16 : Nat → Int32) (a17 : Nat → Int32) (a18 : Nat → Int32) (a19 : Nat → Int32) (a20 : Nat → Int32) (a21 : Nat → Int32) (a22 : Nat → Int32) (a23 : Nat → Int32) (a24 : Nat → Int32) (a25 : Nat → Int32) (a26 : Nat → Int32), fq_Inv nc fc lv cp nd pn li wc ac dc sc a1 a2 a3 a4 a5 a6 a7 a8 a9 a10 a11 a12 a13 a14 a15 a16 a17 a18 a19 a20 a21 a22 a23 a24 a25 a26 → 0 ≤ x → x ≤ 25 → (25 : Int32).toInt < x.toInt + ((n : Nat) : Int) → (x ≤ nc ∨ nc = 24) → wL_law_1123 post L xs kc ks n nc x nc fc lv cp nd pn li wc ac dc sc a1 a2 a3 a4 a5 a6 a7 a8 a9 a10 a11 a12 a13 a14 a15 a16 a17 a18 a19 a20 a21 a22 a23 a24 a25 a26 := by
  intro n
  induction n with
  | zero => intro x nc fc lv cp nd pn li wc ac dc sc a1 a2 a3 a4 a5 a6 a7 a8 a9 a10 a11 a12 a13 a14 a15 a16 a17 a18 a19 a20 a21 a22 a23 a24 a25 a26 hI i0 i1 hm; exact (fq_z hm i1).elim
  | succ n ih =>
    intro x nc fc lv cp nd pn li wc ac dc sc a1 a2 a3 a4 a5 a6 a7 a8 a9 a10 a11 a12 a13 a14 a15 a16 a17 a18 a19 a20 a21 a22 a23 a24 a25 a26 hI i0 i1 hm hx
    have n0 := hI.1.1
    have n1 := hI.1.2.1
    refine br_c (fun g => ?_) (fun g => ?_)
    · have e : nc = 24 := by lia
      refine fq_node hI (fun _ => br_t rfl ?_) (fun nf => absurd (Or.inl e) nf) (fun nf => absurd (Or.inl e) nf)
      refine fq_output hI (fun c => absurd ⟨by decide, by decide, by decide, by lia⟩ c) (fun c a9' a21' a22' e9 hI' => br_f (by decide) ?_)
      exact fq_output hI' (fun _ => br_t rfl hp) (fun c => absurd c.2.2.2 (by lia))
    · have g' : x < 25 := by lia
      have good : fq_N nc 1 x 0 := by unfold fq_N fq_S; lia (splits := 40)
      refine fq_node hI (fun f => ?_) (fun nf bad => absurd good bad) (fun nf _ fc' a3' a4' a5' a6' a7' a8' a21' a22' e3 hI' => ?_)
      · have e : nc = 24 := by lia
        exact br_t e (br_t rfl (br_t (by lia) (nm_e (ih (x + 1) nc fc lv cp nd pn li wc ac dc sc a1 a2 a3 a4 a5 a6 a7 a8 a9 a10 a11 a12 a13 a14 a15 a16 a17 a18 a19 a20 a21 a22 a23 a24 a25 a26 hI (by lia) (by lia) (fq_n hm g') (Or.inr e)))))
      · have ne : ¬ nc = 24 := by lia
        exact br_f ne (br_t rfl (br_f (by lia) (nm_e (nm_e (ih (x + 1) (nc + 1) fc' lv 0 nd pn li wc ac dc 0 a1 a2 a3' a4' a5' a6' a7' a8' a9 a10 a11 a12 a13 a14 a15 a16 a17 a18 a19 a20 a21' a22' a23 a24 a25 a26 hI' (by lia) (by lia) (fq_n hm g') (by lia))))))
theorem fq_n5 {e x : Int32} {n : Nat} (hm : e.toInt < x.toInt + ((n + 1 : Nat) : Int)) (h0 : 0 ≤ x) (h1 : x ≤ 300) : e.toInt < (x + 5).toInt + ((n : Nat) : Int) := by
  have a := fq_ti h0
  have b := fq_ti h1
  have c : (5 : Int32).toInt = 5 := rfl
  have d : (300 : Int32).toInt = 300 := rfl
  rw [Int32.toInt_zero] at a
  have e2 : (x + 5).toInt = x.toInt + 5 := by
    rw [Int32.toInt_add, c]
    exact Int.bmod_eq_of_le (by omega) (by omega)
  omega
theorem fq_main (hp : post 1) (hL : L ≤ 260) : ∀ (n : Nat) (x2 : Int32) (x3 x5 : Int64) (x7 x8 x9 x10 : Int32) (nc : Int32) (fc : Int32) (lv : Int32) (cp : Int32) (nd : Int32) (pn : Int32) (li : Int32) (wc : Int32) (ac : Int64) (dc : Int32) (sc : Int32) (a1 : Nat → Int32) (a2 : Nat → Int32) (a3 : Nat → Int32) (a4 : Nat → Int32) (a5 : Nat → Int32) (a6 : Nat → Int32) (a7 : Nat → Int32) (a8 : Nat → Int32) (a9 : Nat → Int32) (a10 : Nat → Int32) (a11 : Nat → Int32) (a12 : Nat → Int32) (a13 : Nat → Int32) (a14 : Nat → Int32) (a15 : Nat → Int32) (a16 : Nat → Int32) (a17 : Nat → Int32) (a18 : Nat → Int32) (a19 : Nat → Int32) (a20 : Nat → Int32) (a21 : Nat → Int32) (a22 : Nat → Int32) (a23 : Nat → Int32) (a24 : Nat → Int32) (a25 : Nat → Int32) (a26 : Nat → Int32), 0 ≤ x10 → x10 ≤ nI L → (nI L).toInt < x10.toInt + ((n : Nat) : Int) →
    fq_J (10 * x10) x2 x3 x5 x7 x8 x9 nc fc lv cp nd pn li wc ac dc sc a1 a2 a3 a4 a5 a6 a7 a8 a9 a10 a11 a12 a13 a14 a15 a16 a17 a18 a19 a20 a21 a22 a23 a24 a25 a26 → wL_law_27 post L xs kc ks n x2 x3 x5 x7 x8 x9 x10 nc fc lv cp nd pn li wc ac dc sc a1 a2 a3 a4 a5 a6 a7 a8 a9 a10 a11 a12 a13 a14 a15 a16 a17 a18 a19 a20 a21 a22 a23 a24 a25 a26 := by
  have l0 : 0 ≤ nI L := nI_pos' (by omega)
  have l1 : nI L ≤ 260 := nI_le (b := 260) hL (by decide)
  have lI : (nI L).toInt = L := nI_toInt (by omega)
  intro n
  induction n with
  | zero => intro x2 x3 x5 x7 x8 x9 x10 nc fc lv cp nd pn li wc ac dc sc a1 a2 a3 a4 a5 a6 a7 a8 a9 a10 a11 a12 a13 a14 a15 a16 a17 a18 a19 a20 a21 a22 a23 a24 a25 a26 i0 i1 hm; exact (fq_z hm i1).elim
  | succ n ih =>
    intro x2 x3 x5 x7 x8 x9 x10 nc fc lv cp nd pn li wc ac dc sc a1 a2 a3 a4 a5 a6 a7 a8 a9 a10 a11 a12 a13 a14 a15 a16 a17 a18 a19 a20 a21 a22 a23 a24 a25 a26 i0 i1 hm h
    obtain ⟨hI, e2, e9, s0, s1, hn, hs⟩ := id h
    have n0 := hI.1.1
    have n1 := hI.1.2.1
    refine br_c (fun g => ⟨5000, ?_⟩) (fun g => ?_)
    · subst e2
      exact fq_fill hp 5000 0 x2 fc lv cp nd pn li wc ac dc sc a1 a2 a3 a4 a5 a6 a7 a8 a9 a10 a11 a12 a13 a14 a15 a16 a17 a18 a19 a20 a21 a22 a23 a24 a25 a26 hI (by decide) (by decide) (fq_f (by decide) (by decide)) (Or.inl n0)
    · have g : ¬ nI L - 5 < x10 := g
      have ix : ∀ y : Int32, 0 ≤ y → y < nI L → vp_in y L := fun y y0 y1 => fq_in (nI L) lI y0 y1
      refine ⟨ix _ (by lia) (by lia), nm_e ⟨ix _ (by lia) (by lia), nm_e ⟨ix _ (by lia) (by lia), nm_e ⟨ix _ (by lia) (by lia), nm_e ?_⟩⟩⟩⟩
      subst e2
      refine fq_filters n0 n1 hn ?_
      have HJ : ∀ (x2 : Int32) (x3 x5 : Int64) (x7 x8 x9 : Int32) (nc : Int32) (fc : Int32) (lv : Int32) (cp : Int32) (nd : Int32) (pn : Int32) (li : Int32) (wc : Int32) (ac : Int64) (dc : Int32) (sc : Int32) (a1 : Nat → Int32) (a2 : Nat → Int32) (a3 : Nat → Int32) (a4 : Nat → Int32) (a5 : Nat → Int32) (a6 : Nat → Int32) (a7 : Nat → Int32) (a8 : Nat → Int32) (a9 : Nat → Int32) (a10 : Nat → Int32) (a11 : Nat → Int32) (a12 : Nat → Int32) (a13 : Nat → Int32) (a14 : Nat → Int32) (a15 : Nat → Int32) (a16 : Nat → Int32) (a17 : Nat → Int32) (a18 : Nat → Int32) (a19 : Nat → Int32) (a20 : Nat → Int32) (a21 : Nat → Int32) (a22 : Nat → Int32) (a23 : Nat → Int32) (a24 : Nat → Int32) (a25 : Nat → Int32) (a26 : Nat → Int32), fq_J (10 * (x10 + 5)) x2 x3 x5 x7 x8 x9 nc fc lv cp nd pn li wc ac dc sc a1 a2 a3 a4 a5 a6 a7 a8 a9 a10 a11 a12 a13 a14 a15 a16 a17 a18 a19 a20 a21 a22 a23 a24 a25 a26 → wL_law_27 post L xs kc ks n x2 x3 x5 x7 x8 x9 (x10 + 5) nc fc lv cp nd pn li wc ac dc sc a1 a2 a3 a4 a5 a6 a7 a8 a9 a10 a11 a12 a13 a14 a15 a16 a17 a18 a19 a20 a21 a22 a23 a24 a25 a26 :=
        fun x2 x3 x5 x7 x8 x9 nc fc lv cp nd pn li wc ac dc sc a1 a2 a3 a4 a5 a6 a7 a8 a9 a10 a11 a12 a13 a14 a15 a16 a17 a18 a19 a20 a21 a22 a23 a24 a25 a26 h' => ih x2 x3 x5 x7 x8 x9 (x10 + 5) nc fc lv cp nd pn li wc ac dc sc a1 a2 a3 a4 a5 a6 a7 a8 a9 a10 a11 a12 a13 a14 a15 a16 a17 a18 a19 a20 a21 a22 a23 a24 a25 a26 (by lia) (by lia) (fq_n5 hm i0 (by lia)) h'
      have ef : fc = nI (fq_F a3 x2.toNatClampNeg) := hI.1.2.2.2.1
      rw [← ef]
      exact br_c (fun c => fq_l90 HJ i0 (by lia) (ix _ i0 (by lia)) h (Or.inr ⟨by decide, c⟩)) (fun c => fq_l90 HJ i0 (by lia) (ix _ i0 (by lia)) h (Or.inl ⟨rfl, c⟩))
theorem fq_i242 {post : St1 → Prop} {mc ms : Nat} (H : ∀ a9 : Nat → Int32, (∀ y : Int32, 0 ≤ y → y < 4 → a9 y.toNatClampNeg = -1) → post (nc, fc, lv, cp, nd, pn, li, wc, ac, dc, sc, a1, a2, a3, a4, a5, a6, a7, a8, a9, a10, a11, a12, a13, a14, a15, a16, a17, a18, a19, a20, a21, a22, a23, a24, a25, a26)) :
    ∀ (n : Nat) (x : Int32) (a9 : Nat → Int32), 0 ≤ x → x ≤ 4 → (4 : Int32).toInt < x.toInt + ((n : Nat) : Int) → (∀ y : Int32, 0 ≤ y → y < x → a9 y.toNatClampNeg = -1) → wX_init_242 post mc ms kc ks nc fc lv cp nd pn li wc ac dc sc n x a1 a2 a3 a4 a5 a6 a7 a8 a9 a10 a11 a12 a13 a14 a15 a16 a17 a18 a19 a20 a21 a22 a23 a24 a25 a26 := by
  intro n
  induction n with
  | zero => intro x a9 i0 i1 hm; exact (fq_z hm i1).elim
  | succ n ih =>
    intro x a9 i0 i1 hm h
    refine br_c (fun g => H a9 (fun y y0 y1 => h y y0 (by lia))) (fun g => ?_)
    have g' : x < 4 := by lia
    exact ⟨fq_in4 i0 g', nm_e (nm_e (ih (x + 1) _ (by lia) (by lia) (fq_n hm g') (fq_up (P := fun _ v => v = -1) i0 (fun y y0 y1 ne => h y y0 (by lia)) rfl)))⟩
theorem fq_i222 {post : St1 → Prop} {mc ms : Nat} (H : ∀ a1 a9 : Nat → Int32, (∀ y : Int32, 0 ≤ y → y < 4 → a1 y.toNatClampNeg = 1) → (∀ y : Int32, 0 ≤ y → y < 4 → a9 y.toNatClampNeg = -1) → post (nc, fc, lv, cp, nd, pn, li, wc, ac, dc, sc, a1, a2, a3, a4, a5, a6, a7, a8, a9, a10, a11, a12, a13, a14, a15, a16, a17, a18, a19, a20, a21, a22, a23, a24, a25, a26)) :
    ∀ (n : Nat) (x : Int32) (a1 : Nat → Int32), 0 ≤ x → x ≤ 4 → (4 : Int32).toInt < x.toInt + ((n : Nat) : Int) → (∀ y : Int32, 0 ≤ y → y < x → a1 y.toNatClampNeg = 1) → wX_init_222 post mc ms kc ks nc fc lv cp nd pn li wc ac dc sc n x a1 a2 a3 a4 a5 a6 a7 a8 a9 a10 a11 a12 a13 a14 a15 a16 a17 a18 a19 a20 a21 a22 a23 a24 a25 a26 := by
  intro n
  induction n with
  | zero => intro x a1 i0 i1 hm; exact (fq_z hm i1).elim
  | succ n ih =>
    intro x a1 i0 i1 hm h
    refine br_c (fun g => ⟨5000, fq_i242 (fun a9 h9 => H a1 a9 (fun y y0 y1 => h y y0 (by lia)) h9) 5000 0 a9 (by decide) (by decide) (fq_f (by decide) (by decide)) (fun y y0 y1 => absurd y1 (by lia))⟩) (fun g => ?_)
    have g' : x < 4 := by lia
    exact ⟨fq_in4 i0 g', nm_e (nm_e (ih (x + 1) _ (by lia) (by lia) (fq_n hm g') (fq_up (P := fun _ v => v = 1) i0 (fun y y0 y1 ne => h y y0 (by lia)) rfl)))⟩
theorem fq_start {a1 a9 : Nat → Int32} (h1 : ∀ y : Int32, 0 ≤ y → y < 4 → a1 y.toNatClampNeg = 1) (h9 : ∀ y : Int32, 0 ≤ y → y < 4 → a9 y.toNatClampNeg = -1) :
    fq_J (10 * 0) 0 0 0 0 0 0 0 0 2 0 0 0 0 0 0 0 0 a1 (fun _ => 0) (fun _ => 0) (fun _ => 0) (fun _ => 0) (fun _ => 0) (fun _ => 0) (fun _ => 0) a9 (fun _ => 0) (fun _ => 0) (fun _ => 0) (fun _ => 0) (fun _ => 0) (fun _ => 0) (fun _ => 0) (fun _ => 0) (fun _ => 0) (fun _ => 0) (fun _ => 0) (fun _ => 0) (fun _ => 0) (fun _ => 0) (fun _ => 0) (fun _ => 0) (fun _ => 0) := by
  have s0 : fq_S 0 := ⟨by decide, by decide⟩
  refine ⟨⟨⟨by decide, by decide, fun x x0 x1 => absurd x1 (by lia), rfl, by decide, fun x x0 x1 => absurd x1 (by lia), fun x x0 x1 => absurd x1 (by lia), fun x x0 x1 => s0⟩, ⟨fun x x0 x1 => ?_, fun x x0 x1 => s0⟩, fun x x0 x1 => ?_, ⟨by decide, by decide⟩, fun x x0 x1 => s0, fun x x0 x1 => (show (0 : Int32) ≤ 0 ∧ (0 : Int32) ≤ 5 from ⟨by decide, by decide⟩), fun x x0 x1 => s0, fun _ x x0 x1 => rfl, fun z => absurd rfl z⟩, rfl, rfl, by decide, by decide, fun k k0 k1 => absurd k1 (by lia), ⟨0, by decide, rfl⟩, fun o o0 o1 => ⟨fun z => absurd ?_ z, fun _ => h9 o o0 o1⟩⟩
  · rw [h1 x x0 x1]; exact ⟨by decide, by decide⟩
  · rw [h9 x x0 x1]; exact ⟨by decide, by decide⟩
  · obtain ⟨j, hj, rfl⟩ := nI_of (x := o) (by lia)
    have hj4 := (nI_ltI hj (b := 4) (by decide)).mp o1
    exact (by decide +kernel : ∀ j, j < 4 → ((0 : Int32) >>> (nI j &&& 31)) &&& 1 = 0) j hj4
end
theorem i_vc (xs : Nat → Int32) (L : Nat) (hL : L ≤ 260) : wpL_law (fun r => r = 1) L xs := by
  refine Exists.intro 26 (Exists.intro 3378 ⟨by decide, by decide, ?_⟩)
  refine And.intro (by decide) ⟨by decide, by decide, by decide, by decide, by decide, by decide, by decide, by decide, by decide, by decide, by decide, by decide, by decide, by decide, by decide, by decide, by decide, by decide, by decide, by decide, by decide, by decide, by decide, by decide, by decide, by decide, by decide, by decide, by decide, by decide, by decide, by decide, by decide, by decide, by decide, by decide, by decide, by decide, by decide, by decide, by decide, by decide, by decide, by decide, by decide, by decide, by decide, by decide, by decide, by decide, by decide, 5000, ?_⟩
  refine fq_i222 (fun a1 a9 h1 h9 => ⟨5000, ?_⟩) 5000 0 _ (by decide) (by decide) (fq_f (by decide) (by decide)) (fun y y0 y1 => absurd y1 (by lia))
  exact fq_main (post := fun r => r = 1) rfl hL 5000 0 0 0 0 0 0 0 _ _ _ _ _ _ _ _ _ _ _ _ _ _ _ _ _ _ _ _ _ _ _ _ _ _ _ _ _ _ _ _ _ _ _ _ _ (by decide) (nI_pos' (by omega)) (fq_f (nI_le (b := 4000) (by omega) (by decide)) (by decide)) (fq_start h1 h9)
end
