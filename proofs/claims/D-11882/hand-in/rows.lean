section
/-- place i of a packed array A, eight bits a place -/
def tm_g (A i : Nat) : Nat := (A >>> (8 * i)) % 256
/-- a packed array with v at place i -/
def tm_s (A i v : Nat) : Nat := A ^^^ ((tm_g A i ^^^ v) <<< (8 * i))
/-- hands a number on as a literal (for the kernel's reckoning) -/
def tm_f (A : Nat) (k : Nat → Bool) : Bool := match A with
  | 0 => k 0
  | n + 1 => k (n + 1)
theorem tm_fE (A : Nat) (k : Nat → Bool) : tm_f A k = k A := by cases A <;> rfl
theorem tm_lt (A i : Nat) : tm_g A i < 256 := Nat.mod_lt _ (by decide)
theorem tm_tb (A i k : Nat) : (tm_g A i).testBit k = (decide (k < 8) && A.testBit (8 * i + k)) := by
  unfold tm_g
  rw [show (256 : Nat) = 2 ^ 8 from rfl, Nat.testBit_mod_two_pow, Nat.testBit_shiftRight]
theorem tm_hi {v k : Nat} (hv : v < 256) (hk : ¬ k < 8) : v.testBit k = false :=
  Nat.testBit_lt_two_pow (Nat.lt_of_lt_of_le hv (Nat.pow_le_pow_right (n := 2) (by decide) (show 8 ≤ k by omega)))
theorem tm_gs (A i : Nat) {v : Nat} (hv : v < 256) : tm_g (tm_s A i v) i = v := by
  apply Nat.eq_of_testBit_eq
  intro k
  unfold tm_s
  rw [tm_tb, Nat.testBit_xor, Nat.testBit_shiftLeft, Nat.add_sub_cancel_left, Nat.testBit_xor, tm_tb]
  by_cases hk : k < 8
  · have h1 : decide (k < 8) = true := decide_eq_true hk
    have h2 : decide (8 * i + k ≥ 8 * i) = true := decide_eq_true (by omega)
    rw [h1, h2]
    cases A.testBit (8 * i + k) <;> cases v.testBit k <;> rfl
  · have h1 : decide (k < 8) = false := decide_eq_false hk
    rw [h1, tm_hi hv hk]
    rfl
theorem tm_gn (A i : Nat) {v j : Nat} (hv : v < 256) (hj : j ≠ i) : tm_g (tm_s A i v) j = tm_g A j := by
  apply Nat.eq_of_testBit_eq
  intro k
  unfold tm_s
  rw [tm_tb, tm_tb, Nat.testBit_xor, Nat.testBit_shiftLeft]
  by_cases hk : k < 8
  · have h1 : decide (k < 8) = true := decide_eq_true hk
    rw [h1]
    by_cases hl : 8 * i ≤ 8 * j + k
    · have h3 : (tm_g A i ^^^ v).testBit (8 * j + k - 8 * i) = false := by
        rw [Nat.testBit_xor, tm_hi (tm_lt A i) (by omega), tm_hi hv (by omega)]
        rfl
      rw [h3]
      cases A.testBit (8 * j + k) <;> cases decide (8 * j + k ≥ 8 * i) <;> rfl
    · have h2 : decide (8 * j + k ≥ 8 * i) = false := decide_eq_false (by omega)
      rw [h2]
      cases A.testBit (8 * j + k) <;> rfl
  · have h1 : decide (k < 8) = false := decide_eq_false hk
    rw [h1]
    rfl
/-- the array a holds the packed A -/
def tm_r (a : Nat → Int32) (A n : Nat) : Prop := ∀ i, i < n → a i = nI (tm_g A i)
/-- the array a holds the packed A, each place one less -/
def tm_q (a : Nat → Int32) (A n : Nat) : Prop := ∀ i, i < n → a i = nI (tm_g A i) - 1
theorem tm_rU {a : Nat → Int32} {A n k k' : Nat} {x : Int32} {v : Nat} (h : tm_r a A n) (hk : k' = k) (hx : x = nI v) (hv : v < 256) : tm_r (upd a k' x) (tm_s A k v) n := by
  intro i hi
  rw [hk]
  by_cases e : i = k
  · rw [e, pk_us, tm_gs A k hv, hx]
  · rw [pk_un e, tm_gn A k hv e]
    exact h i hi
theorem tm_qU {a : Nat → Int32} {A n k k' : Nat} {x : Int32} {v : Nat} (h : tm_q a A n) (hk : k' = k) (hx : x = nI v - 1) (hv : v < 256) : tm_q (upd a k' x) (tm_s A k v) n := by
  intro i hi
  rw [hk]
  by_cases e : i = k
  · rw [e, pk_us, tm_gs A k hv, hx]
  · rw [pk_un e, tm_gn A k hv e]
    exact h i hi
theorem tm_by : ∀ v, v < 128 → (nI v).toInt8.toInt32 = nI v := by decide +kernel
theorem tm_bq : ∀ v, v < 128 → (nI v - 1).toInt8.toInt32 = nI v - 1 := by decide +kernel
theorem tm_bn {v : Nat} (h : v < 128) : vp_nar .byte (nI v - 1) = nI v - 1 := by
  rw [vp_nar_byte, tm_bq v h]
theorem tm_q0 : ∀ v, v < 256 → (0 ≤ nI v - 1 ↔ 1 ≤ v) := by decide +kernel
theorem tm_qe {a b : Nat} (ha : a < 256) (hb : b < 256) : nI a - 1 = nI b - 1 ↔ a = b := by
  constructor
  · intro h
    have h2 : nI a - 1 + 1 = nI b - 1 + 1 := by rw [h]
    rw [Int32.sub_add_cancel, Int32.sub_add_cancel] at h2
    exact (nI_eq (by omega) (by omega)).mp h2
  · intro h
    rw [h]
theorem tm_ix (c p d : Nat) : nI c * nI p + nI d = nI (c * p + d) := by rw [pk_mul, nI_add]
theorem tm_ix3 (c p d e j : Nat) : nI c * nI p + nI d * nI e + nI j = nI (c * p + d * e + j) := by rw [pk_mul, pk_mul, nI_add, nI_add]
theorem tm_bT {x y : Bool} (h : (x && y) = true) : x = true ∧ y = true := by
  cases x <;> cases y <;> simp_all
theorem tm_blt {a b : Nat} (h : Nat.blt a b = true) : a < b := by
  unfold Nat.blt at h
  exact Nat.le_of_ble_eq_true h
/-- a branch of the reckoning -/
theorem tm_cle {a b : Nat} {x y : Bool} (h : (bif Nat.ble a b then x else y) = true) : (a ≤ b ∧ x = true) ∨ (b < a ∧ y = true) := by
  cases e : Nat.ble a b
  · rw [e] at h
    refine Or.inr ⟨?_, h⟩
    rcases Nat.lt_or_ge b a with z | z
    · exact z
    · rw [Nat.ble_eq_true_of_le z] at e
      exact absurd e (by decide)
  · rw [e] at h
    exact Or.inl ⟨Nat.le_of_ble_eq_true e, h⟩
theorem tm_ceq {a b : Nat} {x y : Bool} (h : (bif Nat.beq a b then x else y) = true) : (a = b ∧ x = true) ∨ (a ≠ b ∧ y = true) := by
  cases e : Nat.beq a b
  · rw [e] at h
    refine Or.inr ⟨fun z => ?_, h⟩
    rw [z, Nat.beq_refl] at e
    exact absurd e (by decide)
  · rw [e] at h
    exact Or.inl ⟨Nat.eq_of_beq_eq_true e, h⟩
end
section
/-- addRow, reckoned: a row of a pattern goes into the tree of words -/
def tm_row (PT w p i : Nat) (k : Nat → Nat → Nat → Nat → Bool) : Nat → Nat → Nat → Nat → Nat → Nat → Nat → Bool
  | 0 => fun _ _ _ _ _ _ => false
  | n + 1 => fun nd j nc br re rn =>
    bif Nat.ble w j then
      Nat.blt (49 * p + nd) 147 && (bif Nat.ble 1 (tm_g re (49 * p + nd)) then
        Nat.blt (tm_g re (49 * p + nd)) 128 && tm_f (tm_s rn (4 * p + i) (tm_g re (49 * p + nd))) (fun rn' => k nc br re rn')
      else tm_f (tm_s re (49 * p + nd) (i + 1)) (fun re' => tm_f (tm_s rn (4 * p + i) (i + 1)) (fun rn' => k nc br re' rn')))
    else Nat.blt (3 * nd + tm_g PT (16 * p + 4 * i + j)) 147 && (bif Nat.beq (tm_g br (3 * nd + tm_g PT (16 * p + 4 * i + j))) 0 then
        Nat.blt nc 128 && tm_f (tm_s br (3 * nd + tm_g PT (16 * p + 4 * i + j)) nc) (fun br' => tm_row PT w p i k n nc (j + 1) (nc + 1) br' re rn)
      else tm_f (tm_g br (3 * nd + tm_g PT (16 * p + 4 * i + j))) (fun nd' => tm_row PT w p i k n nd' (j + 1) nc br re rn))
theorem tm_row_ok {post : St2 → Prop} {p i w PT : Nat} (hp : p < 3) (hi : i < 4) (hw : w ≤ 4) {wi he sd : Int32} {a1 a2 a3 a4 a6 a7 a10 a11 a12 : Nat → Int32} (h2 : a2 p = nI w) (h4 : tm_r a4 PT 48) {k : Nat → Nat → Nat → Nat → Bool}
    (H : ∀ nc br re rn a5 a8 a9, tm_r a5 br 147 → tm_q a8 re 147 → tm_q a9 rn 12 → k nc br re rn = true → post (wi, he, nI nc, sd, a1, a2, a3, a4, a5, a6, a7, a8, a9, a10, a11, a12)) :
    ∀ n nd j nc br re rn a5 a8 a9, j ≤ 4 → tm_r a5 br 147 → tm_q a8 re 147 → tm_q a9 rn 12 → tm_row PT w p i k n nd j nc br re rn = true →
      wX_addRow_5 post (nI p) (nI i) wi he sd n (nI nd) (nI j) (nI nc) a1 a2 a3 a4 a5 a6 a7 a8 a9 a10 a11 a12 := by
  intro n
  induction n with
  | zero =>
    intro nd j nc br re rn a5 a8 a9 hj r5 r8 r9 h
    exact absurd h Bool.false_ne_true
  | succ n ih =>
    intro nd j nc br re rn a5 a8 a9 hj r5 r8 r9 h
    have hx : a2 (nI p).toNatClampNeg = nI w := by rw [nI_clamp (show p < 2 ^ 31 by omega)]; exact h2
    have e4 : (nI 4 * nI p + nI i).toNatClampNeg = 4 * p + i := pk_cl (4 * p + i) (tm_ix 4 p i)
    simp only [tm_row, tm_fE] at h
    refine And.intro (pk_in p 3 hp) ?_
    rcases tm_cle h with ⟨hc, h⟩ | ⟨hc, h⟩
    · obtain ⟨hb, h⟩ := tm_bT h
      have hb := tm_blt hb
      have e2 : (nI (49 * p + nd)).toNatClampNeg = 49 * p + nd := nI_clamp (by omega)
      have e3 : a8 (nI (49 * p + nd)).toNatClampNeg = nI (tm_g re (49 * p + nd)) - 1 := by rw [e2]; exact r8 _ hb
      refine pk_le w j (fun _ => ?_) (fun z => absurd z (by omega)) hx rfl
      refine nm_r (tm_ix 49 p nd) ?_
      refine And.intro (pk_in (49 * p + nd) 147 hb) ?_
      rcases tm_cle h with ⟨hd, h⟩ | ⟨hd, h⟩
      · obtain ⟨hf, h⟩ := tm_bT h
        have hf := tm_blt hf
        refine br_t (by rw [e3]; exact (tm_q0 _ (tm_lt _ _)).mpr hd) ?_
        refine And.intro (pk_in (49 * p + nd) 147 hb) (And.intro (pk_in (4 * p + i) 12 (by omega) (tm_ix 4 p i)) (nm_e ?_))
        exact H nc br re _ a5 a8 _ r5 r8 (tm_qU r9 e4 (by rw [e3, tm_bn hf]) (tm_lt _ _)) h
      · refine br_f (by rw [e3]; exact fun z => absurd ((tm_q0 _ (tm_lt _ _)).mp z) (by omega)) ?_
        refine And.intro (pk_in (49 * p + nd) 147 hb) (nm_e ?_)
        have e5 : (nI i).toInt8.toInt32 = nI (i + 1) - 1 := by rw [tm_by i (by omega), nI_pred]
        refine And.intro (pk_in (49 * p + nd) 147 hb) (And.intro (pk_in (4 * p + i) 12 (by omega) (tm_ix 4 p i)) (nm_e ?_))
        exact H nc br _ _ a5 _ _ r5 (tm_qU r8 e2 e5 (by omega)) (tm_qU r9 e4 (by rw [pk_us, e5, tm_bn (by omega)]) (by omega)) h
    · obtain ⟨hb, h⟩ := tm_bT h
      have hb := tm_blt hb
      have e5 : nI 16 * nI p + nI 4 * nI i + nI j = nI (16 * p + 4 * i + j) := tm_ix3 16 p 4 i j
      have e6 : (nI (3 * nd + tm_g PT (16 * p + 4 * i + j))).toNatClampNeg = 3 * nd + tm_g PT (16 * p + 4 * i + j) := nI_clamp (by omega)
      have e7 : nI 3 * nI nd + a4 (nI 16 * nI p + nI 4 * nI i + nI j).toNatClampNeg = nI (3 * nd + tm_g PT (16 * p + 4 * i + j)) := by
        rw [pk_cl (16 * p + 4 * i + j) e5, h4 _ (by omega)]
        exact tm_ix 3 nd _
      refine pk_le w j (fun z => absurd z (by omega)) (fun _ => ?_) hx rfl
      refine And.intro (pk_in (16 * p + 4 * i + j) 48 (by omega) e5) (nm_r e7 ?_)
      refine And.intro (pk_in _ 147 hb) ?_
      rcases tm_ceq h with ⟨hd, h⟩ | ⟨hd, h⟩
      · obtain ⟨hf, h⟩ := tm_bT h
        have hf := tm_blt hf
        refine br_t (by rw [e6, r5 _ hb, hd]; rfl) ?_
        refine And.intro (pk_in _ 147 hb) (nm_e (nm_r (nI_1 nc) ?_))
        refine And.intro (pk_in _ 147 hb) (nm_r (e' := nI nc) (by rw [pk_us, tm_by nc hf]) (nm_r (nI_1 j) ?_))
        exact ih nc (j + 1) (nc + 1) _ re rn _ a8 a9 (by omega) (tm_rU r5 e6 (tm_by nc hf) (by omega)) r8 r9 h
      · refine br_f (by rw [e6, r5 _ hb]; exact fun z => hd ((nI_eq (Nat.lt_trans (tm_lt _ _) (by decide)) (by decide)).mp z)) ?_
        refine And.intro (pk_in _ 147 hb) (nm_r (e' := nI (tm_g br (3 * nd + tm_g PT (16 * p + 4 * i + j)))) (by rw [e6, r5 _ hb]) (nm_r (nI_1 j) ?_))
        exact ih _ (j + 1) nc br re rn a5 a8 a9 (by omega) r5 r8 r9 h
/-- the rows of one pattern -/
def tm_rows (PT w h p : Nat) (k : Nat → Nat → Nat → Nat → Bool) : Nat → Nat → Nat → Nat → Nat → Nat → Bool
  | 0 => fun _ _ _ _ _ => false
  | n + 1 => fun i nc br re rn => bif Nat.ble h i then k nc br re rn else tm_row PT w p i (fun nc br re rn => tm_rows PT w h p k n (i + 1) nc br re rn) 5 0 0 nc br re rn
theorem tm_rows_ok {post : St2 → Prop} {J : Int32 → Int32 → Int32 → Int32 → Int32 → (Nat → Int32) → (Nat → Int32) → (Nat → Int32) → (Nat → Int32) → (Nat → Int32) → (Nat → Int32) → (Nat → Int32) → (Nat → Int32) → (Nat → Int32) → (Nat → Int32) → (Nat → Int32) → (Nat → Int32) → Prop} {p w ht PT : Nat} (hp : p < 3) (hh : ht ≤ 4) (hw : w ≤ 4) {wi he sd : Int32} {a1 a2 a3 a4 a6 a7 a10 a11 a12 : Nat → Int32} (h2 : a2 p = nI w) (h3 : a3 p = nI ht) (h4 : tm_r a4 PT 48) {k : Nat → Nat → Nat → Nat → Bool}
    (H : ∀ nc br re rn a5 a8 a9, tm_r a5 br 147 → tm_q a8 re 147 → tm_q a9 rn 12 → k nc br re rn = true → J (nI (p + 1)) wi he (nI nc) sd a1 a2 a3 a4 a5 a6 a7 a8 a9 a10 a11 a12) :
    ∀ n i nc br re rn a5 a8 a9, i ≤ 4 → tm_r a5 br 147 → tm_q a8 re 147 → tm_q a9 rn 12 → tm_rows PT w ht p k n i nc br re rn = true →
      wX_buildAutomaton_43 post J (nI p) n (nI i) wi he (nI nc) sd a1 a2 a3 a4 a5 a6 a7 a8 a9 a10 a11 a12 := by
  intro n
  induction n with
  | zero =>
    intro i nc br re rn a5 a8 a9 hi r5 r8 r9 h
    exact absurd h Bool.false_ne_true
  | succ n ih =>
    intro i nc br re rn a5 a8 a9 hi r5 r8 r9 h
    have hx : a3 (nI p).toNatClampNeg = nI ht := by rw [nI_clamp (show p < 2 ^ 31 by omega)]; exact h3
    simp only [tm_rows] at h
    refine And.intro (pk_in p 3 hp) ?_
    rcases tm_cle h with ⟨hc, h⟩ | ⟨hc, h⟩
    · exact pk_le ht i (fun _ => nm_r (nI_1 p) (H nc br re rn a5 a8 a9 r5 r8 r9 h)) (fun z => absurd z (by omega)) hx rfl
    · refine pk_le ht i (fun z => absurd z (by omega)) (fun _ => ?_) hx rfl
      refine Exists.intro 5 ?_
      exact tm_row_ok hp (by omega) hw h2 h4 (fun nc br re rn a5 a8 a9 r5 r8 r9 hk => nm_r (nI_1 i) (ih (i + 1) nc br re rn a5 a8 a9 (by omega) r5 r8 r9 hk)) 5 0 0 nc br re rn a5 a8 a9 (by omega) r5 r8 r9 h
end
section
/-- linkNodes, reckoned: the letters behind one node -/
def tm_l103 (nd sh : Nat) (k : Nat → Nat → Nat → Nat → Bool) : Nat → Nat → Nat → Nat → Nat → Nat → Bool
  | 0 => fun _ _ _ _ _ => false
  | n + 1 => fun en l br fb qu => bif Nat.ble 3 l then k en br fb qu else
      Nat.blt (tm_g br (3 * sh + l)) 49 && (bif Nat.beq (tm_g br (3 * nd + l)) 0 then
        tm_f (tm_s br (3 * nd + l) (tm_g br (3 * sh + l))) (fun br' => tm_l103 nd sh k n en (l + 1) br' fb qu)
      else Nat.blt (tm_g br (3 * nd + l)) 49 && (Nat.blt en 49 &&
        tm_f (tm_s fb (tm_g br (3 * nd + l)) (tm_g br (3 * sh + l))) (fun fb' => tm_f (tm_s qu en (tm_g br (3 * nd + l))) (fun qu' => tm_l103 nd sh k n (en + 1) (l + 1) br fb' qu'))))
theorem tm_l103_ok {post : St2 → Prop} {J : Int32 → Int32 → Int32 → Int32 → Int32 → Int32 → (Nat → Int32) → (Nat → Int32) → (Nat → Int32) → (Nat → Int32) → (Nat → Int32) → (Nat → Int32) → (Nat → Int32) → (Nat → Int32) → (Nat → Int32) → (Nat → Int32) → (Nat → Int32) → (Nat → Int32) → Prop} {pos nd sh : Nat} (hn : nd < 49) (hs : sh < 49) {wi he nc sd : Int32} {a1 a2 a3 a4 a8 a9 a10 a11 a12 : Nat → Int32} {k : Nat → Nat → Nat → Nat → Bool}
    (H : ∀ en br fb qu a5 a6 a7, en ≤ 49 → tm_r a5 br 147 → tm_r a6 fb 49 → tm_r a7 qu 49 → k en br fb qu = true → J (nI en) (nI (pos + 1)) wi he nc sd a1 a2 a3 a4 a5 a6 a7 a8 a9 a10 a11 a12) :
    ∀ n en l br fb qu a5 a6 a7, en ≤ 49 → l ≤ 3 → tm_r a5 br 147 → tm_r a6 fb 49 → tm_r a7 qu 49 → tm_l103 nd sh k n en l br fb qu = true →
      wX_linkNodes_103 post J (nI pos) (nI nd) (nI sh) wi he nc sd n (nI en) (nI l) a1 a2 a3 a4 a5 a6 a7 a8 a9 a10 a11 a12 := by
  intro n
  induction n with
  | zero =>
    intro en l br fb qu a5 a6 a7 hen hl r5 r6 r7 h
    exact absurd h Bool.false_ne_true
  | succ n ih =>
    intro en l br fb qu a5 a6 a7 hen hl r5 r6 r7 h
    simp only [tm_l103, tm_fE] at h
    rcases tm_cle h with ⟨hc, h⟩ | ⟨hc, h⟩
    · exact pk_le 3 l (fun _ => nm_r (nI_1 pos) (H en br fb qu a5 a6 a7 hen r5 r6 r7 h)) (fun z => absurd z (by omega))
    · obtain ⟨hb, h⟩ := tm_bT h
      have hb := tm_blt hb
      have e1 : (nI 3 * nI nd + nI l).toNatClampNeg = 3 * nd + l := pk_cl (3 * nd + l) (tm_ix 3 nd l)
      have e2 : (nI 3 * nI sh + nI l).toNatClampNeg = 3 * sh + l := pk_cl (3 * sh + l) (tm_ix 3 sh l)
      have e3 : a5 (nI 3 * nI nd + nI l).toNatClampNeg = nI (tm_g br (3 * nd + l)) := by rw [e1]; exact r5 _ (by omega)
      have e4 : a5 (nI 3 * nI sh + nI l).toNatClampNeg = nI (tm_g br (3 * sh + l)) := by rw [e2]; exact r5 _ (by omega)
      refine pk_le 3 l (fun z => absurd z (by omega)) (fun _ => ?_)
      refine And.intro (pk_in (3 * nd + l) 147 (by omega) (tm_ix 3 nd l)) (nm_r e3 ?_)
      refine And.intro (pk_in (3 * sh + l) 147 (by omega) (tm_ix 3 sh l)) (nm_r e4 ?_)
      rcases tm_ceq h with ⟨hd, h⟩ | ⟨hd, h⟩
      · refine br_t (by rw [hd]; rfl) ?_
        refine And.intro (pk_in (3 * nd + l) 147 (by omega) (tm_ix 3 nd l)) (nm_e (nm_r (nI_1 l) ?_))
        exact ih en (l + 1) _ fb qu _ a6 a7 hen (by omega) (tm_rU r5 e1 (tm_by _ (by omega)) (tm_lt _ _)) r6 r7 h
      · obtain ⟨hf, h⟩ := tm_bT h
        have hf := tm_blt hf
        obtain ⟨hg, h⟩ := tm_bT h
        have hg := tm_blt hg
        refine br_f (fun z => hd ((nI_eq (by omega) (by decide)).mp z)) ?_
        refine And.intro (pk_in _ 49 hf) (nm_e ?_)
        refine And.intro (pk_in en 49 hg) (nm_e (nm_r (nI_1 en) (nm_r (nI_1 l) ?_)))
        exact ih (en + 1) (l + 1) br _ _ a5 _ _ (by omega) (by omega) r5 (tm_rU r6 (nI_clamp (by omega)) (tm_by _ (by omega)) (tm_lt _ _)) (tm_rU r7 (nI_clamp (by omega)) (tm_by _ (by omega)) (tm_lt _ _)) h
/-- the row endings that one node inherits -/
def tm_l79 (nd sh : Nat) (k : Nat → Bool) : Nat → Nat → Nat → Bool
  | 0 => fun _ _ => false
  | n + 1 => fun p re => bif Nat.ble 3 p then k re else
      bif Nat.ble 1 (tm_g re (49 * p + nd)) then tm_l79 nd sh k n (p + 1) re
      else Nat.blt (tm_g re (49 * p + sh)) 128 && tm_f (tm_s re (49 * p + nd) (tm_g re (49 * p + sh))) (fun re' => tm_l79 nd sh k n (p + 1) re')
theorem tm_l79_ok {post : St2 → Prop} {J : Int32 → Int32 → Int32 → Int32 → Int32 → Int32 → (Nat → Int32) → (Nat → Int32) → (Nat → Int32) → (Nat → Int32) → (Nat → Int32) → (Nat → Int32) → (Nat → Int32) → (Nat → Int32) → (Nat → Int32) → (Nat → Int32) → (Nat → Int32) → (Nat → Int32) → Prop} {en pos nd sh : Nat} (hn : nd < 49) (hs : sh < 49) {wi he nc sd : Int32} {a1 a2 a3 a4 a5 a6 a7 a9 a10 a11 a12 : Nat → Int32} {k : Nat → Bool}
    (H : ∀ re a8, tm_q a8 re 147 → k re = true → ∃ fu, wX_linkNodes_103 post J (nI pos) (nI nd) (nI sh) wi he nc sd fu (nI en) 0 a1 a2 a3 a4 a5 a6 a7 a8 a9 a10 a11 a12) :
    ∀ n p re a8, p ≤ 3 → tm_q a8 re 147 → tm_l79 nd sh k n p re = true →
      wX_linkNodes_79 post J (nI en) (nI pos) (nI nd) (nI sh) n (nI p) wi he nc sd a1 a2 a3 a4 a5 a6 a7 a8 a9 a10 a11 a12 := by
  intro n
  induction n with
  | zero =>
    intro p re a8 hp r8 h
    exact absurd h Bool.false_ne_true
  | succ n ih =>
    intro p re a8 hp r8 h
    simp only [tm_l79, tm_fE] at h
    rcases tm_cle h with ⟨hc, h⟩ | ⟨hc, h⟩
    · exact pk_le 3 p (fun _ => H re a8 r8 h) (fun z => absurd z (by omega))
    · have e1 : (nI 49 * nI p + nI nd).toNatClampNeg = 49 * p + nd := pk_cl (49 * p + nd) (tm_ix 49 p nd)
      have e2 : (nI 49 * nI p + nI sh).toNatClampNeg = 49 * p + sh := pk_cl (49 * p + sh) (tm_ix 49 p sh)
      have e3 : a8 (nI 49 * nI p + nI nd).toNatClampNeg = nI (tm_g re (49 * p + nd)) - 1 := by rw [e1]; exact r8 _ (by omega)
      have e4 : a8 (nI 49 * nI p + nI sh).toNatClampNeg = nI (tm_g re (49 * p + sh)) - 1 := by rw [e2]; exact r8 _ (by omega)
      refine pk_le 3 p (fun z => absurd z (by omega)) (fun _ => ?_)
      refine And.intro (pk_in (49 * p + nd) 147 (by omega) (tm_ix 49 p nd)) ?_
      rcases tm_cle h with ⟨hd, h⟩ | ⟨hd, h⟩
      · refine br_t (ek_v (P := fun z => 0 ≤ z) e3 ((tm_q0 _ (tm_lt _ _)).mpr hd)) ?_
        exact nm_r (nI_1 p) (ih (p + 1) re a8 (by omega) r8 h)
      · obtain ⟨hf, h⟩ := tm_bT h
        have hf := tm_blt hf
        refine br_f (ek_v (P := fun z => ¬ 0 ≤ z) e3 (fun z => absurd ((tm_q0 _ (tm_lt _ _)).mp z) (by omega))) ?_
        refine And.intro (pk_in (49 * p + sh) 147 (by omega) (tm_ix 49 p sh)) (And.intro (pk_in (49 * p + nd) 147 (by omega) (tm_ix 49 p nd)) (nm_e ?_))
        refine nm_r (nI_1 p) (ih (p + 1) _ _ (by omega) (tm_qU r8 e1 ?_ (tm_lt _ _)) h)
        exact ek_v (P := fun z => vp_nar .byte z = nI (tm_g re (49 * p + sh)) - 1) e4 (tm_bn hf)
/-- the nodes in their order -/
def tm_l56 (k : Nat → Nat → Bool) : Nat → Nat → Nat → Nat → Nat → Nat → Nat → Bool
  | 0 => fun _ _ _ _ _ _ => false
  | n + 1 => fun en pos br re fb qu => bif Nat.ble en pos then k br re else
      Nat.blt (tm_g qu pos) 49 && (Nat.blt (tm_g fb (tm_g qu pos)) 49 &&
        tm_l79 (tm_g qu pos) (tm_g fb (tm_g qu pos)) (fun re' => tm_l103 (tm_g qu pos) (tm_g fb (tm_g qu pos)) (fun en' br' fb' qu' => tm_l56 k n en' (pos + 1) br' re' fb' qu') 4 en 0 br fb qu) 4 0 re)
theorem tm_l56_ok {post : St2 → Prop} {wi he nc sd : Int32} {a1 a2 a3 a4 a9 a10 a11 a12 : Nat → Int32} {k : Nat → Nat → Bool}
    (H : ∀ br re a5 a6 a7 a8, tm_r a5 br 147 → tm_q a8 re 147 → k br re = true → post (wi, he, nc, sd, a1, a2, a3, a4, a5, a6, a7, a8, a9, a10, a11, a12)) :
    ∀ n en pos br re fb qu a5 a6 a7 a8, en ≤ 49 → pos ≤ 49 → tm_r a5 br 147 → tm_r a6 fb 49 → tm_r a7 qu 49 → tm_q a8 re 147 → tm_l56 k n en pos br re fb qu = true →
      wX_linkNodes_56 post n (nI en) (nI pos) wi he nc sd a1 a2 a3 a4 a5 a6 a7 a8 a9 a10 a11 a12 := by
  intro n
  induction n with
  | zero =>
    intro en pos br re fb qu a5 a6 a7 a8 hen hpos r5 r6 r7 r8 h
    exact absurd h Bool.false_ne_true
  | succ n ih =>
    intro en pos br re fb qu a5 a6 a7 a8 hen hpos r5 r6 r7 r8 h
    simp only [tm_l56] at h
    rcases tm_cle h with ⟨hc, h⟩ | ⟨hc, h⟩
    · exact pk_le en pos (fun _ => H br re a5 a6 a7 a8 r5 r8 h) (fun z => absurd z (by omega))
    · obtain ⟨hb, h⟩ := tm_bT h
      have hb := tm_blt hb
      obtain ⟨hd, h⟩ := tm_bT h
      have hd := tm_blt hd
      have e1 : a7 (nI pos).toNatClampNeg = nI (tm_g qu pos) := by rw [nI_clamp (by omega)]; exact r7 _ (by omega)
      have e2 : a6 (nI (tm_g qu pos)).toNatClampNeg = nI (tm_g fb (tm_g qu pos)) := by rw [nI_clamp (by omega)]; exact r6 _ hb
      refine pk_le en pos (fun z => absurd z (by omega)) (fun _ => ?_)
      refine And.intro (pk_in pos 49 (by omega)) (nm_r e1 ?_)
      refine And.intro (pk_in _ 49 hb) (nm_r e2 ?_)
      refine Exists.intro 4 ?_
      exact tm_l79_ok hb hd (fun re' a8' r8' hk => Exists.intro 4 (tm_l103_ok hb hd (fun en' br' fb' qu' a5' a6' a7' hen' r5' r6' r7' hk' => ih en' (pos + 1) br' re' fb' qu' a5' a6' a7' a8' hen' (by omega) r5' r6' r7' r8' hk') 4 en 0 br fb qu a5 a6 a7 hen (by omega) r5 r6 r7 hk)) 4 0 re a8 (by omega) r8 h
/-- the children of node 0 -/
def tm_l11 (br : Nat) (k : Nat → Nat → Nat → Bool) : Nat → Nat → Nat → Nat → Nat → Bool
  | 0 => fun _ _ _ _ => false
  | n + 1 => fun en l fb qu => bif Nat.ble 3 l then k en fb qu else
      bif Nat.beq (tm_g br l) 0 then tm_l11 br k n en (l + 1) fb qu
      else Nat.blt (tm_g br l) 49 && (Nat.blt en 49 && tm_f (tm_s fb (tm_g br l) 0) (fun fb' => tm_f (tm_s qu en (tm_g br l)) (fun qu' => tm_l11 br k n (en + 1) (l + 1) fb' qu')))
theorem tm_l11_ok {post : St2 → Prop} {wi he nc sd : Int32} {a1 a2 a3 a4 a5 a8 a9 a10 a11 a12 : Nat → Int32} {br : Nat} (r5 : tm_r a5 br 147) {k : Nat → Nat → Nat → Bool}
    (H : ∀ en fb qu a6 a7, en ≤ 49 → tm_r a6 fb 49 → tm_r a7 qu 49 → k en fb qu = true → ∃ fu, wX_linkNodes_56 post fu (nI en) 0 wi he nc sd a1 a2 a3 a4 a5 a6 a7 a8 a9 a10 a11 a12) :
    ∀ n en l fb qu a6 a7, en ≤ 49 → l ≤ 3 → tm_r a6 fb 49 → tm_r a7 qu 49 → tm_l11 br k n en l fb qu = true →
      wX_linkNodes_11 post wi he nc sd n (nI en) (nI l) a1 a2 a3 a4 a5 a6 a7 a8 a9 a10 a11 a12 := by
  intro n
  induction n with
  | zero =>
    intro en l fb qu a6 a7 hen hl r6 r7 h
    exact absurd h Bool.false_ne_true
  | succ n ih =>
    intro en l fb qu a6 a7 hen hl r6 r7 h
    simp only [tm_l11, tm_fE] at h
    rcases tm_cle h with ⟨hc, h⟩ | ⟨hc, h⟩
    · exact pk_le 3 l (fun _ => H en fb qu a6 a7 hen r6 r7 h) (fun z => absurd z (by omega))
    · have e1 : a5 (nI l).toNatClampNeg = nI (tm_g br l) := by rw [nI_clamp (by omega)]; exact r5 _ (by omega)
      refine pk_le 3 l (fun z => absurd z (by omega)) (fun _ => ?_)
      refine And.intro (pk_in l 147 (by omega)) (nm_r e1 ?_)
      rcases tm_ceq h with ⟨hd, h⟩ | ⟨hd, h⟩
      · refine br_t (by rw [hd]; rfl) (nm_r (nI_1 l) ?_)
        exact ih en (l + 1) fb qu a6 a7 hen (by omega) r6 r7 h
      · obtain ⟨hf, h⟩ := tm_bT h
        have hf := tm_blt hf
        obtain ⟨hg, h⟩ := tm_bT h
        have hg := tm_blt hg
        refine br_f (fun z => hd ((nI_eq (by omega) (by decide)).mp z)) ?_
        refine And.intro (pk_in _ 49 hf) (nm_e ?_)
        refine And.intro (pk_in en 49 hg) (nm_e (nm_r (nI_1 en) (nm_r (nI_1 l) ?_)))
        exact ih (en + 1) (l + 1) _ _ _ _ (by omega) (by omega) (tm_rU r6 (nI_clamp (by omega)) rfl (by decide)) (tm_rU r7 (nI_clamp (by omega)) (tm_by _ (by omega)) (tm_lt _ _)) h
end
section
/-- linkNodes, reckoned -/
def tm_link (k : Nat → Nat → Bool) (br re fb qu : Nat) : Bool := tm_f (tm_s fb 0 0) (fun fb => tm_l11 br (fun en fb' qu' => tm_l56 k 50 en 0 br re fb' qu') 4 0 0 fb qu)
theorem tm_link_ok {post : St2 → Prop} {wi he nc sd : Int32} {a1 a2 a3 a4 a5 a6 a7 a8 a9 a10 a11 a12 : Nat → Int32} {br re fb qu : Nat} (r5 : tm_r a5 br 147) (r6 : tm_r a6 fb 49) (r7 : tm_r a7 qu 49) (r8 : tm_q a8 re 147) {k : Nat → Nat → Bool}
    (H : ∀ br re a5 a6 a7 a8, tm_r a5 br 147 → tm_q a8 re 147 → k br re = true → post (wi, he, nc, sd, a1, a2, a3, a4, a5, a6, a7, a8, a9, a10, a11, a12))
    (h : tm_link k br re fb qu = true) : wpX_linkNodes post (wi, he, nc, sd, a1, a2, a3, a4, a5, a6, a7, a8, a9, a10, a11, a12) := by
  simp only [tm_link, tm_fE] at h
  refine nm_e (Exists.intro 4 ?_)
  exact tm_l11_ok r5 (fun en fb qu a6 a7 hen r6 r7 hk => Exists.intro 50 (tm_l56_ok H 50 en 0 br re fb qu a5 a6 a7 a8 hen (by omega) r5 r6 r7 r8 hk)) 4 0 0 _ qu _ a7 (by omega) (by omega) (tm_rU r6 rfl rfl (by decide)) r7 h
/-- all rows of the three patterns -/
def tm_auto (PT : Nat) (k : Nat → Nat → Nat → Nat → Bool) (nc br re rn : Nat) : Bool :=
  tm_rows PT 2 2 0 (fun nc br re rn => tm_rows PT 4 4 1 (fun nc br re rn => tm_rows PT 4 4 2 k 5 0 nc br re rn) 5 0 nc br re rn) 3 0 nc br re rn
theorem tm_a36_ok {post : St2 → Prop} {wi he sd : Int32} {a1 a2 a3 a4 a5 a6 a7 a8 a9 a10 a11 a12 : Nat → Int32} {PT nc br re rn fb qu : Nat}
    (u0 : a2 0 = nI 2) (u1 : a2 1 = nI 4) (u2 : a2 2 = nI 4) (v0 : a3 0 = nI 2) (v1 : a3 1 = nI 4) (v2 : a3 2 = nI 4) (r4 : tm_r a4 PT 48)
    (r5 : tm_r a5 br 147) (r6 : tm_r a6 fb 49) (r7 : tm_r a7 qu 49) (r8 : tm_q a8 re 147) (r9 : tm_q a9 rn 12) {k : Nat → Nat → Nat → Bool}
    (H : ∀ nc br re rn a5 a6 a7 a8 a9, tm_r a5 br 147 → tm_q a8 re 147 → tm_q a9 rn 12 → k br re rn = true → post (wi, he, nI nc, sd, a1, a2, a3, a4, a5, a6, a7, a8, a9, a10, a11, a12))
    (h : tm_auto PT (fun _ br re rn => tm_link (fun br re => k br re rn) br re fb qu) nc br re rn = true) :
    wX_buildAutomaton_36 post 4 0 wi he (nI nc) sd a1 a2 a3 a4 a5 a6 a7 a8 a9 a10 a11 a12 := by
  unfold tm_auto at h
  refine pk_le 3 0 (fun z => absurd z (by omega)) (fun _ => Exists.intro 3 ?_)
  refine tm_rows_ok (p := 0) (by omega) (by omega) (by omega) u0 v0 r4 (fun nc br re rn a5 a8 a9 r5 r8 r9 hk => ?_) 3 0 nc br re rn a5 a8 a9 (by omega) r5 r8 r9 h
  refine pk_le 3 1 (fun z => absurd z (by omega)) (fun _ => Exists.intro 5 ?_)
  refine tm_rows_ok (p := 1) (by omega) (by omega) (by omega) u1 v1 r4 (fun nc br re rn a5 a8 a9 r5 r8 r9 hk => ?_) 5 0 nc br re rn a5 a8 a9 (by omega) r5 r8 r9 hk
  refine pk_le 3 2 (fun z => absurd z (by omega)) (fun _ => Exists.intro 5 ?_)
  refine tm_rows_ok (p := 2) (by omega) (by omega) (by omega) u2 v2 r4 (fun nc br re rn a5 a8 a9 r5 r8 r9 hk => ?_) 5 0 nc br re rn a5 a8 a9 (by omega) r5 r8 r9 hk
  refine pk_le 3 3 (fun _ => ?_) (fun z => absurd z (by omega))
  exact tm_link_ok r5 r6 r7 r8 (fun br re a5 a6 a7 a8 r5 r8 hk => H nc br re rn a5 a6 a7 a8 a9 r5 r8 r9 hk) hk
theorem tm_g0 (i : Nat) : tm_g 0 i = 0 := by
  unfold tm_g
  rw [Nat.zero_shiftRight]
theorem tm_a7_ok {post : St2 → Prop} {wi he nc sd : Int32} {a1 a2 a3 a4 a5 a6 a7 a8 a9 a10 a11 a12 : Nat → Int32}
    (H : ∀ a5 a8, tm_r a5 0 147 → tm_q a8 0 147 → ∃ fu, wX_buildAutomaton_36 post fu 0 wi he nc sd a1 a2 a3 a4 a5 a6 a7 a8 a9 a10 a11 a12) :
    ∃ fu, wX_buildAutomaton_7 post wi he nc sd fu 0 a1 a2 a3 a4 a5 a6 a7 a8 a9 a10 a11 a12 := by
  refine pk_loop (fun n i (s : (Nat → Int32) × (Nat → Int32)) => wX_buildAutomaton_7 post wi he nc sd n (nI i) a1 a2 a3 a4 s.1 a6 a7 s.2 a9 a10 a11 a12) (fun i s => ∀ j, j < i → s.1 j = 0 ∧ s.2 j = -1) 147 0 (a5, a8) (by omega) (fun j hj => absurd hj (by omega)) ?_ ?_
  · intro n s hs
    refine pk_le 147 147 (fun _ => H s.1 s.2 ?_ ?_) (fun z => absurd z (by omega))
    · intro i hi
      rw [tm_g0]
      exact (hs i hi).1
    · intro i hi
      rw [tm_g0]
      exact (hs i hi).2
  · intro n i s hi hs hw
    refine pk_le 147 i (fun z => absurd z (by omega)) (fun _ => ?_)
    refine And.intro (pk_in i 147 hi) (nm_e (And.intro (pk_in i 147 hi) (nm_e (nm_r (nI_1 i) ?_))))
    refine hw (upd s.1 (nI i).toNatClampNeg 0, upd s.2 (nI i).toNatClampNeg (-1)) ?_
    intro j hj
    dsimp only
    rw [nI_clamp (show i < 2 ^ 31 by omega)]
    by_cases e : j = i
    · rw [e, pk_us, pk_us]
      exact ⟨rfl, rfl⟩
    · rw [pk_un e, pk_un e]
      exact hs j (by omega)
/-- buildFailure, reckoned: the inner while -/
def tm_b36 (p kk rn fl : Nat) (k : Nat → Bool) : Nat → Nat → Bool
  | 0 => fun _ => false
  | n + 1 => fun m => bif Nat.ble m 0 then k m else Nat.blt (4 * p + m) 12 && (bif Nat.beq (tm_g rn (4 * p + m)) (tm_g rn (4 * p + kk)) then k m
      else Nat.blt (5 * p + m) 15 && tm_f (tm_g fl (5 * p + m)) (fun m' => tm_b36 p kk rn fl k n m'))
theorem tm_b36_ok {post : St2 → Prop} {J : Int32 → Int32 → (Nat → Int32) → (Nat → Int32) → (Nat → Int32) → (Nat → Int32) → (Nat → Int32) → (Nat → Int32) → (Nat → Int32) → (Nat → Int32) → (Nat → Int32) → (Nat → Int32) → (Nat → Int32) → (Nat → Int32) → Prop} {wi he nc sd : Int32} {a1 a2 a3 a4 a5 a6 a7 a8 a9 a10 a11 a12 : Nat → Int32} {p kk rn fl : Nat} (hp : p < 3) (hk : kk < 4) (r9 : tm_q a9 rn 12) (r10 : tm_r a10 fl 15) {k : Nat → Bool}
    (H : ∀ m, m < 256 → k m = true → wX_buildFailure_76 post J (nI p) (nI (5 * p)) (nI m) (nI kk) wi he nc sd a1 a2 a3 a4 a5 a6 a7 a8 a9 a10 a11 a12) :
    ∀ n m, m < 256 → tm_b36 p kk rn fl k n m = true → wX_buildFailure_36 post J (nI p) (nI (5 * p)) (nI kk) wi he nc sd a1 a2 a3 a4 a5 a6 a7 a8 a9 a10 a11 a12 n (nI m) := by
  intro n
  induction n with
  | zero =>
    intro m hm h
    exact absurd h Bool.false_ne_true
  | succ n ih =>
    intro m hm h
    simp only [tm_b36, tm_fE] at h
    rcases tm_cle h with ⟨hc, h⟩ | ⟨hc, h⟩
    · exact pk_le m 0 (fun _ => H m hm h) (fun z => absurd z (by omega))
    · obtain ⟨hb, h⟩ := tm_bT h
      have hb := tm_blt hb
      have e1 : a9 (nI 4 * nI p + nI m).toNatClampNeg = nI (tm_g rn (4 * p + m)) - 1 := by rw [pk_cl (4 * p + m) (tm_ix 4 p m)]; exact r9 _ hb
      have e2 : a9 (nI 4 * nI p + nI kk).toNatClampNeg = nI (tm_g rn (4 * p + kk)) - 1 := by rw [pk_cl (4 * p + kk) (tm_ix 4 p kk)]; exact r9 _ (by omega)
      refine pk_le m 0 (fun z => absurd z (by omega)) (fun _ => ?_)
      refine And.intro (pk_in (4 * p + m) 12 hb (tm_ix 4 p m)) (And.intro (pk_in (4 * p + kk) 12 (by omega) (tm_ix 4 p kk)) ?_)
      rcases tm_ceq h with ⟨hd, h⟩ | ⟨hd, h⟩
      · exact br_t (e1.trans (((tm_qe (tm_lt _ _) (tm_lt _ _)).mpr hd).trans e2.symm)) (H m hm h)
      · obtain ⟨hf, h⟩ := tm_bT h
        have hf := tm_blt hf
        refine br_f (fun z => hd ((tm_qe (tm_lt _ _) (tm_lt _ _)).mp (e1.symm.trans (z.trans e2)))) ?_
        refine And.intro (pk_in (5 * p + m) 15 hf (nI_add (5 * p) m)) (nm_r (e' := nI (tm_g fl (5 * p + m))) (by rw [pk_cl (5 * p + m) (nI_add (5 * p) m)]; exact r10 _ hf) ?_)
        exact ih _ (tm_lt _ _) h
/-- buildFailure, reckoned: the loop -/
def tm_b25 (p ht rn : Nat) (k : Nat → Bool) : Nat → Nat → Nat → Nat → Bool
  | 0 => fun _ _ _ => false
  | n + 1 => fun m kk fl => bif Nat.ble ht kk then k fl else tm_b36 p kk rn fl (fun m => Nat.blt (4 * p + m) 12 && (bif Nat.beq (tm_g rn (4 * p + m)) (tm_g rn (4 * p + kk))
      then tm_f (tm_s fl (5 * p + kk + 1) (m + 1)) (fun fl' => tm_b25 p ht rn k n (m + 1) (kk + 1) fl')
      else tm_f (tm_s fl (5 * p + kk + 1) m) (fun fl' => tm_b25 p ht rn k n m (kk + 1) fl'))) 6 m
theorem tm_b25_ok {post : St2 → Prop} {wi he nc sd : Int32} {a1 a2 a3 a4 a5 a6 a7 a8 a9 a11 a12 : Nat → Int32} {p ht rn : Nat} (hp : p < 3) (hh : ht ≤ 4) (h3 : a3 p = nI ht) (r9 : tm_q a9 rn 12) {k : Nat → Bool}
    (H : ∀ fl a10, tm_r a10 fl 15 → k fl = true → post (wi, he, nc, sd, a1, a2, a3, a4, a5, a6, a7, a8, a9, a10, a11, a12)) :
    ∀ n m kk fl a10, m < 256 → kk ≤ 4 → tm_r a10 fl 15 → tm_b25 p ht rn k n m kk fl = true → wX_buildFailure_25 post (nI p) (nI (5 * p)) wi he nc sd n (nI m) (nI kk) a1 a2 a3 a4 a5 a6 a7 a8 a9 a10 a11 a12 := by
  intro n
  induction n with
  | zero =>
    intro m kk fl a10 hm hkk r10 h
    exact absurd h Bool.false_ne_true
  | succ n ih =>
    intro m kk fl a10 hm hkk r10 h
    have hx : a3 (nI p).toNatClampNeg = nI ht := by rw [nI_clamp (show p < 2 ^ 31 by omega)]; exact h3
    simp only [tm_b25, tm_fE] at h
    refine And.intro (pk_in p 3 hp) ?_
    rcases tm_cle h with ⟨hc, h⟩ | ⟨hc, h⟩
    · exact pk_le ht kk (fun _ => H fl a10 r10 h) (fun z => absurd z (by omega)) hx rfl
    · refine pk_le ht kk (fun z => absurd z (by omega)) (fun _ => Exists.intro 6 ?_) hx rfl
      refine tm_b36_ok hp (by omega) r9 r10 (fun m hm hk => ?_) 6 m hm h
      obtain ⟨hb, hk⟩ := tm_bT hk
      have hb := tm_blt hb
      have e1 : a9 (nI 4 * nI p + nI m).toNatClampNeg = nI (tm_g rn (4 * p + m)) - 1 := by rw [pk_cl (4 * p + m) (tm_ix 4 p m)]; exact r9 _ hb
      have e2 : a9 (nI 4 * nI p + nI kk).toNatClampNeg = nI (tm_g rn (4 * p + kk)) - 1 := by rw [pk_cl (4 * p + kk) (tm_ix 4 p kk)]; exact r9 _ (by omega)
      have e3 : nI (5 * p) + nI kk + 1 = nI (5 * p + kk + 1) := by rw [nI_add, nI_1]
      refine And.intro (pk_in (4 * p + m) 12 hb (tm_ix 4 p m)) (And.intro (pk_in (4 * p + kk) 12 (by omega) (tm_ix 4 p kk)) ?_)
      rcases tm_ceq hk with ⟨hd, hk⟩ | ⟨hd, hk⟩
      · refine br_t (e1.trans (((tm_qe (tm_lt _ _) (tm_lt _ _)).mpr hd).trans e2.symm)) (nm_r (nI_1 m) ?_)
        refine And.intro (pk_in (5 * p + kk + 1) 15 (by omega) e3) (nm_e (nm_r (nI_1 kk) ?_))
        exact ih (m + 1) (kk + 1) _ _ (by omega) (by omega) (tm_rU r10 (pk_cl (5 * p + kk + 1) e3) (tm_by _ (by omega)) (by omega)) hk
      · refine br_f (fun z => hd ((tm_qe (tm_lt _ _) (tm_lt _ _)).mp (e1.symm.trans (z.trans e2)))) ?_
        refine And.intro (pk_in (5 * p + kk + 1) 15 (by omega) e3) (nm_e (nm_r (nI_1 kk) ?_))
        exact ih m (kk + 1) _ _ (by omega) (by omega) (tm_rU r10 (pk_cl (5 * p + kk + 1) e3) (tm_by _ (by omega)) (by omega)) hk
def tm_fail (p ht rn : Nat) (k : Nat → Bool) (fl : Nat) : Bool := tm_f (tm_s fl (5 * p) 0) (fun fl => tm_f (tm_s fl (5 * p + 1) 0) (fun fl => tm_b25 p ht rn k 5 0 1 fl))
theorem tm_fail_ok {post : St2 → Prop} {wi he nc sd : Int32} {a1 a2 a3 a4 a5 a6 a7 a8 a9 a10 a11 a12 : Nat → Int32} {p ht rn fl : Nat} (hp : p < 3) (hh : ht ≤ 4) (h3 : a3 p = nI ht) (r9 : tm_q a9 rn 12) (r10 : tm_r a10 fl 15) {k : Nat → Bool}
    (H : ∀ fl a10, tm_r a10 fl 15 → k fl = true → post (wi, he, nc, sd, a1, a2, a3, a4, a5, a6, a7, a8, a9, a10, a11, a12)) (h : tm_fail p ht rn k fl = true) :
    wpX_buildFailure post (wi, he, nc, sd, a1, a2, a3, a4, a5, a6, a7, a8, a9, a10, a11, a12) (nI p) := by
  simp only [tm_fail, tm_fE] at h
  refine nm_r (pk_mul 5 p) ?_
  refine And.intro (pk_in (5 * p) 15 (by omega)) (nm_e ?_)
  refine And.intro (pk_in (5 * p + 1) 15 (by omega) (nI_1 (5 * p))) (nm_e (Exists.intro 5 ?_))
  refine tm_b25_ok hp hh h3 r9 H 5 0 1 _ _ (by omega) (by omega) (tm_rU (tm_rU r10 (nI_clamp (by omega)) rfl (by decide)) (pk_cl (5 * p + 1) (nI_1 (5 * p))) rfl (by decide)) h
end
section
/-- advance, reckoned: the while -/
def tm_w41 (p e rn fl : Nat) (k : Nat → Bool) : Nat → Nat → Bool
  | 0 => fun _ => false
  | n + 1 => fun m => bif Nat.ble m 0 then k m else Nat.blt (4 * p + m) 12 && (bif Nat.beq (tm_g rn (4 * p + m)) e then k m
      else Nat.blt (5 * p + m) 15 && tm_f (tm_g fl (5 * p + m)) (fun m' => tm_w41 p e rn fl k n m'))
theorem tm_w41_ok {post : St2 → Prop} {wi he nc sd x2 x3 x5 : Int32} {a1 a2 a3 a4 a5 a6 a7 a8 a9 a10 a11 a12 : Nat → Int32} {p e rn fl : Nat} (hp : p < 3) (he4 : e < 256) (r9 : tm_q a9 rn 12) (r10 : tm_r a10 fl 15) {k : Nat → Bool}
    (H : ∀ m, m < 256 → k m = true → wX_advance_78 post (nI p) x2 x3 (nI e - 1) x5 (nI m) wi he nc sd a1 a2 a3 a4 a5 a6 a7 a8 a9 a10 a11 a12) :
    ∀ n m, m < 256 → tm_w41 p e rn fl k n m = true → wX_advance_41 post (nI p) x2 x3 (nI e - 1) x5 wi he nc sd a1 a2 a3 a4 a5 a6 a7 a8 a9 a10 a11 a12 n (nI m) := by
  intro n
  induction n with
  | zero =>
    intro m hm h
    exact absurd h Bool.false_ne_true
  | succ n ih =>
    intro m hm h
    simp only [tm_w41, tm_fE] at h
    rcases tm_cle h with ⟨hc, h⟩ | ⟨hc, h⟩
    · exact pk_le m 0 (fun _ => H m hm h) (fun z => absurd z (by omega))
    · obtain ⟨hb, h⟩ := tm_bT h
      have hb := tm_blt hb
      have e1 : a9 (nI 4 * nI p + nI m).toNatClampNeg = nI (tm_g rn (4 * p + m)) - 1 := by rw [pk_cl (4 * p + m) (tm_ix 4 p m)]; exact r9 _ hb
      refine pk_le m 0 (fun z => absurd z (by omega)) (fun _ => ?_)
      refine And.intro (pk_in (4 * p + m) 12 hb (tm_ix 4 p m)) ?_
      rcases tm_ceq h with ⟨hd, h⟩ | ⟨hd, h⟩
      · exact br_t (e1.trans ((tm_qe (tm_lt _ _) he4).mpr hd)) (H m hm h)
      · obtain ⟨hf, h⟩ := tm_bT h
        have hf := tm_blt hf
        refine br_f (fun z => hd ((tm_qe (tm_lt _ _) he4).mp (e1.symm.trans z))) ?_
        refine And.intro (pk_in (5 * p + m) 15 hf (tm_ix 5 p m)) (nm_r (e' := nI (tm_g fl (5 * p + m))) ((congrArg a10 (pk_cl (5 * p + m) (tm_ix 5 p m))).trans (r10 _ hf)) ?_)
        exact ih _ (tm_lt _ _) h
/-- advance, reckoned: k of the new progress -/
def tm_adv (p ht e rn fl : Nat) (k : Nat → Bool) (m : Nat) : Bool :=
  bif Nat.beq m ht then Nat.blt (5 * p + m) 15 && tm_w41 p e rn fl (fun m => Nat.blt (4 * p + m) 12 && (bif Nat.beq (tm_g rn (4 * p + m)) e then k (m + 1) else k m)) 6 (tm_g fl (5 * p + m))
  else tm_w41 p e rn fl (fun m => Nat.blt (4 * p + m) 12 && (bif Nat.beq (tm_g rn (4 * p + m)) e then k (m + 1) else k m)) 6 m
theorem tm_adv_ok {post : St2 → Prop} {wi he nc sd : Int32} {a1 a2 a3 a4 a5 a6 a7 a8 a9 a10 a11 a12 : Nat → Int32} {p ht e rn fl m x y : Nat} (hp : p < 3) (hh : ht ≤ 4) (h3 : a3 p = nI ht) (he4 : e < 256) (hx : x < 12) (hm : m < 256) (h12 : a12 (12 * p + x) = nI m) (r9 : tm_q a9 rn 12) (r10 : tm_r a10 fl 15) {k : Nat → Bool}
    (H : ∀ m, m ≤ 12 → k m = true → wX_advance_97 post (nI p) (nI x) (nI y) (nI (12 * p + x)) (nI m) wi he nc sd a1 a2 a3 a4 a5 a6 a7 a8 a9 a10 a11 a12)
    (h : tm_adv p ht e rn fl k m = true) :
    wpX_advance post (wi, he, nc, sd, a1, a2, a3, a4, a5, a6, a7, a8, a9, a10, a11, a12) (nI p) (nI x) (nI y) (nI e - 1) := by
  have hx3 : a3 (nI p).toNatClampNeg = nI ht := by rw [nI_clamp (show p < 2 ^ 31 by omega)]; exact h3
  have H78 : ∀ m, m < 256 → (Nat.blt (4 * p + m) 12 && (bif Nat.beq (tm_g rn (4 * p + m)) e then k (m + 1) else k m)) = true → wX_advance_78 post (nI p) (nI x) (nI y) (nI e - 1) (nI (12 * p + x)) (nI m) wi he nc sd a1 a2 a3 a4 a5 a6 a7 a8 a9 a10 a11 a12 := by
    intro m hm hk
    obtain ⟨hb, hk⟩ := tm_bT hk
    have hb := tm_blt hb
    have e1 : a9 (nI 4 * nI p + nI m).toNatClampNeg = nI (tm_g rn (4 * p + m)) - 1 := by rw [pk_cl (4 * p + m) (tm_ix 4 p m)]; exact r9 _ hb
    refine And.intro (pk_in (4 * p + m) 12 hb (tm_ix 4 p m)) ?_
    rcases tm_ceq hk with ⟨hd, hk⟩ | ⟨hd, hk⟩
    · exact br_t (e1.trans ((tm_qe (tm_lt _ _) he4).mpr hd)) (nm_r (nI_1 m) (H (m + 1) (by omega) hk))
    · exact br_f (fun z => hd ((tm_qe (tm_lt _ _) he4).mp (e1.symm.trans z))) (H m (by omega) hk)
  refine nm_r (tm_ix 12 p x) ?_
  refine And.intro (pk_in (12 * p + x) 36 (by omega)) (nm_r (e' := nI m) (by rw [nI_clamp (by omega)]; exact h12) ?_)
  refine And.intro (pk_in p 3 hp) ?_
  unfold tm_adv at h
  rcases tm_ceq h with ⟨hd, h⟩ | ⟨hd, h⟩
  · obtain ⟨hf, h⟩ := tm_bT h
    have hf := tm_blt hf
    refine pk_eq m ht (fun _ => ?_) (fun z => absurd hd z) rfl hx3
    refine And.intro (pk_in (5 * p + m) 15 hf (tm_ix 5 p m)) (nm_r (e' := nI (tm_g fl (5 * p + m))) ((congrArg a10 (pk_cl (5 * p + m) (tm_ix 5 p m))).trans (r10 _ hf)) (Exists.intro 6 ?_))
    exact tm_w41_ok hp he4 r9 r10 H78 6 _ (tm_lt _ _) h
  · refine pk_eq m ht (fun z => absurd z hd) (fun _ => Exists.intro 6 ?_) rfl hx3
    exact tm_w41_ok hp he4 r9 r10 H78 6 m hm h
/-- the row of pattern 0 that the letters pv, c are: 1 the upper one, 2 the lower one, 0 none -/
def tm_e (q pv c : Nat) : Nat := if pv = q % 2 ∧ c = q / 2 % 2 then 1 else if pv = q / 4 % 2 ∧ c = q / 8 % 2 then 2 else 0
/-- the number of the lower row -/
def tm_rb (q : Nat) : Nat := if q % 4 = q / 4 then 1 else 2
/-- the progress behind m when row e comes -/
def tm_x (q m e : Nat) : Nat :=
  if (m = 1 ∨ (m = 2 ∧ q % 4 = q / 4)) ∧ e = tm_rb q then 2 else if e = 1 then 1 else 0
/-- the automaton is right on each word of d letters behind node nd, pv the letter before (2: none) -/
def tm_ck (q br re : Nat) : Nat → Nat → Nat → Bool
  | 0 => fun _ _ => true
  | d + 1 => fun nd pv =>
    (tm_f (tm_g br (3 * nd + 0)) (fun nd' => Nat.blt nd' 49 && (Nat.beq (tm_g re nd') (tm_e q pv 0) && ((Nat.beq (tm_g re (49 + nd')) 0 || Nat.beq (tm_g re (49 + nd')) 2) && (Nat.ble (tm_g re (98 + nd')) 1 && tm_ck q br re d nd' 0))))) &&
    (tm_f (tm_g br (3 * nd + 1)) (fun nd' => Nat.blt nd' 49 && (Nat.beq (tm_g re nd') (tm_e q pv 1) && ((Nat.beq (tm_g re (49 + nd')) 0 || Nat.beq (tm_g re (49 + nd')) 2) && (Nat.ble (tm_g re (98 + nd')) 1 && tm_ck q br re d nd' 1)))))
/-- advance is right for pattern 0; it stays at 0 for pattern 1, below 4 for pattern 2 -/
def tm_ca (q rn fl : Nat) : Bool :=
  ((List.range 3).all (fun m => (List.range 3).all (fun e => tm_adv 0 2 e rn fl (fun m' => Nat.beq m' (tm_x q m e)) m))) &&
  (((List.range 2).all (fun e => tm_adv 1 4 (2 * e) rn fl (fun m' => Nat.beq m' 0) 0)) &&
  ((List.range 4).all (fun m => (List.range 2).all (fun e => tm_adv 2 4 e rn fl (fun m' => Nat.ble m' 3) m))))
def tm_ok (q br re rn fl : Nat) : Bool := tm_ck q br re 5 0 2 && tm_ca q rn fl
/-- the patterns' cells -/
def tm_pt (q : Nat) : Nat := tm_s (tm_s (tm_s (tm_s (tm_s (tm_s 0 16 2) 47 2) 0 (q % 2)) 1 (q / 2 % 2)) 4 (q / 4 % 2)) 5 (q / 8 % 2)
def tm_rn0 : Nat := 310698676526526814092329217
def tm_fails (rn : Nat) (k : Nat → Bool) (fl : Nat) : Bool := tm_fail 0 2 rn (fun fl => tm_fail 1 4 rn (fun fl => tm_fail 2 4 rn k fl) fl) fl
def tm_ex (q : Nat) : Bool :=
  tm_f q (fun q => tm_f (tm_pt q) (fun PT => tm_auto PT (fun _ br re rn => tm_link (fun br re => tm_fails rn (fun fl => tm_ok q br re rn fl) 0) br re 0 0) 1 0 0 tm_rn0))
theorem tm_run : ∀ q, q < 16 → tm_ex q = true := by decide +kernel
theorem tm_rn0_ok : ∀ i, i < 12 → tm_g tm_rn0 i = 1 := by decide +kernel
end
section
/-- the letter left of column x (2: none) -/
def tm_pv (T : Nat → Nat → Nat) (y x : Nat) : Nat := if x = 0 then 2 else T (x - 1) y
/-- the row of pattern 0 that ends at column x of row y -/
def tm_ev (T : Nat → Nat → Nat) (q y x : Nat) : Nat := tm_e q (tm_pv T y x) (T x y)
/-- the progress of column x behind y rows -/
def tm_pg (T : Nat → Nat → Nat) (q x : Nat) : Nat → Nat
  | 0 => 0
  | y + 1 => tm_x q (tm_pg T q x y) (tm_ev T q y x)
/-- pattern 0 begins at column x of row y -/
def tm_o (T : Nat → Nat → Nat) (q x y : Nat) : Bool := decide (x < 4 ∧ y < 4 ∧ T x y = q % 2 ∧ T (x + 1) y = q / 2 % 2 ∧ T x (y + 1) = q / 4 % 2 ∧ T (x + 1) (y + 1) = q / 8 % 2)
/-- the occurrences in row r as bits, columns below c alone -/
def tm_F (T : Nat → Nat → Nat) (q r : Nat) : Nat → Nat
  | 0 => 0
  | c + 1 => tm_F T q r c + (if tm_o T q c r = true then 2 ^ c else 0)
theorem tm_x2 {q m e : Nat} : tm_x q m e = 2 ↔ (m = 1 ∨ (m = 2 ∧ q % 4 = q / 4)) ∧ e = tm_rb q := by
  unfold tm_x
  constructor
  · intro h
    split at h
    · assumption
    · split at h <;> omega
  · intro h
    rw [if_pos h]
theorem tm_x1 {q m e : Nat} : (tm_x q m e = 1 ∨ (tm_x q m e = 2 ∧ q % 4 = q / 4)) ↔ e = 1 := by
  unfold tm_x
  by_cases hq : q % 4 = q / 4
  · have hb : tm_rb q = 1 := if_pos hq
    rw [hb]
    split
    · rename_i h
      exact ⟨fun _ => h.2, fun _ => Or.inr ⟨rfl, hq⟩⟩
    · split
      · rename_i h
        exact ⟨fun _ => h, fun _ => Or.inl rfl⟩
      · rename_i h
        exact ⟨fun z => by omega, fun z => absurd z h⟩
  · have hb : tm_rb q = 2 := if_neg hq
    rw [hb]
    split
    · rename_i h
      exact ⟨fun z => by omega, fun z => by omega⟩
    · split
      · rename_i h
        exact ⟨fun _ => h, fun _ => Or.inl rfl⟩
      · rename_i h
        exact ⟨fun z => by omega, fun z => absurd z h⟩
theorem tm_xle (q m e : Nat) : tm_x q m e ≤ 2 := by
  unfold tm_x
  split
  · omega
  · split <;> omega
theorem tm_pgle (T : Nat → Nat → Nat) (q x y : Nat) : tm_pg T q x y ≤ 2 := by
  cases y with
  | zero => exact Nat.zero_le 2
  | succ y => exact tm_xle _ _ _
theorem tm_e1 {q pv c : Nat} : tm_e q pv c = 1 ↔ pv = q % 2 ∧ c = q / 2 % 2 := by
  unfold tm_e
  split
  · rename_i h
    exact ⟨fun _ => h, fun _ => rfl⟩
  · rename_i h
    split <;> exact ⟨fun z => by omega, fun z => absurd z h⟩
theorem tm_qq : ∀ q, q < 16 → q % 4 = q / 4 → q % 2 = q / 4 % 2 ∧ q / 2 % 2 = q / 8 % 2 := by decide +kernel
theorem tm_qr : ∀ q, q < 16 → q % 2 = q / 4 % 2 → q / 2 % 2 = q / 8 % 2 → q % 4 = q / 4 := by decide +kernel
theorem tm_e2 {q pv c : Nat} (hq : q < 16) : tm_e q pv c = tm_rb q ↔ pv = q / 4 % 2 ∧ c = q / 8 % 2 := by
  by_cases h4 : q % 4 = q / 4
  · have hb : tm_rb q = 1 := if_pos h4
    rw [hb, tm_e1, (tm_qq q hq h4).1, (tm_qq q hq h4).2]
  · have hb : tm_rb q = 2 := if_neg h4
    rw [hb]
    unfold tm_e
    split
    · rename_i h
      refine ⟨fun z => by omega, fun z => absurd (tm_qr q hq (h.1.symm.trans z.1) (h.2.symm.trans z.2)) h4⟩
    · split
      · rename_i h
        exact ⟨fun _ => h, fun _ => rfl⟩
      · rename_i h
        exact ⟨fun z => by omega, fun z => absurd z h⟩
theorem tm_ele (q pv c : Nat) : tm_e q pv c ≤ 2 := by
  unfold tm_e
  split
  · omega
  · split <;> omega
/-- progress 2 is an occurrence -/
theorem tm_pg2 {T : Nat → Nat → Nat} {q x y : Nat} (hq : q < 16) (hx : x < 5) (hy : y < 5) : tm_pg T q x (y + 1) = 2 ↔ (1 ≤ x ∧ 1 ≤ y ∧ tm_o T q (x - 1) (y - 1) = true) := by
  have key : tm_pg T q x (y + 1) = 2 ↔ (1 ≤ y ∧ tm_ev T q (y - 1) x = 1) ∧ tm_ev T q y x = tm_rb q := by
    show tm_x q (tm_pg T q x y) (tm_ev T q y x) = 2 ↔ _
    rw [tm_x2]
    cases y with
    | zero =>
      constructor
      · intro h
        have h1 := h.1
        unfold tm_pg at h1
        omega
      · intro h
        exact absurd h.1.1 (by omega)
    | succ y =>
      show (tm_x q (tm_pg T q x y) (tm_ev T q y x) = 1 ∨ (tm_x q (tm_pg T q x y) (tm_ev T q y x) = 2 ∧ q % 4 = q / 4)) ∧ _ ↔ _
      rw [tm_x1]
      constructor
      · intro h
        exact ⟨⟨by omega, h.1⟩, h.2⟩
      · intro h
        exact ⟨h.1.2, h.2⟩
  rw [key]
  unfold tm_ev
  rw [tm_e1, tm_e2 hq]
  unfold tm_pv tm_o
  by_cases h0 : x = 0
  · rw [if_pos h0, if_pos h0]
    constructor
    · intro h
      omega
    · intro h
      omega
  · rw [if_neg h0, if_neg h0, decide_eq_true_iff]
    have e1 : x - 1 + 1 = x := by omega
    rw [e1]
    constructor
    · rintro ⟨⟨h1, h2, h3⟩, h4, h5⟩
      have e2 : y - 1 + 1 = y := by omega
      rw [e2]
      exact ⟨by omega, h1, by omega, by omega, h2, h3, h4, h5⟩
    · rintro ⟨h1, h2, h3, h4, h5, h6, h7, h8⟩
      have e2 : y - 1 + 1 = y := by omega
      rw [e2] at h7 h8
      exact ⟨⟨h2, h5, h6⟩, h7, h8⟩
theorem tm_Flt (T : Nat → Nat → Nat) (q r c : Nat) : tm_F T q r c < 2 ^ c := by
  induction c with
  | zero => exact Nat.one_pos
  | succ c ih =>
    show tm_F T q r c + (if tm_o T q c r = true then 2 ^ c else 0) < 2 ^ (c + 1)
    rw [Nat.pow_succ]
    split <;> omega
theorem tm_F4 (T : Nat → Nat → Nat) (q c : Nat) : tm_F T q 4 c = 0 := by
  induction c with
  | zero => rfl
  | succ c ih =>
    show tm_F T q 4 c + (if tm_o T q c 4 = true then 2 ^ c else 0) = 0
    have h : ¬ tm_o T q c 4 = true := by
      unfold tm_o
      rw [decide_eq_true_iff]
      omega
    rw [ih, if_neg h]
/-- the occurrences of row r that are known when y rows and x columns of the next are read -/
def tm_fd (T : Nat → Nat → Nat) (q y x r : Nat) : Nat := if r + 1 < y then tm_F T q r 4 else if r + 1 = y then tm_F T q r (x - 1) else 0
theorem tm_fd_n {T : Nat → Nat → Nat} {q y x r : Nat} (h : r + 1 ≠ y) : tm_fd T q y (x + 1) r = tm_fd T q y x r := by
  unfold tm_fd
  rw [if_neg h, if_neg h]
theorem tm_fd_at {T : Nat → Nat → Nat} {q y x r : Nat} (h : r + 1 = y) : tm_fd T q y x r = tm_F T q r (x - 1) := by
  have h1 : ¬ r + 1 < y := by omega
  unfold tm_fd
  rw [if_neg h1, if_pos h]
theorem tm_fd_s {T : Nat → Nat → Nat} {q y x : Nat} (hx : 1 ≤ x) (hy : 1 ≤ y) : tm_fd T q y (x + 1) (y - 1) = tm_fd T q y x (y - 1) + (if tm_o T q (x - 1) (y - 1) = true then 2 ^ (x - 1) else 0) := by
  have h : y - 1 + 1 = y := by omega
  rw [tm_fd_at h, tm_fd_at h]
  have e : x + 1 - 1 = (x - 1) + 1 := by omega
  rw [e]
  rfl
theorem tm_fd_k {T : Nat → Nat → Nat} {q y x : Nat} (r : Nat) (h : ¬ (1 ≤ x ∧ 1 ≤ y ∧ tm_o T q (x - 1) (y - 1) = true)) : tm_fd T q y (x + 1) r = tm_fd T q y x r := by
  by_cases hr : r + 1 = y
  · by_cases hx : 1 ≤ x
    · have e : r = y - 1 := by omega
      rw [e, tm_fd_s hx (by omega), if_neg (fun z => h ⟨hx, by omega, z⟩), Nat.add_zero]
    · have e : x = 0 := by omega
      rw [e]
      rfl
  · exact tm_fd_n hr
theorem tm_fd_row {T : Nat → Nat → Nat} {q y r : Nat} : tm_fd T q (y + 1) 0 r = tm_fd T q y 5 r := by
  unfold tm_fd
  by_cases h1 : r + 1 < y
  · rw [if_pos h1, if_pos (by omega)]
  · rw [if_neg h1]
    by_cases h2 : r + 1 = y
    · rw [if_pos h2, if_pos (by omega)]
    · rw [if_neg h2, if_neg (by omega)]
      split <;> rfl
theorem tm_fd_0 {T : Nat → Nat → Nat} {q r : Nat} : tm_fd T q 0 0 r = 0 := by
  unfold tm_fd
  rw [if_neg (by omega), if_neg (by omega)]
theorem tm_fd_5 {T : Nat → Nat → Nat} {q r : Nat} (hr : r < 5) : tm_fd T q 5 0 r = tm_F T q r 4 := by
  unfold tm_fd
  by_cases h : r + 1 < 5
  · rw [if_pos h]
  · have e : r = 4 := by omega
    rw [e, tm_F4, tm_F4]
    rfl
theorem tm_or : ∀ c, c < 4 → ∀ f, f < 2 ^ c → nI f ||| nI (2 ^ c) = nI (f + 2 ^ c) := by decide +kernel
theorem tm_iy : ∀ y, y < 5 → 1 ≤ y → nI 12 * nI 0 + nI y - nI 2 + 1 = nI (y - 1) := by decide +kernel
theorem tm_ish : ∀ x, x < 5 → 1 ≤ x → (1 : Int32) <<< ((nI x - nI 2 + 1) &&& 31) = nI (2 ^ (x - 1)) := by decide +kernel
end
section
/-- found and progress when y rows and x columns of the next are read -/
def tm_S (T : Nat → Nat → Nat) (q y x : Nat) (a11 a12 : Nat → Int32) : Prop :=
  (∀ c, c < 5 → a12 c = nI (tm_pg T q c (if c < x then y + 1 else y))) ∧ (∀ c, c < 5 → a12 (12 + c) = nI 0) ∧ (∀ c, c < 5 → ∃ m, m ≤ 3 ∧ a12 (24 + c) = nI m) ∧ (∀ r, r < 5 → a11 r = nI (tm_fd T q y x r)) ∧ (∀ j, 12 ≤ j → j < 36 → a11 j = 0)
theorem tm_S0 {T : Nat → Nat → Nat} {q y x k : Nat} {v : Int32} {a11 a11' a12 : Nat → Int32} (S : tm_S T q y x a11 a12) (hx : x < 5) (hk : k = x) (hv : v = nI (tm_pg T q x (y + 1))) (h1 : ∀ r, r < 5 → a11' r = nI (tm_fd T q y (x + 1) r)) (h2 : ∀ j, 12 ≤ j → j < 36 → a11' j = 0) : tm_S T q y (x + 1) a11' (upd a12 k v) := by
  obtain ⟨s1, s2, s3, s4, s5⟩ := S
  refine ⟨fun c hc => ?_, fun c hc => ?_, fun c hc => ?_, h1, h2⟩
  · rw [hk]
    by_cases e : c = x
    · rw [e, pk_us, if_pos (by omega), hv]
    · rw [pk_un e, s1 c hc]
      by_cases e2 : c < x
      · rw [if_pos e2, if_pos (by omega)]
      · rw [if_neg e2, if_neg (by omega)]
  · rw [hk, pk_un (by omega)]
    exact s2 c hc
  · rw [hk, pk_un (by omega)]
    exact s3 c hc
theorem tm_S1 {T : Nat → Nat → Nat} {q y x z k : Nat} {v : Int32} {a11 a12 : Nat → Int32} (S : tm_S T q y z a11 a12) (hk : k = 12 + x) (hx : x < 5) (hv : v = nI 0) : tm_S T q y z a11 (upd a12 k v) := by
  obtain ⟨s1, s2, s3, s4, s5⟩ := S
  refine ⟨fun c hc => ?_, fun c hc => ?_, fun c hc => ?_, s4, s5⟩
  · rw [hk, pk_un (by omega)]
    exact s1 c hc
  · rw [hk]
    by_cases e : 12 + c = 12 + x
    · rw [e, pk_us, hv]
    · rw [pk_un e]
      exact s2 c hc
  · rw [hk, pk_un (by omega)]
    exact s3 c hc
theorem tm_S2 {T : Nat → Nat → Nat} {q y x z k m : Nat} {v : Int32} {a11 a12 : Nat → Int32} (S : tm_S T q y z a11 a12) (hk : k = 24 + x) (hx : x < 5) (hm : m ≤ 3) (hv : v = nI m) : tm_S T q y z a11 (upd a12 k v) := by
  obtain ⟨s1, s2, s3, s4, s5⟩ := S
  refine ⟨fun c hc => ?_, fun c hc => ?_, fun c hc => ?_, s4, s5⟩
  · rw [hk, pk_un (by omega)]
    exact s1 c hc
  · rw [hk, pk_un (by omega)]
    exact s2 c hc
  · rw [hk]
    by_cases e : 24 + c = 24 + x
    · rw [e, pk_us]
      exact ⟨m, hm, hv⟩
    · rw [pk_un e]
      exact s3 c hc
theorem tm_c0 : (nI 0).toNatClampNeg = 0 := nI_clamp (by decide)
theorem tm_c1 : (nI 1).toNatClampNeg = 1 := nI_clamp (by decide)
theorem tm_c2 : (nI 2).toNatClampNeg = 2 := nI_clamp (by decide)
theorem tm_all {n : Nat} {f : Nat → Bool} (h : (List.range n).all f = true) {i : Nat} (hi : i < n) : f i = true :=
  List.all_eq_true.mp h i (List.mem_range.mpr hi)
section
variable {post : St2 → Prop} {wi he nc sd : Int32} {a1 a2 a3 a4 a5 a6 a7 a8 a9 a10 a11 a12 : Nat → Int32} {T : Nat → Nat → Nat} {q x y rn fl : Nat}
theorem tm_adv0 (hq : q < 16) (hx : x < 5) (hy : y < 5) (u0 : a2 0 = nI 2) (v0 : a3 0 = nI 2) (r9 : tm_q a9 rn 12) (r10 : tm_r a10 fl 15) (hca : tm_ca q rn fl = true) (S : tm_S T q y x a11 a12)
    (H : ∀ a11 a12, tm_S T q y (x + 1) a11 a12 → post (wi, he, nc, sd, a1, a2, a3, a4, a5, a6, a7, a8, a9, a10, a11, a12)) :
    wpX_advance post (wi, he, nc, sd, a1, a2, a3, a4, a5, a6, a7, a8, a9, a10, a11, a12) (nI 0) (nI x) (nI y) (nI (tm_ev T q y x) - 1) := by
  have hm : tm_pg T q x y < 3 := Nat.lt_succ_of_le (tm_pgle T q x y)
  have hee : tm_ev T q y x < 3 := Nat.lt_succ_of_le (tm_ele _ _ _)
  have hc := (tm_bT hca).1
  have hadv := tm_all (tm_all hc hm) hee
  have h12 : a12 (12 * 0 + x) = nI (tm_pg T q x y) := by
    rw [Nat.mul_zero, Nat.zero_add, S.1 x hx, if_neg (Nat.lt_irrefl x)]
  have hx3 : a3 (nI 0).toNatClampNeg = nI 2 := by rw [tm_c0]; exact v0
  have hx2 : a2 (nI 0).toNatClampNeg = nI 2 := by rw [tm_c0]; exact u0
  refine tm_adv_ok (p := 0) (ht := 2) (by omega) (by omega) v0 (by omega) (by omega) (by omega) h12 r9 r10 (fun m hm hk => ?_) hadv
  have hm2 : m = tm_pg T q x (y + 1) := Nat.eq_of_beq_eq_true hk
  have e12 : (nI (12 * 0 + x)).toNatClampNeg = x := by rw [Nat.mul_zero, Nat.zero_add]; exact nI_clamp (by omega)
  have eb : (nI m).toInt8.toInt32 = nI (tm_pg T q x (y + 1)) := by rw [tm_by m (by omega), hm2]
  refine And.intro (pk_in (12 * 0 + x) 36 (by omega)) (nm_e (And.intro (pk_in 0 3 (by omega)) ?_))
  by_cases h2 : m = 2
  · obtain ⟨hx1, hy1, ho⟩ := (tm_pg2 hq hx hy).mp (hm2.symm.trans h2)
    have ei : nI 12 * nI 0 + nI y - nI m + 1 = nI (y - 1) := by rw [h2]; exact tm_iy y hy hy1
    have ej : (nI 12 * nI 0 + nI y - nI m + 1).toNatClampNeg = y - 1 := pk_cl (y - 1) ei
    have hf := tm_Flt T q (y - 1) (x - 1)
    have es : (1 : Int32) <<< ((nI x - a2 (nI 0).toNatClampNeg + 1) &&& 31) = nI (2 ^ (x - 1)) := by rw [hx2]; exact tm_ish x hx hx1
    have ev : a11 (nI 12 * nI 0 + nI y - nI m + 1).toNatClampNeg ||| ((1 : Int32) <<< ((nI x - a2 (nI 0).toNatClampNeg + 1) &&& 31)) = nI (tm_fd T q y (x + 1) (y - 1)) := by
      rw [es, ej, S.2.2.2.1 (y - 1) (by omega), tm_fd_s hx1 hy1, if_pos ho, tm_fd_at (by omega), tm_or (x - 1) (by omega) _ hf]
    refine pk_eq m 2 (fun _ => ?_) (fun z => absurd h2 z) rfl hx3
    refine And.intro (pk_in (y - 1) 36 (by omega) ei) (And.intro (pk_in 0 3 (by omega)) (And.intro (pk_in (y - 1) 36 (by omega) ei) (nm_e ?_)))
    refine H _ _ (tm_S0 S hx e12 eb (fun r hr => ?_) (fun j hj hj2 => ?_))
    · by_cases e : r = y - 1
      · rw [e]
        refine Eq.trans ?_ ev
        exact if_pos ej.symm
      · refine Eq.trans (pk_un (fun z => e (z.trans ej))) ?_
        rw [S.2.2.2.1 r hr, tm_fd_n (by omega)]
    · refine Eq.trans (pk_un (fun z => absurd (z.trans ej) (by omega))) ?_
      exact S.2.2.2.2 j hj hj2
  · have hno : ¬ (1 ≤ x ∧ 1 ≤ y ∧ tm_o T q (x - 1) (y - 1) = true) := fun z => h2 (hm2.trans ((tm_pg2 hq hx hy).mpr z))
    refine pk_eq m 2 (fun z => absurd z h2) (fun _ => ?_) rfl hx3
    refine H _ _ (tm_S0 S hx e12 eb (fun r hr => ?_) S.2.2.2.2)
    rw [S.2.2.2.1 r hr, tm_fd_k r hno]
theorem tm_adv1 {z e : Nat} (hx : x < 5) (v1 : a3 1 = nI 4) (r9 : tm_q a9 rn 12) (r10 : tm_r a10 fl 15) (hca : tm_ca q rn fl = true) (hee : e = 0 ∨ e = 2) (S : tm_S T q y z a11 a12)
    (H : ∀ a11 a12, tm_S T q y z a11 a12 → post (wi, he, nc, sd, a1, a2, a3, a4, a5, a6, a7, a8, a9, a10, a11, a12)) :
    wpX_advance post (wi, he, nc, sd, a1, a2, a3, a4, a5, a6, a7, a8, a9, a10, a11, a12) (nI 1) (nI x) (nI y) (nI e - 1) := by
  have hc := (tm_bT (tm_bT hca).2).1
  have hadv : tm_adv 1 4 e rn fl (fun m' => Nat.beq m' 0) 0 = true := by
    rcases hee with rfl | rfl
    · exact tm_all hc (show 0 < 2 by omega)
    · exact tm_all hc (show 1 < 2 by omega)
  have hx3 : a3 (nI 1).toNatClampNeg = nI 4 := by rw [tm_c1]; exact v1
  refine tm_adv_ok (p := 1) (ht := 4) (by omega) (by omega) v1 (by omega) (by omega) (by omega) (S.2.1 x hx) r9 r10 (fun m hm hk => ?_) hadv
  have hm2 : m = 0 := Nat.eq_of_beq_eq_true hk
  refine And.intro (pk_in (12 * 1 + x) 36 (by omega)) (nm_e (And.intro (pk_in 1 3 (by omega)) ?_))
  refine pk_eq m 4 (fun z => absurd z (by omega)) (fun _ => ?_) rfl hx3
  exact H _ _ (tm_S1 S (nI_clamp (by omega)) hx (by rw [hm2]; rfl))
theorem tm_adv2 {z e : Nat} (hx : x < 5) (v2 : a3 2 = nI 4) (r9 : tm_q a9 rn 12) (r10 : tm_r a10 fl 15) (hca : tm_ca q rn fl = true) (hee : e ≤ 1) (S : tm_S T q y z a11 a12)
    (H : ∀ a11 a12, tm_S T q y z a11 a12 → post (wi, he, nc, sd, a1, a2, a3, a4, a5, a6, a7, a8, a9, a10, a11, a12)) :
    wpX_advance post (wi, he, nc, sd, a1, a2, a3, a4, a5, a6, a7, a8, a9, a10, a11, a12) (nI 2) (nI x) (nI y) (nI e - 1) := by
  have hc := (tm_bT (tm_bT hca).2).2
  obtain ⟨m0, hm0, e0⟩ := S.2.2.1 x hx
  have hadv := tm_all (tm_all hc (show m0 < 4 by omega)) (show e < 2 by omega)
  have hx3 : a3 (nI 2).toNatClampNeg = nI 4 := by rw [tm_c2]; exact v2
  refine tm_adv_ok (p := 2) (ht := 4) (by omega) (by omega) v2 (by omega) (by omega) (by omega) e0 r9 r10 (fun m hm hk => ?_) hadv
  have hm2 : m ≤ 3 := Nat.le_of_ble_eq_true hk
  refine And.intro (pk_in (12 * 2 + x) 36 (by omega)) (nm_e (And.intro (pk_in 2 3 (by omega)) ?_))
  refine pk_eq m 4 (fun z => absurd z (by omega)) (fun _ => ?_) rfl hx3
  exact H _ _ (tm_S2 S (nI_clamp (by omega)) hx hm2 (tm_by m (by omega)))
end
end
section
section
variable {post : St2 → Prop} {nc sd : Int32} {a1 a2 a3 a4 a5 a6 a7 a8 a9 a10 a11 a12 : Nat → Int32} {T : Nat → Nat → Nat} {q y br re rn fl : Nat}
/-- one column: the three patterns -/
theorem tm_s36 {J : Int32 → Int32 → Int32 → Int32 → Int32 → Int32 → (Nat → Int32) → (Nat → Int32) → (Nat → Int32) → (Nat → Int32) → (Nat → Int32) → (Nat → Int32) → (Nat → Int32) → (Nat → Int32) → (Nat → Int32) → (Nat → Int32) → (Nat → Int32) → (Nat → Int32) → Prop} {wi he : Int32} {x nd : Nat} (hq : q < 16) (hx : x < 5) (hy : y < 5) (u0 : a2 0 = nI 2) (v0 : a3 0 = nI 2) (v1 : a3 1 = nI 4) (v2 : a3 2 = nI 4) (r8 : tm_q a8 re 147) (r9 : tm_q a9 rn 12) (r10 : tm_r a10 fl 15) (hca : tm_ca q rn fl = true)
    (hn : nd < 49) (e0 : tm_g re nd = tm_ev T q y x) (e1 : tm_g re (49 + nd) = 0 ∨ tm_g re (49 + nd) = 2) (e2 : tm_g re (98 + nd) ≤ 1) (S : tm_S T q y x a11 a12)
    (H : ∀ a11 a12, tm_S T q y (x + 1) a11 a12 → J (nI nd) (nI (x + 1)) wi he nc sd a1 a2 a3 a4 a5 a6 a7 a8 a9 a10 a11 a12) :
    ∃ fu, wX_searchRow_36 post J (nI y) (nI nd) (nI x) fu 0 wi he nc sd a1 a2 a3 a4 a5 a6 a7 a8 a9 a10 a11 a12 := by
  have g0 : a8 (nI 49 * nI 0 + nI nd).toNatClampNeg = nI (tm_ev T q y x) - 1 := by
    rw [pk_cl (49 * 0 + nd) (tm_ix 49 0 nd), Nat.mul_zero, Nat.zero_add, ← e0]
    exact r8 nd (by omega)
  have g1 : a8 (nI 49 * nI 1 + nI nd).toNatClampNeg = nI (tm_g re (49 + nd)) - 1 := by
    rw [pk_cl (49 * 1 + nd) (tm_ix 49 1 nd)]
    exact r8 (49 + nd) (by omega)
  have g2 : a8 (nI 49 * nI 2 + nI nd).toNatClampNeg = nI (tm_g re (98 + nd)) - 1 := by
    rw [pk_cl (49 * 2 + nd) (tm_ix 49 2 nd)]
    exact r8 (98 + nd) (by omega)
  refine Exists.intro 4 ?_
  refine pk_le 3 0 (fun z => absurd z (by omega)) (fun _ => ?_)
  refine And.intro (pk_in (49 * 0 + nd) 147 (by omega) (tm_ix 49 0 nd)) ?_
  refine ek_v (P := fun z => wpX_advance _ _ _ _ _ z) g0 ?_
  refine tm_adv0 hq hx hy u0 v0 r9 r10 hca S (fun a11 a12 S => nm_r (nI_1 0) ?_)
  refine pk_le 3 1 (fun z => absurd z (by omega)) (fun _ => ?_)
  refine And.intro (pk_in (49 * 1 + nd) 147 (by omega) (tm_ix 49 1 nd)) ?_
  refine ek_v (P := fun z => wpX_advance _ _ _ _ _ z) g1 ?_
  refine tm_adv1 hx v1 r9 r10 hca e1 S (fun a11 a12 S => nm_r (nI_1 1) ?_)
  refine pk_le 3 2 (fun z => absurd z (by omega)) (fun _ => ?_)
  refine And.intro (pk_in (49 * 2 + nd) 147 (by omega) (tm_ix 49 2 nd)) ?_
  refine ek_v (P := fun z => wpX_advance _ _ _ _ _ z) g2 ?_
  refine tm_adv2 hx v2 r9 r10 hca e2 S (fun a11 a12 S => nm_r (nI_1 2) ?_)
  exact pk_le 3 3 (fun _ => nm_r (nI_1 x) (H a11 a12 S)) (fun z => absurd z (by omega))
/-- one row -/
theorem tm_s4 (hq : q < 16) (hT : ∀ x y, T x y < 2) (hy : y < 5) (t1 : ∀ x, x < 5 → a1 (12 * y + x) = nI (T x y)) (u0 : a2 0 = nI 2) (v0 : a3 0 = nI 2) (v1 : a3 1 = nI 4) (v2 : a3 2 = nI 4) (r5 : tm_r a5 br 147) (r8 : tm_q a8 re 147) (r9 : tm_q a9 rn 12) (r10 : tm_r a10 fl 15) (hca : tm_ca q rn fl = true)
    (H : ∀ a11 a12, tm_S T q y 5 a11 a12 → post (5, 5, nc, sd, a1, a2, a3, a4, a5, a6, a7, a8, a9, a10, a11, a12)) :
    ∀ d x nd a11 a12, x + d = 5 → nd < 49 → tm_ck q br re d nd (tm_pv T y x) = true → tm_S T q y x a11 a12 →
      wX_searchRow_4 post (nI y) (d + 1) (nI nd) (nI x) 5 5 nc sd a1 a2 a3 a4 a5 a6 a7 a8 a9 a10 a11 a12 := by
  intro d
  induction d with
  | zero =>
    intro x nd a11 a12 hx hn hk S
    have e : x = 5 := by omega
    rw [e] at S ⊢
    exact pk_le 5 5 (fun _ => H a11 a12 S) (fun z => absurd z (by omega))
  | succ d ih =>
    intro x nd a11 a12 hx hn hk S
    have ht := hT x y
    have e1 : a1 (nI 12 * nI y + nI x).toNatClampNeg = nI (T x y) := by rw [pk_cl (12 * y + x) (tm_ix 12 y x)]; exact t1 x (by omega)
    have e2 : nI 3 * nI nd + a1 (nI 12 * nI y + nI x).toNatClampNeg = nI (3 * nd + T x y) := by rw [e1]; exact tm_ix 3 nd _
    have e3 : a5 (nI 3 * nI nd + a1 (nI 12 * nI y + nI x).toNatClampNeg).toNatClampNeg = nI (tm_g br (3 * nd + T x y)) := by
      rw [pk_cl (3 * nd + T x y) e2]
      exact r5 _ (by omega)
    have key : tm_g br (3 * nd + T x y) < 49 ∧ tm_g re (tm_g br (3 * nd + T x y)) = tm_ev T q y x ∧ (tm_g re (49 + tm_g br (3 * nd + T x y)) = 0 ∨ tm_g re (49 + tm_g br (3 * nd + T x y)) = 2) ∧ tm_g re (98 + tm_g br (3 * nd + T x y)) ≤ 1 ∧ tm_ck q br re d (tm_g br (3 * nd + T x y)) (tm_pv T y (x + 1)) = true := by
      have hpv : tm_pv T y (x + 1) = T x y := by
        unfold tm_pv
        rw [if_neg (by omega)]
        rfl
      have hev : tm_ev T q y x = tm_e q (tm_pv T y x) (T x y) := rfl
      rw [hpv, hev]
      simp only [tm_ck, tm_fE] at hk
      obtain ⟨k0, k1⟩ := tm_bT hk
      have fin : ∀ n c : Nat, (Nat.blt n 49 && (Nat.beq (tm_g re n) (tm_e q (tm_pv T y x) c) && ((Nat.beq (tm_g re (49 + n)) 0 || Nat.beq (tm_g re (49 + n)) 2) && (Nat.ble (tm_g re (98 + n)) 1 && tm_ck q br re d n c)))) = true → n < 49 ∧ tm_g re n = tm_e q (tm_pv T y x) c ∧ (tm_g re (49 + n) = 0 ∨ tm_g re (49 + n) = 2) ∧ tm_g re (98 + n) ≤ 1 ∧ tm_ck q br re d n c = true := by
        intro n c h
        obtain ⟨h1, h⟩ := tm_bT h
        obtain ⟨h2, h⟩ := tm_bT h
        obtain ⟨h3, h⟩ := tm_bT h
        obtain ⟨h4, h⟩ := tm_bT h
        refine ⟨tm_blt h1, Nat.eq_of_beq_eq_true h2, ?_, Nat.le_of_ble_eq_true h4, h⟩
        rcases (Bool.or_eq_true _ _).mp h3 with z | z
        · exact Or.inl (Nat.eq_of_beq_eq_true z)
        · exact Or.inr (Nat.eq_of_beq_eq_true z)
      rcases (show T x y = 0 ∨ T x y = 1 by omega) with z | z
      · rw [z]
        exact fin _ 0 k0
      · rw [z]
        exact fin _ 1 k1
    obtain ⟨kn, ke, k1, k2, kk⟩ := key
    refine pk_le 5 x (fun z => absurd z (by omega)) (fun _ => ?_)
    refine And.intro (pk_in (12 * y + x) 144 (by omega) (tm_ix 12 y x)) (And.intro (pk_in (3 * nd + T x y) 147 (by omega) e2) (nm_r e3 ?_))
    exact tm_s36 hq (by omega) hy u0 v0 v1 v2 r8 r9 r10 hca kn ke k1 k2 S (fun a11 a12 S => ih (x + 1) _ a11 a12 (by omega) kn kk S)
/-- all rows -/
theorem tm_s65 (hq : q < 16) (hT : ∀ x y, T x y < 2) (t1 : ∀ y x, y < 5 → x < 5 → a1 (12 * y + x) = nI (T x y)) (u0 : a2 0 = nI 2) (v0 : a3 0 = nI 2) (v1 : a3 1 = nI 4) (v2 : a3 2 = nI 4) (r5 : tm_r a5 br 147) (r8 : tm_q a8 re 147) (r9 : tm_q a9 rn 12) (r10 : tm_r a10 fl 15) (hca : tm_ca q rn fl = true) (hck : tm_ck q br re 5 0 2 = true)
    (H : ∀ a11 a12, tm_S T q 5 0 a11 a12 → post (5, 5, nc, sd, a1, a2, a3, a4, a5, a6, a7, a8, a9, a10, a11, a12)) :
    ∀ d y a11 a12, y + d = 5 → tm_S T q y 0 a11 a12 → wX_search_65 post (d + 1) (nI y) 5 5 nc sd a1 a2 a3 a4 a5 a6 a7 a8 a9 a10 a11 a12 := by
  intro d
  induction d with
  | zero =>
    intro y a11 a12 hy S
    have e : y = 5 := by omega
    rw [e] at S ⊢
    exact pk_le 5 5 (fun _ => H a11 a12 S) (fun z => absurd z (by omega))
  | succ d ih =>
    intro y a11 a12 hy S
    refine pk_le 5 y (fun z => absurd z (by omega)) (fun _ => ?_)
    refine Exists.intro 6 ?_
    refine tm_s4 hq hT (by omega) (fun x hx => t1 y x (by omega) hx) u0 v0 v1 v2 r5 r8 r9 r10 hca (fun a11 a12 S => nm_r (nI_1 y) ?_) 5 0 0 a11 a12 (by omega) (by omega) hck S
    refine ih (y + 1) a11 a12 (by omega) ?_
    obtain ⟨s1, s2, s3, s4, s5⟩ := S
    refine ⟨fun c hc => ?_, s2, s3, fun r hr => ?_, s5⟩
    · rw [s1 c hc, if_pos hc, if_neg (by omega)]
    · rw [s4 r hr, tm_fd_row]
/-- found and progress are cleared -/
theorem tm_s37 {wi he : Int32} (H : ∀ a11 a12, (∀ j, j < 36 → a11 j = 0 ∧ a12 j = 0) → ∃ fu, wX_search_65 post fu 0 wi he nc sd a1 a2 a3 a4 a5 a6 a7 a8 a9 a10 a11 a12) :
    ∃ fu, wX_search_37 post wi he nc sd fu 0 a1 a2 a3 a4 a5 a6 a7 a8 a9 a10 a11 a12 := by
  refine pk_loop (fun n i (s : (Nat → Int32) × (Nat → Int32)) => wX_search_37 post wi he nc sd n (nI i) a1 a2 a3 a4 a5 a6 a7 a8 a9 a10 s.1 s.2) (fun i s => ∀ j, j < i → s.1 j = 0 ∧ s.2 j = 0) 36 0 (a11, a12) (by omega) (fun j hj => absurd hj (by omega)) ?_ ?_
  · intro n s hs
    exact pk_le 36 36 (fun _ => H s.1 s.2 hs) (fun z => absurd z (by omega))
  · intro n i s hi hs hw
    refine pk_le 36 i (fun z => absurd z (by omega)) (fun _ => ?_)
    refine And.intro (pk_in i 36 hi) (nm_e (And.intro (pk_in i 36 hi) (nm_e (nm_r (nI_1 i) ?_))))
    refine hw (upd s.1 (nI i).toNatClampNeg 0, upd s.2 (nI i).toNatClampNeg 0) ?_
    intro j hj
    dsimp only
    rw [nI_clamp (show i < 2 ^ 31 by omega)]
    by_cases e : j = i
    · rw [e, pk_us, pk_us]
      exact ⟨rfl, rfl⟩
    · rw [pk_un e, pk_un e]
      exact hs j (by omega)
/-- search, from a state that is not searched yet -/
theorem tm_search0 (hq : q < 16) (hT : ∀ x y, T x y < 2) (t1 : ∀ y x, y < 5 → x < 5 → a1 (12 * y + x) = nI (T x y)) (u0 : a2 0 = nI 2) (u1 : a2 1 = nI 4) (u2 : a2 2 = nI 4) (v0 : a3 0 = nI 2) (v1 : a3 1 = nI 4) (v2 : a3 2 = nI 4) (r4 : tm_r a4 (tm_pt q) 48)
    (r6 : tm_r a6 0 49) (r7 : tm_r a7 0 49) (r9 : tm_q a9 tm_rn0 12) (r10 : tm_r a10 0 15)
    (H : ∀ nc a5 a6 a7 a8 a9 a10 a11 a12, (∀ r, r < 5 → a11 r = nI (tm_F T q r 4)) → (∀ j, 12 ≤ j → j < 36 → a11 j = 0) → post (5, 5, nc, 1, a1, a2, a3, a4, a5, a6, a7, a8, a9, a10, a11, a12)) :
    wpX_search post (5, 5, nc, 0, a1, a2, a3, a4, a5, a6, a7, a8, a9, a10, a11, a12) := by
  have hrun := tm_run q hq
  unfold tm_ex at hrun
  rw [tm_fE, tm_fE] at hrun
  refine br_t rfl ?_
  refine tm_a7_ok (fun a5 a8 r5 r8 => Exists.intro 4 ?_)
  refine tm_a36_ok (nc := 1) (rn := tm_rn0) (fb := 0) (qu := 0) (br := 0) (re := 0) (k := fun br re rn => tm_fails rn (fun fl => tm_ok q br re rn fl) 0) u0 u1 u2 v0 v1 v2 r4 r5 r6 r7 r8 r9 (fun nc br re rn a5 a6 a7 a8 a9 r5 r8 r9 hk => ?_) hrun
  unfold tm_fails at hk
  refine Exists.intro 4 ?_
  refine pk_le 3 0 (fun z => absurd z (by omega)) (fun _ => ?_)
  refine tm_fail_ok (p := 0) (by omega) (by omega) v0 r9 r10 (fun fl a10 r10 hk => nm_r (nI_1 0) ?_) hk
  refine pk_le 3 1 (fun z => absurd z (by omega)) (fun _ => ?_)
  refine tm_fail_ok (p := 1) (by omega) (by omega) v1 r9 r10 (fun fl a10 r10 hk => nm_r (nI_1 1) ?_) hk
  refine pk_le 3 2 (fun z => absurd z (by omega)) (fun _ => ?_)
  refine tm_fail_ok (p := 2) (by omega) (by omega) v2 r9 r10 (fun fl a10 r10 hk => nm_r (nI_1 2) ?_) hk
  refine pk_le 3 3 (fun _ => ?_) (fun z => absurd z (by omega))
  obtain ⟨hck, hca⟩ := tm_bT hk
  refine tm_s37 (fun a11 a12 hz => Exists.intro 6 ?_)
  refine tm_s65 hq hT t1 u0 v0 v1 v2 r5 r8 r9 r10 hca hck (fun a11 a12 S => H (nI nc) a5 a6 a7 a8 a9 a10 a11 a12 (fun r hr => ?_) S.2.2.2.2) 5 0 a11 a12 (by omega) ?_
  · rw [S.2.2.2.1 r hr, tm_fd_5 hr]
  · refine ⟨fun c hc => ?_, fun c hc => ?_, fun c hc => ⟨0, by omega, ?_⟩, fun r hr => ?_, fun j hj hj2 => (hz j hj2).1⟩
    · rw [(hz c (by omega)).2, if_neg (by omega)]
      rfl
    · rw [(hz (12 + c) (by omega)).2]
      rfl
    · rw [(hz (24 + c) (by omega)).2]
      rfl
    · rw [(hz r (by omega)).1, tm_fd_0]
      rfl
end
end
section
/-- the number of bits, of a number below 64 -/
def tm_pc (k : Nat) : Nat := k % 2 + k / 2 % 2 + k / 4 % 2 + k / 8 % 2 + k / 16 % 2 + k / 32 % 2
def tm_bc (v : Int32) : Nat → Int32
  | 0 => 0
  | n + 1 => tm_bc v n + ((v >>> (nI n &&& 31)) &&& 1)
theorem tm_bc12 : ∀ k, k < 64 → tm_bc (nI k) 12 = nI (tm_pc k) := by decide +kernel
def tm_sum (f : Nat → Nat) : Nat → Nat
  | 0 => 0
  | n + 1 => tm_sum f n + f n
theorem tm_or2 : ∀ a, a < 32 → ∀ b, b < 32 → nI a ||| nI b = nI (a ||| b) := by decide +kernel
theorem tm_orl : ∀ a, a < 32 → ∀ b, b < 32 → a ||| b < 32 := by decide +kernel
theorem tm_orl4 : ∀ a, a < 16 → ∀ b, b < 16 → a ||| b < 16 := by decide +kernel
theorem tm_an0 : ∀ a, a < 16 → ∀ b, b < 16 → nI a &&& (nI b >>> (nI 0 &&& 31)) = nI (a &&& b) := by decide +kernel
theorem tm_an1 : ∀ a, a < 16 → ∀ b, b < 16 → nI a &&& (nI b >>> (nI 1 &&& 31)) = nI (a &&& (b / 2)) := by decide +kernel
theorem tm_an2 : ∀ a, a < 16 → ∀ b, b < 16 → (nI a >>> (nI 1 &&& 31)) &&& nI b = nI ((a / 2) &&& b) := by decide +kernel
theorem tm_anl (a b : Nat) (ha : a < 16) : a &&& b < 64 := Nat.lt_of_le_of_lt Nat.and_le_left (by omega)
theorem tm_bit : ∀ k, k < 16 → ∀ x, x < 5 → (nI k >>> (nI x &&& 31)) &&& 1 = nI (k / 2 ^ x % 2) := by decide +kernel
theorem tm_sh0 : ∀ k, k < 16 → nI k <<< (nI 0 &&& 31) = nI k := by decide +kernel
theorem tm_sh1 : ∀ k, k < 16 → nI k <<< (nI 1 &&& 31) = nI (2 * k) := by decide +kernel
theorem tm_shz : ∀ i, i < 4 → (0 : Int32) <<< (nI i &&& 31) = 0 := by decide +kernel
theorem tm_srz : ∀ i, i < 4 → (0 : Int32) >>> (nI i &&& 31) = 0 := by decide +kernel
section
variable {wi he nc sd : Int32} {a1 a2 a3 a4 a5 a6 a7 a8 a9 a10 a11 a12 : Nat → Int32}
theorem tm_bits {post : Int32 → Prop} {k : Nat} (hk : k < 64) (H : post (nI (tm_pc k))) : wpX_bitsIn post (wi, he, nc, sd, a1, a2, a3, a4, a5, a6, a7, a8, a9, a10, a11, a12) (nI k) := by
  refine pk_loop (σ := Unit) (fun n i _ => wX_bitsIn_4 post (nI k) wi he nc sd a1 a2 a3 a4 a5 a6 a7 a8 a9 a10 a11 a12 n (tm_bc (nI k) i) (nI i)) (fun _ _ => True) 12 0 () (by omega) trivial ?_ ?_
  · intro n _ _
    refine pk_le 12 12 (fun _ => ?_) (fun z => absurd z (by omega))
    rw [tm_bc12 k hk]
    exact H
  · intro n i _ hi _ hw
    exact pk_le 12 i (fun z => absurd z (by omega)) (fun _ => nm_e (nm_r (nI_1 i) (hw () trivial)))
theorem tm_isP {post : Int32 → Prop} {p : Nat} (hp : p < 3) (H : post 1) : wpX_isPattern post (wi, he, nc, sd, a1, a2, a3, a4, a5, a6, a7, a8, a9, a10, a11, a12) (nI p) :=
  pk_lt p 0 (fun z => absurd z (by omega)) (fun _ => pk_lt 2 p (fun z => absurd z (by omega)) (fun _ => H))
theorem tm_ocs {post : Int32 → St2 → Prop} {p : Nat} {f : Nat → Nat} (hp : p < 3) (hf : ∀ y, y < 5 → f y < 64) (h11 : ∀ y, y < 5 → a11 (12 * p + y) = nI (f y))
    (H : post (nI (tm_sum (fun y => tm_pc (f y)) 5)) (5, 5, nc, 1, a1, a2, a3, a4, a5, a6, a7, a8, a9, a10, a11, a12)) :
    wpX_occurrences post (5, 5, nc, 1, a1, a2, a3, a4, a5, a6, a7, a8, a9, a10, a11, a12) (nI p) := by
  unfold wpX_occurrences
  refine tm_isP hp ?_
  refine br_f (by decide) ?_
  refine br_f (by decide) ?_
  refine pk_loop (σ := Unit) (fun n i _ => wX_occurrences_18 post (nI p) 5 5 nc 1 a1 a2 a3 a4 a5 a6 a7 a8 a9 a10 a11 a12 n (nI (tm_sum (fun y => tm_pc (f y)) i)) (nI i)) (fun _ _ => True) 5 0 () (by omega) trivial ?_ ?_
  · intro n _ _
    exact pk_le 5 5 (fun _ => H) (fun z => absurd z (by omega))
  · intro n i _ hi _ hw
    refine pk_le 5 i (fun z => absurd z (by omega)) (fun _ => ?_)
    refine And.intro (pk_in (12 * p + i) 36 (by omega) (tm_ix 12 p i)) ?_
    have e : a11 (nI 12 * nI p + nI i).toNatClampNeg = nI (f i) := by rw [pk_cl (12 * p + i) (tm_ix 12 p i)]; exact h11 i hi
    refine ek_v (P := fun z => wpX_bitsIn _ _ z) e (tm_bits (hf i hi) ?_)
    exact nm_r (nI_add _ _) (nm_r (nI_1 i) (hw () trivial))
/-- what 'next' answers, k cells from the end -/
def tm_N (f : Nat → Nat) (fr : Int32) : Nat → Int32
  | 0 => -2
  | k + 1 => if ¬ nI (16 * ((24 - k) / 5) + (24 - k) % 5) < fr ∧ f ((24 - k) / 5) / 2 ^ ((24 - k) % 5) % 2 = 1 then nI (16 * ((24 - k) / 5) + (24 - k) % 5) else tm_N f fr k
theorem tm_Ns (f : Nat → Nat) (fr : Int32) {x y : Nat} (hx : x < 5) (hy : y < 5) : tm_N f fr (25 - (5 * y + x)) = if ¬ nI (16 * y + x) < fr ∧ f y / 2 ^ x % 2 = 1 then nI (16 * y + x) else tm_N f fr (25 - (5 * y + (x + 1))) := by
  have e : 25 - (5 * y + x) = (24 - (5 * y + x)) + 1 := by omega
  have e2 : 25 - (5 * y + (x + 1)) = 24 - (5 * y + x) := by omega
  have e3 : (24 - (24 - (5 * y + x))) / 5 = y := by omega
  have e4 : (24 - (24 - (5 * y + x))) % 5 = x := by omega
  rw [e, e2]
  show (if ¬ nI (16 * ((24 - (24 - (5 * y + x))) / 5) + (24 - (24 - (5 * y + x))) % 5) < fr ∧ f ((24 - (24 - (5 * y + x))) / 5) / 2 ^ ((24 - (24 - (5 * y + x))) % 5) % 2 = 1 then nI (16 * ((24 - (24 - (5 * y + x))) / 5) + (24 - (24 - (5 * y + x))) % 5) else tm_N f fr (24 - (5 * y + x))) = _
  rw [e3, e4]
theorem tm_nx27 {post : Int32 → St2 → Prop} {J : Int32 → Prop} {f : Nat → Nat} {fr : Int32} {y : Nat} (hy : y < 5) (hf : f y < 16) (h11 : a11 y = nI (f y))
    (HJ : post (tm_N f fr (25 - (5 * y + 5))) (5, 5, nc, 1, a1, a2, a3, a4, a5, a6, a7, a8, a9, a10, a11, a12) → J (nI (y + 1))) :
    ∀ d x, x + d = 5 → post (tm_N f fr (25 - (5 * y + x))) (5, 5, nc, 1, a1, a2, a3, a4, a5, a6, a7, a8, a9, a10, a11, a12) →
      wX_next_27 post J (nI 0) fr (nI y) 5 5 nc 1 a1 a2 a3 a4 a5 a6 a7 a8 a9 a10 a11 a12 (d + 1) (nI x) := by
  intro d
  induction d with
  | zero =>
    intro x hx H
    have e : x = 5 := by omega
    rw [e] at H ⊢
    exact pk_le 5 5 (fun _ => nm_r (nI_1 y) (HJ H)) (fun z => absurd z (by omega))
  | succ d ih =>
    intro x hx H
    rw [tm_Ns f fr (by omega) hy] at H
    have e1 : nI 16 * nI y + nI x = nI (16 * y + x) := tm_ix 16 y x
    have e2 : a11 (nI 12 * nI 0 + nI y).toNatClampNeg = nI (f y) := by
      rw [pk_cl (12 * 0 + y) (tm_ix 12 0 y), Nat.mul_zero, Nat.zero_add]
      exact h11
    have e3 : (a11 (nI 12 * nI 0 + nI y).toNatClampNeg >>> (nI x &&& 31)) &&& 1 = nI (f y / 2 ^ x % 2) := by
      rw [e2]
      exact tm_bit (f y) hf x (by omega)
    refine pk_le 5 x (fun z => absurd z (by omega)) (fun _ => ?_)
    by_cases hl : nI (16 * y + x) < fr
    · rw [if_neg (fun z => z.1 hl)] at H
      refine br_t (ek_v (P := fun z => z < fr) e1 hl) (nm_r (nI_1 x) ?_)
      exact ih (x + 1) (by omega) H
    · refine br_f (ek_v (P := fun z => ¬ z < fr) e1 hl) ?_
      refine And.intro (pk_in (12 * 0 + y) 36 (by omega) (tm_ix 12 0 y)) ?_
      by_cases hb : f y / 2 ^ x % 2 = 1
      · rw [if_pos ⟨hl, hb⟩] at H
        refine br_f (ek_v (P := fun z => ¬ z = 0) e3 (by rw [hb]; decide)) ?_
        exact ek_v (P := fun z => post z _) e1 H
      · rw [if_neg (fun z => hb z.2)] at H
        have hb0 : f y / 2 ^ x % 2 = 0 := by
          have := Nat.mod_lt (f y / 2 ^ x) (show 2 > 0 by decide)
          omega
        refine br_t (ek_v (P := fun z => z = 0) e3 (by rw [hb0]; rfl)) (nm_r (nI_1 x) ?_)
        exact ih (x + 1) (by omega) H
theorem tm_nx {post : Int32 → St2 → Prop} {f : Nat → Nat} {fr : Int32} (hf : ∀ y, y < 5 → f y < 16) (h11 : ∀ y, y < 5 → a11 y = nI (f y))
    (H : post (tm_N f fr 25) (5, 5, nc, 1, a1, a2, a3, a4, a5, a6, a7, a8, a9, a10, a11, a12)) :
    wpX_next post (5, 5, nc, 1, a1, a2, a3, a4, a5, a6, a7, a8, a9, a10, a11, a12) (nI 0) fr := by
  unfold wpX_next
  refine tm_isP (p := 0) (by omega) ?_
  refine br_f (by decide) ?_
  refine br_f (by decide) ?_
  have main : ∀ d y, y + d = 5 → post (tm_N f fr (25 - 5 * y)) (5, 5, nc, 1, a1, a2, a3, a4, a5, a6, a7, a8, a9, a10, a11, a12) → wX_next_16 post (nI 0) fr 5 5 nc 1 a1 a2 a3 a4 a5 a6 a7 a8 a9 a10 a11 a12 (d + 1) (nI y) := by
    intro d
    induction d with
    | zero =>
      intro y hy H
      have e : y = 5 := by omega
      rw [e] at H ⊢
      exact pk_le 5 5 (fun _ => H) (fun z => absurd z (by omega))
    | succ d ih =>
      intro y hy H
      refine pk_le 5 y (fun z => absurd z (by omega)) (fun _ => Exists.intro 6 ?_)
      refine tm_nx27 (f := f) (by omega) (hf y (by omega)) (h11 y (by omega)) (fun H' => ih (y + 1) (by omega) H') 5 0 (by omega) ?_
      exact H
  exact Exists.intro 6 (main 5 0 (by omega) H)
end
end
section
/-- the row above -/
def tm_up (f : Nat → Nat) (y : Nat) : Nat := if y = 0 then 0 else f (y - 1)
def tm_cb (a b : Nat) : Nat := (a ||| b) ||| (2 * (a ||| b))
theorem tm_cbl : ∀ a, a < 16 → ∀ b, b < 16 → tm_cb a b < 32 := by decide +kernel
theorem tm_cs1 : ∀ k, k < 16 → nI k ||| (nI k <<< (nI 1 &&& 31)) = nI (k ||| (2 * k)) := by decide +kernel
theorem tm_cs0 : ∀ k, k < 16 → nI 0 ||| (nI k <<< (nI 0 &&& 31)) = nI k := by decide +kernel
theorem tm_or0 : ∀ k, k < 32 → nI 0 ||| nI k = nI k := by decide +kernel
theorem tm_or9 : ∀ k, k < 32 → nI k ||| nI 0 = nI k := by decide +kernel
section
variable {wi he nc sd : Int32} {a1 a2 a3 a4 a5 a6 a7 a8 a9 a10 a11 a12 : Nat → Int32}
theorem tm_c51 {post : Int32 → Prop} {b : Nat} (u0 : a2 0 = nI 2) (hb : b < 16) (H : post (nI (b ||| (2 * b)))) : ∃ fu, wX_coveredInRow_51 post (nI 0) (nI b) wi he nc sd a1 a2 a3 a4 a5 a6 a7 a8 a9 a10 a11 a12 fu 0 0 := by
  have hx2 : a2 (nI 0).toNatClampNeg = nI 2 := by rw [tm_c0]; exact u0
  refine Exists.intro 3 ?_
  refine And.intro (pk_in 0 3 (by omega)) (pk_le 2 0 (fun z => absurd z (by omega)) (fun _ => nm_r (tm_cs0 b hb) (nm_r (nI_1 0) ?_)) hx2 rfl)
  refine And.intro (pk_in 0 3 (by omega)) (pk_le 2 1 (fun z => absurd z (by omega)) (fun _ => nm_r (tm_cs1 b hb) (nm_r (nI_1 1) ?_)) hx2 rfl)
  exact And.intro (pk_in 0 3 (by omega)) (pk_le 2 2 (fun _ => H) (fun z => absurd z (by omega)) hx2 rfl)
theorem tm_cir {post : Int32 → Prop} {f : Nat → Nat} {y : Nat} (u0 : a2 0 = nI 2) (v0 : a3 0 = nI 2) (hf : ∀ y, y < 5 → f y < 16) (h11 : ∀ y, y < 5 → a11 y = nI (f y)) (hy : y < 5) (H : post (nI (tm_cb (f y) (tm_up f y)))) :
    wpX_coveredInRow post (wi, he, nc, sd, a1, a2, a3, a4, a5, a6, a7, a8, a9, a10, a11, a12) (nI 0) (nI y) := by
  have hx3 : a3 (nI 0).toNatClampNeg = nI 2 := by rw [tm_c0]; exact v0
  have i0 : nI 12 * nI 0 + nI y - nI 0 = nI y := by rw [tm_ix 12 0 y, pk_sub (by omega), Nat.mul_zero, Nat.zero_add, Nat.sub_zero]
  have g0 : nI 0 ||| a11 (nI 12 * nI 0 + nI y - nI 0).toNatClampNeg = nI (f y) := by
    rw [pk_cl y i0, h11 y hy]
    exact tm_or0 _ (Nat.lt_trans (hf y hy) (by omega))
  refine Exists.intro 3 ?_
  refine And.intro (pk_in 0 3 (by omega)) (pk_le 2 0 (fun z => absurd z (by omega)) (fun _ => ?_) hx3 rfl)
  refine pk_lt y 0 (fun z => absurd z (by omega)) (fun _ => ?_)
  refine And.intro (pk_in y 36 (by omega) i0) (nm_r g0 (nm_r (nI_1 0) ?_))
  refine And.intro (pk_in 0 3 (by omega)) (pk_le 2 1 (fun z => absurd z (by omega)) (fun _ => ?_) hx3 rfl)
  refine pk_lt y 1 (fun z => ?_) (fun z => ?_)
  · have e : y = 0 := by omega
    refine tm_c51 u0 (hf y hy) ?_
    have e2 : tm_up f y = 0 := if_pos e
    rw [e2] at H
    unfold tm_cb at H
    rw [Nat.or_zero] at H
    exact H
  · have i1 : nI 12 * nI 0 + nI y - nI 1 = nI (y - 1) := by rw [tm_ix 12 0 y, pk_sub (by omega), Nat.mul_zero, Nat.zero_add]
    have g1 : nI (f y) ||| a11 (nI 12 * nI 0 + nI y - nI 1).toNatClampNeg = nI (f y ||| f (y - 1)) := by
      rw [pk_cl (y - 1) i1, h11 (y - 1) (by omega)]
      exact tm_or2 _ (Nat.lt_trans (hf y hy) (by omega)) _ (Nat.lt_trans (hf (y - 1) (by omega)) (by omega))
    refine And.intro (pk_in (y - 1) 36 (by omega) i1) (nm_r g1 (nm_r (nI_1 1) ?_))
    refine And.intro (pk_in 0 3 (by omega)) (pk_le 2 2 (fun _ => ?_) (fun z => absurd z (by omega)) hx3 rfl)
    refine tm_c51 u0 (tm_orl4 _ (hf y hy) _ (hf (y - 1) (by omega))) ?_
    have e2 : tm_up f y = f (y - 1) := if_neg (by omega)
    rw [e2] at H
    exact H
theorem tm_ciz {post : Int32 → Prop} {p y : Nat} (hp1 : 1 ≤ p) (hp : p < 3) (u : a2 p = nI 4) (v : a3 p = nI 4) (h11 : ∀ j, 12 ≤ j → j < 36 → a11 j = 0) (hy : y < 5) (H : post (nI 0)) :
    wpX_coveredInRow post (wi, he, nc, sd, a1, a2, a3, a4, a5, a6, a7, a8, a9, a10, a11, a12) (nI p) (nI y) := by
  have hx2 : a2 (nI p).toNatClampNeg = nI 4 := by rw [nI_clamp (show p < 2 ^ 31 by omega)]; exact u
  have hx3 : a3 (nI p).toNatClampNeg = nI 4 := by rw [nI_clamp (show p < 2 ^ 31 by omega)]; exact v
  have H51 : ∀ d x, x + d = 4 → wX_coveredInRow_51 post (nI p) (nI 0) wi he nc sd a1 a2 a3 a4 a5 a6 a7 a8 a9 a10 a11 a12 (d + 1) (nI 0) (nI x) := by
    intro d
    induction d with
    | zero =>
      intro x hx
      exact And.intro (pk_in p 3 hp) (pk_le 4 x (fun _ => H) (fun z => absurd z (by omega)) hx2 rfl)
    | succ d ih =>
      intro x hx
      have e : nI 0 ||| (nI 0 <<< (nI x &&& 31)) = nI 0 := by
        have e1 : nI 0 <<< (nI x &&& 31) = 0 := tm_shz x (by omega)
        rw [e1]
        decide
      exact And.intro (pk_in p 3 hp) (pk_le 4 x (fun z => absurd z (by omega)) (fun _ => nm_r e (nm_r (nI_1 x) (ih (x + 1) (by omega)))) hx2 rfl)
  have main : ∀ d x, x + d = 4 → wX_coveredInRow_5 post (nI p) (nI y) wi he nc sd a1 a2 a3 a4 a5 a6 a7 a8 a9 a10 a11 a12 (d + 1) (nI 0) (nI x) := by
    intro d
    induction d with
    | zero =>
      intro x hx
      exact And.intro (pk_in p 3 hp) (pk_le 4 x (fun _ => Exists.intro 5 (H51 4 0 (by omega))) (fun z => absurd z (by omega)) hx3 rfl)
    | succ d ih =>
      intro x hx
      refine And.intro (pk_in p 3 hp) (pk_le 4 x (fun z => absurd z (by omega)) (fun _ => ?_) hx3 rfl)
      refine pk_lt y x (fun z => Exists.intro 5 (H51 4 0 (by omega))) (fun z => ?_)
      have i : nI 12 * nI p + nI y - nI x = nI (12 * p + y - x) := by rw [tm_ix 12 p y, pk_sub (by omega)]
      have g : nI 0 ||| a11 (nI 12 * nI p + nI y - nI x).toNatClampNeg = nI 0 := by
        rw [pk_cl (12 * p + y - x) i, h11 (12 * p + y - x) (by omega) (by omega)]
        decide
      exact And.intro (pk_in (12 * p + y - x) 36 (by omega) i) (nm_r g (nm_r (nI_1 x) (ih (x + 1) (by omega))))
  exact Exists.intro 5 (main 4 0 (by omega))
theorem tm_cov {post : Int32 → St2 → Prop} {f : Nat → Nat} (u0 : a2 0 = nI 2) (u1 : a2 1 = nI 4) (u2 : a2 2 = nI 4) (v0 : a3 0 = nI 2) (v1 : a3 1 = nI 4) (v2 : a3 2 = nI 4) (hf : ∀ y, y < 5 → f y < 16) (h11 : ∀ y, y < 5 → a11 y = nI (f y)) (hz : ∀ j, 12 ≤ j → j < 36 → a11 j = 0)
    (H : post (nI (tm_sum (fun y => tm_pc (tm_cb (f y) (tm_up f y))) 5)) (5, 5, nc, 1, a1, a2, a3, a4, a5, a6, a7, a8, a9, a10, a11, a12)) :
    wpX_covered post (5, 5, nc, 1, a1, a2, a3, a4, a5, a6, a7, a8, a9, a10, a11, a12) := by
  unfold wpX_covered
  refine br_f (by decide) ?_
  have main : ∀ d y, y + d = 5 → wX_covered_8 post 5 5 nc 1 a1 a2 a3 a4 a5 a6 a7 a8 a9 a10 a11 a12 (d + 1) (nI (tm_sum (fun y => tm_pc (tm_cb (f y) (tm_up f y))) y)) (nI y) := by
    intro d
    induction d with
    | zero =>
      intro y hy
      have e : y = 5 := by omega
      rw [e]
      exact pk_le 5 5 (fun _ => H) (fun z => absurd z (by omega))
    | succ d ih =>
      intro y hy
      have hup : tm_up f y < 16 := by
        unfold tm_up
        split
        · omega
        · exact hf _ (by omega)
      have hc := tm_cbl _ (hf y (by omega)) _ hup
      refine pk_le 5 y (fun z => absurd z (by omega)) (fun _ => Exists.intro 4 ?_)
      refine pk_le 3 0 (fun z => absurd z (by omega)) (fun _ => ?_)
      refine tm_cir u0 v0 hf h11 (by omega) (nm_r (tm_or0 _ hc) (nm_r (nI_1 0) ?_))
      refine pk_le 3 1 (fun z => absurd z (by omega)) (fun _ => ?_)
      refine tm_ciz (p := 1) (by omega) (by omega) u1 v1 hz (by omega) (nm_r (tm_or9 _ hc) (nm_r (nI_1 1) ?_))
      refine pk_le 3 2 (fun z => absurd z (by omega)) (fun _ => ?_)
      refine tm_ciz (p := 2) (by omega) (by omega) u2 v2 hz (by omega) (nm_r (tm_or9 _ hc) (nm_r (nI_1 2) ?_))
      refine pk_le 3 3 (fun _ => ?_) (fun z => absurd z (by omega))
      exact tm_bits (by omega) (nm_r (nI_add _ _) (nm_r (nI_1 y) (ih (y + 1) (by omega))))
  exact Exists.intro 6 (main 5 0 (by omega))
theorem tm_inT {post : Int32 → Prop} {x y : Nat} (hx : x < 5) (hy : y < 5) (H : post 1) : wpX_inText post (5, 5, nc, sd, a1, a2, a3, a4, a5, a6, a7, a8, a9, a10, a11, a12) (nI x) (nI y) :=
  pk_lt x 0 (fun z => absurd z (by omega)) (fun _ => pk_le 5 x (fun z => absurd z (by omega)) (fun _ => pk_lt y 0 (fun z => absurd z (by omega)) (fun _ => pk_le 5 y (fun z => absurd z (by omega)) (fun _ => H))))
/-- a state out of which search ends with found = f -/
def tm_C (f : Nat → Nat) (a1 a2 a3 a4 : Nat → Int32) (u : St2) : Prop :=
  ∀ post : St2 → Prop, (∀ nc a5 a6 a7 a8 a9 a10 a11 a12, (∀ r, r < 5 → a11 r = nI (f r)) → (∀ j, 12 ≤ j → j < 36 → a11 j = 0) → post (5, 5, nc, 1, a1, a2, a3, a4, a5, a6, a7, a8, a9, a10, a11, a12)) → wpX_search post u
theorem tm_C1 {f : Nat → Nat} (h1 : ∀ r, r < 5 → a11 r = nI (f r)) (h2 : ∀ j, 12 ≤ j → j < 36 → a11 j = 0) : tm_C f a1 a2 a3 a4 (5, 5, nc, 1, a1, a2, a3, a4, a5, a6, a7, a8, a9, a10, a11, a12) :=
  fun _ H => br_f (by decide) (H nc a5 a6 a7 a8 a9 a10 a11 a12 h1 h2)
theorem tm_occ {post : Int32 → St2 → Prop} {f : Nat → Nat} {x y : Nat} (hx : x < 5) (hy : y < 5) (hf : f y < 16) (hC : tm_C f a1 a2 a3 a4 (5, 5, nc, sd, a1, a2, a3, a4, a5, a6, a7, a8, a9, a10, a11, a12))
    (H : ∀ nc a5 a6 a7 a8 a9 a10 a11 a12, (∀ r, r < 5 → a11 r = nI (f r)) → (∀ j, 12 ≤ j → j < 36 → a11 j = 0) → post (nI (f y / 2 ^ x % 2)) (5, 5, nc, 1, a1, a2, a3, a4, a5, a6, a7, a8, a9, a10, a11, a12)) :
    wpX_occurs post (5, 5, nc, sd, a1, a2, a3, a4, a5, a6, a7, a8, a9, a10, a11, a12) (nI 0) (nI x) (nI y) := by
  unfold wpX_occurs
  refine tm_isP (p := 0) (by omega) ?_
  refine br_f (by decide) ?_
  refine tm_inT hx hy ?_
  refine br_f (by decide) ?_
  refine hC _ (fun nc a5 a6 a7 a8 a9 a10 a11 a12 h1 h2 => ?_)
  have H := H nc a5 a6 a7 a8 a9 a10 a11 a12 h1 h2
  have e3 : (a11 (nI 12 * nI 0 + nI y).toNatClampNeg >>> (nI x &&& 31)) &&& 1 = nI (f y / 2 ^ x % 2) := by
    rw [pk_cl (12 * 0 + y) (tm_ix 12 0 y), Nat.mul_zero, Nat.zero_add, h1 y hy]
    exact tm_bit (f y) hf x hx
  have hl := Nat.mod_lt (f y / 2 ^ x) (show 2 > 0 by decide)
  refine And.intro (pk_in (12 * 0 + y) 36 (by omega) (tm_ix 12 0 y)) ?_
  by_cases hb : f y / 2 ^ x % 2 = 0
  · rw [hb] at H
    exact br_t (ek_v (P := fun z => z = 0) e3 (by rw [hb]; rfl)) H
  · have hb1 : f y / 2 ^ x % 2 = 1 := by omega
    rw [hb1] at H
    exact br_f (ek_v (P := fun z => ¬ z = 0) e3 (by rw [hb1]; decide)) H
end
end
section
def tm_m0 (a : Nat) : Nat := tm_pc (a &&& (a / 2))
def tm_m1 (a b : Nat) : Nat := tm_pc (a &&& b) + tm_pc (a &&& (b / 2)) + tm_pc ((a / 2) &&& b)
def tm_ov (f : Nat → Nat) (y : Nat) : Nat := tm_m0 (f y) + (if y < 4 then tm_m1 (f y) (f (y + 1)) else 0)
section
variable {wi he nc sd : Int32} {a1 a2 a3 a4 a5 a6 a7 a8 a9 a10 a11 a12 : Nat → Int32}
theorem tm_mt0 {post : Int32 → Prop} {f : Nat → Nat} {y : Nat} (u0 : a2 0 = nI 2) (hf : ∀ y, y < 5 → f y < 16) (h11 : ∀ y, y < 5 → a11 y = nI (f y)) (hy : y < 5) (H : post (nI (tm_m0 (f y)))) :
    wpX_meetings post (wi, he, nc, sd, a1, a2, a3, a4, a5, a6, a7, a8, a9, a10, a11, a12) (nI 0) (nI y) (nI 0) := by
  have hx2 : a2 (nI 0).toNatClampNeg = nI 2 := by rw [tm_c0]; exact u0
  have i0 : nI 12 * nI 0 + nI y = nI y := by rw [tm_ix 12 0 y, Nat.mul_zero, Nat.zero_add]
  have i1 : nI 12 * nI 0 + nI y + nI 0 = nI y := by rw [i0, nI_add, Nat.add_zero]
  have g0 : a11 (nI 12 * nI 0 + nI y).toNatClampNeg = nI (f y) := by rw [pk_cl y i0]; exact h11 y hy
  have g1 : a11 (nI 12 * nI 0 + nI y + nI 0).toNatClampNeg = nI (f y) := by rw [pk_cl y i1]; exact h11 y hy
  refine And.intro (pk_in y 36 (by omega) i0) (nm_r g0 ?_)
  refine And.intro (pk_in y 36 (by omega) i1) (nm_r g1 (Exists.intro 3 ?_))
  refine And.intro (pk_in 0 3 (by omega)) (pk_le 2 0 (fun z => absurd z (by omega)) (fun _ => ?_) hx2 rfl)
  refine pk_eq 0 0 (fun _ => ?_) (fun z => absurd rfl z)
  refine pk_eq 0 0 (fun _ => nm_r (nI_1 0) ?_) (fun z => absurd rfl z)
  refine And.intro (pk_in 0 3 (by omega)) (pk_le 2 1 (fun z => absurd z (by omega)) (fun _ => ?_) hx2 rfl)
  refine pk_eq 0 0 (fun _ => ?_) (fun z => absurd rfl z)
  refine pk_eq 1 0 (fun z => absurd z (by omega)) (fun _ => ?_)
  unfold wX_meetings_57
  refine ek_v (P := fun z => wpX_bitsIn _ _ z) (tm_an1 _ (hf y hy) _ (hf y hy)) (tm_bits (tm_anl _ _ (hf y hy)) (nm_r (nI_add 0 _) ?_))
  refine pk_le 0 0 (fun _ => nm_r (nI_1 1) ?_) (fun z => absurd z (by omega))
  refine And.intro (pk_in 0 3 (by omega)) (pk_le 2 2 (fun _ => ?_) (fun z => absurd z (by omega)) hx2 rfl)
  rw [Nat.zero_add]
  exact H
theorem tm_mt1 {post : Int32 → Prop} {f : Nat → Nat} {y : Nat} (u0 : a2 0 = nI 2) (hf : ∀ y, y < 5 → f y < 16) (h11 : ∀ y, y < 5 → a11 y = nI (f y)) (hy : y < 4) (H : post (nI (tm_m1 (f y) (f (y + 1))))) :
    wpX_meetings post (wi, he, nc, sd, a1, a2, a3, a4, a5, a6, a7, a8, a9, a10, a11, a12) (nI 0) (nI y) (nI 1) := by
  have hx2 : a2 (nI 0).toNatClampNeg = nI 2 := by rw [tm_c0]; exact u0
  have i0 : nI 12 * nI 0 + nI y = nI y := by rw [tm_ix 12 0 y, Nat.mul_zero, Nat.zero_add]
  have i1 : nI 12 * nI 0 + nI y + nI 1 = nI (y + 1) := by rw [i0, nI_add]
  have g0 : a11 (nI 12 * nI 0 + nI y).toNatClampNeg = nI (f y) := by rw [pk_cl y i0]; exact h11 y (by omega)
  have g1 : a11 (nI 12 * nI 0 + nI y + nI 1).toNatClampNeg = nI (f (y + 1)) := by rw [pk_cl (y + 1) i1]; exact h11 (y + 1) (by omega)
  have fa := hf y (by omega)
  have fb := hf (y + 1) (by omega)
  have fh : f y / 2 < 16 := by omega
  refine And.intro (pk_in y 36 (by omega) i0) (nm_r g0 ?_)
  refine And.intro (pk_in (y + 1) 36 (by omega) i1) (nm_r g1 (Exists.intro 3 ?_))
  refine And.intro (pk_in 0 3 (by omega)) (pk_le 2 0 (fun z => absurd z (by omega)) (fun _ => ?_) hx2 rfl)
  refine pk_eq 1 0 (fun z => absurd z (by omega)) (fun _ => ?_)
  unfold wX_meetings_57
  refine ek_v (P := fun z => wpX_bitsIn _ _ z) (tm_an0 _ fa _ fb) (tm_bits (tm_anl _ _ fa) (nm_r (nI_add 0 _) ?_))
  refine pk_le 1 0 (fun z => absurd z (by omega)) (fun _ => ?_)
  refine pk_le 0 0 (fun _ => nm_r (nI_1 0) ?_) (fun z => absurd z (by omega))
  refine And.intro (pk_in 0 3 (by omega)) (pk_le 2 1 (fun z => absurd z (by omega)) (fun _ => ?_) hx2 rfl)
  refine pk_eq 1 0 (fun z => absurd z (by omega)) (fun _ => ?_)
  unfold wX_meetings_57
  refine ek_v (P := fun z => wpX_bitsIn _ _ z) (tm_an1 _ fa _ fb) (tm_bits (tm_anl _ _ fa) (nm_r (nI_add _ _) ?_))
  refine pk_le 1 0 (fun z => absurd z (by omega)) (fun _ => ?_)
  refine pk_le 1 0 (fun z => absurd z (by omega)) (fun _ => ?_)
  refine ek_v (P := fun z => wpX_bitsIn _ _ z) (tm_an2 _ fa _ fb) (tm_bits (tm_anl _ _ fh) (nm_r (nI_add _ _) (nm_r (nI_1 1) ?_)))
  refine And.intro (pk_in 0 3 (by omega)) (pk_le 2 2 (fun _ => ?_) (fun z => absurd z (by omega)) hx2 rfl)
  rw [Nat.zero_add]
  exact H
theorem tm_ovl {post : Int32 → St2 → Prop} {f : Nat → Nat} (u0 : a2 0 = nI 2) (v0 : a3 0 = nI 2) (hf : ∀ y, y < 5 → f y < 16) (h11 : ∀ y, y < 5 → a11 y = nI (f y))
    (H : post (nI (tm_sum (tm_ov f) 5)) (5, 5, nc, 1, a1, a2, a3, a4, a5, a6, a7, a8, a9, a10, a11, a12)) :
    wpX_overlaps post (5, 5, nc, 1, a1, a2, a3, a4, a5, a6, a7, a8, a9, a10, a11, a12) (nI 0) := by
  have hx3 : a3 (nI 0).toNatClampNeg = nI 2 := by rw [tm_c0]; exact v0
  unfold wpX_overlaps
  refine tm_isP (p := 0) (by omega) ?_
  refine br_f (by decide) ?_
  refine br_f (by decide) ?_
  have main : ∀ d y, y + d = 5 → wX_overlaps_18 post (nI 0) 5 5 nc 1 a1 a2 a3 a4 a5 a6 a7 a8 a9 a10 a11 a12 (d + 1) (nI (tm_sum (tm_ov f) y)) (nI y) := by
    intro d
    induction d with
    | zero =>
      intro y hy
      have e : y = 5 := by omega
      rw [e]
      exact pk_le 5 5 (fun _ => H) (fun z => absurd z (by omega))
    | succ d ih =>
      intro y hy
      have ih := ih (y + 1) (by omega)
      have es : tm_sum (tm_ov f) (y + 1) = tm_sum (tm_ov f) y + (tm_m0 (f y) + (if y < 4 then tm_m1 (f y) (f (y + 1)) else 0)) := rfl
      rw [es] at ih
      refine pk_le 5 y (fun z => absurd z (by omega)) (fun _ => Exists.intro 3 ?_)
      refine And.intro (pk_in 0 3 (by omega)) (pk_le 2 0 (fun z => absurd z (by omega)) (fun _ => ?_) hx3 rfl)
      refine pk_le 5 (y + 0) (fun z => absurd z (by omega)) (fun _ => ?_) rfl (nI_add y 0)
      refine tm_mt0 u0 hf h11 (by omega) (nm_r (nI_add _ _) (nm_r (nI_1 0) ?_))
      refine And.intro (pk_in 0 3 (by omega)) (pk_le 2 1 (fun z => absurd z (by omega)) (fun _ => ?_) hx3 rfl)
      refine pk_le 5 (y + 1) (fun z => nm_r (nI_1 y) ?_) (fun z => ?_) rfl (nI_add y 1)
      · rw [if_neg (by omega), Nat.add_zero] at ih
        exact ih
      · rw [if_pos (by omega)] at ih
        refine tm_mt1 u0 hf h11 (by omega) (nm_r (nI_add _ _) (nm_r (nI_1 1) ?_))
        refine And.intro (pk_in 0 3 (by omega)) (pk_le 2 2 (fun _ => nm_r (nI_1 y) ?_) (fun z => absurd z (by omega)) hx3 rfl)
        rw [Nat.add_assoc]
        exact ih
  exact Exists.intro 6 (main 5 0 (by omega))
theorem tm_57z {post : Int32 → Prop} {J : Int32 → Int32 → Prop} {x3 : Int32} {x : Nat} (hx : x < 4) (H : J (nI 0) (nI (x + 1))) : wX_meetings_57 post J (nI 2) x3 0 0 (nI 0) (nI x) wi he nc sd a1 a2 a3 a4 a5 a6 a7 a8 a9 a10 a11 a12 := by
  have e1 : (0 : Int32) &&& (0 >>> (nI x &&& 31)) = nI 0 := by rw [tm_srz x hx]; decide
  have e2 : ((0 : Int32) >>> (nI x &&& 31)) &&& 0 = nI 0 := by rw [tm_srz x hx]; decide
  unfold wX_meetings_57
  refine ek_v (P := fun z => wpX_bitsIn _ _ z) e1 (tm_bits (by omega) (nm_r (nI_add 0 (tm_pc 0)) ?_))
  refine br_c (fun _ => nm_r (nI_1 x) H) (fun _ => ?_)
  refine br_c (fun _ => nm_r (nI_1 x) H) (fun _ => ?_)
  exact ek_v (P := fun z => wpX_bitsIn _ _ z) e2 (tm_bits (by omega) (nm_r (nI_add 0 (tm_pc 0)) (nm_r (nI_1 x) H)))
theorem tm_mtz {post : Int32 → Prop} {y dn : Nat} (u2 : a2 2 = nI 4) (hz : ∀ j, 12 ≤ j → j < 36 → a11 j = 0) (hy : y + dn < 5) (H : post (nI 0)) :
    wpX_meetings post (wi, he, nc, sd, a1, a2, a3, a4, a5, a6, a7, a8, a9, a10, a11, a12) (nI 2) (nI y) (nI dn) := by
  have hx2 : a2 (nI 2).toNatClampNeg = nI 4 := by rw [tm_c2]; exact u2
  have i1 : nI 12 * nI 2 + nI y + nI dn = nI (12 * 2 + y + dn) := by rw [tm_ix 12 2 y, nI_add]
  have g0 : a11 (nI 12 * nI 2 + nI y).toNatClampNeg = 0 := by rw [pk_cl (12 * 2 + y) (tm_ix 12 2 y)]; exact hz _ (by omega) (by omega)
  have g1 : a11 (nI 12 * nI 2 + nI y + nI dn).toNatClampNeg = 0 := by rw [pk_cl (12 * 2 + y + dn) i1]; exact hz _ (by omega) (by omega)
  have main : ∀ d x, x + d = 4 → wX_meetings_34 post (nI 2) (nI dn) 0 0 wi he nc sd a1 a2 a3 a4 a5 a6 a7 a8 a9 a10 a11 a12 (d + 1) (nI 0) (nI x) := by
    intro d
    induction d with
    | zero =>
      intro x hx
      exact And.intro (pk_in 2 3 (by omega)) (pk_le 4 x (fun _ => H) (fun z => absurd z (by omega)) hx2 rfl)
    | succ d ih =>
      intro x hx
      have ih := ih (x + 1) (by omega)
      refine And.intro (pk_in 2 3 (by omega)) (pk_le 4 x (fun z => absurd z (by omega)) (fun _ => ?_) hx2 rfl)
      refine br_c (fun _ => ?_) (fun _ => tm_57z (by omega) ih)
      exact br_c (fun _ => nm_r (nI_1 x) ih) (fun _ => tm_57z (by omega) ih)
  refine And.intro (pk_in (12 * 2 + y) 36 (by omega) (tm_ix 12 2 y)) (nm_r g0 ?_)
  refine And.intro (pk_in (12 * 2 + y + dn) 36 (by omega) i1) (nm_r g1 (Exists.intro 5 ?_))
  exact main 4 0 (by omega)
theorem tm_ovz {post : Int32 → St2 → Prop} (u2 : a2 2 = nI 4) (v2 : a3 2 = nI 4) (hz : ∀ j, 12 ≤ j → j < 36 → a11 j = 0)
    (H : post (nI 0) (5, 5, nc, 1, a1, a2, a3, a4, a5, a6, a7, a8, a9, a10, a11, a12)) :
    wpX_overlaps post (5, 5, nc, 1, a1, a2, a3, a4, a5, a6, a7, a8, a9, a10, a11, a12) (nI 2) := by
  have hx3 : a3 (nI 2).toNatClampNeg = nI 4 := by rw [tm_c2]; exact v2
  unfold wpX_overlaps
  refine tm_isP (p := 2) (by omega) ?_
  refine br_f (by decide) ?_
  refine br_f (by decide) ?_
  have main : ∀ d y, y + d = 5 → wX_overlaps_18 post (nI 2) 5 5 nc 1 a1 a2 a3 a4 a5 a6 a7 a8 a9 a10 a11 a12 (d + 1) (nI 0) (nI y) := by
    intro d
    induction d with
    | zero =>
      intro y hy
      have e : y = 5 := by omega
      rw [e]
      exact pk_le 5 5 (fun _ => H) (fun z => absurd z (by omega))
    | succ d ih =>
      intro y hy
      have ih := ih (y + 1) (by omega)
      have inner : ∀ m x, x + m = 4 → wX_overlaps_29 post (wX_overlaps_18 post (nI 2) 5 5 nc 1 a1 a2 a3 a4 a5 a6 a7 a8 a9 a10 a11 a12 (d + 1)) (nI 2) (nI y) 5 5 nc 1 a1 a2 a3 a4 a5 a6 a7 a8 a9 a10 a11 a12 (m + 1) (nI 0) (nI x) := by
        intro m
        induction m with
        | zero =>
          intro x hx
          exact And.intro (pk_in 2 3 (by omega)) (pk_le 4 x (fun _ => nm_r (nI_1 y) ih) (fun z => absurd z (by omega)) hx3 rfl)
        | succ m ihm =>
          intro x hx
          refine And.intro (pk_in 2 3 (by omega)) (pk_le 4 x (fun z => absurd z (by omega)) (fun _ => ?_) hx3 rfl)
          refine pk_le 5 (y + x) (fun z => nm_r (nI_1 y) ih) (fun z => ?_) rfl (nI_add y x)
          exact tm_mtz u2 hz (by omega) (nm_r (nI_add 0 0) (nm_r (nI_1 x) (ihm (x + 1) (by omega))))
      refine pk_le 5 y (fun z => absurd z (by omega)) (fun _ => Exists.intro 5 ?_)
      exact inner 4 0 (by omega)
  exact Exists.intro 6 (main 5 0 (by omega))
end
end
section
/-- the letter at column x, row y of the law's text -/
def tm_T (t : Int32) (x y : Nat) : Nat := (t >>> (nI (5 * y + x) &&& 31)).toBitVec.toNat % 2
/-- bit k of the law's pattern -/
def tm_B (p : Int32) (k : Nat) : Nat := (p >>> (nI k &&& 31)).toBitVec.toNat % 2
def tm_Q (p : Int32) : Nat := tm_B p 0 + 2 * tm_B p 1 + 4 * tm_B p 2 + 8 * tm_B p 3
theorem tm_Tl (t : Int32) (x y : Nat) : tm_T t x y < 2 := Nat.mod_lt _ (by decide)
theorem tm_Bl (p : Int32) (k : Nat) : tm_B p k < 2 := Nat.mod_lt _ (by decide)
theorem tm_Qb : ∀ a, a < 2 → ∀ b, b < 2 → ∀ c, c < 2 → ∀ d, d < 2 → (a + 2 * b + 4 * c + 8 * d) < 16 ∧ (a + 2 * b + 4 * c + 8 * d) % 2 = a ∧ (a + 2 * b + 4 * c + 8 * d) / 2 % 2 = b ∧ (a + 2 * b + 4 * c + 8 * d) / 4 % 2 = c ∧ (a + 2 * b + 4 * c + 8 * d) / 8 % 2 = d := by
  intro a ha b hb c hc d hd
  rcases (show a = 0 ∨ a = 1 by omega) with e1 | e1 <;> rcases (show b = 0 ∨ b = 1 by omega) with e2 | e2 <;> rcases (show c = 0 ∨ c = 1 by omega) with e3 | e3 <;> rcases (show d = 0 ∨ d = 1 by omega) with e4 | e4 <;> subst e1 <;> subst e2 <;> subst e3 <;> subst e4 <;> decide
theorem tm_Qo (p : Int32) : tm_Q p < 16 ∧ tm_Q p % 2 = tm_B p 0 ∧ tm_Q p / 2 % 2 = tm_B p 1 ∧ tm_Q p / 4 % 2 = tm_B p 2 ∧ tm_Q p / 8 % 2 = tm_B p 3 :=
  tm_Qb _ (tm_Bl p 0) _ (tm_Bl p 1) _ (tm_Bl p 2) _ (tm_Bl p 3)
theorem tm_Be (p : Int32) (k : Nat) : (p >>> (nI k &&& 31)) &&& 1 = nI (tm_B p k) := pk_and _ 1 (by decide)
theorem tm_B0 (p : Int32) : p &&& 1 = nI (tm_B p 0) := by
  have e : p >>> (nI 0 &&& 31) = p := sb_shr0 p
  rw [← tm_Be, e]
theorem tm_at {post : Int32 → Prop} {t X Y : Int32} {x y : Nat} (hX : X = nI x) (hY : Y = nI y) (H : post (nI (tm_T t x y))) : wpL_at post () t X Y := by
  unfold wpL_at
  have e : nI 5 * Y + X = nI (5 * y + x) := by rw [hX, hY]; exact tm_ix 5 y x
  refine ek_v (P := fun z => post ((t >>> (z &&& 31)) &&& 1)) e ?_
  exact ek_v (pk_and _ 1 (by decide)) H
theorem tm_lo {post : Int32 → Prop} {t p : Int32} {x y : Nat} (hx : x < 5) (hy : y < 5) (H : post (nI (if tm_o (tm_T t) (tm_Q p) x y = true then 1 else 0))) : wpL_occurs post () t p (nI x) (nI y) := by
  obtain ⟨hq, q0, q1, q2, q3⟩ := tm_Qo p
  have b0 := tm_Bl p 0
  have b1 := tm_Bl p 1
  have b2 := tm_Bl p 2
  have b3 := tm_Bl p 3
  have t0 := tm_Tl t x y
  have t1 := tm_Tl t (x + 1) y
  have t2 := tm_Tl t x (y + 1)
  have t3 := tm_Tl t (x + 1) (y + 1)
  have ho : tm_o (tm_T t) (tm_Q p) x y = true ↔ (x < 4 ∧ y < 4 ∧ tm_T t x y = tm_B p 0 ∧ tm_T t (x + 1) y = tm_B p 1 ∧ tm_T t x (y + 1) = tm_B p 2 ∧ tm_T t (x + 1) (y + 1) = tm_B p 3) := by
    unfold tm_o
    rw [decide_eq_true_iff, q0, q1, q2, q3]
  have H0 : ¬ (x < 4 ∧ y < 4 ∧ tm_T t x y = tm_B p 0 ∧ tm_T t (x + 1) y = tm_B p 1 ∧ tm_T t x (y + 1) = tm_B p 2 ∧ tm_T t (x + 1) (y + 1) = tm_B p 3) → post 0 := by
    intro h
    rw [if_neg (fun z => h (ho.mp z))] at H
    exact H
  have H1 : (x < 4 ∧ y < 4 ∧ tm_T t x y = tm_B p 0 ∧ tm_T t (x + 1) y = tm_B p 1 ∧ tm_T t x (y + 1) = tm_B p 2 ∧ tm_T t (x + 1) (y + 1) = tm_B p 3) → post 1 := by
    intro h
    rw [if_pos (ho.mpr h)] at H
    exact H
  refine pk_lt x 0 (fun z => absurd z (by omega)) (fun _ => pk_lt y 0 (fun z => absurd z (by omega)) (fun _ => pk_lt 3 x (fun z => H0 (fun h => by omega)) (fun hx3 => pk_le y 3 (fun hy3 => ?_) (fun z => H0 (fun h => by omega)))))
  refine tm_at rfl rfl ?_
  refine pk_eq (tm_T t x y) (tm_B p 0) (fun z0 => ?_) (fun z => br_t rfl (H0 (fun h => z h.2.2.1))) rfl (tm_B0 p)
  refine tm_at (nI_1 x) rfl ?_
  refine pk_eq (tm_T t (x + 1) y) (tm_B p 1) (fun z1 => ?_) (fun z => br_t rfl (H0 (fun h => z h.2.2.2.1))) rfl (tm_Be p 1)
  refine br_f (by decide) ?_
  refine tm_at rfl (nI_1 y) ?_
  refine pk_eq (tm_T t x (y + 1)) (tm_B p 2) (fun z2 => ?_) (fun z => H0 (fun h => z h.2.2.2.2.1)) rfl (tm_Be p 2)
  refine tm_at (nI_1 x) (nI_1 y) ?_
  exact pk_eq (tm_T t (x + 1) (y + 1)) (tm_B p 3) (fun z3 => H1 ⟨by omega, by omega, z0, z1, z2, z3⟩) (fun z => H0 (fun h => z h.2.2.2.2.2)) rfl (tm_Be p 3)
theorem tm_b4 : ∀ b0 b1 b2 b3 : Bool, ∀ x, x < 5 → (0 + (if b0 = true then 2 ^ 0 else 0) + (if b1 = true then 2 ^ 1 else 0) + (if b2 = true then 2 ^ 2 else 0) + (if b3 = true then 2 ^ 3 else 0)) / 2 ^ x % 2 = (if (if x = 0 then b0 else if x = 1 then b1 else if x = 2 then b2 else if x = 3 then b3 else false) = true then 1 else 0) := by decide +kernel
/-- the occurrences as bits of the row -/
theorem tm_Fb (T : Nat → Nat → Nat) (q y : Nat) {x : Nat} (hx : x < 5) : tm_F T q y 4 / 2 ^ x % 2 = if tm_o T q x y = true then 1 else 0 := by
  have h := tm_b4 (tm_o T q 0 y) (tm_o T q 1 y) (tm_o T q 2 y) (tm_o T q 3 y) x hx
  refine Eq.trans h ?_
  have h4 : tm_o T q 4 y = false := by
    unfold tm_o
    rw [decide_eq_false_iff_not]
    omega
  rcases (show x = 0 ∨ x = 1 ∨ x = 2 ∨ x = 3 ∨ x = 4 by omega) with e | e | e | e | e <;> subst e
  · rfl
  · rfl
  · rfl
  · rfl
  · rw [h4]
    rfl
theorem tm_half : ∀ k, k < 16 → ∀ x, x < 5 → 2 * k / 2 ^ (x + 1) % 2 = k / 2 ^ x % 2 := by decide +kernel
section
variable {post : Int32 → Prop} {t p : Int32} {f : Nat → Nat} {x y : Nat} (hF : ∀ y, y < 5 → f y = tm_F (tm_T t) (tm_Q p) y 4) (hx : x < 5) (hy : y < 5)
theorem tm_hr (hF : ∀ y, y < 5 → f y = tm_F (tm_T t) (tm_Q p) y 4) (hx : x < 5) (hy : y < 5) (H : post (nI (f y / 2 ^ x % 2))) : wpL_occurs post () t p (nI x) (nI y) := by
  rw [hF y hy, tm_Fb _ _ _ hx] at H
  exact tm_lo hx hy H
theorem tm_hl (hF : ∀ y, y < 5 → f y = tm_F (tm_T t) (tm_Q p) y 4) (hf : ∀ y, y < 5 → f y < 16) (hx : x < 5) (hy : y < 5) (H : post (nI (2 * f y / 2 ^ x % 2))) : wpL_occurs post () t p (nI x - 1) (nI y) := by
  cases x with
  | zero =>
    have e : 2 * f y / 2 ^ 0 % 2 = 0 := by rw [Nat.pow_zero, Nat.div_one]; omega
    rw [e] at H
    exact br_t (by decide) H
  | succ x =>
    rw [nI_pred]
    rw [tm_half _ (hf y hy) x (by omega)] at H
    exact tm_hr hF (by omega) hy H
theorem tm_hu (hF : ∀ y, y < 5 → f y = tm_F (tm_T t) (tm_Q p) y 4) (hx : x < 5) (hy : y < 5) (H : post (nI (tm_up f y / 2 ^ x % 2))) : wpL_occurs post () t p (nI x) (nI y - 1) := by
  cases y with
  | zero =>
    have e : tm_up f 0 / 2 ^ x % 2 = 0 := by
      show 0 / 2 ^ x % 2 = 0
      rw [Nat.zero_div]
    rw [e] at H
    exact pk_lt x 0 (fun z => absurd z (by omega)) (fun _ => br_t (by decide) H)
  | succ y =>
    rw [nI_pred]
    exact tm_hr hF hx (by omega) H
theorem tm_hb (hF : ∀ y, y < 5 → f y = tm_F (tm_T t) (tm_Q p) y 4) (hf : ∀ y, y < 5 → f y < 16) (hx : x < 5) (hy : y < 5) (H : post (nI (2 * tm_up f y / 2 ^ x % 2))) : wpL_occurs post () t p (nI x - 1) (nI y - 1) := by
  cases y with
  | zero =>
    have e : 2 * tm_up f 0 / 2 ^ x % 2 = 0 := by
      show 0 / 2 ^ x % 2 = 0
      rw [Nat.zero_div]
    rw [e] at H
    exact br_c (fun _ => H) (fun _ => br_t (by decide) H)
  | succ y =>
    rw [nI_pred]
    exact tm_hl hF hf hx (by omega) H
end
end
section
abbrev tm_J : Type := Int32 → Int32 → Int32 → Int32 → Int32 → Int32 → Int32 → Int32 → Int32 → (Nat → Int32) → (Nat → Int32) → (Nat → Int32) → (Nat → Int32) → (Nat → Int32) → (Nat → Int32) → (Nat → Int32) → (Nat → Int32) → (Nat → Int32) → (Nat → Int32) → (Nat → Int32) → (Nat → Int32) → Prop
theorem tm_01 {P : Nat → Prop} {n : Nat} (hn : n < 2) (h0 : n = 0 → P 0) (h1 : n = 1 → P 1) : P n := by
  rcases (show n = 0 ∨ n = 1 by omega) with e | e
  · rw [e]
    exact h0 e
  · rw [e]
    exact h1 e
theorem tm_n1 : ¬ nI 1 = 0 := by decide
section
variable {post : Int32 → St0 → Prop} {mc ms kc ks : Nat} {J J2 : tm_J} {t p fr x4 x5 x6 x8 x9 wi he nc sd : Int32} {a1 a2 a3 a4 a5 a6 a7 a8 a9 a10 a11 a12 : Nat → Int32} {v c h l u b : Nat}
theorem tm_341 (hl : l < 2) (hu : u < 2) (H : J2 x4 x5 x6 (nI (v + l * u)) (x9 + (-1)) wi he nc sd a1 a2 a3 a4 a5 a6 a7 a8 a9 a10 a11 a12) :
    wL_lawOf_341 post mc ms J J2 t p fr x4 x5 x6 (nI v) x8 x9 (nI l) (nI u) kc ks wi he nc sd a1 a2 a3 a4 a5 a6 a7 a8 a9 a10 a11 a12 := by
  rcases (show l = 0 ∨ l = 1 by omega) with e | e <;> rcases (show u = 0 ∨ u = 1 by omega) with e2 | e2 <;> subst e <;> subst e2
  · exact br_t rfl (nm_e H)
  · exact br_t rfl (nm_e H)
  · exact br_f tm_n1 (br_t rfl (nm_e H))
  · exact br_f tm_n1 (br_f tm_n1 (nm_r (nI_1 v) (nm_e H)))
theorem tm_328 (hh : h < 2) (hb : b < 2) (H : wL_lawOf_341 post mc ms J J2 t p fr x4 x5 x6 (nI (v + h * b)) x8 x9 (nI l) (nI u) kc ks wi he nc sd a1 a2 a3 a4 a5 a6 a7 a8 a9 a10 a11 a12) :
    wL_lawOf_328 post mc ms J J2 t p fr x4 x5 x6 (nI v) x8 x9 (nI h) (nI l) (nI u) (nI b) kc ks wi he nc sd a1 a2 a3 a4 a5 a6 a7 a8 a9 a10 a11 a12 := by
  rcases (show h = 0 ∨ h = 1 by omega) with e | e <;> rcases (show b = 0 ∨ b = 1 by omega) with e2 | e2 <;> subst e <;> subst e2
  · exact br_t rfl H
  · exact br_t rfl H
  · exact br_f tm_n1 (br_t rfl H)
  · exact br_f tm_n1 (br_f tm_n1 (nm_r (nI_1 v) H))
theorem tm_315 (hh : h < 2) (hu : u < 2) (H : wL_lawOf_328 post mc ms J J2 t p fr x4 x5 x6 (nI (v + h * u)) x8 x9 (nI h) (nI l) (nI u) (nI b) kc ks wi he nc sd a1 a2 a3 a4 a5 a6 a7 a8 a9 a10 a11 a12) :
    wL_lawOf_315 post mc ms J J2 t p fr x4 x5 x6 (nI v) x8 x9 (nI h) (nI l) (nI u) (nI b) kc ks wi he nc sd a1 a2 a3 a4 a5 a6 a7 a8 a9 a10 a11 a12 := by
  rcases (show h = 0 ∨ h = 1 by omega) with e | e <;> rcases (show u = 0 ∨ u = 1 by omega) with e2 | e2 <;> subst e <;> subst e2
  · exact br_t rfl H
  · exact br_t rfl H
  · exact br_f tm_n1 (br_t rfl H)
  · exact br_f tm_n1 (br_f tm_n1 (nm_r (nI_1 v) H))
theorem tm_302 (hh : h < 2) (hl : l < 2) (H : wL_lawOf_315 post mc ms J J2 t p fr x4 x5 x6 (nI (v + h * l)) x8 x9 (nI h) (nI l) (nI u) (nI b) kc ks wi he nc sd a1 a2 a3 a4 a5 a6 a7 a8 a9 a10 a11 a12) :
    wL_lawOf_302 post mc ms J J2 t p fr x4 x5 x6 (nI v) x8 x9 (nI h) (nI l) (nI u) (nI b) kc ks wi he nc sd a1 a2 a3 a4 a5 a6 a7 a8 a9 a10 a11 a12 := by
  rcases (show h = 0 ∨ h = 1 by omega) with e | e <;> rcases (show l = 0 ∨ l = 1 by omega) with e2 | e2 <;> subst e <;> subst e2
  · exact br_t rfl H
  · exact br_t rfl H
  · exact br_f tm_n1 (br_t rfl H)
  · exact br_f tm_n1 (br_f tm_n1 (nm_r (nI_1 v) H))
/-- one of four -/
def tm_any (h l u b : Nat) : Nat := if h = 0 ∧ l = 0 ∧ u = 0 ∧ b = 0 then 0 else 1
theorem tm_279 {x7 : Int32} (hh : h < 2) (hl : l < 2) (hu : u < 2) (hb : b < 2) (H : wL_lawOf_302 post mc ms J J2 t p fr x4 x5 (nI (c + tm_any h l u b)) x7 x8 x9 (nI h) (nI l) (nI u) (nI b) kc ks wi he nc sd a1 a2 a3 a4 a5 a6 a7 a8 a9 a10 a11 a12) :
    wL_lawOf_279 post mc ms J J2 t p fr x4 x5 (nI c) x7 x8 x9 (nI h) (nI l) (nI u) (nI b) kc ks wi he nc sd a1 a2 a3 a4 a5 a6 a7 a8 a9 a10 a11 a12 := by
  have F : ¬ (h = 0 ∧ l = 0 ∧ u = 0 ∧ b = 0) → wL_lawOf_299 post mc ms J J2 t p fr x4 x5 (nI c) x7 x8 x9 (nI h) (nI l) (nI u) (nI b) kc ks wi he nc sd a1 a2 a3 a4 a5 a6 a7 a8 a9 a10 a11 a12 := by
    intro hn
    have e : tm_any h l u b = 1 := if_neg hn
    rw [e] at H
    exact nm_r (nI_1 c) H
  refine pk_eq h 0 (fun e1 => ?_) (fun e1 => F (fun z => e1 z.1))
  refine pk_eq l 0 (fun e2 => ?_) (fun e2 => F (fun z => e2 z.2.1))
  refine pk_eq u 0 (fun e3 => ?_) (fun e3 => F (fun z => e3 z.2.2.1))
  refine pk_eq b 0 (fun e4 => ?_) (fun e4 => F (fun z => e4 z.2.2.2))
  have e : tm_any h l u b = 0 := if_pos ⟨e1, e2, e3, e4⟩
  rw [e] at H
  exact H
theorem tm_252 {x7 : Int32} {x y : Nat} (hh : h < 2) (H : wL_lawOf_279 post mc ms J J2 t p fr x4 (if ¬ nI (16 * y + x) < fr ∧ h = 1 then nI (16 * y + x) else x5) x6 x7 (nI y) (nI x) (nI h) (nI l) (nI u) (nI b) kc ks wi he nc sd a1 a2 a3 a4 a5 a6 a7 a8 a9 a10 a11 a12) :
    wL_lawOf_252 post mc ms J J2 t p fr x4 x5 x6 x7 (nI y) (nI x) (nI h) (nI l) (nI u) (nI b) kc ks wi he nc sd a1 a2 a3 a4 a5 a6 a7 a8 a9 a10 a11 a12 := by
  have e1 : nI 16 * nI y + nI x = nI (16 * y + x) := tm_ix 16 y x
  refine pk_eq h 0 (fun e => ?_) (fun e => ?_)
  · rw [if_neg (fun z => absurd z.2 (by omega))] at H
    exact H
  · by_cases hl : nI (16 * y + x) < fr
    · rw [if_neg (fun z => z.1 hl)] at H
      exact br_t (ek_v (P := fun z => z < fr) e1 hl) H
    · rw [if_pos ⟨hl, by omega⟩] at H
      exact br_f (ek_v (P := fun z => ¬ z < fr) e1 hl) (nm_r e1 H)
end
/-- what one cell adds to the law's counts -/
def tm_g6 (f : Nat → Nat) (y x : Nat) : Nat := tm_any (f y / 2 ^ x % 2) (2 * f y / 2 ^ x % 2) (tm_up f y / 2 ^ x % 2) (2 * tm_up f y / 2 ^ x % 2)
def tm_g7 (f : Nat → Nat) (y x : Nat) : Nat := (f y / 2 ^ x % 2) * (2 * f y / 2 ^ x % 2) + (f y / 2 ^ x % 2) * (tm_up f y / 2 ^ x % 2) + (f y / 2 ^ x % 2) * (2 * tm_up f y / 2 ^ x % 2) + (2 * f y / 2 ^ x % 2) * (tm_up f y / 2 ^ x % 2)
section
variable {post : Int32 → St0 → Prop} {mc ms kc ks : Nat} {J : tm_J} {t p fr : Int32} {a1 a2 a3 a4 : Nat → Int32} {f : Nat → Nat}
/-- one cell of the law's double loop -/
theorem tm_171 {n x y c4 c6 c7 : Nat} {x5 nc sd : Int32} {a5 a6 a7 a8 a9 a10 a11 a12 : Nat → Int32} (hF : ∀ y, y < 5 → f y = tm_F (tm_T t) (tm_Q p) y 4) (hf : ∀ y, y < 5 → f y < 16) (hx : x < 5) (hy : y < 5)
    (hC : tm_C f a1 a2 a3 a4 (5, 5, nc, sd, a1, a2, a3, a4, a5, a6, a7, a8, a9, a10, a11, a12))
    (H : ∀ nc a5 a6 a7 a8 a9 a10 a11 a12, tm_C f a1 a2 a3 a4 (5, 5, nc, 1, a1, a2, a3, a4, a5, a6, a7, a8, a9, a10, a11, a12) →
      wL_lawOf_171 post mc ms J t p fr (nI y) kc ks n (nI (c4 + f y / 2 ^ x % 2)) (if ¬ nI (16 * y + x) < fr ∧ f y / 2 ^ x % 2 = 1 then nI (16 * y + x) else x5) (nI (c6 + tm_g6 f y x)) (nI (c7 + tm_g7 f y x)) (nI x + (-1)) 5 5 nc 1 a1 a2 a3 a4 a5 a6 a7 a8 a9 a10 a11 a12) :
    wL_lawOf_171 post mc ms J t p fr (nI y) kc ks (n + 1) (nI c4) x5 (nI c6) (nI c7) (nI x) 5 5 nc sd a1 a2 a3 a4 a5 a6 a7 a8 a9 a10 a11 a12 := by
  have m2 : ∀ k : Nat, k % 2 < 2 := fun k => Nat.mod_lt _ (by decide)
  refine pk_lt x 0 (fun z => absurd z (by omega)) (fun _ => ?_)
  refine tm_hr hF hx hy ?_
  refine tm_hl hF hf hx hy ?_
  refine tm_hu hF hx hy ?_
  refine tm_hb hF hf hx hy ?_
  refine tm_occ hx hy (hf y hy) hC (fun nc a5 a6 a7 a8 a9 a10 a11 a12 h1 h2 => ?_)
  have H := H nc a5 a6 a7 a8 a9 a10 a11 a12 (tm_C1 h1 h2)
  refine br_t rfl ?_
  have fin : wL_lawOf_252 post mc ms J (wL_lawOf_171 post mc ms J t p fr (nI y) kc ks n) t p fr (nI (c4 + f y / 2 ^ x % 2)) x5 (nI c6) (nI c7) (nI y) (nI x) (nI (f y / 2 ^ x % 2)) (nI (2 * f y / 2 ^ x % 2)) (nI (tm_up f y / 2 ^ x % 2)) (nI (2 * tm_up f y / 2 ^ x % 2)) kc ks 5 5 nc 1 a1 a2 a3 a4 a5 a6 a7 a8 a9 a10 a11 a12 := by
    refine tm_252 (m2 _) (tm_279 (m2 _) (m2 _) (m2 _) (m2 _) (tm_302 (m2 _) (m2 _) (tm_315 (m2 _) (m2 _) (tm_328 (m2 _) (m2 _) (tm_341 (m2 _) (m2 _) ?_)))))
    unfold tm_g6 tm_g7 at H
    rw [← Nat.add_assoc, ← Nat.add_assoc, ← Nat.add_assoc] at H
    exact H
  refine pk_eq (f y / 2 ^ x % 2) 0 (fun e => ?_) (fun e => nm_r (nI_1 c4) ?_) rfl rfl (Nat.lt_trans (m2 _) (by decide))
  · rw [e, Nat.add_zero] at fin
    rw [e]
    exact fin
  · have e1 : f y / 2 ^ x % 2 = 1 := by
      have := m2 (f y / 2 ^ x)
      omega
    rw [e1] at fin
    rw [e1]
    exact fin
end
end
section
theorem tm_sumC {g g' : Nat → Nat} : ∀ n, (∀ y, y < n → g y = g' y) → tm_sum g n = tm_sum g' n := by
  intro n
  induction n with
  | zero =>
    intro _
    rfl
  | succ n ih =>
    intro h
    show tm_sum g n + g n = tm_sum g' n + g' n
    rw [ih (fun y hy => h y (by omega)), h n (by omega)]
theorem tm_r4 : ∀ a, a < 16 → tm_sum (fun x => a / 2 ^ x % 2) 5 = tm_pc a := by decide +kernel
theorem tm_r6 : ∀ a, a < 16 → ∀ b, b < 16 → tm_sum (fun x => tm_any (a / 2 ^ x % 2) (2 * a / 2 ^ x % 2) (b / 2 ^ x % 2) (2 * b / 2 ^ x % 2)) 5 = tm_pc (tm_cb a b) := by decide +kernel
theorem tm_r7 : ∀ a, a < 16 → ∀ b, b < 16 → tm_sum (fun x => (a / 2 ^ x % 2) * (2 * a / 2 ^ x % 2) + (a / 2 ^ x % 2) * (b / 2 ^ x % 2) + (a / 2 ^ x % 2) * (2 * b / 2 ^ x % 2) + (2 * a / 2 ^ x % 2) * (b / 2 ^ x % 2)) 5 = tm_m0 a + tm_m1 b a := by decide +kernel
theorem tm_m10 : ∀ a, a < 16 → tm_m1 0 a = 0 := by decide +kernel
theorem tm_upl {f : Nat → Nat} (hf : ∀ y, y < 5 → f y < 16) {y : Nat} (hy : y < 5) : tm_up f y < 16 := by
  unfold tm_up
  split
  · omega
  · exact hf _ (by omega)
/-- the overlaps, counted from above and from below -/
theorem tm_ovs {f : Nat → Nat} (hf : ∀ y, y < 5 → f y < 16) : tm_sum (fun y => tm_m0 (f y) + tm_m1 (tm_up f y) (f y)) 5 = tm_sum (tm_ov f) 5 := by
  have h0 := tm_m10 (f 0) (hf 0 (by omega))
  show 0 + (tm_m0 (f 0) + tm_m1 0 (f 0)) + (tm_m0 (f 1) + tm_m1 (f 0) (f 1)) + (tm_m0 (f 2) + tm_m1 (f 1) (f 2)) + (tm_m0 (f 3) + tm_m1 (f 2) (f 3)) + (tm_m0 (f 4) + tm_m1 (f 3) (f 4)) = 0 + (tm_m0 (f 0) + tm_m1 (f 0) (f 1)) + (tm_m0 (f 1) + tm_m1 (f 1) (f 2)) + (tm_m0 (f 2) + tm_m1 (f 2) (f 3)) + (tm_m0 (f 3) + tm_m1 (f 3) (f 4)) + (tm_m0 (f 4) + 0)
  omega
section
variable {post : Int32 → St0 → Prop} {mc ms kc ks : Nat} {t p fr : Int32} {a1 a2 a3 a4 : Nat → Int32} {f : Nat → Nat}
/-- one row of the law's double loop -/
theorem tm_in {J : tm_J} {y : Nat} (hF : ∀ y, y < 5 → f y = tm_F (tm_T t) (tm_Q p) y 4) (hf : ∀ y, y < 5 → f y < 16) (hy : y < 5) :
    ∀ k c4 c6 c7 X nc sd a5 a6 a7 a8 a9 a10 a11 a12, k ≤ 5 → X = nI k + (-1) → tm_C f a1 a2 a3 a4 (5, 5, nc, sd, a1, a2, a3, a4, a5, a6, a7, a8, a9, a10, a11, a12) →
      (∀ nc sd a5 a6 a7 a8 a9 a10 a11 a12, tm_C f a1 a2 a3 a4 (5, 5, nc, sd, a1, a2, a3, a4, a5, a6, a7, a8, a9, a10, a11, a12) →
        J (nI (c4 + tm_sum (fun x => f y / 2 ^ x % 2) k)) (tm_N f fr (25 - (5 * y + 0))) (nI (c6 + tm_sum (tm_g6 f y) k)) (nI (c7 + tm_sum (tm_g7 f y) k)) (nI y + (-1)) 5 5 nc sd a1 a2 a3 a4 a5 a6 a7 a8 a9 a10 a11 a12) →
      wL_lawOf_171 post mc ms J t p fr (nI y) kc ks (k + 1) (nI c4) (tm_N f fr (25 - (5 * y + k))) (nI c6) (nI c7) X 5 5 nc sd a1 a2 a3 a4 a5 a6 a7 a8 a9 a10 a11 a12 := by
  intro k
  induction k with
  | zero =>
    intro c4 c6 c7 X nc sd a5 a6 a7 a8 a9 a10 a11 a12 hk hX hC HJ
    exact br_t (by rw [hX]; decide) (nm_e (HJ nc sd a5 a6 a7 a8 a9 a10 a11 a12 hC))
  | succ k ih =>
    intro c4 c6 c7 X nc sd a5 a6 a7 a8 a9 a10 a11 a12 hk hX hC HJ
    rw [hX, pk_m1]
    refine tm_171 hF hf (by omega) hy hC (fun nc a5 a6 a7 a8 a9 a10 a11 a12 hC => ?_)
    rw [← tm_Ns f fr (by omega) hy]
    refine ih _ _ _ _ nc 1 a5 a6 a7 a8 a9 a10 a11 a12 (by omega) rfl hC (fun nc sd a5 a6 a7 a8 a9 a10 a11 a12 hC => ?_)
    have H := HJ nc sd a5 a6 a7 a8 a9 a10 a11 a12 hC
    have s4 : c4 + f y / 2 ^ k % 2 + tm_sum (fun x => f y / 2 ^ x % 2) k = c4 + tm_sum (fun x => f y / 2 ^ x % 2) (k + 1) := by
      show _ = c4 + (tm_sum (fun x => f y / 2 ^ x % 2) k + f y / 2 ^ k % 2)
      omega
    have s6 : c6 + tm_g6 f y k + tm_sum (tm_g6 f y) k = c6 + tm_sum (tm_g6 f y) (k + 1) := by
      show _ = c6 + (tm_sum (tm_g6 f y) k + tm_g6 f y k)
      omega
    have s7 : c7 + tm_g7 f y k + tm_sum (tm_g7 f y) k = c7 + tm_sum (tm_g7 f y) (k + 1) := by
      show _ = c7 + (tm_sum (tm_g7 f y) k + tm_g7 f y k)
      omega
    rw [s4, s6, s7]
    exact H
/-- occurrences of pattern 0, searched or not -/
theorem tm_oc0 {Po : Int32 → St2 → Prop} {nc sd : Int32} {a5 a6 a7 a8 a9 a10 a11 a12 : Nat → Int32} (hf : ∀ y, y < 5 → f y < 16) (hC : tm_C f a1 a2 a3 a4 (5, 5, nc, sd, a1, a2, a3, a4, a5, a6, a7, a8, a9, a10, a11, a12))
    (H : ∀ nc a5 a6 a7 a8 a9 a10 a11 a12, (∀ r, r < 5 → a11 r = nI (f r)) → (∀ j, 12 ≤ j → j < 36 → a11 j = 0) → Po (nI (tm_sum (fun y => tm_pc (f y)) 5)) (5, 5, nc, 1, a1, a2, a3, a4, a5, a6, a7, a8, a9, a10, a11, a12)) :
    wpX_occurrences Po (5, 5, nc, sd, a1, a2, a3, a4, a5, a6, a7, a8, a9, a10, a11, a12) (nI 0) := by
  unfold wpX_occurrences
  refine tm_isP (p := 0) (by omega) ?_
  refine br_f (by decide) ?_
  refine hC _ (fun nc a5 a6 a7 a8 a9 a10 a11 a12 h1 h2 => ?_)
  have H := H nc a5 a6 a7 a8 a9 a10 a11 a12 h1 h2
  refine pk_loop (σ := Unit) (fun n i _ => wX_occurrences_18 Po (nI 0) 5 5 nc 1 a1 a2 a3 a4 a5 a6 a7 a8 a9 a10 a11 a12 n (nI (tm_sum (fun y => tm_pc (f y)) i)) (nI i)) (fun _ _ => True) 5 0 () (by omega) trivial ?_ ?_
  · intro n _ _
    exact pk_le 5 5 (fun _ => H) (fun z => absurd z (by omega))
  · intro n i _ hi _ hw
    refine pk_le 5 i (fun z => absurd z (by omega)) (fun _ => ?_)
    refine And.intro (pk_in (12 * 0 + i) 36 (by omega) (tm_ix 12 0 i)) ?_
    have e : a11 (nI 12 * nI 0 + nI i).toNatClampNeg = nI (f i) := by
      rw [pk_cl (12 * 0 + i) (tm_ix 12 0 i), Nat.mul_zero, Nat.zero_add]
      exact h1 i hi
    refine ek_v (P := fun z => wpX_bitsIn _ _ z) e (tm_bits (Nat.lt_trans (hf i hi) (by omega)) ?_)
    exact nm_r (nI_add _ _) (nm_r (nI_1 i) (hw () trivial))
/-- the law's double loop and its last checks -/
theorem tm_out (hp : post 1 ()) (hF : ∀ y, y < 5 → f y = tm_F (tm_T t) (tm_Q p) y 4) (hf : ∀ y, y < 5 → f y < 16) (u0 : a2 0 = nI 2) (u1 : a2 1 = nI 4) (u2 : a2 2 = nI 4) (v0 : a3 0 = nI 2) (v1 : a3 1 = nI 4) (v2 : a3 2 = nI 4) :
    ∀ k c4 c6 c7 X nc sd a5 a6 a7 a8 a9 a10 a11 a12, k ≤ 5 → X = nI k + (-1) → tm_C f a1 a2 a3 a4 (5, 5, nc, sd, a1, a2, a3, a4, a5, a6, a7, a8, a9, a10, a11, a12) →
      c4 + tm_sum (fun y => tm_pc (f y)) k = tm_sum (fun y => tm_pc (f y)) 5 →
      c6 + tm_sum (fun y => tm_pc (tm_cb (f y) (tm_up f y))) k = tm_sum (fun y => tm_pc (tm_cb (f y) (tm_up f y))) 5 →
      c7 + tm_sum (fun y => tm_m0 (f y) + tm_m1 (tm_up f y) (f y)) k = tm_sum (tm_ov f) 5 →
      wL_lawOf_163 post mc ms t p fr kc ks (k + 1) (nI c4) (tm_N f fr (25 - 5 * k)) (nI c6) (nI c7) X 5 5 nc sd a1 a2 a3 a4 a5 a6 a7 a8 a9 a10 a11 a12 := by
  intro k
  induction k with
  | zero =>
    intro c4 c6 c7 X nc sd a5 a6 a7 a8 a9 a10 a11 a12 hk hX hC s4 s6 s7
    have s4 : c4 = tm_sum (fun y => tm_pc (f y)) 5 := s4
    have s6 : c6 = tm_sum (fun y => tm_pc (tm_cb (f y) (tm_up f y))) 5 := s6
    have s7 : c7 = tm_sum (tm_ov f) 5 := s7
    refine br_t (by rw [hX]; decide) ?_
    refine tm_oc0 hf hC (fun nc a5 a6 a7 a8 a9 a10 a11 a12 h1 h2 => ?_)
    refine br_t (by rw [s4]) ?_
    refine tm_nx hf h1 ?_
    refine br_t rfl ?_
    refine tm_cov u0 u1 u2 v0 v1 v2 hf h1 h2 ?_
    refine br_t (by rw [s6]) ?_
    refine tm_ovl u0 v0 hf h1 ?_
    refine br_t (by rw [s7]) ?_
    refine tm_ocs (p := 1) (f := fun _ => 0) (by omega) (fun _ _ => by omega) (fun y hy => h2 (12 + y) (by omega) (by omega)) ?_
    refine br_t rfl ?_
    refine tm_ovz u2 v2 h2 ?_
    exact br_t rfl hp
  | succ k ih =>
    intro c4 c6 c7 X nc sd a5 a6 a7 a8 a9 a10 a11 a12 hk hX hC s4 s6 s7
    have hk5 : k < 5 := by omega
    have fk := hf k hk5
    have uk := tm_upl hf hk5
    have s4 : c4 + (tm_sum (fun y => tm_pc (f y)) k + tm_pc (f k)) = tm_sum (fun y => tm_pc (f y)) 5 := s4
    have s6 : c6 + (tm_sum (fun y => tm_pc (tm_cb (f y) (tm_up f y))) k + tm_pc (tm_cb (f k) (tm_up f k))) = tm_sum (fun y => tm_pc (tm_cb (f y) (tm_up f y))) 5 := s6
    have s7 : c7 + (tm_sum (fun y => tm_m0 (f y) + tm_m1 (tm_up f y) (f y)) k + (tm_m0 (f k) + tm_m1 (tm_up f k) (f k))) = tm_sum (tm_ov f) 5 := s7
    have r4 : tm_sum (fun x => f k / 2 ^ x % 2) 5 = tm_pc (f k) := tm_r4 _ fk
    have r6 : tm_sum (tm_g6 f k) 5 = tm_pc (tm_cb (f k) (tm_up f k)) := tm_r6 _ fk _ uk
    have r7 : tm_sum (tm_g7 f k) 5 = tm_m0 (f k) + tm_m1 (tm_up f k) (f k) := tm_r7 _ fk _ uk
    rw [hX, pk_m1]
    refine pk_lt k 0 (fun z => absurd z (by omega)) (fun _ => Exists.intro 6 ?_)
    have e5 : 25 - 5 * (k + 1) = 25 - (5 * k + 5) := by omega
    rw [e5]
    refine tm_in hF hf hk5 5 c4 c6 c7 4 nc sd a5 a6 a7 a8 a9 a10 a11 a12 (by omega) rfl hC (fun nc sd a5 a6 a7 a8 a9 a10 a11 a12 hC => ?_)
    rw [r4, r6, r7]
    exact ih _ _ _ _ nc sd a5 a6 a7 a8 a9 a10 a11 a12 (by omega) rfl hC (by omega) (by omega) (by omega)
end
end
section
section
variable {post : Int32 → St2 → Prop} {wi he nc sd : Int32} {a1 a2 a3 a4 a5 a6 a7 a8 a9 a10 a11 a12 : Nat → Int32}
theorem tm_paint {X Y V : Int32} {p j i v w h A : Nat} (hp : p < 3) (hw : w ≤ 4) (hh : h ≤ 4) (hj : j < w) (hi : i < h) (hv : v ≤ 2) (hX : X = nI j) (hY : Y = nI i) (hV : V = nI v) (u : a2 p = nI w) (vv : a3 p = nI h) (r4 : tm_r a4 A 48)
    (H : ∀ a4, tm_r a4 (tm_s A (16 * p + 4 * i + j) v) 48 → post 1 (wi, he, nc, 0, a1, a2, a3, a4, a5, a6, a7, a8, a9, a10, a11, a12)) :
    wpX_paint post (wi, he, nc, sd, a1, a2, a3, a4, a5, a6, a7, a8, a9, a10, a11, a12) (nI p) X Y V := by
  subst hX
  subst hY
  subst hV
  have hx2 : a2 (nI p).toNatClampNeg = nI w := by rw [nI_clamp (show p < 2 ^ 31 by omega)]; exact u
  have hx3 : a3 (nI p).toNatClampNeg = nI h := by rw [nI_clamp (show p < 2 ^ 31 by omega)]; exact vv
  have e5 : nI 16 * nI p + nI 4 * nI i + nI j = nI (16 * p + 4 * i + j) := tm_ix3 16 p 4 i j
  unfold wpX_paint
  refine tm_isP hp ?_
  refine br_f (by decide) ?_
  refine pk_lt v 0 (fun z => absurd z (by omega)) (fun _ => ?_)
  refine pk_le v 2 (fun _ => ?_) (fun z => absurd z (by omega))
  refine pk_lt j 0 (fun z => absurd z (by omega)) (fun _ => ?_)
  refine And.intro (pk_in p 3 hp) ?_
  refine pk_le w j (fun z => absurd z (by omega)) (fun _ => ?_) hx2 rfl
  refine pk_lt i 0 (fun z => absurd z (by omega)) (fun _ => ?_)
  refine And.intro (pk_in p 3 hp) ?_
  refine pk_lt i h (fun _ => ?_) (fun z => absurd z (by omega)) rfl hx3
  refine And.intro (pk_in (16 * p + 4 * i + j) 48 (by omega) e5) (nm_e ?_)
  exact H _ (tm_rU r4 (pk_cl (16 * p + 4 * i + j) e5) (tm_by v (by omega)) (by omega))
theorem tm_shape {p w h : Nat} (hp : p < 3) (hw0 : 1 ≤ w) (hw : w ≤ 4) (hh0 : 1 ≤ h) (hh : h ≤ 4)
    (H : ∀ a2' a3' a4', a2' p = nI w → (∀ j, j ≠ p → a2' j = a2 j) → a3' p = nI h → (∀ j, j ≠ p → a3' j = a3 j) → (∀ j, 16 * p ≤ j → j < 16 * p + 16 → a4' j = 0) → (∀ j, j < 16 * p ∨ 16 * p + 16 ≤ j → a4' j = a4 j) →
      post 1 (wi, he, nc, 0, a1, a2', a3', a4', a5, a6, a7, a8, a9, a10, a11, a12)) :
    wpX_shape post (wi, he, nc, sd, a1, a2, a3, a4, a5, a6, a7, a8, a9, a10, a11, a12) (nI p) (nI w) (nI h) := by
  have ep : (nI p).toNatClampNeg = p := nI_clamp (by omega)
  unfold wpX_shape
  refine tm_isP hp ?_
  refine br_f (by decide) ?_
  refine pk_lt w 1 (fun z => absurd z (by omega)) (fun _ => ?_)
  refine pk_lt 4 w (fun z => absurd z (by omega)) (fun _ => ?_)
  refine pk_lt h 1 (fun z => absurd z (by omega)) (fun _ => ?_)
  refine pk_le h 4 (fun _ => ?_) (fun z => absurd z (by omega))
  refine And.intro (pk_in p 3 hp) (nm_e (And.intro (pk_in p 3 hp) (nm_e ?_)))
  refine pk_loop (fun n i (s : Nat → Int32) => wX_shape_49 post (nI p) wi he nc sd n (nI i) a1 (upd a2 (nI p).toNatClampNeg (nI w).toInt8.toInt32) (upd a3 (nI p).toNatClampNeg (nI h).toInt8.toInt32) s a5 a6 a7 a8 a9 a10 a11 a12) (fun i s => (∀ j, 16 * p ≤ j → j < 16 * p + i → s j = 0) ∧ (∀ j, j < 16 * p ∨ 16 * p + 16 ≤ j → s j = a4 j)) 16 0 a4 (by omega) ⟨fun j h1 h2 => absurd h1 (by omega), fun j _ => rfl⟩ ?_ ?_
  · intro n s hs
    refine pk_le 16 16 (fun _ => ?_) (fun z => absurd z (by omega))
    refine H _ _ s ?_ ?_ ?_ ?_ hs.1 hs.2
    · rw [ep, pk_us]
      exact tm_by w (by omega)
    · intro j hj
      rw [ep]
      exact pk_un hj
    · rw [ep, pk_us]
      exact tm_by h (by omega)
    · intro j hj
      rw [ep]
      exact pk_un hj
  · intro n i s hi hs hw
    have e : (nI 16 * nI p + nI i).toNatClampNeg = 16 * p + i := pk_cl (16 * p + i) (tm_ix 16 p i)
    refine pk_le 16 i (fun z => absurd z (by omega)) (fun _ => ?_)
    refine And.intro (pk_in (16 * p + i) 48 (by omega) (tm_ix 16 p i)) (nm_e (nm_r (nI_1 i) ?_))
    refine hw (upd s (nI 16 * nI p + nI i).toNatClampNeg 0) ⟨fun j h1 h2 => ?_, fun j hj => ?_⟩
    · rw [e]
      by_cases z : j = 16 * p + i
      · rw [z, pk_us]
      · rw [pk_un z]
        exact hs.1 j h1 (by omega)
    · rw [e, pk_un (by omega)]
      exact hs.2 j hj
theorem tm_write {x y : Nat} (hx : x < 5) (hy : y < 5) (H : post 1 (5, 5, nc, 0, upd a1 (12 * y + x) 1, a2, a3, a4, a5, a6, a7, a8, a9, a10, a11, a12)) :
    wpX_write post (5, 5, nc, sd, a1, a2, a3, a4, a5, a6, a7, a8, a9, a10, a11, a12) (nI x) (nI y) 1 := by
  unfold wpX_write
  refine tm_inT hx hy ?_
  refine br_f (by decide) ?_
  refine pk_lt 1 0 (fun z => absurd z (by omega)) (fun _ => ?_)
  refine pk_le 1 2 (fun _ => ?_) (fun z => absurd z (by omega))
  refine And.intro (pk_in (12 * y + x) 144 (by omega) (tm_ix 12 y x)) (nm_r (e' := upd a1 (12 * y + x) 1) ?_ H)
  have e : (nI 12 * nI y + nI x).toNatClampNeg = 12 * y + x := pk_cl (12 * y + x) (tm_ix 12 y x)
  have e1 : (1 : Int32).toInt8.toInt32 = 1 := by decide
  rw [e1]
  exact congrArg (fun z => upd a1 z 1) e
end
theorem tm_init {post : St2 → Prop} (H : ∀ a2 a3 a4, post (5, 5, 0, 0, fun _ => 0, a2, a3, a4, fun _ => 0, fun _ => 0, fun _ => 0, fun _ => 0, fun _ => 0, fun _ => 0, fun _ => 0, fun _ => 0)) : wpX_init post 12 689 (0, 0, 0, 0) 5 5 := by
  refine And.intro (by omega) (And.intro (by omega) (And.intro (by omega) (And.intro (by omega) (And.intro (by omega) (And.intro (by omega) ?_)))))
  refine And.intro (by omega) (And.intro (by omega) (And.intro (by omega) (And.intro (by omega) (And.intro (by omega) (And.intro (by omega) ?_)))))
  refine And.intro (by omega) (And.intro (by omega) (And.intro (by omega) (And.intro (by omega) (And.intro (by omega) (And.intro (by omega) ?_)))))
  refine And.intro (by omega) (And.intro (by omega) (And.intro (by omega) (And.intro (by omega) (And.intro (by omega) (And.intro (by omega) ?_)))))
  refine pk_le 4 5 (fun _ => ?_) (fun z => absurd z (by omega))
  refine pk_le 5 12 (fun _ => ?_) (fun z => absurd z (by omega))
  refine pk_le 4 5 (fun _ => ?_) (fun z => absurd z (by omega))
  refine pk_le 5 12 (fun _ => ?_) (fun z => absurd z (by omega))
  refine pk_loop (fun n i (s : (Nat → Int32) × (Nat → Int32) × (Nat → Int32)) => wX_init_153 post 12 689 12 689 5 5 0 0 n (nI i) (fun _ => 0) s.1 s.2.1 s.2.2 (fun _ => 0) (fun _ => 0) (fun _ => 0) (fun _ => 0) (fun _ => 0) (fun _ => 0) (fun _ => 0) (fun _ => 0)) (fun _ _ => True) 3 0 (fun _ => 0, fun _ => 0, fun _ => 0) (by omega) trivial ?_ ?_
  · intro n s _
    exact pk_le 3 3 (fun _ => H s.1 s.2.1 s.2.2) (fun z => absurd z (by omega))
  · intro n i s hi _ hw
    refine pk_le 3 i (fun z => absurd z (by omega)) (fun _ => ?_)
    refine And.intro (pk_in i 3 hi) (nm_e (And.intro (pk_in i 3 hi) (nm_e (And.intro (pk_in (16 * i) 48 (by omega) (pk_mul 16 i)) (nm_e (nm_r (nI_1 i) ?_))))))
    exact hw (_, _, _) trivial
end
section
/-- the text as far as it is written: y rows, and x columns of the next -/
def tm_W (t : Int32) (y x : Nat) (a1 : Nat → Int32) : Prop := ∀ j i, j < 5 → i < 5 → a1 (12 * j + i) = if j < y ∨ (j = y ∧ i < x) then nI (tm_T t i j) else 0
theorem tm_Wk {t : Int32} {y x : Nat} {a1 : Nat → Int32} (h : tm_W t y x a1) (h0 : tm_T t x y = 0) : tm_W t y (x + 1) a1 := by
  intro j i hj hi
  rw [h j i hj hi]
  by_cases e : j = y ∧ i = x
  · rw [e.1, e.2, if_neg (by omega), if_pos (by omega), h0]
    rfl
  · by_cases e2 : j < y ∨ (j = y ∧ i < x)
    · rw [if_pos e2, if_pos (by omega)]
    · rw [if_neg e2, if_neg (by omega)]
theorem tm_Wu {t : Int32} {y x : Nat} {a1 : Nat → Int32} (h : tm_W t y x a1) (hx : x < 5) (h0 : tm_T t x y = 1) : tm_W t y (x + 1) (upd a1 (12 * y + x) 1) := by
  intro j i hj hi
  by_cases e : j = y ∧ i = x
  · rw [e.1, e.2, pk_us, if_pos (by omega), h0]
    rfl
  · rw [pk_un (by omega), h j i hj hi]
    by_cases e2 : j < y ∨ (j = y ∧ i < x)
    · rw [if_pos e2, if_pos (by omega)]
    · rw [if_neg e2, if_neg (by omega)]
section
variable {post : Int32 → St0 → Prop} {mc ms kc ks : Nat} {t p fr : Int32}
/-- the four cells of pattern 0 and what follows -/
theorem tm_111 {nc sd : Int32} {a1 a2 a3 a4 a5 a8 a11 a12 : Nat → Int32} (hp : post 1 ()) (W : tm_W t 5 0 a1) (u0 : a2 0 = nI 2) (u1 : a2 1 = nI 4) (u2 : a2 2 = nI 4) (v0 : a3 0 = nI 2) (v1 : a3 1 = nI 4) (v2 : a3 2 = nI 4) (r4 : tm_r a4 (tm_s (tm_s 0 16 2) 47 2) 48) :
    ∃ fu, wL_lawOf_111 post mc ms t p fr kc ks fu 0 5 5 nc sd a1 a2 a3 a4 a5 (fun _ => 0) (fun _ => 0) a8 (fun _ => 0) (fun _ => 0) a11 a12 := by
  obtain ⟨hq, q0, q1, q2, q3⟩ := tm_Qo p
  have b0 := tm_Bl p 0
  have b1 := tm_Bl p 1
  have b2 := tm_Bl p 2
  have b3 := tm_Bl p 3
  refine Exists.intro 5 ?_
  refine pk_le 4 0 (fun z => absurd z (by omega)) (fun _ => ?_)
  refine tm_paint (p := 0) (j := 0) (i := 0) (v := tm_B p 0) (w := 2) (h := 2) (by omega) (by omega) (by omega) (by omega) (by omega) (by omega) (by decide) (by decide) (tm_Be p 0) u0 v0 r4 (fun a4 r4 => br_f (by decide) (nm_r (nI_1 0) ?_))
  refine pk_le 4 1 (fun z => absurd z (by omega)) (fun _ => ?_)
  refine tm_paint (p := 0) (j := 1) (i := 0) (v := tm_B p 1) (w := 2) (h := 2) (by omega) (by omega) (by omega) (by omega) (by omega) (by omega) (by decide) (by decide) (tm_Be p 1) u0 v0 r4 (fun a4 r4 => br_f (by decide) (nm_r (nI_1 1) ?_))
  refine pk_le 4 2 (fun z => absurd z (by omega)) (fun _ => ?_)
  refine tm_paint (p := 0) (j := 0) (i := 1) (v := tm_B p 2) (w := 2) (h := 2) (by omega) (by omega) (by omega) (by omega) (by omega) (by omega) (by decide) (by decide) (tm_Be p 2) u0 v0 r4 (fun a4 r4 => br_f (by decide) (nm_r (nI_1 2) ?_))
  refine pk_le 4 3 (fun z => absurd z (by omega)) (fun _ => ?_)
  refine tm_paint (p := 0) (j := 1) (i := 1) (v := tm_B p 3) (w := 2) (h := 2) (by omega) (by omega) (by omega) (by omega) (by omega) (by omega) (by decide) (by decide) (tm_Be p 3) u0 v0 r4 (fun a4 r4 => br_f (by decide) (nm_r (nI_1 3) ?_))
  refine pk_le 4 4 (fun _ => Exists.intro 6 ?_) (fun z => absurd z (by omega))
  have r4' : tm_r a4 (tm_pt (tm_Q p)) 48 := by
    unfold tm_pt
    rw [q0, q1, q2, q3]
    exact r4
  have r6 : tm_r (fun _ => 0) 0 49 := fun i _ => by rw [tm_g0]; rfl
  have r10 : tm_r (fun _ => 0) 0 15 := fun i _ => by rw [tm_g0]; rfl
  have r9 : tm_q (fun _ => 0) tm_rn0 12 := fun i hi => by rw [tm_rn0_ok i hi]; rfl
  have t1 : ∀ y x, y < 5 → x < 5 → a1 (12 * y + x) = nI (tm_T t x y) := fun y x hy hx => by rw [W y x hy hx, if_pos (Or.inl hy)]
  exact tm_out (f := fun r => tm_F (tm_T t) (tm_Q p) r 4) hp (fun _ _ => rfl) (fun y _ => tm_Flt _ _ y 4) u0 u1 u2 v0 v1 v2 5 0 0 0 4 nc 0 _ _ _ _ _ _ _ _ (by omega) rfl
    (fun po H => tm_search0 hq (tm_Tl t) t1 u0 u1 u2 v0 v1 v2 r4' r6 r6 r9 r10 H) (Nat.zero_add _) (Nat.zero_add _) ((Nat.zero_add _).trans (tm_ovs (fun y _ => tm_Flt _ _ y 4)))
/-- shapes and the two foreign letters -/
theorem tm_13e {n : Nat} {nc sd : Int32} {a1 a2 a3 a4 a5 a8 a11 a12 : Nat → Int32} (hp : post 1 ()) (W : tm_W t 5 0 a1) :
    wL_lawOf_13 post mc ms t p fr kc ks (n + 1) (nI 5) 5 5 nc sd a1 a2 a3 a4 a5 (fun _ => 0) (fun _ => 0) a8 (fun _ => 0) (fun _ => 0) a11 a12 := by
  refine pk_le 5 5 (fun _ => ?_) (fun z => absurd z (by omega))
  refine tm_shape (p := 0) (w := 2) (h := 2) (by omega) (by omega) (by omega) (by omega) (by omega) (fun a2' a3' a4' p1 p2 p3 p4 p5 p6 => ?_)
  refine tm_shape (p := 1) (w := 4) (h := 4) (by omega) (by omega) (by omega) (by omega) (by omega) (fun a2'' a3'' a4'' s1 s2 s3 s4 s5 s6 => ?_)
  refine tm_shape (p := 2) (w := 4) (h := 4) (by omega) (by omega) (by omega) (by omega) (by omega) (fun b2 b3 b4 w1 w2 w3 w4 w5 w6 => ?_)
  have u0 : b2 0 = nI 2 := by rw [w2 0 (by omega), s2 0 (by omega)]; exact p1
  have u1 : b2 1 = nI 4 := by rw [w2 1 (by omega)]; exact s1
  have v0 : b3 0 = nI 2 := by rw [w4 0 (by omega), s4 0 (by omega)]; exact p3
  have v1 : b3 1 = nI 4 := by rw [w4 1 (by omega)]; exact s3
  have r4 : tm_r b4 0 48 := by
    intro i hi
    rw [tm_g0]
    by_cases h2 : 32 ≤ i
    · exact w5 i (by omega) (by omega)
    · rw [w6 i (by omega)]
      by_cases h1 : 16 ≤ i
      · exact s5 i (by omega) (by omega)
      · rw [s6 i (by omega)]
        exact p5 i (by omega) (by omega)
  refine tm_paint (p := 1) (j := 0) (i := 0) (v := 2) (w := 4) (h := 4) (by omega) (by omega) (by omega) (by omega) (by omega) (by omega) rfl rfl rfl u1 v1 r4 (fun b4 r4 => ?_)
  refine tm_paint (p := 2) (j := 3) (i := 3) (v := 2) (w := 4) (h := 4) (by omega) (by omega) (by omega) (by omega) (by omega) (by omega) rfl rfl rfl w1 w3 r4 (fun b4 r4 => ?_)
  exact tm_111 hp W u0 u1 w1 v0 v1 w3 r4
/-- the text is written -/
theorem tm_13 {nc : Int32} {a2 a3 a4 a5 a8 a11 a12 : Nat → Int32} (hp : post 1 ()) :
    ∀ d y a1, y + d = 5 → tm_W t y 0 a1 → wL_lawOf_13 post mc ms t p fr kc ks (d + 1) (nI y) 5 5 nc 0 a1 a2 a3 a4 a5 (fun _ => 0) (fun _ => 0) a8 (fun _ => 0) (fun _ => 0) a11 a12 := by
  intro d
  induction d with
  | zero =>
    intro y a1 hy W
    have e : y = 5 := by omega
    rw [e] at W ⊢
    exact tm_13e hp W
  | succ d ih =>
    intro y a1 hy W
    refine pk_le 5 y (fun z => absurd z (by omega)) (fun _ => ?_)
    refine pk_loop (fun n i (s : Nat → Int32) => wL_lawOf_22 post mc ms (wL_lawOf_13 post mc ms t p fr kc ks (d + 1)) t p fr (nI y) kc ks n (nI i) 5 5 nc 0 s a2 a3 a4 a5 (fun _ => 0) (fun _ => 0) a8 (fun _ => 0) (fun _ => 0) a11 a12) (fun i s => tm_W t y i s) 5 0 a1 (by omega) W ?_ ?_
    · intro n s hs
      refine pk_le 5 5 (fun _ => nm_r (nI_1 y) (ih (y + 1) s (by omega) ?_)) (fun z => absurd z (by omega))
      intro j i hj hi
      rw [hs j i hj hi]
      by_cases e : j < y + 1
      · rw [if_pos (by omega), if_pos (Or.inl e)]
      · rw [if_neg (by omega), if_neg (by omega)]
    · intro n i s hi hs hw
      have ht := tm_Tl t i y
      refine pk_le 5 i (fun z => absurd z (by omega)) (fun _ => ?_)
      refine tm_at rfl rfl ?_
      refine pk_eq (tm_T t i y) 1 (fun e => ?_) (fun e => nm_r (nI_1 i) (hw s (tm_Wk hs (by omega))))
      refine tm_write hi (by omega) ?_
      exact br_f (by decide) (nm_r (nI_1 i) (hw _ (tm_Wu hs hi e)))
theorem tm_law (hp : post 1 ()) : wpL_lawOf post 13 705 () t p fr := by
  refine And.intro (by omega) (And.intro (by omega) (Exists.intro 12 (Exists.intro 689 (And.intro (by omega) (And.intro (by omega) ?_)))))
  refine tm_init (fun a2 a3 a4 => Exists.intro 6 ?_)
  refine tm_13 hp 5 0 _ (by omega) ?_
  intro j i hj hi
  rw [if_neg (by omega)]
end
theorem tm_cell {post : Int32 → Prop} {L : Nat} {xs : Nat → Int32} (hL : L ≤ 3) {k : Nat} (hk : k < 3) (H : ∀ x, post x) : wpL_cellAt post L xs () (nI k) := by
  unfold wpL_cellAt
  exact pk_le L k (fun _ => H _) (fun z => And.intro (pk_in k L z) (H _))
theorem i_vc (xs : Nat → Int32) (L : Nat) (hL : L ≤ 3) : wpL_law (fun r => r = 1) L xs := by
  unfold wpL_law
  refine tm_cell (k := 0) hL (by omega) (fun t => ?_)
  refine tm_cell (k := 1) hL (by omega) (fun p => ?_)
  refine tm_cell (k := 2) hL (by omega) (fun fr => ?_)
  exact Exists.intro 13 (Exists.intro 705 (And.intro (by omega) (And.intro (by omega) (tm_law rfl))))
end
