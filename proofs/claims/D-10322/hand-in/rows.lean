section
/-! the shapes: rows as hexadecimal digits of three numbers -/
def sr_TA : Nat := 1342321776132564745086734901852546245562821407740922662447493648
def sr_TB : Nat := 1316296519821146742510044947157570949102412771361783451601600512
def sr_TC : Nat := 1288978568266949489431111077332405866890485574026062025275211776
def sr_ra (s : Nat) : Nat := Nat.land (Nat.shiftRight sr_TA (Nat.mul 4 s)) 15
def sr_rb (s : Nat) : Nat := Nat.land (Nat.shiftRight sr_TB (Nat.mul 4 s)) 15
def sr_rc (s : Nat) : Nat := Nat.land (Nat.shiftRight sr_TC (Nat.mul 4 s)) 15
def sr_sz (s : Nat) : Nat := sr_ra s + sr_rb s + sr_rc s
def sr_cd (s : Nat) : Nat := sr_ra s + 10 * sr_rb s + 100 * sr_rc s
def sr_all (f : Nat → Bool) : Nat → Bool
  | 0 => true
  | n + 1 => f n && sr_all f n
theorem sr_all_at {f : Nat → Bool} {n : Nat} (h : sr_all f n = true) : ∀ i, i < n → f i = true := by
  induction n with
  | zero => intro i hi; exact absurd hi (by omega)
  | succ n ih =>
    intro i hi
    have h' : (f n && sr_all f n) = true := h
    rw [Bool.and_eq_true] at h'
    by_cases e : i = n
    · rw [e]; exact h'.1
    · exact ih h'.2 i (by omega)
theorem sr_bdc : sr_all (fun s => Nat.ble (sr_rb s) (sr_ra s) && (Nat.ble (sr_rc s) (sr_rb s) && Nat.ble (sr_sz s) 9)) 53 = true := by decide +kernel
theorem sr_bd {s : Nat} (h : s < 53) : sr_rb s ≤ sr_ra s ∧ sr_rc s ≤ sr_rb s ∧ sr_ra s + sr_rb s + sr_rc s ≤ 9 := by
  have h' := sr_all_at sr_bdc s h
  simp only [Bool.and_eq_true, Nat.ble_eq] at h'
  exact ⟨h'.1, h'.2.1, h'.2.2⟩
theorem sr_moc : sr_all (fun i => sr_all (fun j => cond (Nat.ble (i + 1) j) (Nat.ble (sr_cd i + 1) (sr_cd j)) true) 53) 53 = true := by decide +kernel
theorem sr_mo {i j : Nat} (hij : i < j) (hj : j < 53) : sr_cd i < sr_cd j := by
  have h := sr_all_at (sr_all_at sr_moc i (by omega)) j hj
  have e : Nat.ble (i + 1) j = true := by rw [Nat.ble_eq]; omega
  simp only [e, cond_true, Nat.ble_eq] at h
  omega
theorem sr_cdi {i j : Nat} (hi : i < 53) (hj : j < 53) (h : sr_cd i = sr_cd j) : i = j := by
  rcases Nat.lt_trichotomy i j with z | z | z
  · have := sr_mo z hj; omega
  · exact z
  · have := sr_mo z hi; omega
theorem sr_inj {i j : Nat} (hi : i < 53) (hj : j < 53) (h1 : sr_ra i = sr_ra j) (h2 : sr_rb i = sr_rb j) (h3 : sr_rc i = sr_rc j) : i = j :=
  sr_cdi hi hj (by unfold sr_cd; rw [h1, h2, h3])
def sr_se (a b c : Nat) : Nat → Nat
  | 0 => 1000
  | n + 1 => cond (Nat.beq (sr_ra n) a && (Nat.beq (sr_rb n) b && Nat.beq (sr_rc n) c)) n (sr_se a b c n)
def sr_fx (a b c : Nat) : Nat := sr_se a b c 53
theorem sr_exc : sr_all (fun a => sr_all (fun b => sr_all (fun c => cond (Nat.ble b a && (Nat.ble c b && Nat.ble (a + b + c) 9)) (Nat.ble (sr_fx a b c) 52 && (Nat.beq (sr_ra (sr_fx a b c)) a && (Nat.beq (sr_rb (sr_fx a b c)) b && Nat.beq (sr_rc (sr_fx a b c)) c))) true) 10) 10) 10 = true := by decide +kernel
theorem sr_ex {a b c : Nat} (h1 : b ≤ a) (h2 : c ≤ b) (h3 : a + b + c ≤ 9) : sr_fx a b c < 53 ∧ sr_ra (sr_fx a b c) = a ∧ sr_rb (sr_fx a b c) = b ∧ sr_rc (sr_fx a b c) = c := by
  have h := sr_all_at (sr_all_at (sr_all_at sr_exc a (by omega)) b (by omega)) c (by omega)
  have e : (Nat.ble b a && (Nat.ble c b && Nat.ble (a + b + c) 9)) = true := by
    simp only [Bool.and_eq_true, Nat.ble_eq]
    exact ⟨h1, h2, h3⟩
  simp only [e, cond_true, Bool.and_eq_true, Nat.ble_eq, Nat.beq_eq] at h
  exact ⟨by omega, h.2.1, h.2.2.1, h.2.2.2⟩
/-! sums -/
def sr_sm (f : Nat → Int32) : Nat → Int32
  | 0 => 0
  | n + 1 => sr_sm f n + f n
theorem sr_sm_s (f : Nat → Int32) (n : Nat) : sr_sm f (n + 1) = sr_sm f n + f n := rfl
theorem sr_sm_c {f g : Nat → Int32} {n : Nat} (h : ∀ i, i < n → f i = g i) : sr_sm f n = sr_sm g n := by
  induction n with
  | zero => rfl
  | succ n ih => rw [sr_sm_s, sr_sm_s, ih (fun i hi => h i (by omega)), h n (by omega)]
theorem sr_sm_add (f g : Nat → Int32) (n : Nat) : sr_sm (fun i => f i + g i) n = sr_sm f n + sr_sm g n := by
  induction n with
  | zero => rfl
  | succ n ih => rw [sr_sm_s, sr_sm_s, sr_sm_s, ih]; grind
theorem sr_sm_l (a : Int32) (f : Nat → Int32) (n : Nat) : sr_sm (fun i => a * f i) n = a * sr_sm f n := by
  induction n with
  | zero => exact Int32.mul_zero.symm
  | succ n ih => rw [sr_sm_s, sr_sm_s, ih]; grind
theorem sr_sm_r (a : Int32) (f : Nat → Int32) (n : Nat) : sr_sm (fun i => f i * a) n = sr_sm f n * a := by
  induction n with
  | zero => exact Int32.zero_mul.symm
  | succ n ih => rw [sr_sm_s, sr_sm_s, ih]; grind
theorem sr_sm_0 (n : Nat) : sr_sm (fun _ => 0) n = 0 := by
  induction n with
  | zero => rfl
  | succ n ih => rw [sr_sm_s, ih]; rfl
theorem sr_sm_x (F : Nat → Nat → Int32) (m n : Nat) : sr_sm (fun i => sr_sm (fun j => F i j) n) m = sr_sm (fun j => sr_sm (fun i => F i j) m) n := by
  induction m with
  | zero => exact (sr_sm_0 n).symm
  | succ m ih =>
    rw [sr_sm_s, ih, ← sr_sm_add]
    exact sr_sm_c (fun i _ => rfl)
theorem sr_sm_sp (f : Nat → Int32) (m k : Nat) : sr_sm f (m + k) = sr_sm f m + sr_sm (fun b => f (m + b)) k := by
  induction k with
  | zero => exact (Int32.add_zero _).symm
  | succ k ih =>
    show sr_sm f (m + k) + f (m + k) = _
    rw [ih, sr_sm_s, Int32.add_assoc]
theorem sr_sm_g (F : Nat → Nat → Int32) (n : Nat) : sr_sm (fun j => F (j / 53) (j % 53)) (53 * n) = sr_sm (fun a => sr_sm (fun b => F a b) 53) n := by
  induction n with
  | zero => rfl
  | succ n ih =>
    rw [show 53 * (n + 1) = 53 * n + 53 by omega, sr_sm_sp, ih, sr_sm_s (fun a => sr_sm (fun b => F a b) 53) n]
    refine congrArg (HAdd.hAdd (sr_sm (fun a => sr_sm (fun b => F a b) 53) n)) (sr_sm_c (fun b hb => ?_))
    show F ((53 * n + b) / 53) ((53 * n + b) % 53) = F n b
    rw [show (53 * n + b) / 53 = n by omega, show (53 * n + b) % 53 = b by omega]
theorem sr_sm_d (t : Nat) (v : Nat → Int32) (n : Nat) : sr_sm (fun i => if t = i then v i else 0) n = if t < n then v t else 0 := by
  induction n with
  | zero => rfl
  | succ n ih =>
    rw [sr_sm_s, ih]
    by_cases e : t = n
    · subst e
      rw [if_neg (by omega), if_pos rfl, if_pos (by omega), Int32.zero_add]
    · rw [if_neg e, Int32.add_zero]
      by_cases e2 : t < n
      · rw [if_pos e2, if_pos (by omega)]
      · rw [if_neg e2, if_neg (by omega)]
/-! small ints of either sign -/
def sr_iI (z : Int) : Int32 := Int32.ofInt z
theorem sr_nI (n : Nat) : nI n = sr_iI (n : Int) := Int32.ofInt_eq_ofNat.symm
theorem sr_ia (a b : Int) : sr_iI a + sr_iI b = sr_iI (a + b) := (Int32.ofInt_add a b).symm
theorem sr_is (a b : Int) : sr_iI a - sr_iI b = sr_iI (a - b) := (Int32.ofInt_sub a b).symm
theorem sr_it {z : Int} (h1 : -1000000 ≤ z) (h2 : z ≤ 1000000) : (sr_iI z).toInt = z := Int32.toInt_ofInt_of_le (by omega) (by omega)
theorem sr_ilt {x y : Int32} {a b : Int} (hx : x = sr_iI a) (hy : y = sr_iI b) (h : -1000000 ≤ a ∧ a ≤ 1000000 ∧ -1000000 ≤ b ∧ b ≤ 1000000) : x < y ↔ a < b := by
  subst hx hy
  rw [Int32.lt_iff_toInt_lt, sr_it h.1 h.2.1, sr_it h.2.2.1 h.2.2.2]
theorem sr_ile {x y : Int32} {a b : Int} (hx : x = sr_iI a) (hy : y = sr_iI b) (h : -1000000 ≤ a ∧ a ≤ 1000000 ∧ -1000000 ≤ b ∧ b ≤ 1000000) : x ≤ y ↔ a ≤ b := by
  subst hx hy
  rw [Int32.le_iff_toInt_le, sr_it h.1 h.2.1, sr_it h.2.2.1 h.2.2.2]
theorem sr_ieq {x y : Int32} {a b : Int} (hx : x = sr_iI a) (hy : y = sr_iI b) (h : -1000000 ≤ a ∧ a ≤ 1000000 ∧ -1000000 ≤ b ∧ b ≤ 1000000) : x = y ↔ a = b := by
  subst hx hy
  rw [← Int32.toInt_inj, sr_it h.1 h.2.1, sr_it h.2.2.1 h.2.2.2]
theorem sr_i0 : (0 : Int32) = sr_iI 0 := rfl
/-! the counting of fillings and of patterns, in naturals -/
def sr_fb (pa pb pc qa qb qc ra rb rc n : Nat) : Bool :=
  Nat.ble pa ra && (Nat.ble (ra + n) (qa + pa) && (Nat.ble (pb + n) rb && (Nat.ble rb (qb + pb + n) && (Nat.beq (qa + pa + qb + pb + qc + pc) (ra + rb + rc) && (Nat.ble (pb + n) pa && (Nat.ble (pc + qa + pa) (pb + ra + n) && (Nat.ble (pc + qa + pa + qb) (n + ra + rb) && (Nat.ble (rb + pa) (ra + pb + n) && (Nat.ble (qc + pb + n) rb && Nat.ble (qb + pa) (ra + n))))))))))
theorem sr_fb_iff (pa pb pc qa qb qc ra rb rc n : Nat) : sr_fb pa pb pc qa qb qc ra rb rc n = true ↔
    (pa ≤ ra ∧ ra + n ≤ qa + pa ∧ pb + n ≤ rb ∧ rb ≤ qb + pb + n ∧ qa + pa + qb + pb + qc + pc = ra + rb + rc ∧ pb + n ≤ pa ∧ pc + qa + pa ≤ pb + ra + n ∧ pc + qa + pa + qb ≤ n + ra + rb ∧ rb + pa ≤ ra + pb + n ∧ qc + pb + n ≤ rb ∧ qb + pa ≤ ra + n) := by
  simp only [sr_fb, Bool.and_eq_true, Nat.ble_eq, Nat.beq_eq]
def sr_ft (p q r n : Nat) : Bool := sr_fb (sr_ra p) (sr_rb p) (sr_rc p) (sr_ra q) (sr_rb q) (sr_rc q) (sr_ra r) (sr_rb r) (sr_rc r) n
def sr_cn (p q r : Nat) : Nat → Nat
  | 0 => 0
  | n + 1 => cond (sr_ft p q r n) (sr_cn p q r n + 1) (sr_cn p q r n)
def sr_ct (p q r : Nat) : Nat := sr_cn p q r (sr_rb r + 1 - sr_rb p)
theorem sr_cn_0 {p q r : Nat} (h : sr_sz p + sr_sz q ≠ sr_sz r) (n : Nat) : sr_cn p q r n = 0 := by
  induction n with
  | zero => rfl
  | succ n ih =>
    have e : sr_ft p q r n = false := by
      cases hb : sr_ft p q r n with
      | false => rfl
      | true =>
        have t := (sr_fb_iff _ _ _ _ _ _ _ _ _ _).mp hb
        exact absurd (by unfold sr_sz; omega) h
    show cond (sr_ft p q r n) (sr_cn p q r n + 1) (sr_cn p q r n) = 0
    rw [e, cond_false, ih]
theorem sr_ct_0 {p q r : Nat} (h : sr_sz p + sr_sz q ≠ sr_sz r) : sr_ct p q r = 0 := sr_cn_0 h _
theorem sr_cn_le (p q r n : Nat) : sr_cn p q r n ≤ n := by
  induction n with
  | zero => exact Nat.le_refl 0
  | succ n ih =>
    show cond (sr_ft p q r n) (sr_cn p q r n + 1) (sr_cn p q r n) ≤ n + 1
    cases sr_ft p q r n
    · rw [cond_false]; omega
    · rw [cond_true]; omega
theorem sr_cmc : sr_all (fun p => sr_all (fun q => cond (Nat.ble (sr_sz p + sr_sz q) 9) (sr_all (fun r => cond (Nat.beq (sr_sz p + sr_sz q) (sr_sz r)) (Nat.beq (sr_ct p q r) (sr_ct q p r)) true) 53) true) 53) 53 = true := by decide +kernel
theorem sr_comm {p q r : Nat} (hp : p < 53) (hq : q < 53) (hr : r < 53) : sr_ct p q r = sr_ct q p r := by
  by_cases e : sr_sz p + sr_sz q = sr_sz r
  · have h := sr_all_at (sr_all_at sr_cmc p hp) q hq
    have b := (sr_bd hr).2.2
    have e1 : Nat.ble (sr_sz p + sr_sz q) 9 = true := by rw [Nat.ble_eq, e]; exact b
    simp only [e1, cond_true] at h
    have h2 := sr_all_at h r hr
    have e2 : Nat.beq (sr_sz p + sr_sz q) (sr_sz r) = true := by rw [Nat.beq_eq]; exact e
    simp only [e2, cond_true, Nat.beq_eq] at h2
    exact h2
  · rw [sr_ct_0 e, sr_ct_0 (by omega)]
def sr_pb (rb rc i j f : Nat) : Bool := Nat.ble (rc + f) (i + j) && (Nat.ble (i + j) (rb + f) && (Nat.ble i f && Nat.ble j f))
def sr_pc (s i j : Nat) : Nat → Nat
  | 0 => 0
  | m + 1 => cond (sr_pb (sr_rb s) (sr_rc s) i j (sr_rb s + m)) (sr_pc s i j m + 1) (sr_pc s i j m)
def sr_pt (s i j : Nat) : Nat := sr_pc s i j (sr_ra s + 1 - sr_rb s)
theorem sr_ptc : sr_all (fun s => sr_all (fun i => sr_all (fun j => sr_all (fun k => cond (Nat.beq (sr_sz s) (i + j + k)) (Nat.beq (sr_pt s i k) (sr_pt s i j) && Nat.beq (sr_pt s j i) (sr_pt s i j)) true) 5) 5) 5) 53 = true := by decide +kernel
theorem sr_pts {s i j k : Nat} (hs : s < 53) (hi : i < 5) (hj : j < 5) (hk : k < 5) (h : sr_sz s = i + j + k) : sr_pt s i k = sr_pt s i j ∧ sr_pt s j i = sr_pt s i j := by
  have h := sr_all_at (sr_all_at (sr_all_at (sr_all_at sr_ptc s hs) i hi) j hj) k hk
  have e : Nat.beq (sr_sz s) (i + j + k) = true := by rw [Nat.beq_eq]; assumption
  simp only [e, cond_true, Bool.and_eq_true, Nat.beq_eq] at h
  exact h
end
section
/-! walks of the methods that change nothing -/
def sr_rk (a1 a2 a3 : Nat → Int32) : Prop := ∀ s, s < 53 → a1 s = nI (sr_ra s) ∧ a2 s = nI (sr_rb s) ∧ a3 s = nI (sr_rc s)
section
variable {post : Int32 → Prop} {c : Int32} {a1 a2 a3 a4 a5 a6 : Nat → Int32}
theorem sr_rowA (hR : sr_rk a1 a2 a3) {i : Nat} (hi : i < 53) : a1 (nI i).toNatClampNeg = nI (sr_ra i) := by
  rw [nI_clamp (by omega)]; exact (hR i hi).1
theorem sr_rowB (hR : sr_rk a1 a2 a3) {i : Nat} (hi : i < 53) : a2 (nI i).toNatClampNeg = nI (sr_rb i) := by
  rw [nI_clamp (by omega)]; exact (hR i hi).2.1
theorem sr_rowC (hR : sr_rk a1 a2 a3) {i : Nat} (hi : i < 53) : a3 (nI i).toNatClampNeg = nI (sr_rc i) := by
  rw [nI_clamp (by omega)]; exact (hR i hi).2.2
theorem sr_sizeOf {x : Int32} (hR : sr_rk a1 a2 a3) {s : Nat} (hs : s < 53) (hp : post (nI (sr_sz s))) (hx : x = nI s) : wpX_sizeOf post (c, a1, a2, a3, a4, a5, a6) x := by
  subst hx
  refine ⟨pk_in s 60 (by omega), pk_in s 60 (by omega), pk_in s 60 (by omega), ?_⟩
  rw [sr_rowA hR hs, sr_rowB hR hs, sr_rowC hR hs, nI_add, nI_add]
  exact hp
theorem sr_ix (e i : Nat) : (60 : Int32) * nI e + nI i = nI (60 * e + i) := by
  rw [show (60 : Int32) = nI 60 from rfl, pk_mul, nI_add]
theorem sr_get {x y : Int32} {e i : Nat} (he : e < 2) (hi : i < 60) (hp : post (a4 (60 * e + i))) (hx : x = nI e) (hy : y = nI i) : wpX_get post (c, a1, a2, a3, a4, a5, a6) x y := by
  subst hx hy
  refine ⟨?_, ?_⟩
  · rw [sr_ix]; exact vp_in_nI (by omega) (by omega)
  · rw [sr_ix, nI_clamp (by omega)]; exact hp
theorem sr_badE {x : Int32} {e : Nat} (he : e < 2) (hp : post 0) (hx : x = nI e) : wpX_badElement post (c, a1, a2, a3, a4, a5, a6) x := by
  subst hx
  exact br_f (nI_pos (by omega)) (br_t (nI_le (a := e) (b := 1) (by omega) (by omega)) hp)
theorem sr_find {x y z : Int32} (hR : sr_rk a1 a2 a3) {s : Nat} (hs : s < 53) (hp : post (nI s)) (hx : x = nI (sr_ra s)) (hy : y = nI (sr_rb s)) (hz : z = nI (sr_rc s)) : wpX_find post (nI 53, a1, a2, a3, a4, a5, a6) x y z := by
  subst hx hy hz
  refine pk_loop (σ := Unit) (fun n i _ => wX_find_3 post (nI (sr_ra s)) (nI (sr_rb s)) (nI (sr_rc s)) (nI 53) a1 a2 a3 a4 a5 a6 n (nI i)) (fun _ _ => True) s 0 () (by omega) trivial ?_ ?_
  · intro n _ _
    exact br_f (nI_ge (a := s) (b := 53) (by omega) (by omega)) (⟨pk_in s 60 (by omega), br_t (sr_rowA hR hs) ⟨pk_in s 60 (by omega), br_t (sr_rowB hR hs) ⟨pk_in s 60 (by omega), br_t (sr_rowC hR hs) hp⟩⟩⟩)
  · intro n i _ hi _ hw
    have hi' : i < 53 := by omega
    have nx : ∀ x, x = nI i + 1 → wX_find_3 post (nI (sr_ra s)) (nI (sr_rb s)) (nI (sr_rc s)) (nI 53) a1 a2 a3 a4 a5 a6 n x := nm_r (nI_1 i) (hw () trivial)
    refine br_f (nI_ge (a := i) (b := 53) (by omega) (by omega)) (⟨pk_in i 60 (by omega), br_c (fun h1 => ⟨pk_in i 60 (by omega), br_c (fun h2 => ⟨pk_in i 60 (by omega), br_c (fun h3 => ?_) (fun _ => nx)⟩) (fun _ => nx)⟩) (fun _ => nx)⟩)
    rw [sr_rowA hR hi'] at h1
    rw [sr_rowB hR hi'] at h2
    rw [sr_rowC hR hi'] at h3
    have bi := sr_bd hi'
    have bs := sr_bd hs
    have e1 := (nI_eq (by omega) (by omega)).mp h1
    have e2 := (nI_eq (by omega) (by omega)).mp h2
    have e3 := (nI_eq (by omega) (by omega)).mp h3
    exact absurd (sr_inj hi' hs e1 e2 e3) (by omega)
theorem sr_digA {s : Nat} (hs : s < 53) : nI (sr_cd s) - nI (sr_cd s) / 10 * 10 = nI (sr_ra s) := by
  have b := sr_bd hs
  have hc : sr_cd s ≤ 999 := by unfold sr_cd; omega
  have h := pk_rem (a := sr_cd s) (d := 10) (by omega) (by omega) (by omega)
  have e : sr_cd s % 10 = sr_ra s := by unfold sr_cd; omega
  rw [e] at h
  exact h
theorem sr_digB {s : Nat} (hs : s < 53) : (nI (sr_cd s) / 10) - (nI (sr_cd s) / 10) / 10 * 10 = nI (sr_rb s) := by
  have b := sr_bd hs
  have hc : sr_cd s ≤ 999 := by unfold sr_cd; omega
  have h0 : nI (sr_cd s) / 10 = nI (sr_cd s / 10) := pk_div (a := sr_cd s) (d := 10) (by omega) (by omega) (by omega)
  have h := pk_rem (a := sr_cd s / 10) (d := 10) (by omega) (by omega) (by omega)
  have e0 : sr_cd s / 10 = sr_rb s + 10 * sr_rc s := by unfold sr_cd; omega
  have e : sr_cd s / 10 % 10 = sr_rb s := by omega
  rw [e] at h
  rw [h0]
  exact h
theorem sr_digC {s : Nat} (hs : s < 53) : nI (sr_cd s) / 100 = nI (sr_rc s) := by
  have b := sr_bd hs
  have hc : sr_cd s ≤ 999 := by unfold sr_cd; omega
  have h := pk_div (a := sr_cd s) (d := 100) (by omega) (by omega) (by omega)
  have e : sr_cd s / 100 = sr_rc s := by unfold sr_cd; omega
  rw [e] at h
  exact h
theorem sr_shapeOf {x : Int32} (hR : sr_rk a1 a2 a3) {s : Nat} (hs : s < 53) (hp : post (nI s)) (hx : x = nI (sr_cd s)) : wpX_shapeOf post (nI 53, a1, a2, a3, a4, a5, a6) x := by
  subst hx
  have b := sr_bd hs
  have hc : sr_cd s ≤ 999 := by unfold sr_cd; omega
  exact br_f (nI_pos (by omega)) (br_t (nI_le (a := sr_cd s) (b := 999) hc (by omega)) ⟨by decide, by decide, by decide, by decide, sr_find hR hs hp (sr_digA hs) (sr_digB hs) (sr_digC hs)⟩)
theorem sr_d10 : ¬ (1 : Int32) = 0 := by decide
theorem sr_f184a {x4 x5 x7 x8 x9 z0 : Int32} (hz : post 0) : wX_fits_184 post x4 x5 x7 x8 x9 0 z0 c a1 a2 a3 a4 a5 a6 :=
  br_c (fun _ => br_t rfl hz) (fun _ => br_c (fun _ => br_t rfl hz) (fun _ => br_c (fun _ => br_t rfl hz) (fun _ => br_t rfl hz)))
theorem sr_f184b {x4 x5 x7 x8 x9 : Int32} (hz : post 0) : wX_fits_184 post x4 x5 x7 x8 x9 1 0 c a1 a2 a3 a4 a5 a6 :=
  br_c (fun _ => br_f sr_d10 (br_t rfl hz)) (fun _ => br_c (fun _ => br_f sr_d10 (br_t rfl hz)) (fun _ => br_c (fun _ => br_f sr_d10 (br_t rfl hz)) (fun _ => br_f sr_d10 (br_t rfl hz))))
theorem sr_f152 {x1 x4 x5 x6 x7 x8 x9 : Int32} (h1 : vp_in x1 60) (hz : post 0) : wX_fits_152 post x1 x4 x5 x6 x7 x8 x9 c a1 a2 a3 a4 a5 a6 :=
  ⟨h1, h1, br_c (fun _ => sr_f184a hz) (fun _ => sr_f184a hz)⟩
theorem sr_fits (hR : sr_rk a1 a2 a3) {p q r n : Nat} (hp : p < 53) (hq : q < 53) (hr : r < 53) (hn : n ≤ 20) (H1 : sr_ft p q r n = true → post 1) (H0 : sr_ft p q r n = false → post 0) :
    wpX_fits post (c, a1, a2, a3, a4, a5, a6) (nI p) (nI q) (nI r) (nI n) := by
  have bp := sr_bd hp
  have bq := sr_bd hq
  have br := sr_bd hr
  have pa := sr_rowA hR hp
  have pb := sr_rowB hR hp
  have pc := sr_rowC hR hp
  have qa := sr_rowA hR hq
  have qb := sr_rowB hR hq
  have qc := sr_rowC hR hq
  have ra := sr_rowA hR hr
  have rb := sr_rowB hR hr
  have rc := sr_rowC hR hr
  have ip : vp_in (nI p) 60 := pk_in p 60 (by omega)
  have iq : vp_in (nI q) 60 := pk_in q 60 (by omega)
  have ir : vp_in (nI r) 60 := pk_in r 60 (by omega)
  have K := sr_fb_iff (sr_ra p) (sr_rb p) (sr_rc p) (sr_ra q) (sr_rb q) (sr_rc q) (sr_ra r) (sr_rb r) (sr_rc r) n
  have H0' : ¬ (sr_fb (sr_ra p) (sr_rb p) (sr_rc p) (sr_ra q) (sr_rb q) (sr_rc q) (sr_ra r) (sr_rb r) (sr_rc r) n = true) → post 0 := fun t => H0 (Bool.eq_false_iff.mpr t)
  have H1' : sr_fb (sr_ra p) (sr_rb p) (sr_rc p) (sr_ra q) (sr_rb q) (sr_rc q) (sr_ra r) (sr_rb r) (sr_rc r) n = true → post 1 := H1
  rw [K] at H0' H1'
  clear K H0 H1
  generalize sr_ra p = pA at *
  generalize sr_rb p = pB at *
  generalize sr_rc p = pC at *
  generalize sr_ra q = qA at *
  generalize sr_rb q = qB at *
  generalize sr_rc q = qC at *
  generalize sr_ra r = rA at *
  generalize sr_rb r = rB at *
  generalize sr_rc r = rC at *
  refine ⟨ir, ip, nm_r (e' := sr_iI ((rA : Int) - pA)) (by rw [ra, pa]; simp only [sr_nI, sr_ia, sr_is]) ⟨iq, nm_r (e' := sr_iI ((qA : Int) - (rA - pA) - n)) (by rw [qa]; simp only [sr_nI, sr_ia, sr_is]) ⟨ir, ip, nm_r (e' := sr_iI ((rB : Int) - pB - n)) (by rw [rb, pb]; simp only [sr_nI, sr_ia, sr_is]) ⟨iq, nm_r (e' := sr_iI ((qB : Int) - (rB - pB - n))) (by rw [qb]; simp only [sr_nI, sr_ia, sr_is]) ⟨iq, nm_r (e' := sr_iI (qC : Int)) (by rw [qc]; simp only [sr_nI, sr_ia, sr_is]) ?_⟩⟩⟩⟩⟩
  refine ek_if (sr_ilt rfl sr_i0 (by omega)) (fun h => H0' (by omega)) (fun h1 => ?_)
  refine ek_if (sr_ilt rfl sr_i0 (by omega)) (fun h => H0' (by omega)) (fun h2 => ?_)
  refine ek_if (sr_ilt rfl sr_i0 (by omega)) (fun h => H0' (by omega)) (fun h3 => ?_)
  refine ek_if (sr_ilt rfl sr_i0 (by omega)) (fun h => H0' (by omega)) (fun h4 => ⟨ir, ip, ?_⟩)
  refine ek_if (sr_ieq (a := ((qA : Int) - (rA - pA) - n) + ((qB : Int) - (rB - pB - n)) + qC) (b := (rC : Int) - pC) (by simp only [sr_nI, sr_ia, sr_is]) (by rw [rc, pc]; simp only [sr_nI, sr_ia, sr_is]) (by omega)) (fun h5 => ⟨ip, ip, ?_⟩) (fun h => H0' (by omega))
  refine ek_if (sr_ilt (a := (pA : Int)) (b := (pB : Int) + n) (by rw [pa]; simp only [sr_nI, sr_ia, sr_is]) (by rw [pb]; simp only [sr_nI, sr_ia, sr_is]) (by omega)) (fun h => sr_f152 ip (H0' (by omega))) (fun h6 => ⟨ip, ip, ?_⟩)
  refine ek_if (sr_ilt (a := (pB : Int)) (b := (pC : Int) + ((qA : Int) - (rA - pA) - n)) (by rw [pb]; simp only [sr_nI, sr_ia, sr_is]) (by rw [pc]; simp only [sr_nI, sr_ia, sr_is]) (by omega)) (fun h => sr_f152 ip (H0' (by omega))) (fun h7 => ?_)
  refine ⟨ip, ip, ?_⟩
  refine ek_if (sr_ilt (a := (pB : Int) + n) (b := ((pC : Int) + ((qA : Int) - (rA - pA) - n)) + ((qB : Int) - (rB - pB - n))) (by rw [pb]; simp only [sr_nI, sr_ia, sr_is]) (by rw [pc]; simp only [sr_nI, sr_ia, sr_is]) (by omega)) (fun h => sr_f184b (H0' (by omega))) (fun h8 => ?_)
  refine ek_if (sr_ilt rfl rfl (by omega)) (fun h => br_f sr_d10 (br_f sr_d10 (br_t rfl (H0' (by omega))))) (fun h9 => ?_)
  refine ek_if (sr_ilt rfl rfl (by omega)) (fun h => br_f sr_d10 (br_f sr_d10 (br_t rfl (H0' (by omega))))) (fun h10 => ?_)
  refine ek_if (sr_ilt (a := ((rA : Int) - pA) + n) (b := ((rB : Int) - pB - n) + ((qB : Int) - (rB - pB - n))) (by simp only [sr_nI, sr_ia, sr_is]) (by simp only [sr_nI, sr_ia, sr_is]) (by omega)) (fun h => br_f sr_d10 (br_f sr_d10 (br_t rfl (H0' (by omega))))) (fun h11 => ?_)
  exact br_f sr_d10 (br_f sr_d10 (br_f sr_d10 (H1' (by omega))))
theorem sr_countF (hR : sr_rk a1 a2 a3) {p q r : Nat} (hp : p < 53) (hq : q < 53) (hr : r < 53) (h : post (nI (sr_ct p q r))) : wpX_countFillings post (c, a1, a2, a3, a4, a5, a6) (nI p) (nI q) (nI r) := by
  have bp := sr_bd hp
  have br := sr_bd hr
  refine pk_loop (fun n i s => wX_countFillings_6 post (nI p) (nI q) (nI r) c a1 a2 a3 a4 a5 a6 n s (nI i)) (fun i s => s = nI (sr_cn p q r i)) (sr_rb r + 1 - sr_rb p) 0 (0 : Int32) (by omega) rfl ?_ ?_
  · intro n s hs
    have hs' : s = nI (sr_ct p q r) := hs
    refine ⟨pk_in r 60 (by omega), pk_in p 60 (by omega), br_t ?_ (by rw [hs']; exact h)⟩
    refine (sr_ilt (a := (sr_rb r : Int) - sr_rb p) (b := ((sr_rb r + 1 - sr_rb p : Nat) : Int)) (by rw [sr_rowB hR hr, sr_rowB hR hp]; simp only [sr_nI, sr_is]) (sr_nI _) (by omega)).mpr (by omega)
  · intro n i s hi hs hw
    have hs' : s = nI (sr_cn p q r i) := hs
    have hw' : ∀ s', s' = nI (sr_cn p q r (i + 1)) → wX_countFillings_6 post (nI p) (nI q) (nI r) c a1 a2 a3 a4 a5 a6 n s' (nI (i + 1)) := hw
    have e1 : sr_cn p q r (i + 1) = cond (sr_ft p q r i) (sr_cn p q r i + 1) (sr_cn p q r i) := rfl
    refine ⟨pk_in r 60 (by omega), pk_in p 60 (by omega), br_f (fun t => ?_) ?_⟩
    · have t' := (sr_ilt (a := (sr_rb r : Int) - sr_rb p) (b := (i : Int)) (by rw [sr_rowB hR hr, sr_rowB hR hp]; simp only [sr_nI, sr_is]) (sr_nI _) (by omega)).mp t
      omega
    · refine sr_fits hR hp hq hr (by omega) (fun t => ?_) (fun t => ?_)
      · refine br_f sr_d10 (nm_e (nm_r (nI_1 i) (hw' _ ?_)))
        rw [e1, t, cond_true, hs', nI_1]
      · refine br_t rfl (nm_r (nI_1 i) (hw' _ ?_))
        rw [e1, t, cond_false, hs']
theorem sr_number {x y z : Int32} (hR : sr_rk a1 a2 a3) {p q r : Nat} (hp : p < 53) (hq : q < 53) (hr : r < 53) (h : post (nI (sr_ct p q r))) (hx : x = nI (sr_cd p)) (hy : y = nI (sr_cd q)) (hz : z = nI (sr_cd r)) :
    wpX_number post (nI 53, a1, a2, a3, a4, a5, a6) x y z := by
  subst hx hy hz
  unfold wpX_number
  exact sr_shapeOf hR hp (sr_shapeOf hR hq (sr_shapeOf hR hr (br_f (nI_pos (by omega)) (br_f (nI_pos (by omega)) (br_t (nI_pos' (by omega)) (sr_countF hR hp hq hr h)))) rfl) rfl) rfl
theorem sr_size {s : Nat} (hs : s < 53) (h : post (nI (sr_sz s))) : wpL_size post () (nI (sr_cd s)) := by
  refine ⟨by decide, by decide, by decide, by decide, ?_⟩
  rw [sr_digA hs, sr_digB hs, sr_digC hs, nI_add, nI_add]
  exact h
theorem sr_numbers {x y z : Int32} (hR : sr_rk a1 a2 a3) {p q r : Nat} (hp : p < 53) (hq : q < 53) (hr : r < 53) (h : post 1) (hx : x = nI (sr_cd p)) (hy : y = nI (sr_cd q)) (hz : z = nI (sr_cd r)) :
    wpL_numbers post (nI 53, a1, a2, a3, a4, a5, a6) x y z := by
  subst hx hy hz
  have bp := sr_bd hp
  have bq := sr_bd hq
  have br := sr_bd hr
  have b : sr_ct p q r ≤ sr_rb r + 1 - sr_rb p := sr_cn_le _ _ _ _
  have zp : sr_sz p ≤ 9 := bp.2.2
  have zq : sr_sz q ≤ 9 := bq.2.2
  have zr : sr_sz r ≤ 9 := br.2.2
  unfold wpL_numbers
  refine sr_number hR hp hq hr (sr_number hR hq hp hr ?_ rfl rfl rfl) rfl rfl rfl
  refine br_t (by rw [sr_comm hp hq hr]) (br_f (nI_pos (by omega)) ?_)
  refine pk_eq (sr_ct p q r) 0 (fun _ => h) (fun t => ?_)
  have e : sr_sz p + sr_sz q = sr_sz r := by
    by_cases e : sr_sz p + sr_sz q = sr_sz r
    · exact e
    · exact absurd (sr_ct_0 e) t
  refine sr_size hp (sr_size hq (sr_size hr (br_t ?_ h)))
  rw [nI_add, e]
theorem sr_pb_iff (rb rc i j f : Nat) : sr_pb rb rc i j f = true ↔ (rc + f ≤ i + j ∧ i + j ≤ rb + f ∧ i ≤ f ∧ j ≤ f) := by
  simp only [sr_pb, Bool.and_eq_true, Nat.ble_eq]
theorem sr_patterns (hR : sr_rk a1 a2 a3) {s i j : Nat} (hs : s < 53) (hi : i ≤ 9) (hj : j ≤ 9) (h : post (nI (sr_pt s i j))) : wpX_patterns post (c, a1, a2, a3, a4, a5, a6) (nI s) (nI i) (nI j) := by
  have b := sr_bd hs
  have ia := sr_rowA hR hs
  have ib := sr_rowB hR hs
  have ic := sr_rowC hR hs
  have is : vp_in (nI s) 60 := pk_in s 60 (by omega)
  refine ⟨is, nm_r ib ?_⟩
  refine pk_loop (fun n m x => wX_patterns_11 post (nI s) (nI i) (nI j) c a1 a2 a3 a4 a5 a6 n x (nI (sr_rb s + m))) (fun m x => x = nI (sr_pc s i j m)) (sr_ra s + 1 - sr_rb s) 0 (0 : Int32) (by omega) rfl ?_ ?_
  · intro n x hx
    have hx' : x = nI (sr_pt s i j) := hx
    refine ⟨is, br_t ?_ (by rw [hx']; exact h)⟩
    exact (sr_ilt (a := (sr_ra s : Int)) (b := ((sr_rb s + (sr_ra s + 1 - sr_rb s) : Nat) : Int)) (by rw [ia, sr_nI]) (sr_nI _) (by omega)).mpr (by omega)
  · intro n m x hm hx hw
    have hx' : x = nI (sr_pc s i j m) := hx
    have hw' : ∀ x', x' = nI (sr_pc s i j (m + 1)) → wX_patterns_11 post (nI s) (nI i) (nI j) c a1 a2 a3 a4 a5 a6 n x' (nI (sr_rb s + m + 1)) := hw
    have e1 : sr_pc s i j (m + 1) = cond (sr_pb (sr_rb s) (sr_rc s) i j (sr_rb s + m)) (sr_pc s i j m + 1) (sr_pc s i j m) := rfl
    have K := sr_pb_iff (sr_rb s) (sr_rc s) i j (sr_rb s + m)
    have k0 : ¬ (sr_pb (sr_rb s) (sr_rc s) i j (sr_rb s + m) = true) → ∀ y, y = nI (sr_rb s + m) + 1 → wX_patterns_11 post (nI s) (nI i) (nI j) c a1 a2 a3 a4 a5 a6 n x y := fun t =>
      nm_r (nI_1 _) (hw' x (by rw [e1, Bool.eq_false_iff.mpr t, cond_false, hx']))
    have k1 : sr_pb (sr_rb s) (sr_rc s) i j (sr_rb s + m) = true → ∀ y, y = nI (sr_rb s + m) + 1 → wX_patterns_11 post (nI s) (nI i) (nI j) c a1 a2 a3 a4 a5 a6 n (x + 1) y := fun t =>
      nm_r (nI_1 _) (hw' (x + 1) (by rw [e1, t, cond_true, hx', nI_1]))
    rw [K] at k0 k1
    refine ⟨is, br_f (fun t => ?_) (nm_r (e' := sr_iI ((i : Int) + j - (sr_rb s + m : Nat))) (by simp only [sr_nI, sr_ia, sr_is]) ⟨is, ?_⟩)⟩
    · have t' := (sr_ilt (a := (sr_ra s : Int)) (b := ((sr_rb s + m : Nat) : Int)) (by rw [ia, sr_nI]) (sr_nI _) (by omega)).mp t
      omega
    · refine ek_if (sr_ilt (b := (sr_rc s : Int)) rfl (by rw [ic, sr_nI]) (by omega)) (fun t => br_t rfl (k0 (by omega))) (fun t1 => ⟨is, ?_⟩)
      refine ek_if (sr_ilt (a := (sr_rb s : Int)) (by rw [ib, sr_nI]) rfl (by omega)) (fun t => br_t rfl (k0 (by omega))) (fun t2 => ?_)
      refine br_f sr_d10 ?_
      refine ek_if (sr_ilt (sr_nI _) (sr_nI _) (by omega)) (fun t => k0 (by omega)) (fun t3 => ?_)
      exact ek_if (sr_ilt (sr_nI _) rfl (by omega)) (fun t => k0 (by omega)) (fun t4 => nm_e (k1 (by omega)))
def sr_mn (a4 : Nat → Int32) (e i j k : Nat) : Int32 := sr_sm (fun s => if sr_sz s = i + j + k then a4 (60 * e + s) * nI (sr_pt s i j) else 0) 53
theorem sr_monomial (hR : sr_rk a1 a2 a3) {e i j k : Nat} (he : e < 2) (hi : i ≤ 9) (hj : j ≤ 9) (hk : k ≤ 9) (h : post (sr_mn a4 e i j k)) : wpX_monomial post (nI 53, a1, a2, a3, a4, a5, a6) (nI e) (nI i) (nI j) (nI k) := by
  unfold wpX_monomial
  refine sr_badE he (br_t rfl (br_f (nI_pos (by omega)) (br_f (nI_pos (by omega)) (br_f (nI_pos (by omega)) (br_f (nI_nlt (a := 9) hi (by omega)) (br_f (nI_nlt (a := 9) hj (by omega)) (br_t (nI_le (b := 9) hk (by omega)) ?_))))))) rfl
  refine pk_loop (fun n t s => wX_monomial_50 post (nI e) (nI i) (nI j) (nI k) (nI 53) a1 a2 a3 a4 a5 a6 n s (nI t)) (fun t s => s = sr_sm (fun s => if sr_sz s = i + j + k then a4 (60 * e + s) * nI (sr_pt s i j) else 0) t) 53 0 (0 : Int32) (by omega) rfl ?_ ?_
  · intro n s hs
    have hs' : s = sr_mn a4 e i j k := hs
    exact br_t (nI_le (Nat.le_refl 53) (by omega)) (by rw [hs']; exact h)
  · intro n t s ht hs hw
    have zt : sr_sz t ≤ 9 := (sr_bd ht).2.2
    have hs' : s = sr_sm (fun s => if sr_sz s = i + j + k then a4 (60 * e + s) * nI (sr_pt s i j) else 0) t := hs
    have hw' : ∀ s', s' = sr_sm (fun s => if sr_sz s = i + j + k then a4 (60 * e + s) * nI (sr_pt s i j) else 0) t + (if sr_sz t = i + j + k then a4 (60 * e + t) * nI (sr_pt t i j) else 0) → wX_monomial_50 post (nI e) (nI i) (nI j) (nI k) (nI 53) a1 a2 a3 a4 a5 a6 n s' (nI (t + 1)) := hw
    refine br_f (nI_ge (a := t) (b := 53) (by omega) (by omega)) (sr_sizeOf hR ht ?_ rfl)
    refine pk_eq (sr_sz t) (i + j + k) (fun z => ?_) (fun z => ?_) (hy := by rw [nI_add, nI_add])
    · refine sr_patterns hR ht hi hj (sr_get he (by omega) (nm_e (nm_r (nI_1 t) (hw' _ ?_))) rfl rfl)
      rw [if_pos z, hs']
    · refine nm_r (nI_1 t) (hw' _ ?_)
      rw [if_neg z, hs', Int32.add_zero]
def sr_dg (a4 : Nat → Int32) (e : Nat) : Nat → Int32
  | 0 => -4
  | n + 1 => if a4 (60 * e + n) = 0 then sr_dg a4 e n else if nI (sr_sz n) ≤ sr_dg a4 e n then sr_dg a4 e n else nI (sr_sz n)
theorem sr_dg_s (a4 : Nat → Int32) (e n : Nat) : sr_dg a4 e (n + 1) = if a4 (60 * e + n) = 0 then sr_dg a4 e n else if nI (sr_sz n) ≤ sr_dg a4 e n then sr_dg a4 e n else nI (sr_sz n) := rfl
theorem sr_degreeOf {x : Int32} (hR : sr_rk a1 a2 a3) {e : Nat} (he : e < 2) (h : post (sr_dg a4 e 53)) (hx : x = nI e) : wpX_degreeOf post (nI 53, a1, a2, a3, a4, a5, a6) x := by
  subst hx
  refine pk_loop (fun n t s => wX_degreeOf_5 post (nI e) (nI 53) a1 a2 a3 a4 a5 a6 n s (nI t)) (fun t s => s = sr_dg a4 e t) 53 0 (-4 : Int32) (by omega) rfl ?_ ?_
  · intro n s hs
    have hs' : s = sr_dg a4 e 53 := hs
    exact br_t (nI_le (Nat.le_refl 53) (by omega)) (by rw [hs']; exact h)
  · intro n t s ht hs hw
    have hs' : s = sr_dg a4 e t := hs
    have hw' : ∀ s', s' = sr_dg a4 e (t + 1) → wX_degreeOf_5 post (nI e) (nI 53) a1 a2 a3 a4 a5 a6 n s' (nI (t + 1)) := hw
    refine br_f (nI_ge (a := t) (b := 53) (by omega) (by omega)) (sr_sizeOf hR ht (sr_get he (by omega) ?_ rfl rfl) rfl)
    refine br_c (fun z => nm_r (nI_1 t) (hw' _ ?_)) (fun z => br_c (fun z2 => nm_r (nI_1 t) (hw' _ ?_)) (fun z2 => nm_r (nI_1 t) (hw' _ ?_)))
    · rw [sr_dg_s, if_pos z, hs']
    · rw [hs'] at z2
      rw [sr_dg_s, if_neg z, if_pos z2, hs']
    · rw [hs'] at z2
      rw [sr_dg_s, if_neg z, if_neg z2]
theorem sr_dg_f (a4 : Nat → Int32) (e : Nat) {n : Nat} (hn : n ≤ 53) : (sr_dg a4 e n = -4 ∧ ∀ s, s < n → a4 (60 * e + s) = 0) ∨ ∃ k, k ≤ 9 ∧ sr_dg a4 e n = nI k ∧ ∀ s, s < n → ¬ a4 (60 * e + s) = 0 → sr_sz s ≤ k := by
  induction n with
  | zero => exact Or.inl ⟨rfl, fun s hs => absurd hs (by omega)⟩
  | succ n ih =>
    have z : sr_sz n ≤ 9 := (sr_bd (show n < 53 by omega)).2.2
    rcases ih (by omega) with ⟨h1, h2⟩ | ⟨k, hk, h1, h2⟩
    · by_cases e0 : a4 (60 * e + n) = 0
      · refine Or.inl ⟨by rw [sr_dg_s, if_pos e0, h1], fun s hs => ?_⟩
        by_cases es : s = n
        · rw [es]; exact e0
        · exact h2 s (by omega)
      · refine Or.inr ⟨sr_sz n, z, ?_, fun s hs hz => ?_⟩
        · rw [sr_dg_s, if_neg e0, if_neg]
          intro t
          rw [h1] at t
          have t' := (sr_ile (y := (-4 : Int32)) (a := (sr_sz n : Int)) (b := -4) (sr_nI _) (by decide) (by omega)).mp t
          omega
        · by_cases es : s = n
          · rw [es]; exact Nat.le_refl _
          · exact absurd (h2 s (by omega)) hz
    · by_cases e0 : a4 (60 * e + n) = 0
      · refine Or.inr ⟨k, hk, by rw [sr_dg_s, if_pos e0, h1], fun s hs hz => ?_⟩
        by_cases es : s = n
        · rw [es] at hz; exact absurd e0 hz
        · exact h2 s (by omega) hz
      · by_cases e1 : sr_sz n ≤ k
        · refine Or.inr ⟨k, hk, ?_, fun s hs hz => ?_⟩
          · rw [sr_dg_s, if_neg e0, if_pos, h1]
            rw [h1]
            exact nI_le e1 (by omega)
          · by_cases es : s = n
            · rw [es]; exact e1
            · exact h2 s (by omega) hz
        · refine Or.inr ⟨sr_sz n, z, ?_, fun s hs hz => ?_⟩
          · rw [sr_dg_s, if_neg e0, if_neg]
            rw [h1]
            exact nI_ge (by omega) (by omega)
          · by_cases es : s = n
            · rw [es]; exact Nat.le_refl _
            · have := h2 s (by omega) hz
              omega
def sr_in (a4 : Nat → Int32) : Int32 := sr_sm (fun s => a4 (60 * 0 + s) * a4 (60 * 1 + s)) 53
theorem sr_inner (h : post (sr_in a4)) : wpX_inner post (nI 53, a1, a2, a3, a4, a5, a6) := by
  refine pk_loop (fun n t s => wX_inner_4 post (nI 53) a1 a2 a3 a4 a5 a6 n s (nI t)) (fun t s => s = sr_sm (fun s => a4 (60 * 0 + s) * a4 (60 * 1 + s)) t) 53 0 (0 : Int32) (by omega) rfl ?_ ?_
  · intro n s hs
    have hs' : s = sr_in a4 := hs
    exact br_t (nI_le (Nat.le_refl 53) (by omega)) (by rw [hs']; exact h)
  · intro n t s ht hs hw
    have hs' : s = sr_sm (fun s => a4 (60 * 0 + s) * a4 (60 * 1 + s)) t := hs
    have hw' : ∀ s', s' = sr_sm (fun s => a4 (60 * 0 + s) * a4 (60 * 1 + s)) t + a4 (60 * 0 + t) * a4 (60 * 1 + t) → wX_inner_4 post (nI 53) a1 a2 a3 a4 a5 a6 n s' (nI (t + 1)) := hw
    refine br_f (nI_ge (a := t) (b := 53) (by omega) (by omega)) (sr_get (e := 0) (by omega) (show t < 60 by omega) (sr_get (e := 1) (by omega) (show t < 60 by omega) (nm_e (nm_r (nI_1 t) (hw' _ ?_))) rfl rfl) rfl rfl)
    rw [hs']
end
/-- code: some shape of at most that size -/
theorem sr_code {y : Int32} (x : Int32) {m : Nat} (hm : m ≤ 9) (hy : y = nI m) : ∃ s, s < 53 ∧ ∀ post : Int32 → Prop, post (nI (sr_cd s)) → wpL_code post () x y := by
  subst hy
  obtain ⟨k1, h1, e1⟩ := pk_andE x (m := 127) 7 (by decide)
  obtain ⟨k2, h2, e2⟩ := pk_andE (x >>> ((7 : Int32) &&& 31)) (m := 127) 7 (by decide)
  obtain ⟨k3, h3, e3⟩ := pk_andE (x >>> ((14 : Int32) &&& 31)) (m := 127) 7 (by decide)
  have g1 : k1 % (m + 1) < m + 1 := Nat.mod_lt _ (by omega)
  generalize hA : k1 % (m + 1) = A at g1
  have g2 : k2 % (A + 1) < A + 1 := Nat.mod_lt _ (by omega)
  generalize hB : k2 % (A + 1) = B at g2
  have g3 : k3 % (B + 1) < B + 1 := Nat.mod_lt _ (by omega)
  generalize hC : k3 % (B + 1) = C at g3
  have W : ∀ post : Int32 → Prop, (A + B + C ≤ m → post (nI (A + 10 * B + 100 * C))) → (m < A + B + C → post (nI A)) → wpL_code post () x (nI m) := by
    intro post P1 P2
    refine ⟨by rw [nI_1]; exact nI_ne0 (by omega) (by omega), nm_r (e' := nI A) (by rw [e1, nI_1, pk_rem (by omega) (by omega) (by omega), hA]) ⟨by rw [nI_1]; exact nI_ne0 (by omega) (by omega), nm_r (e' := nI B) (by rw [e2, nI_1, pk_rem (by omega) (by omega) (by omega), hB]) ⟨by rw [nI_1]; exact nI_ne0 (by omega) (by omega), nm_r (e' := nI C) (by rw [e3, nI_1, pk_rem (by omega) (by omega) (by omega), hC]) ?_⟩⟩⟩
    refine pk_le (A + B + C) m (fun z => ?_) (fun z => P2 z) (hx := by rw [nI_add, nI_add])
    rw [show (10 : Int32) = nI 10 from rfl, show (100 : Int32) = nI 100 from rfl, pk_mul, pk_mul, nI_add, nI_add]
    exact P1 z
  by_cases e : A + B + C ≤ m
  · obtain ⟨f0, f1, f2, f3⟩ := sr_ex (a := A) (b := B) (c := C) (by omega) (by omega) (by omega)
    refine ⟨sr_fx A B C, f0, fun post hp => W post (fun _ => ?_) (fun z => absurd z (by omega))⟩
    unfold sr_cd at hp
    rw [f1, f2, f3] at hp
    exact hp
  · obtain ⟨f0, f1, f2, f3⟩ := sr_ex (a := A) (b := 0) (c := 0) (by omega) (by omega) (by omega)
    refine ⟨sr_fx A 0 0, f0, fun post hp => W post (fun z => absurd z e) (fun _ => ?_)⟩
    unfold sr_cd at hp
    rw [f1, f2, f3] at hp
    exact hp
end
section
/-! walks of the methods that change a state -/
theorem sr_n2809 {k : Nat} (h : k < 2809) : ¬ nI 53 * nI 53 ≤ nI k := by
  rw [pk_mul]
  exact nI_ge (a := k) (b := 2809) h (by omega)
theorem sr_y2809 : nI 53 * nI 53 ≤ nI 2809 := by
  rw [pk_mul]
  exact nI_le (a := 2809) (b := 2809) (by omega) (by omega)
def sr_cl (k : Nat) (a : Nat → Int32) : Nat → Int32 := fun i => if i < k then 0 else a i
theorem sr_cl_0 (a : Nat → Int32) : a = sr_cl 0 a := by
  funext j
  show a j = if j < 0 then 0 else a j
  rw [if_neg (by omega)]
theorem sr_cl_s (i : Nat) (a : Nat → Int32) : upd (sr_cl i a) i 0 = sr_cl (i + 1) a := by
  funext j
  show (if j = i then 0 else if j < i then 0 else a j) = if j < i + 1 then 0 else a j
  by_cases h1 : j = i
  · rw [if_pos h1, if_pos (by omega)]
  · rw [if_neg h1]
    by_cases h2 : j < i
    · rw [if_pos h2, if_pos (by omega)]
    · rw [if_neg h2, if_neg (by omega)]
/-- the coefficients of e are the first k of what was made -/
def sr_kp (e k : Nat) (a b : Nat → Int32) : Nat → Int32 := fun i => if 60 * e ≤ i ∧ i < 60 * e + k then b (i - 60 * e) else a i
theorem sr_kp_0 (e : Nat) (a b : Nat → Int32) : a = sr_kp e 0 a b := by
  funext j
  show a j = if 60 * e ≤ j ∧ j < 60 * e + 0 then b (j - 60 * e) else a j
  rw [if_neg (by omega)]
theorem sr_kp_s (e k : Nat) (a b : Nat → Int32) : upd (sr_kp e k a b) (60 * e + k) (b k) = sr_kp e (k + 1) a b := by
  funext j
  show (if j = 60 * e + k then b k else if 60 * e ≤ j ∧ j < 60 * e + k then b (j - 60 * e) else a j) = if 60 * e ≤ j ∧ j < 60 * e + (k + 1) then b (j - 60 * e) else a j
  by_cases h1 : j = 60 * e + k
  · rw [if_pos h1, if_pos (by omega), show j - 60 * e = k by omega]
  · rw [if_neg h1]
    by_cases h2 : 60 * e ≤ j ∧ j < 60 * e + k
    · rw [if_pos h2, if_pos (by omega)]
    · rw [if_neg h2, if_neg (by omega)]
theorem sr_kp_c {e : Nat} {a b b' : Nat → Int32} (h : ∀ r, r < 60 → b r = b' r) : sr_kp e 60 a b = sr_kp e 60 a b' := by
  funext j
  show (if 60 * e ≤ j ∧ j < 60 * e + 60 then b (j - 60 * e) else a j) = if 60 * e ≤ j ∧ j < 60 * e + 60 then b' (j - 60 * e) else a j
  by_cases h2 : 60 * e ≤ j ∧ j < 60 * e + 60
  · rw [if_pos h2, if_pos h2, h _ (by omega)]
  · rw [if_neg h2, if_neg h2]
theorem sr_kp_in {e s : Nat} {a b : Nat → Int32} (hs : s < 60) : sr_kp e 60 a b (60 * e + s) = b s := by
  show (if 60 * e ≤ 60 * e + s ∧ 60 * e + s < 60 * e + 60 then b (60 * e + s - 60 * e) else a (60 * e + s)) = b s
  rw [if_pos (by omega), show 60 * e + s - 60 * e = s by omega]
theorem sr_kp_out {e f s : Nat} {a b : Nat → Int32} (he : e ≠ f) (hs : s < 60) : sr_kp e 60 a b (60 * f + s) = a (60 * f + s) := by
  show (if 60 * e ≤ 60 * f + s ∧ 60 * f + s < 60 * e + 60 then b (60 * f + s - 60 * e) else a (60 * f + s)) = a (60 * f + s)
  rw [if_neg (by omega)]
def sr_mu (p q : Nat) (v : Int32) (k : Nat) (a : Nat → Int32) : Nat → Int32 := fun r => if r < k then a r + v * nI (sr_ct p q r) else a r
theorem sr_mu_0 (p q : Nat) (v : Int32) (a : Nat → Int32) : a = sr_mu p q v 0 a := by
  funext j
  show a j = if j < 0 then a j + v * nI (sr_ct p q j) else a j
  rw [if_neg (by omega)]
theorem sr_mu_at (p q : Nat) (v : Int32) (k : Nat) (a : Nat → Int32) : sr_mu p q v k a k = a k := by
  show (if k < k then a k + v * nI (sr_ct p q k) else a k) = a k
  rw [if_neg (by omega)]
theorem sr_mu_s (p q : Nat) (v : Int32) (k : Nat) (a : Nat → Int32) : upd (sr_mu p q v k a) k (a k + v * nI (sr_ct p q k)) = sr_mu p q v (k + 1) a := by
  funext j
  show (if j = k then a k + v * nI (sr_ct p q k) else if j < k then a j + v * nI (sr_ct p q j) else a j) = if j < k + 1 then a j + v * nI (sr_ct p q j) else a j
  by_cases h1 : j = k
  · rw [if_pos h1, if_pos (by omega), h1]
  · rw [if_neg h1]
    by_cases h2 : j < k
    · rw [if_pos h2, if_pos (by omega)]
    · rw [if_neg h2, if_neg (by omega)]
theorem sr_mu_n {p q k : Nat} (v : Int32) (a : Nat → Int32) (h : sr_ct p q k = 0) : sr_mu p q v k a = sr_mu p q v (k + 1) a := by
  funext j
  show (if j < k then a j + v * nI (sr_ct p q j) else a j) = if j < k + 1 then a j + v * nI (sr_ct p q j) else a j
  by_cases h1 : j = k
  · rw [if_neg (by omega), if_pos (by omega), h1, h, nI_0, Int32.mul_zero, Int32.add_zero]
  · by_cases h2 : j < k
    · rw [if_pos h2, if_pos (by omega)]
    · rw [if_neg h2, if_neg (by omega)]
section
variable {post : St1 → Prop} {c : Int32} {a1 a2 a3 a4 a5 a6 : Nat → Int32}
theorem sr_clear (h : post (c, a1, a2, a3, a4, sr_cl 60 a5, a6)) : wpX_clearMade post (c, a1, a2, a3, a4, a5, a6) := by
  refine pk_loop (fun n i s => wX_clearMade_2 post c n (nI i) a1 a2 a3 a4 s a6) (fun i s => s = sr_cl i a5) 60 0 a5 (by omega) (sr_cl_0 a5) ?_ ?_
  · intro n s hs
    have hs' : s = sr_cl 60 a5 := hs
    exact br_t (nI_le (Nat.le_refl 60) (by omega)) (by rw [hs']; exact h)
  · intro n i s hi hs hw
    have hs' : s = sr_cl i a5 := hs
    refine br_f (nI_ge (a := i) (b := 60) (by omega) (by omega)) (⟨pk_in i 60 hi, nm_r (e' := sr_cl (i + 1) a5) ?_ (nm_r (nI_1 i) (hw _ rfl))⟩)
    rw [nI_clamp (by omega), hs', sr_cl_s]
theorem sr_keep {x : Int32} {e : Nat} (he : e < 2) (h : post (c, a1, a2, a3, sr_kp e 60 a4 a5, a5, a6)) (hx : x = nI e) : wpX_keepMade post (c, a1, a2, a3, a4, a5, a6) x := by
  subst hx
  refine pk_loop (fun n i s => wX_keepMade_2 post (nI e) c n (nI i) a1 a2 a3 s a5 a6) (fun i s => s = sr_kp e i a4 a5) 60 0 a4 (by omega) (sr_kp_0 e a4 a5) ?_ ?_
  · intro n s hs
    have hs' : s = sr_kp e 60 a4 a5 := hs
    exact br_t (nI_le (Nat.le_refl 60) (by omega)) (by rw [hs']; exact h)
  · intro n i s hi hs hw
    have hs' : s = sr_kp e i a4 a5 := hs
    refine br_f (nI_ge (a := i) (b := 60) (by omega) (by omega)) (⟨pk_in i 60 hi, by rw [sr_ix]; exact vp_in_nI (by omega) (by omega), nm_r (e' := sr_kp e (i + 1) a4 a5) ?_ (nm_r (nI_1 i) (hw _ rfl))⟩)
    rw [sr_ix, nI_clamp (by omega), nI_clamp (by omega), hs', sr_kp_s]
theorem sr_mult {x y : Int32} (hR : sr_rk a1 a2 a3) {p q : Nat} (hp : p < 53) (hq : q < 53) {v : Int32} (h : post (nI 53, a1, a2, a3, a4, sr_mu p q v 53 a5, a6)) (hx : x = nI p) (hy : y = nI q) :
    wpX_multiply post (nI 53, a1, a2, a3, a4, a5, a6) x y v := by
  subst hx hy
  have zp : sr_sz p ≤ 9 := (sr_bd hp).2.2
  have zq : sr_sz q ≤ 9 := (sr_bd hq).2.2
  unfold wpX_multiply
  refine sr_sizeOf hR hp (sr_sizeOf hR hq (nm_r (nI_add _ _) ?_) rfl) rfl
  refine pk_loop (fun n i s => wX_multiply_16 post (nI p) (nI q) v (nI (sr_sz p + sr_sz q)) (nI 53) n (nI i) a1 a2 a3 a4 s a6) (fun i s => s = sr_mu p q v i a5) 53 0 a5 (by omega) (sr_mu_0 p q v a5) ?_ ?_
  · intro n s hs
    have hs' : s = sr_mu p q v 53 a5 := hs
    exact br_t (nI_le (Nat.le_refl 53) (by omega)) (by rw [hs']; exact h)
  · intro n i s hi hs hw
    have hs' : s = sr_mu p q v i a5 := hs
    have zi : sr_sz i ≤ 9 := (sr_bd hi).2.2
    have hw' : ∀ s', s' = sr_mu p q v (i + 1) a5 → wX_multiply_16 post (nI p) (nI q) v (nI (sr_sz p + sr_sz q)) (nI 53) n (nI (i + 1)) a1 a2 a3 a4 s' a6 := hw
    refine br_f (nI_ge (a := i) (b := 53) (by omega) (by omega)) (sr_sizeOf hR hi ?_ rfl)
    refine pk_eq (sr_sz i) (sr_sz p + sr_sz q) (fun z => ?_) (fun z => ?_)
    · refine sr_countF hR hp hq hi ⟨pk_in i 60 (by omega), pk_in i 60 (by omega), nm_r (e' := sr_mu p q v (i + 1) a5) ?_ (nm_r (nI_1 i) (hw' _ rfl))⟩
      rw [nI_clamp (by omega), hs', sr_mu_at, sr_mu_s]
    · refine nm_r (nI_1 i) (hw' _ ?_)
      rw [hs', sr_mu_n v a5 (sr_ct_0 (fun t => z t.symm))]
end
/-! products of an element with a shape -/
def sr_tm (a4 : Nat → Int32) (e q k : Nat) : Nat → Int32 := fun r => if r < 53 then sr_sm (fun p => a4 (60 * e + p) * nI (sr_ct p q r)) k else 0
def sr_D1 (a4 : Nat → Int32) (e m : Nat) : Prop := sr_dg a4 e 53 < 0 ∨ sr_dg a4 e 53 + nI m ≤ 9
theorem sr_D1_ok {a4 : Nat → Int32} {e m : Nat} (hm : m ≤ 9) (h : sr_D1 a4 e m) {s : Nat} (hs : s < 53) (hz : ¬ a4 (60 * e + s) = 0) : sr_sz s + m ≤ 9 := by
  rcases sr_dg_f a4 e (Nat.le_refl 53) with ⟨h1, h2⟩ | ⟨k, hk, h1, h2⟩
  · exact absurd (h2 s hs) hz
  · have hk2 := h2 s hs hz
    unfold sr_D1 at h
    rw [h1, nI_add] at h
    rcases h with t | t
    · exact absurd t (nI_pos (by omega))
    · have t' := (nI_leI (a := k + m) (b := 9) (by omega) (by omega)).mp t
      omega
section
variable {post : Int32 → St1 → Prop} {c : Int32} {a1 a2 a3 a4 a5 a6 : Nat → Int32}
theorem sr_ts48 (hR : sr_rk a1 a2 a3) {e q : Nat} (he : e < 2) (hq : q < 53) (H : ∀ a5', post 0 (nI 53, a1, a2, a3, sr_kp e 60 a4 (sr_tm a4 e q 53), a5', a6)) :
    wX_timesShape_48 post (nI e) (nI q) (nI 53) a1 a2 a3 a4 a5 a6 := by
  unfold wX_timesShape_48
  refine sr_clear (c := nI 53) (a1 := a1) (a2 := a2) (a3 := a3) (a4 := a4) (a5 := a5) (a6 := a6) ?_
  refine pk_loop (fun n i s => wX_timesShape_55 post (nI e) (nI q) n (nI i) (nI 53) a1 a2 a3 a4 s a6) (fun i s => ∀ r, r < 60 → s r = sr_tm a4 e q i r) 53 0 (sr_cl 60 a5) (by omega) ?_ ?_ ?_
  · intro r hr
    show (if r < 60 then 0 else a5 r) = if r < 53 then sr_sm (fun p => a4 (60 * e + p) * nI (sr_ct p q r)) 0 else 0
    rw [if_pos hr]
    by_cases h : r < 53
    · rw [if_pos h]; rfl
    · rw [if_neg h]
  · intro n s hs
    have hs' : ∀ r, r < 60 → s r = sr_tm a4 e q 53 r := hs
    refine br_t (nI_le (Nat.le_refl 53) (by omega)) (sr_keep he ?_ rfl)
    rw [sr_kp_c hs']
    exact H s
  · intro n i s hi hs hw
    have hs' : ∀ r, r < 60 → s r = sr_tm a4 e q i r := hs
    have hw' : ∀ s', (∀ r, r < 60 → s' r = sr_tm a4 e q (i + 1) r) → wX_timesShape_55 post (nI e) (nI q) n (nI (i + 1)) (nI 53) a1 a2 a3 a4 s' a6 := hw
    refine br_f (nI_ge (a := i) (b := 53) (by omega) (by omega)) (sr_get he (by omega) (br_c (fun z => nm_r (nI_1 i) (hw' _ ?_)) (fun z => sr_mult hR hi hq (nm_r (nI_1 i) (hw' _ ?_)) rfl rfl)) rfl rfl)
    · intro r hr
      rw [hs' r hr]
      show (if r < 53 then sr_sm (fun p => a4 (60 * e + p) * nI (sr_ct p q r)) i else 0) = if r < 53 then sr_sm (fun p => a4 (60 * e + p) * nI (sr_ct p q r)) i + a4 (60 * e + i) * nI (sr_ct i q r) else 0
      rw [z, Int32.zero_mul, Int32.add_zero]
    · intro r hr
      show (if r < 53 then s r + a4 (60 * e + i) * nI (sr_ct i q r) else s r) = if r < 53 then sr_sm (fun p => a4 (60 * e + p) * nI (sr_ct p q r)) i + a4 (60 * e + i) * nI (sr_ct i q r) else 0
      rw [hs' r hr]
      show (if r < 53 then (if r < 53 then sr_sm (fun p => a4 (60 * e + p) * nI (sr_ct p q r)) i else 0) + a4 (60 * e + i) * nI (sr_ct i q r) else (if r < 53 then sr_sm (fun p => a4 (60 * e + p) * nI (sr_ct p q r)) i else 0)) = _
      by_cases h : r < 53
      · rw [if_pos h, if_pos h, if_pos h]
      · rw [if_neg h, if_neg h, if_neg h]
theorem sr_tshape {x y : Int32} (hR : sr_rk a1 a2 a3) {e q : Nat} (he : e < 2) (hq : q < 53) (H : sr_D1 a4 e (sr_sz q) → ∀ a5', post 0 (nI 53, a1, a2, a3, sr_kp e 60 a4 (sr_tm a4 e q 53), a5', a6)) (H2 : ¬ sr_D1 a4 e (sr_sz q) → post (-2) (nI 53, a1, a2, a3, a4, a5, a6)) (hx : x = nI e) (hy : y = nI (sr_cd q)) :
    wpX_timesShape post (nI 53, a1, a2, a3, a4, a5, a6) x y := by
  subst hx hy
  unfold wpX_timesShape
  refine sr_shapeOf hR hq (sr_badE he (br_t rfl (br_t (nI_pos' (by omega)) (sr_degreeOf hR he ?_ rfl))) rfl) rfl
  refine br_c (fun z => sr_ts48 hR he hq (H (Or.inl z))) (fun z => sr_sizeOf hR hq (br_c (fun z2 => sr_ts48 hR he hq (H (Or.inr z2))) (fun z2 => H2 (fun t => ?_))) rfl)
  rcases t with t | t
  · exact z t
  · exact z2 t
/-! skew -/
def sr_sk (a4 : Nat → Int32) (e p k : Nat) : Nat → Int32 := fun i => sr_sm (fun j => if j / 53 = i then a4 (60 * e + j % 53) * nI (sr_ct p (j / 53) (j % 53)) else 0) k
theorem sr_skew {x y : Int32} (hR : sr_rk a1 a2 a3) {e p : Nat} (he : e < 2) (hp : p < 53) (H : ∀ a5', post 0 (nI 53, a1, a2, a3, sr_kp e 60 a4 (sr_sk a4 e p 2809), a5', a6)) (hx : x = nI e) (hy : y = nI (sr_cd p)) :
    wpX_skew post (nI 53, a1, a2, a3, a4, a5, a6) x y := by
  subst hx hy
  unfold wpX_skew
  refine sr_shapeOf hR hp (sr_badE he (br_t rfl (br_t (nI_pos' (by omega)) (sr_clear ?_))) rfl) rfl
  refine pk_loop (fun n k s => wX_skew_27 post (nI e) (nI p) (nI 53) n (nI k) a1 a2 a3 a4 s a6) (fun k s => ∀ i, i < 60 → s i = sr_sk a4 e p k i) 2809 0 (sr_cl 60 a5) (by omega) ?_ ?_ ?_
  · intro r hr
    show (if r < 60 then 0 else a5 r) = 0
    rw [if_pos hr]
  · intro n s hs
    have hs' : ∀ r, r < 60 → s r = sr_sk a4 e p 2809 r := hs
    refine br_t sr_y2809 (sr_keep he ?_ rfl)
    rw [sr_kp_c hs']
    exact H s
  · intro n k s hk hs hw
    have hs' : ∀ r, r < 60 → s r = sr_sk a4 e p k r := hs
    have hw' : ∀ s', (∀ r, r < 60 → s' r = sr_sk a4 e p (k + 1) r) → wX_skew_27 post (nI e) (nI p) (nI 53) n (nI (k + 1)) a1 a2 a3 a4 s' a6 := hw
    have hd : k / 53 < 53 := by omega
    have hm : k % 53 < 53 := by omega
    have n53 : ¬ nI 53 = 0 := nI_ne0 (by omega) (by omega)
    have e1 : ∀ i, sr_sk a4 e p (k + 1) i = sr_sk a4 e p k i + (if k / 53 = i then a4 (60 * e + k % 53) * nI (sr_ct p (k / 53) (k % 53)) else 0) := fun i => rfl
    refine br_f (sr_n2809 (by omega)) (⟨n53, nm_r (pk_div (by omega) (by omega) (by omega)) ⟨n53, nm_r (pk_rem (by omega) (by omega) (by omega)) (sr_get he (by omega) (br_c (fun z => nm_r (nI_1 k) (hw' _ ?_)) (fun z => ⟨pk_in (k / 53) 60 (by omega), sr_countF hR hp hd hm ⟨pk_in (k / 53) 60 (by omega), nm_e (nm_r (nI_1 k) (hw' _ ?_))⟩⟩)) rfl rfl)⟩⟩)
    · intro i hi
      rw [e1, hs' i hi, z, Int32.zero_mul]
      by_cases h : k / 53 = i
      · rw [if_pos h, Int32.add_zero]
      · rw [if_neg h, Int32.add_zero]
    · intro i hi
      rw [e1, nI_clamp (by omega)]
      by_cases h : k / 53 = i
      · rw [if_pos h, ← h, pk_us, hs' (k / 53) (by omega)]
      · rw [if_neg h, pk_un (fun t => h t.symm), hs' i hi, Int32.add_zero]
/-! the product of the two elements -/
def sr_pd (a4 : Nat → Int32) (k : Nat) : Nat → Int32 := fun r => if r < 53 then sr_sm (fun j => a4 (60 * 0 + j / 53) * a4 (60 * 1 + j % 53) * nI (sr_ct (j / 53) (j % 53) r)) k else 0
def sr_D2 (a4 : Nat → Int32) : Prop := sr_dg a4 0 53 < 0 ∨ sr_dg a4 1 53 < 0 ∨ sr_dg a4 0 53 + sr_dg a4 1 53 ≤ 9
theorem sr_D2_ok {a4 : Nat → Int32} (h : sr_D2 a4) {p q : Nat} (hp : p < 53) (hq : q < 53) (zp : ¬ a4 (60 * 0 + p) = 0) (zq : ¬ a4 (60 * 1 + q) = 0) : sr_sz p + sr_sz q ≤ 9 := by
  rcases sr_dg_f a4 0 (Nat.le_refl 53) with ⟨h1, h2⟩ | ⟨k, hk, h1, h2⟩
  · exact absurd (h2 p hp) zp
  · rcases sr_dg_f a4 1 (Nat.le_refl 53) with ⟨h3, h4⟩ | ⟨l, hl, h3, h4⟩
    · exact absurd (h4 q hq) zq
    · have g1 := h2 p hp zp
      have g2 := h4 q hq zq
      unfold sr_D2 at h
      rw [h1, h3, nI_add] at h
      rcases h with t | t | t
      · exact absurd t (nI_pos (by omega))
      · exact absurd t (nI_pos (by omega))
      · have t' := (nI_leI (a := k + l) (b := 9) (by omega) (by omega)).mp t
        omega
theorem sr_pr31 (hR : sr_rk a1 a2 a3) (H : ∀ a5', post 0 (nI 53, a1, a2, a3, sr_kp 0 60 a4 (sr_pd a4 2809), a5', a6)) :
    wX_product_31 post (nI 53) a1 a2 a3 a4 a5 a6 := by
  unfold wX_product_31
  refine sr_clear (c := nI 53) (a1 := a1) (a2 := a2) (a3 := a3) (a4 := a4) (a5 := a5) (a6 := a6) ?_
  refine pk_loop (fun n k s => wX_product_37 post n (nI k) (nI 53) a1 a2 a3 a4 s a6) (fun k s => ∀ r, r < 60 → s r = sr_pd a4 k r) 2809 0 (sr_cl 60 a5) (by omega) ?_ ?_ ?_
  · intro r hr
    show (if r < 60 then 0 else a5 r) = if r < 53 then (0 : Int32) else 0
    rw [if_pos hr]
    by_cases h : r < 53
    · rw [if_pos h]
    · rw [if_neg h]
  · intro n s hs
    have hs' : ∀ r, r < 60 → s r = sr_pd a4 2809 r := hs
    refine br_t sr_y2809 (sr_keep (e := 0) (by omega) ?_ rfl)
    rw [sr_kp_c hs']
    exact H s
  · intro n k s hk hs hw
    have hs' : ∀ r, r < 60 → s r = sr_pd a4 k r := hs
    have hw' : ∀ s', (∀ r, r < 60 → s' r = sr_pd a4 (k + 1) r) → wX_product_37 post n (nI (k + 1)) (nI 53) a1 a2 a3 a4 s' a6 := hw
    have hd : k / 53 < 53 := by omega
    have hm : k % 53 < 53 := by omega
    have n53 : ¬ nI 53 = 0 := nI_ne0 (by omega) (by omega)
    have ed : nI k / nI 53 = nI (k / 53) := pk_div (by omega) (by omega) (by omega)
    have em : nI k - nI k / nI 53 * nI 53 = nI (k % 53) := pk_rem (by omega) (by omega) (by omega)
    have e1 : ∀ r, sr_pd a4 (k + 1) r = if r < 53 then sr_sm (fun j => a4 (60 * 0 + j / 53) * a4 (60 * 1 + j % 53) * nI (sr_ct (j / 53) (j % 53) r)) k + a4 (60 * 0 + k / 53) * a4 (60 * 1 + k % 53) * nI (sr_ct (k / 53) (k % 53) r) else 0 := fun r => rfl
    have e2 : ∀ r, sr_pd a4 k r = if r < 53 then sr_sm (fun j => a4 (60 * 0 + j / 53) * a4 (60 * 1 + j % 53) * nI (sr_ct (j / 53) (j % 53) r)) k else 0 := fun r => rfl
    refine br_f (sr_n2809 (by omega)) (⟨n53, sr_get (e := 0) (i := k / 53) (by omega) (by omega) ⟨n53, sr_get (e := 1) (i := k % 53) (by omega) (by omega) (nm_e (br_c (fun z => nm_r (nI_1 k) (hw' _ ?_)) (fun z => ⟨n53, n53, sr_mult hR hd hm (nm_r (nI_1 k) (hw' _ ?_)) ed em⟩))) rfl em⟩ rfl ed⟩)
    · intro r hr
      rw [e1, hs' r hr, e2, z, Int32.zero_mul, Int32.add_zero]
    · intro r hr
      show (if r < 53 then s r + a4 (60 * 0 + k / 53) * a4 (60 * 1 + k % 53) * nI (sr_ct (k / 53) (k % 53) r) else s r) = _
      rw [e1, hs' r hr, e2]
      by_cases h : r < 53
      · rw [if_pos h, if_pos h, if_pos h]
      · rw [if_neg h, if_neg h, if_neg h]
theorem sr_product (hR : sr_rk a1 a2 a3) (H : sr_D2 a4 → ∀ a5', post 0 (nI 53, a1, a2, a3, sr_kp 0 60 a4 (sr_pd a4 2809), a5', a6)) (H2 : ¬ sr_D2 a4 → post (-2) (nI 53, a1, a2, a3, a4, a5, a6)) :
    wpX_product post (nI 53, a1, a2, a3, a4, a5, a6) := by
  unfold wpX_product
  refine sr_degreeOf (e := 0) hR (by omega) (sr_degreeOf (e := 1) hR (by omega) ?_ rfl) rfl
  refine br_c (fun z => sr_pr31 hR (H (Or.inl z))) (fun z => br_c (fun z2 => sr_pr31 hR (H (Or.inr (Or.inl z2)))) (fun z2 => br_c (fun z3 => sr_pr31 hR (H (Or.inr (Or.inr z3)))) (fun z3 => H2 (fun t => ?_))))
  rcases t with t | t | t
  · exact z t
  · exact z2 t
  · exact z3 t
end
end
section
/-! products with sums of powers -/
def sr_sg : Bool → Int32
  | false => 1
  | true => -1
theorem sr_sg_n (g : Bool) : -sr_sg g = sr_sg (!g) := by cases g <;> decide
def sr_st (u : Nat × Nat × Nat × Bool) : Nat × Nat × Nat × Bool :=
  match u with
  | (a, b, c, g) => cond (Nat.ble b a) (cond (Nat.ble c b) (a, b, c, g) (a, c, b, !g)) (cond (Nat.ble c a) (b, a, c, !g) (b, c, a, !!g))
def sr_so (u : Nat × Nat × Nat × Bool) : Nat → Nat × Nat × Nat × Bool
  | 0 => u
  | n + 1 => sr_st (sr_so u n)
def sr_u (p row r : Nat) : Nat × Nat × Nat × Bool := (sr_ra p + 2 + cond (Nat.beq row 0) r 0, sr_rb p + 1 + cond (Nat.beq row 1) r 0, sr_rc p + cond (Nat.beq row 2) r 0, false)
def sr_w (p row r : Nat) : Nat × Nat × Nat × Bool := sr_so (sr_u p row r) 3
def sr_tg (w : Nat × Nat × Nat × Bool) : Nat :=
  match w with
  | (a, b, c, _) => cond (Nat.beq a b || Nat.beq b c) 1000 (sr_fx (a - 2) (b - 1) c)
def sr_okw (w : Nat × Nat × Nat × Bool) : Bool :=
  match w with
  | (a, b, c, _) => Nat.beq a b || (Nat.beq b c || (Nat.ble 2 a && (Nat.ble 1 b && (Nat.ble (sr_fx (a - 2) (b - 1) c) 52 && (Nat.beq (sr_ra (sr_fx (a - 2) (b - 1) c)) (a - 2) && (Nat.beq (sr_rb (sr_fx (a - 2) (b - 1) c)) (b - 1) && Nat.beq (sr_rc (sr_fx (a - 2) (b - 1) c)) c))))))
theorem sr_shc : sr_all (fun p => sr_all (fun row => sr_all (fun r => cond (Nat.ble (sr_sz p + (r + 1)) 9) (sr_okw (sr_w p row (r + 1))) true) 4) 3) 53 = true := by decide +kernel
theorem sr_sh_ok {p row r : Nat} (hp : p < 53) (hw : row < 3) (h1 : 1 ≤ r) (h4 : r ≤ 4) (h : sr_sz p + r ≤ 9) : sr_okw (sr_w p row r) = true := by
  have t := sr_all_at (sr_all_at (sr_all_at sr_shc p hp) row hw) (r - 1) (by omega)
  have e : r - 1 + 1 = r := by omega
  have e2 : Nat.ble (sr_sz p + r) 9 = true := by rw [Nat.ble_eq]; exact h
  simp only [e, e2, cond_true] at t
  exact t
def sr_sc (p row r i : Nat) : Int32 := if sr_tg (sr_w p row r) = i then sr_sg (sr_w p row r).2.2.2 else 0
section
variable {post : St1 → Prop} {c : Int32} {a1 a2 a3 a4 a5 a6 : Nat → Int32}
theorem sr_s66 (hR : sr_rk a1 a2 a3) (v : Int32) {u : Nat × Nat × Nat × Bool} (hu : u.1 ≤ 30 ∧ u.2.1 ≤ 30 ∧ u.2.2.1 ≤ 30) (ok : sr_okw (sr_so u 3) = true) (hg : u.2.2.2 = false)
    (H : ∀ s, (∀ i, i < 60 → s i = a5 i + (if sr_tg (sr_so u 3) = i then sr_sg (sr_so u 3).2.2.2 else 0) * v) → post (nI 53, a1, a2, a3, a4, s, a6)) :
    ∃ n, wX_shift_66 post v (nI 53) a1 a2 a3 a4 a5 a6 n (nI u.1) (nI u.2.1) (nI u.2.2.1) 1 0 := by
  have h0 : sr_sg u.2.2.2 = 1 := by rw [hg]; rfl
  rw [← h0]
  refine pk_loop (fun n i (s : Nat × Nat × Nat × Bool) => wX_shift_66 post v (nI 53) a1 a2 a3 a4 a5 a6 n (nI s.1) (nI s.2.1) (nI s.2.2.1) (sr_sg s.2.2.2) (nI i)) (fun i s => s = sr_so u i ∧ s.1 ≤ 30 ∧ s.2.1 ≤ 30 ∧ s.2.2.1 ≤ 30) 3 0 u (by omega) ⟨rfl, hu⟩ ?_ ?_
  · rintro n s ⟨hs, b1, b2, b3⟩
    rw [← hs] at ok H
    obtain ⟨a, b, d, g⟩ := s
    have b1' : a ≤ 30 := b1
    have b2' : b ≤ 30 := b2
    have b3' : d ≤ 30 := b3
    have H' : ∀ s, (∀ i, i < 60 → s i = a5 i + (if cond (Nat.beq a b || Nat.beq b d) 1000 (sr_fx (a - 2) (b - 1) d) = i then sr_sg g else 0) * v) → post (nI 53, a1, a2, a3, a4, s, a6) := H
    have ok' : (Nat.beq a b || (Nat.beq b d || (Nat.ble 2 a && (Nat.ble 1 b && (Nat.ble (sr_fx (a - 2) (b - 1) d) 52 && (Nat.beq (sr_ra (sr_fx (a - 2) (b - 1) d)) (a - 2) && (Nat.beq (sr_rb (sr_fx (a - 2) (b - 1) d)) (b - 1) && Nat.beq (sr_rc (sr_fx (a - 2) (b - 1) d)) d))))))) = true := ok
    have K0 : (Nat.beq a b || Nat.beq b d) = true → post (nI 53, a1, a2, a3, a4, a5, a6) := by
      intro t
      refine H' a5 (fun i hi => ?_)
      rw [t, cond_true, if_neg (by omega), Int32.zero_mul, Int32.add_zero]
    show wX_shift_66 post v (nI 53) a1 a2 a3 a4 a5 a6 (n + 1) (nI a) (nI b) (nI d) (sr_sg g) (nI 3)
    refine br_t (nI_le (Nat.le_refl 3) (by omega)) ?_
    refine pk_eq a b (fun z => K0 (by rw [z, Nat.beq_refl, Bool.true_or])) (fun z1 => ?_)
    refine pk_eq b d (fun z => K0 (by rw [z, Nat.beq_refl, Bool.or_true])) (fun z2 => ?_)
    have f1 : Nat.beq a b = false := Bool.eq_false_iff.mpr (fun t => z1 (Nat.eq_of_beq_eq_true t))
    have f2 : Nat.beq b d = false := Bool.eq_false_iff.mpr (fun t => z2 (Nat.eq_of_beq_eq_true t))
    simp only [f1, f2, Bool.false_or, Bool.and_eq_true, Nat.ble_eq, Nat.beq_eq, cond_false] at ok' H'
    obtain ⟨o1, o2, o3, o4, o5, o6⟩ := ok'
    generalize sr_fx (a - 2) (b - 1) d = t at *
    refine sr_find hR (s := t) (by omega) (br_f (nI_pos (by omega)) ⟨pk_in t 60 (by omega), pk_in t 60 (by omega), nm_e (H' _ ?_)⟩) (by rw [o4]; exact pk_sub (a := a) (b := 2) o1) (by rw [o5]; exact pk_sub (a := b) (b := 1) o2) (by rw [o6])
    intro i hi
    rw [nI_clamp (by omega)]
    by_cases e : t = i
    · rw [if_pos e, e, pk_us]
    · rw [if_neg e, pk_un (fun h => e h.symm), Int32.zero_mul, Int32.add_zero]
  · rintro n i s hi ⟨hs, b1, b2, b3⟩ hw
    have hw' : ∀ s' : Nat × Nat × Nat × Bool, (s' = sr_st (sr_so u i) ∧ s'.1 ≤ 30 ∧ s'.2.1 ≤ 30 ∧ s'.2.2.1 ≤ 30) → wX_shift_66 post v (nI 53) a1 a2 a3 a4 a5 a6 n (nI s'.1) (nI s'.2.1) (nI s'.2.2.1) (sr_sg s'.2.2.2) (nI (i + 1)) := hw
    rw [← hs] at hw'
    obtain ⟨a, b, d, g⟩ := s
    have b1' : a ≤ 30 := b1
    have b2' : b ≤ 30 := b2
    have b3' : d ≤ 30 := b3
    have e1 : sr_st (a, b, d, g) = cond (Nat.ble b a) (cond (Nat.ble d b) (a, b, d, g) (a, d, b, !g)) (cond (Nat.ble d a) (b, a, d, !g) (b, d, a, !!g)) := rfl
    have tt : ∀ x y : Nat, x ≤ y → Nat.ble x y = true := fun x y h => by rw [Nat.ble_eq]; exact h
    have ff : ∀ x y : Nat, y < x → Nat.ble x y = false := fun x y h => Bool.eq_false_iff.mpr (fun t => by rw [Nat.ble_eq] at t; omega)
    show wX_shift_66 post v (nI 53) a1 a2 a3 a4 a5 a6 (n + 1) (nI a) (nI b) (nI d) (sr_sg g) (nI i)
    refine br_f (nI_ge (a := i) (b := 3) (by omega) (by omega)) ?_
    refine pk_le b a (fun z => ?_) (fun z => nm_r (sr_sg_n g) ?_)
    · refine pk_le d b (fun z2 => nm_r (nI_1 i) ?_) (fun z2 => nm_r (sr_sg_n g) (nm_r (nI_1 i) ?_))
      · exact hw' (a, b, d, g) ⟨by rw [e1, tt b a z, tt d b z2, cond_true, cond_true], b1', b2', b3'⟩
      · exact hw' (a, d, b, !g) ⟨by rw [e1, tt b a z, ff d b z2, cond_true, cond_false], b1', b3', b2'⟩
    · refine pk_le d a (fun z2 => nm_r (nI_1 i) ?_) (fun z2 => nm_r (sr_sg_n (!g)) (nm_r (nI_1 i) ?_))
      · exact hw' (b, a, d, !g) ⟨by rw [e1, ff b a z, tt d a z2, cond_true, cond_false], b2', b1', b3'⟩
      · exact hw' (b, d, a, !!g) ⟨by rw [e1, ff b a z, ff d a z2, cond_false, cond_false], b2', b3', b1'⟩
theorem sr_a3 (x y z : Nat) {u w : Int32} (hu : u = nI y) (hw : w = nI z) : nI x + u + w = nI (x + y + z) := by
  subst hu hw
  rw [nI_add, nI_add]
theorem sr_shift (hR : sr_rk a1 a2 a3) {p row r : Nat} (hp : p < 53) (hw : row < 3) (h1 : 1 ≤ r) (h4 : r ≤ 4) (hz : sr_sz p + r ≤ 9) (v : Int32)
    (H : ∀ s, (∀ i, i < 60 → s i = a5 i + sr_sc p row r i * v) → post (nI 53, a1, a2, a3, a4, s, a6)) :
    wpX_shift post (nI 53, a1, a2, a3, a4, a5, a6) (nI p) (nI row) (nI r) v := by
  have b := sr_bd hp
  have ia := sr_rowA hR hp
  have ib := sr_rowB hR hp
  have ic := sr_rowC hR hp
  have ip : vp_in (nI p) 60 := pk_in p 60 (by omega)
  have L : ∃ n, wX_shift_66 post v (nI 53) a1 a2 a3 a4 a5 a6 n (nI (sr_u p row r).1) (nI (sr_u p row r).2.1) (nI (sr_u p row r).2.2.1) 1 0 := by
    refine sr_s66 hR v ?_ (sr_sh_ok hp hw h1 h4 hz) rfl H
    show sr_ra p + 2 + cond (Nat.beq row 0) r 0 ≤ 30 ∧ sr_rb p + 1 + cond (Nat.beq row 1) r 0 ≤ 30 ∧ sr_rc p + cond (Nat.beq row 2) r 0 ≤ 30
    have q : ∀ x : Bool, cond x r 0 ≤ 4 := fun x => by cases x; exact Nat.zero_le _; exact h4
    have q1 := q (Nat.beq row 0)
    have q2 := q (Nat.beq row 1)
    have q3 := q (Nat.beq row 2)
    omega
  refine ⟨ip, ?_⟩
  have c0 : row = 0 ∨ row = 1 ∨ row = 2 := by omega
  rcases c0 with e | e | e
  · subst e
    refine br_t rfl (nm_r (e' := nI (sr_ra p + 2 + r)) (by rw [ia]; exact sr_a3 (sr_ra p) 2 r rfl rfl) ⟨ip, br_f (by decide) (nm_r (e' := nI (sr_rb p + 1 + 0)) (by rw [ib]; exact sr_a3 (sr_rb p) 1 0 rfl rfl) ⟨ip, br_f (by decide) (nm_r (e' := nI (sr_rc p + 0)) (by rw [ic]; exact nI_add _ 0) L)⟩)⟩)
  · subst e
    refine br_f (by decide) (nm_r (e' := nI (sr_ra p + 2 + 0)) (by rw [ia]; exact sr_a3 (sr_ra p) 2 0 rfl rfl) ⟨ip, br_t rfl (nm_r (e' := nI (sr_rb p + 1 + r)) (by rw [ib]; exact sr_a3 (sr_rb p) 1 r rfl rfl) ⟨ip, br_f (by decide) (nm_r (e' := nI (sr_rc p + 0)) (by rw [ic]; exact nI_add _ 0) L)⟩)⟩)
  · subst e
    refine br_f (by decide) (nm_r (e' := nI (sr_ra p + 2 + 0)) (by rw [ia]; exact sr_a3 (sr_ra p) 2 0 rfl rfl) ⟨ip, br_f (by decide) (nm_r (e' := nI (sr_rb p + 1 + 0)) (by rw [ib]; exact sr_a3 (sr_rb p) 1 0 rfl rfl) ⟨ip, br_t rfl (nm_r (e' := nI (sr_rc p + r)) (by rw [ic]; exact nI_add _ r) L)⟩)⟩)
end
def sr_pm (a4 : Nat → Int32) (e r k : Nat) : Nat → Int32 := fun i => sr_sm (fun p => a4 (60 * e + p) * sr_sm (fun row => sr_sc p row r i) 3) k
section
variable {post : Int32 → St1 → Prop} {c : Int32} {a1 a2 a3 a4 a5 a6 : Nat → Int32}
theorem sr_tp42 (hR : sr_rk a1 a2 a3) {e r : Nat} (he : e < 2) (h1 : 1 ≤ r) (h4 : r ≤ 4) (hD : sr_D1 a4 e r) (H : ∀ a5', post 0 (nI 53, a1, a2, a3, sr_kp e 60 a4 (sr_pm a4 e r 53), a5', a6)) :
    wX_timesPower_42 post (nI e) (nI r) (nI 53) a1 a2 a3 a4 a5 a6 := by
  unfold wX_timesPower_42
  refine sr_clear (c := nI 53) (a1 := a1) (a2 := a2) (a3 := a3) (a4 := a4) (a5 := a5) (a6 := a6) ?_
  refine pk_loop (fun n i s => wX_timesPower_49 post (nI e) (nI r) n (nI i) (nI 53) a1 a2 a3 a4 s a6) (fun i s => ∀ j, j < 60 → s j = sr_pm a4 e r i j) 53 0 (sr_cl 60 a5) (by omega) ?_ ?_ ?_
  · intro j hj
    show (if j < 60 then 0 else a5 j) = 0
    rw [if_pos hj]
  · intro n s hs
    have hs' : ∀ j, j < 60 → s j = sr_pm a4 e r 53 j := hs
    refine br_t (nI_le (Nat.le_refl 53) (by omega)) (sr_keep he ?_ rfl)
    rw [sr_kp_c hs']
    exact H s
  · intro n i s hi hs hw
    have hs' : ∀ j, j < 60 → s j = sr_pm a4 e r i j := hs
    have hw' : ∀ s', (∀ j, j < 60 → s' j = sr_pm a4 e r (i + 1) j) → wX_timesPower_49 post (nI e) (nI r) n (nI (i + 1)) (nI 53) a1 a2 a3 a4 s' a6 := hw
    have e1 : ∀ j, sr_pm a4 e r (i + 1) j = sr_pm a4 e r i j + a4 (60 * e + i) * sr_sm (fun row => sr_sc i row r j) 3 := fun j => rfl
    refine br_f (nI_ge (a := i) (b := 53) (by omega) (by omega)) (sr_get he (by omega) ?_ rfl rfl)
    by_cases z : a4 (60 * e + i) = 0
    · refine ⟨1, br_f (nI_ge (a := 0) (b := 3) (by omega) (by omega)) (br_t z (nm_r (nI_1 i) (hw' _ ?_)))⟩
      intro j hj
      rw [e1, z, Int32.zero_mul, Int32.add_zero, hs' j hj]
    · have hz : sr_sz i + r ≤ 9 := sr_D1_ok (by omega) hD hi z
      refine pk_loop (fun m row s' => wX_timesPower_70 post (wX_timesPower_49 post (nI e) (nI r) n) (nI e) (nI r) (nI i) (a4 (60 * e + i)) m (nI row) (nI 53) a1 a2 a3 a4 s' a6) (fun row s' => ∀ j, j < 60 → s' j = s j + sr_sm (fun row => sr_sc i row r j) row * a4 (60 * e + i)) 3 0 s (by omega) ?_ ?_ ?_
      · intro j hj
        show s j = s j + 0 * a4 (60 * e + i)
        rw [Int32.zero_mul, Int32.add_zero]
      · intro m s' ht
        have ht' : ∀ j, j < 60 → s' j = s j + sr_sm (fun row => sr_sc i row r j) 3 * a4 (60 * e + i) := ht
        refine br_t (nI_le (Nat.le_refl 3) (by omega)) (nm_r (nI_1 i) (hw' _ ?_))
        intro j hj
        rw [e1, ht' j hj, hs' j hj, Int32.mul_comm]
      · intro m row s' hrow ht hx
        have ht' : ∀ j, j < 60 → s' j = s j + sr_sm (fun row => sr_sc i row r j) row * a4 (60 * e + i) := ht
        have hx' : ∀ s'', (∀ j, j < 60 → s'' j = s j + (sr_sm (fun row => sr_sc i row r j) row + sr_sc i row r j) * a4 (60 * e + i)) → wX_timesPower_70 post (wX_timesPower_49 post (nI e) (nI r) n) (nI e) (nI r) (nI i) (a4 (60 * e + i)) m (nI (row + 1)) (nI 53) a1 a2 a3 a4 s'' a6 := hx
        refine br_f (nI_ge (a := row) (b := 3) (by omega) (by omega)) (br_f z (sr_shift hR hi hrow h1 h4 hz _ (fun s'' hs'' => nm_r (nI_1 row) (hx' _ ?_))))
        intro j hj
        rw [hs'' j hj, ht' j hj]
        grind
theorem sr_tpower {x y : Int32} (hR : sr_rk a1 a2 a3) {e r : Nat} (he : e < 2) (h1 : 1 ≤ r) (h4 : r ≤ 4) (H : sr_D1 a4 e r → ∀ a5', post 0 (nI 53, a1, a2, a3, sr_kp e 60 a4 (sr_pm a4 e r 53), a5', a6)) (H2 : ¬ sr_D1 a4 e r → post (-2) (nI 53, a1, a2, a3, a4, a5, a6)) (hx : x = nI e) (hy : y = nI r) :
    wpX_timesPower post (nI 53, a1, a2, a3, a4, a5, a6) x y := by
  subst hx hy
  unfold wpX_timesPower
  refine sr_badE he (br_t rfl (br_f (nI_nlt (b := 1) h1 (by omega)) (br_t (nI_le (b := 9) (by omega) (by omega)) (sr_degreeOf hR he ?_ rfl)))) rfl
  refine br_c (fun z => sr_tp42 hR he h1 h4 (Or.inl z) (H (Or.inl z))) (fun z => br_c (fun z2 => sr_tp42 hR he h1 h4 (Or.inr z2) (H (Or.inr z2))) (fun z2 => H2 (fun t => ?_)))
  rcases t with t | t
  · exact z t
  · exact z2 t
end
end
section
/-! values; the constructor; the small changes -/
def sr_pw (x : Int32) : Nat → Int32
  | 0 => 1
  | n + 1 => sr_pw x n * x
def sr_h2 (x y : Int32) : Nat → Int32
  | 0 => 1
  | n + 1 => sr_pw x (n + 1) + y * sr_h2 x y n
def sr_h3 (x y z : Int32) : Nat → Int32
  | 0 => 1
  | n + 1 => sr_h2 x y (n + 1) + z * sr_h3 x y z n
def sr_cz (h : Nat → Int32) (k d : Nat) : Int32 := if k ≤ d then h (d - k) else 0
def sr_V (h : Nat → Int32) (s : Nat) : Int32 :=
  ((h (sr_ra s) * ((h (sr_rb s) * h (sr_rc s)) - (h (sr_rb s + 1) * sr_cz h 1 (sr_rc s)))) - (h (sr_ra s + 1) * ((sr_cz h 1 (sr_rb s) * h (sr_rc s)) - (h (sr_rb s + 1) * sr_cz h 2 (sr_rc s))))) + (h (sr_ra s + 2) * ((sr_cz h 1 (sr_rb s) * sr_cz h 1 (sr_rc s)) - (h (sr_rb s) * sr_cz h 2 (sr_rc s))))
theorem sr_cz_c {f g : Nat → Int32} (h : ∀ d, d < 12 → f d = g d) {k d : Nat} (hd : d < 12) : sr_cz f k d = sr_cz g k d := by
  unfold sr_cz
  by_cases e : k ≤ d
  · rw [if_pos e, if_pos e, h _ (by omega)]
  · rw [if_neg e, if_neg e]
theorem sr_V_c {f g : Nat → Int32} (h : ∀ d, d < 12 → f d = g d) {s : Nat} (hs : s < 53) : sr_V f s = sr_V g s := by
  have b := sr_bd hs
  unfold sr_V
  rw [h (sr_ra s) (by omega), h (sr_ra s + 1) (by omega), h (sr_ra s + 2) (by omega), h (sr_rb s) (by omega), h (sr_rb s + 1) (by omega), h (sr_rc s) (by omega), sr_cz_c h (show sr_rb s < 12 by omega), sr_cz_c h (show sr_rc s < 12 by omega), sr_cz_c h (show sr_rc s < 12 by omega)]
def sr_vl (a4 : Nat → Int32) (e : Nat) (h : Nat → Int32) : Int32 := sr_sm (fun s => a4 (60 * e + s) * sr_V h s) 53
theorem sr_fcs {s f g : Nat → Int32} {v : Int32} {j : Nat} (hj : j + 1 < 12) (h : ∀ d, d < 12 → s d = if d < j + 1 then f d else g d) (hf : f (j + 1) = g (j + 1) + v * f j) :
    ∀ d, d < 12 → upd s (nI (j + 1)).toNatClampNeg (s (nI (j + 1)).toNatClampNeg + v * s (nI (j + 1) - 1).toNatClampNeg) d = if d < j + 1 + 1 then f d else g d := by
  intro d hd
  rw [nI_pred, nI_clamp (by omega), nI_clamp (by omega)]
  by_cases e : d = j + 1
  · rw [e, pk_us, h (j + 1) hj, if_neg (by omega), h j (by omega), if_pos (by omega), if_pos (by omega), hf]
  · rw [pk_un e, h d hd]
    by_cases e2 : d < j + 1
    · rw [if_pos e2, if_pos (by omega)]
    · rw [if_neg e2, if_neg (by omega)]
section
variable {post : St1 → Prop} {c : Int32} {a1 a2 a3 a4 a5 a6 : Nat → Int32}
theorem sr_fc88 {x y z : Int32} {s0 : Nat → Int32} (h0 : ∀ d, d < 12 → s0 d = sr_h2 x y d) (H : ∀ s, (∀ d, d < 12 → s d = sr_h3 x y z d) → post (c, a1, a2, a3, a4, a5, s)) : ∃ n, wX_findComplete_88 post z c n 1 a1 a2 a3 a4 a5 s0 := by
  refine pk_loop (fun n i s => wX_findComplete_88 post z c n (nI i) a1 a2 a3 a4 a5 s) (fun i s => 1 ≤ i ∧ ∀ d, d < 12 → s d = if d < i then sr_h3 x y z d else sr_h2 x y d) 12 1 s0 (by omega) ⟨by omega, ?_⟩ ?_ ?_
  · intro d hd
    rw [h0 d hd]
    by_cases e : d < 1
    · rw [if_pos e, show d = 0 by omega]; rfl
    · rw [if_neg e]
  · rintro n s ⟨_, hs⟩
    refine br_t (nI_le (Nat.le_refl 12) (by omega)) (H s (fun d hd => ?_))
    rw [hs d hd, if_pos hd]
  · rintro n i s hi ⟨h1, hs⟩ hw
    obtain ⟨j, rfl⟩ : ∃ j, i = j + 1 := ⟨i - 1, by omega⟩
    exact br_f (nI_ge (a := (j + 1)) (b := 12) (by omega) (by omega)) (⟨pk_in (j + 1) 12 hi, pk_in j 12 (by omega) (nI_pred j), pk_in (j + 1) 12 hi, nm_e (nm_r (nI_1 (j + 1)) (hw _ ⟨by omega, sr_fcs hi hs rfl⟩))⟩)
theorem sr_fc46 {x y z : Int32} {s0 : Nat → Int32} (h0 : ∀ d, d < 12 → s0 d = sr_pw x d) (H : ∀ s, (∀ d, d < 12 → s d = sr_h3 x y z d) → post (c, a1, a2, a3, a4, a5, s)) : ∃ n, wX_findComplete_46 post y z c n 1 a1 a2 a3 a4 a5 s0 := by
  refine pk_loop (fun n i s => wX_findComplete_46 post y z c n (nI i) a1 a2 a3 a4 a5 s) (fun i s => 1 ≤ i ∧ ∀ d, d < 12 → s d = if d < i then sr_h2 x y d else sr_pw x d) 12 1 s0 (by omega) ⟨by omega, ?_⟩ ?_ ?_
  · intro d hd
    rw [h0 d hd]
    by_cases e : d < 1
    · rw [if_pos e, show d = 0 by omega]; rfl
    · rw [if_neg e]
  · rintro n s ⟨_, hs⟩
    refine br_t (nI_le (Nat.le_refl 12) (by omega)) (sr_fc88 (x := x) (y := y) (fun d hd => ?_) H)
    rw [hs d hd, if_pos hd]
  · rintro n i s hi ⟨h1, hs⟩ hw
    obtain ⟨j, rfl⟩ : ∃ j, i = j + 1 := ⟨i - 1, by omega⟩
    exact br_f (nI_ge (a := (j + 1)) (b := 12) (by omega) (by omega)) (⟨pk_in (j + 1) 12 hi, pk_in j 12 (by omega) (nI_pred j), pk_in (j + 1) 12 hi, nm_e (nm_r (nI_1 (j + 1)) (hw _ ⟨by omega, sr_fcs hi hs rfl⟩))⟩)
theorem sr_findC {x y z : Int32} (H : ∀ s, (∀ d, d < 12 → s d = sr_h3 x y z d) → post (c, a1, a2, a3, a4, a5, s)) : wpX_findComplete post (c, a1, a2, a3, a4, a5, a6) x y z := by
  refine pk_loop (fun n i s => wX_findComplete_3 post x y z c n (nI i) a1 a2 a3 a4 a5 s) (fun i s => ∀ d, d < i → s d = sr_pw x d) 12 0 a6 (by omega) (fun d hd => absurd hd (by omega)) ?_ ?_
  · intro n s hs
    exact br_t (nI_le (Nat.le_refl 12) (by omega)) (sr_fc46 hs H)
  · intro n i s hi hs hw
    have hs' : ∀ d, d < i → s d = sr_pw x d := hs
    have hw' : ∀ s', (∀ d, d < i + 1 → s' d = sr_pw x d) → wX_findComplete_3 post x y z c n (nI (i + 1)) a1 a2 a3 a4 a5 s' := hw
    refine br_f (nI_ge (a := i) (b := 12) (by omega) (by omega)) ?_
    refine pk_eq i 0 (fun e => ⟨pk_in i 12 hi, nm_e (nm_r (nI_1 i) (hw' _ (fun d hd => ?_)))⟩) (fun e => ?_)
    · rw [nI_clamp (by omega), show d = i by omega, pk_us, e]; rfl
    · obtain ⟨j, rfl⟩ : ∃ j, i = j + 1 := ⟨i - 1, by omega⟩
      refine ⟨pk_in j 12 (by omega) (nI_pred j), pk_in (j + 1) 12 hi, nm_e (nm_r (nI_1 (j + 1)) (hw' _ (fun d hd => ?_)))⟩
      rw [nI_pred, nI_clamp (by omega), nI_clamp (by omega)]
      by_cases e2 : d = j + 1
      · rw [e2, pk_us, hs' j (by omega)]; rfl
      · rw [pk_un e2, hs' d (by omega)]
end
section
variable {post : Int32 → Prop} {c : Int32} {a1 a2 a3 a4 a5 a6 : Nat → Int32}
theorem sr_co0 {x : Int32} {d : Nat} (hd : d < 12) (h : post (a6 d)) (hx : x = nI d) : wpX_completeOf post (c, a1, a2, a3, a4, a5, a6) x := by
  subst hx
  exact br_t (nI_pos' (by omega)) ⟨pk_in d 12 hd, by rw [nI_clamp (by omega)]; exact h⟩
theorem sr_cof {x : Int32} {k d : Nat} (hk : k ≤ 9) (hd : d < 12) (h : post (sr_cz a6 k d)) (hx : x = nI d - nI k) : wpX_completeOf post (c, a1, a2, a3, a4, a5, a6) x := by
  unfold sr_cz at h
  by_cases e : k ≤ d
  · rw [if_pos e] at h
    exact sr_co0 (d := d - k) (by omega) h (by rw [hx, pk_sub e])
  · rw [if_neg e] at h
    refine br_f (fun t => ?_) h
    have t' := (sr_ile (a := 0) (b := (d : Int) - k) sr_i0 (by rw [hx]; simp only [sr_nI, sr_is]) (by omega)).mp t
    omega
theorem sr_valueOf (hR : sr_rk a1 a2 a3) {s : Nat} (hs : s < 53) (h : post (sr_V a6 s)) : wpX_valueOf post (c, a1, a2, a3, a4, a5, a6) (nI s) := by
  have b := sr_bd hs
  have is : vp_in (nI s) 60 := pk_in s 60 (by omega)
  exact ⟨is, nm_r (sr_rowA hR hs) ⟨is, nm_r (sr_rowB hR hs) ⟨is, nm_r (sr_rowC hR hs) (sr_co0 (d := sr_ra s) (by omega) (sr_co0 (d := sr_ra s + 1) (by omega) (sr_co0 (d := sr_ra s + 2) (by omega) (sr_cof (k := 1) (d := sr_rb s) (by omega) (by omega) (sr_co0 (d := sr_rb s) (by omega) (sr_co0 (d := sr_rb s + 1) (by omega) (sr_cof (k := 2) (d := sr_rc s) (by omega) (by omega) (sr_cof (k := 1) (d := sr_rc s) (by omega) (by omega) (sr_co0 (d := sr_rc s) (by omega) h rfl) rfl) rfl) (nI_1 _)) rfl) rfl) (nI_add _ 2)) (nI_1 _)) rfl)⟩⟩⟩
end
section
variable {post : Int32 → St1 → Prop} {c : Int32} {a1 a2 a3 a4 a5 a6 : Nat → Int32}
theorem sr_value {w : Int32} (hR : sr_rk a1 a2 a3) {e : Nat} (he : e < 2) (x y z : Int32) (H : ∀ a6', post (sr_vl a4 e (sr_h3 x y z)) (nI 53, a1, a2, a3, a4, a5, a6')) (hw : w = nI e) : wpX_value post (nI 53, a1, a2, a3, a4, a5, a6) w x y z := by
  subst hw
  unfold wpX_value
  refine sr_badE he (br_t rfl (sr_findC (fun h hh => ?_))) rfl
  refine pk_loop (fun n t s => wX_value_24 post (nI e) (nI 53) a1 a2 a3 a4 a5 h n s (nI t)) (fun t s => s = sr_sm (fun s => a4 (60 * e + s) * sr_V (sr_h3 x y z) s) t) 53 0 (0 : Int32) (by omega) rfl ?_ ?_
  · intro n s hs
    have hs' : s = sr_vl a4 e (sr_h3 x y z) := hs
    exact br_t (nI_le (Nat.le_refl 53) (by omega)) (by rw [hs']; exact H h)
  · intro n t s ht hs hw
    have hs' : s = sr_sm (fun s => a4 (60 * e + s) * sr_V (sr_h3 x y z) s) t := hs
    have hw' : ∀ s', s' = sr_sm (fun s => a4 (60 * e + s) * sr_V (sr_h3 x y z) s) t + a4 (60 * e + t) * sr_V (sr_h3 x y z) t → wX_value_24 post (nI e) (nI 53) a1 a2 a3 a4 a5 h n s' (nI (t + 1)) := hw
    refine br_f (nI_ge (a := t) (b := 53) (by omega) (by omega)) (sr_valueOf hR ht (sr_get he (by omega) (nm_e (nm_r (nI_1 t) (hw' _ ?_))) rfl rfl))
    rw [hs', sr_V_c hh ht]
theorem sr_add {x y : Int32} (hR : sr_rk a1 a2 a3) {e s : Nat} (he : e < 2) (hs : s < 53) {v : Int32} (H : post 0 (nI 53, a1, a2, a3, upd a4 (60 * e + s) (a4 (60 * e + s) + v), a5, a6)) (hx : x = nI e) (hy : y = nI (sr_cd s)) :
    wpX_add post (nI 53, a1, a2, a3, a4, a5, a6) x y v := by
  subst hx hy
  have i1 : vp_in ((60 : Int32) * nI e + nI s) 120 := by rw [sr_ix]; exact vp_in_nI (by omega) (by omega)
  unfold wpX_add
  refine sr_shapeOf hR hs (sr_badE he (br_t rfl (br_t (nI_pos' (by omega)) ⟨i1, i1, nm_r (e' := upd a4 (60 * e + s) (a4 (60 * e + s) + v)) ?_ H⟩)) rfl) rfl
  rw [sr_ix, nI_clamp (by omega)]
def sr_cb (v : Int32) (k : Nat) (a : Nat → Int32) : Nat → Int32 := fun i => if i < k then a i + v * a (60 + i) else a i
theorem sr_cb_s {k : Nat} (hk : k < 53) (v : Int32) (a : Nat → Int32) : upd (sr_cb v k a) k (sr_cb v k a k + v * sr_cb v k a (60 + k)) = sr_cb v (k + 1) a := by
  funext j
  show (if j = k then (if k < k then a k + v * a (60 + k) else a k) + v * (if 60 + k < k then a (60 + k) + v * a (60 + (60 + k)) else a (60 + k)) else if j < k then a j + v * a (60 + j) else a j) = if j < k + 1 then a j + v * a (60 + j) else a j
  by_cases h1 : j = k
  · rw [if_pos h1, if_pos (show j < k + 1 by omega), if_neg (show ¬ k < k by omega), if_neg (show ¬ 60 + k < k by omega), h1]
  · rw [if_neg h1]
    by_cases h2 : j < k
    · rw [if_pos h2, if_pos (by omega)]
    · rw [if_neg h2, if_neg (by omega)]
theorem sr_60 (i : Nat) : (60 : Int32) + nI i = nI (60 + i) := nI_add 60 i
theorem sr_combine {v : Int32} (H : ∀ r, post r (nI 53, a1, a2, a3, sr_cb v 53 a4, a5, a6)) : wpX_combine post (nI 53, a1, a2, a3, a4, a5, a6) v := by
  refine pk_loop (fun n i s => wX_combine_2 post v (nI 53) n (nI i) a1 a2 a3 s a5 a6) (fun i s => s = sr_cb v i a4) 53 0 a4 (by omega) ?_ ?_ ?_
  · funext j
    show a4 j = if j < 0 then a4 j + v * a4 (60 + j) else a4 j
    rw [if_neg (by omega)]
  · intro n s hs
    have hs' : s = sr_cb v 53 a4 := hs
    exact br_t (nI_le (Nat.le_refl 53) (by omega)) (by rw [hs']; exact H 0)
  · intro n i s hi hs hw
    have hs' : s = sr_cb v i a4 := hs
    refine br_f (nI_ge (a := i) (b := 53) (by omega) (by omega)) (⟨pk_in i 120 (by omega), pk_in (60 + i) 120 (by omega) (sr_60 i), pk_in i 120 (by omega), nm_r (e' := sr_cb v (i + 1) a4) ?_ (nm_r (nI_1 i) (hw _ rfl))⟩)
    rw [sr_60, nI_clamp (by omega), nI_clamp (by omega), hs', sr_cb_s hi]
def sr_sw (k : Nat) (a : Nat → Int32) : Nat → Int32 := fun i => if i < k then a (60 + i) else if 60 ≤ i ∧ i < 60 + k then a (i - 60) else a i
theorem sr_sw_s {k : Nat} (hk : k < 53) (a : Nat → Int32) : upd (upd (sr_sw k a) k (sr_sw k a (60 + k))) (60 + k) (sr_sw k a k) = sr_sw (k + 1) a := by
  have e1 : sr_sw k a k = a k := by
    show (if k < k then a (60 + k) else if 60 ≤ k ∧ k < 60 + k then a (k - 60) else a k) = a k
    rw [if_neg (by omega), if_neg (by omega)]
  have e2 : sr_sw k a (60 + k) = a (60 + k) := by
    show (if 60 + k < k then a (60 + (60 + k)) else if 60 ≤ 60 + k ∧ 60 + k < 60 + k then a (60 + k - 60) else a (60 + k)) = a (60 + k)
    rw [if_neg (by omega), if_neg (by omega)]
  rw [e1, e2]
  funext j
  show (if j = 60 + k then a k else if j = k then a (60 + k) else if j < k then a (60 + j) else if 60 ≤ j ∧ j < 60 + k then a (j - 60) else a j) = if j < k + 1 then a (60 + j) else if 60 ≤ j ∧ j < 60 + (k + 1) then a (j - 60) else a j
  by_cases h1 : j = 60 + k
  · rw [if_pos h1, if_neg (by omega), if_pos (by omega), show j - 60 = k by omega]
  · rw [if_neg h1]
    by_cases h2 : j = k
    · rw [if_pos h2, if_pos (by omega), h2]
    · rw [if_neg h2]
      by_cases h3 : j < k
      · rw [if_pos h3, if_pos (by omega)]
      · rw [if_neg h3, if_neg (show ¬ j < k + 1 by omega)]
        by_cases h4 : 60 ≤ j ∧ j < 60 + k
        · rw [if_pos h4, if_pos (by omega)]
        · rw [if_neg h4, if_neg (by omega)]
theorem sr_swap (H : ∀ r, post r (nI 53, a1, a2, a3, sr_sw 53 a4, a5, a6)) : wpX_swap post (nI 53, a1, a2, a3, a4, a5, a6) := by
  refine pk_loop (fun n i s => wX_swap_2 post (nI 53) n (nI i) a1 a2 a3 s a5 a6) (fun i s => s = sr_sw i a4) 53 0 a4 (by omega) ?_ ?_ ?_
  · funext j
    show a4 j = if j < 0 then a4 (60 + j) else if 60 ≤ j ∧ j < 60 + 0 then a4 (j - 60) else a4 j
    rw [if_neg (by omega), if_neg (by omega)]
  · intro n s hs
    have hs' : s = sr_sw 53 a4 := hs
    exact br_t (nI_le (Nat.le_refl 53) (by omega)) (by rw [hs']; exact H 0)
  · intro n i s hi hs hw
    have hs' : s = sr_sw i a4 := hs
    have k1 : vp_in (nI i) 120 := pk_in i 120 (by omega)
    have k2 : vp_in ((60 : Int32) + nI i) 120 := pk_in (60 + i) 120 (by omega) (sr_60 i)
    refine br_f (nI_ge (a := i) (b := 53) (by omega) (by omega)) (⟨k1, nm_e ⟨k2, k1, nm_e ⟨k2, nm_r (e' := sr_sw (i + 1) a4) ?_ (nm_r (nI_1 i) (hw _ rfl))⟩⟩⟩)
    rw [sr_60, nI_clamp (by omega), nI_clamp (by omega), hs', sr_sw_s hi]
def sr_pa (e m k : Nat) (a : Nat → Int32) : Nat → Int32 := fun i => if 60 * e ≤ i ∧ i < 60 * e + k ∧ ¬ sr_sz (i - 60 * e) = m then 0 else a i
theorem sr_pa_n {e m k : Nat} (h : ¬ sr_sz k = m) (a : Nat → Int32) : upd (sr_pa e m k a) (60 * e + k) 0 = sr_pa e m (k + 1) a := by
  funext j
  show (if j = 60 * e + k then 0 else if 60 * e ≤ j ∧ j < 60 * e + k ∧ ¬ sr_sz (j - 60 * e) = m then 0 else a j) = if 60 * e ≤ j ∧ j < 60 * e + (k + 1) ∧ ¬ sr_sz (j - 60 * e) = m then 0 else a j
  by_cases h1 : j = 60 * e + k
  · have e1 : j - 60 * e = k := by omega
    rw [if_pos h1, if_pos (by rw [e1]; exact ⟨by omega, by omega, h⟩)]
  · rw [if_neg h1]
    by_cases h2 : 60 * e ≤ j ∧ j < 60 * e + k ∧ ¬ sr_sz (j - 60 * e) = m
    · rw [if_pos h2, if_pos ⟨h2.1, by omega, h2.2.2⟩]
    · rw [if_neg h2, if_neg (fun t => h2 ⟨t.1, by omega, t.2.2⟩)]
theorem sr_pa_y {e m k : Nat} (h : sr_sz k = m) (a : Nat → Int32) : sr_pa e m k a = sr_pa e m (k + 1) a := by
  funext j
  show (if 60 * e ≤ j ∧ j < 60 * e + k ∧ ¬ sr_sz (j - 60 * e) = m then 0 else a j) = if 60 * e ≤ j ∧ j < 60 * e + (k + 1) ∧ ¬ sr_sz (j - 60 * e) = m then 0 else a j
  by_cases h2 : 60 * e ≤ j ∧ j < 60 * e + k ∧ ¬ sr_sz (j - 60 * e) = m
  · rw [if_pos h2, if_pos ⟨h2.1, by omega, h2.2.2⟩]
  · rw [if_neg h2, if_neg]
    intro t
    by_cases h1 : j = 60 * e + k
    · have e1 : j - 60 * e = k := by omega
      rw [e1] at t
      exact t.2.2 h
    · exact h2 ⟨t.1, by omega, t.2.2⟩
theorem sr_uself (f : Nat → Int32) (k : Nat) : upd f k (f k) = f := by
  funext j
  by_cases e : j = k
  · rw [e, pk_us]
  · rw [pk_un e]
theorem sr_part {x y : Int32} (hR : sr_rk a1 a2 a3) {e m : Nat} (he : e < 2) (hm : m ≤ 9) (H : ∀ r, post r (nI 53, a1, a2, a3, sr_pa e m 53 a4, a5, a6)) (hx : x = nI e) (hy : y = nI m) : wpX_part post (nI 53, a1, a2, a3, a4, a5, a6) x y := by
  subst hx hy
  unfold wpX_part
  refine sr_badE he (br_t rfl (br_f (nI_pos (by omega)) (br_t (nI_le (b := 9) hm (by omega)) ?_))) rfl
  refine pk_loop (fun n i s => wX_part_22 post (nI e) (nI m) (nI 53) n (nI i) a1 a2 a3 s a5 a6) (fun i s => s = sr_pa e m i a4) 53 0 a4 (by omega) ?_ ?_ ?_
  · funext j
    show a4 j = if 60 * e ≤ j ∧ j < 60 * e + 0 ∧ ¬ sr_sz (j - 60 * e) = m then 0 else a4 j
    rw [if_neg (fun t => absurd t.2.1 (by omega))]
  · intro n s hs
    have hs' : s = sr_pa e m 53 a4 := hs
    exact br_t (nI_le (Nat.le_refl 53) (by omega)) (by rw [hs']; exact H 0)
  · intro n i s hi hs hw
    have hs' : s = sr_pa e m i a4 := hs
    have zi : sr_sz i ≤ 9 := (sr_bd hi).2.2
    have k1 : vp_in ((60 : Int32) * nI e + nI i) 120 := by rw [sr_ix]; exact vp_in_nI (by omega) (by omega)
    refine br_f (nI_ge (a := i) (b := 53) (by omega) (by omega)) (sr_sizeOf hR hi (pk_eq (sr_sz i) m (fun z => ⟨k1, k1, nm_r (e' := sr_pa e m (i + 1) a4) ?_ (nm_r (nI_1 i) (hw _ rfl))⟩) (fun z => ⟨k1, nm_r (e' := sr_pa e m (i + 1) a4) ?_ (nm_r (nI_1 i) (hw _ rfl))⟩)) rfl)
    · rw [sr_uself, hs', sr_pa_y z]
    · rw [sr_ix, nI_clamp (by omega), hs', sr_pa_n z]
end
/-! the constructor -/
theorem sr_b8 : ∀ d, d < 10 → (nI d).toInt8.toInt32 = nI d := by decide +kernel
theorem sr_cdd {i k : Nat} (hi : i < 53) (h : sr_cd i = k) : sr_ra i = k % 10 ∧ sr_rb i = k / 10 % 10 ∧ sr_rc i = k / 100 := by
  have b := sr_bd hi
  unfold sr_cd at h
  have e0 : k / 10 = sr_rb i + 10 * sr_rc i := by omega
  omega
theorem sr_init {post : St1 → Prop} {mc ms : Nat} (h1 : 6 ≤ mc) (h2 : 372 ≤ ms) (H : ∀ a1 a2 a3, sr_rk a1 a2 a3 → post (nI 53, a1, a2, a3, (fun _ => 0), (fun _ => 0), (fun _ => 0))) : wpX_init post mc ms 0 := by
  refine ⟨by omega, by omega, by omega, by omega, by omega, by omega, by omega, by omega, by omega, by omega, by omega, by omega, ?_⟩
  refine pk_loop (fun n k (s : Int32 × (Nat → Int32) × (Nat → Int32) × (Nat → Int32)) => wX_init_54 post mc ms 6 372 n (nI k) s.1 s.2.1 s.2.2.1 s.2.2.2 (fun _ => 0) (fun _ => 0) (fun _ => 0)) (fun k s => ∃ m, m ≤ 53 ∧ s.1 = nI m ∧ (∀ i, i < m → s.2.1 i = nI (sr_ra i) ∧ s.2.2.1 i = nI (sr_rb i) ∧ s.2.2.2 i = nI (sr_rc i)) ∧ (∀ i, i < m → sr_cd i < k) ∧ (∀ i, m ≤ i → i < 53 → k ≤ sr_cd i)) 1000 0 (0, (fun _ => 0), (fun _ => 0), (fun _ => 0)) (by omega) ⟨0, by omega, rfl, fun i hi => absurd hi (by omega), fun i hi => absurd hi (by omega), fun i _ _ => by omega⟩ ?_ ?_
  · rintro n ⟨x, b1, b2, b3⟩ ⟨m, hm, e1, e2, e3, e4⟩
    have e1' : x = nI m := e1
    have hm' : m = 53 := by
      by_cases e : m = 53
      · exact e
      · have t := e4 m (Nat.le_refl m) (by omega)
        have b := sr_bd (show m < 53 by omega)
        unfold sr_cd at t
        omega
    subst hm'
    show wX_init_54 post mc ms 6 372 (n + 1) (nI 1000) x b1 b2 b3 (fun _ => 0) (fun _ => 0) (fun _ => 0)
    rw [e1']
    exact br_t (nI_le (Nat.le_refl 1000) (by omega)) (H b1 b2 b3 e2)
  · rintro n k ⟨x, b1, b2, b3⟩ hk ⟨m, hm, e1, e2, e3, e4⟩ hw
    have e1' : x = nI m := e1
    have e2' : ∀ i, i < m → b1 i = nI (sr_ra i) ∧ b2 i = nI (sr_rb i) ∧ b3 i = nI (sr_rc i) := e2
    subst e1'
    have NX : (∀ i, i < 53 → ¬ sr_cd i = k) → wX_init_54 post mc ms 6 372 n (nI (k + 1)) (nI m) b1 b2 b3 (fun _ => 0) (fun _ => 0) (fun _ => 0) := by
      intro t
      refine hw (nI m, b1, b2, b3) ⟨m, hm, rfl, e2', fun i hi => ?_, fun i hi h53 => ?_⟩
      · have := e3 i hi
        omega
      · have := e4 i hi h53
        have := t i h53
        omega
    have d1 : nI k - nI k / nI 10 * nI 10 = nI (k % 10) := pk_rem (by omega) (by omega) (by omega)
    have d2 : nI k / nI 10 = nI (k / 10) := pk_div (by omega) (by omega) (by omega)
    have d3 : nI (k / 10) - nI (k / 10) / nI 10 * nI 10 = nI (k / 10 % 10) := pk_rem (by omega) (by omega) (by omega)
    have d4 : nI k / nI 100 = nI (k / 100) := pk_div (by omega) (by omega) (by omega)
    have d3' : (nI k / nI 10) - (nI k / nI 10) / nI 10 * nI 10 = nI (k / 10 % 10) := by rw [d2, d3]
    show wX_init_54 post mc ms 6 372 (n + 1) (nI k) (nI m) b1 b2 b3 (fun _ => 0) (fun _ => 0) (fun _ => 0)
    refine br_f (nI_ge (a := k) (b := 1000) (by omega) (by omega)) (⟨by decide, nm_r (e' := nI (k % 10)) d1 ⟨by decide, by decide, nm_r (e' := nI (k / 10 % 10)) d3' ⟨by decide, nm_r (e' := nI (k / 100)) d4 ?_⟩⟩⟩)
    refine pk_lt (k % 10) (k / 10 % 10) (fun z => nm_r (nI_1 k) (NX (fun i hi t => ?_))) (fun z1 => ?_)
    · have q := sr_cdd hi t
      have b := sr_bd hi
      omega
    refine pk_lt (k / 10 % 10) (k / 100) (fun z => nm_r (nI_1 k) (NX (fun i hi t => ?_))) (fun z2 => ?_)
    · have q := sr_cdd hi t
      have b := sr_bd hi
      omega
    refine pk_lt 9 (k % 10 + k / 10 % 10 + k / 100) (fun z => nm_r (nI_1 k) (NX (fun i hi t => ?_))) (fun z3 => ?_) (hy := by rw [nI_add, nI_add])
    · have q := sr_cdd hi t
      have b := sr_bd hi
      omega
    obtain ⟨f0, f1, f2, f3⟩ := sr_ex z1 z2 z3
    generalize sr_fx (k % 10) (k / 10 % 10) (k / 100) = t at *
    have ct : sr_cd t = k := by
      unfold sr_cd
      rw [f1, f2, f3]
      omega
    have mt : m = t := by
      rcases Nat.lt_trichotomy m t with z | z | z
      · have q1 := e4 m (Nat.le_refl m) (by omega)
        have q2 := sr_mo z f0
        omega
      · exact z
      · have q1 := e3 t z
        omega
    subst mt
    have im : vp_in (nI m) 60 := pk_in m 60 (by omega)
    refine ⟨im, nm_r (e' := upd b1 m (nI (k % 10))) (by rw [nI_clamp (by omega), sr_b8 _ (by omega)]) ⟨im, nm_r (e' := upd b2 m (nI (k / 10 % 10))) (by rw [nI_clamp (by omega), sr_b8 _ (by omega)]) ⟨im, nm_r (e' := upd b3 m (nI (k / 100))) (by rw [nI_clamp (by omega), sr_b8 _ (by omega)]) (nm_r (nI_1 m) (nm_r (nI_1 k) ?_))⟩⟩⟩
    refine hw (nI (m + 1), upd b1 m (nI (k % 10)), upd b2 m (nI (k / 10 % 10)), upd b3 m (nI (k / 100))) ⟨m + 1, by omega, rfl, fun i hi => ?_, fun i hi => ?_, fun i hi h53 => ?_⟩
    · show upd b1 m (nI (k % 10)) i = nI (sr_ra i) ∧ upd b2 m (nI (k / 10 % 10)) i = nI (sr_rb i) ∧ upd b3 m (nI (k / 100)) i = nI (sr_rc i)
      by_cases e : i = m
      · rw [e, pk_us, pk_us, pk_us, f1, f2, f3]
        exact ⟨rfl, rfl, rfl⟩
      · rw [pk_un e, pk_un e, pk_un e]
        exact e2' i (by omega)
    · by_cases e : i = m
      · rw [e, ct]; omega
      · have := e3 i (by omega)
        omega
    · have := sr_mo (i := m) (j := i) (by omega) h53
      omega
end
section
/-! polynomials in three unknowns over the ints, as lists of (exponents, coefficient); the tables were printed by gen06.py -/
def sr_tH : List (List (Nat × Nat × Nat × Nat)) := [
  [(0, 0, 0, 1)],
  [(1, 0, 0, 1)],
  [(2, 0, 0, 1), (0, 1, 0, 4294967295)],
  [(3, 0, 0, 1), (1, 1, 0, 4294967294), (0, 0, 1, 1)],
  [(4, 0, 0, 1), (2, 1, 0, 4294967293), (1, 0, 1, 2), (0, 2, 0, 1)],
  [(5, 0, 0, 1), (3, 1, 0, 4294967292), (2, 0, 1, 3), (1, 2, 0, 3), (0, 1, 1, 4294967294)],
  [(6, 0, 0, 1), (4, 1, 0, 4294967291), (3, 0, 1, 4), (2, 2, 0, 6), (1, 1, 1, 4294967290), (0, 3, 0, 4294967295), (0, 0, 2, 1)],
  [(7, 0, 0, 1), (5, 1, 0, 4294967290), (4, 0, 1, 5), (3, 2, 0, 10), (2, 1, 1, 4294967284), (1, 3, 0, 4294967292), (1, 0, 2, 3), (0, 2, 1, 3)],
  [(8, 0, 0, 1), (6, 1, 0, 4294967289), (5, 0, 1, 6), (4, 2, 0, 15), (3, 1, 1, 4294967276), (2, 3, 0, 4294967286), (2, 0, 2, 6), (1, 2, 1, 12), (0, 4, 0, 1), (0, 1, 2, 4294967293)],
  [(9, 0, 0, 1), (7, 1, 0, 4294967288), (6, 0, 1, 7), (5, 2, 0, 21), (4, 1, 1, 4294967266), (3, 3, 0, 4294967276), (3, 0, 2, 10), (2, 2, 1, 30), (1, 4, 0, 5), (1, 1, 2, 4294967284), (0, 3, 1, 4294967292), (0, 0, 3, 1)],
  [(10, 0, 0, 1), (8, 1, 0, 4294967287), (7, 0, 1, 8), (6, 2, 0, 28), (5, 1, 1, 4294967254), (4, 3, 0, 4294967261), (4, 0, 2, 15), (3, 2, 1, 60), (2, 4, 0, 15), (2, 1, 2, 4294967266), (1, 3, 1, 4294967276), (1, 0, 3, 4), (0, 5, 0, 4294967295), (0, 2, 2, 6)],
  [(11, 0, 0, 1), (9, 1, 0, 4294967286), (8, 0, 1, 9), (7, 2, 0, 36), (6, 1, 1, 4294967240), (5, 3, 0, 4294967240), (5, 0, 2, 21), (4, 2, 1, 105), (3, 4, 0, 35), (3, 1, 2, 4294967236), (2, 3, 1, 4294967236), (2, 0, 3, 10), (1, 5, 0, 4294967290), (1, 2, 2, 30), (0, 4, 1, 5), (0, 1, 3, 4294967292)]]
def sr_tV : List (List (Nat × Nat × Nat × Nat)) := [
  [(0, 0, 0, 1)],
  [(1, 0, 0, 1)],
  [(2, 0, 0, 1), (0, 1, 0, 4294967295)],
  [(3, 0, 0, 1), (1, 1, 0, 4294967294), (0, 0, 1, 1)],
  [(4, 0, 0, 1), (2, 1, 0, 4294967293), (1, 0, 1, 2), (0, 2, 0, 1)],
  [(5, 0, 0, 1), (3, 1, 0, 4294967292), (2, 0, 1, 3), (1, 2, 0, 3), (0, 1, 1, 4294967294)],
  [(6, 0, 0, 1), (4, 1, 0, 4294967291), (3, 0, 1, 4), (2, 2, 0, 6), (1, 1, 1, 4294967290), (0, 3, 0, 4294967295), (0, 0, 2, 1)],
  [(7, 0, 0, 1), (5, 1, 0, 4294967290), (4, 0, 1, 5), (3, 2, 0, 10), (2, 1, 1, 4294967284), (1, 3, 0, 4294967292), (1, 0, 2, 3), (0, 2, 1, 3)],
  [(8, 0, 0, 1), (6, 1, 0, 4294967289), (5, 0, 1, 6), (4, 2, 0, 15), (3, 1, 1, 4294967276), (2, 3, 0, 4294967286), (2, 0, 2, 6), (1, 2, 1, 12), (0, 4, 0, 1), (0, 1, 2, 4294967293)],
  [(9, 0, 0, 1), (7, 1, 0, 4294967288), (6, 0, 1, 7), (5, 2, 0, 21), (4, 1, 1, 4294967266), (3, 3, 0, 4294967276), (3, 0, 2, 10), (2, 2, 1, 30), (1, 4, 0, 5), (1, 1, 2, 4294967284), (0, 3, 1, 4294967292), (0, 0, 3, 1)],
  [(0, 1, 0, 1)],
  [(1, 1, 0, 1), (0, 0, 1, 4294967295)],
  [(2, 1, 0, 1), (1, 0, 1, 4294967295), (0, 2, 0, 4294967295)],
  [(3, 1, 0, 1), (2, 0, 1, 4294967295), (1, 2, 0, 4294967294), (0, 1, 1, 2)],
  [(4, 1, 0, 1), (3, 0, 1, 4294967295), (2, 2, 0, 4294967293), (1, 1, 1, 4), (0, 3, 0, 1), (0, 0, 2, 4294967295)],
  [(5, 1, 0, 1), (4, 0, 1, 4294967295), (3, 2, 0, 4294967292), (2, 1, 1, 6), (1, 3, 0, 3), (1, 0, 2, 4294967294), (0, 2, 1, 4294967293)],
  [(6, 1, 0, 1), (5, 0, 1, 4294967295), (4, 2, 0, 4294967291), (3, 1, 1, 8), (2, 3, 0, 6), (2, 0, 2, 4294967293), (1, 2, 1, 4294967287), (0, 4, 0, 4294967295), (0, 1, 2, 3)],
  [(7, 1, 0, 1), (6, 0, 1, 4294967295), (5, 2, 0, 4294967290), (4, 1, 1, 10), (3, 3, 0, 10), (3, 0, 2, 4294967292), (2, 2, 1, 4294967278), (1, 4, 0, 4294967292), (1, 1, 2, 9), (0, 3, 1, 4), (0, 0, 3, 4294967295)],
  [(1, 0, 1, 4294967295), (0, 2, 0, 1)],
  [(2, 0, 1, 4294967295), (1, 2, 0, 1), (0, 1, 1, 4294967295)],
  [(3, 0, 1, 4294967295), (2, 2, 0, 1), (0, 3, 0, 4294967295)],
  [(4, 0, 1, 4294967295), (3, 2, 0, 1), (2, 1, 1, 1), (1, 3, 0, 4294967294), (1, 0, 2, 4294967295), (0, 2, 1, 2)],
  [(5, 0, 1, 4294967295), (4, 2, 0, 1), (3, 1, 1, 2), (2, 3, 0, 4294967293), (2, 0, 2, 4294967294), (1, 2, 1, 3), (0, 4, 0, 1), (0, 1, 2, 4294967295)],
  [(6, 0, 1, 4294967295), (5, 2, 0, 1), (4, 1, 1, 3), (3, 3, 0, 4294967292), (3, 0, 2, 4294967293), (2, 2, 1, 3), (1, 4, 0, 3), (0, 3, 1, 4294967293)],
  [(1, 1, 1, 4294967294), (0, 3, 0, 1), (0, 0, 2, 1)],
  [(2, 1, 1, 4294967294), (1, 3, 0, 1), (1, 0, 2, 2), (0, 2, 1, 4294967295)],
  [(3, 1, 1, 4294967294), (2, 3, 0, 1), (2, 0, 2, 2), (1, 2, 1, 1), (0, 4, 0, 4294967295), (0, 1, 2, 4294967295)],
  [(4, 1, 1, 4294967294), (3, 3, 0, 1), (3, 0, 2, 2), (2, 2, 1, 3), (1, 4, 0, 4294967294), (1, 1, 2, 4294967291), (0, 3, 1, 2), (0, 0, 3, 1)],
  [(2, 0, 2, 1), (1, 2, 1, 4294967293), (0, 4, 0, 1), (0, 1, 2, 2)],
  [(3, 0, 2, 1), (2, 2, 1, 4294967293), (1, 4, 0, 1), (1, 1, 2, 4), (0, 3, 1, 4294967295), (0, 0, 3, 4294967295)],
  [(0, 0, 1, 1)],
  [(1, 0, 1, 1)],
  [(2, 0, 1, 1), (0, 1, 1, 4294967295)],
  [(3, 0, 1, 1), (1, 1, 1, 4294967294), (0, 0, 2, 1)],
  [(4, 0, 1, 1), (2, 1, 1, 4294967293), (1, 0, 2, 2), (0, 2, 1, 1)],
  [(5, 0, 1, 1), (3, 1, 1, 4294967292), (2, 0, 2, 3), (1, 2, 1, 3), (0, 1, 2, 4294967294)],
  [(6, 0, 1, 1), (4, 1, 1, 4294967291), (3, 0, 2, 4), (2, 2, 1, 6), (1, 1, 2, 4294967290), (0, 3, 1, 4294967295), (0, 0, 3, 1)],
  [(0, 1, 1, 1)],
  [(1, 1, 1, 1), (0, 0, 2, 4294967295)],
  [(2, 1, 1, 1), (1, 0, 2, 4294967295), (0, 2, 1, 4294967295)],
  [(3, 1, 1, 1), (2, 0, 2, 4294967295), (1, 2, 1, 4294967294), (0, 1, 2, 2)],
  [(4, 1, 1, 1), (3, 0, 2, 4294967295), (2, 2, 1, 4294967293), (1, 1, 2, 4), (0, 3, 1, 1), (0, 0, 3, 4294967295)],
  [(1, 0, 2, 4294967295), (0, 2, 1, 1)],
  [(2, 0, 2, 4294967295), (1, 2, 1, 1), (0, 1, 2, 4294967295)],
  [(3, 0, 2, 4294967295), (2, 2, 1, 1), (0, 3, 1, 4294967295)],
  [(1, 1, 2, 4294967294), (0, 3, 1, 1), (0, 0, 3, 1)],
  [(0, 0, 2, 1)],
  [(1, 0, 2, 1)],
  [(2, 0, 2, 1), (0, 1, 2, 4294967295)],
  [(3, 0, 2, 1), (1, 1, 2, 4294967294), (0, 0, 3, 1)],
  [(0, 1, 2, 1)],
  [(1, 1, 2, 1), (0, 0, 3, 4294967295)],
  [(0, 0, 3, 1)]]
theorem sr_pw_a (x : Int32) (m n : Nat) : sr_pw x (m + n) = sr_pw x m * sr_pw x n := by
  induction n with
  | zero => show sr_pw x m = sr_pw x m * 1; rw [Int32.mul_one]
  | succ n ih => show sr_pw x (m + n) * x = sr_pw x m * (sr_pw x n * x); rw [ih, Int32.mul_assoc]
def sr_qm (x y z : Int32) (i j k c : Nat) : Int32 := nI c * (sr_pw x i * sr_pw y j * sr_pw z k)
def sr_qe (x y z : Int32) : List (Nat × Nat × Nat × Nat) → Int32
  | [] => 0
  | (i, j, k, c) :: l => sr_qm x y z i j k c + sr_qe x y z l
def sr_qt (i j k c : Nat) : List (Nat × Nat × Nat × Nat) → List (Nat × Nat × Nat × Nat)
  | [] => []
  | (i', j', k', c') :: l => (i + i', j + j', k + k', c * c') :: sr_qt i j k c l
def sr_qa : List (Nat × Nat × Nat × Nat) → List (Nat × Nat × Nat × Nat) → List (Nat × Nat × Nat × Nat)
  | [], q => q
  | m :: l, q => m :: sr_qa l q
def sr_qp : List (Nat × Nat × Nat × Nat) → List (Nat × Nat × Nat × Nat) → List (Nat × Nat × Nat × Nat)
  | [], _ => []
  | (i, j, k, c) :: l, q => sr_qa (sr_qt i j k c q) (sr_qp l q)
def sr_qi (i j k c : Nat) : List (Nat × Nat × Nat × Nat) → List (Nat × Nat × Nat × Nat)
  | [] => [(i, j, k, c)]
  | (i', j', k', c') :: l => cond (Nat.beq i i' && (Nat.beq j j' && Nat.beq k k')) ((i', j', k', c + c') :: l) ((i', j', k', c') :: sr_qi i j k c l)
def sr_qc : List (Nat × Nat × Nat × Nat) → List (Nat × Nat × Nat × Nat)
  | [] => []
  | (i, j, k, c) :: l => sr_qi i j k c (sr_qc l)
def sr_qz : List (Nat × Nat × Nat × Nat) → Bool
  | [] => true
  | (_, _, _, c) :: l => Nat.beq (Nat.mod c 4294967296) 0 && sr_qz l
def sr_qn (l : List (Nat × Nat × Nat × Nat)) : List (Nat × Nat × Nat × Nat) := sr_qt 0 0 0 4294967295 l
def sr_nt : List (List (Nat × Nat × Nat × Nat)) → Nat → List (Nat × Nat × Nat × Nat)
  | [], _ => []
  | a :: _, 0 => a
  | _ :: l, n + 1 => sr_nt l n
section
variable {x y z : Int32}
theorem sr_qt_e (i j k c : Nat) (l : List (Nat × Nat × Nat × Nat)) : sr_qe x y z (sr_qt i j k c l) = sr_qm x y z i j k c * sr_qe x y z l := by
  induction l with
  | nil => exact Int32.mul_zero.symm
  | cons m l ih =>
    obtain ⟨i', j', k', c'⟩ := m
    show sr_qm x y z (i + i') (j + j') (k + k') (c * c') + sr_qe x y z (sr_qt i j k c l) = sr_qm x y z i j k c * (sr_qm x y z i' j' k' c' + sr_qe x y z l)
    rw [ih]
    unfold sr_qm
    rw [sr_pw_a, sr_pw_a, sr_pw_a, ← pk_mul]
    grind
theorem sr_qa_e (l q : List (Nat × Nat × Nat × Nat)) : sr_qe x y z (sr_qa l q) = sr_qe x y z l + sr_qe x y z q := by
  induction l with
  | nil => exact (Int32.zero_add _).symm
  | cons m l ih =>
    obtain ⟨i, j, k, c⟩ := m
    show sr_qm x y z i j k c + sr_qe x y z (sr_qa l q) = sr_qm x y z i j k c + sr_qe x y z l + sr_qe x y z q
    rw [ih, Int32.add_assoc]
theorem sr_qp_e (l q : List (Nat × Nat × Nat × Nat)) : sr_qe x y z (sr_qp l q) = sr_qe x y z l * sr_qe x y z q := by
  induction l with
  | nil => exact Int32.zero_mul.symm
  | cons m l ih =>
    obtain ⟨i, j, k, c⟩ := m
    show sr_qe x y z (sr_qa (sr_qt i j k c q) (sr_qp l q)) = (sr_qm x y z i j k c + sr_qe x y z l) * sr_qe x y z q
    rw [sr_qa_e, sr_qt_e, ih]
    grind
theorem sr_qi_e (i j k c : Nat) (l : List (Nat × Nat × Nat × Nat)) : sr_qe x y z (sr_qi i j k c l) = sr_qm x y z i j k c + sr_qe x y z l := by
  induction l with
  | nil => rfl
  | cons m l ih =>
    obtain ⟨i', j', k', c'⟩ := m
    show sr_qe x y z (cond (Nat.beq i i' && (Nat.beq j j' && Nat.beq k k')) ((i', j', k', c + c') :: l) ((i', j', k', c') :: sr_qi i j k c l)) = sr_qm x y z i j k c + (sr_qm x y z i' j' k' c' + sr_qe x y z l)
    cases hb : (Nat.beq i i' && (Nat.beq j j' && Nat.beq k k')) with
    | true =>
      simp only [Bool.and_eq_true, Nat.beq_eq] at hb
      obtain ⟨e1, e2, e3⟩ := hb
      subst e1 e2 e3
      show sr_qm x y z i j k (c + c') + sr_qe x y z l = _
      unfold sr_qm
      rw [← nI_add]
      grind
    | false =>
      show sr_qm x y z i' j' k' c' + sr_qe x y z (sr_qi i j k c l) = _
      rw [ih]
      grind
theorem sr_qc_e (l : List (Nat × Nat × Nat × Nat)) : sr_qe x y z (sr_qc l) = sr_qe x y z l := by
  induction l with
  | nil => rfl
  | cons m l ih =>
    obtain ⟨i, j, k, c⟩ := m
    show sr_qe x y z (sr_qi i j k c (sr_qc l)) = sr_qm x y z i j k c + sr_qe x y z l
    rw [sr_qi_e, ih]
theorem sr_qz_n {c : Nat} (h : c % 4294967296 = 0) : nI c = 0 := by
  have e : c = 4294967296 * (c / 4294967296) := by omega
  rw [e, ← pk_mul, show nI 4294967296 = 0 from rfl, Int32.zero_mul]
theorem sr_qz_e (l : List (Nat × Nat × Nat × Nat)) (h : sr_qz l = true) : sr_qe x y z l = 0 := by
  induction l with
  | nil => rfl
  | cons m l ih =>
    obtain ⟨i, j, k, c⟩ := m
    have h' : (Nat.beq (Nat.mod c 4294967296) 0 && sr_qz l) = true := h
    rw [Bool.and_eq_true, Nat.beq_eq] at h'
    show nI c * (sr_pw x i * sr_pw y j * sr_pw z k) + sr_qe x y z l = 0
    rw [sr_qz_n h'.1, ih h'.2, Int32.zero_mul]
    rfl
theorem sr_qn1 : nI 4294967295 = -1 := by decide
theorem sr_qm0 (c : Nat) : sr_qm x y z 0 0 0 c = nI c := by
  show nI c * (1 * 1 * 1) = nI c
  rw [Int32.mul_one, Int32.mul_one, Int32.mul_one]
theorem sr_qn_e (l : List (Nat × Nat × Nat × Nat)) : sr_qe x y z (sr_qn l) = -sr_qe x y z l := by
  unfold sr_qn
  rw [sr_qt_e, sr_qm0, sr_qn1]
  grind
end
def sr_hp (d : Nat) : List (Nat × Nat × Nat × Nat) := sr_nt sr_tH d
def sr_vp (s : Nat) : List (Nat × Nat × Nat × Nat) := sr_nt sr_tV s
theorem sr_qhc : sr_all (fun d => sr_qz (sr_qc (sr_qa (sr_hp (d + 3)) (sr_qa (sr_qt 1 0 0 4294967295 (sr_hp (d + 2))) (sr_qa (sr_qt 0 1 0 1 (sr_hp (d + 1))) (sr_qt 0 0 1 4294967295 (sr_hp d))))))) 9 = true := by decide +kernel
def sr_zp (k d : Nat) : List (Nat × Nat × Nat × Nat) := cond (Nat.ble k d) (sr_hp (d - k)) []
def sr_jt (a b c : Nat) : List (Nat × Nat × Nat × Nat) :=
  sr_qa (sr_qp (sr_hp a) (sr_qc (sr_qa (sr_qp (sr_hp b) (sr_hp c)) (sr_qn (sr_qp (sr_hp (b + 1)) (sr_zp 1 c)))))) (sr_qa (sr_qn (sr_qp (sr_hp (a + 1)) (sr_qc (sr_qa (sr_qp (sr_zp 1 b) (sr_hp c)) (sr_qn (sr_qp (sr_hp (b + 1)) (sr_zp 2 c))))))) (sr_qp (sr_hp (a + 2)) (sr_qc (sr_qa (sr_qp (sr_zp 1 b) (sr_zp 1 c)) (sr_qn (sr_qp (sr_hp b) (sr_zp 2 c)))))))
theorem sr_jtc : sr_all (fun s => sr_qz (sr_qc (sr_qa (sr_jt (sr_ra s) (sr_rb s) (sr_rc s)) (sr_qn (sr_vp s))))) 53 = true := by decide +kernel
def sr_ls (p q : Nat) : Nat → List (Nat × Nat × Nat × Nat)
  | 0 => []
  | r + 1 => cond (Nat.beq (sr_sz p + sr_sz q) (sr_sz r)) (cond (Nat.beq (sr_ct p q r) 0) (sr_ls p q r) (sr_qa (sr_qt 0 0 0 (sr_ct p q r * 4294967295) (sr_vp r)) (sr_ls p q r))) (sr_ls p q r)
theorem sr_lrc : sr_all (fun p => sr_all (fun q => cond (Nat.ble (sr_sz p + sr_sz q) 9) (sr_qz (sr_qc (sr_qa (sr_qp (sr_vp p) (sr_vp q)) (sr_ls p q 53)))) true) 53) 53 = true := by decide +kernel
section
variable {x y z : Int32}
theorem sr_ls_e (p q n : Nat) : sr_qe x y z (sr_ls p q n) = -sr_sm (fun r => nI (sr_ct p q r) * sr_qe x y z (sr_vp r)) n := by
  induction n with
  | zero => exact (by decide : (0 : Int32) = -0)
  | succ n ih =>
    show sr_qe x y z (cond (Nat.beq (sr_sz p + sr_sz q) (sr_sz n)) (cond (Nat.beq (sr_ct p q n) 0) (sr_ls p q n) (sr_qa (sr_qt 0 0 0 (sr_ct p q n * 4294967295) (sr_vp n)) (sr_ls p q n))) (sr_ls p q n)) = _
    rw [sr_sm_s]
    have Z : sr_ct p q n = 0 → sr_qe x y z (sr_ls p q n) = -(sr_sm (fun r => nI (sr_ct p q r) * sr_qe x y z (sr_vp r)) n + nI (sr_ct p q n) * sr_qe x y z (sr_vp n)) := by
      intro t
      rw [t, nI_0, Int32.zero_mul, Int32.add_zero, ih]
    cases h1 : Nat.beq (sr_sz p + sr_sz q) (sr_sz n) with
    | false =>
      refine Z (sr_ct_0 (fun t => ?_))
      rw [t, Nat.beq_refl] at h1
      exact absurd h1 (by decide)
    | true =>
      show sr_qe x y z (cond (Nat.beq (sr_ct p q n) 0) (sr_ls p q n) (sr_qa (sr_qt 0 0 0 (sr_ct p q n * 4294967295) (sr_vp n)) (sr_ls p q n))) = _
      cases h2 : Nat.beq (sr_ct p q n) 0 with
      | true => exact Z (Nat.eq_of_beq_eq_true h2)
      | false =>
        show sr_qe x y z (sr_qa (sr_qt 0 0 0 (sr_ct p q n * 4294967295) (sr_vp n)) (sr_ls p q n)) = _
        rw [sr_qa_e, sr_qt_e, sr_qm0, ih, ← pk_mul, sr_qn1]
        grind
/-- the rule of Littlewood and Richardson -/
theorem sr_lr {p q : Nat} (hp : p < 53) (hq : q < 53) (h : sr_sz p + sr_sz q ≤ 9) : sr_qe x y z (sr_vp p) * sr_qe x y z (sr_vp q) = sr_sm (fun r => nI (sr_ct p q r) * sr_qe x y z (sr_vp r)) 53 := by
  have t := sr_all_at (sr_all_at sr_lrc p hp) q hq
  have e : Nat.ble (sr_sz p + sr_sz q) 9 = true := by rw [Nat.ble_eq]; exact h
  simp only [e, cond_true] at t
  have t2 := sr_qz_e (x := x) (y := y) (z := z) _ t
  rw [sr_qc_e, sr_qa_e, sr_qp_e, sr_ls_e] at t2
  grind
theorem sr_qh {h : Nat → Int32} (h0 : h 0 = 1) (h1 : h 1 = x) (h2 : h 2 = x * x - y) (h3 : ∀ d, h (d + 3) = x * h (d + 2) - y * h (d + 1) + z * h d) : ∀ d, d < 12 → h d = sr_qe x y z (sr_hp d) := by
  have K : ∀ n, n ≤ 9 → h n = sr_qe x y z (sr_hp n) ∧ h (n + 1) = sr_qe x y z (sr_hp (n + 1)) ∧ h (n + 2) = sr_qe x y z (sr_hp (n + 2)) := by
    intro n
    induction n with
    | zero =>
      intro _
      have g0 : sr_qe x y z (sr_hp 0) = nI 1 * (1 * 1 * 1) + 0 := rfl
      have g1 : sr_qe x y z (sr_hp 1) = nI 1 * (1 * x * 1 * 1) + 0 := rfl
      have g2 : sr_qe x y z (sr_hp 2) = nI 1 * (1 * x * x * 1 * 1) + (nI 4294967295 * (1 * (1 * y) * 1) + 0) := rfl
      have n1 : nI 1 = 1 := rfl
      rw [show 0 + 1 = 1 from rfl, show 0 + 2 = 2 from rfl, g0, g1, g2, h0, h1, h2, n1, sr_qn1]
      exact ⟨by grind, by grind, by grind⟩
    | succ n ih =>
      intro hn
      obtain ⟨i0, i1, i2⟩ := ih (by omega)
      refine ⟨i1, i2, ?_⟩
      have t := sr_qz_e (x := x) (y := y) (z := z) _ (sr_all_at sr_qhc n (by omega))
      rw [sr_qc_e, sr_qa_e, sr_qa_e, sr_qa_e, sr_qt_e, sr_qt_e, sr_qt_e] at t
      have m1 : sr_qm x y z 1 0 0 4294967295 = nI 4294967295 * (1 * x * 1 * 1) := rfl
      have m2 : sr_qm x y z 0 1 0 1 = nI 1 * (1 * (1 * y) * 1) := rfl
      have m3 : sr_qm x y z 0 0 1 4294967295 = nI 4294967295 * (1 * 1 * (1 * z)) := rfl
      have n1 : nI 1 = 1 := rfl
      rw [m1, m2, m3, n1, sr_qn1, ← i0, ← i1, ← i2] at t
      have r := h3 n
      show h (n + 3) = sr_qe x y z (sr_hp (n + 3))
      rw [r]
      grind
  intro d hd
  by_cases e : d ≤ 9
  · exact (K d e).1
  · by_cases e2 : d = 10
    · rw [e2]; exact (K 9 (by omega)).2.1
    · rw [show d = 11 by omega]; exact (K 9 (by omega)).2.2
theorem sr_zp_e {h : Nat → Int32} (hh : ∀ d, d < 12 → h d = sr_qe x y z (sr_hp d)) {k d : Nat} (hd : d < 12) : sr_qe x y z (sr_zp k d) = sr_cz h k d := by
  unfold sr_zp sr_cz
  by_cases e : k ≤ d
  · rw [if_pos e, show Nat.ble k d = true by rw [Nat.ble_eq]; exact e, cond_true, hh _ (by omega)]
  · rw [if_neg e, show Nat.ble k d = false from Bool.eq_false_iff.mpr (fun t => e (by rw [Nat.ble_eq] at t; exact t)), cond_false]
    rfl
theorem sr_jta {a0 a1 a2 b0 b1 b2 c0 c1 c2 v : Int32} (t : a0 * (b1 * c2 + -(b2 * c1)) + (-(a1 * (b0 * c2 + -(b2 * c0))) + a2 * (b0 * c1 + -(b1 * c0))) + -v = 0) : ((a0 * ((b1 * c2) - (b2 * c1))) - (a1 * ((b0 * c2) - (b2 * c0)))) + (a2 * ((b0 * c1) - (b1 * c0))) = v := by grind
/-- a shape's value is its polynomial's -/
theorem sr_jtv {h : Nat → Int32} (hh : ∀ d, d < 12 → h d = sr_qe x y z (sr_hp d)) {s : Nat} (hs : s < 53) : sr_V h s = sr_qe x y z (sr_vp s) := by
  have b := sr_bd hs
  have t := sr_qz_e (x := x) (y := y) (z := z) _ (sr_all_at sr_jtc s hs)
  unfold sr_jt at t
  simp only [sr_qc_e, sr_qa_e, sr_qp_e, sr_qn_e] at t
  rw [sr_zp_e hh (show sr_rb s < 12 by omega), sr_zp_e hh (show sr_rc s < 12 by omega), sr_zp_e hh (show sr_rc s < 12 by omega), ← hh (sr_ra s) (by omega), ← hh (sr_ra s + 1) (by omega), ← hh (sr_ra s + 2) (by omega), ← hh (sr_rb s) (by omega), ← hh (sr_rb s + 1) (by omega), ← hh (sr_rc s) (by omega)] at t
  unfold sr_V
  exact sr_jta t
end
end
section
/-! the plain laws: what the answers must be -/
theorem sr_h2_r (x y : Int32) (d : Nat) : sr_h2 x y (d + 2) = (x + y) * sr_h2 x y (d + 1) - x * y * sr_h2 x y d := by
  show sr_pw x (d + 1) * x + y * (sr_pw x (d + 1) + y * sr_h2 x y d) = (x + y) * (sr_pw x (d + 1) + y * sr_h2 x y d) - x * y * sr_h2 x y d
  generalize sr_pw x (d + 1) = u
  generalize sr_h2 x y d = v
  grind
theorem sr_h3_r (x y z : Int32) (d : Nat) : sr_h3 x y z (d + 3) = (x + y + z) * sr_h3 x y z (d + 2) - (x * y + x * z + y * z) * sr_h3 x y z (d + 1) + x * y * z * sr_h3 x y z d := by
  show sr_h2 x y (d + 3) + z * (sr_h2 x y (d + 2) + z * (sr_h2 x y (d + 1) + z * sr_h3 x y z d)) = (x + y + z) * (sr_h2 x y (d + 2) + z * (sr_h2 x y (d + 1) + z * sr_h3 x y z d)) - (x * y + x * z + y * z) * (sr_h2 x y (d + 1) + z * sr_h3 x y z d) + x * y * z * sr_h3 x y z d
  have e : sr_h2 x y (d + 3) = (x + y) * sr_h2 x y (d + 2) - x * y * sr_h2 x y (d + 1) := sr_h2_r x y (d + 1)
  rw [e]
  generalize sr_h2 x y (d + 2) = u
  generalize sr_h2 x y (d + 1) = v
  generalize sr_h3 x y z d = w
  grind
theorem sr_h3_1 (x y z : Int32) : sr_h3 x y z 1 = x + y + z := by
  show (1 * x + y * 1) + z * 1 = x + y + z
  grind
theorem sr_h3_2 (x y z : Int32) : sr_h3 x y z 2 = (x + y + z) * (x + y + z) - (x * y + x * z + y * z) := by
  show (1 * x * x + y * (1 * x + y * 1)) + z * ((1 * x + y * 1) + z * 1) = (x + y + z) * (x + y + z) - (x * y + x * z + y * z)
  grind
theorem sr_h3_p {x y z x' y' z' : Int32} (h1 : x + y + z = x' + y' + z') (h2 : x * y + x * z + y * z = x' * y' + x' * z' + y' * z') (h3 : x * y * z = x' * y' * z') : sr_h3 x y z = sr_h3 x' y' z' := by
  have K : ∀ n, sr_h3 x y z n = sr_h3 x' y' z' n ∧ sr_h3 x y z (n + 1) = sr_h3 x' y' z' (n + 1) ∧ sr_h3 x y z (n + 2) = sr_h3 x' y' z' (n + 2) := by
    intro n
    induction n with
    | zero =>
      refine ⟨rfl, ?_, ?_⟩
      · show sr_h3 x y z 1 = sr_h3 x' y' z' 1
        rw [sr_h3_1, sr_h3_1, h1]
      · show sr_h3 x y z 2 = sr_h3 x' y' z' 2
        rw [sr_h3_2, sr_h3_2, h1, h2]
    | succ n ih =>
      refine ⟨ih.2.1, ih.2.2, ?_⟩
      show sr_h3 x y z (n + 3) = sr_h3 x' y' z' (n + 3)
      rw [sr_h3_r, sr_h3_r, ih.1, ih.2.1, ih.2.2, h1, h2, h3]
  funext n
  exact (K n).1
theorem sr_h3_q (x y z : Int32) : ∀ d, d < 12 → sr_h3 x y z d = sr_qe (x + y + z) (x * y + x * z + y * z) (x * y * z) (sr_hp d) :=
  sr_qh rfl (sr_h3_1 x y z) (sr_h3_2 x y z) (fun d => sr_h3_r x y z d)
/-- the product's value is the product of the values -/
theorem sr_prodlaw {a4 : Nat → Int32} (hD : sr_D2 a4) (x y z : Int32) : sr_vl (sr_kp 0 60 a4 (sr_pd a4 2809)) 0 (sr_h3 x y z) = sr_vl a4 0 (sr_h3 x y z) * sr_vl a4 1 (sr_h3 x y z) := by
  have hV : ∀ s, s < 53 → sr_V (sr_h3 x y z) s = sr_qe (x + y + z) (x * y + x * z + y * z) (x * y * z) (sr_vp s) := fun s hs => sr_jtv (sr_h3_q x y z) hs
  generalize sr_h3 x y z = h at *
  generalize hv : (fun s => sr_qe (x + y + z) (x * y + x * z + y * z) (x * y * z) (sr_vp s)) = v at *
  have hV' : ∀ s, s < 53 → sr_V h s = v s := fun s hs => by rw [hV s hs, ← hv]
  have LR : ∀ p q, p < 53 → q < 53 → sr_sz p + sr_sz q ≤ 9 → v p * v q = sr_sm (fun r => nI (sr_ct p q r) * v r) 53 := fun p q hp hq hz => by
    rw [← hv]
    exact sr_lr hp hq hz
  have e0 : ∀ e, sr_vl a4 e h = sr_sm (fun s => a4 (60 * e + s) * v s) 53 := fun e => sr_sm_c (fun s hs => by rw [hV' s hs])
  have e1 : sr_vl (sr_kp 0 60 a4 (sr_pd a4 2809)) 0 h = sr_sm (fun s => sr_sm (fun j => a4 (60 * 0 + j / 53) * a4 (60 * 1 + j % 53) * nI (sr_ct (j / 53) (j % 53) s) * v s) 2809) 53 := by
    refine sr_sm_c (fun s hs => ?_)
    rw [hV' s hs, sr_kp_in (by omega), sr_sm_r]
    show (if s < 53 then _ else 0) * v s = _
    rw [if_pos hs]
  rw [e1, sr_sm_x, e0 0, e0 1]
  have e2 : ∀ j, j < 2809 → sr_sm (fun s => a4 (60 * 0 + j / 53) * a4 (60 * 1 + j % 53) * nI (sr_ct (j / 53) (j % 53) s) * v s) 53 = (a4 (60 * 0 + j / 53) * v (j / 53)) * (a4 (60 * 1 + j % 53) * v (j % 53)) := by
    intro j hj
    have hd : j / 53 < 53 := by omega
    have hm : j % 53 < 53 := by omega
    have f1 : sr_sm (fun s => a4 (60 * 0 + j / 53) * a4 (60 * 1 + j % 53) * nI (sr_ct (j / 53) (j % 53) s) * v s) 53 = a4 (60 * 0 + j / 53) * a4 (60 * 1 + j % 53) * sr_sm (fun s => nI (sr_ct (j / 53) (j % 53) s) * v s) 53 := by
      rw [← sr_sm_l]
      exact sr_sm_c (fun s _ => by rw [Int32.mul_assoc])
    rw [f1]
    by_cases z1 : a4 (60 * 0 + j / 53) = 0
    · rw [z1, Int32.zero_mul, Int32.zero_mul, Int32.zero_mul, Int32.zero_mul]
    · by_cases z2 : a4 (60 * 1 + j % 53) = 0
      · rw [z2, Int32.mul_zero, Int32.zero_mul, Int32.zero_mul, Int32.mul_zero]
      · rw [← LR _ _ hd hm (sr_D2_ok hD hd hm z1 z2)]
        grind
  rw [sr_sm_c e2]
  have g := sr_sm_g (fun a b => (a4 (60 * 0 + a) * v a) * (a4 (60 * 1 + b) * v b)) 53
  have g' : sr_sm (fun j => (a4 (60 * 0 + j / 53) * v (j / 53)) * (a4 (60 * 1 + j % 53) * v (j % 53))) 2809 = sr_sm (fun a => sr_sm (fun b => (a4 (60 * 0 + a) * v a) * (a4 (60 * 1 + b) * v b)) 53) 53 := g
  rw [g', ← sr_sm_r]
  exact sr_sm_c (fun a _ => sr_sm_l _ _ _)
/-- taking a shape away is adjoint to multiplying by it -/
theorem sr_adjoint (a4 : Nat → Int32) {q : Nat} (hq : q < 53) : sr_in (sr_kp 0 60 a4 (sr_tm a4 0 q 53)) = sr_in (sr_kp 1 60 a4 (sr_sk a4 1 q 2809)) := by
  have e1 : sr_in (sr_kp 0 60 a4 (sr_tm a4 0 q 53)) = sr_sm (fun r => sr_sm (fun p => a4 (60 * 0 + p) * nI (sr_ct p q r) * a4 (60 * 1 + r)) 53) 53 := by
    refine sr_sm_c (fun r hr => ?_)
    rw [sr_kp_in (by omega), sr_kp_out (by omega) (by omega), sr_sm_r]
    show (if r < 53 then _ else 0) * _ = _
    rw [if_pos hr]
  have e2 : sr_in (sr_kp 1 60 a4 (sr_sk a4 1 q 2809)) = sr_sm (fun p => sr_sm (fun r => a4 (60 * 0 + p) * (a4 (60 * 1 + r) * nI (sr_ct q p r))) 53) 53 := by
    refine sr_sm_c (fun p hp => ?_)
    rw [sr_kp_in (by omega), sr_kp_out (by omega) (by omega), sr_sm_l]
    refine congrArg (HMul.hMul (a4 (60 * 0 + p))) ?_
    have g := sr_sm_g (fun a b => if a = p then a4 (60 * 1 + b) * nI (sr_ct q a b) else 0) 53
    have g' : sr_sk a4 1 q 2809 p = sr_sm (fun a => sr_sm (fun b => if a = p then a4 (60 * 1 + b) * nI (sr_ct q a b) else 0) 53) 53 := g
    rw [g']
    have f : ∀ a, a < 53 → sr_sm (fun b => if a = p then a4 (60 * 1 + b) * nI (sr_ct q a b) else 0) 53 = if p = a then sr_sm (fun b => a4 (60 * 1 + b) * nI (sr_ct q a b)) 53 else 0 := by
      intro a _
      by_cases e : a = p
      · rw [if_pos e.symm]
        exact sr_sm_c (fun b _ => if_pos e)
      · rw [if_neg (fun t => e t.symm), ← sr_sm_0 53]
        exact sr_sm_c (fun b _ => if_neg e)
    rw [sr_sm_c f, sr_sm_d, if_pos hp]
  rw [e1, e2, sr_sm_x]
  refine sr_sm_c (fun p hp => sr_sm_c (fun r hr => ?_))
  rw [sr_comm hp hq hr]
  grind
/-! sums of powers, where all the unknowns are 1 -/
def sr_dm (s : Nat) : Nat := Nat.div ((sr_ra s - sr_rb s + 1) * (sr_rb s - sr_rc s + 1) * (sr_ra s - sr_rc s + 2)) 2
theorem sr_dmc : sr_all (fun s => decide (sr_V (sr_h3 1 1 1) s = nI (sr_dm s))) 53 = true := by decide +kernel
theorem sr_pwc : sr_all (fun p => sr_all (fun r => cond (Nat.ble (sr_sz p + (r + 1)) 9) (decide (sr_sm (fun row => if sr_tg (sr_w p row (r + 1)) < 53 then sr_sg (sr_w p row (r + 1)).2.2.2 * nI (sr_dm (sr_tg (sr_w p row (r + 1)))) else 0) 3 = 3 * nI (sr_dm p))) true) 4) 53 = true := by decide +kernel
theorem sr_powlaw {a4 : Nat → Int32} {r : Nat} (h1 : 1 ≤ r) (h4 : r ≤ 4) (hD : sr_D1 a4 1 r) : sr_vl (sr_kp 1 60 a4 (sr_pm a4 1 r 53)) 1 (sr_h3 1 1 1) = 3 * sr_vl a4 1 (sr_h3 1 1 1) := by
  have hV : ∀ s, s < 53 → sr_V (sr_h3 1 1 1) s = nI (sr_dm s) := fun s hs => of_decide_eq_true (sr_all_at sr_dmc s hs)
  have e0 : sr_vl a4 1 (sr_h3 1 1 1) = sr_sm (fun s => a4 (60 * 1 + s) * nI (sr_dm s)) 53 := sr_sm_c (fun s hs => by rw [hV s hs])
  have e1 : sr_vl (sr_kp 1 60 a4 (sr_pm a4 1 r 53)) 1 (sr_h3 1 1 1) = sr_sm (fun i => sr_sm (fun p => a4 (60 * 1 + p) * sr_sm (fun row => sr_sc p row r i) 3 * nI (sr_dm i)) 53) 53 := by
    refine sr_sm_c (fun i hi => ?_)
    rw [hV i hi, sr_kp_in (by omega), sr_sm_r]
    rfl
  rw [e1, sr_sm_x, e0, ← sr_sm_l]
  refine sr_sm_c (fun p hp => ?_)
  have f1 : sr_sm (fun i => a4 (60 * 1 + p) * sr_sm (fun row => sr_sc p row r i) 3 * nI (sr_dm i)) 53 = a4 (60 * 1 + p) * sr_sm (fun i => sr_sm (fun row => sr_sc p row r i * nI (sr_dm i)) 3) 53 := by
    rw [← sr_sm_l]
    refine sr_sm_c (fun i _ => ?_)
    rw [sr_sm_r, Int32.mul_assoc]
  rw [f1]
  by_cases z : a4 (60 * 1 + p) = 0
  · rw [z, Int32.zero_mul, Int32.zero_mul, Int32.mul_zero]
  · have hz : sr_sz p + r ≤ 9 := sr_D1_ok (by omega) hD hp z
    have f2 : sr_sm (fun i => sr_sm (fun row => sr_sc p row r i * nI (sr_dm i)) 3) 53 = 3 * nI (sr_dm p) := by
      rw [sr_sm_x]
      have t := sr_all_at (sr_all_at sr_pwc p hp) (r - 1) (by omega)
      have e : r - 1 + 1 = r := by omega
      have e2 : Nat.ble (sr_sz p + r) 9 = true := by rw [Nat.ble_eq]; exact hz
      simp only [e, e2, cond_true] at t
      refine Eq.trans (sr_sm_c (fun row _ => ?_)) (of_decide_eq_true t)
      rw [← sr_sm_d (sr_tg (sr_w p row r)) (fun i => sr_sg (sr_w p row r).2.2.2 * nI (sr_dm i)) 53]
      refine sr_sm_c (fun i _ => ?_)
      unfold sr_sc
      by_cases e : sr_tg (sr_w p row r) = i
      · rw [if_pos e, if_pos e]
      · rw [if_neg e, if_neg e, Int32.zero_mul]
    rw [f2]
    grind
/-! single products of powers -/
theorem sr_mnA {a4 : Nat → Int32} {e i j k : Nat} (hi : i < 5) (hj : j < 5) (hk : k < 5) : sr_mn a4 e i k j = sr_mn a4 e i j k := by
  refine sr_sm_c (fun s hs => ?_)
  show (if sr_sz s = i + k + j then _ else 0) = if sr_sz s = i + j + k then _ else 0
  by_cases h : sr_sz s = i + j + k
  · rw [if_pos h, if_pos (by omega), (sr_pts hs hi hj hk h).1]
  · rw [if_neg h, if_neg (by omega)]
theorem sr_mnB {a4 : Nat → Int32} {e i j k : Nat} (hi : i < 5) (hj : j < 5) (hk : k < 5) : sr_mn a4 e j i k = sr_mn a4 e i j k := by
  refine sr_sm_c (fun s hs => ?_)
  show (if sr_sz s = j + i + k then _ else 0) = if sr_sz s = i + j + k then _ else 0
  by_cases h : sr_sz s = i + j + k
  · rw [if_pos h, if_pos (by omega), (sr_pts hs hi hj hk h).2]
  · rw [if_neg h, if_neg (by omega)]
end
section
/-! the law's own methods -/
theorem sr_h3_1' (i j k : Int32) : sr_h3 i k j = sr_h3 i j k := sr_h3_p (by grind) (by grind) (by grind)
theorem sr_h3_2' (i j k : Int32) : sr_h3 j i k = sr_h3 i j k := sr_h3_p (by grind) (by grind) (by grind)
theorem sr_h3_3' (i j k : Int32) : sr_h3 j k i = sr_h3 i j k := sr_h3_p (by grind) (by grind) (by grind)
theorem sr_h3_4' (i j k : Int32) : sr_h3 k i j = sr_h3 i j k := sr_h3_p (by grind) (by grind) (by grind)
theorem sr_h3_5' (i j k : Int32) : sr_h3 k j i = sr_h3 i j k := sr_h3_p (by grind) (by grind) (by grind)
section
variable {a1 a2 a3 a4 a5 a6 : Nat → Int32}
theorem sr_orders {post : Int32 → St1 → Prop} {w : Int32} (hR : sr_rk a1 a2 a3) {e : Nat} (he : e < 2) (i j k : Int32) (H : ∀ a6', post 1 (nI 53, a1, a2, a3, a4, a5, a6')) (hw : w = nI e) : wpL_orders post (nI 53, a1, a2, a3, a4, a5, a6) w i j k := by
  subst hw
  obtain ⟨x0, hx0, ex⟩ := pk_andE i (m := 127) 7 (by decide)
  obtain ⟨y0, hy0, ey⟩ := pk_andE j (m := 127) 7 (by decide)
  obtain ⟨z0, hz0, ez⟩ := pk_andE k (m := 127) 7 (by decide)
  have hx : x0 % 5 < 5 := Nat.mod_lt _ (by omega)
  have hy : y0 % 5 < 5 := Nat.mod_lt _ (by omega)
  have hz : z0 % 5 < 5 := Nat.mod_lt _ (by omega)
  unfold wpL_orders
  refine ⟨by decide, nm_r (e' := nI (x0 % 5)) (by rw [ex]; exact pk_rem (a := x0) (d := 5) (by omega) (by omega) (by omega)) ⟨by decide, nm_r (e' := nI (y0 % 5)) (by rw [ey]; exact pk_rem (a := y0) (d := 5) (by omega) (by omega) (by omega)) ⟨by decide, nm_r (e' := nI (z0 % 5)) (by rw [ez]; exact pk_rem (a := z0) (d := 5) (by omega) (by omega) (by omega)) ?_⟩⟩⟩
  generalize x0 % 5 = x at *
  generalize y0 % 5 = y at *
  generalize z0 % 5 = z at *
  refine sr_monomial hR he (by omega) (by omega) (by omega) ?_
  refine sr_value hR he i j k (fun c0 => ?_) rfl
  refine sr_monomial hR he (by omega) (by omega) (by omega) (br_t (sr_mnA hx hy hz) ?_)
  refine sr_monomial hR he (by omega) (by omega) (by omega) (br_t (sr_mnB hx hy hz) ?_)
  refine sr_monomial hR he (by omega) (by omega) (by omega) (br_t ((sr_mnA hy hx hz).trans (sr_mnB hx hy hz)) ?_)
  refine sr_monomial hR he (by omega) (by omega) (by omega) (br_t ((sr_mnB hx hz hy).trans (sr_mnA hx hy hz)) ?_)
  refine sr_monomial hR he (by omega) (by omega) (by omega) (br_t ((sr_mnA hz hx hy).trans ((sr_mnB hx hz hy).trans (sr_mnA hx hy hz))) ?_)
  refine sr_value hR he i k j (fun c1 => br_t (by rw [sr_h3_1']) ?_) rfl
  refine sr_value hR he j i k (fun c2 => br_t (by rw [sr_h3_2' i j k]) ?_) rfl
  refine sr_value hR he j k i (fun c3 => br_t (by rw [sr_h3_3' i j k]) ?_) rfl
  refine sr_value hR he k i j (fun c4 => br_t (by rw [sr_h3_4' i j k]) ?_) rfl
  exact sr_value hR he k j i (fun c5 => br_t (by rw [sr_h3_5' i j k]) (H c5)) rfl
end
/-- one turn: what becomes of the coefficients hangs on them alone -/
theorem sr_turn (a4 : Nat → Int32) (op c d : Int32) : ∃ A : Nat → Int32, ∀ (post : St1 → Prop) (a1 a2 a3 a5 a6 : Nat → Int32), sr_rk a1 a2 a3 → (∀ a5' a6', post (nI 53, a1, a2, a3, A, a5', a6')) → wpL_turn post (nI 53, a1, a2, a3, a4, a5, a6) op c d := by
  obtain ⟨e, he, ee⟩ := pk_andE (c >>> ((4 : Int32) &&& 31)) (m := 1) 1 (by decide)
  have he' : e < 2 := he
  obtain ⟨s5, h5, P5⟩ := sr_code d (m := 5) (y := 5) (by omega) rfl
  obtain ⟨s2, h2, P2⟩ := sr_code d (m := 2) (y := 2) (by omega) rfl
  obtain ⟨t, ht, et⟩ := pk_andE d (m := 127) 7 (by decide)
  by_cases c1 : 8 ≤ op
  · by_cases c2 : op = 8
    · by_cases D : sr_D1 a4 e (sr_sz s2)
      · refine ⟨sr_kp e 60 a4 (sr_tm a4 e s2 53), fun post a1 a2 a3 a5 a6 hR H => ?_⟩
        unfold wpL_turn
        refine nm_r ee (nm_e (P5 _ (P2 _ (br_t c1 (br_t c2 ?_)))))
        exact sr_tshape hR he' h2 (fun _ m => H m a6) (fun nD => absurd D nD) rfl rfl
      · refine ⟨a4, fun post a1 a2 a3 a5 a6 hR H => ?_⟩
        unfold wpL_turn
        refine nm_r ee (nm_e (P5 _ (P2 _ (br_t c1 (br_t c2 ?_)))))
        exact sr_tshape hR he' h2 (fun D' => absurd D' D) (fun _ => H a5 a6) rfl rfl
    · by_cases c3 : op = 9
      · refine ⟨sr_kp e 60 a4 (sr_sk a4 e s2 2809), fun post a1 a2 a3 a5 a6 hR H => ?_⟩
        unfold wpL_turn
        refine nm_r ee (nm_e (P5 _ (P2 _ (br_t c1 (br_f c2 (br_t c3 ?_))))))
        exact sr_skew hR he' h2 (fun m => H m a6) rfl rfl
      · by_cases c4 : op = 10
        · refine ⟨sr_cb (((d >>> ((21 : Int32) &&& 31)) &&& 15) - 6) 53 a4, fun post a1 a2 a3 a5 a6 hR H => ?_⟩
          unfold wpL_turn
          refine nm_r ee (nm_e (P5 _ (P2 _ (br_t c1 (br_f c2 (br_f c3 (br_t c4 ?_)))))))
          exact sr_combine (fun r => H a5 a6)
        · by_cases c5 : op = 11
          · refine ⟨sr_sw 53 a4, fun post a1 a2 a3 a5 a6 hR H => ?_⟩
            unfold wpL_turn
            refine nm_r ee (nm_e (P5 _ (P2 _ (br_t c1 (br_f c2 (br_f c3 (br_f c4 (br_t c5 ?_))))))))
            exact sr_swap (fun r => H a5 a6)
          · by_cases c6 : op = 12
            · by_cases c7 : ((c >>> ((5 : Int32) &&& 31)) &&& 3) = 0
              · refine ⟨sr_pa e (t % 10) 53 a4, fun post a1 a2 a3 a5 a6 hR H => ?_⟩
                unfold wpL_turn
                refine nm_r ee (nm_e (P5 _ (P2 _ (br_t c1 (br_f c2 (br_f c3 (br_f c4 (br_f c5 (br_t c6 (br_t c7 ⟨by decide, ?_⟩))))))))))
                exact sr_part hR he' (by omega) (fun r => H a5 a6) rfl (by rw [et]; exact pk_rem (a := t) (d := 10) (by omega) (by omega) (by omega))
              · refine ⟨a4, fun post a1 a2 a3 a5 a6 hR H => ?_⟩
                unfold wpL_turn
                exact nm_r ee (nm_e (P5 _ (P2 _ (br_t c1 (br_f c2 (br_f c3 (br_f c4 (br_f c5 (br_t c6 (br_f c7 (H a5 a6)))))))))))
            · refine ⟨a4, fun post a1 a2 a3 a5 a6 hR H => ?_⟩
              unfold wpL_turn
              exact nm_r ee (nm_e (P5 _ (P2 _ (br_t c1 (br_f c2 (br_f c3 (br_f c4 (br_f c5 (br_f c6 (H a5 a6))))))))))
  · refine ⟨upd a4 (60 * e + s5) (a4 (60 * e + s5) + (((d >>> ((21 : Int32) &&& 31)) &&& 15) - 6)), fun post a1 a2 a3 a5 a6 hR H => ?_⟩
    unfold wpL_turn
    refine nm_r ee (nm_e (P5 _ (P2 _ (br_f c1 ?_))))
    exact sr_add hR he' h5 (H a5 a6) rfl rfl
theorem sr_dg_c {a b : Nat → Int32} {e n : Nat} (h : ∀ s, s < n → a (60 * e + s) = b (60 * e + s)) : sr_dg a e n = sr_dg b e n := by
  induction n with
  | zero => rfl
  | succ n ih => rw [sr_dg_s, sr_dg_s, ih (fun s hs => h s (by omega)), h n (by omega)]
theorem sr_kp_kp (a f g : Nat → Int32) : sr_kp 1 60 (sr_kp 0 60 a f) g = sr_kp 0 60 (sr_kp 1 60 a g) f := by
  funext i
  show (if 60 * 1 ≤ i ∧ i < 60 * 1 + 60 then g (i - 60 * 1) else if 60 * 0 ≤ i ∧ i < 60 * 0 + 60 then f (i - 60 * 0) else a i) = if 60 * 0 ≤ i ∧ i < 60 * 0 + 60 then f (i - 60 * 0) else if 60 * 1 ≤ i ∧ i < 60 * 1 + 60 then g (i - 60 * 1) else a i
  by_cases h : 60 * 0 ≤ i ∧ i < 60 * 0 + 60
  · rw [if_neg (show ¬ (60 * 1 ≤ i ∧ i < 60 * 1 + 60) by omega), if_pos h, if_pos h]
  · rw [if_neg h, if_neg h]
theorem sr_sk_c {a f : Nat → Int32} {p : Nat} : sr_sk (sr_kp 0 60 a f) 1 p 2809 = sr_sk a 1 p 2809 := by
  funext i
  refine sr_sm_c (fun j hj => ?_)
  rw [sr_kp_out (by omega) (by omega)]
theorem sr_tm_c {a f : Nat → Int32} {q : Nat} : sr_tm (sr_kp 1 60 a f) 0 q 53 = sr_tm a 0 q 53 := by
  funext r
  show (if r < 53 then _ else 0) = if r < 53 then _ else 0
  rw [sr_sm_c (fun p hp => by rw [sr_kp_out (by omega) (by omega)])]
theorem sr_products {post : Int32 → St3 → Prop} {a1 a2 a3 a4 a5 a6 b1 b2 b3 b5 b6 : Nat → Int32} {way w x y : Int32} (hR : sr_rk a1 a2 a3) (hQ : sr_rk b1 b2 b3) {s : Nat} (hs : s < 53)
    (H : ∀ A a5' a6' b5' b6', post 1 (nI 53, a1, a2, a3, A, a5', a6', nI 53, b1, b2, b3, A, b5', b6')) (hw : w = nI (sr_cd s)) :
    wpL_products post (nI 53, a1, a2, a3, a4, a5, a6, nI 53, b1, b2, b3, a4, b5, b6) way w x y := by
  subst hw
  have zs : sr_sz s ≤ 9 := (sr_bd hs).2.2
  unfold wpL_products
  refine sr_value (e := 0) hR (by omega) x y 3 (fun d1 => ?_) rfl
  refine sr_value (e := 1) hR (by omega) x y 3 (fun d2 => ?_) rfl
  refine br_c (fun w0 => ?_) (fun w0 => br_c (fun w1 => ?_) (fun w1 => ?_))
  · by_cases D : sr_D2 a4
    · refine sr_product hR (fun _ m1 => ?_) (fun nD => absurd D nD)
      refine sr_product hQ (fun _ m2 => ?_) (fun nD => absurd D nD)
      refine br_t rfl (br_t rfl ?_)
      refine sr_value (e := 0) hR (by omega) x y 3 (fun d3 => br_t (sr_prodlaw D x y 3) ?_) rfl
      refine sr_value (e := 1) hR (by omega) x y 3 (fun d4 => br_t ?_ (H _ _ _ _ _)) rfl
      exact sr_sm_c (fun t ht => by rw [sr_kp_out (by omega) (by omega)])
    · refine sr_product hR (fun D' => absurd D' D) (fun _ => ?_)
      refine sr_product hQ (fun D' => absurd D' D) (fun _ => ?_)
      exact br_t rfl (br_f (by decide) (H _ _ _ _ _))
  · obtain ⟨r0, hr0, er⟩ := pk_andE x (m := 3) 2 (by decide)
    have hr0' : r0 < 4 := hr0
    refine nm_r (e' := nI (1 + r0)) (by rw [er]; exact nI_add 1 r0) ?_
    refine sr_value (e := 1) hR (by omega) 1 1 1 (fun d3 => ?_) rfl
    by_cases D : sr_D1 a4 1 (1 + r0)
    · refine sr_tpower (e := 1) hR (by omega) (by omega) (by omega) (fun _ m1 => ?_) (fun nD => absurd D nD) rfl rfl
      refine sr_tpower (e := 1) hQ (by omega) (by omega) (by omega) (fun _ m2 => ?_) (fun nD => absurd D nD) rfl rfl
      refine br_t rfl ?_
      exact sr_value (e := 1) hR (by omega) 1 1 1 (fun d4 => br_t rfl (br_t (sr_powlaw (by omega) (by omega) D) (H _ _ _ _ _))) rfl
    · refine sr_tpower (e := 1) hR (by omega) (by omega) (by omega) (fun D' => absurd D' D) (fun _ => ?_) rfl rfl
      refine sr_tpower (e := 1) hQ (by omega) (by omega) (by omega) (fun D' => absurd D' D) (fun _ => ?_) rfl rfl
      refine br_t rfl ?_
      exact sr_value (e := 1) hR (by omega) 1 1 1 (fun d4 => br_f (by decide) (br_t rfl (H _ _ _ _ _))) rfl
  · by_cases D : sr_D1 a4 0 (sr_sz s)
    · refine sr_tshape (e := 0) hR (by omega) hs (fun _ m1 => ?_) (fun nD => absurd D nD) rfl rfl
      refine br_t rfl ?_
      refine sr_skew (e := 1) hQ (by omega) hs (fun m2 => ?_) rfl rfl
      refine br_t rfl ?_
      refine sr_inner ?_
      refine sr_inner (br_t (sr_adjoint a4 hs) ?_)
      have D' : sr_D1 (sr_kp 1 60 a4 (sr_sk a4 1 s 2809)) 0 (sr_sz s) := by
        unfold sr_D1
        rw [sr_dg_c (a := sr_kp 1 60 a4 (sr_sk a4 1 s 2809)) (b := a4) (fun t ht => sr_kp_out (by omega) (by omega))]
        exact D
      refine sr_tshape (e := 0) hQ (by omega) hs (fun _ m3 => ?_) (fun nD => absurd D' nD) rfl rfl
      refine br_t rfl ?_
      refine sr_skew (e := 1) hR (by omega) hs (fun m4 => ?_) rfl rfl
      rw [sr_sk_c, sr_tm_c, sr_kp_kp]
      refine br_t rfl ?_
      refine sr_inner ?_
      exact sr_inner (br_t rfl (H _ _ _ _ _))
    · refine sr_tshape (e := 0) hR (by omega) hs (fun D' => absurd D' D) (fun _ => ?_) rfl rfl
      refine br_f (by decide) ?_
      exact sr_tshape (e := 0) hQ (by omega) hs (fun D' => absurd D' D) (fun _ => br_f (by decide) (H _ _ _ _ _)) rfl rfl
theorem sr_cell (L : Nat) (hL : L ≤ 260) (xs : Nat → Int32) {k : Nat} (hk : k ≤ 300) {y : Int32} (hy : y = nI k) : ∃ v : Int32, ∀ post : Int32 → Prop, post v → wpL_cell post L xs () y := by
  subst hy
  by_cases h : k < L
  · refine ⟨xs (nI k).toNatClampNeg, fun post hp => ?_⟩
    exact br_f (nI_ge h (by omega)) ⟨vp_in_nI h (by omega), hp⟩
  · refine ⟨0, fun post hp => ?_⟩
    exact br_t (nI_le (a := L) (b := k) (by omega) (by omega)) hp
end
section
/-! the law's loop -/
theorem sr_159 {post : Int32 → Prop} {L : Nat} {xs : Nat → Int32} {J : Int32 → Int32 → Int32 → (Nat → Int32) → (Nat → Int32) → (Nat → Int32) → (Nat → Int32) → (Nat → Int32) → (Nat → Int32) → Int32 → (Nat → Int32) → (Nat → Int32) → (Nat → Int32) → (Nat → Int32) → (Nat → Int32) → (Nat → Int32) → Prop} {x3 c d : Int32} {k kc ks : Nat} {a1 a2 a3 A a5 a6 b1 b2 b3 b5 b6 : Nat → Int32} (hR : sr_rk a1 a2 a3)
    (N : ∀ x a6', J x (nI (k + 2)) (nI 53) a1 a2 a3 A a5 a6' (nI 53) b1 b2 b3 A b5 b6) : wL_law_159 post L xs J x3 (nI k) c d kc ks (nI 53) a1 a2 a3 A a5 a6 (nI 53) b1 b2 b3 A b5 b6 := by
  obtain ⟨e, he, ee⟩ := pk_andE (c >>> ((4 : Int32) &&& 31)) (m := 1) 1 (by decide)
  have he' : e < 2 := he
  have k2 : nI k + 2 = nI (k + 2) := nI_add k 2
  unfold wL_law_159
  refine br_c (fun _ => nm_e (br_c (fun _ => nm_r k2 (N _ _)) (fun _ => ?_))) (fun _ => nm_r k2 (N _ _))
  exact sr_orders hR he' _ _ _ (fun m => br_f (by decide) (nm_r k2 (N _ _))) ee
theorem i_vc (xs : Nat → Int32) (L : Nat) (hL : L ≤ 260) : wpL_law (fun r => r = 1) L xs := by
  refine ⟨6, 372, by omega, by omega, ?_⟩
  refine sr_init (by omega) (by omega) (fun g1 g2 g3 hG => ⟨by omega, by omega, 6, 372, by omega, by omega, ?_⟩)
  refine sr_init (by omega) (by omega) (fun h1 h2 h3 hH => ?_)
  refine lp16 (fun n x3 x4 f0 a1 a2 a3 a4 a5 a6 f8 b1 b2 b3 b4 b5 b6 => wL_law_21 (fun r => r = 1) L xs (1 + 6 + 1 + 6) (7 + 372 + 7 + 372) n x3 x4 f0 a1 a2 a3 a4 a5 a6 f8 b1 b2 b3 b4 b5 b6)
    (fun _ x4 f0 a1 a2 a3 a4 _ _ f8 b1 b2 b3 b4 _ _ => (∃ k, k ≤ 262 ∧ x4 = nI k) ∧ f0 = nI 53 ∧ f8 = nI 53 ∧ sr_rk a1 a2 a3 ∧ sr_rk b1 b2 b3 ∧ b4 = a4)
    (fun _ x4 _ _ _ _ _ _ _ _ _ _ _ _ _ _ => 300 - x4.toNatClampNeg) ?_ _ _ _ _ _ _ _ _ _ _ _ _ _ _ _ _ ⟨⟨0, by omega, rfl⟩, rfl, rfl, hG, hH, rfl⟩
  rintro n x3 x4 f0 a1 a2 a3 a4 a5 a6 f8 b1 b2 b3 b4 b5 b6 ⟨⟨k, hk, e1⟩, e2, e3, hR, hQ, e4⟩ hn
  subst e1 e2 e3 e4
  by_cases hkL : k < L
  · have N : ∀ x A a5' a6' b5' b6', wL_law_21 (fun r => r = 1) L xs (1 + 6 + 1 + 6) (7 + 372 + 7 + 372) n x (nI (k + 2)) (nI 53) a1 a2 a3 A a5' a6' (nI 53) b1 b2 b3 A b5' b6' := by
      intro x A a5' a6' b5' b6'
      refine hn _ _ _ _ _ _ _ _ _ _ _ _ _ _ _ _ ⟨⟨k + 2, by omega, rfl⟩, rfl, rfl, hR, hQ, rfl⟩ ?_
      show 300 - (nI (k + 2)).toNatClampNeg < 300 - (nI k).toNatClampNeg
      rw [nI_clamp (by omega), nI_clamp (by omega)]
      omega
    obtain ⟨c, Pc⟩ := sr_cell L hL xs (k := k) (by omega) rfl
    obtain ⟨d, Pd⟩ := sr_cell L hL xs (k := k + 1) (by omega) (nI_1 k)
    obtain ⟨A, PT⟩ := sr_turn b4 (c &&& 15) c d
    obtain ⟨p, hp, Pp⟩ := sr_code (c >>> ((4 : Int32) &&& 31)) (m := 4) (y := 4) (by omega) rfl
    obtain ⟨q, hq, Pq⟩ := sr_code d (m := 4) (y := 4) (by omega) rfl
    obtain ⟨r, hr, Pr⟩ := sr_code (d >>> ((5 : Int32) &&& 31)) (m := 8) (y := 8) (by omega) rfl
    refine br_f (nI_ge (a := k) (b := L) hkL (by omega)) ?_
    refine Pc _ (Pd _ (nm_e ?_))
    refine PT _ _ _ _ _ _ hR (fun m1 c1 => ?_)
    refine PT _ _ _ _ _ _ hQ (fun m2 c2 => ?_)
    refine Pp _ (Pq _ (Pr _ ?_))
    have T : wL_law_124 (fun r => r = 1) L xs (wL_law_21 (fun r => r = 1) L xs (1 + 6 + 1 + 6) (7 + 372 + 7 + 372) n) x3 (nI k) c d (c &&& 15) (nI (sr_cd q)) (1 + 6 + 1 + 6) (7 + 372 + 7 + 372) (nI 53) a1 a2 a3 A m1 c1 (nI 53) b1 b2 b3 A m2 c2 := by
      unfold wL_law_124
      refine br_c (fun _ => sr_159 hR (fun x m => N _ _ _ _ _ _)) (fun _ => ⟨by decide, ?_⟩)
      refine sr_products hR hQ hq (fun A' m3 m4 m5 m6 => br_f (by decide) ?_) rfl
      exact sr_159 hR (fun x m => N _ _ _ _ _ _)
    refine br_c (fun _ => ?_) (fun _ => T)
    exact sr_numbers hR hp hq hr (br_f (by decide) T) rfl rfl rfl
  · have q1 : sr_cd 1 = 1 := by decide
    have q2 : sr_cd 10 = 11 := by decide
    have q3 : sr_cd 11 = 12 := by decide
    refine br_t (nI_le (a := L) (b := k) (by omega) (by omega)) ?_
    refine sr_orders (e := 0) hR (by omega) 1 2 0 (fun m => br_f (by decide) ?_) rfl
    refine sr_orders (e := 1) hQ (by omega) 3 1 0 (fun m' => br_f (by decide) ?_) rfl
    exact sr_numbers (p := 1) (q := 10) (r := 11) hR (by omega) (by omega) (by omega) (br_f (by decide) rfl) (by rw [q1]; rfl) (by rw [q2]; rfl) (by rw [q3]; rfl)
end
