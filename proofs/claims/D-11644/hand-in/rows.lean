section
/-! packed arrays: place k of N is its k-th group of eight bits; 0: nothing known, v + 1: the value v -/
def rf_g (N k : Nat) : Nat := Nat.land (Nat.shiftRight N (Nat.mul 8 k)) 255
def rf_s (N k v : Nat) : Nat := Nat.xor N (Nat.shiftLeft (Nat.xor (rf_g N k) v) (Nat.mul 8 k))
theorem rf_tg (N k i : Nat) : (rf_g N k).testBit i = (decide (i < 8) && N.testBit (8 * k + i)) := by
  show ((N >>> (8 * k)) &&& (2 ^ 8 - 1)).testBit i = _
  rw [Nat.testBit_and, Nat.testBit_shiftRight, Nat.testBit_two_pow_sub_one, Bool.and_comm]
theorem rf_ts (N k v i : Nat) : (rf_s N k v).testBit i = (N.testBit i ^^ (decide (i ≥ 8 * k) && ((rf_g N k).testBit (i - 8 * k) ^^ v.testBit (i - 8 * k)))) := by
  show (N ^^^ ((rf_g N k ^^^ v) <<< (8 * k))).testBit i = _
  rw [Nat.testBit_xor, Nat.testBit_shiftLeft, Nat.testBit_xor]
theorem rf_tb {v i : Nat} (hv : v < 256) (hi : 8 ≤ i) : v.testBit i = false := by
  refine Nat.testBit_lt_two_pow (Nat.lt_of_lt_of_le hv ?_)
  exact Nat.pow_le_pow_right (n := 2) (by omega) hi
theorem rf_gs {N k v : Nat} (hv : v < 256) : rf_g (rf_s N k v) k = v := by
  refine Nat.eq_of_testBit_eq (fun i => ?_)
  rw [rf_tg, rf_ts, rf_tg, show 8 * k + i - 8 * k = i by omega]
  by_cases h : i < 8
  · have h2 : 8 * k + i ≥ 8 * k := by omega
    cases N.testBit (8 * k + i) <;> cases v.testBit i <;> simp [h]
  · rw [rf_tb hv (by omega)]
    simp [h]
theorem rf_gn {N k j v : Nat} (hv : v < 256) (hj : j ≠ k) : rf_g (rf_s N k v) j = rf_g N j := by
  refine Nat.eq_of_testBit_eq (fun i => ?_)
  rw [rf_tg, rf_tg, rf_ts]
  by_cases h : i < 8
  · by_cases h2 : 8 * j + i ≥ 8 * k
    · rw [rf_tb hv (by omega), rf_tg, show decide (8 * j + i - 8 * k < 8) = false from decide_eq_false (by omega)]
      simp
    · rw [show decide (8 * j + i ≥ 8 * k) = false from decide_eq_false h2]
      simp
  · simp [h]
theorem rf_g0 (k : Nat) : rf_g 0 k = 0 := by
  show (0 >>> (8 * k)) &&& 255 = 0
  rw [Nat.zero_shiftRight, Nat.zero_and]
/-- a number below zero by one step: 0 stands for -1 -/
def rf_sg : Nat → Int32
  | 0 => -1
  | n + 1 => nI n
/-- the array a holds what N knows, read by d -/
def rf_m (d : Nat → Int32) (M : Nat) (a : Nat → Int32) (N : Nat) : Prop := ∀ k v, rf_g N k = v + 1 → k < M ∧ v ≤ 100 ∧ a k = d v
theorem rf_m0 {d : Nat → Int32} {M : Nat} {a : Nat → Int32} : rf_m d M a 0 := by
  intro k v h
  rw [rf_g0] at h
  omega
theorem rf_mu {d : Nat → Int32} {M : Nat} {a : Nat → Int32} {N k v : Nat} {x : Int32} (h : rf_m d M a N) (hk : k < M) (hv : v ≤ 100) (hx : x = d v) : rf_m d M (upd a k x) (rf_s N k (v + 1)) := by
  intro j w e
  by_cases z : j = k
  · subst z
    rw [rf_gs (by omega)] at e
    have e2 : w = v := by omega
    subst e2
    exact ⟨hk, hv, by rw [pk_us, hx]⟩
  · rw [rf_gn (by omega) z] at e
    obtain ⟨p, q, r⟩ := h j w e
    exact ⟨p, q, by rw [pk_un z, r]⟩
/-- read a known place -/
def rf_r (N k : Nat) (K : Nat → Bool) : Bool := match rf_g N k with
  | 0 => false
  | v + 1 => K v
theorem rf_rt {N k : Nat} {K : Nat → Bool} (h : rf_r N k K = true) : ∃ v, rf_g N k = v + 1 ∧ K v = true := by
  unfold rf_r at h
  cases e : rf_g N k with
  | zero => rw [e] at h; exact absurd h Bool.false_ne_true
  | succ v => rw [e] at h; exact ⟨v, rfl, h⟩
theorem rf_rd {d : Nat → Int32} {M : Nat} {a : Nat → Int32} {N k : Nat} {K : Nat → Bool} (hm : rf_m d M a N) (h : rf_r N k K = true) : ∃ v, k < M ∧ v ≤ 100 ∧ a k = d v ∧ K v = true := by
  obtain ⟨v, e, hv⟩ := rf_rt h
  obtain ⟨p, q, r⟩ := hm k v e
  exact ⟨v, p, q, r, hv⟩
/-! conditions -/
theorem rf_ct {α : Type} {a b : Nat} {x y : α} (h : a ≤ b) : cond (Nat.ble a b) x y = x := by
  rw [Nat.ble_eq_true_of_le h]; rfl
theorem rf_cf {α : Type} {a b : Nat} {x y : α} (h : b < a) : cond (Nat.ble a b) x y = y := by
  have e : Nat.ble a b = false := by
    cases e : Nat.ble a b with
    | false => rfl
    | true => exact absurd (Nat.le_of_ble_eq_true e) (by omega)
  rw [e]; rfl
theorem rf_et {α : Type} {a b : Nat} {x y : α} (h : a = b) : cond (Nat.beq a b) x y = x := by
  subst h
  rw [show Nat.beq a a = true from Nat.beq_refl a]; rfl
theorem rf_ef {α : Type} {a b : Nat} {x y : α} (h : a ≠ b) : cond (Nat.beq a b) x y = y := by
  have e : Nat.beq a b = false := by
    cases e : Nat.beq a b with
    | false => rfl
    | true => exact absurd (Nat.eq_of_beq_eq_true e) h
  rw [e]; rfl
/-- a check that must hold -/
theorem rf_ck {a b : Nat} {x : Bool} (h : cond (Nat.ble a b) x false = true) : a ≤ b ∧ x = true := by
  cases e : Nat.ble a b with
  | false => rw [e] at h; exact absurd h Bool.false_ne_true
  | true => rw [e] at h; exact ⟨Nat.le_of_ble_eq_true e, h⟩
theorem rf_an {x y : Bool} (h : (x && y) = true) : x = true ∧ y = true := by
  cases x with
  | false => exact absurd h Bool.false_ne_true
  | true => exact ⟨rfl, h⟩
def rf_all : Nat → (Nat → Bool) → Bool
  | 0, _ => true
  | n + 1, f => f n && rf_all n f
theorem rf_al {f : Nat → Bool} {i : Nat} : ∀ n, rf_all n f = true → i < n → f i = true
  | 0, _, hi => absurd hi (by omega)
  | n + 1, h, hi => by
    obtain ⟨p, q⟩ := rf_an (show (f n && rf_all n f) = true from h)
    by_cases e : i = n
    · rw [e]; exact p
    · exact rf_al n q (by omega)
/-! ints -/
theorem rf_b8 : ∀ v, v < 101 → (nI v).toInt8.toInt32 = nI v := by decide +kernel
theorem rf_b16 : ∀ v, v < 101 → (nI v).toInt16.toInt32 = nI v := by decide +kernel
theorem rf_bs : ∀ v, v < 101 → (rf_sg v).toInt8.toInt32 = rf_sg v := by decide +kernel
theorem rf_b {v : Nat} (h : v ≤ 100) : (nI v).toInt8.toInt32 = nI v := rf_b8 v (by omega)
theorem rf_bS {v : Nat} (h : v ≤ 100) : (rf_sg v).toInt8.toInt32 = rf_sg v := rf_bs v (by omega)
theorem rf_4 (c i : Nat) : (4 : Int32) * nI c + nI i = nI (4 * c + i) := by
  rw [show (4 : Int32) = nI 4 from rfl, pk_mul, nI_add]
theorem rf_dec (i : Nat) : nI i + (-1) = rf_sg i := by
  cases i with
  | zero => rfl
  | succ i => exact pk_m1 i
theorem rf_up {a : Nat → Int32} {i x y : Int32} {k : Nat} (hi : i = nI k) (hk : k < 2 ^ 31) (hx : x = y) : upd a i.toNatClampNeg x = upd a k y := by
  rw [hi, nI_clamp hk, hx]
theorem rf_at {a : Nat → Int32} {i y : Int32} {k : Nat} (hi : i = nI k) (hk : k < 2 ^ 31) (hx : a k = y) : a i.toNatClampNeg = y := by
  rw [hi, nI_clamp hk, hx]
end
section
section
variable {f0 f1 f2 f3 f4 f5 : Int32} {a1 a2 a3 a4 a5 a6 a7 a8 a9 : Nat → Int32}
def rf_nsN (N c : Nat) : Nat := rf_s (rf_s (rf_s (rf_s N (4 * c + 0) 1) (4 * c + 1) 1) (4 * c + 2) 1) (4 * c + 3) 1
theorem rf_newState {post : Int32 → St2 → Prop} {p0 p1 : Int32} {c Nx Sh Ln Tm Fe L E : Nat}
    (h3 : rf_m nI 200 a3 Nx) (h4 : rf_m rf_sg 50 a4 Sh) (h5 : rf_m nI 50 a5 Ln) (h6 : rf_m nI 50 a6 Tm) (h7 : rf_m rf_sg 50 a7 Fe)
    (hc : c < 50) (hL : L ≤ 100) (hE : E ≤ 100) (e0 : p0 = nI L) (e1 : p1 = rf_sg E)
    (H : ∀ b3 b4 b5 b6 b7, rf_m nI 200 b3 (rf_nsN Nx c) → rf_m rf_sg 50 b4 (rf_s Sh c 1) → rf_m nI 50 b5 (rf_s Ln c (L + 1)) → rf_m nI 50 b6 (rf_s Tm c 1) → rf_m rf_sg 50 b7 (rf_s Fe c (E + 1)) → post (nI c) (f0, f1, f2, nI (c + 1), f4, f5, a1, a2, b3, b4, b5, b6, b7, a8, a9)) :
    wpX_newState post (f0, f1, f2, nI c, f4, f5, a1, a2, a3, a4, a5, a6, a7, a8, a9) p0 p1 := by
  subst e0 e1
  have hc' : c < 2 ^ 31 := by omega
  have st : ∀ n i b3 b4 b5 b6 b7, i < 4 → wX_newState_48 post (nI c) f0 f1 f2 (nI (c + 1)) f4 f5 n (nI (i + 1)) a1 a2 (upd b3 (4 * c + i) 0) b4 b5 b6 b7 a8 a9 → wX_newState_48 post (nI c) f0 f1 f2 (nI (c + 1)) f4 f5 (n + 1) (nI i) a1 a2 b3 b4 b5 b6 b7 a8 a9 :=
    fun n i b3 b4 b5 b6 b7 hi h => pk_le 4 i (fun z => absurd z (by omega)) (fun _ => ⟨pk_in (4 * c + i) 200 (by omega) (rf_4 c i), nm_r (rf_up (rf_4 c i) (by omega) rfl) (nm_r (nI_1 i) h)⟩)
  refine nm_r (nI_1 c) ⟨pk_in c 50 hc, nm_r (rf_up rfl hc' (rf_b hL)) ⟨pk_in c 50 hc, nm_r (rf_up rfl hc' (rf_bS hE)) ⟨pk_in c 50 hc, nm_r (rf_up rfl hc' rfl) ⟨pk_in c 50 hc, nm_r (rf_up rfl hc' rfl) ⟨5, ?_⟩⟩⟩⟩⟩
  refine st 4 0 _ _ _ _ _ (by omega) (st 3 1 _ _ _ _ _ (by omega) (st 2 2 _ _ _ _ _ (by omega) (st 1 3 _ _ _ _ _ (by omega) (pk_le 4 4 (fun _ => ?_) (fun z => absurd z (by omega))))))
  have z0 : (0 : Int32) = nI 0 := rfl
  exact H _ _ _ _ _ (rf_mu (v := 0) (rf_mu (v := 0) (rf_mu (v := 0) (rf_mu (v := 0) h3 (by omega) (by omega) z0) (by omega) (by omega) z0) (by omega) (by omega) z0) (by omega) (by omega) z0) (rf_mu (v := 0) h4 hc (by omega) rfl) (rf_mu h5 hc hL rfl) (rf_mu (v := 0) h6 hc (by omega) z0) (rf_mu h7 hc hE rfl)
/-- copy one letter's way -/
def rf_cp (to c j Nx : Nat) (K : Nat → Bool) : Bool := rf_r Nx (4 * to + j) fun v => K (rf_s Nx (4 * c + j) (v + 1))
def rf_split (c to L Nx Sh Ln Tm Fe : Nat) (K : Nat → Nat → Nat → Nat → Nat → Bool) : Bool :=
  rf_r Fe to fun e => cond (Nat.ble c 40) (cond (Nat.ble L 100) (rf_cp to c 0 (rf_nsN Nx c) fun N0 => rf_cp to c 1 N0 fun N1 => rf_cp to c 2 N1 fun N2 => rf_cp to c 3 N2 fun N3 =>
    rf_r (rf_s Sh c 1) to fun so => K N3 (rf_s (rf_s (rf_s Sh c 1) c (so + 1)) to (c + 2)) (rf_s Ln c (L + 1)) (rf_s Tm c 1) (rf_s Fe c (e + 1))) false) false
theorem rf_split_ok {post : Int32 → St2 → Prop} {p0 p1 : Int32} {c to L Nx Sh Ln Tm Fe : Nat} {K : Nat → Nat → Nat → Nat → Nat → Bool}
    (h3 : rf_m nI 200 a3 Nx) (h4 : rf_m rf_sg 50 a4 Sh) (h5 : rf_m nI 50 a5 Ln) (h6 : rf_m nI 50 a6 Tm) (h7 : rf_m rf_sg 50 a7 Fe)
    (e0 : p0 = nI to) (e1 : p1 = nI L) (hx : rf_split c to L Nx Sh Ln Tm Fe K = true)
    (H : ∀ N S Lq T F b3 b4 b5 b6 b7, rf_m nI 200 b3 N → rf_m rf_sg 50 b4 S → rf_m nI 50 b5 Lq → rf_m nI 50 b6 T → rf_m rf_sg 50 b7 F → c ≤ 40 → K N S Lq T F = true → post (nI c) (f0, f1, f2, nI (c + 1), f4, f5, a1, a2, b3, b4, b5, b6, b7, a8, a9)) :
    wpX_split post (f0, f1, f2, nI c, f4, f5, a1, a2, a3, a4, a5, a6, a7, a8, a9) p0 p1 := by
  subst e0 e1
  obtain ⟨e, ht, he, ha, hx⟩ := rf_rd h7 hx
  obtain ⟨hc, hx⟩ := rf_ck hx
  obtain ⟨hL, hx⟩ := rf_ck hx
  unfold wpX_split
  refine ⟨pk_in to 50 ht, rf_newState h3 h4 h5 h6 h7 (by omega) hL he rfl (rf_at rfl (by omega) ha) ?_⟩
  intro b3 b4 b5 b6 b7 k3 k4 k5 k6 k7
  have st : ∀ n i b3 N (K : Nat → Bool), i < 4 → rf_m nI 200 b3 N → rf_cp to c i N K = true → (∀ b3' N', rf_m nI 200 b3' N' → K N' = true → wX_split_15 post (nI to) (nI c) f0 f1 f2 (nI (c + 1)) f4 f5 n (nI (i + 1)) a1 a2 b3' b4 b5 b6 b7 a8 a9) → wX_split_15 post (nI to) (nI c) f0 f1 f2 (nI (c + 1)) f4 f5 (n + 1) (nI i) a1 a2 b3 b4 b5 b6 b7 a8 a9 := by
    intro n i b3 N K hi k3 hx h
    obtain ⟨v, hk, hv, ha, hx⟩ := rf_rd k3 hx
    exact pk_le 4 i (fun z => absurd z (by omega)) (fun _ => ⟨pk_in (4 * to + i) 200 (by omega) (rf_4 to i), pk_in (4 * c + i) 200 (by omega) (rf_4 c i), nm_r (rf_up (rf_4 c i) (by omega) (by rw [vp_nar_byte, rf_at (rf_4 to i) (by omega) ha, rf_b hv])) (nm_r (nI_1 i) (h _ _ (rf_mu k3 (by omega) hv rfl) hx))⟩)
  refine ⟨5, ?_⟩
  refine st 4 0 b3 _ _ (by omega) k3 hx (fun b3 N k3 hx => st 3 1 b3 _ _ (by omega) k3 hx (fun b3 N k3 hx => st 2 2 b3 _ _ (by omega) k3 hx (fun b3 N k3 hx => st 1 3 b3 _ _ (by omega) k3 hx (fun b3 N k3 hx => ?_))))
  obtain ⟨so, hk, hv, ha, hx⟩ := rf_rd k4 hx
  exact pk_le 4 4 (fun _ => ⟨pk_in to 50 ht, pk_in c 50 (by omega), nm_r (rf_up rfl (by omega) (by rw [vp_nar_byte, rf_at rfl (by omega) ha, rf_bS hv])) ⟨pk_in to 50 ht, nm_r (rf_up rfl (by omega) (rf_b (by omega))) (H _ _ _ _ _ _ _ _ _ _ k3 (rf_mu (v := c + 1) (rf_mu k4 (by omega) hv rfl) ht (by omega) rfl) k5 k6 k7 hc hx)⟩⟩) (fun z => absurd z (by omega))
def rf_x143 (l fr to cp Sh : Nat) (K : Nat → Nat → Bool) : Nat → Nat → Nat → Bool
  | 0, _, _ => false
  | f + 1, s, Nx => match s with
    | 0 => K Nx (rf_s Sh fr (cp + 2))
    | s + 1 => rf_r Nx (4 * s + l) fun v => cond (Nat.beq v to) (rf_r Sh s fun s2 => rf_x143 l fr to cp Sh K f s2 (rf_s Nx (4 * s + l) (cp + 1))) (K Nx (rf_s Sh fr (cp + 2)))
theorem rf_x143_ok {post : St2 → Prop} {l fr to cp Sh : Nat} {K : Nat → Nat → Bool} (h4 : rf_m rf_sg 50 a4 Sh) (hf : fr < 50) (hcp : cp < 50) (hto : to ≤ 100)
    (H : ∀ N b3 b4, rf_m nI 200 b3 N → rf_m rf_sg 50 b4 (rf_s Sh fr (cp + 2)) → K N (rf_s Sh fr (cp + 2)) = true → post (f0, f1, f2, f3, f4, f5, a1, a2, b3, b4, a5, a6, a7, a8, a9)) :
    ∀ f s Nx b3, rf_m nI 200 b3 Nx → rf_x143 l fr to cp Sh K f s Nx = true → wX_extend_143 post (nI l) (nI fr) (nI to) (nI cp) f0 f1 f2 f3 f4 f5 f (rf_sg s) a1 a2 b3 a4 a5 a6 a7 a8 a9 := by
  intro f
  induction f with
  | zero => intro s Nx b3 k3 hx; exact absurd hx Bool.false_ne_true
  | succ f ih =>
    intro s Nx b3 k3 hx
    have fin : ∀ N b3, rf_m nI 200 b3 N → K N (rf_s Sh fr (cp + 2)) = true → vp_in (nI fr) 50 ∧ ∀ b4 : Nat → Int32, b4 = upd a4 (nI fr).toNatClampNeg (nI cp).toInt8.toInt32 → post (f0, f1, f2, f3, f4, f5, a1, a2, b3, b4, a5, a6, a7, a8, a9) :=
      fun N b3 k3 hx => ⟨pk_in fr 50 hf, nm_r (rf_up rfl (by omega) (rf_b (by omega))) (H _ _ _ k3 (rf_mu (v := cp + 1) h4 hf (by omega) rfl) hx)⟩
    cases s with
    | zero => exact br_t (show rf_sg 0 < 0 by decide) (fin _ _ k3 hx)
    | succ s =>
      obtain ⟨v, hk, hv, ha, hx⟩ := rf_rd k3 hx
      show wX_extend_143 post (nI l) (nI fr) (nI to) (nI cp) f0 f1 f2 f3 f4 f5 (f + 1) (nI s) a1 a2 b3 a4 a5 a6 a7 a8 a9
      refine br_f (nI_pos (by omega)) ⟨pk_in (4 * s + l) 200 hk (rf_4 s l), ?_⟩
      refine pk_eq v to (fun z => ?_) (fun z => ?_) (rf_at (rf_4 s l) (by omega) ha)
      · rw [rf_et z] at hx
        obtain ⟨s2, hk2, hv2, ha2, hx⟩ := rf_rd h4 hx
        exact ⟨pk_in (4 * s + l) 200 hk (rf_4 s l), nm_r (rf_up (rf_4 s l) (by omega) (rf_b (by omega))) ⟨pk_in s 50 hk2, nm_r (rf_at rfl (by omega) ha2) (ih _ _ _ (rf_mu k3 hk (by omega) rfl) hx)⟩⟩
      · rw [rf_ef z] at hx
        exact fin _ _ k3 hx
def rf_x27 (l fr c Sh Ln Tm Fe : Nat) (K : Nat → Nat → Nat → Nat → Nat → Nat → Bool) : Nat → Nat → Nat → Bool
  | 0, _, _ => false
  | f + 1, s, Nx => match s with
    | 0 => K c Nx (rf_s Sh fr 2) Ln Tm Fe
    | s + 1 => rf_r Nx (4 * s + l) fun v => match v with
      | 0 => rf_r Sh s fun s2 => rf_x27 l fr c Sh Ln Tm Fe K f s2 (rf_s Nx (4 * s + l) (fr + 1))
      | t + 1 => rf_r Ln (t + 1) fun lt => rf_r Ln s fun ls => cond (Nat.beq lt (ls + 1)) (K c Nx (rf_s Sh fr (t + 3)) Ln Tm Fe)
          (rf_split c (t + 1) (ls + 1) Nx Sh Ln Tm Fe fun N S L T F => rf_x143 l fr (t + 1) c S (fun N S => K (c + 1) N S L T F) 12 (s + 1) N)
theorem rf_x27_ok {post : St2 → Prop} {l fr c Sh Ln Tm Fe : Nat} {K : Nat → Nat → Nat → Nat → Nat → Nat → Bool} (h4 : rf_m rf_sg 50 a4 Sh) (h5 : rf_m nI 50 a5 Ln) (h6 : rf_m nI 50 a6 Tm) (h7 : rf_m rf_sg 50 a7 Fe) (hf : fr < 50)
    (H : ∀ c' N S L T F b3 b4 b5 b6 b7, rf_m nI 200 b3 N → rf_m rf_sg 50 b4 S → rf_m nI 50 b5 L → rf_m nI 50 b6 T → rf_m rf_sg 50 b7 F → K c' N S L T F = true → post (f0, f1, f2, nI c', f4, f5, a1, a2, b3, b4, b5, b6, b7, a8, a9)) :
    ∀ f s Nx b3, rf_m nI 200 b3 Nx → rf_x27 l fr c Sh Ln Tm Fe K f s Nx = true → wX_extend_27 post (nI l) (nI fr) f0 f1 f2 (nI c) f4 f5 f (rf_sg s) a1 a2 b3 a4 a5 a6 a7 a8 a9 := by
  intro f
  induction f with
  | zero => intro s Nx b3 k3 hx; exact absurd hx Bool.false_ne_true
  | succ f ih =>
    intro s Nx b3 k3 hx
    cases s with
    | zero => exact br_t (show rf_sg 0 < 0 by decide) (br_f (show ¬ 0 ≤ rf_sg 0 by decide) ⟨pk_in fr 50 hf, nm_r (rf_up rfl (by omega) rfl) (H _ _ _ _ _ _ _ _ _ _ _ k3 (rf_mu (v := 1) h4 hf (by omega) rfl) h5 h6 h7 hx)⟩)
    | succ s =>
      obtain ⟨v, hk, hv, ha, hx⟩ := rf_rd k3 hx
      show wX_extend_27 post (nI l) (nI fr) f0 f1 f2 (nI c) f4 f5 (f + 1) (nI s) a1 a2 b3 a4 a5 a6 a7 a8 a9
      refine br_f (nI_pos (by omega)) ⟨pk_in (4 * s + l) 200 hk (rf_4 s l), ?_⟩
      cases v with
      | zero =>
        obtain ⟨s2, hk2, hv2, ha2, hx⟩ := rf_rd h4 hx
        refine br_t (rf_at (rf_4 s l) (by omega) ha) ?_
        exact ⟨pk_in (4 * s + l) 200 hk (rf_4 s l), nm_r (rf_up (rf_4 s l) (by omega) (rf_b (by omega))) ⟨pk_in s 50 hk2, nm_r (rf_at rfl (by omega) ha2) (ih _ _ _ (rf_mu k3 hk (by omega) rfl) hx)⟩⟩
      | succ t =>
        obtain ⟨lt, hk1, hv1, ha1, hx⟩ := rf_rd h5 hx
        obtain ⟨ls, hk2, hv2, ha2, hx⟩ := rf_rd h5 hx
        refine pk_eq (t + 1) 0 (fun z => absurd z (by omega)) (fun _ => ?_) (rf_at (rf_4 s l) (by omega) ha)
        refine br_t (nI_pos' (by omega)) ⟨pk_in (4 * s + l) 200 hk (rf_4 s l), nm_r (rf_at (rf_4 s l) (by omega) ha) ⟨pk_in (t + 1) 50 hk1, pk_in s 50 hk2, ?_⟩⟩
        refine pk_eq lt (ls + 1) (fun z => ?_) (fun z => ?_) (rf_at rfl (by omega) ha1) (by rw [rf_at rfl (by omega) ha2, nI_1])
        · rw [rf_et z] at hx
          exact ⟨pk_in fr 50 hf, nm_r (rf_up rfl (by omega) (rf_b (by omega))) (H _ _ _ _ _ _ _ _ _ _ _ k3 (rf_mu (v := t + 2) h4 hf (by omega) rfl) h5 h6 h7 hx)⟩
        · rw [rf_ef z] at hx
          refine ⟨pk_in s 50 hk2, rf_split_ok k3 h4 h5 h6 h7 rfl (by rw [rf_at rfl (by omega) ha2, nI_1]) hx ?_⟩
          intro N S L T F b3 b4 b5 b6 b7 k3 k4 k5 k6 k7 hc hx
          exact ⟨12, rf_x143_ok k4 hf (by omega) (by omega) (fun N b3 b4 k3 k4 hx => H (c + 1) N _ L T F _ _ _ _ _ k3 k4 k5 k6 k7 hx) 12 (s + 1) N b3 k3 hx⟩
def rf_ext (l p c ls Nx Sh Ln Tm Fe : Nat) (K : Nat → Nat → Nat → Nat → Nat → Nat → Nat → Bool) : Bool :=
  cond (Nat.ble c 40) (rf_x27 l c (c + 1) (rf_s Sh c 1) (rf_s Ln c (p + 2)) (rf_s (rf_s Tm c 1) c 2) (rf_s Fe c (p + 2)) (fun c' N S L T F => K c' c N S L T F) 12 (ls + 1) (rf_nsN Nx c)) false
theorem rf_ext_ok {post : St2 → Prop} {p0 p1 : Int32} {l p c ls Nx Sh Ln Tm Fe : Nat} {K : Nat → Nat → Nat → Nat → Nat → Nat → Nat → Bool}
    (h3 : rf_m nI 200 a3 Nx) (h4 : rf_m rf_sg 50 a4 Sh) (h5 : rf_m nI 50 a5 Ln) (h6 : rf_m nI 50 a6 Tm) (h7 : rf_m rf_sg 50 a7 Fe)
    (hp : p < 24) (e0 : p0 = nI l) (e1 : p1 = nI p) (hx : rf_ext l p c ls Nx Sh Ln Tm Fe K = true)
    (H : ∀ c' N S L T F b3 b4 b5 b6 b7, rf_m nI 200 b3 N → rf_m rf_sg 50 b4 S → rf_m nI 50 b5 L → rf_m nI 50 b6 T → rf_m rf_sg 50 b7 F → K c' c N S L T F = true → post (f0, f1, f2, nI c', nI c, f5, a1, a2, b3, b4, b5, b6, b7, a8, a9)) :
    wpX_extend post (f0, f1, f2, nI c, nI ls, f5, a1, a2, a3, a4, a5, a6, a7, a8, a9) p0 p1 := by
  subst e0 e1
  obtain ⟨hc, hx⟩ := rf_ck hx
  unfold wpX_extend
  refine rf_newState h3 h4 h5 h6 h7 (L := p + 1) (E := p + 1) (by omega) (by omega) (by omega) (nI_1 p) rfl ?_
  intro b3 b4 b5 b6 b7 k3 k4 k5 k6 k7
  exact ⟨pk_in c 50 (by omega), nm_r (rf_up rfl (by omega) rfl) ⟨12, rf_x27_ok k4 k5 (rf_mu (v := 1) k6 (by omega) (by omega) rfl) k7 (by omega) (fun c' N S L T F b3 b4 b5 b6 b7 k3 k4 k5 k6 k7 hx => H c' N S L T F b3 b4 b5 b6 b7 k3 k4 k5 k6 k7 hx) 12 (ls + 1) _ b3 k3 hx⟩⟩
end
end
section
section
variable {f0 f1 f2 f3 f4 f5 : Int32} {a1 a2 a3 a4 a5 a6 a7 a8 a9 : Nat → Int32}
/-! orderByLength -/
def rf_o12 (i Ln : Nat) (K : Nat → Bool) : Nat → Nat → Bool
  | 0, By => K (rf_s By 0 (i + 1))
  | t + 1, By => rf_r By t fun b => rf_r Ln b fun lb => rf_r Ln i fun li => cond (Nat.ble lb li) (K (rf_s By (t + 1) (i + 1))) (rf_o12 i Ln K t (rf_s By (t + 1) (b + 1)))
theorem rf_o12_ok {post : St2 → Prop} {J : Int32 → (Nat → Int32) → (Nat → Int32) → (Nat → Int32) → (Nat → Int32) → (Nat → Int32) → (Nat → Int32) → (Nat → Int32) → (Nat → Int32) → (Nat → Int32) → Prop} {i Ln : Nat} {K : Nat → Bool} (h5 : rf_m nI 50 a5 Ln) (hi : i < 50)
    (H : ∀ B b9, rf_m nI 50 b9 B → K B = true → J (nI (i + 1)) a1 a2 a3 a4 a5 a6 a7 a8 b9) :
    ∀ t B b9, t < 50 → rf_m nI 50 b9 B → rf_o12 i Ln K t B = true → wX_orderByLength_12 post J (nI i) f0 f1 f2 f3 f4 f5 (t + 1) (nI t) a1 a2 a3 a4 a5 a6 a7 a8 b9 := by
  have fin : ∀ t B b9, t < 50 → rf_m nI 50 b9 B → K (rf_s B t (i + 1)) = true → wX_orderByLength_58 post J (nI i) (nI t) f0 f1 f2 f3 f4 f5 a1 a2 a3 a4 a5 a6 a7 a8 b9 := by
    intro t B b9 ht k9 hx
    unfold wX_orderByLength_58
    exact ⟨pk_in t 50 ht, nm_r (rf_up rfl (by omega) (rf_b (by omega))) (nm_r (nI_1 i) (H _ _ (rf_mu k9 ht (by omega) rfl) hx))⟩
  intro t
  induction t with
  | zero =>
    intro B b9 ht k9 hx
    exact br_t (show nI 0 ≤ 0 by decide) (fin 0 B b9 ht k9 hx)
  | succ t ih =>
    intro B b9 ht k9 hx
    obtain ⟨b, hk1, hv1, ha1, hx⟩ := rf_rd k9 hx
    obtain ⟨lb, hk2, hv2, ha2, hx⟩ := rf_rd h5 hx
    obtain ⟨li, hk3, hv3, ha3, hx⟩ := rf_rd h5 hx
    have eb : b9 (nI (t + 1) - 1).toNatClampNeg = nI b := rf_at (nI_pred t) (by omega) ha1
    refine br_f (nI_nle (by omega) (by omega)) ⟨pk_in t 50 (by omega) (nI_pred t), pk_in b 50 hk2 eb, pk_in i 50 hi, ?_⟩
    refine pk_le lb li (fun z => ?_) (fun z => ?_) (rf_at eb (by omega) ha2) (rf_at rfl (by omega) ha3)
    · rw [rf_ct z] at hx
      exact fin _ _ _ ht k9 hx
    · rw [rf_cf z] at hx
      exact ⟨pk_in t 50 (by omega) (nI_pred t), pk_in (t + 1) 50 ht, nm_r (rf_up rfl (by omega) (by rw [vp_nar_byte, eb, rf_b (by omega)])) (nm_r (pk_m1 t) (ih _ _ (by omega) (rf_mu k9 ht (by omega) rfl) hx))⟩
def rf_o2 (c Ln : Nat) (K : Nat → Bool) : Nat → Nat → Nat → Bool
  | 0, _, _ => false
  | f + 1, i, By => cond (Nat.ble c i) (K By) (rf_o12 i Ln (fun By => rf_o2 c Ln K f (i + 1) By) i By)
theorem rf_o2_ok {post : St2 → Prop} {c Ln : Nat} {K : Nat → Bool} (h5 : rf_m nI 50 a5 Ln) (hc : c ≤ 50)
    (H : ∀ B b9, rf_m nI 50 b9 B → K B = true → post (f0, f1, f2, nI c, f4, f5, a1, a2, a3, a4, a5, a6, a7, a8, b9)) :
    ∀ f i B b9, i ≤ 50 → rf_m nI 50 b9 B → rf_o2 c Ln K f i B = true → wX_orderByLength_2 post f0 f1 f2 (nI c) f4 f5 f (nI i) a1 a2 a3 a4 a5 a6 a7 a8 b9 := by
  intro f
  induction f with
  | zero => intro i B b9 hi k9 hx; exact absurd hx Bool.false_ne_true
  | succ f ih =>
    intro i B b9 hi k9 hx
    have hx : cond (Nat.ble c i) (K B) (rf_o12 i Ln (fun By => rf_o2 c Ln K f (i + 1) By) i B) = true := hx
    refine pk_le c i (fun z => ?_) (fun z => ?_)
    · rw [rf_ct z] at hx
      exact H _ _ k9 hx
    · rw [rf_cf z] at hx
      exact ⟨i + 1, rf_o12_ok h5 (by omega) (fun B b9 k9 hx => ih (i + 1) B b9 (by omega) k9 hx) i B b9 (by omega) k9 hx⟩
theorem rf_order_ok {post : St2 → Prop} {c Ln f : Nat} {K : Nat → Bool} (h5 : rf_m nI 50 a5 Ln) (hc : c ≤ 50) (hx : rf_o2 c Ln K f 0 0 = true)
    (H : ∀ B b9, rf_m nI 50 b9 B → K B = true → post (f0, f1, f2, nI c, f4, f5, a1, a2, a3, a4, a5, a6, a7, a8, b9)) :
    wpX_orderByLength post (f0, f1, f2, nI c, f4, f5, a1, a2, a3, a4, a5, a6, a7, a8, a9) := by
  unfold wpX_orderByLength
  exact ⟨f, rf_o2_ok h5 hc H f 0 0 a9 (by omega) rf_m0 hx⟩
/-! countTimes -/
def rf_t7 (By Sh : Nat) (K : Nat → Bool) : Nat → Nat → Bool
  | 0, Tm => K Tm
  | i + 1, Tm => rf_r By (i + 1) fun s => rf_r Sh s fun q => match q with
    | 0 => false
    | q + 1 => rf_r Tm q fun tq => rf_r Tm s fun ts => cond (Nat.ble (tq + ts) 100) (rf_t7 By Sh K i (rf_s Tm q (tq + ts + 1))) false
theorem rf_t7_ok {post : St2 → Prop} {By Sh : Nat} {K : Nat → Bool} (h4 : rf_m rf_sg 50 a4 Sh) (h9 : rf_m nI 50 a9 By)
    (H : ∀ T b6, rf_m nI 50 b6 T → K T = true → post (f0, f1, f2, f3, f4, f5, a1, a2, a3, a4, a5, b6, a7, a8, a9)) :
    ∀ i T b6, rf_m nI 50 b6 T → rf_t7 By Sh K i T = true → wX_countTimes_7 post f0 f1 f2 f3 f4 f5 (i + 1) (nI i) a1 a2 a3 a4 a5 b6 a7 a8 a9 := by
  intro i
  induction i with
  | zero => intro T b6 k6 hx; exact br_t (show nI 0 ≤ 0 by decide) (H _ _ k6 hx)
  | succ i ih =>
    intro T b6 k6 hx
    obtain ⟨s, hk1, hv1, ha1, hx⟩ := rf_rd h9 hx
    obtain ⟨q, hk2, hv2, ha2, hx⟩ := rf_rd h4 hx
    cases q with
    | zero => exact absurd hx Bool.false_ne_true
    | succ q =>
      obtain ⟨tq, hk3, hv3, ha3, hx⟩ := rf_rd k6 hx
      obtain ⟨ts, hk4, hv4, ha4, hx⟩ := rf_rd k6 hx
      obtain ⟨hc, hx⟩ := rf_ck hx
      have e2 : a4 (nI s).toNatClampNeg = nI q := rf_at rfl (by omega) ha2
      have e3 : b6 (a4 (nI s).toNatClampNeg).toNatClampNeg = nI tq := rf_at e2 (by omega) ha3
      have e4 : b6 (nI s).toNatClampNeg = nI ts := rf_at rfl (by omega) ha4
      refine br_f (nI_nle (by omega) (by omega)) ⟨pk_in (i + 1) 50 hk1, nm_r (rf_at rfl (by omega) ha1) ⟨pk_in s 50 hk2, pk_in q 50 hk3 e2, pk_in s 50 hk2, pk_in q 50 hk3 e2, nm_r (rf_up e2 (by omega) (by rw [e3, e4, nI_add, rf_b hc])) (nm_r (pk_m1 i) ?_)⟩⟩
      exact ih _ _ (rf_mu k6 hk3 hc rfl) hx
theorem rf_times_ok {post : St2 → Prop} {c By Sh Tm : Nat} {K : Nat → Bool} (h4 : rf_m rf_sg 50 a4 Sh) (h6 : rf_m nI 50 a6 Tm) (h9 : rf_m nI 50 a9 By) (hx : rf_t7 By Sh K c Tm = true)
    (H : ∀ T b6, rf_m nI 50 b6 T → K T = true → post (f0, f1, f2, nI (c + 1), f4, f5, a1, a2, a3, a4, a5, b6, a7, a8, a9)) :
    wpX_countTimes post (f0, f1, f2, nI (c + 1), f4, f5, a1, a2, a3, a4, a5, a6, a7, a8, a9) := by
  unfold wpX_countTimes
  exact nm_r (nI_pred c) ⟨c + 1, rf_t7_ok h4 h9 H c Tm a6 h6 hx⟩
/-! countWords -/
def rf_w1 (Nx Wo s j w : Nat) (K : Nat → Bool) : Bool := rf_r Nx (4 * s + j) fun t => match t with
  | 0 => K w
  | t + 1 => rf_r Wo (t + 1) fun x => K (w + (1 + x))
def rf_w7 (By Nx : Nat) (K : Nat → Bool) : Nat → Nat → Bool
  | 0, Wo => K Wo
  | i + 1, Wo => rf_r By i fun s => rf_w1 Nx Wo s 0 0 fun w => rf_w1 Nx Wo s 1 w fun w => rf_w1 Nx Wo s 2 w fun w => rf_w1 Nx Wo s 3 w fun w => cond (Nat.ble w 100) (rf_w7 By Nx K i (rf_s Wo s (w + 1))) false
theorem rf_add1 {x : Int32} {w y : Nat} (h : x = nI y) : nI w + (1 + x) = nI (w + (1 + y)) := by
  rw [h, show (1 : Int32) = nI 1 from rfl, nI_add, nI_add]
theorem rf_w1_ok {post : St2 → Prop} {J : Int32 → (Nat → Int32) → (Nat → Int32) → (Nat → Int32) → (Nat → Int32) → (Nat → Int32) → (Nat → Int32) → (Nat → Int32) → (Nat → Int32) → (Nat → Int32) → Prop} {x1 : Int32} {Nx Wo s n j w : Nat} {K : Nat → Bool} (h3 : rf_m nI 200 a3 Nx) (h8 : rf_m nI 50 a8 Wo) (hj : j < 4) (hx : rf_w1 Nx Wo s j w K = true)
    (H : ∀ w', s < 50 → K w' = true → wX_countWords_23 post J x1 (nI s) f0 f1 f2 f3 f4 f5 a1 a2 a3 a4 a5 a6 a7 a8 a9 n (nI w') (nI (j + 1))) :
    wX_countWords_23 post J x1 (nI s) f0 f1 f2 f3 f4 f5 a1 a2 a3 a4 a5 a6 a7 a8 a9 (n + 1) (nI w) (nI j) := by
  obtain ⟨t, hk, hv, ha, hx⟩ := rf_rd h3 hx
  refine pk_le 4 j (fun z => absurd z (by omega)) (fun _ => ⟨pk_in (4 * s + j) 200 hk (rf_4 s j), nm_r (rf_at (rf_4 s j) (by omega) ha) ?_⟩)
  cases t with
  | zero => exact br_t rfl (nm_r (nI_1 j) (H w (by omega) hx))
  | succ t =>
    obtain ⟨x, hk2, hv2, ha2, hx⟩ := rf_rd h8 hx
    exact br_f (nI_ne0 (by omega) (by omega)) ⟨pk_in (t + 1) 50 hk2, nm_r (rf_add1 (rf_at rfl (by omega) ha2)) (nm_r (nI_1 j) (H _ (by omega) hx))⟩
theorem rf_w7_ok {post : St2 → Prop} {By Nx : Nat} {K : Nat → Bool} (h3 : rf_m nI 200 a3 Nx) (h9 : rf_m nI 50 a9 By)
    (H : ∀ W b8, rf_m nI 50 b8 W → K W = true → post (f0, f1, f2, f3, f4, f5, a1, a2, a3, a4, a5, a6, a7, b8, a9)) :
    ∀ i W b8, rf_m nI 50 b8 W → rf_w7 By Nx K i W = true → wX_countWords_7 post f0 f1 f2 f3 f4 f5 (i + 1) (rf_sg i) a1 a2 a3 a4 a5 a6 a7 b8 a9 := by
  intro i
  induction i with
  | zero => intro W b8 k8 hx; exact br_t (show rf_sg 0 < 0 by decide) (H _ _ k8 hx)
  | succ i ih =>
    intro W b8 k8 hx
    obtain ⟨s, hk1, hv1, ha1, hx⟩ := rf_rd h9 hx
    show wX_countWords_7 post f0 f1 f2 f3 f4 f5 (i + 1 + 1) (nI i) a1 a2 a3 a4 a5 a6 a7 b8 a9
    refine br_f (nI_pos (by omega)) ⟨pk_in i 50 hk1, nm_r (rf_at rfl (by omega) ha1) ⟨5, ?_⟩⟩
    refine rf_w1_ok (j := 0) (w := 0) h3 k8 (by omega) hx (fun w hs hx => rf_w1_ok h3 k8 (by omega) hx (fun w hs hx => rf_w1_ok h3 k8 (by omega) hx (fun w hs hx => rf_w1_ok h3 k8 (by omega) hx (fun w hs hx => ?_))))
    obtain ⟨hc, hx⟩ := rf_ck hx
    exact pk_le 4 4 (fun _ => ⟨pk_in s 50 hs, nm_r (rf_up rfl (by omega) (rf_b16 w (by omega))) (nm_r (rf_dec i) (ih _ _ (rf_mu k8 hs hc rfl) hx))⟩) (fun z => absurd z (by omega))
theorem rf_words_ok {post : St2 → Prop} {c By Nx : Nat} {K : Nat → Bool} (h3 : rf_m nI 200 a3 Nx) (h9 : rf_m nI 50 a9 By) (hx : rf_w7 By Nx K (c + 1) 0 = true)
    (H : ∀ W b8, rf_m nI 50 b8 W → K W = true → post (f0, f1, f2, nI (c + 1), f4, f5, a1, a2, a3, a4, a5, a6, a7, b8, a9)) :
    wpX_countWords post (f0, f1, f2, nI (c + 1), f4, f5, a1, a2, a3, a4, a5, a6, a7, a8, a9) := by
  unfold wpX_countWords
  exact nm_r (nI_pred c) ⟨c + 1 + 1, rf_w7_ok h3 h9 H (c + 1) 0 a8 rf_m0 hx⟩
/-! build -/
/-- letter k of the text T -/
def rf_l (T k : Nat) : Nat := Nat.land (Nat.shiftRight T (Nat.mul 2 k)) 3
def rf_fin (c Nx Sh Ln Tm Fe : Nat) (K : Nat → Nat → Nat → Nat → Nat → Nat → Nat → Bool) : Bool := match c with
  | 0 => false
  | c + 1 => cond (Nat.ble (c + 1) 50) (rf_o2 (c + 1) Ln (fun By => rf_t7 By Sh (fun Tm => rf_w7 By Nx (fun Wo => K (c + 1) Nx Sh Ln Tm Fe Wo) (c + 1) 0) c Tm) 12 0 0) false
def rf_b30 (T n : Nat) (K : Nat → Nat → Nat → Nat → Nat → Nat → Nat → Bool) : Nat → Nat → Nat → Nat → Nat → Nat → Nat → Nat → Nat → Bool
  | 0, _, _, _, _, _, _, _, _ => false
  | f + 1, p, c, ls, Nx, Sh, Ln, Tm, Fe => cond (Nat.ble n p) (rf_fin c Nx Sh Ln Tm Fe K) (rf_ext (rf_l T p) p c ls Nx Sh Ln Tm Fe fun c ls Nx Sh Ln Tm Fe => rf_b30 T n K f (p + 1) c ls Nx Sh Ln Tm Fe)
def rf_build (T n : Nat) (K : Nat → Nat → Nat → Nat → Nat → Nat → Nat → Bool) : Bool := rf_b30 T n K 8 0 1 0 (rf_nsN 0 0) (rf_s 0 0 1) (rf_s 0 0 1) (rf_s 0 0 1) (rf_s 0 0 1)
/-- what the seven packed arrays say of the object's -/
def rf_P (Nx Sh Ln Tm Fe Wo : Nat) (a3 a4 a5 a6 a7 a8 : Nat → Int32) : Prop := rf_m nI 200 a3 Nx ∧ rf_m rf_sg 50 a4 Sh ∧ rf_m nI 50 a5 Ln ∧ rf_m nI 50 a6 Tm ∧ rf_m rf_sg 50 a7 Fe ∧ rf_m nI 50 a8 Wo
theorem rf_b30_ok {post : St2 → Prop} {T n : Nat} {K : Nat → Nat → Nat → Nat → Nat → Nat → Nat → Bool} (hn : n ≤ 24) (ht : ∀ k, k < n → a1 k = nI (rf_l T k))
    (H : ∀ c ls N S L T F W b3 b4 b5 b6 b7 b8 b9, rf_P N S L T F W b3 b4 b5 b6 b7 b8 → c ≤ 50 → K c N S L T F W = true → post (nI n, f1, f2, nI c, nI ls, f5, a1, a2, b3, b4, b5, b6, b7, b8, b9)) :
    ∀ f p c ls Nx Sh Ln Tm Fe b3 b4 b5 b6 b7, p ≤ n → rf_m nI 200 b3 Nx → rf_m rf_sg 50 b4 Sh → rf_m nI 50 b5 Ln → rf_m nI 50 b6 Tm → rf_m rf_sg 50 b7 Fe → rf_b30 T n K f p c ls Nx Sh Ln Tm Fe = true →
    wX_build_30 post f (nI p) (nI n) f1 f2 (nI c) (nI ls) f5 a1 a2 b3 b4 b5 b6 b7 a8 a9 := by
  intro f
  induction f with
  | zero => intro p c ls Nx Sh Ln Tm Fe b3 b4 b5 b6 b7 hp k3 k4 k5 k6 k7 hx; exact absurd hx Bool.false_ne_true
  | succ f ih =>
    intro p c ls Nx Sh Ln Tm Fe b3 b4 b5 b6 b7 hp k3 k4 k5 k6 k7 hx
    have hx : cond (Nat.ble n p) (rf_fin c Nx Sh Ln Tm Fe K) (rf_ext (rf_l T p) p c ls Nx Sh Ln Tm Fe fun c ls Nx Sh Ln Tm Fe => rf_b30 T n K f (p + 1) c ls Nx Sh Ln Tm Fe) = true := hx
    refine pk_le n p (fun z => ?_) (fun z => ?_)
    · rw [rf_ct z] at hx
      cases c with
      | zero => exact absurd hx Bool.false_ne_true
      | succ c =>
        obtain ⟨hc, hx⟩ := rf_ck (show cond (Nat.ble (c + 1) 50) (rf_o2 (c + 1) Ln (fun By => rf_t7 By Sh (fun Tm => rf_w7 By Nx (fun Wo => K (c + 1) Nx Sh Ln Tm Fe Wo) (c + 1) 0) c Tm) 12 0 0) false = true from hx)
        exact rf_order_ok k5 hc hx (fun B b9 k9 hx => rf_times_ok k4 k6 k9 hx (fun T b6 k6 hx => rf_words_ok k3 k9 hx (fun W b8 k8 hx => H _ _ _ _ _ _ _ _ _ _ _ _ _ _ _ ⟨k3, k4, k5, k6, k7, k8⟩ hc hx)))
    · rw [rf_cf z] at hx
      exact ⟨pk_in p 24 (by omega), rf_ext_ok k3 k4 k5 k6 k7 (by omega) (rf_at rfl (by omega) (ht p z)) rfl hx (fun c' N S L T F b3 b4 b5 b6 b7 k3 k4 k5 k6 k7 hx => nm_r (nI_1 p) (ih _ _ _ _ _ _ _ _ _ _ _ _ _ (by omega) k3 k4 k5 k6 k7 hx))⟩
theorem rf_build_ok {post : St2 → Prop} {T n : Nat} {K : Nat → Nat → Nat → Nat → Nat → Nat → Nat → Bool} (hn : n ≤ 24) (ht : ∀ k, k < n → a1 k = nI (rf_l T k)) (hx : rf_build T n K = true)
    (H : ∀ c ls N S L T F W b3 b4 b5 b6 b7 b8 b9, rf_P N S L T F W b3 b4 b5 b6 b7 b8 → c ≤ 50 → K c N S L T F W = true → post (nI n, f1, 1, nI c, nI ls, f5, a1, a2, b3, b4, b5, b6, b7, b8, b9)) :
    wpX_build post (nI n, f1, 0, f3, f4, f5, a1, a2, a3, a4, a5, a6, a7, a8, a9) := by
  unfold wpX_build
  refine br_t rfl ?_
  refine rf_newState (c := 0) (L := 0) (E := 0) rf_m0 rf_m0 rf_m0 rf_m0 rf_m0 (by omega) (by omega) (by omega) rfl rfl ?_
  intro b3 b4 b5 b6 b7 k3 k4 k5 k6 k7
  exact ⟨8, rf_b30_ok hn ht H 8 0 1 0 _ _ _ _ _ b3 b4 b5 b6 b7 (by omega) k3 k4 k5 k6 k7 hx⟩
theorem rf_built {post : St2 → Prop} (h : post (f0, f1, 1, f3, f4, f5, a1, a2, a3, a4, a5, a6, a7, a8, a9)) : wpX_build post (f0, f1, 1, f3, f4, f5, a1, a2, a3, a4, a5, a6, a7, a8, a9) := by
  unfold wpX_build
  exact br_f (by decide) h
end
end
section
section
variable {f0 f1 f2 f3 f4 f5 : Int32} {a1 a2 a3 a4 a5 a6 a7 a8 a9 : Nat → Int32}
theorem rf_4e {x : Int32} {c i : Nat} (h : x = nI i) : (4 : Int32) * nI c + x = nI (4 * c + i) := by
  rw [h, rf_4]
/-! longest -/
def rf_lg (t c Ln Tm : Nat) (K : Nat → Bool) : Nat → Nat → Nat → Bool
  | 0, _, _ => false
  | f + 1, m, s => cond (Nat.ble c s) (K m) (rf_r Tm s fun ts => cond (Nat.ble t ts) (rf_r Ln s fun ln => cond (Nat.ble ln m) (rf_lg t c Ln Tm K f m (s + 1)) (rf_lg t c Ln Tm K f ln (s + 1))) (rf_lg t c Ln Tm K f m (s + 1)))
theorem rf_lg_ok {post : Int32 → St2 → Prop} {t c Ln Tm : Nat} {K : Nat → Bool} (h5 : rf_m nI 50 a5 Ln) (h6 : rf_m nI 50 a6 Tm) (hc : c ≤ 50) (ht : t ≤ 24)
    (H : ∀ m, K m = true → post (nI m) (f0, f1, f2, nI c, f4, f5, a1, a2, a3, a4, a5, a6, a7, a8, a9)) :
    ∀ f m s, m ≤ 100 → s ≤ 50 → rf_lg t c Ln Tm K f m s = true → wX_longest_22 post (nI t) f0 f1 f2 (nI c) f4 f5 a1 a2 a3 a4 a5 a6 a7 a8 a9 f (nI m) (nI s) := by
  intro f
  induction f with
  | zero => intro m s hm hs hx; exact absurd hx Bool.false_ne_true
  | succ f ih =>
    intro m s hm hs hx
    have hx : cond (Nat.ble c s) (K m) (rf_r Tm s fun ts => cond (Nat.ble t ts) (rf_r Ln s fun ln => cond (Nat.ble ln m) (rf_lg t c Ln Tm K f m (s + 1)) (rf_lg t c Ln Tm K f ln (s + 1))) (rf_lg t c Ln Tm K f m (s + 1))) = true := hx
    refine pk_le c s (fun z => ?_) (fun z => ?_)
    · rw [rf_ct z] at hx
      exact H _ hx
    · rw [rf_cf z] at hx
      obtain ⟨ts, hk1, hv1, ha1, hx⟩ := rf_rd h6 hx
      refine ⟨pk_in s 50 hk1, pk_lt ts t (fun y => ?_) (fun y => ?_) (rf_at rfl (by omega) ha1)⟩
      · rw [rf_cf y] at hx
        exact nm_r (nI_1 s) (ih _ _ hm (by omega) hx)
      · rw [rf_ct y] at hx
        obtain ⟨ln, hk2, hv2, ha2, hx⟩ := rf_rd h5 hx
        refine ⟨pk_in s 50 hk1, pk_le ln m (fun y => ?_) (fun y => ?_) (rf_at rfl (by omega) ha2)⟩
        · rw [rf_ct y] at hx
          exact nm_r (nI_1 s) (ih _ _ hm (by omega) hx)
        · rw [rf_cf y] at hx
          exact ⟨pk_in s 50 hk1, nm_r (rf_at rfl (by omega) ha2) (nm_r (nI_1 s) (ih _ _ hv2 (by omega) hx))⟩
theorem rf_longest1 {post : Int32 → St2 → Prop} {p0 : Int32} {t c Ln Tm : Nat} {K : Nat → Bool} (h5 : rf_m nI 50 a5 Ln) (h6 : rf_m nI 50 a6 Tm) (hc : c ≤ 50) (h1 : 1 ≤ t) (ht : t ≤ 24) (e0 : p0 = nI t) (hx : rf_lg t c Ln Tm K 12 0 1 = true)
    (H : ∀ m, K m = true → post (nI m) (f0, f1, 1, nI c, f4, f5, a1, a2, a3, a4, a5, a6, a7, a8, a9)) :
    wpX_longest post (f0, f1, 1, nI c, f4, f5, a1, a2, a3, a4, a5, a6, a7, a8, a9) p0 := by
  subst e0
  unfold wpX_longest
  exact pk_lt t 1 (fun z => absurd z (by omega)) (fun _ => pk_le t 24 (fun _ => rf_built ⟨12, rf_lg_ok h5 h6 hc ht H 12 0 1 (by omega) (by omega) hx⟩) (fun z => absurd z (by omega)))
theorem rf_longest0 {post : Int32 → St2 → Prop} {p0 : Int32} {T n t : Nat} {K : Nat → Nat → Nat → Nat → Nat → Nat → Nat → Bool} (hn : n ≤ 24) (htx : ∀ k, k < n → a1 k = nI (rf_l T k)) (h1 : 1 ≤ t) (ht : t ≤ 24) (e0 : p0 = nI t)
    (hx : rf_build T n (fun c N S L T F W => rf_lg t c L T (fun m => Nat.beq m n && K c N S L T F W) 12 0 1) = true)
    (H : ∀ c ls N S L T F W b3 b4 b5 b6 b7 b8 b9, rf_P N S L T F W b3 b4 b5 b6 b7 b8 → c ≤ 50 → K c N S L T F W = true → post (nI n) (nI n, f1, 1, nI c, nI ls, f5, a1, a2, b3, b4, b5, b6, b7, b8, b9)) :
    wpX_longest post (nI n, f1, 0, f3, f4, f5, a1, a2, a3, a4, a5, a6, a7, a8, a9) p0 := by
  subst e0
  unfold wpX_longest
  refine pk_lt t 1 (fun z => absurd z (by omega)) (fun _ => pk_le t 24 (fun _ => rf_build_ok hn htx hx ?_) (fun z => absurd z (by omega)))
  intro c ls N S L T F W b3 b4 b5 b6 b7 b8 b9 hP hc hx
  refine ⟨12, rf_lg_ok hP.2.2.1 hP.2.2.2.1 hc ht ?_ 12 0 1 (by omega) (by omega) hx⟩
  intro m hm
  obtain ⟨e, hm⟩ := rf_an hm
  rw [Nat.eq_of_beq_eq_true e]
  exact H _ _ _ _ _ _ _ _ _ _ _ _ _ _ _ hP hc hm
/-! unique -/
def rf_du : Nat → Int32
  | 0 => -3
  | k + 1 => nI (k + 1)
def rf_uq (T n p Nx Tm : Nat) (K : Nat → Bool) : Nat → Nat → Nat → Bool
  | 0, _, _ => false
  | f + 1, s, i => cond (Nat.ble n i) (K 0) (rf_r Nx (4 * s + rf_l T i) fun to => rf_r Tm to fun tt => cond (Nat.beq tt 1) (K (i - p + 1)) (rf_uq T n p Nx Tm K f to (i + 1)))
theorem rf_uq_ok {post : Int32 → St2 → Prop} {T n p Nx Tm : Nat} {K : Nat → Bool} (hn : n ≤ 24) (htx : ∀ k, k < n → a1 k = nI (rf_l T k)) (h3 : rf_m nI 200 a3 Nx) (h6 : rf_m nI 50 a6 Tm)
    (H : ∀ r, K r = true → post (rf_du r) (nI n, f1, f2, f3, f4, f5, a1, a2, a3, a4, a5, a6, a7, a8, a9)) :
    ∀ f s i, p ≤ i → i ≤ n → rf_uq T n p Nx Tm K f s i = true → wX_unique_23 post (nI p) (nI n) f1 f2 f3 f4 f5 a1 a2 a3 a4 a5 a6 a7 a8 a9 f (nI s) (nI i) := by
  intro f
  induction f with
  | zero => intro s i hp hi hx; exact absurd hx Bool.false_ne_true
  | succ f ih =>
    intro s i hp hi hx
    have hx : cond (Nat.ble n i) (K 0) (rf_r Nx (4 * s + rf_l T i) fun to => rf_r Tm to fun tt => cond (Nat.beq tt 1) (K (i - p + 1)) (rf_uq T n p Nx Tm K f to (i + 1))) = true := hx
    refine pk_le n i (fun z => ?_) (fun z => ?_)
    · rw [rf_ct z] at hx
      exact H 0 hx
    · rw [rf_cf z] at hx
      obtain ⟨to, hk1, hv1, ha1, hx⟩ := rf_rd h3 hx
      obtain ⟨tt, hk2, hv2, ha2, hx⟩ := rf_rd h6 hx
      have et : a1 (nI i).toNatClampNeg = nI (rf_l T i) := rf_at rfl (by omega) (htx i z)
      refine ⟨pk_in i 24 (by omega), pk_in (4 * s + rf_l T i) 200 hk1 (rf_4e et), nm_r (rf_at (rf_4e et) (by omega) ha1) ⟨pk_in to 50 hk2, ?_⟩⟩
      refine pk_eq tt 1 (fun y => ?_) (fun y => ?_) (rf_at rfl (by omega) ha2)
      · rw [rf_et y] at hx
        rw [pk_sub hp, nI_1]
        exact H _ hx
      · rw [rf_ef y] at hx
        exact nm_r (nI_1 i) (ih _ _ (by omega) (by omega) hx)
theorem rf_unique1 {post : Int32 → St2 → Prop} {p0 : Int32} {T n p Nx Tm : Nat} {K : Nat → Bool} (hn : n ≤ 24) (htx : ∀ k, k < n → a1 k = nI (rf_l T k)) (h3 : rf_m nI 200 a3 Nx) (h6 : rf_m nI 50 a6 Tm) (hp : p < n) (e0 : p0 = nI p) (hx : rf_uq T n p Nx Tm K 8 0 p = true)
    (H : ∀ r, K r = true → post (rf_du r) (nI n, f1, 1, f3, f4, f5, a1, a2, a3, a4, a5, a6, a7, a8, a9)) :
    wpX_unique post (nI n, f1, 1, f3, f4, f5, a1, a2, a3, a4, a5, a6, a7, a8, a9) p0 := by
  subst e0
  unfold wpX_unique
  exact br_f (nI_pos (by omega)) (pk_lt p n (fun _ => rf_built ⟨8, rf_uq_ok hn htx h3 h6 H 8 0 p (by omega) (by omega) hx⟩) (fun z => absurd z (by omega)))
theorem rf_unique0 {post : Int32 → St2 → Prop} {p0 : Int32} {T n p : Nat} {K : Nat → Bool} (hn : n ≤ 24) (htx : ∀ k, k < n → a1 k = nI (rf_l T k)) (hp : p < n) (e0 : p0 = nI p) (hx : rf_build T n (fun c N S L Tm F W => rf_uq T n p N Tm K 8 0 p) = true)
    (H : ∀ r g3 g4 b3 b4 b5 b6 b7 b8 b9, K r = true → post (rf_du r) (nI n, f1, 1, g3, g4, f5, a1, a2, b3, b4, b5, b6, b7, b8, b9)) :
    wpX_unique post (nI n, f1, 0, f3, f4, f5, a1, a2, a3, a4, a5, a6, a7, a8, a9) p0 := by
  subst e0
  unfold wpX_unique
  refine br_f (nI_pos (by omega)) (pk_lt p n (fun _ => rf_build_ok hn htx hx ?_) (fun z => absurd z (by omega)))
  intro c ls N S L Tm F W b3 b4 b5 b6 b7 b8 b9 hP hc hx
  exact ⟨8, rf_uq_ok hn htx hP.1 hP.2.2.2.1 (fun r hr => H r _ _ _ _ _ _ _ _ _ hr) 8 0 p (by omega) (by omega) hx⟩
theorem rf_uniqueB {post : Int32 → St2 → Prop} {p0 : Int32} {n p : Nat} (hn : n ≤ p) (hp : p ≤ 24) (e0 : p0 = nI p)
    (H : post (-2) (nI n, f1, f2, f3, f4, f5, a1, a2, a3, a4, a5, a6, a7, a8, a9)) :
    wpX_unique post (nI n, f1, f2, f3, f4, f5, a1, a2, a3, a4, a5, a6, a7, a8, a9) p0 := by
  subst e0
  unfold wpX_unique
  exact br_f (nI_pos (by omega)) (pk_lt p n (fun z => absurd z (by omega)) (fun _ => H))
/-! stateOfProbe, count, place -/
theorem rf_sp1 {post : Int32 → St2 → Prop} {n i s q Nx : Nat} {K : Nat → Bool} (h3 : rf_m nI 200 a3 Nx) (hi : i < 2) (hq : a2 i = nI q) (hx : rf_r Nx (4 * s + q) K = true)
    (H0 : K 0 = true → post 0 (f0, nI 2, f2, f3, f4, f5, a1, a2, a3, a4, a5, a6, a7, a8, a9))
    (H1 : ∀ t, K (t + 1) = true → t + 1 ≤ 100 → wX_stateOfProbe_8 post f0 (nI 2) f2 f3 f4 f5 a1 a2 a3 a4 a5 a6 a7 a8 a9 n (nI (t + 1)) (nI (i + 1))) :
    wX_stateOfProbe_8 post f0 (nI 2) f2 f3 f4 f5 a1 a2 a3 a4 a5 a6 a7 a8 a9 (n + 1) (nI s) (nI i) := by
  obtain ⟨t, hk, hv, ha, hx⟩ := rf_rd h3 hx
  have et : a2 (nI i).toNatClampNeg = nI q := rf_at rfl (by omega) hq
  refine pk_le 2 i (fun z => absurd z (by omega)) (fun _ => ⟨pk_in i 12 (by omega), pk_in (4 * s + q) 200 hk (rf_4e et), nm_r (rf_at (rf_4e et) (by omega) ha) ?_⟩)
  cases t with
  | zero => exact br_t rfl (H0 hx)
  | succ t => exact br_f (nI_ne0 (by omega) (by omega)) (nm_r (nI_1 i) (H1 t hx hv))
def rf_sp (a b Nx : Nat) (K : Nat → Bool) : Bool := rf_r Nx (4 * 0 + a) fun s => match s with
  | 0 => K 0
  | s + 1 => rf_r Nx (4 * (s + 1) + b) K
theorem rf_sp_ok {post : Int32 → St2 → Prop} {a b Nx : Nat} {K : Nat → Bool} (h3 : rf_m nI 200 a3 Nx) (hqa : a2 0 = nI a) (hqb : a2 1 = nI b) (hx : rf_sp a b Nx K = true)
    (H : ∀ s, K s = true → s ≤ 100 → post (nI s) (f0, nI 2, 1, f3, f4, f5, a1, a2, a3, a4, a5, a6, a7, a8, a9)) :
    wpX_stateOfProbe post (f0, nI 2, 1, f3, f4, f5, a1, a2, a3, a4, a5, a6, a7, a8, a9) := by
  unfold wpX_stateOfProbe
  refine rf_built ⟨3, ?_⟩
  refine rf_sp1 (i := 0) (s := 0) h3 (by omega) hqa hx (fun hx => H 0 hx (by omega)) (fun t hx ht => ?_)
  refine rf_sp1 (i := 1) h3 (by omega) hqb hx (fun hx => H 0 hx (by omega)) (fun t hx ht => ?_)
  exact pk_le 2 2 (fun _ => H _ hx ht) (fun z => absurd z (by omega))
def rf_cn (a b Nx Tm : Nat) (K : Nat → Bool) : Bool := rf_sp a b Nx fun s => match s with
  | 0 => K 0
  | s + 1 => rf_r Tm (s + 1) K
theorem rf_count_ok {post : Int32 → St2 → Prop} {a b Nx Tm : Nat} {K : Nat → Bool} (h3 : rf_m nI 200 a3 Nx) (h6 : rf_m nI 50 a6 Tm) (hqa : a2 0 = nI a) (hqb : a2 1 = nI b) (hx : rf_cn a b Nx Tm K = true)
    (H : ∀ r, K r = true → post (nI r) (f0, nI 2, 1, f3, f4, f5, a1, a2, a3, a4, a5, a6, a7, a8, a9)) :
    wpX_count post (f0, nI 2, 1, f3, f4, f5, a1, a2, a3, a4, a5, a6, a7, a8, a9) := by
  unfold wpX_count
  refine br_f (by decide) (rf_sp_ok h3 hqa hqb hx ?_)
  intro s hx hs
  cases s with
  | zero => exact br_t rfl (H 0 hx)
  | succ s =>
    obtain ⟨t, hk, hv, ha, hx⟩ := rf_rd h6 hx
    refine br_f (nI_ne0 (by omega) (by omega)) ⟨pk_in (s + 1) 50 hk, ?_⟩
    rw [rf_at rfl (by omega) ha]
    exact H t hx
theorem rf_count0 {post : Int32 → St2 → Prop} (H : post (-3) (f0, 0, f2, f3, f4, f5, a1, a2, a3, a4, a5, a6, a7, a8, a9)) :
    wpX_count post (f0, 0, f2, f3, f4, f5, a1, a2, a3, a4, a5, a6, a7, a8, a9) := by
  unfold wpX_count
  exact br_t rfl H
def rf_dp : Nat → Int32
  | 0 => -3
  | k + 1 => nI k
theorem rf_sgs {e l : Nat} (h : l ≤ e) : rf_sg e - nI l + 1 = nI (e - l) := by
  have e1 : rf_sg e + 1 = nI e := by
    cases e with
    | zero => rfl
    | succ e => exact nI_1 e
  have e2 : rf_sg e - nI l + 1 = rf_sg e + 1 - nI l := by grind
  rw [e2, e1, pk_sub h]
def rf_pl (a b Nx Fe : Nat) (K : Nat → Bool) : Bool := rf_sp a b Nx fun s => match s with
  | 0 => K 0
  | s + 1 => rf_r Fe (s + 1) fun e => cond (Nat.ble 2 e) (K (e - 2 + 1)) false
theorem rf_place_ok {post : Int32 → St2 → Prop} {a b Nx Fe : Nat} {K : Nat → Bool} (h3 : rf_m nI 200 a3 Nx) (h7 : rf_m rf_sg 50 a7 Fe) (hqa : a2 0 = nI a) (hqb : a2 1 = nI b) (hx : rf_pl a b Nx Fe K = true)
    (H : ∀ r, K r = true → post (rf_dp r) (f0, nI 2, 1, f3, f4, f5, a1, a2, a3, a4, a5, a6, a7, a8, a9)) :
    wpX_place post (f0, nI 2, 1, f3, f4, f5, a1, a2, a3, a4, a5, a6, a7, a8, a9) := by
  unfold wpX_place
  refine br_f (by decide) (rf_sp_ok h3 hqa hqb hx ?_)
  intro s hx hs
  cases s with
  | zero => exact br_t rfl (H 0 hx)
  | succ s =>
    obtain ⟨e, hk, hv, ha, hx⟩ := rf_rd h7 hx
    obtain ⟨he, hx⟩ := rf_ck hx
    refine br_f (nI_ne0 (by omega) (by omega)) ⟨pk_in (s + 1) 50 hk, ?_⟩
    rw [rf_at rfl (by omega) ha, rf_sgs he]
    exact H _ hx
/-! common -/
def rf_c62 (q Nx most s le : Nat) (K : Nat → Nat → Nat → Bool) : Bool := rf_r Nx (4 * s + q) fun t => match t with
  | 0 => K most s le
  | t + 1 => cond (Nat.ble (le + 1) most) (K most (t + 1) (le + 1)) (K (le + 1) (t + 1) (le + 1))
theorem rf_c62_ok {post : Int32 → St2 → Prop} {J : Int32 → Int32 → Int32 → Int32 → Prop} {B i q Nx most s le : Nat} {K : Nat → Nat → Nat → Bool} (h3 : rf_m nI 200 a3 Nx) (hi : i < 2) (hq : a2 i = nI q) (hB : B ≤ 1000) (hm : most ≤ B) (hl : le ≤ B) (hx : rf_c62 q Nx most s le K = true)
    (H : ∀ m s le, K m s le = true → m ≤ B + 1 → le ≤ B + 1 → J (nI m) (nI s) (nI le) (nI (i + 1))) :
    wX_common_62 post J (nI most) (nI s) (nI le) (nI i) f0 f1 f2 f3 f4 f5 a1 a2 a3 a4 a5 a6 a7 a8 a9 := by
  unfold wX_common_62
  obtain ⟨t, hk, hv, ha, hx⟩ := rf_rd h3 hx
  have et : a2 (nI i).toNatClampNeg = nI q := rf_at rfl (by omega) hq
  refine ⟨pk_in i 12 (by omega), pk_in (4 * s + q) 200 hk (rf_4e et), nm_r (rf_at (rf_4e et) (by omega) ha) ?_⟩
  cases t with
  | zero => exact br_t rfl (nm_r (nI_1 i) (H _ _ _ hx (by omega) (by omega)))
  | succ t =>
    have hx : cond (Nat.ble (le + 1) most) (K most (t + 1) (le + 1)) (K (le + 1) (t + 1) (le + 1)) = true := hx
    refine br_f (nI_ne0 (by omega) (by omega)) (nm_r (nI_1 le) (pk_le (le + 1) most (fun z => ?_) (fun z => ?_)))
    · rw [rf_ct z] at hx
      exact nm_r (nI_1 i) (H _ _ _ hx (by omega) (by omega))
    · rw [rf_cf z] at hx
      exact nm_r (nI_1 i) (H _ _ _ hx (by omega) (by omega))
def rf_c22 (q Nx Sh Ln most : Nat) (K : Nat → Nat → Nat → Bool) : Nat → Nat → Nat → Bool
  | 0, _, _ => false
  | f + 1, s, le => match s with
    | 0 => rf_c62 q Nx most 0 le K
    | s + 1 => rf_r Nx (4 * (s + 1) + q) fun v => match v with
      | 0 => rf_r Sh (s + 1) fun s2 => match s2 with
        | 0 => false
        | s2 + 1 => rf_r Ln s2 fun le2 => rf_c22 q Nx Sh Ln most K f s2 le2
      | _ + 1 => rf_c62 q Nx most (s + 1) le K
theorem rf_c22_ok {post : Int32 → St2 → Prop} {J : Int32 → Int32 → Int32 → Int32 → Prop} {B i q Nx Sh Ln most : Nat} {K : Nat → Nat → Nat → Bool} (h3 : rf_m nI 200 a3 Nx) (h4 : rf_m rf_sg 50 a4 Sh) (h5 : rf_m nI 50 a5 Ln) (hi : i < 2) (hq : a2 i = nI q) (hB : B ≤ 1000) (hB0 : 100 ≤ B) (hm : most ≤ B)
    (H : ∀ m s le, K m s le = true → m ≤ B + 1 → le ≤ B + 1 → J (nI m) (nI s) (nI le) (nI (i + 1))) :
    ∀ f s le, le ≤ B → rf_c22 q Nx Sh Ln most K f s le = true → wX_common_22 post J (nI most) (nI i) f0 f1 f2 f3 f4 f5 a1 a2 a3 a4 a5 a6 a7 a8 a9 f (nI s) (nI le) := by
  intro f
  induction f with
  | zero => intro s le hl hx; exact absurd hx Bool.false_ne_true
  | succ f ih =>
    intro s le hl hx
    cases s with
    | zero => exact br_t rfl (rf_c62_ok h3 hi hq hB hm hl hx H)
    | succ s =>
      obtain ⟨v, hk, hv, ha, hx⟩ := rf_rd h3 hx
      have et : a2 (nI i).toNatClampNeg = nI q := rf_at rfl (by omega) hq
      refine br_f (nI_ne0 (by omega) (by omega)) ⟨pk_in i 12 (by omega), pk_in (4 * (s + 1) + q) 200 hk (rf_4e et), ?_⟩
      cases v with
      | zero =>
        obtain ⟨s2, hk2, hv2, ha2, hx⟩ := rf_rd h4 hx
        cases s2 with
        | zero => exact absurd hx Bool.false_ne_true
        | succ s2 =>
          obtain ⟨le2, hk3, hv3, ha3, hx⟩ := rf_rd h5 hx
          exact br_t (rf_at (rf_4e et) (by omega) ha) ⟨pk_in (s + 1) 50 hk2, nm_r (e' := nI s2) (rf_at rfl (by omega) ha2) ⟨pk_in s2 50 hk3, nm_r (rf_at rfl (by omega) ha3) (ih _ _ (by omega) hx)⟩⟩
      | succ v => exact pk_eq (v + 1) 0 (fun z => absurd z (by omega)) (fun _ => rf_c62_ok h3 hi hq hB hm hl hx H) (rf_at (rf_4e et) (by omega) ha)
def rf_cm (a b Nx Sh Ln : Nat) (K : Nat → Bool) : Bool := rf_c22 a Nx Sh Ln 0 (fun m s le => rf_c22 b Nx Sh Ln m (fun m _ _ => K m) 12 s le) 12 0 0
theorem rf_common_ok {post : Int32 → St2 → Prop} {a b Nx Sh Ln : Nat} {K : Nat → Bool} (h3 : rf_m nI 200 a3 Nx) (h4 : rf_m rf_sg 50 a4 Sh) (h5 : rf_m nI 50 a5 Ln) (hqa : a2 0 = nI a) (hqb : a2 1 = nI b) (hx : rf_cm a b Nx Sh Ln K = true)
    (H : ∀ m, K m = true → post (nI m) (f0, nI 2, 1, f3, f4, f5, a1, a2, a3, a4, a5, a6, a7, a8, a9)) :
    wpX_common post (f0, nI 2, 1, f3, f4, f5, a1, a2, a3, a4, a5, a6, a7, a8, a9) := by
  unfold wpX_common
  refine rf_built ⟨3, pk_le 2 0 (fun z => absurd z (by omega)) (fun _ => ⟨12, rf_c22_ok (B := 100) (i := 0) (most := 0) h3 h4 h5 (by omega) hqa (by omega) (by omega) (by omega) ?_ 12 0 0 (by omega) hx⟩)⟩
  intro m s le hx hm hl
  refine pk_le 2 1 (fun z => absurd z (by omega)) (fun _ => ⟨12, rf_c22_ok (B := 101) (i := 1) h3 h4 h5 (by omega) hqb (by omega) (by omega) hm ?_ 12 s le hl hx⟩)
  intro m s le hx hm hl
  exact pk_le 2 2 (fun _ => H _ hx) (fun z => absurd z (by omega))
theorem rf_common0 {post : Int32 → St2 → Prop} (H : post 0 (f0, 0, 1, f3, f4, f5, a1, a2, a3, a4, a5, a6, a7, a8, a9)) :
    wpX_common post (f0, 0, 1, f3, f4, f5, a1, a2, a3, a4, a5, a6, a7, a8, a9) := by
  unfold wpX_common
  exact rf_built ⟨1, pk_le 0 0 (fun _ => H) (fun z => absurd z (by omega))⟩
/-! rank -/
def rf_k38 (q s Nx Wo : Nat) (K : Nat → Nat → Bool) : Nat → Nat → Nat → Bool
  | 0, _, _ => false
  | f + 1, bf, j => cond (Nat.ble q j) (rf_r Nx (4 * s + q) fun t => K bf t) (rf_r Nx (4 * s + j) fun t => match t with
    | 0 => rf_k38 q s Nx Wo K f bf (j + 1)
    | t + 1 => rf_r Wo (t + 1) fun w => rf_k38 q s Nx Wo K f (bf + (1 + w)) (j + 1))
theorem rf_k38_ok {post : Int32 → St2 → Prop} {J : Int32 → Int32 → Int32 → Prop} {i q s Nx Wo : Nat} {K : Nat → Nat → Bool} (h3 : rf_m nI 200 a3 Nx) (h8 : rf_m nI 50 a8 Wo) (hi : i < 2) (hq : a2 i = nI q) (hq4 : q < 4)
    (H0 : ∀ bf, K bf 0 = true → post (nI bf) (f0, f1, f2, f3, f4, f5, a1, a2, a3, a4, a5, a6, a7, a8, a9))
    (H1 : ∀ bf t, K bf (t + 1) = true → J (nI bf) (nI (t + 1)) (nI (i + 1))) :
    ∀ f bf j, j ≤ 4 → rf_k38 q s Nx Wo K f bf j = true → wX_rank_38 post J (nI s) (nI i) f0 f1 f2 f3 f4 f5 a1 a2 a3 a4 a5 a6 a7 a8 a9 f (nI bf) (nI j) := by
  intro f
  induction f with
  | zero => intro bf j hj hx; exact absurd hx Bool.false_ne_true
  | succ f ih =>
    intro bf j hj hx
    have hx : cond (Nat.ble q j) (rf_r Nx (4 * s + q) fun t => K bf t) (rf_r Nx (4 * s + j) fun t => match t with
      | 0 => rf_k38 q s Nx Wo K f bf (j + 1)
      | t + 1 => rf_r Wo (t + 1) fun w => rf_k38 q s Nx Wo K f (bf + (1 + w)) (j + 1)) = true := hx
    have et : a2 (nI i).toNatClampNeg = nI q := rf_at rfl (by omega) hq
    refine ⟨pk_in i 12 (by omega), pk_le q j (fun z => ?_) (fun z => ?_) et⟩
    · rw [rf_ct z] at hx
      obtain ⟨t, hk, hv, ha, hx⟩ := rf_rd h3 hx
      refine ⟨pk_in i 12 (by omega), pk_in (4 * s + q) 200 hk (rf_4e et), nm_r (rf_at (rf_4e et) (by omega) ha) ?_⟩
      cases t with
      | zero => exact br_t rfl (H0 _ hx)
      | succ t => exact br_f (nI_ne0 (by omega) (by omega)) (nm_r (nI_1 i) (H1 _ _ hx))
    · rw [rf_cf z] at hx
      obtain ⟨t, hk, hv, ha, hx⟩ := rf_rd h3 hx
      refine ⟨pk_in (4 * s + j) 200 hk (rf_4 s j), nm_r (rf_at (rf_4 s j) (by omega) ha) ?_⟩
      cases t with
      | zero => exact br_t rfl (nm_r (nI_1 j) (ih _ _ (by omega) hx))
      | succ t =>
        obtain ⟨w, hk2, hv2, ha2, hx⟩ := rf_rd h8 hx
        exact br_f (nI_ne0 (by omega) (by omega)) ⟨pk_in (t + 1) 50 hk2, nm_r (rf_add1 (rf_at rfl (by omega) ha2)) (nm_r (nI_1 j) (ih _ _ (by omega) hx))⟩
def rf_rk (a b Nx Wo : Nat) (K : Nat → Bool) : Bool := rf_k38 a 0 Nx Wo (fun bf s => match s with
  | 0 => K bf
  | s + 1 => rf_k38 b (s + 1) Nx Wo (fun bf _ => K bf) 5 (bf + 1) 0) 5 0 0
theorem rf_rank_ok {post : Int32 → St2 → Prop} {a b Nx Wo : Nat} {K : Nat → Bool} (h3 : rf_m nI 200 a3 Nx) (h8 : rf_m nI 50 a8 Wo) (hqa : a2 0 = nI a) (hqb : a2 1 = nI b) (ha : a < 4) (hb : b < 4) (hx : rf_rk a b Nx Wo K = true)
    (H : ∀ r, K r = true → post (nI r) (f0, nI 2, 1, f3, f4, f5, a1, a2, a3, a4, a5, a6, a7, a8, a9)) :
    wpX_rank post (f0, nI 2, 1, f3, f4, f5, a1, a2, a3, a4, a5, a6, a7, a8, a9) := by
  unfold wpX_rank
  refine br_f (by decide) (rf_built ⟨3, pk_le 2 0 (fun z => absurd z (by omega)) (fun _ => pk_le 0 0 (fun _ => ⟨5, rf_k38_ok (i := 0) (s := 0) h3 h8 (by omega) hqa ha (fun bf hx => H bf hx) ?_ 5 0 0 (by omega) hx⟩) (fun z => absurd z (by omega)))⟩)
  intro bf s hx
  refine pk_le 2 1 (fun z => absurd z (by omega)) (fun _ => pk_le 1 0 (fun z => absurd z (by omega)) (fun _ => nm_r (nI_1 bf) ⟨5, rf_k38_ok (i := 1) h3 h8 (by omega) hqb hb (fun bf hx => H bf hx) ?_ 5 (bf + 1) 0 (by omega) hx⟩))
  intro bf s hx
  exact pk_le 2 2 (fun _ => H _ hx) (fun z => absurd z (by omega))
/-! word -/
theorem rf_dec1 (r : Nat) : nI r - 1 = rf_sg r := by
  cases r with
  | zero => rfl
  | succ r => exact nI_pred r
def rf_st (s Nx Wo : Nat) (K : Nat → Nat → Bool) : Nat → Nat → Nat → Bool
  | 0, _, _ => false
  | f + 1, r, j => cond (Nat.ble 4 j) false (rf_r Nx (4 * s + j) fun t => match t with
    | 0 => rf_st s Nx Wo K f r (j + 1)
    | t + 1 => rf_r Wo (t + 1) fun w => cond (Nat.ble (1 + w) r) (rf_st s Nx Wo K f (r - (1 + w)) (j + 1)) (K (t + 1) r))
theorem rf_st_ok {post : Int32 → St2 → Prop} {s Nx Wo : Nat} {K : Nat → Nat → Bool} (h3 : rf_m nI 200 a3 Nx) (h8 : rf_m nI 50 a8 Wo)
    (H : ∀ t r, K t r = true → r ≤ 1000 → post (nI t) (f0, f1, f2, f3, f4, rf_sg r, a1, a2, a3, a4, a5, a6, a7, a8, a9)) :
    ∀ f r j, r ≤ 1000 → rf_st s Nx Wo K f r j = true → wX_stepTowards_5 post (nI s) f0 f1 f2 f3 f4 f5 a1 a2 a3 a4 a5 a6 a7 a8 a9 f (nI r) (nI j) := by
  intro f
  induction f with
  | zero => intro r j hr hx; exact absurd hx Bool.false_ne_true
  | succ f ih =>
    intro r j hr hx
    have hx : cond (Nat.ble 4 j) false (rf_r Nx (4 * s + j) fun t => match t with
      | 0 => rf_st s Nx Wo K f r (j + 1)
      | t + 1 => rf_r Wo (t + 1) fun w => cond (Nat.ble (1 + w) r) (rf_st s Nx Wo K f (r - (1 + w)) (j + 1)) (K (t + 1) r)) = true := hx
    by_cases hj : 4 ≤ j
    · rw [rf_ct hj] at hx
      exact absurd hx Bool.false_ne_true
    · rw [rf_cf (by omega)] at hx
      obtain ⟨t, hk, hv, ha, hx⟩ := rf_rd h3 hx
      refine pk_le 4 j (fun z => absurd z hj) (fun _ => ⟨pk_in (4 * s + j) 200 hk (rf_4 s j), nm_r (rf_at (rf_4 s j) (by omega) ha) ?_⟩)
      cases t with
      | zero => exact br_t rfl (nm_r (nI_1 j) (ih _ _ hr hx))
      | succ t =>
        obtain ⟨w, hk2, hv2, ha2, hx⟩ := rf_rd h8 hx
        have e6 : (1 : Int32) + a8 (nI (t + 1)).toNatClampNeg = nI (1 + w) := by
          rw [rf_at rfl (by omega) ha2, show (1 : Int32) = nI 1 from rfl, nI_add]
        refine br_f (nI_ne0 (by omega) (by omega)) ⟨pk_in (t + 1) 50 hk2, nm_r e6 (pk_le (1 + w) r (fun z => ?_) (fun z => ?_))⟩
        · rw [rf_ct z] at hx
          exact nm_r (pk_sub z) (nm_r (nI_1 j) (ih _ _ (by omega) hx))
        · rw [rf_cf z] at hx
          exact nm_r (rf_dec1 r) (H _ _ hx hr)
def rf_wd (Nx Fe Wo : Nat) (K : Nat → Bool) : Nat → Nat → Nat → Nat → Bool
  | 0, _, _, _ => false
  | f + 1, r, s, le => match r with
    | 0 => rf_r Fe s fun e => cond (Nat.ble le e) (K (25 * (e - le) + le)) false
    | r + 1 => rf_st s Nx Wo (fun t r2 => rf_wd Nx Fe Wo K f r2 t (le + 1)) 5 r 0
theorem rf_wd_ok {post : Int32 → St2 → Prop} {Nx Fe Wo : Nat} {K : Nat → Bool} (h3 : rf_m nI 200 a3 Nx) (h7 : rf_m rf_sg 50 a7 Fe) (h8 : rf_m nI 50 a8 Wo)
    (H : ∀ v g5, K v = true → post (nI v) (f0, f1, f2, f3, f4, g5, a1, a2, a3, a4, a5, a6, a7, a8, a9)) :
    ∀ f r s le g5, r ≤ 1000 → rf_wd Nx Fe Wo K f r s le = true → wX_word_28 post f (rf_sg r) (nI s) (nI le) f0 f1 f2 f3 f4 g5 a1 a2 a3 a4 a5 a6 a7 a8 a9 := by
  intro f
  induction f with
  | zero => intro r s le g5 hr hx; exact absurd hx Bool.false_ne_true
  | succ f ih =>
    intro r s le g5 hr hx
    cases r with
    | zero =>
      obtain ⟨e, hk, hv, ha, hx⟩ := rf_rd h7 hx
      obtain ⟨he, hx⟩ := rf_ck hx
      refine br_t (show rf_sg 0 < 0 by decide) ⟨pk_in s 50 hk, ?_⟩
      rw [rf_at rfl (by omega) ha, rf_sgs he, show (25 : Int32) = nI 25 from rfl, pk_mul, nI_add]
      exact H _ _ hx
    | succ r =>
      show wX_word_28 post (f + 1) (nI r) (nI s) (nI le) f0 f1 f2 f3 f4 g5 a1 a2 a3 a4 a5 a6 a7 a8 a9
      refine br_f (nI_pos (by omega)) ?_
      unfold wpX_stepTowards
      exact ⟨5, rf_st_ok h3 h8 (fun t r2 hx hr => nm_r (nI_1 le) (ih _ _ _ _ hr hx)) 5 r 0 (by omega) hx⟩
def rf_word (k Nx Fe Wo : Nat) (K : Nat → Bool) : Bool := rf_r Wo 0 fun w => cond (Nat.ble w k) (K 0) (rf_wd Nx Fe Wo (fun v => K (v + 1)) 8 (k + 1) 0 0)
theorem rf_word_ok {post : Int32 → St2 → Prop} {p0 : Int32} {k Nx Fe Wo : Nat} {K : Nat → Bool} (h3 : rf_m nI 200 a3 Nx) (h7 : rf_m rf_sg 50 a7 Fe) (h8 : rf_m nI 50 a8 Wo) (hk : k ≤ 900) (e0 : p0 = nI k) (hx : rf_word k Nx Fe Wo K = true)
    (H : ∀ v g5, K v = true → post (rf_dp v) (f0, f1, 1, f3, f4, g5, a1, a2, a3, a4, a5, a6, a7, a8, a9)) :
    wpX_word post (f0, f1, 1, f3, f4, f5, a1, a2, a3, a4, a5, a6, a7, a8, a9) p0 := by
  subst e0
  unfold wpX_word
  obtain ⟨w, hk2, hv, ha, hx⟩ := rf_rd h8 hx
  refine rf_built (br_f (nI_pos (by omega)) (pk_lt k w (fun z => ?_) (fun z => ?_) rfl ha))
  · rw [rf_cf z] at hx
    exact ⟨8, rf_wd_ok h3 h7 h8 (fun v g5 hv => H (v + 1) g5 hv) 8 (k + 1) 0 0 _ (by omega) hx⟩
  · rw [rf_ct z] at hx
    exact H 0 _ hx
end
end
section
/-! the law's own functions over a text T < 1024 -/
theorem rf_l_eq (T k : Nat) : rf_l T k = T / 2 ^ (2 * k) % 2 ^ 2 := by
  show (T >>> (2 * k)) &&& (2 ^ 2 - 1) = _
  rw [Nat.and_two_pow_sub_one_eq_mod, Nat.shiftRight_eq_div_pow]
theorem rf_l4 (T k : Nat) : rf_l T k < 4 := by
  rw [rf_l_eq]
  exact Nat.mod_lt _ (by decide)
theorem rf_sh : ∀ k, k < 8 → ((((2 : Int32) * nI k) &&& 31).toBitVec.smod 32).toNat = 2 * k := by decide +kernel
theorem rf_atI {T k : Nat} (hT : T < 1024) (hk : k < 8) : (nI T >>> ((2 * nI k) &&& 31)) &&& 3 = nI (rf_l T k) := by
  have hd : T / 2 ^ (2 * k) ≤ T := Nat.div_le_self _ _
  rw [pk_shrN (by omega) _ (2 * k) (rf_sh k hk), pk_andN (by omega) 2 (by decide), rf_l_eq]
theorem rf_atL {post : Int32 → Prop} {T k : Nat} {p1 : Int32} (hT : T < 1024) (hk : k < 8) (e : p1 = nI k) (H : post (nI (rf_l T k))) : wpL_at post () (nI T) p1 := by
  subst e
  unfold wpL_at
  rw [rf_atI hT hk]
  exact H
def rf_mk (T p n : Nat) : Nat := Nat.mod (Nat.shiftRight T (Nat.mul 2 p)) (Nat.pow 2 (Nat.mul 2 n))
theorem rf_mk_lt {T p n : Nat} (hT : T < 1024) : rf_mk T p n < 1024 := by
  have h1 : rf_mk T p n ≤ T / 2 ^ (2 * p) := by
    show (T >>> (2 * p)) % 2 ^ (2 * n) ≤ _
    rw [Nat.shiftRight_eq_div_pow]
    exact Nat.mod_le _ _
  have hd : T / 2 ^ (2 * p) ≤ T := Nat.div_le_self _ _
  omega
theorem rf_msk : ∀ n, n < 6 → (((1 : Int32) <<< ((2 * nI n) &&& 31)) - 1).toBitVec.toNat = 2 ^ (2 * n) - 1 := by decide +kernel
theorem rf_mkI {T p n : Nat} (hT : T < 1024) (hp : p < 8) (hn : n < 6) : (nI T >>> ((2 * nI p) &&& 31)) &&& (((1 : Int32) <<< ((2 * nI n) &&& 31)) - 1) = nI (rf_mk T p n) := by
  have hd : T / 2 ^ (2 * p) ≤ T := Nat.div_le_self _ _
  rw [pk_shrN (by omega) _ (2 * p) (rf_sh p hp), pk_andN (by omega) (2 * n) (rf_msk n hn)]
  show _ = nI ((T >>> (2 * p)) % 2 ^ (2 * n))
  rw [Nat.shiftRight_eq_div_pow]
theorem rf_same {post : Int32 → Prop} {T p q n : Nat} (hT : T < 1024) (hp : p < 8) (hq : q < 8) (hn : n < 6) (H1 : rf_mk T p n = rf_mk T q n → post 1) (H0 : rf_mk T p n ≠ rf_mk T q n → post 0) : wpL_same post () (nI T) (nI p) (nI q) (nI n) := by
  have b1 := rf_mk_lt (p := p) (n := n) hT
  have b2 := rf_mk_lt (p := q) (n := n) hT
  unfold wpL_same
  exact pk_eq (rf_mk T p n) (rf_mk T q n) H1 H0 (rf_mkI hT hp hn) (rf_mkI hT hq hn)
theorem rf_beq {a b : Nat} (h : a = b) : Nat.beq a b = true := by
  subst h
  exact Nat.beq_refl a
theorem rf_bne {a b : Nat} (h : a ≠ b) : Nat.beq a b = false := by
  cases e : Nat.beq a b with
  | false => rfl
  | true => exact absurd (Nat.eq_of_beq_eq_true e) h
theorem rf_ble {a b : Nat} (h : a ≤ b) : Nat.ble a b = true := Nat.ble_eq_true_of_le h
theorem rf_bgt {a b : Nat} (h : b < a) : Nat.ble a b = false := by
  cases e : Nat.ble a b with
  | false => rfl
  | true => exact absurd (Nat.le_of_ble_eq_true e) (by omega)
/-! count -/
def rf_qc (T p n : Nat) : Nat → Nat
  | 0 => 0
  | q + 1 => rf_qc T p n q + cond (Nat.ble (q + n) 5 && Nat.beq (rf_mk T p n) (rf_mk T q n)) 1 0
theorem rf_qc_le (T p n : Nat) : ∀ q, rf_qc T p n q ≤ q
  | 0 => Nat.le_refl 0
  | q + 1 => by
    have h := rf_qc_le T p n q
    show rf_qc T p n q + cond (Nat.ble (q + n) 5 && Nat.beq (rf_mk T p n) (rf_mk T q n)) 1 0 ≤ q + 1
    cases (Nat.ble (q + n) 5 && Nat.beq (rf_mk T p n) (rf_mk T q n)) with
    | true => exact Nat.add_le_add_right h 1
    | false => exact Nat.le_succ_of_le h
theorem rf_countL {post : Int32 → Prop} {T p n : Nat} (hT : T < 1024) (hp : p < 8) (hn : n < 6) (H : post (nI (rf_qc T p n 5))) : wpL_count post () (nI T) (nI p) (nI n) := by
  unfold wpL_count
  refine pk_loop (σ := Unit) (fun f i _ => wL_count_5 post (nI T) (nI p) (nI n) f (nI (rf_qc T p n i)) (nI i)) (fun _ _ => True) 5 0 () (by omega) trivial ?_ ?_
  · intro f _ _
    exact pk_le 5 5 (fun _ => H) (fun z => absurd z (by omega))
  · intro f i _ hi _ hw
    have hw : wL_count_5 post (nI T) (nI p) (nI n) f (nI (rf_qc T p n i + cond (Nat.ble (i + n) 5 && Nat.beq (rf_mk T p n) (rf_mk T i n)) 1 0)) (nI (i + 1)) := hw () trivial
    refine pk_le 5 i (fun z => absurd z (by omega)) (fun _ => pk_lt 5 (i + n) (fun z => ?_) (fun z => ?_) rfl (nI_add i n))
    · rw [rf_bgt z] at hw
      exact nm_r (nI_1 i) hw
    · rw [rf_ble z] at hw
      refine rf_same hT hp (by omega) hn (fun y => ?_) (fun y => ?_)
      · rw [rf_beq y] at hw
        exact br_f (by decide) (nm_r (nI_1 _) (nm_r (nI_1 i) hw))
      · rw [rf_bne y] at hw
        exact br_t rfl (nm_r (nI_1 i) hw)
/-! different -/
def rf_bI (b : Bool) : Int32 := cond b 1 0
def rf_fr (T n p : Nat) : Nat → Bool
  | 0 => true
  | q + 1 => rf_fr T n p q && !(Nat.beq (rf_mk T p n) (rf_mk T q n))
def rf_df (T n : Nat) : Nat → Nat
  | 0 => 0
  | p + 1 => rf_df T n p + cond (rf_fr T n p p) 1 0
theorem rf_df_le (T n : Nat) : ∀ p, rf_df T n p ≤ p
  | 0 => Nat.le_refl 0
  | p + 1 => by
    have h := rf_df_le T n p
    show rf_df T n p + cond (rf_fr T n p p) 1 0 ≤ p + 1
    cases rf_fr T n p p with
    | true => exact Nat.add_le_add_right h 1
    | false => exact Nat.le_succ_of_le h
theorem rf_d22 {post : Int32 → Prop} {J : Int32 → Int32 → Prop} {T n p c : Nat} (hT : T < 1024) (hp : p < 8) (hn : n < 6) (H : J (nI (c + cond (rf_fr T n p p) 1 0)) (nI (p + 1))) : ∃ fu, wL_different_22 post J (nI T) (nI n) (nI c) (nI p) fu 1 0 := by
  refine pk_loop (σ := Unit) (fun f i _ => wL_different_22 post J (nI T) (nI n) (nI c) (nI p) f (rf_bI (rf_fr T n p i)) (nI i)) (fun _ _ => True) p 0 () (by omega) trivial ?_ ?_
  · intro f _ _
    show wL_different_22 post J (nI T) (nI n) (nI c) (nI p) (f + 1) (rf_bI (rf_fr T n p p)) (nI p)
    refine pk_le p p (fun _ => ?_) (fun z => absurd z (by omega))
    cases e : rf_fr T n p p with
    | true =>
      rw [e] at H
      exact br_f (show ¬ (1 : Int32) = 0 by decide) (nm_r (nI_1 c) (nm_r (nI_1 p) H))
    | false =>
      rw [e] at H
      exact br_t rfl (nm_r (nI_1 p) H)
  · intro f i _ hi _ hw
    have hw : wL_different_22 post J (nI T) (nI n) (nI c) (nI p) f (rf_bI (rf_fr T n p i && !(Nat.beq (rf_mk T p n) (rf_mk T i n)))) (nI (i + 1)) := hw () trivial
    show wL_different_22 post J (nI T) (nI n) (nI c) (nI p) (f + 1) (rf_bI (rf_fr T n p i)) (nI i)
    refine pk_le p i (fun z => absurd z (by omega)) (fun _ => ?_)
    cases e : rf_fr T n p i with
    | true =>
      rw [e] at hw
      refine br_f (show ¬ (1 : Int32) = 0 by decide) (rf_same hT hp (by omega) hn (fun y => ?_) (fun y => ?_))
      · rw [rf_beq y] at hw
        exact br_f (show ¬ (1 : Int32) = 0 by decide) (nm_r (nI_1 i) hw)
      · rw [rf_bne y] at hw
        exact br_t rfl (nm_r (nI_1 i) hw)
    | false =>
      rw [e] at hw
      exact br_t rfl (nm_r (nI_1 i) hw)
theorem rf_diffL {post : Int32 → Prop} {T k : Nat} (hT : T < 1024) (hk : k < 5) (H : post (nI (rf_df T (k + 1) (5 - k)))) : wpL_different post () (nI T) (nI (k + 1)) := by
  unfold wpL_different
  refine pk_loop (σ := Unit) (fun f i _ => wL_different_4 post (nI T) (nI (k + 1)) f (nI (rf_df T (k + 1) i)) (nI i)) (fun _ _ => True) (5 - k) 0 () (by omega) trivial ?_ ?_
  · intro f _ _
    exact pk_lt 5 (5 - k + (k + 1)) (fun _ => H) (fun z => absurd z (by omega)) rfl (nI_add _ _)
  · intro f i _ hi _ hw
    exact pk_lt 5 (i + (k + 1)) (fun z => absurd z (by omega)) (fun _ => pk_le 5 i (fun z => absurd z (by omega)) (fun _ => rf_d22 hT (by omega) (by omega) (hw () trivial))) rfl (nI_add _ _)
end
section
/-! what the law asks of one text, as a computation -/
def rf_hr (T a b k : Nat) : Bool := Nat.ble (k + 1) 4 && (Nat.beq (rf_l T k) a && Nat.beq (rf_l T (k + 1)) b)
def rf_q3 (T a b : Nat) (K : Nat → Nat → Nat → Bool) : Nat → Nat → Nat → Nat → Bool
  | 0, fo, fi, co => K fo fi co
  | k + 1, fo, fi, co => cond (rf_hr T a b k) (rf_q3 T a b K k (fo + 1) (k + 1) 2) (rf_q3 T a b K k fo fi (cond (Nat.beq co 0 && (Nat.beq (rf_l T k) a || Nat.beq (rf_l T k) b)) 1 co))
def rf_ur (T p : Nat) : Nat → Nat → Nat
  | 0, u => u
  | k + 1, u => rf_ur T p k (cond (Nat.ble (p + (k + 1)) 5 && Nat.beq (rf_qc T p (k + 1) 5) 1) (k + 1) u)
def rf_ws (T : Nat) : Nat → Nat
  | 0 => 0
  | k + 1 => rf_ws T k + rf_df T (k + 1) (5 - k)
def rf_lo (T : Nat) : Nat → Nat
  | 0 => 0
  | k + 1 => cond (Nat.ble (5 - k) (rf_df T (k + 1) (5 - k))) (rf_lo T k) (k + 1)
def rf_v (fo fi v : Nat) : Bool := cond (Nat.beq fo 0) true (match fi with
  | 0 => false
  | f + 1 => Nat.beq v (25 * f + 3))
def rf_kq (T w N S L Tm F W a b : Nat) : Bool := rf_q3 T a b (fun fo fi co => Nat.ble fo 5 && (rf_cn a b N Tm (fun r => Nat.beq r fo) && (rf_pl a b N F (fun r => Nat.beq r fi) && (rf_cm a b N S L (fun m => Nat.beq m co) && rf_rk a b N W (fun rk => Nat.ble rk w && rf_word rk N F W (fun v => rf_v fo fi v)))))) 5 0 0 0
def rf_k5 (T c N S L Tm F W : Nat) : Bool := rf_r W 0 fun w => Nat.beq w (rf_ws T 5) && (rf_lg 2 c L Tm (fun m => Nat.beq m (rf_lo T 5)) 12 0 1 && (rf_lg 1 c L Tm (fun m => Nat.beq m 5) 12 0 1 && (rf_all 5 (fun p => rf_uq T 5 p N Tm (fun r => Nat.beq r (rf_ur T p 5 0) && Nat.ble r 5) 8 0 p) && rf_all 4 (fun a => rf_all 4 (fun b => rf_kq T w N S L Tm F W a b)))))
def rf_c5 (T : Nat) : Bool := rf_build T 5 (rf_k5 T)
def rf_k4 (c N S L T F W : Nat) : Bool := rf_word 0 N F W (fun v => Nat.ble 1 v && Nat.ble v 3000)
def rf_c4 (T : Nat) : Bool := rf_build T 4 (fun c N S L T F W => rf_lg 1 c L T (fun m => Nat.beq m 4 && rf_k4 c N S L T F W) 12 0 1)
theorem rf_c5_0 : rf_all 64 (fun i => rf_c5 (64 * 0 + i)) = true := by decide +kernel
theorem rf_c5_1 : rf_all 64 (fun i => rf_c5 (64 * 1 + i)) = true := by decide +kernel
theorem rf_c5_2 : rf_all 64 (fun i => rf_c5 (64 * 2 + i)) = true := by decide +kernel
theorem rf_c5_3 : rf_all 64 (fun i => rf_c5 (64 * 3 + i)) = true := by decide +kernel
theorem rf_c5_4 : rf_all 64 (fun i => rf_c5 (64 * 4 + i)) = true := by decide +kernel
theorem rf_c5_5 : rf_all 64 (fun i => rf_c5 (64 * 5 + i)) = true := by decide +kernel
theorem rf_c5_6 : rf_all 64 (fun i => rf_c5 (64 * 6 + i)) = true := by decide +kernel
theorem rf_c5_7 : rf_all 64 (fun i => rf_c5 (64 * 7 + i)) = true := by decide +kernel
theorem rf_c5_8 : rf_all 64 (fun i => rf_c5 (64 * 8 + i)) = true := by decide +kernel
theorem rf_c5_9 : rf_all 64 (fun i => rf_c5 (64 * 9 + i)) = true := by decide +kernel
theorem rf_c5_10 : rf_all 64 (fun i => rf_c5 (64 * 10 + i)) = true := by decide +kernel
theorem rf_c5_11 : rf_all 64 (fun i => rf_c5 (64 * 11 + i)) = true := by decide +kernel
theorem rf_c5_12 : rf_all 64 (fun i => rf_c5 (64 * 12 + i)) = true := by decide +kernel
theorem rf_c5_13 : rf_all 64 (fun i => rf_c5 (64 * 13 + i)) = true := by decide +kernel
theorem rf_c5_14 : rf_all 64 (fun i => rf_c5 (64 * 14 + i)) = true := by decide +kernel
theorem rf_c5_15 : rf_all 64 (fun i => rf_c5 (64 * 15 + i)) = true := by decide +kernel
theorem rf_c5_all {T : Nat} (hT : T < 1024) : rf_c5 T = true := by
  by_cases h0 : T < 64
  · have t : rf_c5 (64 * 0 + (T - 64 * 0)) = true := rf_al (f := fun i => rf_c5 (64 * 0 + i)) (i := T - 64 * 0) 64 rf_c5_0 (by omega)
    rw [show 64 * 0 + (T - 64 * 0) = T by omega] at t
    exact t
  by_cases h1 : T < 128
  · have t : rf_c5 (64 * 1 + (T - 64 * 1)) = true := rf_al (f := fun i => rf_c5 (64 * 1 + i)) (i := T - 64 * 1) 64 rf_c5_1 (by omega)
    rw [show 64 * 1 + (T - 64 * 1) = T by omega] at t
    exact t
  by_cases h2 : T < 192
  · have t : rf_c5 (64 * 2 + (T - 64 * 2)) = true := rf_al (f := fun i => rf_c5 (64 * 2 + i)) (i := T - 64 * 2) 64 rf_c5_2 (by omega)
    rw [show 64 * 2 + (T - 64 * 2) = T by omega] at t
    exact t
  by_cases h3 : T < 256
  · have t : rf_c5 (64 * 3 + (T - 64 * 3)) = true := rf_al (f := fun i => rf_c5 (64 * 3 + i)) (i := T - 64 * 3) 64 rf_c5_3 (by omega)
    rw [show 64 * 3 + (T - 64 * 3) = T by omega] at t
    exact t
  by_cases h4 : T < 320
  · have t : rf_c5 (64 * 4 + (T - 64 * 4)) = true := rf_al (f := fun i => rf_c5 (64 * 4 + i)) (i := T - 64 * 4) 64 rf_c5_4 (by omega)
    rw [show 64 * 4 + (T - 64 * 4) = T by omega] at t
    exact t
  by_cases h5 : T < 384
  · have t : rf_c5 (64 * 5 + (T - 64 * 5)) = true := rf_al (f := fun i => rf_c5 (64 * 5 + i)) (i := T - 64 * 5) 64 rf_c5_5 (by omega)
    rw [show 64 * 5 + (T - 64 * 5) = T by omega] at t
    exact t
  by_cases h6 : T < 448
  · have t : rf_c5 (64 * 6 + (T - 64 * 6)) = true := rf_al (f := fun i => rf_c5 (64 * 6 + i)) (i := T - 64 * 6) 64 rf_c5_6 (by omega)
    rw [show 64 * 6 + (T - 64 * 6) = T by omega] at t
    exact t
  by_cases h7 : T < 512
  · have t : rf_c5 (64 * 7 + (T - 64 * 7)) = true := rf_al (f := fun i => rf_c5 (64 * 7 + i)) (i := T - 64 * 7) 64 rf_c5_7 (by omega)
    rw [show 64 * 7 + (T - 64 * 7) = T by omega] at t
    exact t
  by_cases h8 : T < 576
  · have t : rf_c5 (64 * 8 + (T - 64 * 8)) = true := rf_al (f := fun i => rf_c5 (64 * 8 + i)) (i := T - 64 * 8) 64 rf_c5_8 (by omega)
    rw [show 64 * 8 + (T - 64 * 8) = T by omega] at t
    exact t
  by_cases h9 : T < 640
  · have t : rf_c5 (64 * 9 + (T - 64 * 9)) = true := rf_al (f := fun i => rf_c5 (64 * 9 + i)) (i := T - 64 * 9) 64 rf_c5_9 (by omega)
    rw [show 64 * 9 + (T - 64 * 9) = T by omega] at t
    exact t
  by_cases h10 : T < 704
  · have t : rf_c5 (64 * 10 + (T - 64 * 10)) = true := rf_al (f := fun i => rf_c5 (64 * 10 + i)) (i := T - 64 * 10) 64 rf_c5_10 (by omega)
    rw [show 64 * 10 + (T - 64 * 10) = T by omega] at t
    exact t
  by_cases h11 : T < 768
  · have t : rf_c5 (64 * 11 + (T - 64 * 11)) = true := rf_al (f := fun i => rf_c5 (64 * 11 + i)) (i := T - 64 * 11) 64 rf_c5_11 (by omega)
    rw [show 64 * 11 + (T - 64 * 11) = T by omega] at t
    exact t
  by_cases h12 : T < 832
  · have t : rf_c5 (64 * 12 + (T - 64 * 12)) = true := rf_al (f := fun i => rf_c5 (64 * 12 + i)) (i := T - 64 * 12) 64 rf_c5_12 (by omega)
    rw [show 64 * 12 + (T - 64 * 12) = T by omega] at t
    exact t
  by_cases h13 : T < 896
  · have t : rf_c5 (64 * 13 + (T - 64 * 13)) = true := rf_al (f := fun i => rf_c5 (64 * 13 + i)) (i := T - 64 * 13) 64 rf_c5_13 (by omega)
    rw [show 64 * 13 + (T - 64 * 13) = T by omega] at t
    exact t
  by_cases h14 : T < 960
  · have t : rf_c5 (64 * 14 + (T - 64 * 14)) = true := rf_al (f := fun i => rf_c5 (64 * 14 + i)) (i := T - 64 * 14) 64 rf_c5_14 (by omega)
    rw [show 64 * 14 + (T - 64 * 14) = T by omega] at t
    exact t
  by_cases h15 : T < 1024
  · have t : rf_c5 (64 * 15 + (T - 64 * 15)) = true := rf_al (f := fun i => rf_c5 (64 * 15 + i)) (i := T - 64 * 15) 64 rf_c5_15 (by omega)
    rw [show 64 * 15 + (T - 64 * 15) = T by omega] at t
    exact t
  omega
theorem rf_c4_0 : rf_all 64 (fun i => rf_c4 (64 * 0 + i)) = true := by decide +kernel
theorem rf_c4_1 : rf_all 64 (fun i => rf_c4 (64 * 1 + i)) = true := by decide +kernel
theorem rf_c4_2 : rf_all 64 (fun i => rf_c4 (64 * 2 + i)) = true := by decide +kernel
theorem rf_c4_3 : rf_all 64 (fun i => rf_c4 (64 * 3 + i)) = true := by decide +kernel
theorem rf_c4_all {T : Nat} (hT : T < 256) : rf_c4 T = true := by
  by_cases h0 : T < 64
  · have t : rf_c4 (64 * 0 + (T - 64 * 0)) = true := rf_al (f := fun i => rf_c4 (64 * 0 + i)) (i := T - 64 * 0) 64 rf_c4_0 (by omega)
    rw [show 64 * 0 + (T - 64 * 0) = T by omega] at t
    exact t
  by_cases h1 : T < 128
  · have t : rf_c4 (64 * 1 + (T - 64 * 1)) = true := rf_al (f := fun i => rf_c4 (64 * 1 + i)) (i := T - 64 * 1) 64 rf_c4_1 (by omega)
    rw [show 64 * 1 + (T - 64 * 1) = T by omega] at t
    exact t
  by_cases h2 : T < 192
  · have t : rf_c4 (64 * 2 + (T - 64 * 2)) = true := rf_al (f := fun i => rf_c4 (64 * 2 + i)) (i := T - 64 * 2) 64 rf_c4_2 (by omega)
    rw [show 64 * 2 + (T - 64 * 2) = T by omega] at t
    exact t
  by_cases h3 : T < 256
  · have t : rf_c4 (64 * 3 + (T - 64 * 3)) = true := rf_al (f := fun i => rf_c4 (64 * 3 + i)) (i := T - 64 * 3) 64 rf_c4_3 (by omega)
    rw [show 64 * 3 + (T - 64 * 3) = T by omega] at t
    exact t
  omega
end
section
section
variable {f0 f1 f2 f3 f4 f5 : Int32} {a1 a2 a3 a4 a5 a6 a7 a8 a9 : Nat → Int32}
theorem rf_type {ps : Int32 → St2 → Prop} {p0 : Int32} {n l : Nat} (hn : n < 24) (hl : l < 4) (e0 : p0 = nI l) (H : ps (nI (n + 1)) (nI (n + 1), f1, 0, f3, f4, f5, upd a1 n (nI l), a2, a3, a4, a5, a6, a7, a8, a9)) :
    wpX_type ps (nI n, f1, f2, f3, f4, f5, a1, a2, a3, a4, a5, a6, a7, a8, a9) p0 := by
  subst e0
  unfold wpX_type
  exact pk_lt n 24 (fun _ => br_f (nI_pos (by omega)) (pk_lt l 4 (fun _ => ⟨pk_in n 24 hn, nm_r (rf_up rfl (by omega) (rf_b (by omega))) (nm_r (nI_1 n) H)⟩) (fun z => absurd z (by omega)))) (fun z => absurd z (by omega))
theorem rf_ask {ps : Int32 → St2 → Prop} {p0 : Int32} {n l : Nat} (hn : n < 12) (hl : l < 4) (e0 : p0 = nI l) (H : ps (nI (n + 1)) (f0, nI (n + 1), f2, f3, f4, f5, a1, upd a2 n (nI l), a3, a4, a5, a6, a7, a8, a9)) :
    wpX_ask ps (f0, nI n, f2, f3, f4, f5, a1, a2, a3, a4, a5, a6, a7, a8, a9) p0 := by
  subst e0
  unfold wpX_ask
  exact pk_lt n 12 (fun _ => br_f (nI_pos (by omega)) (pk_lt l 4 (fun _ => ⟨pk_in n 12 hn, nm_r (rf_up rfl (by omega) (rf_b (by omega))) (nm_r (nI_1 n) H)⟩) (fun z => absurd z (by omega)))) (fun z => absurd z (by omega))
theorem rf_ask4 {ps : Int32 → St2 → Prop} (H : ps (-2) (f0, 0, f2, f3, f4, f5, a1, a2, a3, a4, a5, a6, a7, a8, a9)) :
    wpX_ask ps (f0, 0, f2, f3, f4, f5, a1, a2, a3, a4, a5, a6, a7, a8, a9) 4 := by
  unfold wpX_ask
  exact br_t (by decide) (br_f (by decide) (br_f (by decide) H))
theorem rf_wipe {ps : Int32 → St2 → Prop} (H : ps f1 (f0, 0, f2, f3, f4, f5, a1, a2, a3, a4, a5, a6, a7, a8, a9)) :
    wpX_wipe ps (f0, f1, f2, f3, f4, f5, a1, a2, a3, a4, a5, a6, a7, a8, a9) := by
  unfold wpX_wipe
  exact H
theorem rf_shift {ps : Int32 → St2 → Prop} {T : Nat} (htx : ∀ k, k < 5 → a1 k = nI (rf_l T k))
    (H : ∀ b1, (∀ k, k < 4 → b1 k = nI (rf_l T (k + 1))) → ps (nI 4) (nI 4, f1, 0, f3, f4, f5, b1, a2, a3, a4, a5, a6, a7, a8, a9)) :
    wpX_shift ps (nI 5, f1, f2, f3, f4, f5, a1, a2, a3, a4, a5, a6, a7, a8, a9) := by
  unfold wpX_shift
  refine br_f (by decide) (nm_r (nI_pred 4) ?_)
  refine pk_loop (fun f i s => wX_shift_22 ps (nI 4) f1 f2 f3 f4 f5 f (nI i) s a2 a3 a4 a5 a6 a7 a8 a9) (fun i s => (∀ k, k < i → s k = nI (rf_l T (k + 1))) ∧ (∀ k, i ≤ k → k < 5 → s k = nI (rf_l T k))) 4 0 a1 (by omega) ⟨fun k hk => absurd hk (by omega), fun k _ hk => htx k hk⟩ ?_ ?_
  · intro n s h
    exact pk_le 4 4 (fun _ => H s h.1) (fun z => absurd z (by omega))
  · intro n i s hi h hw
    have hl := rf_l4 T (i + 1)
    refine pk_le 4 i (fun z => absurd z (by omega)) (fun _ => ⟨pk_in (i + 1) 24 (by omega) (nI_1 i), pk_in i 24 (by omega), nm_r (rf_up rfl (by omega) (y := nI (rf_l T (i + 1))) (by rw [vp_nar_byte, rf_at (nI_1 i) (by omega) (h.2 (i + 1) (by omega) (by omega)), rf_b (by omega)])) (nm_r (nI_1 i) (hw _ ⟨fun k hk => ?_, fun k hk hk5 => ?_⟩))⟩)
    · by_cases e : k = i
      · rw [e, pk_us]
      · rw [pk_un e]
        exact h.1 k (by omega)
    · rw [pk_un (by omega)]
      exact h.2 k (by omega) hk5
theorem rf_l_s (T k : Nat) : rf_l (T / 4) k = rf_l T (k + 1) := by
  rw [rf_l_eq, rf_l_eq, Nat.div_div_eq_div_mul, show 2 ^ (2 * (k + 1)) = 4 * 2 ^ (2 * k) by rw [Nat.mul_add, Nat.pow_add]; omega]
theorem rf_l_a {T a : Nat} (hT : T < 1024) (ha : a < 4) : ∀ k, k < 4 → rf_l (T / 4 + 256 * a) k = rf_l T (k + 1) := by
  intro k hk
  rw [← rf_l_s, rf_l_eq, rf_l_eq]
  match k, hk with
  | 0, _ => show (T / 4 + 256 * a) / 1 % 4 = T / 4 / 1 % 4; omega
  | 1, _ => show (T / 4 + 256 * a) / 4 % 4 = T / 4 / 4 % 4; omega
  | 2, _ => show (T / 4 + 256 * a) / 16 % 4 = T / 4 / 16 % 4; omega
  | 3, _ => show (T / 4 + 256 * a) / 64 % 4 = T / 4 / 64 % 4; omega
theorem rf_l_z {T a : Nat} (hT : T < 1024) (ha : a < 4) : rf_l (T / 4 + 256 * a) 4 = a := by
  rw [rf_l_eq]
  show (T / 4 + 256 * a) / 256 % 4 = a
  omega
theorem rf_unique5 {ps : Int32 → St2 → Prop} {p0 : Int32} {T n p : Nat} {K : Nat → Bool} {K2 : Nat → Nat → Nat → Nat → Nat → Nat → Nat → Bool} (hn : n ≤ 24) (htx : ∀ k, k < n → a1 k = nI (rf_l T k)) (hp : p < n) (e0 : p0 = nI p) (hx : rf_build T n K2 = true)
    (hK : ∀ c N S L Tm F W, K2 c N S L Tm F W = true → rf_uq T n p N Tm K 8 0 p = true)
    (H : ∀ r g3 g4 b3 b4 b5 b6 b7 b8 b9, K r = true → ps (rf_du r) (nI n, f1, 1, g3, g4, f5, a1, a2, b3, b4, b5, b6, b7, b8, b9)) :
    wpX_unique ps (nI n, f1, 0, f3, f4, f5, a1, a2, a3, a4, a5, a6, a7, a8, a9) p0 := by
  subst e0
  unfold wpX_unique
  refine br_f (nI_pos (by omega)) (pk_lt p n (fun _ => rf_build_ok hn htx hx ?_) (fun z => absurd z (by omega)))
  intro c ls N S L Tm F W b3 b4 b5 b6 b7 b8 b9 hP hc hx
  exact ⟨8, rf_uq_ok hn htx hP.1 hP.2.2.2.1 (fun r hr => H r _ _ _ _ _ _ _ _ _ hr) 8 0 p (by omega) (by omega) (hK _ _ _ _ _ _ _ hx)⟩
end
section
variable {post : Int32 → St0 → Prop} {mc ms kc ks : Nat} {f0 f1 f2 f3 f4 f5 : Int32} {a1 a2 a3 a4 a5 a6 a7 a8 a9 : Nat → Int32}
theorem rf_k5_u {T c N S L Tm F W p : Nat} (h : rf_k5 T c N S L Tm F W = true) (hp : p < 5) : rf_uq T 5 p N Tm (fun r => Nat.beq r (rf_ur T p 5 0) && Nat.ble r 5) 8 0 p = true := by
  obtain ⟨w, _, h⟩ := rf_rt h
  obtain ⟨_, h⟩ := rf_an h
  obtain ⟨_, h⟩ := rf_an h
  obtain ⟨_, h⟩ := rf_an h
  obtain ⟨h, _⟩ := rf_an h
  exact rf_al (f := fun p => rf_uq T 5 p N Tm (fun r => Nat.beq r (rf_ur T p 5 0) && Nat.ble r 5) 8 0 p) 5 h hp
theorem rf_430 {T w a rk : Nat} (hT : T < 1024) (ha : a < 4) (hrk : rk ≤ w) (hw : w ≤ 100) (htx : ∀ k, k < 5 → a1 k = nI (rf_l T k)) (h4 : rf_c4 (T / 4) = true) (h5 : rf_c5 (T / 4 + 256 * a) = true) (hp : post 1 ()) :
    wL_lawOf_430 post mc ms (nI w) (nI a) (nI rk) kc ks (nI 5) (nI 2) f2 f3 f4 f5 a1 a2 a3 a4 a5 a6 a7 a8 a9 := by
  unfold wL_lawOf_430
  refine br_f (nI_pos (by omega)) (pk_le rk w (fun _ => ?_) (fun z => absurd z (by omega)))
  refine rf_shift htx (fun b1 hb1 => br_t rfl ?_)
  refine rf_longest0 (T := T / 4) (n := 4) (t := 1) (by omega) (fun k hk => by rw [hb1 k hk, rf_l_s]) (by omega) (by omega) rfl h4 ?_
  intro c ls N S L Tm F W c3 c4 c5 c6 c7 c8 c9 hP hc hx
  refine br_t rfl (rf_wipe (br_t rfl (rf_common0 (br_t rfl (rf_count0 (br_t rfl ?_))))))
  refine rf_word_ok (k := 0) hP.1 hP.2.2.2.2.1 hP.2.2.2.2.2 (by omega) rfl hx (fun v g5 hv => ?_)
  obtain ⟨v1, v2⟩ := rf_an hv
  have v1 := Nat.le_of_ble_eq_true v1
  have v2 := Nat.le_of_ble_eq_true v2
  cases v with
  | zero => exact absurd v1 (by omega)
  | succ v =>
    refine br_f (nI_pos (show v < 2 ^ 31 by omega)) ?_
    refine rf_type (n := 4) (by omega) ha rfl (br_t rfl ?_)
    refine rf_unique5 (T := T / 4 + 256 * a) (n := 5) (p := 4) (by omega) (fun k hk => ?_) (by omega) rfl h5 (fun c N S L Tm F W h => rf_k5_u h (by omega)) (fun r g3 g4 b3 b4 b5 b6 b7 b8 b9 hr => ?_)
    · by_cases e : k = 4
      · rw [e, pk_us, rf_l_z hT ha]
      · rw [pk_un e, hb1 k (by omega), rf_l_a hT ha k (by omega)]
    · obtain ⟨_, hr⟩ := rf_an hr
      have hr := Nat.le_of_ble_eq_true hr
      have ne : ¬ rf_du r = -2 := by
        match r, hr with
        | 0, _ => decide
        | 1, _ => decide
        | 2, _ => decide
        | 3, _ => decide
        | 4, _ => decide
        | 5, _ => decide
        | n + 6, h => exact absurd h (by omega)
      exact br_f ne (rf_ask4 (br_t rfl hp))
/-! the loop over the places of the two letters -/
theorem rf_324h {J : Int32 → Int32 → Int32 → Int32 → Prop} {x4 x5 x9 x10 x11 x12 x13 : Int32} {k : Nat} (H : J x11 x12 2 (rf_sg k)) :
    wL_lawOf_324 post mc ms J x4 x5 x9 x10 x11 x12 x13 (nI k) 1 kc ks f0 f1 f2 f3 f4 f5 a1 a2 a3 a4 a5 a6 a7 a8 a9 := by
  have h6 : ∀ y, wL_lawOf_356 post mc ms J x4 x5 x9 x10 x11 x12 y (nI k) 1 kc ks f0 f1 f2 f3 f4 f5 a1 a2 a3 a4 a5 a6 a7 a8 a9 := fun y => br_f (by decide) (nm_r (rf_dec k) H)
  have h3 : wL_lawOf_353 post mc ms J x4 x5 x9 x10 x11 x12 (nI k) 1 kc ks f0 f1 f2 f3 f4 f5 a1 a2 a3 a4 a5 a6 a7 a8 a9 := h6 1
  unfold wL_lawOf_324 wpL_at
  exact br_c (fun _ => br_c (fun _ => h3) (fun _ => br_c (fun _ => h3) (fun _ => h6 _))) (fun _ => h6 _)
theorem rf_324n {J : Int32 → Int32 → Int32 → Int32 → Prop} {x5 x11 x12 : Int32} {T a b co k : Nat} (hT : T < 1024) (ha : a < 4) (hb : b < 4) (hk : k < 8) (hco : co ≤ 2)
    (H : J x11 x12 (nI (cond (Nat.beq co 0 && (Nat.beq (rf_l T k) a || Nat.beq (rf_l T k) b)) 1 co)) (rf_sg k)) :
    wL_lawOf_324 post mc ms J (nI T) x5 (nI a) (nI b) x11 x12 (nI co) (nI k) 0 kc ks f0 f1 f2 f3 f4 f5 a1 a2 a3 a4 a5 a6 a7 a8 a9 := by
  have h6 : ∀ y, J x11 x12 y (rf_sg k) → wL_lawOf_356 post mc ms J (nI T) x5 (nI a) (nI b) x11 x12 y (nI k) 0 kc ks f0 f1 f2 f3 f4 f5 a1 a2 a3 a4 a5 a6 a7 a8 a9 := fun y h => br_t rfl (nm_r (rf_dec k) h)
  have h3 : J x11 x12 1 (rf_sg k) → wL_lawOf_353 post mc ms J (nI T) x5 (nI a) (nI b) x11 x12 (nI k) 0 kc ks f0 f1 f2 f3 f4 f5 a1 a2 a3 a4 a5 a6 a7 a8 a9 := fun h => h6 1 h
  have hl := rf_l4 T k
  unfold wL_lawOf_324
  refine pk_eq co 0 (fun z => rf_atL hT hk rfl (pk_eq (rf_l T k) a (fun y => h3 ?_) (fun y => rf_atL hT hk rfl (pk_eq (rf_l T k) b (fun u => h3 ?_) (fun u => h6 _ ?_))))) (fun z => h6 _ ?_)
  · rw [rf_beq z, rf_beq y] at H
    exact H
  · rw [rf_beq z, rf_bne y, rf_beq u] at H
    exact H
  · rw [rf_beq z, rf_bne y, rf_bne u] at H
    exact H
  · rw [rf_bne z] at H
    exact H
theorem rf_263 {x5 : Int32} {T a b : Nat} {K : Nat → Nat → Nat → Bool} (hT : T < 1024) (ha : a < 4) (hb : b < 4)
    (H : ∀ fo fi co, K fo fi co = true → ∀ n, wL_lawOf_263 post mc ms (nI T) x5 (nI a) (nI b) kc ks f0 f1 f2 f3 f4 f5 a1 a2 a3 a4 a5 a6 a7 a8 a9 (n + 1) (nI fo) (rf_dp fi) (nI co) (-1)) :
    ∀ k fo fi co, k ≤ 5 → co ≤ 2 → rf_q3 T a b K k fo fi co = true → wL_lawOf_263 post mc ms (nI T) x5 (nI a) (nI b) kc ks f0 f1 f2 f3 f4 f5 a1 a2 a3 a4 a5 a6 a7 a8 a9 (k + 1) (nI fo) (rf_dp fi) (nI co) (rf_sg k) := by
  intro k
  induction k with
  | zero => intro fo fi co _ _ hx; exact H fo fi co hx 0
  | succ k ih =>
    intro fo fi co hk hco hx
    have hx : cond (rf_hr T a b k) (rf_q3 T a b K k (fo + 1) (k + 1) 2) (rf_q3 T a b K k fo fi (cond (Nat.beq co 0 && (Nat.beq (rf_l T k) a || Nat.beq (rf_l T k) b)) 1 co)) = true := hx
    have hl := rf_l4 T k
    have hl1 := rf_l4 T (k + 1)
    have hc2 : cond (Nat.beq co 0 && (Nat.beq (rf_l T k) a || Nat.beq (rf_l T k) b)) 1 co ≤ 2 := by
      cases (Nat.beq co 0 && (Nat.beq (rf_l T k) a || Nat.beq (rf_l T k) b)) with
      | true => show 1 ≤ 2; omega
      | false => exact hco
    show wL_lawOf_263 post mc ms (nI T) x5 (nI a) (nI b) kc ks f0 f1 f2 f3 f4 f5 a1 a2 a3 a4 a5 a6 a7 a8 a9 (k + 1 + 1) (nI fo) (rf_dp fi) (nI co) (nI k)
    have no : rf_hr T a b k = false → wL_lawOf_304 post mc ms (wL_lawOf_263 post mc ms (nI T) x5 (nI a) (nI b) kc ks f0 f1 f2 f3 f4 f5 a1 a2 a3 a4 a5 a6 a7 a8 a9 (k + 1)) (nI T) x5 (nI a) (nI b) (nI fo) (rf_dp fi) (nI co) (nI k) kc ks f0 f1 f2 f3 f4 f5 a1 a2 a3 a4 a5 a6 a7 a8 a9 := by
      intro e
      rw [e] at hx
      unfold wL_lawOf_304 wL_lawOf_305 wL_lawOf_315
      exact br_t rfl (br_t rfl (rf_324n hT ha hb (by omega) hco (ih _ _ _ (by omega) hc2 hx)))
    refine br_f (nI_pos (by omega)) (pk_le 4 k (fun z => no ?_) (fun z => ?_))
    · unfold rf_hr
      rw [rf_bgt (by omega)]; rfl
    · refine rf_atL hT (by omega) rfl (pk_eq (rf_l T k) a (fun y => ?_) (fun y => no ?_))
      · refine rf_atL (k := k + 1) hT (by omega) (nI_1 k) (pk_eq (rf_l T (k + 1)) b (fun u => ?_) (fun u => no ?_))
        · have e : rf_hr T a b k = true := by
            unfold rf_hr
            rw [rf_ble (by omega), rf_beq y, rf_beq u]; rfl
          rw [e] at hx
          unfold wL_lawOf_305 wL_lawOf_315
          exact br_f (by decide) (nm_r (nI_1 fo) (br_f (by decide) (rf_324h (ih (fo + 1) (k + 1) 2 (by omega) (by omega) hx))))
        · unfold rf_hr
          rw [rf_ble (by omega), rf_beq y, rf_bne u]; rfl
      · unfold rf_hr
        rw [rf_bne y, Bool.false_and, Bool.and_false]
/-! the loop over n for a place's shortest unique word -/
theorem rf_159 {x1 x5 : Int32} {T p : Nat} (hT : T < 1024) (hp : p ≤ 4) : ∀ k u, k ≤ 5 →
    (∀ n, wL_lawOf_159 post mc ms x1 (nI T) x5 (nI p) kc ks f0 f1 f2 f3 f4 f5 a1 a2 a3 a4 a5 a6 a7 a8 a9 (n + 1) (rf_du (rf_ur T p k u)) (nI 0)) →
    wL_lawOf_159 post mc ms x1 (nI T) x5 (nI p) kc ks f0 f1 f2 f3 f4 f5 a1 a2 a3 a4 a5 a6 a7 a8 a9 (k + 1) (rf_du u) (nI k) := by
  intro k
  induction k with
  | zero => intro u _ H; exact H 0
  | succ k ih =>
    intro u hk H
    have H : ∀ n, wL_lawOf_159 post mc ms x1 (nI T) x5 (nI p) kc ks f0 f1 f2 f3 f4 f5 a1 a2 a3 a4 a5 a6 a7 a8 a9 (n + 1) (rf_du (rf_ur T p k (cond (Nat.ble (p + (k + 1)) 5 && Nat.beq (rf_qc T p (k + 1) 5) 1) (k + 1) u))) (nI 0) := H
    have hq := rf_qc_le T p (k + 1) 5
    refine pk_lt (k + 1) 1 (fun z => absurd z (by omega)) (fun _ => pk_lt 4 p (fun z => absurd z (by omega)) (fun _ => pk_lt 5 (p + (k + 1)) (fun z => ?_) (fun z => ?_) rfl (nI_add p (k + 1))))
    · rw [rf_bgt z] at H
      exact nm_r (pk_m1 k) (ih u (by omega) H)
    · rw [rf_ble z] at H
      refine rf_countL hT (by omega) (by omega) (pk_eq (rf_qc T p (k + 1) 5) 1 (fun y => ?_) (fun y => ?_))
      · rw [rf_beq y] at H
        exact nm_r (pk_m1 k) (ih (k + 1) (by omega) H)
      · rw [rf_bne y] at H
        exact nm_r (pk_m1 k) (ih u (by omega) H)
theorem rf_159B {x1 x5 : Int32} {T p : Nat} (hp : 5 ≤ p) (hp8 : p < 8) : ∀ k, k ≤ 5 →
    (∀ n, wL_lawOf_159 post mc ms x1 (nI T) x5 (nI p) kc ks f0 f1 f2 f3 f4 f5 a1 a2 a3 a4 a5 a6 a7 a8 a9 (n + 1) (-2) (nI 0)) →
    wL_lawOf_159 post mc ms x1 (nI T) x5 (nI p) kc ks f0 f1 f2 f3 f4 f5 a1 a2 a3 a4 a5 a6 a7 a8 a9 (k + 1) (-2) (nI k) := by
  intro k
  induction k with
  | zero => intro _ H; exact H 0
  | succ k ih =>
    intro hk H
    exact pk_lt (k + 1) 1 (fun z => absurd z (by omega)) (fun _ => pk_lt 4 p (fun _ => nm_r (pk_m1 k) (ih (by omega) H)) (fun z => absurd z (by omega)))
/-! words and the longest repeat -/
theorem rf_63 {x1 x2 : Int32} {T : Nat} (hT : T < 1024)
    (H : ∀ n, wL_lawOf_63 post mc ms x1 x2 (nI T) kc ks f0 f1 f2 f3 f4 f5 a1 a2 a3 a4 a5 a6 a7 a8 a9 (n + 1) (nI (rf_ws T 5)) (nI (rf_lo T 5)) (nI 6)) :
    ∃ fu, wL_lawOf_63 post mc ms x1 x2 (nI T) kc ks f0 f1 f2 f3 f4 f5 a1 a2 a3 a4 a5 a6 a7 a8 a9 fu 0 0 1 := by
  refine pk_loop (σ := Unit) (fun f k _ => wL_lawOf_63 post mc ms x1 x2 (nI T) kc ks f0 f1 f2 f3 f4 f5 a1 a2 a3 a4 a5 a6 a7 a8 a9 f (nI (rf_ws T k)) (nI (rf_lo T k)) (nI (k + 1))) (fun _ _ => True) 5 0 () (by omega) trivial ?_ ?_
  · intro n _ _
    exact H n
  · intro n k _ hk _ hw
    have hw : wL_lawOf_63 post mc ms x1 x2 (nI T) kc ks f0 f1 f2 f3 f4 f5 a1 a2 a3 a4 a5 a6 a7 a8 a9 n (nI (rf_ws T k + rf_df T (k + 1) (5 - k))) (nI (cond (Nat.ble (5 - k) (rf_df T (k + 1) (5 - k))) (rf_lo T k) (k + 1))) (nI (k + 1 + 1)) := hw () trivial
    have hd := rf_df_le T (k + 1) (5 - k)
    have e6 : (6 : Int32) - nI (k + 1) = nI (5 - k) := by
      rw [show (6 : Int32) = nI 6 from rfl, pk_sub (by omega), show 6 - (k + 1) = 5 - k by omega]
    refine pk_lt 5 (k + 1) (fun z => absurd z (by omega)) (fun _ => rf_diffL hT hk (nm_r (nI_add _ _) (pk_le (5 - k) (rf_df T (k + 1) (5 - k)) (fun z => ?_) (fun z => ?_) e6)))
    · rw [rf_ct z] at hw
      exact nm_r (nI_1 (k + 1)) hw
    · rw [rf_cf z] at hw
      exact nm_r (nI_1 (k + 1)) hw
/-! the text is typed -/
theorem rf_18 {x1 x2 : Int32} {T : Nat} (hT : T < 1024)
    (H : ∀ b1, (∀ k, k < 5 → b1 k = nI (rf_l T k)) → ∃ fu, wL_lawOf_63 post mc ms x1 x2 (nI T) kc ks (nI 5) f1 0 f3 f4 f5 b1 a2 a3 a4 a5 a6 a7 a8 a9 fu 0 0 1) :
    ∃ fu, wL_lawOf_18 post mc ms x1 x2 (nI T) kc ks fu 0 0 f1 0 f3 f4 f5 a1 a2 a3 a4 a5 a6 a7 a8 a9 := by
  refine pk_loop (fun f i s => wL_lawOf_18 post mc ms x1 x2 (nI T) kc ks f (nI i) (nI i) f1 0 f3 f4 f5 s a2 a3 a4 a5 a6 a7 a8 a9) (fun i s => ∀ k, k < i → s k = nI (rf_l T k)) 5 0 a1 (by omega) (fun k hk => absurd hk (by omega)) ?_ ?_
  · intro n s h
    exact pk_le 5 5 (fun _ => H s h) (fun z => absurd z (by omega))
  · intro n i s hi h hw
    refine pk_le 5 i (fun z => absurd z (by omega)) (fun _ => rf_atL hT (by omega) rfl (rf_type (by omega) (rf_l4 T i) rfl (br_t (nI_1 i).symm (nm_r (nI_1 i) (hw _ (fun k hk => ?_))))))
    by_cases e : k = i
    · rw [e, pk_us]
    · rw [pk_un e]
      exact h k (by omega)
end
end
section
section
variable {post : Int32 → St0 → Prop} {mc ms kc ks : Nat} {f0 f1 f2 f3 f4 f5 : Int32} {a1 a2 a3 a4 a5 a6 a7 a8 a9 : Nat → Int32}
def rf_kk (w N S L Tm F W a b fo fi co : Nat) : Bool := Nat.ble fo 5 && (rf_cn a b N Tm (fun r => Nat.beq r fo) && (rf_pl a b N F (fun r => Nat.beq r fi) && (rf_cm a b N S L (fun m => Nat.beq m co) && rf_rk a b N W (fun rk => Nat.ble rk w && rf_word rk N F W (fun v => rf_v fo fi v)))))
theorem rf_x263 {T w a b fo fi co N S L Tm F W : Nat} (hT : T < 1024) (ha : a < 4) (hb : b < 4) (hw : w ≤ 100) (htx : ∀ k, k < 5 → a1 k = nI (rf_l T k)) (hqa : a2 0 = nI a) (hqb : a2 1 = nI b) (hP : rf_P N S L Tm F W a3 a4 a5 a6 a7 a8)
    (h4 : rf_c4 (T / 4) = true) (h5 : rf_c5 (T / 4 + 256 * a) = true) (hp : post 1 ()) (hK : rf_kk w N S L Tm F W a b fo fi co = true) :
    ∀ n, wL_lawOf_263 post mc ms (nI T) (nI w) (nI a) (nI b) kc ks (nI 5) (nI 2) 1 f3 f4 f5 a1 a2 a3 a4 a5 a6 a7 a8 a9 (n + 1) (nI fo) (rf_dp fi) (nI co) (-1) := by
  intro n
  obtain ⟨k0, k⟩ := rf_an hK
  have k0 := Nat.le_of_ble_eq_true k0
  obtain ⟨k1, k⟩ := rf_an k
  obtain ⟨k2, k⟩ := rf_an k
  obtain ⟨k3, k4⟩ := rf_an k
  refine br_t (by decide) (rf_count_ok hP.1 hP.2.2.2.1 hqa hqb k1 (fun r hr => br_t (by rw [Nat.eq_of_beq_eq_true hr]) ?_))
  refine rf_place_ok hP.1 hP.2.2.2.2.1 hqa hqb k2 (fun r hr => br_t (by rw [Nat.eq_of_beq_eq_true hr]) ?_)
  refine rf_common_ok hP.1 hP.2.1 hP.2.2.1 hqa hqb k3 (fun r hr => br_t (by rw [Nat.eq_of_beq_eq_true hr]) ?_)
  refine rf_rank_ok hP.1 hP.2.2.2.2.2 hqa hqb ha hb k4 (fun rk hrk => ?_)
  obtain ⟨r1, r2⟩ := rf_an hrk
  have r1 := Nat.le_of_ble_eq_true r1
  refine rf_word_ok hP.1 hP.2.2.2.2.1 hP.2.2.2.2.2 (by omega) rfl r2 (fun v g5 hv => ?_)
  have h430 : wL_lawOf_430 post mc ms (nI w) (nI a) (nI rk) kc ks (nI 5) (nI 2) 1 f3 f4 g5 a1 a2 a3 a4 a5 a6 a7 a8 a9 := rf_430 hT ha r1 hw htx h4 h5 hp
  refine pk_le fo 0 (fun _ => h430) (fun z => br_t ?_ h430)
  unfold rf_v at hv
  rw [rf_ef (by omega)] at hv
  cases fi with
  | zero => exact absurd hv Bool.false_ne_true
  | succ f =>
    rw [Nat.eq_of_beq_eq_true (show Nat.beq v (25 * f + 3) = true from hv)]
    show nI (25 * f + 2) = 25 * nI f + 2
    rw [show (25 : Int32) = nI 25 from rfl, pk_mul, show (2 : Int32) = nI 2 from rfl, nI_add]
theorem rf_x159 {x1 x8 : Int32} {T w p N S L Tm F W : Nat} (hT : T < 1024) (hw : w ≤ 100) (htx : ∀ k, k < 5 → a1 k = nI (rf_l T k)) (hP : rf_P N S L Tm F W a3 a4 a5 a6 a7 a8) (hp : post 1 ())
    (hq : ∀ a b, a < 4 → b < 4 → rf_kq T w N S L Tm F W a b = true)
    (hu : ∀ ps : Int32 → St2 → Prop, ps x8 (nI 5, 0, 1, f3, f4, f5, a1, a2, a3, a4, a5, a6, a7, a8, a9) → wpX_unique ps (nI 5, 0, 1, f3, f4, f5, a1, a2, a3, a4, a5, a6, a7, a8, a9) (nI p)) :
    ∀ n, wL_lawOf_159 post mc ms x1 (nI T) (nI w) (nI p) kc ks (nI 5) 0 1 f3 f4 f5 a1 a2 a3 a4 a5 a6 a7 a8 a9 (n + 1) x8 (nI 0) := by
  intro n
  obtain ⟨a, ha, ea⟩ := pk_andE x1 (m := 3) 2 (by decide)
  obtain ⟨b, hb, eb⟩ := pk_andE (x1 >>> ((2 : Int32) &&& 31)) (m := 3) 2 (by decide)
  have ha : a < 4 := ha
  have hb : b < 4 := hb
  refine br_t (show nI 0 < 1 by decide) (hu _ (br_t rfl (nm_r ea (nm_r eb (rf_ask (n := 0) (by omega) ha rfl (br_t rfl (rf_ask (n := 1) (by omega) hb rfl (br_t rfl ⟨6, ?_⟩))))))))
  exact rf_263 (K := rf_kk w N S L Tm F W a b) hT ha hb (fun fo fi co hK => rf_x263 hT ha hb hw htx (by rw [pk_un (by omega), pk_us]) (by rw [pk_us]) hP (rf_c4_all (by omega)) (rf_c5_all (by omega)) hp hK) 5 0 0 0 (by omega) (by omega) (hq a b ha hb)
theorem rf_x63 {x1 x2 : Int32} {T : Nat} (hT : T < 1024) (htx : ∀ k, k < 5 → a1 k = nI (rf_l T k)) (hp : post 1 ()) :
    ∀ n, wL_lawOf_63 post mc ms x1 x2 (nI T) kc ks (nI 5) 0 0 f3 f4 f5 a1 a2 a3 a4 a5 a6 a7 a8 a9 (n + 1) (nI (rf_ws T 5)) (nI (rf_lo T 5)) (nI 6) := by
  intro n
  refine br_t (by decide) ?_
  unfold wpX_words
  refine rf_build_ok (T := T) (n := 5) (K := rf_k5 T) (by omega) htx (rf_c5_all hT) ?_
  intro c ls N S L Tm F W b3 b4 b5 b6 b7 b8 b9 hP hc hx
  obtain ⟨w, _, hw, haw, hx⟩ := rf_rd hP.2.2.2.2.2 hx
  obtain ⟨e1, hx⟩ := rf_an hx
  obtain ⟨q2, hx⟩ := rf_an hx
  obtain ⟨q1, hx⟩ := rf_an hx
  obtain ⟨qu, qq⟩ := rf_an hx
  have e1 : w = rf_ws T 5 := Nat.eq_of_beq_eq_true e1
  subst e1
  have hq : ∀ a b, a < 4 → b < 4 → rf_kq T (rf_ws T 5) N S L Tm F W a b = true := fun a b ha hb =>
    rf_al (f := fun b => rf_kq T (rf_ws T 5) N S L Tm F W a b) 4 (rf_al (f := fun a => rf_all 4 (fun b => rf_kq T (rf_ws T 5) N S L Tm F W a b)) 4 qq ha) hb
  refine br_t haw ?_
  refine rf_longest1 (t := 2) hP.2.2.1 hP.2.2.2.1 hc (by omega) (by omega) rfl q2 (fun m hm => br_t (by rw [Nat.eq_of_beq_eq_true hm]) ?_)
  refine rf_longest1 (t := 1) hP.2.2.1 hP.2.2.2.1 hc (by omega) (by omega) rfl q1 (fun m hm => br_t (by rw [Nat.eq_of_beq_eq_true hm]; rfl) ?_)
  obtain ⟨p, hp8, ep⟩ := pk_andE x2 (m := 7) 3 (by decide)
  have hp8 : p < 8 := hp8
  refine nm_r ep (pk_le p 4 (fun z => ⟨6, ?_⟩) (fun z => ⟨6, ?_⟩))
  · refine rf_159 hT z 5 0 (by omega) (rf_x159 hT hw htx hP hp hq (fun ps h => ?_))
    refine rf_unique1 (by omega) htx hP.1 hP.2.2.2.1 (by omega) rfl (rf_al (f := fun p => rf_uq T 5 p N Tm (fun r => Nat.beq r (rf_ur T p 5 0) && Nat.ble r 5) 8 0 p) 5 qu (by omega)) (fun r hr => ?_)
    rw [Nat.eq_of_beq_eq_true (rf_an hr).1]
    exact h
  · exact rf_159B (by omega) hp8 5 (by omega) (rf_x159 hT hw htx hP hp hq (fun ps h => rf_uniqueB (by omega) (by omega) rfl h))
end
theorem rf_cell {post : Int32 → Prop} {L k : Nat} {xs : Nat → Int32} (hL : L ≤ 3) (hk : k < 3) (H : ∀ r, post r) : wpL_cellAt post L xs () (nI k) := by
  unfold wpL_cellAt
  refine br_c (fun _ => H _) (fun h => ⟨?_, H _⟩)
  by_cases e : k < L
  · exact pk_in k L e
  · exact absurd (nI_le (a := L) (b := k) (by omega) (by omega)) h
theorem i_vc (xs : Nat → Int32) (L : Nat) (hL : L ≤ 3) : wpL_law (fun r => r = 1) L xs := by
  unfold wpL_law
  refine rf_cell (k := 0) hL (by omega) (fun u => rf_cell (k := 1) hL (by omega) (fun v => rf_cell (k := 2) hL (by omega) (fun p => ⟨106, 1680, by omega, by omega, ?_⟩)))
  unfold wpL_lawOf
  refine ⟨by omega, by omega, 105, 1665, by omega, by omega, ?_⟩
  unfold wpX_init
  refine ⟨by omega, by omega, by omega, by omega, by omega, by omega, by omega, by omega, by omega, by omega, by omega, by omega, by omega, by omega, by omega, by omega, by omega, by omega, ?_⟩
  obtain ⟨T, hT, eT⟩ := pk_andE u (m := 1023) 10 (by decide)
  exact nm_r eT (rf_18 hT (fun b1 hb1 => rf_63 hT (rf_x63 hT hb1 rfl)))
end
