section
/-! ===== Int32 by its bits (out of kit/laws/BITS.to-paste, renamed) ===== -/
def qz_bt (x : Int32) (i : Nat) : Bool := x.toBitVec.getLsbD i
theorem qz_b_ext {x y : Int32} (h : ∀ i, i < 32 → qz_bt x i = qz_bt y i) : x = y := Int32.toBitVec_inj.mp (BitVec.eq_of_getLsbD_eq (fun i hi => h i hi))
theorem qz_b_or (x y : Int32) (i : Nat) : qz_bt (x ||| y) i = (qz_bt x i || qz_bt y i) := by unfold qz_bt; rw [Int32.toBitVec_or, BitVec.getLsbD_or]
theorem qz_b_and (x y : Int32) (i : Nat) : qz_bt (x &&& y) i = (qz_bt x i && qz_bt y i) := by unfold qz_bt; rw [Int32.toBitVec_and, BitVec.getLsbD_and]
theorem qz_b_big {x : Int32} {i : Nat} (h : 32 ≤ i) : qz_bt x i = false := BitVec.getLsbD_of_ge _ _ h
theorem qz_b_0 (i : Nat) : qz_bt 0 i = false := BitVec.getLsbD_zero
theorem qz_b_1 (i : Nat) : qz_bt 1 i = decide (i = 0) := by
  rcases Nat.lt_or_ge i 32 with h | h
  · exact (by decide +kernel : ∀ i, i < 32 → qz_bt 1 i = decide (i = 0)) i h
  · rw [qz_b_big h, decide_eq_false (by omega)]
theorem qz_s_l : ∀ n, n < 32 → ((nI n &&& 31).toBitVec.smod 32).toNat = n := by decide +kernel
theorem qz_s_u : ∀ n, n < 32 → (((nI n).toUInt32 &&& Int32.toUInt32 31).toBitVec % 32).toNat = n := by decide +kernel
theorem qz_b_shl (n : Nat) (hn : n < 32) (x : Int32) {i : Nat} (hi : i < 32) : qz_bt (x <<< (nI n &&& 31)) i = (decide (n ≤ i) && qz_bt x (i - n)) := by
  unfold qz_bt
  rw [Int32.toBitVec_shiftLeft]
  show (x.toBitVec <<< ((nI n &&& 31).toBitVec.smod 32).toNat).getLsbD i = _
  rw [qz_s_l n hn, BitVec.getLsbD_shiftLeft]
  rcases Nat.lt_or_ge i n with h | h
  · simp [h, Nat.not_le.mpr h]
  · simp [hi, h, Nat.not_lt.mpr h]
theorem qz_b_ushr (n : Nat) (hn : n < 32) (x : Int32) (i : Nat) : qz_bt ((x.toUInt32 >>> ((nI n).toUInt32 &&& Int32.toUInt32 31)).toInt32) i = qz_bt x (n + i) := by
  show (x.toUInt32 >>> ((nI n).toUInt32 &&& Int32.toUInt32 31)).toBitVec.getLsbD i = x.toUInt32.toBitVec.getLsbD (n + i)
  rw [UInt32.toBitVec_shiftRight]
  show (x.toUInt32.toBitVec >>> (((nI n).toUInt32 &&& Int32.toUInt32 31).toBitVec % 32).toNat).getLsbD i = _
  rw [qz_s_u n hn, BitVec.getLsbD_ushiftRight]
theorem qz_b_sshr (n : Nat) (hn : n < 32) (x : Int32) {i : Nat} (hi : i < 32) : qz_bt (x >>> (nI n &&& 31)) i = if n + i < 32 then qz_bt x (n + i) else qz_bt x 31 := by
  unfold qz_bt
  rw [Int32.toBitVec_shiftRight]
  show (x.toBitVec.sshiftRight ((nI n &&& 31).toBitVec.smod 32).toNat).getLsbD i = _
  rw [qz_s_l n hn, BitVec.getLsbD_sshiftRight, BitVec.msb_eq_getLsbD_last]
  simp [hi]
/-! one bit as an int -/
def qz_bv (b : Bool) : Int32 := if b then 1 else 0
theorem qz_bv_bt (b : Bool) (i : Nat) : qz_bt (qz_bv b) i = (b && decide (i = 0)) := by
  cases b
  · exact qz_b_0 i
  · rw [Bool.true_and]; exact qz_b_1 i
theorem qz_bv_1 {b : Bool} : qz_bv b = 1 ↔ b = true := by cases b <;> decide
theorem qz_bv_0 {b : Bool} : qz_bv b = 0 ↔ b = false := by cases b <;> decide
theorem qz_and1 (x : Int32) : x &&& 1 = qz_bv (qz_bt x 0) := by
  apply qz_b_ext
  intro i hi
  rw [qz_b_and, qz_b_1, qz_bv_bt]
  by_cases h : i = 0
  · subst h; simp
  · simp [h]
/-- the bit b of x, as the writer takes it -/
theorem qz_shr1 (b : Nat) (hb : b < 32) (x : Int32) : (x >>> (nI b &&& 31)) &&& 1 = qz_bv (qz_bt x b) := by
  rw [qz_and1, qz_b_sshr b hb x (by omega), if_pos (by omega)]
  rfl
/-- the bit b of x, as the reader takes it -/
theorem qz_ushr1 (b : Nat) (hb : b < 32) (x : Int32) : (x.toUInt32 >>> ((nI b).toUInt32 &&& Int32.toUInt32 31)).toInt32 &&& 1 = qz_bv (qz_bt x b) := by
  rw [qz_and1, qz_b_ushr b hb x]
  rfl
/-! ===== iteration ===== -/
def qz_it {σ : Type} (f : Nat → σ → σ) (s : σ) : Nat → σ
  | 0 => s
  | n + 1 => f n (qz_it f s n)
theorem qz_loop {σ : Type} (W : Nat → Nat → σ → Prop) (f : Nat → σ → σ) (s : σ) (e : Nat) (hx : ∀ n, W (n + 1) e (qz_it f s e)) (hs : ∀ n i, i < e → W n (i + 1) (f i (qz_it f s i)) → W (n + 1) i (qz_it f s i)) : ∃ n, W n 0 s :=
  pk_loop W (fun i t => t = qz_it f s i) e 0 s (Nat.zero_le e) rfl (fun n t h => by subst h; exact hx n) (fun n i t hi h hw => by subst h; exact hs n i hi (hw _ rfl))
theorem qz_it_inv {σ : Type} (I : Nat → σ → Prop) (f : Nat → σ → σ) (s : σ) (h0 : I 0 s) (n : Nat) (hs : ∀ i t, i < n → I i t → I (i + 1) (f i t)) : I n (qz_it f s n) := by
  have H : ∀ k, k ≤ n → I k (qz_it f s k) := by
    intro k
    induction k with
    | zero => exact fun _ => h0
    | succ k ih => exact fun hk => hs k _ (by omega) (ih (by omega))
  exact H n (Nat.le_refl n)
theorem qz_it_congr {σ : Type} {f g : Nat → σ → σ} {s : σ} {n : Nat} (h : ∀ i t, i < n → f i t = g i t) : qz_it f s n = qz_it g s n := by
  induction n with
  | zero => rfl
  | succ n ih => show f n (qz_it f s n) = g n (qz_it g s n); rw [ih (fun i t hi => h i t (by omega)), h n _ (by omega)]
/-- one value written into a row of places -/
theorem qz_fill {g : Nat → Int32} {s : Nat → Int32} {i k : Nat} {x : Int32} (hk : k = i) (h : ∀ j, j < i → s j = g j) (hx : x = g i) : ∀ j, j < i + 1 → upd s k x j = g j := by
  intro j hj
  rw [hk]
  by_cases e : j = i
  · rw [e, pk_us, hx]
  · rw [pk_un e]
    exact h j (by omega)
/-! ===== small walks without a state ===== -/
def qz_lim (x : Int32) : Nat := if 0 ≤ x then (if x ≤ 7 then x.toNatClampNeg else 7) else 0
theorem qz_nonneg {x : Int32} (h : 0 ≤ x) : ∃ j : Nat, j < 2 ^ 31 ∧ x = nI j := by
  refine nI_of (fun z => ?_)
  have h1 := Int32.le_iff_toInt_le.mp h
  have h2 := Int32.lt_iff_toInt_lt.mp z
  omega
theorem qz_lim_lt (x : Int32) : qz_lim x < 8 := by
  unfold qz_lim
  split
  · rename_i h
    split
    · rename_i h2
      obtain ⟨j, hj, rfl⟩ := qz_nonneg h
      rw [nI_clamp hj]
      have h3 : nI j ≤ nI 7 := h2
      rw [nI_leI hj (by omega)] at h3
      omega
    · omega
  · omega
theorem qz_w_lim {post : Int32 → Prop} {u : St0} {x : Int32} (h : post (nI (qz_lim x))) : wpX_limited post u x := by
  unfold qz_lim at h
  refine br_c (fun h0 => br_c (fun h7 => ?_) (fun h7 => ?_)) (fun h0 => ?_)
  · rw [if_pos h0, if_pos h7] at h
    obtain ⟨j, hj, rfl⟩ := qz_nonneg h0
    rw [nI_clamp hj] at h
    exact h
  · rw [if_pos h0, if_neg h7] at h
    exact h
  · rw [if_neg h0] at h
    exact h
theorem qz_w_slot {post : Int32 → Prop} {u : St0} {s : Nat} (hs : s < 2) (h : post 1) : wpX_isSlot post u (nI s) := by
  refine pk_eq s 0 (fun _ => h) (fun z => pk_eq s 1 (fun _ => h) (fun z2 => absurd hs (by omega)))
theorem qz_w_frame {post : Int32 → Prop} {u : St0} {f : Nat} (hf : f < 4) (h : post 1) : wpX_isFrame post u (nI f) :=
  pk_lt f 0 (fun z => absurd z (by omega)) (fun _ => pk_lt 3 f (fun z => absurd z (by omega)) (fun _ => h))
theorem qz_w_inside {post : Int32 → Prop} {u : St0} {x y : Nat} (hx : x < 8) (hy : y < 8) (h : post 1) : wpX_isInside post u (nI x) (nI y) :=
  pk_lt x 0 (fun z => absurd z (by omega)) (fun _ => pk_lt 7 x (fun z => absurd z (by omega)) (fun _ => pk_lt y 0 (fun z => absurd z (by omega)) (fun _ => pk_lt 7 y (fun z => absurd z (by omega)) (fun _ => h))))
theorem qz_w_link {post : Int32 → Prop} {u : St0} {l : Nat} (hl : l < 3) (h : post 1) : wpX_isLink post u (nI l) :=
  pk_lt l 0 (fun z => absurd z (by omega)) (fun _ => pk_lt 2 l (fun z => absurd z (by omega)) (fun _ => h))
theorem qz_w_block {post : Int32 → Prop} {u : St0} {b : Nat} (hb : b < 4) (h : post 1) : wpX_isBlock post u (nI b) :=
  pk_lt b 0 (fun z => absurd z (by omega)) (fun _ => pk_lt 3 b (fun z => absurd z (by omega)) (fun _ => h))
theorem qz_w_step {post : Int32 → Prop} {u : St0} {b : Nat} (hb : b < 25) (h : post 1) : wpX_isStep post u (nI b) :=
  pk_lt b 0 (fun z => absurd z (by omega)) (fun _ => pk_lt 24 b (fun z => absurd z (by omega)) (fun _ => h))
end
section
/-! ===== the transform, walked: along, predict, adjust, lift, unlift, analyse, synthesise ===== -/
def qz_st (P : Nat → Int32) (l k : Nat) : Int32 := P (4 * l + 2 * (k / 8 / 4) + k % 8 / 4)
def qz_ax (P : Nat → Int32) (l k : Nat) (s : Int32) : Nat := qz_lim (nI (k % 8) + s * (qz_st P l k / 5 - 2))
def qz_ay (P : Nat → Int32) (l k : Nat) (s : Int32) : Nat := qz_lim (nI (k / 8) + s * ((qz_st P l k - qz_st P l k / 5 * 5) - 2))
def qz_al (P C : Nat → Int32) (F l k : Nat) (s : Int32) : Int32 := C (64 * F + 8 * qz_ay P l k s + qz_ax P l k s)
theorem qz_ax_lt (P : Nat → Int32) (l k : Nat) (s : Int32) : qz_ax P l k s < 8 := qz_lim_lt _
theorem qz_ay_lt (P : Nat → Int32) (l k : Nat) (s : Int32) : qz_ay P l k s < 8 := qz_lim_lt _
theorem qz_e_ix (l k : Nat) (hk : k < 64) : ((4 * nI l) + (2 * (nI (k / 8) >>> ((2 : Int32) &&& 31)))) + (nI (k % 8) >>> ((2 : Int32) &&& 31)) = nI (4 * l + 2 * (k / 8 / 4) + k % 8 / 4) := by
  rw [pk_shrN (by omega) _ 2 (by decide), pk_shrN (by omega) _ 2 (by decide)]
  show (nI 4 * nI l + nI 2 * nI (k / 8 / 4)) + nI (k % 8 / 4) = _
  rw [pk_mul, pk_mul, nI_add, nI_add]
theorem qz_e_cell (F y x : Nat) : ((64 * nI F) + (8 * nI y)) + nI x = nI (64 * F + 8 * y + x) := by
  show (nI 64 * nI F + nI 8 * nI y) + nI x = _
  rw [pk_mul, pk_mul, nI_add, nI_add]
section
variable {f0 p0 : Int32} {a1 a2 a3 a4 a5 a6 a7 a8 a9 a10 a11 a12 : Nat → Int32}
theorem qz_w_along {post : Int32 → Prop} {s : Int32} (F l k : Nat) (hF : F < 4) (hl : l < 3) (hk : k < 64) (h : post (qz_al a8 a7 F l k s)) : wpX_along post (f0, p0, a1, a2, a3, a4, a5, a6, a7, a8, a9, a10, a11, a12) (nI F) (nI l) (nI k) s := by
  have hx := qz_ax_lt a8 l k s
  have hy := qz_ay_lt a8 l k s
  unfold wpX_along
  dsimp only
  refine nm_r (pk_andN (m := 7) (by omega) 3 (by decide)) (nm_r (pk_shrN (by omega) _ 3 (by decide)) ?_)
  refine ⟨pk_in _ 12 (by omega) (qz_e_ix l k hk), nm_r (show a8 _ = qz_st a8 l k from congrArg a8 (pk_cl _ (qz_e_ix l k hk) (by omega))) ?_⟩
  refine ⟨by decide, qz_w_lim ⟨by decide, qz_w_lim ⟨pk_in (64 * F + 8 * qz_ay a8 l k s + qz_ax a8 l k s) 256 (by omega) (qz_e_cell F _ _), ?_⟩⟩⟩
  have e : a7 (((64 * nI F) + (8 * nI (qz_ay a8 l k s))) + nI (qz_ax a8 l k s)).toNatClampNeg = qz_al a8 a7 F l k s := congrArg a7 (pk_cl _ (qz_e_cell F _ _) (by omega))
  exact e ▸ h
end
def qz_ps (s : Int32) (P : Nat → Int32) (k : Nat) (C : Nat → Int32) : Nat → Int32 :=
  upd (upd C (64 + k) (C (64 + k) + s * ((qz_al P C 0 0 k 1 + qz_al P C 2 1 k 1) >>> ((1 : Int32) &&& 31)))) (192 + k) (C (192 + k) + s * qz_al P C 2 2 k 1)
def qz_as (s : Int32) (P : Nat → Int32) (k : Nat) (C : Nat → Int32) : Nat → Int32 :=
  upd (upd C k (C k + s * (qz_al P C 1 0 k (-1) >>> ((1 : Int32) &&& 31)))) (128 + k) (C (128 + k) + s * (((qz_al P C 1 1 k (-1) + qz_al P C 3 2 k (-1)) + 2) >>> ((2 : Int32) &&& 31)))
section
variable {f0 p0 : Int32} {a1 a2 a3 a4 a5 a6 a7 a8 a9 a10 a11 a12 : Nat → Int32}
theorem qz_w_predict {post : St2 → Prop} {s : Int32} (h : post (f0, p0, a1, a2, a3, a4, a5, a6, qz_it (qz_ps s a8) a7 64, a8, a9, a10, a11, a12)) : wpX_predict post (f0, p0, a1, a2, a3, a4, a5, a6, a7, a8, a9, a10, a11, a12) s :=
  qz_loop (fun n i C => wX_predict_2 post s f0 p0 n (nI i) a1 a2 a3 a4 a5 a6 C a8 a9 a10 a11 a12) (qz_ps s a8) a7 64
    (fun n => pk_le 64 64 (fun _ => h) (fun z => absurd z (by omega)))
    (fun n i hi hw => pk_le 64 i (fun z => absurd z (by omega)) (fun _ =>
      qz_w_along 0 0 i (by omega) (by omega) hi (qz_w_along 2 1 i (by omega) (by omega) hi (qz_w_along 2 2 i (by omega) (by omega) hi
        ⟨pk_in (64 + i) 256 (by omega) (nI_add 64 i), pk_in (64 + i) 256 (by omega) (nI_add 64 i), nm_e ⟨pk_in (192 + i) 256 (by omega) (nI_add 192 i), pk_in (192 + i) 256 (by omega) (nI_add 192 i),
          nm_r (by rw [pk_cl (x := 64 + nI i) (64 + i) (nI_add 64 i), pk_cl (x := 192 + nI i) (192 + i) (nI_add 192 i), pk_un (show 192 + i ≠ 64 + i by omega)]; rfl) (nm_r (nI_1 i) hw)⟩⟩))))
theorem qz_w_adjust {post : St2 → Prop} {s : Int32} (h : post (f0, p0, a1, a2, a3, a4, a5, a6, qz_it (qz_as s a8) a7 64, a8, a9, a10, a11, a12)) : wpX_adjust post (f0, p0, a1, a2, a3, a4, a5, a6, a7, a8, a9, a10, a11, a12) s :=
  qz_loop (fun n i C => wX_adjust_2 post s f0 p0 n (nI i) a1 a2 a3 a4 a5 a6 C a8 a9 a10 a11 a12) (qz_as s a8) a7 64
    (fun n => pk_le 64 64 (fun _ => h) (fun z => absurd z (by omega)))
    (fun n i hi hw => pk_le 64 i (fun z => absurd z (by omega)) (fun _ =>
      qz_w_along 1 0 i (by omega) (by omega) hi (qz_w_along 1 1 i (by omega) (by omega) hi (qz_w_along 3 2 i (by omega) (by omega) hi
        ⟨pk_in i 256 (by omega), pk_in i 256 (by omega), nm_e ⟨pk_in (128 + i) 256 (by omega) (nI_add 128 i), pk_in (128 + i) 256 (by omega) (nI_add 128 i),
          nm_r (by rw [pk_cl i, pk_cl (x := 128 + nI i) (128 + i) (nI_add 128 i), pk_un (show 128 + i ≠ i by omega)]; rfl) (nm_r (nI_1 i) hw)⟩⟩))))
end
/-! lift and unlift over places p 0 .. p (2 N - 1) -/
def qz_l1 (p : Nat → Nat) (N m : Nat) (C : Nat → Int32) : Nat → Int32 :=
  upd C (p (2 * m + 1)) (C (p (2 * m + 1)) - ((C (p (2 * m)) + C (p (if m + 1 < N then 2 * m + 2 else 2 * m))) >>> ((1 : Int32) &&& 31)))
def qz_u1 (p : Nat → Nat) (N m : Nat) (C : Nat → Int32) : Nat → Int32 :=
  upd C (p (2 * m + 1)) (C (p (2 * m + 1)) + ((C (p (2 * m)) + C (p (if m + 1 < N then 2 * m + 2 else 2 * m))) >>> ((1 : Int32) &&& 31)))
def qz_l2 (p : Nat → Nat) (m : Nat) (C : Nat → Int32) : Nat → Int32 :=
  upd C (p (2 * m)) (C (p (2 * m)) + (((C (p (if m = 0 then 1 else 2 * m - 1)) + C (p (2 * m + 1))) + 2) >>> ((2 : Int32) &&& 31)))
def qz_u2 (p : Nat → Nat) (m : Nat) (C : Nat → Int32) : Nat → Int32 :=
  upd C (p (2 * m)) (C (p (2 * m)) - (((C (p (if m = 0 then 1 else 2 * m - 1)) + C (p (2 * m + 1))) + 2) >>> ((2 : Int32) &&& 31)))
def qz_lift (p : Nat → Nat) (N : Nat) (C : Nat → Int32) : Nat → Int32 := qz_it (qz_l2 p) (qz_it (qz_l1 p N) C N) N
def qz_unlift (p : Nat → Nat) (N : Nat) (C : Nat → Int32) : Nat → Int32 := qz_it (qz_u1 p N) (qz_it (qz_u2 p) C N) N
def qz_pp (st g : Nat) (i : Nat) : Nat := st + i * g
theorem qz_pp_s (st g i : Nat) : qz_pp st g (i + 1) = qz_pp st g i + g := by unfold qz_pp; rw [Nat.succ_mul]; omega
theorem qz_e_pp (st g i : Nat) : nI st + nI i * nI g = nI (qz_pp st g i) := by rw [pk_mul, nI_add]; rfl
theorem qz_e_ppA (st g i : Nat) : nI (qz_pp st g i) + nI g = nI (qz_pp st g (i + 1)) := by rw [nI_add, qz_pp_s]
theorem qz_e_ppS (st g i : Nat) : nI (qz_pp st g (i + 1)) - nI g = nI (qz_pp st g i) := by rw [qz_pp_s, pk_sub (by omega), show qz_pp st g i + g - g = qz_pp st g i by omega]
theorem qz_pp_le (st g : Nat) {i j : Nat} (h : i ≤ j) : qz_pp st g i ≤ qz_pp st g j := Nat.add_le_add_left (Nat.mul_le_mul_right g h) st
section
variable {f0 p0 : Int32} {a1 a2 a3 a4 a5 a6 a7 a8 a9 a10 a11 a12 : Nat → Int32}
theorem qz_w_lift {post : St2 → Prop} (st g N : Nat) (hN : 0 < N) (hb : N < 1000) (hp : qz_pp st g (2 * N - 1) < 256) (h : post (f0, p0, a1, a2, a3, a4, a5, a6, qz_lift (qz_pp st g) N a7, a8, a9, a10, a11, a12)) : wpX_lift post (f0, p0, a1, a2, a3, a4, a5, a6, a7, a8, a9, a10, a11, a12) (nI st) (nI g) (nI (2 * N)) := by
  have hq : ∀ i, i < 2 * N → qz_pp st g i < 256 := fun i hi => Nat.lt_of_le_of_lt (qz_pp_le st g (by omega)) hp
  refine qz_loop (fun n m C => wX_lift_3 post (nI st) (nI g) (nI (2 * N)) f0 p0 n (nI (2 * m + 1)) a1 a2 a3 a4 a5 a6 C a8 a9 a10 a11 a12) (qz_l1 (qz_pp st g) N) a7 N
    (fun n => pk_le (2 * N) (2 * N + 1) (fun _ => ?_) (fun z => absurd z (by omega))) (fun n m hm hw => ?_)
  · refine qz_loop (fun n m C => wX_lift_81 post (nI st) (nI g) (nI (2 * N)) f0 p0 n (nI (2 * m)) a1 a2 a3 a4 a5 a6 C a8 a9 a10 a11 a12) (qz_l2 (qz_pp st g)) _ N
      (fun n => pk_le (2 * N) (2 * N) (fun _ => h) (fun z => absurd z (by omega))) (fun n m hm hw => ?_)
    have h0 := hq (2 * m) (by omega)
    have h1 := hq (2 * m + 1) (by omega)
    refine pk_le (2 * N) (2 * m) (fun z => absurd z (by omega)) (fun _ => nm_r (qz_e_pp st g (2 * m)) (pk_le (2 * m) 0 (fun z => ?_) (fun z => ?_)))
    · have e0 : m = 0 := by omega
      refine ⟨pk_in _ 256 h1 (qz_e_ppA st g (2 * m)), pk_in _ 256 h0, pk_in _ 256 h1 (qz_e_ppA st g (2 * m)), pk_in _ 256 h0, nm_r ?_ (nm_r (nI_add (2 * m) 2) hw)⟩
      rw [pk_cl _ (qz_e_ppA st g (2 * m)), pk_cl (qz_pp st g (2 * m))]
      unfold qz_l2
      rw [if_pos e0]
      subst e0
      rfl
    · obtain ⟨j, rfl⟩ : ∃ j, m = j + 1 := ⟨m - 1, by omega⟩
      have h2 := hq (2 * j + 1) (by omega)
      have e2 : nI (qz_pp st g (2 * (j + 1))) - nI g = nI (qz_pp st g (2 * j + 1)) := qz_e_ppS st g (2 * j + 1)
      refine ⟨pk_in _ 256 h2 e2, pk_in _ 256 h0, pk_in _ 256 h1 (qz_e_ppA st g (2 * (j + 1))), pk_in _ 256 h0, nm_r ?_ (nm_r (nI_add (2 * (j + 1)) 2) hw)⟩
      rw [pk_cl _ (qz_e_ppA st g (2 * (j + 1))), pk_cl _ e2, pk_cl (qz_pp st g (2 * (j + 1)))]
      unfold qz_l2
      rw [if_neg (by omega), show 2 * (j + 1) - 1 = 2 * j + 1 by omega]
  · have h0 := hq (2 * m) (by omega)
    have h1 := hq (2 * m + 1) (by omega)
    refine pk_le (2 * N) (2 * m + 1) (fun z => absurd z (by omega)) (fun _ => nm_r (qz_e_pp st g (2 * m + 1)) (pk_le (2 * N) (2 * m + 2) (fun z => ?_) (fun z => ?_) rfl (nI_add (2 * m + 1) 1)))
    · refine ⟨pk_in _ 256 h0 (qz_e_ppS st g (2 * m)), pk_in _ 256 h1, pk_in _ 256 h0 (qz_e_ppS st g (2 * m)), pk_in _ 256 h1, nm_r ?_ (nm_r (nI_add (2 * m + 1) 2) hw)⟩
      rw [pk_cl _ (qz_e_ppS st g (2 * m)), pk_cl (qz_pp st g (2 * m + 1))]
      unfold qz_l1
      rw [if_neg (by omega)]
    · have h2 := hq (2 * m + 2) (by omega)
      refine ⟨pk_in _ 256 h2 (qz_e_ppA st g (2 * m + 1)), pk_in _ 256 h1, pk_in _ 256 h0 (qz_e_ppS st g (2 * m)), pk_in _ 256 h1, nm_r ?_ (nm_r (nI_add (2 * m + 1) 2) hw)⟩
      rw [pk_cl _ (qz_e_ppS st g (2 * m)), pk_cl _ (qz_e_ppA st g (2 * m + 1)) (Nat.lt_trans h2 (by decide)), pk_cl (qz_pp st g (2 * m + 1))]
      unfold qz_l1
      rw [if_pos (by omega)]
theorem qz_w_unlift {post : St2 → Prop} (st g N : Nat) (hN : 0 < N) (hb : N < 1000) (hp : qz_pp st g (2 * N - 1) < 256) (h : post (f0, p0, a1, a2, a3, a4, a5, a6, qz_unlift (qz_pp st g) N a7, a8, a9, a10, a11, a12)) : wpX_unlift post (f0, p0, a1, a2, a3, a4, a5, a6, a7, a8, a9, a10, a11, a12) (nI st) (nI g) (nI (2 * N)) := by
  have hq : ∀ i, i < 2 * N → qz_pp st g i < 256 := fun i hi => Nat.lt_of_le_of_lt (qz_pp_le st g (by omega)) hp
  refine qz_loop (fun n m C => wX_unlift_3 post (nI st) (nI g) (nI (2 * N)) f0 p0 n (nI (2 * m)) a1 a2 a3 a4 a5 a6 C a8 a9 a10 a11 a12) (qz_u2 (qz_pp st g)) a7 N
    (fun n => pk_le (2 * N) (2 * N) (fun _ => ?_) (fun z => absurd z (by omega))) (fun n m hm hw => ?_)
  · refine qz_loop (fun n m C => wX_unlift_80 post (nI st) (nI g) (nI (2 * N)) f0 p0 n (nI (2 * m + 1)) a1 a2 a3 a4 a5 a6 C a8 a9 a10 a11 a12) (qz_u1 (qz_pp st g) N) _ N
      (fun n => pk_le (2 * N) (2 * N + 1) (fun _ => h) (fun z => absurd z (by omega))) (fun n m hm hw => ?_)
    have h0 := hq (2 * m) (by omega)
    have h1 := hq (2 * m + 1) (by omega)
    refine pk_le (2 * N) (2 * m + 1) (fun z => absurd z (by omega)) (fun _ => nm_r (qz_e_pp st g (2 * m + 1)) (pk_le (2 * N) (2 * m + 2) (fun z => ?_) (fun z => ?_) rfl (nI_add (2 * m + 1) 1)))
    · refine ⟨pk_in _ 256 h0 (qz_e_ppS st g (2 * m)), pk_in _ 256 h1, pk_in _ 256 h0 (qz_e_ppS st g (2 * m)), pk_in _ 256 h1, nm_r ?_ (nm_r (nI_add (2 * m + 1) 2) hw)⟩
      rw [pk_cl _ (qz_e_ppS st g (2 * m)), pk_cl (qz_pp st g (2 * m + 1))]
      unfold qz_u1
      rw [if_neg (by omega)]
    · have h2 := hq (2 * m + 2) (by omega)
      refine ⟨pk_in _ 256 h2 (qz_e_ppA st g (2 * m + 1)), pk_in _ 256 h1, pk_in _ 256 h0 (qz_e_ppS st g (2 * m)), pk_in _ 256 h1, nm_r ?_ (nm_r (nI_add (2 * m + 1) 2) hw)⟩
      rw [pk_cl _ (qz_e_ppS st g (2 * m)), pk_cl _ (qz_e_ppA st g (2 * m + 1)) (Nat.lt_trans h2 (by decide)), pk_cl (qz_pp st g (2 * m + 1))]
      unfold qz_u1
      rw [if_pos (by omega)]
  · have h0 := hq (2 * m) (by omega)
    have h1 := hq (2 * m + 1) (by omega)
    refine pk_le (2 * N) (2 * m) (fun z => absurd z (by omega)) (fun _ => nm_r (qz_e_pp st g (2 * m)) (pk_le (2 * m) 0 (fun z => ?_) (fun z => ?_)))
    · have e0 : m = 0 := by omega
      refine ⟨pk_in _ 256 h1 (qz_e_ppA st g (2 * m)), pk_in _ 256 h0, pk_in _ 256 h1 (qz_e_ppA st g (2 * m)), pk_in _ 256 h0, nm_r ?_ (nm_r (nI_add (2 * m) 2) hw)⟩
      rw [pk_cl _ (qz_e_ppA st g (2 * m)), pk_cl (qz_pp st g (2 * m))]
      unfold qz_u2
      rw [if_pos e0]
      subst e0
      rfl
    · obtain ⟨j, rfl⟩ : ∃ j, m = j + 1 := ⟨m - 1, by omega⟩
      have h2 := hq (2 * j + 1) (by omega)
      have e2 : nI (qz_pp st g (2 * (j + 1))) - nI g = nI (qz_pp st g (2 * j + 1)) := qz_e_ppS st g (2 * j + 1)
      refine ⟨pk_in _ 256 h2 e2, pk_in _ 256 h0, pk_in _ 256 h1 (qz_e_ppA st g (2 * (j + 1))), pk_in _ 256 h0, nm_r ?_ (nm_r (nI_add (2 * (j + 1)) 2) hw)⟩
      rw [pk_cl _ (qz_e_ppA st g (2 * (j + 1))), pk_cl _ e2, pk_cl (qz_pp st g (2 * (j + 1)))]
      unfold qz_u2
      rw [if_neg (by omega), show 2 * (j + 1) - 1 = 2 * j + 1 by omega]
end
end
section
/-! ===== analyse and synthesise ===== -/
def qz_lf1 (A i : Nat) : (Nat → Int32) → Nat → Int32 := qz_lift (qz_pp (A + 8 * i) 1) 4
def qz_lf2 (A i : Nat) : (Nat → Int32) → Nat → Int32 := qz_lift (qz_pp (A + i) 8) 4
def qz_lf3 (A i : Nat) : (Nat → Int32) → Nat → Int32 := qz_lift (qz_pp (A + 16 * i) 2) 2
def qz_lf4 (A i : Nat) : (Nat → Int32) → Nat → Int32 := qz_lift (qz_pp (A + 2 * i) 16) 2
def qz_uf1 (A i : Nat) : (Nat → Int32) → Nat → Int32 := qz_unlift (qz_pp (A + 8 * i) 1) 4
def qz_uf2 (A i : Nat) : (Nat → Int32) → Nat → Int32 := qz_unlift (qz_pp (A + i) 8) 4
def qz_uf3 (A i : Nat) : (Nat → Int32) → Nat → Int32 := qz_unlift (qz_pp (A + 16 * i) 2) 2
def qz_uf4 (A i : Nat) : (Nat → Int32) → Nat → Int32 := qz_unlift (qz_pp (A + 2 * i) 16) 2
def qz_ana (A : Nat) (C : Nat → Int32) : Nat → Int32 := qz_it (qz_lf4 A) (qz_it (qz_lf3 A) (qz_it (qz_lf2 A) (qz_it (qz_lf1 A) C 8) 8) 4) 4
def qz_syn (A : Nat) (C : Nat → Int32) : Nat → Int32 := qz_it (qz_uf1 A) (qz_it (qz_uf2 A) (qz_it (qz_uf3 A) (qz_it (qz_uf4 A) C 4) 4) 8) 8
section
variable {f0 p0 : Int32} {a1 a2 a3 a4 a5 a6 a7 a8 a9 a10 a11 a12 : Nat → Int32}
theorem qz_w_liftX {post : St2 → Prop} {x y z : Int32} (st g N : Nat) (hN : 0 < N) (hb : N < 1000) (hp : qz_pp st g (2 * N - 1) < 256) (hx : x = nI st) (hy : y = nI g) (hz : z = nI (2 * N)) (h : post (f0, p0, a1, a2, a3, a4, a5, a6, qz_lift (qz_pp st g) N a7, a8, a9, a10, a11, a12)) : wpX_lift post (f0, p0, a1, a2, a3, a4, a5, a6, a7, a8, a9, a10, a11, a12) x y z := by
  subst hx hy hz
  exact qz_w_lift st g N hN hb hp h
theorem qz_w_unliftX {post : St2 → Prop} {x y z : Int32} (st g N : Nat) (hN : 0 < N) (hb : N < 1000) (hp : qz_pp st g (2 * N - 1) < 256) (hx : x = nI st) (hy : y = nI g) (hz : z = nI (2 * N)) (h : post (f0, p0, a1, a2, a3, a4, a5, a6, qz_unlift (qz_pp st g) N a7, a8, a9, a10, a11, a12)) : wpX_unlift post (f0, p0, a1, a2, a3, a4, a5, a6, a7, a8, a9, a10, a11, a12) x y z := by
  subst hx hy hz
  exact qz_w_unlift st g N hN hb hp h
theorem qz_w_ana {post : St2 → Prop} (A : Nat) (hA : A ≤ 192) (h : post (f0, p0, a1, a2, a3, a4, a5, a6, qz_ana A a7, a8, a9, a10, a11, a12)) : wpX_analyse post (f0, p0, a1, a2, a3, a4, a5, a6, a7, a8, a9, a10, a11, a12) (nI A) :=
  qz_loop (fun n i C => wX_analyse_2 post (nI A) n (nI i) f0 p0 a1 a2 a3 a4 a5 a6 C a8 a9 a10 a11 a12) (qz_lf1 A) a7 8
    (fun n => pk_le 8 8 (fun _ =>
      qz_loop (fun n i C => wX_analyse_29 post (nI A) n (nI i) f0 p0 a1 a2 a3 a4 a5 a6 C a8 a9 a10 a11 a12) (qz_lf2 A) _ 8
        (fun n => pk_le 8 8 (fun _ =>
          qz_loop (fun n i C => wX_analyse_54 post (nI A) n (nI i) f0 p0 a1 a2 a3 a4 a5 a6 C a8 a9 a10 a11 a12) (qz_lf3 A) _ 4
            (fun n => pk_le 4 4 (fun _ =>
              qz_loop (fun n i C => wX_analyse_79 post (nI A) n (nI i) f0 p0 a1 a2 a3 a4 a5 a6 C a8 a9 a10 a11 a12) (qz_lf4 A) _ 4
                (fun n => pk_le 4 4 (fun _ => h) (fun z => absurd z (by omega)))
                (fun n i hi hw => pk_le 4 i (fun z => absurd z (by omega)) (fun _ =>
                  qz_w_liftX (A + 2 * i) 16 2 (by omega) (by omega) (by unfold qz_pp; omega) (by rw [← nI_add, ← pk_mul]; rfl) rfl rfl (nm_r (nI_1 i) hw)))) (fun z => absurd z (by omega)))
            (fun n i hi hw => pk_le 4 i (fun z => absurd z (by omega)) (fun _ =>
              qz_w_liftX (A + 16 * i) 2 2 (by omega) (by omega) (by unfold qz_pp; omega) (by rw [← nI_add, ← pk_mul]; rfl) rfl rfl (nm_r (nI_1 i) hw)))) (fun z => absurd z (by omega)))
        (fun n i hi hw => pk_le 8 i (fun z => absurd z (by omega)) (fun _ =>
          qz_w_liftX (A + i) 8 4 (by omega) (by omega) (by unfold qz_pp; omega) (nI_add A i) rfl rfl (nm_r (nI_1 i) hw)))) (fun z => absurd z (by omega)))
    (fun n i hi hw => pk_le 8 i (fun z => absurd z (by omega)) (fun _ =>
      qz_w_liftX (A + 8 * i) 1 4 (by omega) (by omega) (by unfold qz_pp; omega) (by rw [← nI_add, ← pk_mul]; rfl) rfl rfl (nm_r (nI_1 i) hw)))
theorem qz_w_syn {post : St2 → Prop} (A : Nat) (hA : A ≤ 192) (h : post (f0, p0, a1, a2, a3, a4, a5, a6, qz_syn A a7, a8, a9, a10, a11, a12)) : wpX_synthesise post (f0, p0, a1, a2, a3, a4, a5, a6, a7, a8, a9, a10, a11, a12) (nI A) :=
  qz_loop (fun n i C => wX_synthesise_2 post (nI A) n (nI i) f0 p0 a1 a2 a3 a4 a5 a6 C a8 a9 a10 a11 a12) (qz_uf4 A) a7 4
    (fun n => pk_le 4 4 (fun _ =>
      qz_loop (fun n i C => wX_synthesise_27 post (nI A) n (nI i) f0 p0 a1 a2 a3 a4 a5 a6 C a8 a9 a10 a11 a12) (qz_uf3 A) _ 4
        (fun n => pk_le 4 4 (fun _ =>
          qz_loop (fun n i C => wX_synthesise_52 post (nI A) n (nI i) f0 p0 a1 a2 a3 a4 a5 a6 C a8 a9 a10 a11 a12) (qz_uf2 A) _ 8
            (fun n => pk_le 8 8 (fun _ =>
              qz_loop (fun n i C => wX_synthesise_77 post (nI A) n (nI i) f0 p0 a1 a2 a3 a4 a5 a6 C a8 a9 a10 a11 a12) (qz_uf1 A) _ 8
                (fun n => pk_le 8 8 (fun _ => h) (fun z => absurd z (by omega)))
                (fun n i hi hw => pk_le 8 i (fun z => absurd z (by omega)) (fun _ =>
                  qz_w_unliftX (A + 8 * i) 1 4 (by omega) (by omega) (by unfold qz_pp; omega) (by rw [← nI_add, ← pk_mul]; rfl) rfl rfl (nm_r (nI_1 i) hw)))) (fun z => absurd z (by omega)))
            (fun n i hi hw => pk_le 8 i (fun z => absurd z (by omega)) (fun _ =>
              qz_w_unliftX (A + i) 8 4 (by omega) (by omega) (by unfold qz_pp; omega) (nI_add A i) rfl rfl (nm_r (nI_1 i) hw)))) (fun z => absurd z (by omega)))
        (fun n i hi hw => pk_le 4 i (fun z => absurd z (by omega)) (fun _ =>
          qz_w_unliftX (A + 16 * i) 2 2 (by omega) (by omega) (by unfold qz_pp; omega) (by rw [← nI_add, ← pk_mul]; rfl) rfl rfl (nm_r (nI_1 i) hw)))) (fun z => absurd z (by omega)))
    (fun n i hi hw => pk_le 4 i (fun z => absurd z (by omega)) (fun _ =>
      qz_w_unliftX (A + 2 * i) 16 2 (by omega) (by omega) (by unfold qz_pp; omega) (by rw [← nI_add, ← pk_mul]; rfl) rfl rfl (nm_r (nI_1 i) hw)))
end
end
section
/-! ===== the reader, walked ===== -/
def qz_B (A : Nat → Int32) (s q : Nat) : Bool := decide (q < 5120) && qz_bt (A (160 * s + q / 32)) (q % 32)
def qz_rn (B : Nat → Bool) (q : Nat) (n : Nat) : Nat := qz_it (fun i v => 2 * v + (B (q + i)).toNat) 0 n
theorem qz_bvN (v : Nat) (b : Bool) : 2 * nI v + qz_bv b = nI (2 * v + b.toNat) := by
  rw [← nI_add, ← pk_mul]
  cases b <;> rfl
theorem qz_rn_lt (B : Nat → Bool) (q n : Nat) : qz_rn B q n < 2 ^ n := by
  unfold qz_rn
  refine qz_it_inv (fun k v => v < 2 ^ k) _ _ (by decide) n (fun i v _ h => ?_)
  have hb := Bool.toNat_le (B (q + i))
  rw [Nat.pow_succ]
  omega
theorem qz_e_base (s : Nat) : nI s * 160 = nI (160 * s) := by rw [Nat.mul_comm, ← pk_mul]; rfl
section
variable {f0 p0 : Int32} {a1 a2 a3 a4 a5 a6 a7 a8 a9 a10 a11 a12 : Nat → Int32}
theorem qz_w_read {post : Int32 → St2 → Prop} (s q N : Nat) (hs : s < 2) (hq : q + N < 2 ^ 30) (h : post (nI (qz_rn (qz_B a5 s) q N)) (nI (160 * s), nI (q + N), a1, a2, a3, a4, a5, a6, a7, a8, a9, a10, a11, a12)) : wpX_read post (nI (160 * s), nI q, a1, a2, a3, a4, a5, a6, a7, a8, a9, a10, a11, a12) (nI N) := by
  refine qz_loop (fun n i v => wX_read_4 post (nI N) (nI (160 * s)) a1 a2 a3 a4 a5 a6 a7 a8 a9 a10 a11 a12 n (nI v) (nI i) (nI (q + i))) (fun i v => 2 * v + (qz_B a5 s (q + i)).toNat) 0 N
    (fun n => pk_le N N (fun _ => h) (fun z => absurd z (by omega))) (fun n i hi hw => ?_)
  refine pk_le N i (fun z => absurd z (by omega)) (fun _ => nm_r (pk_shrN (by omega) _ 5 (by decide)) (pk_le 160 ((q + i) / 32) (fun z => ?_) (fun z => ?_)))
  · refine nm_r ?_ (nm_r (nI_1 (q + i)) (nm_r (nI_1 i) hw))
    rw [← qz_bvN, show qz_B a5 s (q + i) = false by unfold qz_B; rw [decide_eq_false (by omega)]; rfl]
    rfl
  · refine ⟨pk_in (160 * s + (q + i) / 32) 320 (by omega) (nI_add (160 * s) _), nm_r ?_ (nm_r (nI_1 (q + i)) (nm_r (nI_1 i) hw))⟩
    rw [← qz_bvN, pk_andN (m := 31) (by omega) 5 (by decide), qz_ushr1 _ (by omega), pk_cl (x := nI (160 * s) + nI ((q + i) / 2 ^ 5)) (160 * s + (q + i) / 32) (nI_add (160 * s) _)]
    unfold qz_B
    rw [decide_eq_true (by omega)]
    rfl
theorem qz_w_read1 {post : Int32 → St2 → Prop} (s q : Nat) (hs : s < 2) (hq : q + 1 < 2 ^ 30) (h : post (qz_bv (qz_B a5 s q)) (nI (160 * s), nI (q + 1), a1, a2, a3, a4, a5, a6, a7, a8, a9, a10, a11, a12)) : wpX_read post (nI (160 * s), nI q, a1, a2, a3, a4, a5, a6, a7, a8, a9, a10, a11, a12) 1 := by
  refine qz_w_read s q 1 hs hq ?_
  rw [show nI (qz_rn (qz_B a5 s) q 1) = qz_bv (qz_B a5 s q) by
    show nI (2 * 0 + (qz_B a5 s (q + 0)).toNat) = _
    rw [Nat.add_zero]
    cases qz_B a5 s q <;> rfl]
  exact h
theorem qz_w_read_2 {post : Int32 → St2 → Prop} (s q N : Nat) (hs : s < 2) (hq : q + N < 2 ^ 30) (h : post (nI (qz_rn (qz_B a5 s) q N)) (nI (160 * s), nI (q + N), a1, a2, a3, a4, a5, a6, a7, a8, a9, a10, a11, a12)) : wpX_read_2 post (nI (160 * s), nI q, a1, a2, a3, a4, a5, a6, a7, a8, a9, a10, a11, a12) (nI N) := by
  refine qz_loop (fun n i v => wX_read_2_4 post (nI N) (nI (160 * s)) a1 a2 a3 a4 a5 a6 a7 a8 a9 a10 a11 a12 n (nI v) (nI i) (nI (q + i))) (fun i v => 2 * v + (qz_B a5 s (q + i)).toNat) 0 N
    (fun n => pk_le N N (fun _ => h) (fun z => absurd z (by omega))) (fun n i hi hw => ?_)
  refine pk_le N i (fun z => absurd z (by omega)) (fun _ => nm_r (pk_shrN (by omega) _ 5 (by decide)) (pk_le 160 ((q + i) / 32) (fun z => ?_) (fun z => ?_)))
  · refine nm_r ?_ (nm_r (nI_1 (q + i)) (nm_r (nI_1 i) hw))
    rw [← qz_bvN, show qz_B a5 s (q + i) = false by unfold qz_B; rw [decide_eq_false (by omega)]; rfl]
    rfl
  · refine ⟨pk_in (160 * s + (q + i) / 32) 320 (by omega) (nI_add (160 * s) _), nm_r ?_ (nm_r (nI_1 (q + i)) (nm_r (nI_1 i) hw))⟩
    rw [← qz_bvN, pk_andN (m := 31) (by omega) 5 (by decide), qz_ushr1 _ (by omega), pk_cl (x := nI (160 * s) + nI ((q + i) / 2 ^ 5)) (160 * s + (q + i) / 32) (nI_add (160 * s) _)]
    unfold qz_B
    rw [decide_eq_true (by omega)]
    rfl
theorem qz_w_read_21 {post : Int32 → St2 → Prop} (s q : Nat) (hs : s < 2) (hq : q + 1 < 2 ^ 30) (h : post (qz_bv (qz_B a5 s q)) (nI (160 * s), nI (q + 1), a1, a2, a3, a4, a5, a6, a7, a8, a9, a10, a11, a12)) : wpX_read_2 post (nI (160 * s), nI q, a1, a2, a3, a4, a5, a6, a7, a8, a9, a10, a11, a12) 1 := by
  refine qz_w_read_2 s q 1 hs hq ?_
  rw [show nI (qz_rn (qz_B a5 s) q 1) = qz_bv (qz_B a5 s q) by
    show nI (2 * 0 + (qz_B a5 s (q + 0)).toNat) = _
    rw [Nat.add_zero]
    cases qz_B a5 s q <;> rfl]
  exact h
theorem qz_w_read_3 {post : Int32 → St2 → Prop} (s q N : Nat) (hs : s < 2) (hq : q + N < 2 ^ 30) (h : post (nI (qz_rn (qz_B a5 s) q N)) (nI (160 * s), nI (q + N), a1, a2, a3, a4, a5, a6, a7, a8, a9, a10, a11, a12)) : wpX_read_3 post (nI (160 * s), nI q, a1, a2, a3, a4, a5, a6, a7, a8, a9, a10, a11, a12) (nI N) := by
  refine qz_loop (fun n i v => wX_read_3_4 post (nI N) (nI (160 * s)) a1 a2 a3 a4 a5 a6 a7 a8 a9 a10 a11 a12 n (nI v) (nI i) (nI (q + i))) (fun i v => 2 * v + (qz_B a5 s (q + i)).toNat) 0 N
    (fun n => pk_le N N (fun _ => h) (fun z => absurd z (by omega))) (fun n i hi hw => ?_)
  refine pk_le N i (fun z => absurd z (by omega)) (fun _ => nm_r (pk_shrN (by omega) _ 5 (by decide)) (pk_le 160 ((q + i) / 32) (fun z => ?_) (fun z => ?_)))
  · refine nm_r ?_ (nm_r (nI_1 (q + i)) (nm_r (nI_1 i) hw))
    rw [← qz_bvN, show qz_B a5 s (q + i) = false by unfold qz_B; rw [decide_eq_false (by omega)]; rfl]
    rfl
  · refine ⟨pk_in (160 * s + (q + i) / 32) 320 (by omega) (nI_add (160 * s) _), nm_r ?_ (nm_r (nI_1 (q + i)) (nm_r (nI_1 i) hw))⟩
    rw [← qz_bvN, pk_andN (m := 31) (by omega) 5 (by decide), qz_ushr1 _ (by omega), pk_cl (x := nI (160 * s) + nI ((q + i) / 2 ^ 5)) (160 * s + (q + i) / 32) (nI_add (160 * s) _)]
    unfold qz_B
    rw [decide_eq_true (by omega)]
    rfl
theorem qz_w_read_31 {post : Int32 → St2 → Prop} (s q : Nat) (hs : s < 2) (hq : q + 1 < 2 ^ 30) (h : post (qz_bv (qz_B a5 s q)) (nI (160 * s), nI (q + 1), a1, a2, a3, a4, a5, a6, a7, a8, a9, a10, a11, a12)) : wpX_read_3 post (nI (160 * s), nI q, a1, a2, a3, a4, a5, a6, a7, a8, a9, a10, a11, a12) 1 := by
  refine qz_w_read_3 s q 1 hs hq ?_
  rw [show nI (qz_rn (qz_B a5 s) q 1) = qz_bv (qz_B a5 s q) by
    show nI (2 * 0 + (qz_B a5 s (q + 0)).toNat) = _
    rw [Nat.add_zero]
    cases qz_B a5 s q <;> rfl]
  exact h
theorem qz_w_read_4 {post : Int32 → St2 → Prop} (s q N : Nat) (hs : s < 2) (hq : q + N < 2 ^ 30) (h : post (nI (qz_rn (qz_B a5 s) q N)) (nI (160 * s), nI (q + N), a1, a2, a3, a4, a5, a6, a7, a8, a9, a10, a11, a12)) : wpX_read_4 post (nI (160 * s), nI q, a1, a2, a3, a4, a5, a6, a7, a8, a9, a10, a11, a12) (nI N) := by
  refine qz_loop (fun n i v => wX_read_4_4 post (nI N) (nI (160 * s)) a1 a2 a3 a4 a5 a6 a7 a8 a9 a10 a11 a12 n (nI v) (nI i) (nI (q + i))) (fun i v => 2 * v + (qz_B a5 s (q + i)).toNat) 0 N
    (fun n => pk_le N N (fun _ => h) (fun z => absurd z (by omega))) (fun n i hi hw => ?_)
  refine pk_le N i (fun z => absurd z (by omega)) (fun _ => nm_r (pk_shrN (by omega) _ 5 (by decide)) (pk_le 160 ((q + i) / 32) (fun z => ?_) (fun z => ?_)))
  · refine nm_r ?_ (nm_r (nI_1 (q + i)) (nm_r (nI_1 i) hw))
    rw [← qz_bvN, show qz_B a5 s (q + i) = false by unfold qz_B; rw [decide_eq_false (by omega)]; rfl]
    rfl
  · refine ⟨pk_in (160 * s + (q + i) / 32) 320 (by omega) (nI_add (160 * s) _), nm_r ?_ (nm_r (nI_1 (q + i)) (nm_r (nI_1 i) hw))⟩
    rw [← qz_bvN, pk_andN (m := 31) (by omega) 5 (by decide), qz_ushr1 _ (by omega), pk_cl (x := nI (160 * s) + nI ((q + i) / 2 ^ 5)) (160 * s + (q + i) / 32) (nI_add (160 * s) _)]
    unfold qz_B
    rw [decide_eq_true (by omega)]
    rfl
theorem qz_w_read_41 {post : Int32 → St2 → Prop} (s q : Nat) (hs : s < 2) (hq : q + 1 < 2 ^ 30) (h : post (qz_bv (qz_B a5 s q)) (nI (160 * s), nI (q + 1), a1, a2, a3, a4, a5, a6, a7, a8, a9, a10, a11, a12)) : wpX_read_4 post (nI (160 * s), nI q, a1, a2, a3, a4, a5, a6, a7, a8, a9, a10, a11, a12) 1 := by
  refine qz_w_read_4 s q 1 hs hq ?_
  rw [show nI (qz_rn (qz_B a5 s) q 1) = qz_bv (qz_B a5 s q) by
    show nI (2 * 0 + (qz_B a5 s (q + 0)).toNat) = _
    rw [Nat.add_zero]
    cases qz_B a5 s q <;> rfl]
  exact h
end
/-! the reader's picture: place, sizes, negative, seen, groupSeen -/
abbrev qz_DT : Type := Nat × (Nat → Int32) × (Nat → Int32) × (Nat → Int32) × (Nat → Int32)
def qz_dc (B : Nat → Bool) (b i : Nat) (d : qz_DT) : qz_DT :=
  if d.2.2.2.1 i = 0 ∧ B d.1 = true then (d.1 + 2, upd d.2.1 i (d.2.1 i ||| (qz_bv (B d.1) <<< (nI b &&& 31))), upd d.2.2.1 i (qz_bv (B (d.1 + 1))), upd d.2.2.2.1 i 1, d.2.2.2.2)
  else (d.1 + 1, upd d.2.1 i (d.2.1 i ||| (qz_bv (B d.1) <<< (nI b &&& 31))), d.2.2.1, d.2.2.2.1, d.2.2.2.2)
def qz_dcs (B : Nat → Bool) (b g : Nat) (d : qz_DT) : qz_DT := qz_it (fun k => qz_dc B b (4 * g + k)) d 4
def qz_dg (B : Nat → Bool) (b g : Nat) (d : qz_DT) : qz_DT :=
  if d.2.2.2.2 g = 0 then (if B d.1 = true then qz_dcs B b g (d.1 + 1, d.2.1, d.2.2.1, d.2.2.2.1, upd d.2.2.2.2 g 1) else (d.1 + 1, d.2.1, d.2.2.1, d.2.2.2.1, upd d.2.2.2.2 g 0))
  else qz_dcs B b g d
def qz_dp (B : Nat → Bool) (f b : Nat) (d : qz_DT) : qz_DT := qz_it (fun k => qz_dg B b (16 * f + k)) d 16
def qz_dps (B : Nat → Bool) (f : Nat) : Nat → qz_DT → qz_DT
  | 0, d => d
  | i + 1, d => qz_dps B f i (qz_dp B f i d)
theorem qz_dc_q (B : Nat → Bool) (b i : Nat) (d : qz_DT) : (qz_dc B b i d).1 ≤ d.1 + 2 := by
  unfold qz_dc
  split
  · exact Nat.le_refl _
  · show d.1 + 1 ≤ d.1 + 2
    omega
theorem qz_dcit_q (B : Nat → Bool) (b g : Nat) (d : qz_DT) (k : Nat) : (qz_it (fun k => qz_dc B b (4 * g + k)) d k).1 ≤ d.1 + 2 * k :=
  qz_it_inv (fun k t => t.1 ≤ d.1 + 2 * k) _ d (by omega) k (fun i t _ h => by have := qz_dc_q B b (4 * g + i) t; omega)
theorem qz_dcit_gs (B : Nat → Bool) (b g : Nat) (d : qz_DT) (k : Nat) : (qz_it (fun k => qz_dc B b (4 * g + k)) d k).2.2.2.2 = d.2.2.2.2 :=
  qz_it_inv (fun k t => t.2.2.2.2 = d.2.2.2.2) _ d rfl k (fun i t _ h => by unfold qz_dc; split <;> exact h)
theorem qz_dg_q (B : Nat → Bool) (b g : Nat) (d : qz_DT) : (qz_dg B b g d).1 ≤ d.1 + 9 := by
  unfold qz_dg
  split
  · split
    · have := qz_dcit_q B b g (d.1 + 1, d.2.1, d.2.2.1, d.2.2.2.1, upd d.2.2.2.2 g 1) 4
      unfold qz_dcs
      omega
    · show d.1 + 1 ≤ d.1 + 9
      omega
  · have := qz_dcit_q B b g d 4
    unfold qz_dcs
    omega
theorem qz_dgit_q (B : Nat → Bool) (b f : Nat) (d : qz_DT) (k : Nat) : (qz_it (fun k => qz_dg B b (16 * f + k)) d k).1 ≤ d.1 + 9 * k :=
  qz_it_inv (fun k t => t.1 ≤ d.1 + 9 * k) _ d (by omega) k (fun i t _ h => by have := qz_dg_q B b (16 * f + i) t; omega)
theorem qz_dps_q (B : Nat → Bool) (f : Nat) : ∀ (i : Nat) (d : qz_DT), (qz_dps B f i d).1 ≤ d.1 + 144 * i := by
  intro i
  induction i with
  | zero => intro d; exact Nat.le_refl _
  | succ i ih =>
    intro d
    have h1 := ih (qz_dp B f i d)
    have h2 : (qz_dp B f i d).1 ≤ d.1 + 9 * 16 := qz_dgit_q B i f d 16
    show (qz_dps B f i (qz_dp B f i d)).1 ≤ _
    omega
section
variable {f0 p0 : Int32} {a1 a2 a3 a4 a5 a6 a7 a8 a9 a10 a11 a12 : Nat → Int32}
theorem qz_w_rcells {post : St2 → Prop} (s g b : Nat) (d : qz_DT) (hs : s < 2) (hg : g < 64) (hb : b < 32) (hq : d.1 + 8 < 2 ^ 30)
    (h : post (nI (160 * s), nI (qz_dcs (qz_B a5 s) b g d).1, a1, a2, a3, a4, a5, a6, a7, a8, (qz_dcs (qz_B a5 s) b g d).2.1, (qz_dcs (qz_B a5 s) b g d).2.2.1, (qz_dcs (qz_B a5 s) b g d).2.2.2.1, (qz_dcs (qz_B a5 s) b g d).2.2.2.2)) :
    ∃ n, wX_readGroup_43 post (nI g) (nI b) n (nI (4 * g)) (nI (160 * s)) (nI d.1) a1 a2 a3 a4 a5 a6 a7 a8 d.2.1 d.2.2.1 d.2.2.2.1 d.2.2.2.2 := by
  have e4 : (4 * nI g) + 4 = nI (4 * g + 4) := by rw [← nI_add, ← pk_mul]; rfl
  unfold qz_dcs at h
  refine qz_loop (fun n k d => wX_readGroup_43 post (nI g) (nI b) n (nI (4 * g + k)) (nI (160 * s)) (nI d.1) a1 a2 a3 a4 a5 a6 a7 a8 d.2.1 d.2.2.1 d.2.2.2.1 d.2.2.2.2) (fun k => qz_dc (qz_B a5 s) b (4 * g + k)) d 4
    (fun n => pk_le (4 * g + 4) (4 * g + 4) (fun _ => h) (fun z => absurd z (by omega)) e4) (fun n k hk hw => ?_)
  have hq2 := qz_dcit_q (qz_B a5 s) b g d k
  try dsimp only at hw
  generalize qz_it (fun k => qz_dc (qz_B a5 s) b (4 * g + k)) d k = d' at hw hq2 ⊢
  obtain ⟨q, sz, ng, sn, gs⟩ := d'
  unfold qz_dc at hw
  dsimp only at hw hq2 ⊢
  have ei : (nI (4 * g + k)).toNatClampNeg = 4 * g + k := nI_clamp (by omega)
  have vi : vp_in (nI (4 * g + k)) 256 := vp_in_nI (by omega) (by omega)
  refine pk_le (4 * g + 4) (4 * g + k) (fun z => absurd z (by omega)) (fun _ => ?_) e4
  refine qz_w_read1 s q hs (by omega) ?_
  dsimp only
  rw [ei]
  refine ⟨vi, vi, nm_e ⟨vi, br_c (fun h0 => br_c (fun h1 => ⟨vi, nm_e (qz_w_read_21 s (q + 1) hs (by omega) ?_)⟩) (fun h1 => nm_r (nI_1 _) ?_)) (fun h0 => nm_r (nI_1 _) ?_)⟩⟩
  · have hB : qz_B a5 s q = true := qz_bv_1.mp h1
    rw [if_pos ⟨h0, hB⟩] at hw
    dsimp only
    refine br_c (fun h2 => ⟨vi, nm_r ?_ (nm_r (nI_1 _) hw)⟩) (fun h2 => ⟨vi, nm_r ?_ (nm_r (nI_1 _) hw)⟩)
    · rw [h2]
    · rw [show qz_bv (qz_B a5 s (q + 1)) = 0 from qz_bv_0.mpr (Bool.eq_false_iff.mpr (fun z => h2 (qz_bv_1.mpr z)))]
  · rw [if_neg (fun z => h1 (qz_bv_1.mpr z.2))] at hw
    exact hw
  · rw [if_neg (fun z => h0 z.1)] at hw
    exact hw
theorem qz_w_rgroup {post : St2 → Prop} (s g b : Nat) (d : qz_DT) (hs : s < 2) (hg : g < 64) (hb : b < 32) (hq : d.1 + 9 < 2 ^ 30)
    (h : post (nI (160 * s), nI (qz_dg (qz_B a5 s) b g d).1, a1, a2, a3, a4, a5, a6, a7, a8, (qz_dg (qz_B a5 s) b g d).2.1, (qz_dg (qz_B a5 s) b g d).2.2.1, (qz_dg (qz_B a5 s) b g d).2.2.2.1, (qz_dg (qz_B a5 s) b g d).2.2.2.2)) :
    wpX_readGroup post (nI (160 * s), nI d.1, a1, a2, a3, a4, a5, a6, a7, a8, d.2.1, d.2.2.1, d.2.2.2.1, d.2.2.2.2) (nI g) (nI b) := by
  obtain ⟨q, sz, ng, sn, gs⟩ := d
  unfold qz_dg at h
  dsimp only at h hq ⊢
  have eg : (nI g).toNatClampNeg = g := nI_clamp (by omega)
  have vg : vp_in (nI g) 64 := vp_in_nI hg (by omega)
  have n1 : vp_nar .boolean 1 = 1 := rfl
  have n0 : vp_nar .boolean 0 = 0 := rfl
  unfold wpX_readGroup
  dsimp only
  rw [eg]
  refine ⟨vg, br_c (fun h0 => ?_) (fun h0 => ?_)⟩
  · rw [if_pos h0] at h
    refine qz_w_read_31 s q hs (by omega) ?_
    dsimp only
    refine br_c (fun h1 => ?_) (fun h1 => ?_)
    · rw [if_pos (qz_bv_1.mp h1)] at h
      unfold wX_readGroup_28 wX_readGroup_29
      rw [eg, n1]
      refine ⟨vg, nm_e ⟨vg, br_f (by rw [pk_us]; decide) (nm_r (pk_mul 4 g) ?_)⟩⟩
      exact qz_w_rcells s g b (q + 1, sz, ng, sn, upd gs g 1) hs hg hb (by dsimp only; omega) h
    · rw [if_neg (fun z => h1 (qz_bv_1.mpr z))] at h
      unfold wX_readGroup_28 wX_readGroup_29
      rw [eg, n0]
      exact ⟨vg, nm_e ⟨vg, br_t (by rw [pk_us]) h⟩⟩
  · rw [if_neg h0] at h
    unfold wX_readGroup_29
    rw [eg]
    refine ⟨vg, br_f h0 (nm_r (pk_mul 4 g) ?_)⟩
    exact qz_w_rcells s g b (q, sz, ng, sn, gs) hs hg hb (by dsimp only; omega) h
end
end
section
/-! ===== readFrame, open, decode ===== -/
def qz_clr (f k : Nat) (z : (Nat → Int32) × (Nat → Int32)) : (Nat → Int32) × (Nat → Int32) := (upd z.1 (64 * f + k) 0, upd z.2 (64 * f + k) 0)
def qz_cs (f : Nat) (sz ng : Nat → Int32) (k : Nat) (C : Nat → Int32) : Nat → Int32 := upd C (64 * f + k) (if ng (64 * f + k) = 0 then sz (64 * f + k) else -(sz (64 * f + k)))
def qz_df (B : Nat → Bool) (f : Nat) (e : qz_DT × (Nat → Int32)) : qz_DT × (Nat → Int32) :=
  let z := qz_it (qz_clr f) (e.1.2.1, e.1.2.2.1) 64
  let d := qz_dps B f (qz_rn B e.1.1 4) (e.1.1 + 4, z.1, z.2, e.1.2.2.2.1, e.1.2.2.2.2)
  (d, qz_it (qz_cs f d.2.1 d.2.2.1) e.2 64)
theorem qz_df_q (B : Nat → Bool) (f : Nat) (e : qz_DT × (Nat → Int32)) : (qz_df B f e).1.1 ≤ e.1.1 + 2308 := by
  have h1 := qz_rn_lt B e.1.1 4
  have h2 := qz_dps_q B f (qz_rn B e.1.1 4) (e.1.1 + 4, (qz_it (qz_clr f) (e.1.2.1, e.1.2.2.1) 64).1, (qz_it (qz_clr f) (e.1.2.1, e.1.2.2.1) 64).2, e.1.2.2.2.1, e.1.2.2.2.2)
  unfold qz_df
  dsimp only at h2 ⊢
  omega
section
variable {f0 p0 : Int32} {a1 a2 a3 a4 a5 a6 a7 a8 a9 a10 a11 a12 : Nat → Int32}
theorem qz_w_rplane {post : St2 → Prop} {J : Int32 → Int32 → Int32 → (Nat → Int32) → (Nat → Int32) → (Nat → Int32) → (Nat → Int32) → (Nat → Int32) → (Nat → Int32) → (Nat → Int32) → (Nat → Int32) → (Nat → Int32) → (Nat → Int32) → (Nat → Int32) → (Nat → Int32) → Prop} (s f b : Nat) (d : qz_DT) (hs : s < 2) (hf : f < 4) (hb : b < 32) (hq : d.1 + 144 < 2 ^ 30)
    (h : J (nI b + (-1)) (nI (160 * s)) (nI (qz_dp (qz_B a5 s) f b d).1) a1 a2 a3 a4 a5 a6 a7 a8 ((qz_dp (qz_B a5 s) f b d).2.1) ((qz_dp (qz_B a5 s) f b d).2.2.1) ((qz_dp (qz_B a5 s) f b d).2.2.2.1) ((qz_dp (qz_B a5 s) f b d).2.2.2.2)) :
    ∃ n, wX_readFrame_56 post J (nI f) (nI b) n (nI (16 * f)) (nI (160 * s)) (nI d.1) a1 a2 a3 a4 a5 a6 a7 a8 d.2.1 d.2.2.1 d.2.2.2.1 d.2.2.2.2 := by
  have e4 : (16 * nI f) + 16 = nI (16 * f + 16) := by rw [← nI_add, ← pk_mul]; rfl
  unfold qz_dp at h
  refine qz_loop (fun n k d => wX_readFrame_56 post J (nI f) (nI b) n (nI (16 * f + k)) (nI (160 * s)) (nI d.1) a1 a2 a3 a4 a5 a6 a7 a8 d.2.1 d.2.2.1 d.2.2.2.1 d.2.2.2.2) (fun k => qz_dg (qz_B a5 s) b (16 * f + k)) d 16
    (fun n => pk_le (16 * f + 16) (16 * f + 16) (fun _ => nm_e h) (fun z => absurd z (by omega)) e4) (fun n k hk hw => ?_)
  have hq2 := qz_dgit_q (qz_B a5 s) b f d k
  refine pk_le (16 * f + 16) (16 * f + k) (fun z => absurd z (by omega)) (fun _ => ?_) e4
  exact qz_w_rgroup s (16 * f + k) b _ hs (by omega) hb (by omega) (nm_r (nI_1 _) hw)
theorem qz_w_rcellsF {post : St2 → Prop} (f : Nat) (hf : f < 4) (h : post (f0, p0, a1, a2, a3, a4, a5, a6, qz_it (qz_cs f a9 a10) a7 64, a8, a9, a10, a11, a12)) : ∃ n, wX_readFrame_92 post (nI f) f0 p0 n (nI (64 * f)) a1 a2 a3 a4 a5 a6 a7 a8 a9 a10 a11 a12 := by
  have e4 : (64 * nI f) + 64 = nI (64 * f + 64) := by rw [← nI_add, ← pk_mul]; rfl
  refine qz_loop (fun n k C => wX_readFrame_92 post (nI f) f0 p0 n (nI (64 * f + k)) a1 a2 a3 a4 a5 a6 C a8 a9 a10 a11 a12) (qz_cs f a9 a10) a7 64
    (fun n => pk_le (64 * f + 64) (64 * f + 64) (fun _ => h) (fun z => absurd z (by omega)) e4) (fun n k hk hw => ?_)
  have ei : (nI (64 * f + k)).toNatClampNeg = 64 * f + k := nI_clamp (by omega)
  have vi : vp_in (nI (64 * f + k)) 256 := vp_in_nI (by omega) (by omega)
  refine pk_le (64 * f + 64) (64 * f + k) (fun z => absurd z (by omega)) (fun _ => ⟨vi, ?_⟩) e4
  rw [ei]
  refine br_c (fun h0 => ⟨vi, vi, nm_r ?_ (nm_r (nI_1 _) hw)⟩) (fun h0 => ⟨vi, vi, nm_r ?_ (nm_r (nI_1 _) hw)⟩)
  · show upd _ (64 * f + k) (a9 (64 * f + k)) = upd _ (64 * f + k) (if a10 (64 * f + k) = 0 then a9 (64 * f + k) else -(a9 (64 * f + k)))
    rw [if_pos h0]
  · show upd _ (64 * f + k) (-(a9 (64 * f + k))) = upd _ (64 * f + k) (if a10 (64 * f + k) = 0 then a9 (64 * f + k) else -(a9 (64 * f + k)))
    rw [if_neg h0]
theorem qz_w_rplanes {post : St2 → Prop} (s f : Nat) (df : qz_DT) (hs : s < 2) (hf : f < 4)
    (h : post (nI (160 * s), nI df.1, a1, a2, a3, a4, a5, a6, qz_it (qz_cs f df.2.1 df.2.2.1) a7 64, a8, df.2.1, df.2.2.1, df.2.2.2.1, df.2.2.2.2)) (i : Nat) (d : qz_DT) (hi : i < 16) (hq : d.1 + 144 * i < 2 ^ 20) (hd : qz_dps (qz_B a5 s) f i d = df) :
    ∃ n, wX_readFrame_46 post (nI f) n (nI i - 1) (nI (160 * s)) (nI d.1) a1 a2 a3 a4 a5 a6 a7 a8 d.2.1 d.2.2.1 d.2.2.2.1 d.2.2.2.2 := by
  refine ⟨i + 1, pk_loopD (fun n i d => wX_readFrame_46 post (nI f) n (nI i - 1) (nI (160 * s)) (nI d.1) a1 a2 a3 a4 a5 a6 a7 a8 d.2.1 d.2.2.1 d.2.2.2.1 d.2.2.2.2) (fun i d => i < 16 ∧ d.1 + 144 * i < 2 ^ 20 ∧ qz_dps (qz_B a5 s) f i d = df)
    (fun n d I => ?_) (fun n i d I hw => ?_) i d ⟨hi, hq, hd⟩⟩
  · have e : d = df := I.2.2
    subst e
    exact br_t (by decide) (nm_r (pk_mul 64 f) (qz_w_rcellsF f hf h))
  · obtain ⟨h1, h2, h3⟩ := I
    have e1 : nI i + (-1) = nI i - 1 := (Int32.sub_eq_add_neg ..).symm
    have hq2 : (qz_dp (qz_B a5 s) f i d).1 ≤ d.1 + 9 * 16 := qz_dgit_q (qz_B a5 s) i f d 16
    show wX_readFrame_46 post (nI f) (n + 1) (nI (i + 1) - 1) (nI (160 * s)) (nI d.1) a1 a2 a3 a4 a5 a6 a7 a8 d.2.1 d.2.2.1 d.2.2.2.1 d.2.2.2.2
    rw [nI_pred]
    refine br_f (nI_pos (by omega)) (nm_r (pk_mul 16 f) (qz_w_rplane s f i d hs hf (by omega) (by omega) ?_))
    rw [e1]
    exact hw (qz_dp (qz_B a5 s) f i d) ⟨by omega, by omega, h3⟩
theorem qz_w_rframe {post : St2 → Prop} (s f : Nat) (e : qz_DT × (Nat → Int32)) (hs : s < 2) (hf : f < 4) (hq : e.1.1 < 2 ^ 16)
    (h : post (nI (160 * s), nI (qz_df (qz_B a5 s) f e).1.1, a1, a2, a3, a4, a5, a6, (qz_df (qz_B a5 s) f e).2, a8, (qz_df (qz_B a5 s) f e).1.2.1, (qz_df (qz_B a5 s) f e).1.2.2.1, (qz_df (qz_B a5 s) f e).1.2.2.2.1, (qz_df (qz_B a5 s) f e).1.2.2.2.2)) :
    wpX_readFrame post (nI (160 * s), nI e.1.1, a1, a2, a3, a4, a5, a6, e.2, a8, e.1.2.1, e.1.2.2.1, e.1.2.2.2.1, e.1.2.2.2.2) (nI f) := by
  obtain ⟨⟨q, sz, ng, sn, gs⟩, C⟩ := e
  have hr := qz_rn_lt (qz_B a5 s) q 4
  dsimp only at hq ⊢
  unfold qz_df at h
  dsimp only at h
  have e4 : (64 * nI f) + 64 = nI (64 * f + 64) := by rw [← nI_add, ← pk_mul]; rfl
  unfold wpX_readFrame
  dsimp only
  refine nm_r (pk_mul 64 f) ?_
  refine qz_loop (fun n k z => wX_readFrame_5 post (nI f) (nI (160 * s)) (nI q) n (nI (64 * f + k)) a1 a2 a3 a4 a5 a6 C a8 z.1 z.2 sn gs) (qz_clr f) (sz, ng) 64
    (fun n => pk_le (64 * f + 64) (64 * f + 64) (fun _ => ?_) (fun z => absurd z (by omega)) e4) (fun n k hk hw => ?_)
  · refine qz_w_read s q 4 hs (by omega) ?_
    dsimp only
    refine nm_e ?_
    exact qz_w_rplanes s f _ hs hf h (qz_rn (qz_B a5 s) q 4) (q + 4, (qz_it (qz_clr f) (sz, ng) 64).1, (qz_it (qz_clr f) (sz, ng) 64).2, sn, gs) (by omega) (by dsimp only; omega) rfl
  · have ei : (nI (64 * f + k)).toNatClampNeg = 64 * f + k := nI_clamp (by omega)
    have vi : vp_in (nI (64 * f + k)) 256 := vp_in_nI (by omega) (by omega)
    refine pk_le (64 * f + 64) (64 * f + k) (fun z => absurd z (by omega)) (fun _ => ⟨vi, nm_r ?_ ⟨vi, nm_r ?_ (nm_r (nI_1 _) hw)⟩⟩) e4
    · rw [ei]; rfl
    · rw [ei]; rfl
theorem qz_w_open {post : St2 → Prop} (s : Nat) (hs : s < 2) (h : ∀ sn gs : Nat → Int32, (∀ j, j < 256 → sn j = 0) → (∀ j, j < 64 → gs j = 0) → post (nI (160 * s), 0, a1, a2, a3, a4, a5, a6, a7, a8, a9, a10, sn, gs)) : wpX_open post (f0, p0, a1, a2, a3, a4, a5, a6, a7, a8, a9, a10, a11, a12) (nI s) := by
  unfold wpX_open
  dsimp only
  refine nm_r (qz_e_base s) ?_
  refine pk_loop (fun n i t => wX_open_16 post (nI (160 * s)) 0 n (nI i) a1 a2 a3 a4 a5 a6 a7 a8 a9 a10 t a12) (fun i t => ∀ j, j < i → t j = 0) 256 0 a11 (by omega) (fun j hj => absurd hj (by omega))
    (fun n sn hsn => pk_le 256 256 (fun _ => ?_) (fun z => absurd z (by omega)))
    (fun n i t hi hI hw => pk_le 256 i (fun z => absurd z (by omega)) (fun _ => ⟨pk_in i 256 hi, nm_e (nm_r (nI_1 i) (hw _ (qz_fill (g := fun _ => 0) (nI_clamp (by omega)) hI rfl)))⟩))
  refine pk_loop (fun n i t => wX_open_38 post (nI (160 * s)) 0 n (nI i) a1 a2 a3 a4 a5 a6 a7 a8 a9 a10 sn t) (fun i t => ∀ j, j < i → t j = 0) 64 0 a12 (by omega) (fun j hj => absurd hj (by omega))
    (fun n gs hgs => pk_le 64 64 (fun _ => h sn gs hsn hgs) (fun z => absurd z (by omega)))
    (fun n i t hi hI hw => pk_le 64 i (fun z => absurd z (by omega)) (fun _ => ⟨pk_in i 64 hi, nm_e (nm_r (nI_1 i) (hw _ (qz_fill (g := fun _ => 0) (nI_clamp (by omega)) hI rfl)))⟩))
end
/-! decode, as pictures -/
def qz_dP (B : Nat → Bool) (P : Nat → Int32) : Nat → Int32 := qz_it (fun k P => upd P k (nI (qz_rn B (5 * k) 5))) P 12
def qz_dF (B : Nat → Bool) (sz ng sn gs C : Nat → Int32) : qz_DT × (Nat → Int32) := qz_it (qz_df B) ((60, sz, ng, sn, gs), C) 4
def qz_inv (P C : Nat → Int32) : Nat → Int32 := qz_it (qz_ps 1 P) (qz_it (qz_as (-1) P) (qz_it (fun f => qz_syn (64 * f)) C 4) 64) 64
def qz_sum (C : Nat → Int32) : Int32 := qz_it (fun i x => x + C i) 0 256
section
variable {f0 p0 : Int32} {a1 a2 a3 a4 a5 a6 a7 a8 a9 a10 a11 a12 : Nat → Int32}
theorem qz_w_decode {post : Int32 → St2 → Prop} (s : Nat) (hs : s < 2) (h6 : ¬ a6 s = 0)
    (h : ∀ sn gs o ov P C q sz' ng' sn' gs', (∀ j, j < 256 → sn j = 0) → (∀ j, j < 64 → gs j = 0) → P = qz_dP (qz_B a5 s) a8 → C = qz_inv P (qz_dF (qz_B a5 s) a9 a10 sn gs a7).2 → (∀ j, j < 256 → o j = C j) → (∀ j, j < 12 → ov j = P j) →
      post (qz_sum C) (nI (160 * s), q, a1, o, a3, ov, a5, a6, C, P, sz', ng', sn', gs')) : wpX_decode post (f0, p0, a1, a2, a3, a4, a5, a6, a7, a8, a9, a10, a11, a12) (nI s) := by
  have es : (nI s).toNatClampNeg = s := nI_clamp (by omega)
  unfold wpX_decode
  dsimp only
  refine qz_w_slot hs (br_f (by decide) ⟨vp_in_nI hs (by omega), br_f (by rw [es]; exact h6) (qz_w_open s hs (fun sn gs hsn hgs => ?_))⟩)
  dsimp only
  refine qz_loop (fun n k P => wX_decode_28 post n (nI k) (nI (160 * s)) (nI (5 * k)) a1 a2 a3 a4 a5 a6 a7 P a9 a10 sn gs) (fun k P => upd P k (nI (qz_rn (qz_B a5 s) (5 * k) 5))) a8 12
    (fun n => pk_le 12 12 (fun _ => ?_) (fun z => absurd z (by omega)))
    (fun n i hi hw => pk_le 12 i (fun z => absurd z (by omega)) (fun _ => qz_w_read_4 s (5 * i) 5 hs (by omega) ⟨pk_in i 12 hi, nm_r (by rw [nI_clamp (by omega)]) (nm_r (nI_1 i) hw)⟩))
  generalize hP : qz_it (fun k P => upd P k (nI (qz_rn (qz_B a5 s) (5 * k) 5))) a8 12 = P
  have bq : ∀ k, k ≤ 4 → (qz_it (qz_df (qz_B a5 s)) ((60, a9, a10, sn, gs), a7) k).1.1 ≤ 60 + 2308 * k := fun k _ => qz_it_inv (fun k t => t.1.1 ≤ 60 + 2308 * k) _ ((60, a9, a10, sn, gs), a7) (Nat.le_refl 60) k (fun i t _ h => by have := qz_df_q (qz_B a5 s) i t; omega)
  refine qz_loop (fun n f e => wX_decode_53 post n (nI f) (nI (160 * s)) (nI e.1.1) a1 a2 a3 a4 a5 a6 e.2 P e.1.2.1 e.1.2.2.1 e.1.2.2.2.1 e.1.2.2.2.2) (qz_df (qz_B a5 s)) ((60, a9, a10, sn, gs), a7) 4
    (fun n => pk_le 4 4 (fun _ => ?_) (fun z => absurd z (by omega)))
    (fun n i hi hw => pk_le 4 i (fun z => absurd z (by omega)) (fun _ => qz_w_rframe s i _ hs hi (by have := bq i (by omega); omega) (nm_r (nI_1 i) hw)))
  generalize hD : qz_it (qz_df (qz_B a5 s)) ((60, a9, a10, sn, gs), a7) 4 = D
  obtain ⟨⟨q, sz', ng', sn', gs'⟩, C0⟩ := D
  dsimp only
  refine qz_loop (fun n f C => wX_decode_71 post n (nI f) (nI (160 * s)) (nI q) a1 a2 a3 a4 a5 a6 C P sz' ng' sn' gs') (fun f => qz_syn (64 * f)) C0 4
    (fun n => pk_le 4 4 (fun _ => ?_) (fun z => absurd z (by omega)))
    (fun n i hi hw => pk_le 4 i (fun z => absurd z (by omega)) (fun _ => ek_v (P := fun x => wpX_synthesise _ _ x) (pk_mul 64 i) (qz_w_syn (64 * i) (by omega) (nm_r (nI_1 i) hw))))
  refine qz_w_adjust (qz_w_predict ?_)
  dsimp only
  have hC : qz_inv P (qz_dF (qz_B a5 s) a9 a10 sn gs a7).2 = qz_it (qz_ps 1 P) (qz_it (qz_as (-1) P) (qz_it (fun f => qz_syn (64 * f)) C0 4) 64) 64 := by
    unfold qz_dF; rw [hD]; rfl
  generalize qz_it (qz_ps 1 P) (qz_it (qz_as (-1) P) (qz_it (fun f => qz_syn (64 * f)) C0 4) 64) 64 = C at hC
  refine pk_loop (fun n i t => wX_decode_104 post (nI (160 * s)) (nI q) n t.1 (nI i) a1 t.2 a3 a4 a5 a6 C P sz' ng' sn' gs') (fun i t => t.1 = qz_it (fun i x => x + C i) 0 i ∧ ∀ j, j < i → t.2 j = C j) 256 0 (0, a2) (by omega) ⟨rfl, fun j hj => absurd hj (by omega)⟩
    (fun n t hI => pk_le 256 256 (fun _ => ?_) (fun z => absurd z (by omega)))
    (fun n i t hi hI hw => pk_le 256 i (fun z => absurd z (by omega)) (fun _ => ⟨pk_in i 256 hi, pk_in i 256 hi, nm_e ⟨pk_in i 256 hi, nm_e (nm_r (nI_1 i) (hw (t.1 + C (nI i).toNatClampNeg, upd t.2 (nI i).toNatClampNeg (C (nI i).toNatClampNeg)) ⟨?_, qz_fill (nI_clamp (by omega)) hI.2 (by rw [nI_clamp (by omega)])⟩))⟩⟩))
  · obtain ⟨x, o⟩ := t
    obtain ⟨hx, ho⟩ := hI
    dsimp only at hx ho ⊢
    subst hx
    refine pk_loop (fun n i t => wX_decode_140 post (qz_sum C) (nI (160 * s)) (nI q) n (nI i) a1 o a3 t a5 a6 C P sz' ng' sn' gs') (fun i t => ∀ j, j < i → t j = P j) 12 0 a4 (by omega) (fun j hj => absurd hj (by omega))
      (fun n ov hv => pk_le 12 12 (fun _ => h sn gs o ov P C (nI q) sz' ng' sn' gs' hsn hgs hP.symm hC.symm ho hv) (fun z => absurd z (by omega)))
      (fun n i t hi hI hw => pk_le 12 i (fun z => absurd z (by omega)) (fun _ => ⟨pk_in i 12 hi, pk_in i 12 hi, nm_e (nm_r (nI_1 i) (hw _ (qz_fill (nI_clamp (by omega)) hI (by rw [nI_clamp (by omega)]))))⟩))
  · show t.1 + C (nI i).toNatClampNeg = qz_it (fun i x => x + C i) 0 i + C i
    rw [hI.1, nI_clamp (by omega)]
theorem qz_w_decode0 {post : Int32 → St2 → Prop} (s : Nat) (hs : s < 2) (h6 : a6 s = 0) (h : post (-2) (f0, p0, a1, a2, a3, a4, a5, a6, a7, a8, a9, a10, a11, a12)) : wpX_decode post (f0, p0, a1, a2, a3, a4, a5, a6, a7, a8, a9, a10, a11, a12) (nI s) := by
  have es : (nI s).toNatClampNeg = s := nI_clamp (by omega)
  unfold wpX_decode
  dsimp only
  exact qz_w_slot hs (br_f (by decide) ⟨vp_in_nI hs (by omega), br_t (by rw [es]; exact h6) h⟩)
end
end
section
/-! ===== the writer, walked ===== -/
def qz_SB (s : Nat) (L : List Bool) (A : Nat → Int32) : Prop := ∀ r, r < 5120 → qz_bt (A (160 * s + r / 32)) (r % 32) = L.getD r false
def qz_WS (s : Nat) (A0 : Nat → Int32) (L : List Bool) (A : Nat → Int32) : Prop := (∀ j, (j < 160 * s ∨ 160 * s + 160 ≤ j) → A j = A0 j) ∧ qz_SB s L A
def qz_bits (x : Int32) : Nat → List Bool
  | 0 => []
  | n + 1 => qz_bt x n :: qz_bits x n
theorem qz_bits_len (x : Int32) (n : Nat) : (qz_bits x n).length = n := by
  induction n with
  | zero => rfl
  | succ n ih => show (qz_bits x n).length + 1 = n + 1; rw [ih]
theorem qz_gd (L : List Bool) (c : Bool) (r : Nat) : (L ++ [c]).getD r false = if r = L.length then c else L.getD r false := by
  rw [List.getD_eq_getElem?_getD, List.getD_eq_getElem?_getD, List.getElem?_append]
  by_cases h : r = L.length
  · rw [if_pos h, if_neg (by omega), h, Nat.sub_self]; rfl
  · rw [if_neg h]
    by_cases h2 : r < L.length
    · rw [if_pos h2]
    · rw [if_neg h2, List.getElem?_eq_none (by show 0 + 1 ≤ _; omega), List.getElem?_eq_none (by omega)]
theorem qz_gd0 (L : List Bool) (r : Nat) (h : L.length ≤ r) : L.getD r false = false := by
  rw [List.getD_eq_getElem?_getD, List.getElem?_eq_none h]; rfl
theorem qz_ws_put {s : Nat} {A0 A : Nat → Int32} {L : List Bool} (c : Bool) (hq : L.length < 5120) (h : qz_WS s A0 L A) :
    qz_WS s A0 (L ++ [c]) (upd A (160 * s + L.length / 32) (A (160 * s + L.length / 32) ||| (qz_bv c <<< (nI (L.length % 32) &&& 31)))) := by
  refine ⟨fun j hj => ?_, fun r hr => ?_⟩
  · rw [pk_un (by omega)]
    exact h.1 j hj
  · have hb := h.2 r hr
    rw [qz_gd]
    by_cases hw : r / 32 = L.length / 32
    · rw [hw] at hb ⊢
      rw [pk_us, qz_b_or, hb, qz_b_shl _ (by omega) _ (by omega), qz_bv_bt]
      by_cases e : r = L.length
      · rw [if_pos e, qz_gd0 L r (by omega), e]
        simp
      · rw [if_neg e]
        have : (decide (L.length % 32 ≤ r % 32) && (c && decide (r % 32 - L.length % 32 = 0))) = false := by
          by_cases h1 : L.length % 32 ≤ r % 32
          · rw [decide_eq_false (p := r % 32 - L.length % 32 = 0) (by omega)]; simp
          · rw [decide_eq_false h1]; rfl
        rw [this, Bool.or_false]
    · rw [pk_un (by omega), hb, if_neg (by intro e; exact hw (by rw [e]))]
theorem qz_ws_skip {s : Nat} {A0 A : Nat → Int32} {L : List Bool} (c : Bool) (hq : 5120 ≤ L.length) (h : qz_WS s A0 L A) : qz_WS s A0 (L ++ [c]) A := by
  refine ⟨h.1, fun r hr => ?_⟩
  rw [qz_gd, if_neg (by omega)]
  exact h.2 r hr
theorem qz_len1 (L : List Bool) (c : Bool) : nI L.length + 1 = nI (L ++ [c]).length := by
  rw [nI_1, List.length_append]; rfl
section
variable {f0 p0 : Int32} {a1 a2 a3 a4 a5 a6 a7 a8 a9 a10 a11 a12 : Nat → Int32}
theorem qz_w_write {post : St2 → Prop} (s : Nat) (A0 : Nat → Int32) (L : List Bool) (x : Int32) (N : Nat) (hs : s < 2) (hN : N ≤ 32) (hq : L.length + N < 2 ^ 30) (hW : qz_WS s A0 L a5)
    (h : ∀ A', qz_WS s A0 (L ++ qz_bits x N) A' → post (nI (160 * s), nI (L ++ qz_bits x N).length, a1, a2, a3, a4, A', a6, a7, a8, a9, a10, a11, a12)) : wpX_write post (nI (160 * s), nI L.length, a1, a2, a3, a4, a5, a6, a7, a8, a9, a10, a11, a12) x (nI N) := by
  unfold wpX_write
  dsimp only
  refine nm_e ⟨N + 1, pk_loopD (σ := List Bool × (Nat → Int32)) (fun n i t => wX_write_4 post x (nI (160 * s)) n (nI i - 1) (nI t.1.length) a1 a2 a3 a4 t.2 a6 a7 a8 a9 a10 a11 a12) (fun i t => t.1 ++ qz_bits x i = L ++ qz_bits x N ∧ qz_WS s A0 t.1 t.2 ∧ t.1.length + i < 2 ^ 30 ∧ i ≤ 32)
    (fun n t I => ?_) (fun n i t I hw => ?_) N (L, a5) ⟨rfl, hW, hq, hN⟩⟩
  · obtain ⟨L', A⟩ := t
    obtain ⟨h1, h2, h3, h4⟩ := I
    have e : L' = L ++ qz_bits x N := by rw [← h1]; exact (List.append_nil L').symm
    subst e
    exact br_t (by decide) (h A h2)
  · obtain ⟨L', A⟩ := t
    obtain ⟨h1, h2, h3, h4⟩ := I
    dsimp only at h1 h2 h3 hw ⊢
    have e1 : nI i + (-1) = nI i - 1 := (Int32.sub_eq_add_neg ..).symm
    have e2 : (L' ++ [qz_bt x i]) ++ qz_bits x i = L ++ qz_bits x N := by rw [← h1, List.append_assoc]; rfl
    have e3 : (L' ++ [qz_bt x i]).length = L'.length + 1 := by rw [List.length_append]; rfl
    rw [nI_pred]
    refine br_f (nI_pos (by omega)) (nm_r (pk_shrN (by omega) _ 5 (by decide)) (pk_le 160 (L'.length / 32) (fun z => ?_) (fun z => ?_)))
    · exact nm_r (qz_len1 L' (qz_bt x i)) (nm_r e1 (hw (L' ++ [qz_bt x i], A) ⟨e2, qz_ws_skip _ (by omega) h2, by rw [e3]; omega, by omega⟩))
    · have v := pk_in (160 * s + L'.length / 32) 320 (by omega) (nI_add (160 * s) _)
      refine ⟨v, v, nm_r ?_ (nm_r (qz_len1 L' (qz_bt x i)) (nm_r e1 (hw (L' ++ [qz_bt x i], _) ⟨e2, qz_ws_put _ (by omega) h2, by rw [e3]; omega, by omega⟩)))⟩
      rw [pk_cl (x := nI (160 * s) + nI (L'.length / 2 ^ 5)) (160 * s + L'.length / 32) (nI_add (160 * s) _), qz_shr1 i (by omega), pk_andN (m := 31) (by omega) 5 (by decide)]
      rfl
theorem qz_w_write1 {post : St2 → Prop} (s : Nat) (A0 : Nat → Int32) (L : List Bool) (c : Bool) (hs : s < 2) (hq : L.length + 1 < 2 ^ 30) (hW : qz_WS s A0 L a5)
    (h : ∀ A', qz_WS s A0 (L ++ [c]) A' → post (nI (160 * s), nI (L ++ [c]).length, a1, a2, a3, a4, A', a6, a7, a8, a9, a10, a11, a12)) : wpX_write post (nI (160 * s), nI L.length, a1, a2, a3, a4, a5, a6, a7, a8, a9, a10, a11, a12) (qz_bv c) 1 := by
  have e : qz_bits (qz_bv c) 1 = [c] := by
    show [qz_bt (qz_bv c) 0] = [c]
    rw [qz_bv_bt]; simp
  refine qz_w_write s A0 L (qz_bv c) 1 hs (by omega) hq hW ?_
  rw [e]
  exact h
end
/-! the writer's picture: bits, seen, groupSeen -/
abbrev qz_ET : Type := List Bool × (Nat → Int32) × (Nat → Int32)
def qz_ec (sz ng : Nat → Int32) (b i : Nat) (e : qz_ET) : qz_ET :=
  if e.2.1 i = 0 ∧ qz_bt (sz i) b = true then ((e.1 ++ [true]) ++ [!decide (ng i = 0)], upd e.2.1 i 1, e.2.2) else (e.1 ++ [qz_bt (sz i) b], e.2.1, e.2.2)
def qz_ecs (sz ng : Nat → Int32) (b g : Nat) (e : qz_ET) : qz_ET := qz_it (fun k => qz_ec sz ng b (4 * g + k)) e 4
def qz_any (sz : Nat → Int32) (b g : Nat) : Bool := qz_it (fun k v => v || qz_bt (sz (4 * g + k)) b) false 4
def qz_eg (sz ng : Nat → Int32) (b g : Nat) (e : qz_ET) : qz_ET :=
  if e.2.2 g = 0 then (if qz_any sz b g = true then qz_ecs sz ng b g (e.1 ++ [true], e.2.1, upd e.2.2 g 1) else (e.1 ++ [false], e.2.1, upd e.2.2 g 0))
  else qz_ecs sz ng b g e
def qz_ep (sz ng : Nat → Int32) (f b : Nat) (e : qz_ET) : qz_ET := qz_it (fun k => qz_eg sz ng b (16 * f + k)) e 16
def qz_eps (sz ng : Nat → Int32) (f : Nat) : Nat → qz_ET → qz_ET
  | 0, e => e
  | i + 1, e => qz_eps sz ng f i (qz_ep sz ng f i e)
theorem qz_l1len (L : List Bool) (c : Bool) : (L ++ [c]).length = L.length + 1 := by rw [List.length_append]; rfl
theorem qz_ec_q (sz ng : Nat → Int32) (b i : Nat) (e : qz_ET) : (qz_ec sz ng b i e).1.length ≤ e.1.length + 2 := by
  unfold qz_ec
  split
  · dsimp only; rw [qz_l1len, qz_l1len]; omega
  · dsimp only; rw [qz_l1len]; omega
theorem qz_ecit_q (sz ng : Nat → Int32) (b g : Nat) (e : qz_ET) (k : Nat) : (qz_it (fun k => qz_ec sz ng b (4 * g + k)) e k).1.length ≤ e.1.length + 2 * k :=
  qz_it_inv (fun k t => t.1.length ≤ e.1.length + 2 * k) _ e (by omega) k (fun i t _ h => by have := qz_ec_q sz ng b (4 * g + i) t; omega)
theorem qz_eg_q (sz ng : Nat → Int32) (b g : Nat) (e : qz_ET) : (qz_eg sz ng b g e).1.length ≤ e.1.length + 9 := by
  unfold qz_eg
  split
  · split
    · have := qz_ecit_q sz ng b g (e.1 ++ [true], e.2.1, upd e.2.2 g 1) 4
      dsimp only at this
      rw [qz_l1len] at this
      unfold qz_ecs
      omega
    · dsimp only; rw [qz_l1len]; omega
  · have := qz_ecit_q sz ng b g e 4
    unfold qz_ecs
    omega
theorem qz_egit_q (sz ng : Nat → Int32) (b f : Nat) (e : qz_ET) (k : Nat) : (qz_it (fun k => qz_eg sz ng b (16 * f + k)) e k).1.length ≤ e.1.length + 9 * k :=
  qz_it_inv (fun k t => t.1.length ≤ e.1.length + 9 * k) _ e (by omega) k (fun i t _ h => by have := qz_eg_q sz ng b (16 * f + i) t; omega)
theorem qz_eps_q (sz ng : Nat → Int32) (f : Nat) : ∀ (i : Nat) (e : qz_ET), (qz_eps sz ng f i e).1.length ≤ e.1.length + 144 * i := by
  intro i
  induction i with
  | zero => intro e; exact Nat.le_refl _
  | succ i ih =>
    intro e
    have h1 := ih (qz_ep sz ng f i e)
    have h2 : (qz_ep sz ng f i e).1.length ≤ e.1.length + 9 * 16 := qz_egit_q sz ng i f e 16
    show (qz_eps sz ng f i (qz_ep sz ng f i e)).1.length ≤ _
    omega
theorem qz_bvor (a b : Bool) : qz_bv a ||| qz_bv b = qz_bv (a || b) := by cases a <;> cases b <;> rfl
section
variable {f0 p0 : Int32} {a1 a2 a3 a4 a5 a6 a7 a8 a9 a10 a11 a12 : Nat → Int32}
theorem qz_w_wcells {post : St2 → Prop} (s g b : Nat) (A0 sz ng : Nat → Int32) (e : qz_ET) (hs : s < 2) (hg : g < 64) (hb : b < 32) (hq : e.1.length + 8 < 2 ^ 30) (hW : qz_WS s A0 e.1 a5)
    (h9 : ∀ k, k < 4 → a9 (4 * g + k) = sz (4 * g + k)) (h10 : ∀ k, k < 4 → a10 (4 * g + k) = ng (4 * g + k))
    (h : ∀ A', qz_WS s A0 (qz_ecs sz ng b g e).1 A' → post (nI (160 * s), nI (qz_ecs sz ng b g e).1.length, a1, a2, a3, a4, A', a6, a7, a8, a9, a10, (qz_ecs sz ng b g e).2.1, (qz_ecs sz ng b g e).2.2)) :
    ∃ n, wX_writeGroup_82 post (nI g) (nI b) n (nI (4 * g)) (nI (160 * s)) (nI e.1.length) a1 a2 a3 a4 a5 a6 a7 a8 a9 a10 e.2.1 e.2.2 := by
  have e4 : (4 * nI g) + 4 = nI (4 * g + 4) := by rw [← nI_add, ← pk_mul]; rfl
  unfold qz_ecs at h
  refine pk_loop (σ := qz_ET × (Nat → Int32)) (fun n k t => wX_writeGroup_82 post (nI g) (nI b) n (nI (4 * g + k)) (nI (160 * s)) (nI t.1.1.length) a1 a2 a3 a4 t.2 a6 a7 a8 a9 a10 t.1.2.1 t.1.2.2) (fun k t => t.1 = qz_it (fun k => qz_ec sz ng b (4 * g + k)) e k ∧ qz_WS s A0 t.1.1 t.2) 4 0 (e, a5) (by omega) ⟨rfl, hW⟩
    (fun n t I => pk_le (4 * g + 4) (4 * g + 4) (fun _ => ?_) (fun z => absurd z (by omega)) e4) (fun n k t hk I hw => ?_)
  · obtain ⟨t, A⟩ := t
    obtain ⟨h1, h2⟩ := I
    dsimp only at h1 h2 ⊢
    rw [← h1] at h
    exact h A h2
  obtain ⟨t, A⟩ := t
  obtain ⟨h1, h2⟩ := I
  have hq2 := qz_ecit_q sz ng b g e k
  dsimp only at h1 h2 hw ⊢
  rw [← h1] at hq2
  have hw2 : ∀ A', qz_WS s A0 (qz_ec sz ng b (4 * g + k) t).1 A' → wX_writeGroup_82 post (nI g) (nI b) n (nI (4 * g + (k + 1))) (nI (160 * s)) (nI (qz_ec sz ng b (4 * g + k) t).1.length) a1 a2 a3 a4 A' a6 a7 a8 a9 a10 ((qz_ec sz ng b (4 * g + k) t).2.1) ((qz_ec sz ng b (4 * g + k) t).2.2) :=
    fun A' hA => hw (qz_ec sz ng b (4 * g + k) t, A') ⟨by rw [h1]; rfl, hA⟩
  clear hw h1
  obtain ⟨L, sn, gs⟩ := t
  unfold qz_ec at hw2
  dsimp only at h2 hw2 hq2 ⊢
  have ei : (nI (4 * g + k)).toNatClampNeg = 4 * g + k := nI_clamp (by omega)
  have vi : vp_in (nI (4 * g + k)) 256 := vp_in_nI (by omega) (by omega)
  refine pk_le (4 * g + 4) (4 * g + k) (fun z => absurd z (by omega)) (fun _ => ⟨vi, nm_r (show _ = qz_bv (qz_bt (sz (4 * g + k)) b) by rw [qz_shr1 b hb, ei, h9 k hk]) ?_⟩) e4
  refine qz_w_write1 s A0 L (qz_bt (sz (4 * g + k)) b) hs (by omega) h2 (fun A' hA => ?_)
  dsimp only
  rw [ei]
  refine ⟨vi, br_c (fun c0 => br_c (fun c1 => ⟨vi, nm_e ⟨vi, ?_⟩⟩) (fun c1 => nm_r (nI_1 _) ?_)) (fun c0 => nm_r (nI_1 _) ?_)⟩
  · have hB := qz_bv_1.mp c1
    rw [if_pos ⟨c0, hB⟩] at hw2
    rw [hB] at hA ⊢
    rw [h10 k hk]
    refine br_c (fun c2 => ?_) (fun c2 => ?_)
    · rw [decide_eq_true c2] at hw2
      exact qz_w_write1 s A0 (L ++ [true]) false hs (by rw [qz_l1len]; omega) hA (fun A2 hA2 => nm_r (nI_1 _) (hw2 A2 hA2))
    · rw [decide_eq_false c2] at hw2
      exact qz_w_write1 s A0 (L ++ [true]) true hs (by rw [qz_l1len]; omega) hA (fun A2 hA2 => nm_r (nI_1 _) (hw2 A2 hA2))
  · rw [if_neg (fun z => c1 (qz_bv_1.mpr z.2))] at hw2
    exact hw2 A' hA
  · rw [if_neg (fun z => c0 z.1)] at hw2
    exact hw2 A' hA
theorem qz_w_wgroup {post : St2 → Prop} (s g b : Nat) (A0 sz ng : Nat → Int32) (e : qz_ET) (hs : s < 2) (hg : g < 64) (hb : b < 32) (hq : e.1.length + 9 < 2 ^ 30) (hW : qz_WS s A0 e.1 a5)
    (h9 : ∀ k, k < 4 → a9 (4 * g + k) = sz (4 * g + k)) (h10 : ∀ k, k < 4 → a10 (4 * g + k) = ng (4 * g + k))
    (h : ∀ A', qz_WS s A0 (qz_eg sz ng b g e).1 A' → post (nI (160 * s), nI (qz_eg sz ng b g e).1.length, a1, a2, a3, a4, A', a6, a7, a8, a9, a10, (qz_eg sz ng b g e).2.1, (qz_eg sz ng b g e).2.2)) :
    wpX_writeGroup post (nI (160 * s), nI e.1.length, a1, a2, a3, a4, a5, a6, a7, a8, a9, a10, e.2.1, e.2.2) (nI g) (nI b) := by
  obtain ⟨L, sn, gs⟩ := e
  unfold qz_eg at h
  dsimp only at h hq hW ⊢
  have eg : (nI g).toNatClampNeg = g := nI_clamp (by omega)
  have vg : vp_in (nI g) 64 := vp_in_nI hg (by omega)
  have n1 : vp_nar .boolean 1 = 1 := rfl
  have n0 : vp_nar .boolean 0 = 0 := rfl
  have e4 : (4 * nI g) + 4 = nI (4 * g + 4) := by rw [← nI_add, ← pk_mul]; rfl
  unfold wpX_writeGroup
  dsimp only
  rw [eg]
  refine ⟨vg, br_c (fun h0 => ?_) (fun h0 => ?_)⟩
  · rw [if_pos h0] at h
    refine nm_r (pk_mul 4 g) ?_
    refine qz_loop (fun n k v => wX_writeGroup_16 post (nI g) (nI b) (nI (160 * s)) (nI L.length) a1 a2 a3 a4 a5 a6 a7 a8 a9 a10 sn gs n (qz_bv v) (nI (4 * g + k))) (fun k v => v || qz_bt (sz (4 * g + k)) b) false 4
      (fun n => pk_le (4 * g + 4) (4 * g + 4) (fun _ => ?_) (fun z => absurd z (by omega)) e4) (fun n k hk hw => ?_)
    · unfold qz_any at h
      generalize qz_it (fun k v => v || qz_bt (sz (4 * g + k)) b) false 4 = c at h
      refine qz_w_write1 s A0 L c hs (by omega) hW (fun A' hA => ?_)
      dsimp only
      refine br_c (fun h1 => ?_) (fun h1 => ?_)
      · have hc := qz_bv_1.mp h1
        rw [hc] at hA ⊢
        rw [if_pos hc] at h
        unfold wX_writeGroup_67 wX_writeGroup_68
        rw [eg, n1]
        refine ⟨vg, nm_e ⟨vg, br_f (by rw [pk_us]; decide) (nm_r (pk_mul 4 g) ?_)⟩⟩
        exact qz_w_wcells s g b A0 sz ng (L ++ [true], sn, upd gs g 1) hs hg hb (by dsimp only; rw [qz_l1len]; omega) hA h9 h10 h
      · have hc : c = false := Bool.eq_false_iff.mpr (fun z => h1 (qz_bv_1.mpr z))
        rw [hc] at hA ⊢
        rw [if_neg (by rw [hc]; decide)] at h
        unfold wX_writeGroup_67 wX_writeGroup_68
        rw [eg, n0]
        exact ⟨vg, nm_e ⟨vg, br_t (by rw [pk_us]) (h A' hA)⟩⟩
    · refine pk_le (4 * g + 4) (4 * g + k) (fun z => absurd z (by omega)) (fun _ => ⟨pk_in (4 * g + k) 256 (by omega), nm_r ?_ (nm_r (nI_1 _) hw)⟩) e4
      rw [qz_shr1 b hb, nI_clamp (by omega), h9 k hk, qz_bvor]
  · rw [if_neg h0] at h
    unfold wX_writeGroup_68
    rw [eg]
    refine ⟨vg, br_f h0 (nm_r (pk_mul 4 g) ?_)⟩
    exact qz_w_wcells s g b A0 sz ng (L, sn, gs) hs hg hb (by dsimp only; omega) hW h9 h10 h
end
end
section
/-! ===== writeFrame, encode ===== -/
def qz_sz (C : Nat → Int32) (i : Nat) : Int32 := if 0 ≤ C i then C i else -(C i)
def qz_ng (C : Nat → Int32) (i : Nat) : Int32 := if 0 ≤ C i then 0 else 1
def qz_allb (C : Nat → Int32) (f : Nat) : Int32 := qz_it (fun k x => x ||| qz_sz C (64 * f + k)) 0 64
def qz_pl (x : Int32) : Nat := qz_it (fun b p => if x >>> (nI b &&& 31) = 0 then p else b + 1) 0 15
theorem qz_plit (x : Int32) (n : Nat) : qz_it (fun b p => if x >>> (nI b &&& 31) = 0 then p else b + 1) 0 n ≤ n :=
  qz_it_inv (fun k p => p ≤ k) _ 0 (Nat.le_refl 0) n (fun i p _ h => by split <;> omega)
theorem qz_pl_le (x : Int32) : qz_pl x ≤ 15 := qz_plit x 15
def qz_ef (C : Nat → Int32) (f : Nat) (e : qz_ET) : qz_ET := qz_eps (qz_sz C) (qz_ng C) f (qz_pl (qz_allb C f)) (e.1 ++ qz_bits (nI (qz_pl (qz_allb C f))) 4, e.2.1, e.2.2)
theorem qz_ef_q (C : Nat → Int32) (f : Nat) (e : qz_ET) : (qz_ef C f e).1.length ≤ e.1.length + 2164 := by
  have h1 := qz_pl_le (qz_allb C f)
  have h2 := qz_eps_q (qz_sz C) (qz_ng C) f (qz_pl (qz_allb C f)) (e.1 ++ qz_bits (nI (qz_pl (qz_allb C f))) 4, e.2.1, e.2.2)
  dsimp only at h2
  rw [List.length_append, qz_bits_len] at h2
  unfold qz_ef
  omega
section
variable {f0 p0 : Int32} {a1 a2 a3 a4 a5 a6 a7 a8 a9 a10 a11 a12 : Nat → Int32}
theorem qz_w_wplane {post : St2 → Prop} {J : Int32 → Int32 → Int32 → (Nat → Int32) → (Nat → Int32) → (Nat → Int32) → (Nat → Int32) → (Nat → Int32) → (Nat → Int32) → (Nat → Int32) → (Nat → Int32) → (Nat → Int32) → (Nat → Int32) → (Nat → Int32) → (Nat → Int32) → Prop} (s f b : Nat) (A0 sz ng : Nat → Int32) (e : qz_ET) (hs : s < 2) (hf : f < 4) (hb : b < 32) (hq : e.1.length + 144 < 2 ^ 30) (hW : qz_WS s A0 e.1 a5)
    (h9 : ∀ k, k < 64 → a9 (64 * f + k) = sz (64 * f + k)) (h10 : ∀ k, k < 64 → a10 (64 * f + k) = ng (64 * f + k))
    (h : ∀ A', qz_WS s A0 (qz_ep sz ng f b e).1 A' → J (nI b + (-1)) (nI (160 * s)) (nI (qz_ep sz ng f b e).1.length) a1 a2 a3 a4 A' a6 a7 a8 a9 a10 ((qz_ep sz ng f b e).2.1) ((qz_ep sz ng f b e).2.2)) :
    ∃ n, wX_writeFrame_136 post J (nI f) (nI b) n (nI (16 * f)) (nI (160 * s)) (nI e.1.length) a1 a2 a3 a4 a5 a6 a7 a8 a9 a10 e.2.1 e.2.2 := by
  have e4 : (16 * nI f) + 16 = nI (16 * f + 16) := by rw [← nI_add, ← pk_mul]; rfl
  unfold qz_ep at h
  refine pk_loop (σ := qz_ET × (Nat → Int32)) (fun n k t => wX_writeFrame_136 post J (nI f) (nI b) n (nI (16 * f + k)) (nI (160 * s)) (nI t.1.1.length) a1 a2 a3 a4 t.2 a6 a7 a8 a9 a10 t.1.2.1 t.1.2.2) (fun k t => t.1 = qz_it (fun k => qz_eg sz ng b (16 * f + k)) e k ∧ qz_WS s A0 t.1.1 t.2) 16 0 (e, a5) (by omega) ⟨rfl, hW⟩
    (fun n t I => pk_le (16 * f + 16) (16 * f + 16) (fun _ => nm_e ?_) (fun z => absurd z (by omega)) e4) (fun n k t hk I hw => ?_)
  · obtain ⟨t, A⟩ := t
    obtain ⟨h1, h2⟩ := I
    dsimp only at h1 h2 ⊢
    rw [← h1] at h
    exact h A h2
  · obtain ⟨t, A⟩ := t
    obtain ⟨h1, h2⟩ := I
    have hq2 := qz_egit_q sz ng b f e k
    dsimp only at h1 h2 hw ⊢
    rw [← h1] at hq2
    refine pk_le (16 * f + 16) (16 * f + k) (fun z => absurd z (by omega)) (fun _ => ?_) e4
    refine qz_w_wgroup s (16 * f + k) b A0 sz ng t hs (by omega) hb (by omega) h2 (fun j hj => ?_) (fun j hj => ?_) (fun A' hA => nm_r (nI_1 _) (hw (qz_eg sz ng b (16 * f + k) t, A') ⟨by rw [h1]; rfl, hA⟩))
    · have := h9 (4 * k + j) (by omega)
      rw [show 64 * f + (4 * k + j) = 4 * (16 * f + k) + j by omega] at this
      exact this
    · have := h10 (4 * k + j) (by omega)
      rw [show 64 * f + (4 * k + j) = 4 * (16 * f + k) + j by omega] at this
      exact this
theorem qz_w_wplanes {post : St2 → Prop} (s f : Nat) (A0 sz ng : Nat → Int32) (ef : qz_ET) (hs : s < 2) (hf : f < 4)
    (h9 : ∀ k, k < 64 → a9 (64 * f + k) = sz (64 * f + k)) (h10 : ∀ k, k < 64 → a10 (64 * f + k) = ng (64 * f + k))
    (h : ∀ A', qz_WS s A0 ef.1 A' → post (nI (160 * s), nI ef.1.length, a1, a2, a3, a4, A', a6, a7, a8, a9, a10, ef.2.1, ef.2.2)) (i : Nat) (e : qz_ET) (hi : i < 16) (hq : e.1.length + 144 * i < 2 ^ 20) (hW : qz_WS s A0 e.1 a5) (he : qz_eps sz ng f i e = ef) :
    ∃ n, wX_writeFrame_125 post (nI f) n (nI i - 1) (nI (160 * s)) (nI e.1.length) a1 a2 a3 a4 a5 a6 a7 a8 a9 a10 e.2.1 e.2.2 := by
  refine ⟨i + 1, pk_loopD (σ := qz_ET × (Nat → Int32)) (fun n i t => wX_writeFrame_125 post (nI f) n (nI i - 1) (nI (160 * s)) (nI t.1.1.length) a1 a2 a3 a4 t.2 a6 a7 a8 a9 a10 t.1.2.1 t.1.2.2) (fun i t => i < 16 ∧ t.1.1.length + 144 * i < 2 ^ 20 ∧ qz_WS s A0 t.1.1 t.2 ∧ qz_eps sz ng f i t.1 = ef)
    (fun n t I => ?_) (fun n i t I hw => ?_) i (e, a5) ⟨hi, hq, hW, he⟩⟩
  · obtain ⟨t, A⟩ := t
    obtain ⟨_, _, h2, h3⟩ := I
    have e : t = ef := h3
    subst e
    exact br_t (by decide) (h A h2)
  · obtain ⟨t, A⟩ := t
    obtain ⟨h1, h2, h3, h4⟩ := I
    dsimp only at h2 h3 h4 hw ⊢
    have e1 : nI i + (-1) = nI i - 1 := (Int32.sub_eq_add_neg ..).symm
    have hq2 : (qz_ep sz ng f i t).1.length ≤ t.1.length + 9 * 16 := qz_egit_q sz ng i f t 16
    rw [nI_pred]
    refine br_f (nI_pos (by omega)) (nm_r (pk_mul 16 f) (qz_w_wplane s f i A0 sz ng t hs hf (by omega) (by omega) h3 h9 h10 (fun A' hA => ?_)))
    rw [e1]
    have h5 : qz_eps sz ng f i (qz_ep sz ng f i t) = ef := h4
    have hw2 := hw (qz_ep sz ng f i t, A')
    dsimp only at hw2
    generalize qz_ep sz ng f i t = t' at hq2 hA h5 hw2 ⊢
    exact hw2 ⟨by omega, by omega, hA, h5⟩
theorem qz_w_wframe {post : St2 → Prop} (s f : Nat) (A0 : Nat → Int32) (e : qz_ET) (hs : s < 2) (hf : f < 4) (hq : e.1.length < 2 ^ 16) (hW : qz_WS s A0 e.1 a5)
    (h : ∀ A' sz' ng', qz_WS s A0 (qz_ef a7 f e).1 A' → post (nI (160 * s), nI (qz_ef a7 f e).1.length, a1, a2, a3, a4, A', a6, a7, a8, sz', ng', (qz_ef a7 f e).2.1, (qz_ef a7 f e).2.2)) :
    wpX_writeFrame post (nI (160 * s), nI e.1.length, a1, a2, a3, a4, a5, a6, a7, a8, a9, a10, e.2.1, e.2.2) (nI f) := by
  obtain ⟨L, sn, gs⟩ := e
  dsimp only at hq hW ⊢
  have e4 : (64 * nI f) + 64 = nI (64 * f + 64) := by rw [← nI_add, ← pk_mul]; rfl
  unfold wpX_writeFrame
  dsimp only
  refine nm_r (pk_mul 64 f) ?_
  refine pk_loop (σ := Int32 × (Nat → Int32) × (Nat → Int32)) (fun n k t => wX_writeFrame_7 post (nI f) (nI (160 * s)) (nI L.length) n t.1 (nI (64 * f + k)) a1 a2 a3 a4 a5 a6 a7 a8 t.2.1 t.2.2 sn gs)
    (fun k t => t.1 = qz_it (fun k x => x ||| qz_sz a7 (64 * f + k)) 0 k ∧ (∀ j, j < k → t.2.1 (64 * f + j) = qz_sz a7 (64 * f + j)) ∧ (∀ j, j < k → t.2.2 (64 * f + j) = qz_ng a7 (64 * f + j))) 64 0 (0, a9, a10) (by omega) ⟨rfl, fun j hj => absurd hj (by omega), fun j hj => absurd hj (by omega)⟩
    (fun n t I => pk_le (64 * f + 64) (64 * f + 64) (fun _ => ?_) (fun z => absurd z (by omega)) e4) (fun n k t hk I hw => ?_)
  · obtain ⟨x, sz', ng'⟩ := t
    obtain ⟨h1, h2, h3⟩ := I
    dsimp only at h1 h2 h3 ⊢
    have ex : x = qz_allb a7 f := h1
    clear h1
    subst ex
    refine qz_loop (fun n b p => wX_writeFrame_89 post (nI f) (qz_allb a7 f) (nI (160 * s)) (nI L.length) a1 a2 a3 a4 a5 a6 a7 a8 sz' ng' sn gs n (nI p) (nI b)) (fun b p => if (qz_allb a7 f) >>> (nI b &&& 31) = 0 then p else b + 1) 0 15
      (fun n => pk_le 15 15 (fun _ => ?_) (fun z => absurd z (by omega))) (fun n b hb hw => ?_)
    · unfold qz_ef qz_pl at h
      have hp := qz_plit (qz_allb a7 f) 15
      generalize qz_it (fun b p => if (qz_allb a7 f) >>> (nI b &&& 31) = 0 then p else b + 1) 0 15 = p at h hp
      dsimp only at h
      have hl : (L ++ qz_bits (nI p) 4).length = L.length + 4 := by rw [List.length_append, qz_bits_len]
      refine qz_w_write s A0 L (nI p) 4 hs (by omega) (by omega) hW (fun A' hA => ?_)
      dsimp only
      refine nm_e ?_
      exact qz_w_wplanes s f A0 (qz_sz a7) (qz_ng a7) _ hs hf h2 h3 (fun A2 hA2 => h A2 sz' ng' hA2) p (L ++ qz_bits (nI p) 4, sn, gs) (by omega) (by dsimp only; omega) hA rfl
    · refine pk_le 15 b (fun z => absurd z (by omega)) (fun _ => br_c (fun h0 => nm_r (nI_1 b) ?_) (fun h0 => nm_r (nI_1 b) (nm_r (nI_1 b) ?_)))
      · rw [if_pos h0] at hw
        exact hw
      · rw [if_neg h0] at hw
        exact hw
  · obtain ⟨x, sz', ng'⟩ := t
    obtain ⟨h1, h2, h3⟩ := I
    dsimp only at h1 h2 h3 hw ⊢
    have ei : (nI (64 * f + k)).toNatClampNeg = 64 * f + k := nI_clamp (by omega)
    have vi : vp_in (nI (64 * f + k)) 256 := vp_in_nI (by omega) (by omega)
    have n1 : vp_nar .boolean 1 = 1 := rfl
    have n0 : vp_nar .boolean 0 = 0 := rfl
    have hfin : ∀ z w, z = qz_sz a7 (64 * f + k) → w = qz_ng a7 (64 * f + k) → wX_writeFrame_7 post (nI f) (nI (160 * s)) (nI L.length) n (x ||| z) (nI (64 * f + (k + 1))) a1 a2 a3 a4 a5 a6 a7 a8 (upd sz' (64 * f + k) z) (upd ng' (64 * f + k) w) sn gs := by
      intro z w hz hw'
      refine hw (x ||| z, upd sz' (64 * f + k) z, upd ng' (64 * f + k) w) ⟨?_, fun j hj => ?_, fun j hj => ?_⟩
      · show x ||| z = qz_it (fun k x => x ||| qz_sz a7 (64 * f + k)) 0 k ||| qz_sz a7 (64 * f + k)
        rw [hz, h1]
      · dsimp only
        by_cases ej : j = k
        · rw [ej, pk_us, hz]
        · rw [pk_un (by omega)]
          exact h2 j (by omega)
      · dsimp only
        by_cases ej : j = k
        · rw [ej, pk_us, hw']
        · rw [pk_un (by omega)]
          exact h3 j (by omega)
    refine pk_le (64 * f + 64) (64 * f + k) (fun z => absurd z (by omega)) (fun _ => ⟨vi, ?_⟩) e4
    rw [ei]
    refine br_c (fun h0 => ?_) (fun h0 => ?_)
    · unfold wX_writeFrame_37 wX_writeFrame_68
      rw [ei, n0]
      refine ⟨vi, nm_e ⟨vi, br_t (by rw [pk_us]) ⟨vi, vi, nm_e ⟨vi, nm_r (by rw [pk_us]) (nm_r (nI_1 _) (hfin _ _ ?_ ?_))⟩⟩⟩⟩
      · unfold qz_sz; rw [if_pos h0]
      · unfold qz_ng; rw [if_pos h0]
    · unfold wX_writeFrame_37 wX_writeFrame_68
      rw [ei, n1]
      refine ⟨vi, nm_e ⟨vi, br_f (by rw [pk_us]; decide) ⟨vi, vi, nm_e ⟨vi, nm_r (by rw [pk_us]) (nm_r (nI_1 _) (hfin _ _ ?_ ?_))⟩⟩⟩⟩
      · unfold qz_sz; rw [if_neg h0]
      · unfold qz_ng; rw [if_neg h0]
end
def qz_fwd (P C : Nat → Int32) : Nat → Int32 := qz_it (fun f => qz_ana (64 * f)) (qz_it (qz_as 1 P) (qz_it (qz_ps (-1) P) C 64) 64) 4
def qz_encP (P : Nat → Int32) : List Bool := qz_it (fun k L => L ++ qz_bits (P k) 5) [] 12
def qz_enc (P C sn gs : Nat → Int32) : List Bool := (qz_it (qz_ef (qz_fwd P C)) (qz_encP P, sn, gs) 4).1
theorem qz_encP_it (P : Nat → Int32) (n : Nat) : (qz_it (fun k L => L ++ qz_bits (P k) 5) [] n).length = 5 * n :=
  qz_it_inv (σ := List Bool) (fun k t => t.length = 5 * k) (fun k L => L ++ qz_bits (P k) 5) [] rfl n (fun i t _ h => by rw [List.length_append, qz_bits_len, h]; omega)
section
variable {f0 p0 : Int32} {a1 a2 a3 a4 a5 a6 a7 a8 a9 a10 a11 a12 : Nat → Int32}
theorem qz_w_encode {post : Int32 → St2 → Prop} (s : Nat) (hs : s < 2)
    (h : ∀ P C sn gs A' C' p sz' ng' sn' gs', (∀ j, j < 12 → P j = a3 j) → (∀ j, j < 256 → C j = a1 j) → (∀ j, j < 256 → sn j = 0) → (∀ j, j < 64 → gs j = 0) → qz_WS s a5 (qz_enc P C sn gs) A' →
      post 0 (nI (160 * s), p, a1, a2, a3, a4, A', upd a6 s 1, C', P, sz', ng', sn', gs')) : wpX_encode post (f0, p0, a1, a2, a3, a4, a5, a6, a7, a8, a9, a10, a11, a12) (nI s) := by
  have es : (nI s).toNatClampNeg = s := nI_clamp (by omega)
  unfold wpX_encode
  dsimp only
  refine qz_w_slot hs (br_f (by decide) ?_)
  refine pk_loop (fun n i t => wX_encode_11 post (nI s) f0 p0 n (nI i) a1 a2 a3 a4 a5 a6 t a8 a9 a10 a11 a12) (fun i t => ∀ j, j < i → t j = a1 j) 256 0 a7 (by omega) (fun j hj => absurd hj (by omega))
    (fun n C hC => pk_le 256 256 (fun _ => ?_) (fun z => absurd z (by omega)))
    (fun n i t hi hI hw => pk_le 256 i (fun z => absurd z (by omega)) (fun _ => ⟨pk_in i 256 hi, pk_in i 256 hi, nm_e (nm_r (nI_1 i) (hw _ (qz_fill (nI_clamp (by omega)) hI (by rw [nI_clamp (by omega)]))))⟩))
  refine pk_loop (fun n i t => wX_encode_38 post (nI s) f0 p0 n (nI i) a1 a2 a3 a4 a5 a6 C t a9 a10 a11 a12) (fun i t => ∀ j, j < i → t j = a3 j) 12 0 a8 (by omega) (fun j hj => absurd hj (by omega))
    (fun n P hP => pk_le 12 12 (fun _ => ?_) (fun z => absurd z (by omega)))
    (fun n i t hi hI hw => pk_le 12 i (fun z => absurd z (by omega)) (fun _ => ⟨pk_in i 12 hi, pk_in i 12 hi, nm_e (nm_r (nI_1 i) (hw _ (qz_fill (nI_clamp (by omega)) hI (by rw [nI_clamp (by omega)]))))⟩))
  refine qz_w_predict (qz_w_adjust ?_)
  dsimp only
  refine qz_loop (fun n f C => wX_encode_74 post (nI s) n (nI f) f0 p0 a1 a2 a3 a4 a5 a6 C P a9 a10 a11 a12) (fun f => qz_ana (64 * f)) _ 4
    (fun n => pk_le 4 4 (fun _ => ?_) (fun z => absurd z (by omega)))
    (fun n i hi hw => pk_le 4 i (fun z => absurd z (by omega)) (fun _ => ek_v (P := fun x => wpX_analyse _ _ x) (pk_mul 64 i) (qz_w_ana (64 * i) (by omega) (nm_r (nI_1 i) hw))))
  have hC' : qz_fwd P C = qz_it (fun f => qz_ana (64 * f)) (qz_it (qz_as 1 P) (qz_it (qz_ps (-1) P) C 64) 64) 4 := rfl
  rw [← hC']
  clear hC'
  refine qz_w_open s hs (fun sn gs hsn hgs => ?_)
  dsimp only
  refine pk_loop (fun n i t => wX_encode_100 post (nI s) (nI (160 * s)) 0 n (nI i) a1 a2 a3 a4 t a6 (qz_fwd P C) P a9 a10 sn gs) (fun i t => (∀ j, (j < 160 * s ∨ 160 * s + 160 ≤ j) → t j = a5 j) ∧ ∀ j, j < i → t (160 * s + j) = 0) 160 0 a5 (by omega) ⟨fun j _ => rfl, fun j hj => absurd hj (by omega)⟩
    (fun n A hA => pk_le 160 160 (fun _ => ?_) (fun z => absurd z (by omega)))
    (fun n i t hi hI hw => pk_le 160 i (fun z => absurd z (by omega)) (fun _ => ⟨pk_in (160 * s + i) 320 (by omega) (nI_add (160 * s) i), nm_e (nm_r (nI_1 i) (hw _ ⟨fun j hj => ?_, fun j hj => ?_⟩))⟩))
  rotate_left
  · rw [pk_cl (x := nI (160 * s) + nI i) (160 * s + i) (nI_add (160 * s) i), pk_un (by omega)]
    exact hI.1 j hj
  · rw [pk_cl (x := nI (160 * s) + nI i) (160 * s + i) (nI_add (160 * s) i)]
    by_cases e : j = i
    · rw [e, pk_us]
    · rw [pk_un (by omega)]
      exact hI.2 j (by omega)
  have hW0 : qz_WS s a5 [] A := ⟨hA.1, fun r hr => by rw [hA.2 (r / 32) (by omega), qz_b_0]; rfl⟩
  refine pk_loop (σ := List Bool × (Nat → Int32)) (fun n k t => wX_encode_127 post (nI s) n (nI k) (nI (160 * s)) (nI t.1.length) a1 a2 a3 a4 t.2 a6 (qz_fwd P C) P a9 a10 sn gs) (fun k t => t.1 = qz_it (fun k L => L ++ qz_bits (P k) 5) [] k ∧ qz_WS s a5 t.1 t.2) 12 0 ([], A) (by omega) ⟨rfl, hW0⟩
    (fun n t I => pk_le 12 12 (fun _ => ?_) (fun z => absurd z (by omega)))
    (fun n k t hk I hw => ?_)
  rotate_left
  · obtain ⟨L, A'⟩ := t
    obtain ⟨h1, h2⟩ := I
    dsimp only at h1 h2 hw ⊢
    have hl := qz_encP_it P k
    rw [← h1] at hl
    refine pk_le 12 k (fun z => absurd z (by omega)) (fun _ => ⟨pk_in k 12 hk, ?_⟩)
    rw [nI_clamp (by omega)]
    exact qz_w_write s a5 L (P k) 5 hs (by omega) (by omega) h2 (fun A2 hA2 => nm_r (nI_1 k) (hw (L ++ qz_bits (P k) 5, A2) ⟨by rw [h1]; rfl, hA2⟩))
  obtain ⟨L, A1⟩ := t
  obtain ⟨h1, h2⟩ := I
  dsimp only at h1 h2 ⊢
  have hl := qz_encP_it P 12
  have e1 : L = qz_encP P := h1
  rw [← h1] at hl
  clear h1
  subst e1
  have bq : ∀ k, (qz_it (qz_ef (qz_fwd P C)) (qz_encP P, sn, gs) k).1.length ≤ 60 + 2164 * k := fun k => qz_it_inv (fun k t => t.1.length ≤ 60 + 2164 * k) _ (qz_encP P, sn, gs) (by dsimp only; omega) k (fun i t _ h => by have := qz_ef_q (qz_fwd P C) i t; omega)
  refine pk_loop (σ := qz_ET × (Nat → Int32) × (Nat → Int32) × (Nat → Int32)) (fun n f t => wX_encode_152 post (nI s) n (nI f) (nI (160 * s)) (nI t.1.1.length) a1 a2 a3 a4 t.2.1 a6 (qz_fwd P C) P t.2.2.1 t.2.2.2 t.1.2.1 t.1.2.2) (fun f t => t.1 = qz_it (qz_ef (qz_fwd P C)) (qz_encP P, sn, gs) f ∧ qz_WS s a5 t.1.1 t.2.1) 4 0 ((qz_encP P, sn, gs), A1, a9, a10) (by omega) ⟨rfl, h2⟩
    (fun n t I => pk_le 4 4 (fun _ => ⟨vp_in_nI hs (by omega), nm_r (by rw [es]) ?_⟩) (fun z => absurd z (by omega)))
    (fun n f t hf I hw => ?_)
  · obtain ⟨E, A2, sz', ng'⟩ := t
    obtain ⟨h3, h4⟩ := I
    dsimp only at h3 h4 ⊢
    refine h P C sn gs A2 (qz_fwd P C) _ sz' ng' E.2.1 E.2.2 hP hC hsn hgs ?_
    unfold qz_enc
    rw [← h3]
    exact h4
  · obtain ⟨E, A2, sz', ng'⟩ := t
    obtain ⟨h3, h4⟩ := I
    have hb := bq f
    rw [← h3] at hb
    dsimp only at h3 h4 hb hw ⊢
    refine pk_le 4 f (fun z => absurd z (by omega)) (fun _ => ?_)
    exact qz_w_wframe s f a5 E hs hf (by omega) h4 (fun A3 sz2 ng2 hA3 => nm_r (nI_1 f) (hw (qz_ef (qz_fwd P C) f E, A3, sz2, ng2) ⟨by rw [h3]; rfl, hA3⟩))
end
end
section
/-! ===== the draws: each makes new frames and vectors out of frames, vectors and arguments alone ===== -/
def qz_Rng (A : Nat → Int32) : Prop := ∀ j, j < 256 → ∃ n : Nat, n ≤ 255 ∧ A j = nI n
def qz_Vrg (V : Nat → Int32) : Prop := ∀ j, j < 12 → ∃ n : Nat, n ≤ 24 ∧ V j = nI n
theorem qz_rng_upd {A : Nat → Int32} {k : Nat} {x : Int32} (h : qz_Rng A) (hx : ∃ n : Nat, n ≤ 255 ∧ x = nI n) : qz_Rng (upd A k x) := by
  intro j hj
  by_cases e : j = k
  · rw [e, pk_us]; exact hx
  · rw [pk_un e]; exact h j hj
theorem qz_vrg_upd {A : Nat → Int32} {k : Nat} {x : Int32} (h : qz_Vrg A) (hx : ∃ n : Nat, n ≤ 24 ∧ x = nI n) : qz_Vrg (upd A k x) := by
  intro j hj
  by_cases e : j = k
  · rw [e, pk_us]; exact hx
  · rw [pk_un e]; exact h j hj
theorem qz_255 (x : Int32) : ∃ n : Nat, n ≤ 255 ∧ x &&& 255 = nI n := by
  obtain ⟨n, hn, e⟩ := pk_andE x (m := 255) 8 (by decide)
  exact ⟨n, by omega, e⟩
theorem qz_e_64 (f k : Nat) : (64 * nI f) + nI k = nI (64 * f + k) := by rw [← nI_add, ← pk_mul]; rfl
section
variable {f0 p0 : Int32} {a1 a2 a3 a4 a5 a6 a7 a8 a9 a10 a11 a12 : Nat → Int32}
theorem qz_w_put {post : Int32 → St2 → Prop} (f x y : Nat) (v : Int32) (hf : f < 4) (hx : x < 8) (hy : y < 8) (h : ∀ r, post r (f0, p0, upd a1 (64 * f + 8 * y + x) (v &&& 255), a2, a3, a4, a5, a6, a7, a8, a9, a10, a11, a12)) : wpX_put post (f0, p0, a1, a2, a3, a4, a5, a6, a7, a8, a9, a10, a11, a12) (nI f) (nI x) (nI y) v := by
  unfold wpX_put
  dsimp only
  exact qz_w_frame hf (br_f (by decide) (qz_w_inside hx hy (br_f (by decide) (nm_r (qz_e_cell f y x) ⟨vp_in_nI (by omega) (by omega), nm_e ⟨vp_in_nI (by omega) (by omega), nm_r (by rw [nI_clamp (by omega)]) (h _)⟩⟩))))
theorem qz_w_ramp (f : Nat) (p q c : Int32) (hf : f < 4) : ∃ A1, (qz_Rng a1 → qz_Rng A1) ∧ ∀ post : Int32 → St2 → Prop, (∀ r, post r (f0, p0, A1, a2, a3, a4, a5, a6, a7, a8, a9, a10, a11, a12)) → wpX_ramp post (f0, p0, a1, a2, a3, a4, a5, a6, a7, a8, a9, a10, a11, a12) (nI f) p q c := by
  refine ⟨qz_it (fun k A => upd A (64 * f + k) ((((p * (nI k &&& 7)) + (q * (nI k >>> ((3 : Int32) &&& 31)))) + c) &&& 255)) a1 64, fun hR => qz_it_inv (fun _ A => qz_Rng A) _ a1 hR 64 (fun i t _ h => qz_rng_upd h (qz_255 _)), fun post h => ?_⟩
  unfold wpX_ramp
  dsimp only
  refine qz_w_frame hf (br_f (by decide) ?_)
  refine qz_loop (fun n k A => wX_ramp_12 post (nI f) p q c f0 p0 n (nI k) A a2 a3 a4 a5 a6 a7 a8 a9 a10 a11 a12) (fun k A => upd A (64 * f + k) ((((p * (nI k &&& 7)) + (q * (nI k >>> ((3 : Int32) &&& 31)))) + c) &&& 255)) a1 64
    (fun n => pk_le 64 64 (fun _ => ⟨pk_in (64 * f + 63) 256 (by omega) (qz_e_64 f 63), h _⟩) (fun z => absurd z (by omega)))
    (fun n i hi hw => pk_le 64 i (fun z => absurd z (by omega)) (fun _ => ⟨pk_in (64 * f + i) 256 (by omega) (qz_e_64 f i), nm_r (by rw [qz_e_64, nI_clamp (by omega)]) (nm_r (nI_1 i) hw)⟩))
theorem qz_w_roughen (f : Nat) (p : Int32) (hf : f < 4) : ∃ A1, (qz_Rng a1 → qz_Rng A1) ∧ ∀ post : Int32 → St2 → Prop, (∀ r, post r (f0, p0, A1, a2, a3, a4, a5, a6, a7, a8, a9, a10, a11, a12)) → wpX_roughen post (f0, p0, a1, a2, a3, a4, a5, a6, a7, a8, a9, a10, a11, a12) (nI f) p := by
  refine ⟨qz_it (fun k A => upd A (64 * f + k) ((A (64 * f + k) + ((p * (nI k + 1)) &&& 15)) &&& 255)) a1 64, fun hR => qz_it_inv (fun _ A => qz_Rng A) _ a1 hR 64 (fun i t _ h => qz_rng_upd h (qz_255 _)), fun post h => ?_⟩
  unfold wpX_roughen
  dsimp only
  refine qz_w_frame hf (br_f (by decide) ?_)
  refine qz_loop (fun n k A => wX_roughen_11 post (nI f) p f0 p0 n (nI k) A a2 a3 a4 a5 a6 a7 a8 a9 a10 a11 a12) (fun k A => upd A (64 * f + k) ((A (64 * f + k) + ((p * (nI k + 1)) &&& 15)) &&& 255)) a1 64
    (fun n => pk_le 64 64 (fun _ => ⟨pk_in (64 * f + 63) 256 (by omega) (qz_e_64 f 63), h _⟩) (fun z => absurd z (by omega)))
    (fun n i hi hw => pk_le 64 i (fun z => absurd z (by omega)) (fun _ => nm_e ⟨pk_in (64 * f + i) 256 (by omega) (qz_e_64 f i), pk_in (64 * f + i) 256 (by omega) (qz_e_64 f i), nm_r (by rw [qz_e_64, nI_clamp (by omega)]) (nm_r (nI_1 i) hw)⟩))
theorem qz_e_drift (F y x : Nat) (hF : 0 < F) : (((64 * nI F) - 64) + (8 * nI y)) + nI x = nI (64 * (F - 1) + 8 * y + x) := by
  obtain ⟨G, rfl⟩ : ∃ G, F = G + 1 := ⟨F - 1, by omega⟩
  rw [show (64 : Int32) * nI (G + 1) = nI (64 * (G + 1)) from pk_mul 64 (G + 1), show nI (64 * (G + 1)) - 64 = nI (64 * (G + 1) - 64) from pk_sub (b := 64) (by omega), show (8 : Int32) * nI y = nI (8 * y) from pk_mul 8 y, nI_add, nI_add, show 64 * (G + 1) - 64 = 64 * (G + 1 - 1) by omega]
theorem qz_w_drift (F : Nat) (dx dy : Int32) (h0 : 0 < F) (hF : F < 4) : ∃ A1, (qz_Rng a1 → qz_Rng A1) ∧ ∀ post : Int32 → St2 → Prop, (∀ r, post r (f0, p0, A1, a2, a3, a4, a5, a6, a7, a8, a9, a10, a11, a12)) → wpX_drift post (f0, p0, a1, a2, a3, a4, a5, a6, a7, a8, a9, a10, a11, a12) (nI F) dx dy := by
  have c1 : ¬ nI F < 1 := nI_nlt (b := 1) (by omega) (by omega)
  have c2 : nI F ≤ 3 := nI_le (b := 3) (by omega) (by omega)
  by_cases d1 : dx < (-8)
  · exact ⟨a1, id, fun post h => br_f c1 (br_t c2 (br_t d1 (h _)))⟩
  by_cases d2 : 8 < dx
  · exact ⟨a1, id, fun post h => br_f c1 (br_t c2 (br_f d1 (br_t d2 (h _))))⟩
  by_cases d3 : dy < (-8)
  · exact ⟨a1, id, fun post h => br_f c1 (br_t c2 (br_f d1 (br_f d2 (br_t d3 (h _)))))⟩
  by_cases d4 : dy ≤ 8
  rotate_left
  · exact ⟨a1, id, fun post h => br_f c1 (br_t c2 (br_f d1 (br_f d2 (br_f d3 (br_f d4 (h _))))))⟩
  refine ⟨qz_it (fun k A => upd A (64 * F + k) (A (64 * (F - 1) + 8 * qz_lim ((nI k >>> ((3 : Int32) &&& 31)) - dy) + qz_lim ((nI k &&& 7) - dx)))) a1 64, fun hR => qz_it_inv (fun _ A => qz_Rng A) _ a1 hR 64 (fun i t _ h => qz_rng_upd h (h _ ?_)), fun post h => br_f c1 (br_t c2 (br_f d1 (br_f d2 (br_f d3 (br_t d4 ?_)))))⟩
  · have h1 := qz_lim_lt ((nI i >>> ((3 : Int32) &&& 31)) - dy)
    have h2 := qz_lim_lt ((nI i &&& 7) - dx)
    omega
  refine qz_loop (fun n k A => wX_drift_42 post (nI F) dx dy f0 p0 n (nI k) A a2 a3 a4 a5 a6 a7 a8 a9 a10 a11 a12) (fun k A => upd A (64 * F + k) (A (64 * (F - 1) + 8 * qz_lim ((nI k >>> ((3 : Int32) &&& 31)) - dy) + qz_lim ((nI k &&& 7) - dx)))) a1 64
    (fun n => pk_le 64 64 (fun _ => ⟨pk_in (64 * F) 256 (by omega) (pk_mul 64 F), h _⟩) (fun z => absurd z (by omega)))
    (fun n i hi hw => pk_le 64 i (fun z => absurd z (by omega)) (fun _ => qz_w_lim (qz_w_lim ?_)))
  have h1 := qz_lim_lt ((nI i >>> ((3 : Int32) &&& 31)) - dy)
  have h2 := qz_lim_lt ((nI i &&& 7) - dx)
  refine ⟨pk_in _ 256 (by omega) (qz_e_drift F _ _ h0), pk_in (64 * F + i) 256 (by omega) (qz_e_64 F i), nm_r ?_ (nm_r (nI_1 i) hw)⟩
  rw [qz_e_64, nI_clamp (by omega), qz_e_drift F _ _ h0, nI_clamp (by omega)]
theorem qz_inv255 {x : Int32} (h : ∃ n : Nat, n ≤ 255 ∧ x = nI n) : ∃ n : Nat, n ≤ 255 ∧ 255 - x = nI n := by
  obtain ⟨n, hn, rfl⟩ := h
  exact ⟨255 - n, by omega, pk_sub (a := 255) hn⟩
theorem qz_w_invert (f x y : Nat) (hf : f < 4) (hx : x < 8) (hy : y < 8) : ∃ A1, (qz_Rng a1 → qz_Rng A1) ∧ ∀ post : Int32 → St2 → Prop, (∀ r, post r (f0, p0, A1, a2, a3, a4, a5, a6, a7, a8, a9, a10, a11, a12)) → wpX_invert post (f0, p0, a1, a2, a3, a4, a5, a6, a7, a8, a9, a10, a11, a12) (nI f) (nI x) (nI y) := by
  let fx : Nat → Nat → Int32 × (Nat → Int32) → Int32 × (Nat → Int32) := fun m k t => (t.1 + 1, upd t.2 (64 * f + 8 * (y + m) + (x + k)) (255 - t.2 (64 * f + 8 * (y + m) + (x + k))))
  let fy : Nat → Int32 × (Nat → Int32) → Int32 × (Nat → Int32) := fun m t => qz_it (fx m) t (min 3 (8 - x))
  have hR : ∀ m k t, m < min 3 (8 - y) → k < min 3 (8 - x) → qz_Rng t.2 → qz_Rng (fx m k t).2 := fun m k t hm hk h => qz_rng_upd h (qz_inv255 (h _ (by omega)))
  refine ⟨(qz_it fy (0, a1) (min 3 (8 - y))).2, fun h0 => qz_it_inv (fun _ t => qz_Rng t.2) fy (0, a1) h0 _ (fun m t hm h => qz_it_inv (fun _ t => qz_Rng t.2) (fx m) t h _ (fun k t hk h => hR m k t hm hk h)), fun post h => ?_⟩
  unfold wpX_invert
  dsimp only
  refine qz_w_frame hf (br_f (by decide) (qz_w_inside hx hy (br_f (by decide) ?_)))
  refine qz_loop (fun n m t => wX_invert_26 post (nI f) (nI x) (nI y) f0 p0 n t.1 (nI (y + m)) t.2 a2 a3 a4 a5 a6 a7 a8 a9 a10 a11 a12) fy (0, a1) (min 3 (8 - y))
    (fun n => pk_lt (y + 2) (y + min 3 (8 - y)) (fun _ => h _) (fun z => pk_le 8 (y + min 3 (8 - y)) (fun _ => h _) (fun z2 => absurd z2 (by omega))) (nI_add y 2))
    (fun n m hm hw => pk_lt (y + 2) (y + m) (fun z => absurd z (by omega)) (fun z => pk_le 8 (y + m) (fun z2 => absurd z2 (by omega)) (fun _ => ?_)) (nI_add y 2))
  refine qz_loop (fun n' k t => wX_invert_44 post (wX_invert_26 post (nI f) (nI x) (nI y) f0 p0 n) (nI f) (nI x) (nI y) (nI (y + m)) f0 p0 n' t.1 (nI (x + k)) t.2 a2 a3 a4 a5 a6 a7 a8 a9 a10 a11 a12) (fx m) (qz_it fy (0, a1) m) (min 3 (8 - x))
    (fun n' => pk_lt (x + 2) (x + min 3 (8 - x)) (fun _ => nm_r (nI_1 _) hw) (fun z => pk_le 8 (x + min 3 (8 - x)) (fun _ => nm_r (nI_1 _) hw) (fun z2 => absurd z2 (by omega))) (nI_add x 2))
    (fun n' k hk hw2 => pk_lt (x + 2) (x + k) (fun z => absurd z (by omega)) (fun z => pk_le 8 (x + k) (fun z2 => absurd z2 (by omega)) (fun _ => nm_r (qz_e_cell f (y + m) (x + k)) ⟨vp_in_nI (by omega) (by omega), vp_in_nI (by omega) (by omega), nm_r ?_ (nm_e (nm_r (nI_1 _) hw2))⟩)) (nI_add x 2))
  rw [nI_clamp (by omega)]
theorem qz_w_setV {post : Int32 → St2 → Prop} (l b v : Nat) (hl : l < 3) (hb : b < 4) (hv : v < 25) (h : ∀ r, post r (f0, p0, a1, a2, upd a3 (4 * l + b) (nI v), a4, a5, a6, a7, a8, a9, a10, a11, a12)) : wpX_setVector post (f0, p0, a1, a2, a3, a4, a5, a6, a7, a8, a9, a10, a11, a12) (nI l) (nI b) (nI v) := by
  have e : (4 * nI l) + nI b = nI (4 * l + b) := by rw [← nI_add, ← pk_mul]; rfl
  unfold wpX_setVector
  dsimp only
  refine qz_w_link hl (br_f (by decide) (qz_w_block hb (br_f (by decide) (qz_w_step hv (br_f (by decide) ?_)))))
  rw [e, nI_clamp (by omega)]
  exact ⟨vp_in_nI (by omega) (by omega), nm_e ⟨vp_in_nI (by omega) (by omega), nm_e (h _)⟩⟩
end
/-! matching, best, search -/
def qz_md (A : Nat → Int32) (tg sr b : Nat) (dx dy : Int32) (k : Nat) : Int32 :=
  A (tg + 8 * (4 * (b / 2) + k / 4) + (4 * (b % 2) + k % 4)) - A (sr + 8 * qz_lim (nI (4 * (b / 2) + k / 4) + dy) + qz_lim (nI (4 * (b % 2) + k % 4) + dx))
def qz_mt (A : Nat → Int32) (tg sr b : Nat) (dx dy : Int32) : Int32 := qz_it (fun k x => if 0 ≤ qz_md A tg sr b dx dy k then x + qz_md A tg sr b dx dy k else x + (-(qz_md A tg sr b dx dy k))) 0 16
theorem qz_e_bx (b k : Nat) (hb : b < 4) (hk : k < 16) : (4 * (nI b &&& 1)) + (nI k &&& 3) = nI (4 * (b % 2) + k % 4) := by
  rw [pk_andN (m := 1) (by omega) 1 (by decide), pk_andN (m := 3) (by omega) 2 (by decide), ← nI_add, ← pk_mul]
  rfl
theorem qz_e_by (b k : Nat) (hb : b < 4) (hk : k < 16) : (4 * (nI b >>> ((1 : Int32) &&& 31))) + (nI k >>> ((2 : Int32) &&& 31)) = nI (4 * (b / 2) + k / 4) := by
  rw [pk_shrN (by omega) _ 1 (by decide), pk_shrN (by omega) _ 2 (by decide), ← nI_add, ← pk_mul]
  rfl
theorem qz_e_off (t y x : Nat) : (nI t + (8 * nI y)) + nI x = nI (t + 8 * y + x) := by rw [← nI_add, ← nI_add, ← pk_mul]; rfl
section
variable {f0 p0 : Int32} {a1 a2 a3 a4 a5 a6 a7 a8 a9 a10 a11 a12 : Nat → Int32}
theorem qz_w_match48 {post : Int32 → Prop} (tg sr b : Nat) (dx dy : Int32) (ht : tg ≤ 192) (hr : sr ≤ 192) (hb : b < 4) (h : post (qz_mt a1 tg sr b dx dy)) : ∃ n, wX_matching_48 post (nI b) dx dy (nI tg) (nI sr) f0 p0 a1 a2 a3 a4 a5 a6 a7 a8 a9 a10 a11 a12 n 0 0 := by
  refine qz_loop (fun n k x => wX_matching_48 post (nI b) dx dy (nI tg) (nI sr) f0 p0 a1 a2 a3 a4 a5 a6 a7 a8 a9 a10 a11 a12 n x (nI k)) (fun k x => if 0 ≤ qz_md a1 tg sr b dx dy k then x + qz_md a1 tg sr b dx dy k else x + (-(qz_md a1 tg sr b dx dy k))) 0 16
    (fun n => pk_le 16 16 (fun _ => h) (fun z => absurd z (by omega)))
    (fun n k hk hw => pk_le 16 k (fun z => absurd z (by omega)) (fun _ => nm_r (qz_e_bx b k hb hk) (nm_r (qz_e_by b k hb hk) (qz_w_lim (qz_w_lim ?_)))))
  have h1 := qz_lim_lt (nI (4 * (b / 2) + k / 4) + dy)
  have h2 := qz_lim_lt (nI (4 * (b % 2) + k % 4) + dx)
  rw [qz_e_off, qz_e_off]
  refine ⟨vp_in_nI (by omega) (by omega), vp_in_nI (by omega) (by omega), nm_r (show _ = qz_md a1 tg sr b dx dy k by rw [nI_clamp (by omega), nI_clamp (by omega)]; rfl) (br_c (fun c => nm_e (nm_r (nI_1 k) ?_)) (fun c => nm_e (nm_r (nI_1 k) ?_)))⟩
  · rw [if_pos c] at hw; exact hw
  · rw [if_neg c] at hw; exact hw
theorem qz_w_match (l b : Nat) (st : Int32) (hl : l < 3) (hb : b < 4) : ∃ r, ∀ post : Int32 → Prop, post r → wpX_matching post (f0, p0, a1, a2, a3, a4, a5, a6, a7, a8, a9, a10, a11, a12) (nI l) (nI b) st := by
  have key : ∀ tg, tg ≤ 192 → ∃ r, ∀ post : Int32 → Prop, post r → wX_matching_27 post (nI l) (nI b) (st / 5 - 2) ((st - st / 5 * 5) - 2) (nI tg) f0 p0 a1 a2 a3 a4 a5 a6 a7 a8 a9 a10 a11 a12 := by
    intro tg ht
    by_cases c : l = 0
    · exact ⟨qz_mt a1 tg 0 b _ _, fun post h => pk_eq l 0 (fun _ => qz_w_match48 tg 0 b _ _ ht (by omega) hb h) (fun z => absurd c z)⟩
    · exact ⟨qz_mt a1 tg 128 b _ _, fun post h => pk_eq l 0 (fun z => absurd z c) (fun _ => qz_w_match48 tg 128 b _ _ ht (by omega) hb h)⟩
  by_cases c : l = 2
  · obtain ⟨r, hr⟩ := key 192 (by omega)
    exact ⟨r, fun post h => ⟨by decide, nm_e ⟨by decide, nm_e (pk_eq l 2 (fun _ => hr post h) (fun z => absurd c z))⟩⟩⟩
  · obtain ⟨r, hr⟩ := key 64 (by omega)
    exact ⟨r, fun post h => ⟨by decide, nm_e ⟨by decide, nm_e (pk_eq l 2 (fun z => absurd z c) (fun _ => hr post h))⟩⟩⟩
theorem qz_w_best54 (l b j n : Nat) (lst x5 x6 z0 z1 : Int32) (V : Nat → Int32) (hl : l < 3) (hb : b < 4) (hj : j < 25)
    (ih : ∀ (lst : Int32) (V : Nat → Int32), ∃ (r : Int32) (V' : Nat → Int32), (qz_Vrg V → qz_Vrg V') ∧ ∀ post : Int32 → St2 → Prop, post r (f0, p0, a1, a2, V', a4, a5, a6, a7, a8, a9, a10, a11, a12) → wX_best_5 post (nI l) (nI b) f0 p0 n lst (nI (j + 1)) a1 a2 V a4 a5 a6 a7 a8 a9 a10 a11 a12) :
    ∃ (r : Int32) (V' : Nat → Int32), (qz_Vrg V → qz_Vrg V') ∧ ∀ post : Int32 → St2 → Prop, post r (f0, p0, a1, a2, V', a4, a5, a6, a7, a8, a9, a10, a11, a12) → wX_best_54 post (wX_best_5 post (nI l) (nI b) f0 p0 n) (nI l) (nI b) lst (nI j) x5 x6 z0 z1 f0 p0 a1 a2 V a4 a5 a6 a7 a8 a9 a10 a11 a12 := by
  have e : (4 * nI l) + nI b = nI (4 * l + b) := by rw [← nI_add, ← pk_mul]; rfl
  obtain ⟨m, hm⟩ := qz_w_match (f0 := f0) (p0 := p0) (a1 := a1) (a2 := a2) (a3 := V) (a4 := a4) (a5 := a5) (a6 := a6) (a7 := a7) (a8 := a8) (a9 := a9) (a10 := a10) (a11 := a11) (a12 := a12) l b (nI j) hl hb
  have take : ∀ key, ∃ (r : Int32) (V' : Nat → Int32), (qz_Vrg V → qz_Vrg V') ∧ ∀ post : Int32 → St2 → Prop, post r (f0, p0, a1, a2, V', a4, a5, a6, a7, a8, a9, a10, a11, a12) → wX_best_105 post (wX_best_5 post (nI l) (nI b) f0 p0 n) (nI l) (nI b) (nI j) key f0 p0 a1 a2 V a4 a5 a6 a7 a8 a9 a10 a11 a12 := by
    intro key
    obtain ⟨r, V', h1, h2⟩ := ih key (upd V (4 * l + b) (nI j))
    refine ⟨r, V', fun hV => h1 (qz_vrg_upd hV ⟨j, by omega, rfl⟩), fun post hp => ⟨pk_in (4 * l + b) 12 (by omega) e, nm_r ?_ (nm_r (nI_1 j) (h2 post hp))⟩⟩
    rw [e, nI_clamp (by omega)]
  generalize hk : ((((m * 1000) + ((z1 + z0) * 100)) + ((x6 + 2) * 10)) + x5) + 2 = key
  by_cases c0 : j = 0
  · obtain ⟨r, V', h1, h2⟩ := take key
    exact ⟨r, V', h1, fun post hp => nm_e (hm _ (nm_r hk (pk_eq j 0 (fun _ => h2 post hp) (fun z => absurd c0 z))))⟩
  · by_cases c1 : lst ≤ key
    · obtain ⟨r, V', h1, h2⟩ := ih lst V
      exact ⟨r, V', h1, fun post hp => nm_e (hm _ (nm_r hk (pk_eq j 0 (fun z => absurd z c0) (fun _ => br_t c1 (nm_r (nI_1 j) (h2 post hp))))))⟩
    · obtain ⟨r, V', h1, h2⟩ := take key
      exact ⟨r, V', h1, fun post hp => nm_e (hm _ (nm_r hk (pk_eq j 0 (fun z => absurd z c0) (fun _ => br_f c1 (h2 post hp)))))⟩
theorem qz_w_best5 (l b : Nat) (hl : l < 3) (hb : b < 4) : ∀ (m j : Nat) (lst : Int32) (V : Nat → Int32), j + m = 25 → ∃ (r : Int32) (V' : Nat → Int32), (qz_Vrg V → qz_Vrg V') ∧ ∀ post : Int32 → St2 → Prop, post r (f0, p0, a1, a2, V', a4, a5, a6, a7, a8, a9, a10, a11, a12) → wX_best_5 post (nI l) (nI b) f0 p0 (m + 1) lst (nI j) a1 a2 V a4 a5 a6 a7 a8 a9 a10 a11 a12 := by
  intro m
  induction m with
  | zero =>
    intro j lst V hj
    exact ⟨lst / 1000, V, id, fun post hp => pk_le 25 j (fun _ => ⟨by decide, hp⟩) (fun z => absurd z (by omega))⟩
  | succ m ih =>
    intro j lst V hj
    have step := fun x5 x6 z0 z1 => qz_w_best54 (f0 := f0) (p0 := p0) (a1 := a1) (a2 := a2) (a4 := a4) (a5 := a5) (a6 := a6) (a7 := a7) (a8 := a8) (a9 := a9) (a10 := a10) (a11 := a11) (a12 := a12) l b j (m + 1) lst x5 x6 z0 z1 V hl hb (by omega) (fun lst V => ih (j + 1) lst V (by omega))
    have cut : ∀ x5 x6 z0, ∃ (r : Int32) (V' : Nat → Int32), (qz_Vrg V → qz_Vrg V') ∧ ∀ post : Int32 → St2 → Prop, post r (f0, p0, a1, a2, V', a4, a5, a6, a7, a8, a9, a10, a11, a12) → wX_best_41 post (wX_best_5 post (nI l) (nI b) f0 p0 (m + 1)) (nI l) (nI b) lst (nI j) x5 x6 z0 f0 p0 a1 a2 V a4 a5 a6 a7 a8 a9 a10 a11 a12 := by
      intro x5 x6 z0
      by_cases c : 0 ≤ x6
      · obtain ⟨r, V', h1, h2⟩ := step x5 x6 x6 z0
        exact ⟨r, V', h1, fun post hp => br_t c (h2 post hp)⟩
      · obtain ⟨r, V', h1, h2⟩ := step x5 x6 (-x6) z0
        exact ⟨r, V', h1, fun post hp => br_f c (h2 post hp)⟩
    by_cases c : 0 ≤ nI j / 5 - 2
    · obtain ⟨r, V', h1, h2⟩ := cut (nI j / 5 - 2) ((nI j - nI j / 5 * 5) - 2) (nI j / 5 - 2)
      exact ⟨r, V', h1, fun post hp => pk_le 25 j (fun z => absurd z (by omega)) (fun _ => ⟨by decide, nm_e ⟨by decide, nm_e (br_t c (h2 post hp))⟩⟩)⟩
    · obtain ⟨r, V', h1, h2⟩ := cut (nI j / 5 - 2) ((nI j - nI j / 5 * 5) - 2) (-(nI j / 5 - 2))
      exact ⟨r, V', h1, fun post hp => pk_le 25 j (fun z => absurd z (by omega)) (fun _ => ⟨by decide, nm_e ⟨by decide, nm_e (br_f c (h2 post hp))⟩⟩)⟩
theorem qz_w_search4 : ∀ (m k : Nat) (x : Int32) (V : Nat → Int32), k + m = 12 → ∃ (r : Int32) (V' : Nat → Int32), (qz_Vrg V → qz_Vrg V') ∧ ∀ post : Int32 → St2 → Prop, post r (f0, p0, a1, a2, V', a4, a5, a6, a7, a8, a9, a10, a11, a12) → wX_search_4 post (m + 1) x (nI k) f0 p0 a1 a2 V a4 a5 a6 a7 a8 a9 a10 a11 a12 := by
  intro m
  induction m with
  | zero =>
    intro k x V hk
    exact ⟨x, V, id, fun post hp => pk_le 12 k (fun _ => hp) (fun z => absurd z (by omega))⟩
  | succ m ih =>
    intro k x V hk
    have e1 : nI k >>> ((2 : Int32) &&& 31) = nI (k / 4) := pk_shrN (by omega) _ 2 (by decide)
    have e2 : nI k &&& 3 = nI (k % 4) := pk_andN (m := 3) (by omega) 2 (by decide)
    obtain ⟨r1, V1, h1, h2⟩ := qz_w_best5 (f0 := f0) (p0 := p0) (a1 := a1) (a2 := a2) (a4 := a4) (a5 := a5) (a6 := a6) (a7 := a7) (a8 := a8) (a9 := a9) (a10 := a10) (a11 := a11) (a12 := a12) (k / 4) (k % 4) (by omega) (by omega) 25 0 0 V (by omega)
    obtain ⟨r2, V2, h3, h4⟩ := ih (k + 1) (x + r1) V1 (by omega)
    refine ⟨r2, V2, fun h => h3 (h1 h), fun post hp => pk_le 12 k (fun z => absurd z (by omega)) (fun _ => ?_)⟩
    rw [e1, e2]
    exact ⟨26, h2 _ (nm_e (nm_r (nI_1 k) (h4 post hp)))⟩
theorem qz_w_search : ∃ V', (qz_Vrg a3 → qz_Vrg V') ∧ ∀ post : Int32 → St2 → Prop, (∀ r, post r (f0, p0, a1, a2, V', a4, a5, a6, a7, a8, a9, a10, a11, a12)) → wpX_search post (f0, p0, a1, a2, a3, a4, a5, a6, a7, a8, a9, a10, a11, a12) := by
  obtain ⟨r, V', h1, h2⟩ := qz_w_search4 (f0 := f0) (p0 := p0) (a1 := a1) (a2 := a2) (a4 := a4) (a5 := a5) (a6 := a6) (a7 := a7) (a8 := a8) (a9 := a9) (a10 := a10) (a11 := a11) (a12 := a12) 12 0 0 a3 (by omega)
  exact ⟨V', h1, fun post hp => ⟨13, h2 post (hp r)⟩⟩
theorem qz_w_draw (c d e : Int32) : ∃ A1 V3, (qz_Rng a1 → qz_Rng A1) ∧ (qz_Vrg a3 → qz_Vrg V3) ∧ ∀ post : St2 → Prop, post (f0, p0, A1, a2, V3, a4, a5, a6, a7, a8, a9, a10, a11, a12) → wpL_draw post (f0, p0, a1, a2, a3, a4, a5, a6, a7, a8, a9, a10, a11, a12) c d e := by
  obtain ⟨f, hf, ef⟩ := pk_andE (c >>> ((3 : Int32) &&& 31)) (m := 3) 2 (by decide)
  obtain ⟨d7, hd7, ed7⟩ := pk_andE d (m := 7) 3 (by decide)
  obtain ⟨e7, he7, ee7⟩ := pk_andE e (m := 7) 3 (by decide)
  obtain ⟨dd, hdd, edd⟩ := pk_andE (d >>> ((3 : Int32) &&& 31)) (m := 7) 3 (by decide)
  obtain ⟨de, hde, ede⟩ := pk_andE (e >>> ((3 : Int32) &&& 31)) (m := 7) 3 (by decide)
  obtain ⟨d3, hd3, ed3⟩ := pk_andE d (m := 3) 2 (by decide)
  obtain ⟨em, hem, eem⟩ := pk_andE e (m := 2147483647) 31 (by decide)
  have f3 : nI f - nI f / 3 * 3 = nI (f % 3) := pk_rem (d := 3) (by omega) (by omega) (by omega)
  have em25 : nI em - nI em / 25 * 25 = nI (em % 25) := pk_rem (d := 25) hem (by omega) (by omega)
  by_cases c0 : c &&& 7 = 0
  · refine ⟨upd a1 (64 * f + 8 * dd + d7) (e &&& 255), a3, fun h => qz_rng_upd h (qz_255 e), id, fun post h => ?_⟩
    refine nm_e (nm_r ef (br_t c0 ?_))
    rw [ed7, edd]
    exact qz_w_put f d7 dd e (by omega) (by omega) (by omega) (fun _ => h)
  by_cases c1 : c &&& 7 = 1
  · obtain ⟨A1, h1, h2⟩ := qz_w_ramp (f0 := f0) (p0 := p0) (a1 := a1) (a2 := a2) (a3 := a3) (a4 := a4) (a5 := a5) (a6 := a6) (a7 := a7) (a8 := a8) (a9 := a9) (a10 := a10) (a11 := a11) (a12 := a12) f d e (c >>> ((5 : Int32) &&& 31)) (by omega)
    exact ⟨A1, a3, h1, id, fun post h => nm_e (nm_r ef (br_f c0 (br_t c1 (h2 _ (fun _ => h)))))⟩
  by_cases c2 : c &&& 7 = 2
  · obtain ⟨A1, h1, h2⟩ := qz_w_drift (f0 := f0) (p0 := p0) (a1 := a1) (a2 := a2) (a3 := a3) (a4 := a4) (a5 := a5) (a6 := a6) (a7 := a7) (a8 := a8) (a9 := a9) (a10 := a10) (a11 := a11) (a12 := a12) (1 + f % 3) ((d &&& 7) - 3) ((e &&& 7) - 3) (by omega) (by omega)
    refine ⟨A1, a3, h1, id, fun post h => nm_e (nm_r ef (br_f c0 (br_f c1 (br_t c2 ⟨by decide, ?_⟩))))⟩
    rw [f3, show (1 : Int32) + nI (f % 3) = nI (1 + f % 3) from nI_add 1 _]
    exact h2 _ (fun _ => h)
  by_cases c3 : c &&& 7 = 3
  · obtain ⟨A1, h1, h2⟩ := qz_w_roughen (f0 := f0) (p0 := p0) (a1 := a1) (a2 := a2) (a3 := a3) (a4 := a4) (a5 := a5) (a6 := a6) (a7 := a7) (a8 := a8) (a9 := a9) (a10 := a10) (a11 := a11) (a12 := a12) f d (by omega)
    exact ⟨A1, a3, h1, id, fun post h => nm_e (nm_r ef (br_f c0 (br_f c1 (br_f c2 (br_t c3 (h2 _ (fun _ => h)))))))⟩
  by_cases c4 : c &&& 7 = 4
  · obtain ⟨A1, h1, h2⟩ := qz_w_invert (f0 := f0) (p0 := p0) (a1 := a1) (a2 := a2) (a3 := a3) (a4 := a4) (a5 := a5) (a6 := a6) (a7 := a7) (a8 := a8) (a9 := a9) (a10 := a10) (a11 := a11) (a12 := a12) f d7 e7 (by omega) (by omega) (by omega)
    refine ⟨A1, a3, h1, id, fun post h => nm_e (nm_r ef (br_f c0 (br_f c1 (br_f c2 (br_f c3 (br_t c4 ?_))))))⟩
    rw [ed7, ee7]
    exact h2 _ (fun _ => h)
  by_cases c5 : c &&& 7 = 5
  · refine ⟨a1, upd a3 (4 * (f % 3) + d3) (nI (em % 25)), id, fun h => qz_vrg_upd h ⟨em % 25, by omega, rfl⟩, fun post h => nm_e (nm_r ef (br_f c0 (br_f c1 (br_f c2 (br_f c3 (br_f c4 (br_t c5 ⟨by decide, by decide, ?_⟩)))))))⟩
    rw [f3, ed3, eem, em25]
    exact qz_w_setV (f % 3) d3 (em % 25) (by omega) (by omega) (by omega) (fun _ => h)
  by_cases c6 : c &&& 7 = 6
  · refine ⟨upd a1 (64 * f + 8 * de + e7) (d &&& 255), a3, fun h => qz_rng_upd h (qz_255 d), id, fun post h => nm_e (nm_r ef (br_f c0 (br_f c1 (br_f c2 (br_f c3 (br_f c4 (br_f c5 (br_t c6 ?_))))))))⟩
    rw [ee7, ede]
    exact qz_w_put f e7 de d (by omega) (by omega) (by omega) (fun _ => h)
  · obtain ⟨V', h1, h2⟩ := qz_w_search (f0 := f0) (p0 := p0) (a1 := a1) (a2 := a2) (a3 := a3) (a4 := a4) (a5 := a5) (a6 := a6) (a7 := a7) (a8 := a8) (a9 := a9) (a10 := a10) (a11 := a11) (a12 := a12)
    exact ⟨a1, V', id, h1, fun post h => nm_e (nm_r ef (br_f c0 (br_f c1 (br_f c2 (br_f c3 (br_f c4 (br_f c5 (br_f c6 (h2 _ (fun _ => h))))))))))⟩
end
end
section
/-! ===== pure rows: iterated local steps, their closed form, their inverse ===== -/
def qz_Loc (Q : Nat → Prop) (F : (Nat → Int32) → Nat → Int32) : Prop := (∀ C j, ¬ Q j → F C j = C j) ∧ (∀ C D, (∀ j, Q j → C j = D j) → ∀ j, Q j → F C j = F D j)
theorem qz_loc_mono {Q R : Nat → Prop} {F : (Nat → Int32) → Nat → Int32} (h : qz_Loc Q F) (hQ : ∀ j, Q j → R j) : qz_Loc R F := by
  refine ⟨fun C j hj => h.1 C j (fun z => hj (hQ j z)), fun C D e j hj => ?_⟩
  by_cases hq : Q j
  · exact h.2 C D (fun k hk => e k (hQ k hk)) j hq
  · rw [h.1 C j hq, h.1 D j hq]; exact e j hj
theorem qz_loc_comp {Q : Nat → Prop} {F G : (Nat → Int32) → Nat → Int32} (hF : qz_Loc Q F) (hG : qz_Loc Q G) : qz_Loc Q (fun C => G (F C)) :=
  ⟨fun C j hj => by show G (F C) j = C j; rw [hG.1 _ j hj, hF.1 _ j hj], fun C D e j hj => hG.2 _ _ (fun k hk => hF.2 C D e k hk) j hj⟩
theorem qz_loc_it {Q : Nat → Prop} {F : Nat → (Nat → Int32) → Nat → Int32} (n : Nat) (h : ∀ i, i < n → qz_Loc Q (F i)) : qz_Loc Q (fun C => qz_it F C n) := by
  induction n with
  | zero => exact ⟨fun _ _ _ => rfl, fun C D e j hj => e j hj⟩
  | succ n ih => exact qz_loc_comp (ih (fun i hi => h i (by omega))) (h n (by omega))
theorem qz_loc_upd {Q : Nat → Prop} {k : Nat} {g : (Nat → Int32) → Int32} (hk : Q k) (hg : ∀ C D, (∀ j, Q j → C j = D j) → g C = g D) : qz_Loc Q (fun C => upd C k (g C)) := by
  refine ⟨fun C j hj => pk_un (fun e => hj (e ▸ hk)), fun C D e j hj => ?_⟩
  show upd C k (g C) j = upd D k (g D) j
  by_cases ej : j = k
  · rw [ej, pk_us, pk_us]; exact hg C D e
  · rw [pk_un ej, pk_un ej]; exact e j hj
/-- steps on places apart from each other -/
theorem qz_par {F : Nat → (Nat → Int32) → Nat → Int32} {Q : Nat → Nat → Prop} (C : Nat → Int32) (n : Nat) (hF : ∀ i, i < n → qz_Loc (Q i) (F i)) (hd : ∀ i j x, i < n → j < n → Q i x → Q j x → i = j) :
    (∀ i, i < n → ∀ x, Q i x → qz_it F C n x = F i C x) ∧ (∀ x, (∀ i, i < n → ¬ Q i x) → qz_it F C n x = C x) := by
  induction n with
  | zero => exact ⟨fun i hi => absurd hi (by omega), fun _ _ => rfl⟩
  | succ n ih =>
    obtain ⟨h1, h2⟩ := ih (fun i hi => hF i (by omega)) (fun i j x hi hj => hd i j x (by omega) (by omega))
    refine ⟨fun i hi x hx => ?_, fun x hx => ?_⟩
    · show F n (qz_it F C n) x = F i C x
      by_cases e : i = n
      · rw [e] at hx ⊢
        refine (hF n (by omega)).2 _ _ (fun y hy => h2 y (fun k hk hQ => ?_)) x hx
        exact absurd (hd k n y (by omega) (by omega) hQ hy) (by omega)
      · rw [(hF n (by omega)).1 _ x (fun z => e (hd i n x hi (by omega) hx z))]
        exact h1 i (by omega) x hx
    · show F n (qz_it F C n) x = C x
      rw [(hF n (by omega)).1 _ x (hx n (by omega))]
      exact h2 x (fun i hi => hx i (by omega))
theorem qz_par_inv {F G : Nat → (Nat → Int32) → Nat → Int32} {Q : Nat → Nat → Prop} (n : Nat) (hF : ∀ i, i < n → qz_Loc (Q i) (F i)) (hG : ∀ i, i < n → qz_Loc (Q i) (G i)) (hd : ∀ i j x, i < n → j < n → Q i x → Q j x → i = j)
    (hi : ∀ i, i < n → ∀ C x, G i (F i C) x = C x) (C : Nat → Int32) : qz_it G (qz_it F C n) n = C := by
  funext x
  obtain ⟨f1, f2⟩ := qz_par C n hF hd
  obtain ⟨g1, g2⟩ := qz_par (qz_it F C n) n hG hd
  by_cases h : ∃ i, i < n ∧ Q i x
  · obtain ⟨i, hin, hx⟩ := h
    rw [g1 i hin x hx, (hG i hin).2 _ (F i C) (fun y hy => f1 i hin y hy) x hx]
    exact hi i hin C x
  · have h' : ∀ i, i < n → ¬ Q i x := fun i hin hx => h ⟨i, hin, hx⟩
    rw [g2 x h', f2 x h']
/-- steps that write places and read, beside the place itself, only what no step writes -/
theorem qz_mw {F : Nat → (Nat → Int32) → Nat → Int32} {Q : Nat → Nat → Prop} {v : Nat → Nat → (Nat → Int32) → Int32} (n : Nat)
    (h1 : ∀ i, i < n → ∀ C x, ¬ Q i x → F i C x = C x) (h2 : ∀ i, i < n → ∀ C x, Q i x → F i C x = v i x C)
    (hv : ∀ i, i < n → ∀ x, Q i x → ∀ C D : Nat → Int32, C x = D x → (∀ y, (∀ k, k < n → ¬ Q k y) → C y = D y) → v i x C = v i x D)
    (hd : ∀ i j x, i < n → j < n → Q i x → Q j x → i = j) (C : Nat → Int32) :
    (∀ i, i < n → ∀ x, Q i x → qz_it F C n x = v i x C) ∧ (∀ x, (∀ i, i < n → ¬ Q i x) → qz_it F C n x = C x) := by
  have H : ∀ m, m ≤ n → (∀ i, i < m → ∀ x, Q i x → qz_it F C m x = v i x C) ∧ (∀ x, (∀ i, i < m → ¬ Q i x) → qz_it F C m x = C x) := by
    intro m
    induction m with
    | zero => exact fun _ => ⟨fun i hi => absurd hi (by omega), fun _ _ => rfl⟩
    | succ m ih =>
      intro hm
      obtain ⟨g1, g2⟩ := ih (by omega)
      refine ⟨fun i hi x hx => ?_, fun x hx => ?_⟩
      · show F m (qz_it F C m) x = v i x C
        by_cases e : i = m
        · rw [e] at hx ⊢
          rw [h2 m (by omega) _ x hx]
          refine hv m (by omega) x hx _ _ (g2 x (fun k hk hQ => ?_)) (fun y hy => g2 y (fun k hk => hy k (by omega)))
          exact absurd (hd k m x (by omega) (by omega) hQ hx) (by omega)
        · rw [h1 m (by omega) _ x (fun z => e (hd i m x (by omega) (by omega) hx z))]
          exact g1 i (by omega) x hx
      · show F m (qz_it F C m) x = C x
        rw [h1 m (by omega) _ x (hx m (by omega))]
        exact g2 x (fun i hi => hx i (by omega))
  exact H n (Nat.le_refl n)
theorem qz_mw_inv {F G : Nat → (Nat → Int32) → Nat → Int32} {Q : Nat → Nat → Prop} {v w : Nat → Nat → (Nat → Int32) → Int32} (n : Nat)
    (h1 : ∀ i, i < n → ∀ C x, ¬ Q i x → F i C x = C x) (h2 : ∀ i, i < n → ∀ C x, Q i x → F i C x = v i x C)
    (hv : ∀ i, i < n → ∀ x, Q i x → ∀ C D : Nat → Int32, C x = D x → (∀ y, (∀ k, k < n → ¬ Q k y) → C y = D y) → v i x C = v i x D)
    (k1 : ∀ i, i < n → ∀ C x, ¬ Q i x → G i C x = C x) (k2 : ∀ i, i < n → ∀ C x, Q i x → G i C x = w i x C)
    (hw : ∀ i, i < n → ∀ x, Q i x → ∀ C D : Nat → Int32, C x = D x → (∀ y, (∀ k, k < n → ¬ Q k y) → C y = D y) → w i x C = w i x D)
    (hd : ∀ i j x, i < n → j < n → Q i x → Q j x → i = j)
    (hi : ∀ i, i < n → ∀ x, Q i x → ∀ C D : Nat → Int32, D x = v i x C → (∀ y, (∀ k, k < n → ¬ Q k y) → D y = C y) → w i x D = C x) (C : Nat → Int32) : qz_it G (qz_it F C n) n = C := by
  funext x
  obtain ⟨f1, f2⟩ := qz_mw n h1 h2 hv hd C
  obtain ⟨g1, g2⟩ := qz_mw n k1 k2 hw hd (qz_it F C n)
  by_cases h : ∃ i, i < n ∧ Q i x
  · obtain ⟨i, hin, hx⟩ := h
    rw [g1 i hin x hx]
    exact hi i hin x hx C _ (f1 i hin x hx) (fun y hy => f2 y hy)
  · have h' : ∀ i, i < n → ¬ Q i x := fun i hin hx => h ⟨i, hin, hx⟩
    rw [g2 x h', f2 x h']
/-! ===== one lift undone ===== -/
def qz_Inj (p : Nat → Nat) (N : Nat) : Prop := ∀ i j, i < N → j < N → p i = p j → i = j
theorem qz_pp_inj (st g N : Nat) (hg : 0 < g) : qz_Inj (qz_pp st g) N := by
  intro i j _ _ h
  have h' : i * g = j * g := by unfold qz_pp at h; omega
  exact Nat.eq_of_mul_eq_mul_right hg h'
theorem qz_addsub (x y : Int32) : (x - y) + y = x := by grind
theorem qz_subadd (x y : Int32) : (x + y) - y = x := by grind
def qz_v1 (p : Nat → Nat) (N i : Nat) (C : Nat → Int32) : Int32 := (C (p (2 * i)) + C (p (if i + 1 < N then 2 * i + 2 else 2 * i))) >>> ((1 : Int32) &&& 31)
def qz_v2 (p : Nat → Nat) (i : Nat) (C : Nat → Int32) : Int32 := ((C (p (if i = 0 then 1 else 2 * i - 1)) + C (p (2 * i + 1))) + 2) >>> ((2 : Int32) &&& 31)
theorem qz_v1_c {p : Nat → Nat} {N i : Nat} (hp : qz_Inj p (2 * N)) (hi : i < N) {C D : Nat → Int32} (h : ∀ y, (∀ k, k < N → ¬ y = p (2 * k + 1)) → C y = D y) : qz_v1 p N i C = qz_v1 p N i D := by
  unfold qz_v1
  rw [h (p (2 * i)) (fun k hk e => by have := hp _ _ (by omega) (by omega) e; omega), h (p (if i + 1 < N then 2 * i + 2 else 2 * i)) (fun k hk e => by have := hp _ _ (by split <;> omega) (by omega) e; split at this <;> omega)]
theorem qz_v2_c {p : Nat → Nat} {N i : Nat} (hp : qz_Inj p (2 * N)) (hi : i < N) {C D : Nat → Int32} (h : ∀ y, (∀ k, k < N → ¬ y = p (2 * k)) → C y = D y) : qz_v2 p i C = qz_v2 p i D := by
  unfold qz_v2
  rw [h (p (2 * i + 1)) (fun k hk e => by have := hp _ _ (by omega) (by omega) e; omega), h (p (if i = 0 then 1 else 2 * i - 1)) (fun k hk e => by have := hp _ _ (by split <;> omega) (by omega) e; split at this <;> omega)]
theorem qz_l1_cf {p : Nat → Nat} {N : Nat} (hp : qz_Inj p (2 * N)) (C : Nat → Int32) :
    (∀ i, i < N → ∀ x, x = p (2 * i + 1) → qz_it (qz_l1 p N) C N x = C x - qz_v1 p N i C) ∧ (∀ x, (∀ i, i < N → ¬ x = p (2 * i + 1)) → qz_it (qz_l1 p N) C N x = C x) :=
  qz_mw (Q := fun i x => x = p (2 * i + 1)) (v := fun i x C => C x - qz_v1 p N i C) N (fun i _ C x hx => pk_un hx) (fun i _ C x hx => by subst hx; exact pk_us)
    (fun i hi x _ C D h1 h2 => by show C x - _ = D x - _; rw [h1, qz_v1_c hp hi h2]) (fun i j x hi hj h1 h2 => by have := hp _ _ (by omega) (by omega) (h1.symm.trans h2); omega) C
theorem qz_l2_cf {p : Nat → Nat} {N : Nat} (hp : qz_Inj p (2 * N)) (C : Nat → Int32) :
    (∀ i, i < N → ∀ x, x = p (2 * i) → qz_it (qz_l2 p) C N x = C x + qz_v2 p i C) ∧ (∀ x, (∀ i, i < N → ¬ x = p (2 * i)) → qz_it (qz_l2 p) C N x = C x) :=
  qz_mw (Q := fun i x => x = p (2 * i)) (v := fun i x C => C x + qz_v2 p i C) N (fun i _ C x hx => pk_un hx) (fun i _ C x hx => by subst hx; exact pk_us)
    (fun i hi x _ C D h1 h2 => by show C x + _ = D x + _; rw [h1, qz_v2_c hp hi h2]) (fun i j x hi hj h1 h2 => by have := hp _ _ (by omega) (by omega) (h1.symm.trans h2); omega) C
theorem qz_ul {p : Nat → Nat} {N : Nat} (hp : qz_Inj p (2 * N)) (C : Nat → Int32) : qz_unlift p N (qz_lift p N C) = C := by
  have e2 : ∀ X, qz_it (qz_u2 p) (qz_it (qz_l2 p) X N) N = X := fun X =>
    qz_mw_inv (Q := fun i x => x = p (2 * i)) (v := fun i x C => C x + qz_v2 p i C) (w := fun i x C => C x - qz_v2 p i C) N (fun i _ C x hx => pk_un hx) (fun i _ C x hx => by subst hx; exact pk_us)
      (fun i hi x _ C D h1 h2 => by show C x + _ = D x + _; rw [h1, qz_v2_c hp hi h2]) (fun i _ C x hx => pk_un hx) (fun i _ C x hx => by subst hx; exact pk_us)
      (fun i hi x _ C D h1 h2 => by show C x - _ = D x - _; rw [h1, qz_v2_c hp hi h2]) (fun i j x hi hj h1 h2 => by have := hp _ _ (by omega) (by omega) (h1.symm.trans h2); omega)
      (fun i hi x _ C D h1 h2 => by show D x - qz_v2 p i D = C x; rw [h1, qz_v2_c hp hi h2]; exact qz_subadd _ _) X
  have e1 : ∀ X, qz_it (qz_u1 p N) (qz_it (qz_l1 p N) X N) N = X := fun X =>
    qz_mw_inv (Q := fun i x => x = p (2 * i + 1)) (v := fun i x C => C x - qz_v1 p N i C) (w := fun i x C => C x + qz_v1 p N i C) N (fun i _ C x hx => pk_un hx) (fun i _ C x hx => by subst hx; exact pk_us)
      (fun i hi x _ C D h1 h2 => by show C x - _ = D x - _; rw [h1, qz_v1_c hp hi h2]) (fun i _ C x hx => pk_un hx) (fun i _ C x hx => by subst hx; exact pk_us)
      (fun i hi x _ C D h1 h2 => by show C x + _ = D x + _; rw [h1, qz_v1_c hp hi h2]) (fun i j x hi hj h1 h2 => by have := hp _ _ (by omega) (by omega) (h1.symm.trans h2); omega)
      (fun i hi x _ C D h1 h2 => by show D x + qz_v1 p N i D = C x; rw [h1, qz_v1_c hp hi h2]; exact qz_addsub _ _) X
  unfold qz_unlift qz_lift
  rw [e2, e1]
theorem qz_lift_loc (p : Nat → Nat) (N : Nat) : qz_Loc (fun x => ∃ m, m < 2 * N ∧ x = p m) (qz_lift p N) := by
  refine qz_loc_comp (F := fun C => qz_it (qz_l1 p N) C N) (G := fun C => qz_it (qz_l2 p) C N) (qz_loc_it N (fun i hi => ?_)) (qz_loc_it N (fun i hi => ?_))
  · refine qz_loc_upd ⟨2 * i + 1, by omega, rfl⟩ (fun C D h => ?_)
    rw [h (p (2 * i + 1)) ⟨_, by omega, rfl⟩, h (p (2 * i)) ⟨_, by omega, rfl⟩, h (p (if i + 1 < N then 2 * i + 2 else 2 * i)) ⟨_, by split <;> omega, rfl⟩]
  · refine qz_loc_upd ⟨2 * i, by omega, rfl⟩ (fun C D h => ?_)
    rw [h (p (2 * i + 1)) ⟨_, by omega, rfl⟩, h (p (2 * i)) ⟨_, by omega, rfl⟩, h (p (if i = 0 then 1 else 2 * i - 1)) ⟨_, by split <;> omega, rfl⟩]
theorem qz_unlift_loc (p : Nat → Nat) (N : Nat) : qz_Loc (fun x => ∃ m, m < 2 * N ∧ x = p m) (qz_unlift p N) := by
  refine qz_loc_comp (F := fun C => qz_it (qz_u2 p) C N) (G := fun C => qz_it (qz_u1 p N) C N) (qz_loc_it N (fun i hi => ?_)) (qz_loc_it N (fun i hi => ?_))
  · refine qz_loc_upd ⟨2 * i, by omega, rfl⟩ (fun C D h => ?_)
    rw [h (p (2 * i + 1)) ⟨_, by omega, rfl⟩, h (p (2 * i)) ⟨_, by omega, rfl⟩, h (p (if i = 0 then 1 else 2 * i - 1)) ⟨_, by split <;> omega, rfl⟩]
  · refine qz_loc_upd ⟨2 * i + 1, by omega, rfl⟩ (fun C D h => ?_)
    rw [h (p (2 * i + 1)) ⟨_, by omega, rfl⟩, h (p (2 * i)) ⟨_, by omega, rfl⟩, h (p (if i + 1 < N then 2 * i + 2 else 2 * i)) ⟨_, by split <;> omega, rfl⟩]
end
section
/-! ===== the whole transform undone ===== -/
def qz_q1 (A i x : Nat) : Prop := ∃ m, m < 8 ∧ x = qz_pp (A + 8 * i) 1 m
def qz_q2 (A i x : Nat) : Prop := ∃ m, m < 8 ∧ x = qz_pp (A + i) 8 m
def qz_q3 (A i x : Nat) : Prop := ∃ m, m < 4 ∧ x = qz_pp (A + 16 * i) 2 m
def qz_q4 (A i x : Nat) : Prop := ∃ m, m < 4 ∧ x = qz_pp (A + 2 * i) 16 m
def qz_fr (A x : Nat) : Prop := A ≤ x ∧ x < A + 64
theorem qz_q1_d (A : Nat) : ∀ i j x, i < 8 → j < 8 → qz_q1 A i x → qz_q1 A j x → i = j := by
  intro i j x hi hj ⟨m, hm, e⟩ ⟨m', hm', e'⟩
  unfold qz_pp at e e'
  omega
theorem qz_q2_d (A : Nat) : ∀ i j x, i < 8 → j < 8 → qz_q2 A i x → qz_q2 A j x → i = j := by
  intro i j x hi hj ⟨m, hm, e⟩ ⟨m', hm', e'⟩
  unfold qz_pp at e e'
  omega
theorem qz_q3_d (A : Nat) : ∀ i j x, i < 4 → j < 4 → qz_q3 A i x → qz_q3 A j x → i = j := by
  intro i j x hi hj ⟨m, hm, e⟩ ⟨m', hm', e'⟩
  unfold qz_pp at e e'
  omega
theorem qz_q4_d (A : Nat) : ∀ i j x, i < 4 → j < 4 → qz_q4 A i x → qz_q4 A j x → i = j := by
  intro i j x hi hj ⟨m, hm, e⟩ ⟨m', hm', e'⟩
  unfold qz_pp at e e'
  omega
theorem qz_q1_f {A i x : Nat} (hi : i < 8) (h : qz_q1 A i x) : qz_fr A x := by
  obtain ⟨m, hm, e⟩ := h
  unfold qz_pp at e
  exact ⟨by omega, by omega⟩
theorem qz_q2_f {A i x : Nat} (hi : i < 8) (h : qz_q2 A i x) : qz_fr A x := by
  obtain ⟨m, hm, e⟩ := h
  unfold qz_pp at e
  exact ⟨by omega, by omega⟩
theorem qz_q3_f {A i x : Nat} (hi : i < 4) (h : qz_q3 A i x) : qz_fr A x := by
  obtain ⟨m, hm, e⟩ := h
  unfold qz_pp at e
  exact ⟨by omega, by omega⟩
theorem qz_q4_f {A i x : Nat} (hi : i < 4) (h : qz_q4 A i x) : qz_fr A x := by
  obtain ⟨m, hm, e⟩ := h
  unfold qz_pp at e
  exact ⟨by omega, by omega⟩
theorem qz_ana_loc (A : Nat) : qz_Loc (qz_fr A) (qz_ana A) := by
  refine qz_loc_comp (F := fun C => qz_it (qz_lf3 A) (qz_it (qz_lf2 A) (qz_it (qz_lf1 A) C 8) 8) 4) (G := fun C => qz_it (qz_lf4 A) C 4) (qz_loc_comp (F := fun C => qz_it (qz_lf2 A) (qz_it (qz_lf1 A) C 8) 8) (G := fun C => qz_it (qz_lf3 A) C 4) (qz_loc_comp (F := fun C => qz_it (qz_lf1 A) C 8) (G := fun C => qz_it (qz_lf2 A) C 8) ?_ ?_) ?_) ?_
  · exact qz_loc_it 8 (fun i hi => qz_loc_mono (qz_lift_loc (qz_pp (A + 8 * i) 1) 4) (fun j hj => qz_q1_f hi hj))
  · exact qz_loc_it 8 (fun i hi => qz_loc_mono (qz_lift_loc (qz_pp (A + i) 8) 4) (fun j hj => qz_q2_f hi hj))
  · exact qz_loc_it 4 (fun i hi => qz_loc_mono (qz_lift_loc (qz_pp (A + 16 * i) 2) 2) (fun j hj => qz_q3_f hi hj))
  · exact qz_loc_it 4 (fun i hi => qz_loc_mono (qz_lift_loc (qz_pp (A + 2 * i) 16) 2) (fun j hj => qz_q4_f hi hj))
theorem qz_syn_loc (A : Nat) : qz_Loc (qz_fr A) (qz_syn A) := by
  refine qz_loc_comp (F := fun C => qz_it (qz_uf2 A) (qz_it (qz_uf3 A) (qz_it (qz_uf4 A) C 4) 4) 8) (G := fun C => qz_it (qz_uf1 A) C 8) (qz_loc_comp (F := fun C => qz_it (qz_uf3 A) (qz_it (qz_uf4 A) C 4) 4) (G := fun C => qz_it (qz_uf2 A) C 8) (qz_loc_comp (F := fun C => qz_it (qz_uf4 A) C 4) (G := fun C => qz_it (qz_uf3 A) C 4) ?_ ?_) ?_) ?_
  · exact qz_loc_it 4 (fun i hi => qz_loc_mono (qz_unlift_loc (qz_pp (A + 2 * i) 16) 2) (fun j hj => qz_q4_f hi hj))
  · exact qz_loc_it 4 (fun i hi => qz_loc_mono (qz_unlift_loc (qz_pp (A + 16 * i) 2) 2) (fun j hj => qz_q3_f hi hj))
  · exact qz_loc_it 8 (fun i hi => qz_loc_mono (qz_unlift_loc (qz_pp (A + i) 8) 4) (fun j hj => qz_q2_f hi hj))
  · exact qz_loc_it 8 (fun i hi => qz_loc_mono (qz_unlift_loc (qz_pp (A + 8 * i) 1) 4) (fun j hj => qz_q1_f hi hj))
theorem qz_sa (A : Nat) (C : Nat → Int32) : qz_syn A (qz_ana A C) = C := by
  have e1 : ∀ X, qz_it (qz_uf1 A) (qz_it (qz_lf1 A) X 8) 8 = X := qz_par_inv (Q := qz_q1 A) 8 (fun i _ => qz_lift_loc _ 4) (fun i _ => qz_unlift_loc _ 4) (qz_q1_d A) (fun i _ C x => congrFun (qz_ul (qz_pp_inj _ _ _ (by omega)) C) x)
  have e2 : ∀ X, qz_it (qz_uf2 A) (qz_it (qz_lf2 A) X 8) 8 = X := qz_par_inv (Q := qz_q2 A) 8 (fun i _ => qz_lift_loc _ 4) (fun i _ => qz_unlift_loc _ 4) (qz_q2_d A) (fun i _ C x => congrFun (qz_ul (qz_pp_inj _ _ _ (by omega)) C) x)
  have e3 : ∀ X, qz_it (qz_uf3 A) (qz_it (qz_lf3 A) X 4) 4 = X := qz_par_inv (Q := qz_q3 A) 4 (fun i _ => qz_lift_loc _ 2) (fun i _ => qz_unlift_loc _ 2) (qz_q3_d A) (fun i _ C x => congrFun (qz_ul (qz_pp_inj _ _ _ (by omega)) C) x)
  have e4 : ∀ X, qz_it (qz_uf4 A) (qz_it (qz_lf4 A) X 4) 4 = X := qz_par_inv (Q := qz_q4 A) 4 (fun i _ => qz_lift_loc _ 2) (fun i _ => qz_unlift_loc _ 2) (qz_q4_d A) (fun i _ C x => congrFun (qz_ul (qz_pp_inj _ _ _ (by omega)) C) x)
  unfold qz_syn qz_ana
  rw [e4, e3, e2, e1]
theorem qz_fr_d : ∀ i j x, i < 4 → j < 4 → qz_fr (64 * i) x → qz_fr (64 * j) x → i = j := by
  intro i j x _ _ h1 h2
  unfold qz_fr at h1 h2
  omega
theorem qz_sas (C : Nat → Int32) : qz_it (fun f => qz_syn (64 * f)) (qz_it (fun f => qz_ana (64 * f)) C 4) 4 = C :=
  qz_par_inv (Q := fun f => qz_fr (64 * f)) 4 (fun i _ => qz_ana_loc (64 * i)) (fun i _ => qz_syn_loc (64 * i)) qz_fr_d (fun i _ C x => congrFun (qz_sa (64 * i) C) x) C
/-! predict and adjust -/
def qz_pq (k x : Nat) : Prop := x = 64 + k ∨ x = 192 + k
def qz_pv (s : Int32) (P : Nat → Int32) (k x : Nat) (C : Nat → Int32) : Int32 := C x + s * (if x < 128 then (qz_al P C 0 0 k 1 + qz_al P C 2 1 k 1) >>> ((1 : Int32) &&& 31) else qz_al P C 2 2 k 1)
def qz_aq (k x : Nat) : Prop := x = k ∨ x = 128 + k
def qz_av (s : Int32) (P : Nat → Int32) (k x : Nat) (C : Nat → Int32) : Int32 := C x + s * (if x < 64 then qz_al P C 1 0 k (-1) >>> ((1 : Int32) &&& 31) else ((qz_al P C 1 1 k (-1) + qz_al P C 3 2 k (-1)) + 2) >>> ((2 : Int32) &&& 31))
theorem qz_p1 (s : Int32) (P : Nat → Int32) : ∀ i, i < 64 → ∀ C x, ¬ qz_pq i x → qz_ps s P i C x = C x := by
  intro i hi C x hx
  unfold qz_pq at hx
  unfold qz_ps
  rw [pk_un (by omega), pk_un (by omega)]
theorem qz_p2 (s : Int32) (P : Nat → Int32) : ∀ i, i < 64 → ∀ C x, qz_pq i x → qz_ps s P i C x = qz_pv s P i x C := by
  intro i hi C x hx
  unfold qz_ps qz_pv
  rcases hx with e | e
  · subst e
    rw [pk_un (by omega), pk_us, if_pos (by omega)]
  · subst e
    rw [pk_us, if_neg (by omega)]
theorem qz_al_c {P C D : Nat → Int32} {F l k : Nat} {s : Int32} (h : ∀ y, 64 * F ≤ y → y < 64 * F + 64 → C y = D y) : qz_al P C F l k s = qz_al P D F l k s := by
  have h1 := qz_ax_lt P l k s
  have h2 := qz_ay_lt P l k s
  exact h _ (by omega) (by omega)
theorem qz_p3 (s : Int32) (P : Nat → Int32) : ∀ i, i < 64 → ∀ x, qz_pq i x → ∀ C D : Nat → Int32, C x = D x → (∀ y, (∀ k, k < 64 → ¬ qz_pq k y) → C y = D y) → qz_pv s P i x C = qz_pv s P i x D := by
  intro i hi x hx C D h1 h2
  have n0 : ∀ y, (y < 64 ∨ (128 ≤ y ∧ y < 192)) → C y = D y := fun y hy => h2 y (fun k hk z => by unfold qz_pq at z; omega)
  unfold qz_pv
  rw [h1, qz_al_c (F := 0) (C := C) (D := D) (fun y _ _ => n0 y (by omega)), qz_al_c (F := 2) (l := 1) (C := C) (D := D) (fun y _ _ => n0 y (by omega)), qz_al_c (F := 2) (l := 2) (C := C) (D := D) (fun y _ _ => n0 y (by omega))]
theorem qz_p4 : ∀ i j x, i < 64 → j < 64 → qz_pq i x → qz_pq j x → i = j := by
  intro i j x _ _ h1 h2
  unfold qz_pq at h1 h2
  omega
theorem qz_a1 (s : Int32) (P : Nat → Int32) : ∀ i, i < 64 → ∀ C x, ¬ qz_aq i x → qz_as s P i C x = C x := by
  intro i hi C x hx
  unfold qz_aq at hx
  unfold qz_as
  rw [pk_un (by omega), pk_un (by omega)]
theorem qz_a2 (s : Int32) (P : Nat → Int32) : ∀ i, i < 64 → ∀ C x, qz_aq i x → qz_as s P i C x = qz_av s P i x C := by
  intro i hi C x hx
  unfold qz_as qz_av
  rcases hx with e | e
  · subst e
    rw [pk_un (by omega), pk_us, if_pos (by omega)]
  · subst e
    rw [pk_us, if_neg (by omega)]
theorem qz_a3 (s : Int32) (P : Nat → Int32) : ∀ i, i < 64 → ∀ x, qz_aq i x → ∀ C D : Nat → Int32, C x = D x → (∀ y, (∀ k, k < 64 → ¬ qz_aq k y) → C y = D y) → qz_av s P i x C = qz_av s P i x D := by
  intro i hi x hx C D h1 h2
  have n0 : ∀ y, ((64 ≤ y ∧ y < 128) ∨ (192 ≤ y ∧ y < 256)) → C y = D y := fun y hy => h2 y (fun k hk z => by unfold qz_aq at z; omega)
  unfold qz_av
  rw [h1, qz_al_c (F := 1) (l := 0) (C := C) (D := D) (fun y _ _ => n0 y (by omega)), qz_al_c (F := 1) (l := 1) (C := C) (D := D) (fun y _ _ => n0 y (by omega)), qz_al_c (F := 3) (C := C) (D := D) (fun y _ _ => n0 y (by omega))]
theorem qz_a4 : ∀ i j x, i < 64 → j < 64 → qz_aq i x → qz_aq j x → i = j := by
  intro i j x _ _ h1 h2
  unfold qz_aq at h1 h2
  omega
theorem qz_sg1 (x y : Int32) : (x + (-1) * y) + 1 * y = x := by grind
theorem qz_sg2 (x y : Int32) : (x + 1 * y) + (-1) * y = x := by grind
theorem qz_pp1 (P C : Nat → Int32) : qz_it (qz_ps 1 P) (qz_it (qz_ps (-1) P) C 64) 64 = C :=
  qz_mw_inv (Q := qz_pq) 64 (qz_p1 (-1) P) (qz_p2 (-1) P) (qz_p3 (-1) P) (qz_p1 1 P) (qz_p2 1 P) (qz_p3 1 P) qz_p4 (fun i hi x hx C D h1 h2 => by
    have n0 : ∀ y, (y < 64 ∨ (128 ≤ y ∧ y < 192)) → D y = C y := fun y hy => h2 y (fun k hk z => by unfold qz_pq at z; omega)
    show D x + 1 * _ = C x
    rw [qz_al_c (F := 0) (C := D) (D := C) (fun y _ _ => n0 y (by omega)), qz_al_c (F := 2) (l := 1) (C := D) (D := C) (fun y _ _ => n0 y (by omega)), qz_al_c (F := 2) (l := 2) (C := D) (D := C) (fun y _ _ => n0 y (by omega)), h1]
    exact qz_sg1 _ _) C
theorem qz_aa1 (P C : Nat → Int32) : qz_it (qz_as (-1) P) (qz_it (qz_as 1 P) C 64) 64 = C :=
  qz_mw_inv (Q := qz_aq) 64 (qz_a1 1 P) (qz_a2 1 P) (qz_a3 1 P) (qz_a1 (-1) P) (qz_a2 (-1) P) (qz_a3 (-1) P) qz_a4 (fun i hi x hx C D h1 h2 => by
    have n0 : ∀ y, ((64 ≤ y ∧ y < 128) ∨ (192 ≤ y ∧ y < 256)) → D y = C y := fun y hy => h2 y (fun k hk z => by unfold qz_aq at z; omega)
    show D x + (-1) * _ = C x
    rw [qz_al_c (F := 1) (l := 0) (C := D) (D := C) (fun y _ _ => n0 y (by omega)), qz_al_c (F := 1) (l := 1) (C := D) (D := C) (fun y _ _ => n0 y (by omega)), qz_al_c (F := 3) (C := D) (D := C) (fun y _ _ => n0 y (by omega)), h1]
    exact qz_sg2 _ _) C
theorem qz_undo (P C : Nat → Int32) : qz_inv P (qz_fwd P C) = C := by
  unfold qz_inv qz_fwd
  rw [qz_sas, qz_aa1, qz_pp1]
/-! the same when cells and paths only agree where they are read -/
theorem qz_al_p {P P' C : Nat → Int32} {F l k : Nat} {s : Int32} (hl : l < 3) (hk : k < 64) (h : ∀ j, j < 12 → P j = P' j) : qz_al P C F l k s = qz_al P' C F l k s := by
  have e : qz_st P l k = qz_st P' l k := h _ (by omega)
  unfold qz_al qz_ax qz_ay
  rw [e]
theorem qz_ps_p {P P' : Nat → Int32} (s : Int32) (h : ∀ j, j < 12 → P j = P' j) (C : Nat → Int32) : qz_it (qz_ps s P) C 64 = qz_it (qz_ps s P') C 64 :=
  qz_it_congr (fun i t hi => by unfold qz_ps; rw [qz_al_p (by omega) hi h, qz_al_p (by omega) hi h, qz_al_p (by omega) hi h])
theorem qz_as_p {P P' : Nat → Int32} (s : Int32) (h : ∀ j, j < 12 → P j = P' j) (C : Nat → Int32) : qz_it (qz_as s P) C 64 = qz_it (qz_as s P') C 64 :=
  qz_it_congr (fun i t hi => by unfold qz_as; rw [qz_al_p (by omega) hi h, qz_al_p (by omega) hi h, qz_al_p (by omega) hi h])
theorem qz_ps_loc (s : Int32) (P : Nat → Int32) (k : Nat) (hk : k < 64) : qz_Loc (fun x => x < 256) (qz_ps s P k) := by
  refine ⟨fun C j hj => qz_p1 s P k hk C j (by unfold qz_pq; omega), fun C D e j hj => ?_⟩
  unfold qz_ps
  rw [qz_al_c (F := 0) (C := C) (D := D) (fun y _ _ => e y (by omega)), qz_al_c (F := 2) (l := 1) (C := C) (D := D) (fun y _ _ => e y (by omega)), qz_al_c (F := 2) (l := 2) (C := C) (D := D) (fun y _ _ => e y (by omega)), e (64 + k) (by omega), e (192 + k) (by omega)]
  by_cases h1 : j = 192 + k
  · rw [h1, pk_us, pk_us]
  · rw [pk_un h1, pk_un h1]
    by_cases h2 : j = 64 + k
    · rw [h2, pk_us, pk_us]
    · rw [pk_un h2, pk_un h2]; exact e j hj
theorem qz_as_loc (s : Int32) (P : Nat → Int32) (k : Nat) (hk : k < 64) : qz_Loc (fun x => x < 256) (qz_as s P k) := by
  refine ⟨fun C j hj => qz_a1 s P k hk C j (by unfold qz_aq; omega), fun C D e j hj => ?_⟩
  unfold qz_as
  rw [qz_al_c (F := 1) (l := 0) (C := C) (D := D) (fun y _ _ => e y (by omega)), qz_al_c (F := 1) (l := 1) (C := C) (D := D) (fun y _ _ => e y (by omega)), qz_al_c (F := 3) (C := C) (D := D) (fun y _ _ => e y (by omega)), e k (by omega), e (128 + k) (by omega)]
  by_cases h1 : j = 128 + k
  · rw [h1, pk_us, pk_us]
  · rw [pk_un h1, pk_un h1]
    by_cases h2 : j = k
    · rw [h2, pk_us, pk_us]
    · rw [pk_un h2, pk_un h2]; exact e j hj
theorem qz_inv_loc (P : Nat → Int32) : qz_Loc (fun x => x < 256) (qz_inv P) := by
  refine qz_loc_comp (F := fun C => qz_it (qz_as (-1) P) (qz_it (fun f => qz_syn (64 * f)) C 4) 64) (G := fun C => qz_it (qz_ps 1 P) C 64) (qz_loc_comp (F := fun C => qz_it (fun f => qz_syn (64 * f)) C 4) (G := fun C => qz_it (qz_as (-1) P) C 64) ?_ ?_) ?_
  · exact qz_loc_it 4 (fun i hi => qz_loc_mono (qz_syn_loc (64 * i)) (fun j hj => by unfold qz_fr at hj; omega))
  · exact qz_loc_it 64 (fun i hi => qz_as_loc _ _ i hi)
  · exact qz_loc_it 64 (fun i hi => qz_ps_loc _ _ i hi)
theorem qz_undo2 {P P' C X : Nat → Int32} (hP : ∀ j, j < 12 → P' j = P j) (hX : ∀ j, j < 256 → X j = qz_fwd P C j) : ∀ j, j < 256 → qz_inv P' X j = C j := by
  intro j hj
  have e : qz_inv P' X = qz_inv P X := by
    unfold qz_inv
    rw [qz_ps_p 1 hP, qz_as_p (-1) hP]
  rw [e, (qz_inv_loc P).2 X (qz_fwd P C) hX j hj, qz_undo]
end
section
/-! ===== how large the cells may become ===== -/
def qz_iv (lo hi : Int) (x : Int32) : Prop := lo ≤ x.toInt ∧ x.toInt ≤ hi
theorem qz_iv_w {lo hi lo' hi' : Int} {x : Int32} (h : qz_iv lo hi x) (h1 : lo' ≤ lo) (h2 : hi ≤ hi') : qz_iv lo' hi' x := ⟨Int.le_trans h1 h.1, Int.le_trans h.2 h2⟩
theorem qz_iv_add {l1 h1 l2 h2 : Int} {x y : Int32} (hx : qz_iv l1 h1 x) (hy : qz_iv l2 h2 y) (hl : -2 ^ 31 ≤ l1 + l2) (hh : h1 + h2 < 2 ^ 31) : qz_iv (l1 + l2) (h1 + h2) (x + y) := by
  unfold qz_iv at hx hy ⊢
  rw [Jvm.Kit.i32_add (by omega) (by omega)]
  omega
theorem qz_iv_sub {l1 h1 l2 h2 : Int} {x y : Int32} (hx : qz_iv l1 h1 x) (hy : qz_iv l2 h2 y) (hl : -2 ^ 31 ≤ l1 - h2) (hh : h1 - l2 < 2 ^ 31) : qz_iv (l1 - h2) (h1 - l2) (x - y) := by
  unfold qz_iv at hx hy ⊢
  rw [Jvm.Kit.i32_sub (by omega) (by omega)]
  omega
theorem qz_iv_s1 {lo hi : Int} {x : Int32} (h : qz_iv (2 * lo) (2 * hi + 1) x) : qz_iv lo hi (x >>> ((1 : Int32) &&& 31)) := by
  unfold qz_iv at h ⊢
  rw [pk_shr _ _ 1 (by decide), Int.shiftRight_eq_div_pow]
  omega
theorem qz_iv_s2 {lo hi : Int} {x : Int32} (h : qz_iv (4 * lo) (4 * hi + 3) x) : qz_iv lo hi (x >>> ((2 : Int32) &&& 31)) := by
  unfold qz_iv at h ⊢
  rw [pk_shr _ _ 2 (by decide), Int.shiftRight_eq_div_pow]
  omega
theorem qz_iv_half {lo hi : Int} {a b : Int32} (ha : qz_iv lo hi a) (hb : qz_iv lo hi b) (hl : -2 ^ 30 ≤ lo) (hh : hi < 2 ^ 30) : qz_iv lo hi ((a + b) >>> ((1 : Int32) &&& 31)) :=
  qz_iv_s1 (qz_iv_w (qz_iv_add ha hb (by omega) (by omega)) (by omega) (by omega))
theorem qz_iv_2 : qz_iv 2 2 2 := by unfold qz_iv; decide
theorem qz_iv_quart {M : Int} {a b : Int32} (ha : qz_iv (-(2 * M)) (2 * M) a) (hb : qz_iv (-(2 * M)) (2 * M) b) (h0 : 0 ≤ M) (hM : M ≤ 1000000) : qz_iv (-M) M (((a + b) + 2) >>> ((2 : Int32) &&& 31)) :=
  qz_iv_s2 (qz_iv_w (qz_iv_add (qz_iv_add ha hb (by omega) (by omega)) qz_iv_2 (by omega) (by omega)) (by omega) (by omega))
def qz_bd (M : Int) (x : Int32) : Prop := qz_iv (-M) M x
theorem qz_lift_bd {p : Nat → Nat} {N : Nat} {M : Int} {C : Nat → Int32} (hp : qz_Inj p (2 * N)) (h0 : 0 ≤ M) (hM : M ≤ 1000000) (hC : ∀ i, i < 2 * N → qz_bd M (C (p i))) : ∀ i, i < 2 * N → qz_bd (2 * M) (qz_lift p N C (p i)) := by
  obtain ⟨a1, a2⟩ := qz_l1_cf hp C
  obtain ⟨b1, b2⟩ := qz_l2_cf hp (qz_it (qz_l1 p N) C N)
  have ho : ∀ k, k < N → qz_bd (2 * M) (qz_it (qz_l1 p N) C N (p (2 * k + 1))) := by
    intro k hk
    rw [a1 k hk _ rfl]
    unfold qz_v1
    exact qz_iv_w (qz_iv_sub (hC (2 * k + 1) (by omega)) (qz_iv_half (hC (2 * k) (by omega)) (hC (if k + 1 < N then 2 * k + 2 else 2 * k) (by split <;> omega)) (by omega) (by omega)) (by omega) (by omega)) (by omega) (by omega)
  have he : ∀ k, k < N → qz_it (qz_l1 p N) C N (p (2 * k)) = C (p (2 * k)) := fun k hk => a2 _ (fun i hi e => by have := hp _ _ (by omega) (by omega) e; omega)
  intro i hi
  unfold qz_lift
  rcases Nat.mod_two_eq_zero_or_one i with z | z
  · obtain ⟨k, rfl⟩ : ∃ k, i = 2 * k := ⟨i / 2, by omega⟩
    rw [b1 k (by omega) _ rfl, he k (by omega)]
    unfold qz_v2
    have o1 := ho k (by omega)
    have o2 : qz_bd (2 * M) (qz_it (qz_l1 p N) C N (p (if k = 0 then 1 else 2 * k - 1))) := by
      split
      · exact ho 0 (by omega)
      · have := ho (k - 1) (by omega)
        rw [show 2 * (k - 1) + 1 = 2 * k - 1 by omega] at this
        exact this
    exact qz_iv_w (qz_iv_add (hC (2 * k) (by omega)) (qz_iv_quart o2 o1 h0 hM) (by omega) (by omega)) (by omega) (by omega)
  · obtain ⟨k, rfl⟩ : ∃ k, i = 2 * k + 1 := ⟨i / 2, by omega⟩
    rw [b2 _ (fun j hj e => by have := hp _ _ (by omega) (by omega) e; omega)]
    exact ho k (by omega)
theorem qz_stage_bd {F : Nat → (Nat → Int32) → Nat → Int32} {Q : Nat → Nat → Prop} {S : Nat → Prop} {M : Int} (n : Nat) (h0 : 0 ≤ M) (hF : ∀ i, i < n → qz_Loc (Q i) (F i)) (hd : ∀ i j x, i < n → j < n → Q i x → Q j x → i = j) (hS : ∀ i x, i < n → Q i x → S x)
    (hb : ∀ i, i < n → ∀ C, (∀ x, Q i x → qz_bd M (C x)) → ∀ x, Q i x → qz_bd (2 * M) (F i C x)) (C : Nat → Int32) (hC : ∀ x, S x → qz_bd M (C x)) : ∀ x, S x → qz_bd (2 * M) (qz_it F C n x) := by
  intro x hx
  obtain ⟨f1, f2⟩ := qz_par C n hF hd
  by_cases h : ∃ i, i < n ∧ Q i x
  · obtain ⟨i, hi, hq⟩ := h
    rw [f1 i hi x hq]
    exact hb i hi C (fun y hy => hC y (hS i y hi hy)) x hq
  · rw [f2 x (fun i hi hq => h ⟨i, hi, hq⟩)]
    exact qz_iv_w (hC x hx) (by omega) (by omega)
theorem qz_lift_bdQ {st g N : Nat} {M : Int} (hg : 0 < g) (h0 : 0 ≤ M) (hM : M ≤ 1000000) (C : Nat → Int32) (hC : ∀ x, (∃ m, m < 2 * N ∧ x = qz_pp st g m) → qz_bd M (C x)) : ∀ x, (∃ m, m < 2 * N ∧ x = qz_pp st g m) → qz_bd (2 * M) (qz_lift (qz_pp st g) N C x) := by
  intro x ⟨m, hm, e⟩
  subst e
  exact qz_lift_bd (qz_pp_inj st g _ hg) h0 hM (fun i hi => hC _ ⟨i, hi, rfl⟩) m hm
theorem qz_ana_bd {A : Nat} {M : Int} {C : Nat → Int32} (h0 : 0 ≤ M) (hM : M ≤ 100000) (hC : ∀ x, qz_fr A x → qz_bd M (C x)) : ∀ x, qz_fr A x → qz_bd (2 * (2 * (2 * (2 * M)))) (qz_ana A C x) := by
  have s1 := qz_stage_bd (F := qz_lf1 A) (Q := qz_q1 A) (S := qz_fr A) 8 h0 (fun i _ => qz_lift_loc _ 4) (qz_q1_d A) (fun i x hi h => qz_q1_f hi h) (fun i _ C h x hx => qz_lift_bdQ (st := A + 8 * i) (g := 1) (N := 4) (by omega) h0 (by omega) C h x hx) C hC
  have s2 := qz_stage_bd (F := qz_lf2 A) (Q := qz_q2 A) (S := qz_fr A) (M := 2 * M) 8 (by omega) (fun i _ => qz_lift_loc _ 4) (qz_q2_d A) (fun i x hi h => qz_q2_f hi h) (fun i _ C h x hx => qz_lift_bdQ (st := A + i) (g := 8) (N := 4) (by omega) (by omega) (by omega) C h x hx) _ s1
  have s3 := qz_stage_bd (F := qz_lf3 A) (Q := qz_q3 A) (S := qz_fr A) (M := 2 * (2 * M)) 4 (by omega) (fun i _ => qz_lift_loc _ 2) (qz_q3_d A) (fun i x hi h => qz_q3_f hi h) (fun i _ C h x hx => qz_lift_bdQ (st := A + 16 * i) (g := 2) (N := 2) (by omega) (by omega) (by omega) C h x hx) _ s2
  exact qz_stage_bd (F := qz_lf4 A) (Q := qz_q4 A) (S := qz_fr A) (M := 2 * (2 * (2 * M))) 4 (by omega) (fun i _ => qz_lift_loc _ 2) (qz_q4_d A) (fun i x hi h => qz_q4_f hi h) (fun i _ C h x hx => qz_lift_bdQ (st := A + 2 * i) (g := 16) (N := 2) (by omega) (by omega) (by omega) C h x hx) _ s3
theorem qz_al_iv {P C : Nat → Int32} {F l k : Nat} {s : Int32} {lo hi : Int} (hF : F < 4) (h : ∀ x, x < 256 → qz_iv lo hi (C x)) : qz_iv lo hi (qz_al P C F l k s) := by
  have h1 := qz_ax_lt P l k s
  have h2 := qz_ay_lt P l k s
  exact h _ (by omega)
theorem qz_m1x (x y : Int32) : x + (-1) * y = x - y := by grind
theorem qz_p1x (x y : Int32) : x + 1 * y = x + y := by grind
theorem qz_fwd_bd {P C : Nat → Int32} (hC : qz_Rng C) : ∀ x, x < 256 → qz_bd 6128 (qz_fwd P C x) := by
  have c0 : ∀ x, x < 256 → qz_iv 0 255 (C x) := by
    intro x hx
    obtain ⟨n, hn, e⟩ := hC x hx
    rw [e]
    unfold qz_iv
    rw [nI_toInt (by omega)]
    omega
  obtain ⟨p1, p2⟩ := qz_mw 64 (qz_p1 (-1) P) (qz_p2 (-1) P) (qz_p3 (-1) P) qz_p4 C
  have c1 : ∀ x, x < 256 → qz_iv (-255) 255 (qz_it (qz_ps (-1) P) C 64 x) := by
    intro x hx
    by_cases h : ∃ i, i < 64 ∧ qz_pq i x
    · obtain ⟨i, hi, hq⟩ := h
      rw [p1 i hi x hq]
      unfold qz_pv
      rw [qz_m1x]
      refine qz_iv_w (qz_iv_sub (l2 := 0) (h2 := 255) (c0 x hx) ?_ (by omega) (by omega)) (by omega) (by omega)
      split
      · exact qz_iv_half (qz_al_iv (by omega) c0) (qz_al_iv (by omega) c0) (by omega) (by omega)
      · exact qz_al_iv (by omega) c0
    · rw [p2 x (fun i hi hq => h ⟨i, hi, hq⟩)]
      exact qz_iv_w (c0 x hx) (by omega) (by omega)
  obtain ⟨q1, q2⟩ := qz_mw 64 (qz_a1 1 P) (qz_a2 1 P) (qz_a3 1 P) qz_a4 (qz_it (qz_ps (-1) P) C 64)
  have c2 : ∀ x, x < 256 → qz_iv (-383) 383 (qz_it (qz_as 1 P) (qz_it (qz_ps (-1) P) C 64) 64 x) := by
    intro x hx
    by_cases h : ∃ i, i < 64 ∧ qz_aq i x
    · obtain ⟨i, hi, hq⟩ := h
      rw [q1 i hi x hq]
      unfold qz_av
      rw [qz_p1x]
      refine qz_iv_w (qz_iv_add (l2 := -128) (h2 := 128) (c1 x hx) ?_ (by omega) (by omega)) (by omega) (by omega)
      split
      · exact qz_iv_s1 (qz_iv_w (qz_al_iv (by omega) c1) (by omega) (by omega))
      · exact qz_iv_quart (M := 128) (qz_iv_w (qz_al_iv (by omega) c1) (by omega) (by omega)) (qz_iv_w (qz_al_iv (by omega) c1) (by omega) (by omega)) (by omega) (by omega)
    · rw [q2 x (fun i hi hq => h ⟨i, hi, hq⟩)]
      exact qz_iv_w (c1 x hx) (by omega) (by omega)
  intro x hx
  obtain ⟨f, hf, hfx⟩ : ∃ f, f < 4 ∧ qz_fr (64 * f) x := ⟨x / 64, by omega, by unfold qz_fr; omega⟩
  unfold qz_fwd
  rw [(qz_par _ 4 (fun i _ => qz_ana_loc (64 * i)) qz_fr_d).1 f hf x hfx]
  exact qz_ana_bd (M := 383) (by omega) (by omega) (fun y hy => c2 y (by unfold qz_fr at hy; omega)) x hfx
end
section
/-! ===== the bits fit into a slot ===== -/
def qz_cnt (z : Nat → Int32) (n : Nat) : Nat := qz_it (fun i x => x + if z i = 0 then 1 else 0) 0 n
theorem qz_cnt_s (z : Nat → Int32) (n : Nat) : qz_cnt z (n + 1) = qz_cnt z n + if z n = 0 then 1 else 0 := rfl
theorem qz_cnt_le (z : Nat → Int32) (n : Nat) : qz_cnt z n ≤ n := by
  induction n with
  | zero => exact Nat.le_refl 0
  | succ n ih => rw [qz_cnt_s]; split <;> omega
theorem qz_cnt_c {z w : Nat → Int32} (n : Nat) (h : ∀ j, j < n → z j = w j) : qz_cnt z n = qz_cnt w n := by
  induction n with
  | zero => rfl
  | succ n ih => rw [qz_cnt_s, qz_cnt_s, ih (fun j hj => h j (by omega)), h n (by omega)]
theorem qz_cnt_1 {z : Nat → Int32} {i : Nat} (n : Nat) (hi : i < n) (hz : z i = 0) : qz_cnt (upd z i 1) n + 1 = qz_cnt z n := by
  induction n with
  | zero => exact absurd hi (by omega)
  | succ n ih =>
    rw [qz_cnt_s, qz_cnt_s]
    by_cases e : i = n
    · subst e
      rw [pk_us, if_neg (by decide), if_pos hz, qz_cnt_c i (fun j hj => pk_un (by omega))]
    · have := ih (by omega)
      rw [pk_un (by omega)]
      omega
theorem qz_cnt_0 {z : Nat → Int32} {i : Nat} (n : Nat) (hz : z i = 0) : qz_cnt (upd z i 0) n = qz_cnt z n := by
  refine qz_cnt_c n (fun j _ => ?_)
  by_cases e : j = i
  · rw [e, pk_us, hz]
  · rw [pk_un e]
def qz_pot (e : qz_ET) : Nat := e.1.length + qz_cnt e.2.1 256 + qz_cnt e.2.2 64
theorem qz_pot_c (sz ng : Nat → Int32) (b i : Nat) (e : qz_ET) (hi : i < 256) : qz_pot (qz_ec sz ng b i e) ≤ qz_pot e + 1 := by
  unfold qz_ec qz_pot
  split
  · rename_i h
    have := qz_cnt_1 256 hi h.1
    dsimp only
    rw [qz_l1len, qz_l1len]
    omega
  · dsimp only
    rw [qz_l1len]
    omega
theorem qz_pot_cs (sz ng : Nat → Int32) (b g : Nat) (e : qz_ET) (hg : g < 64) : qz_pot (qz_ecs sz ng b g e) ≤ qz_pot e + 4 :=
  qz_it_inv (fun k t => qz_pot t ≤ qz_pot e + k) _ e (Nat.le_refl _) 4 (fun i t hi h => by have := qz_pot_c sz ng b (4 * g + i) t (by omega); omega)
theorem qz_pot_g (sz ng : Nat → Int32) (b g : Nat) (e : qz_ET) (hg : g < 64) : qz_pot (qz_eg sz ng b g e) ≤ qz_pot e + 4 := by
  unfold qz_eg
  split
  · rename_i h
    split
    · have h1 := qz_pot_cs sz ng b g (e.1 ++ [true], e.2.1, upd e.2.2 g 1) hg
      have h2 := qz_cnt_1 64 hg h
      have h3 : qz_pot (e.1 ++ [true], e.2.1, upd e.2.2 g 1) = e.1.length + 1 + qz_cnt e.2.1 256 + qz_cnt (upd e.2.2 g 1) 64 := by
        unfold qz_pot
        dsimp only
        rw [qz_l1len]
      have h4 : qz_pot e = e.1.length + qz_cnt e.2.1 256 + qz_cnt e.2.2 64 := rfl
      omega
    · unfold qz_pot
      dsimp only
      rw [qz_l1len, qz_cnt_0 64 h]
      omega
  · exact qz_pot_cs sz ng b g e hg
theorem qz_pot_p (sz ng : Nat → Int32) (f b : Nat) (e : qz_ET) (hf : f < 4) : qz_pot (qz_ep sz ng f b e) ≤ qz_pot e + 64 :=
  qz_it_inv (fun k t => qz_pot t ≤ qz_pot e + 4 * k) _ e (Nat.le_refl _) 16 (fun i t hi h => by have := qz_pot_g sz ng b (16 * f + i) t (by omega); omega)
theorem qz_pot_ps (sz ng : Nat → Int32) (f : Nat) (hf : f < 4) : ∀ (i : Nat) (e : qz_ET), qz_pot (qz_eps sz ng f i e) ≤ qz_pot e + 64 * i := by
  intro i
  induction i with
  | zero => intro e; exact Nat.le_refl _
  | succ i ih =>
    intro e
    have h1 := ih (qz_ep sz ng f i e)
    have h2 := qz_pot_p sz ng f i e hf
    show qz_pot (qz_eps sz ng f i (qz_ep sz ng f i e)) ≤ _
    omega
theorem qz_pot_f (C : Nat → Int32) (f : Nat) (e : qz_ET) (hf : f < 4) : qz_pot (qz_ef C f e) ≤ qz_pot e + 964 := by
  have h1 := qz_pl_le (qz_allb C f)
  have h2 := qz_pot_ps (qz_sz C) (qz_ng C) f hf (qz_pl (qz_allb C f)) (e.1 ++ qz_bits (nI (qz_pl (qz_allb C f))) 4, e.2.1, e.2.2)
  have h3 : qz_pot (e.1 ++ qz_bits (nI (qz_pl (qz_allb C f))) 4, e.2.1, e.2.2) = qz_pot e + 4 := by
    unfold qz_pot
    dsimp only
    rw [List.length_append, qz_bits_len]
    omega
  unfold qz_ef
  omega
theorem qz_enc_len (P C sn gs : Nat → Int32) : (qz_enc P C sn gs).length ≤ 4236 := by
  have h1 := qz_it_inv (fun k t => qz_pot t ≤ qz_pot (qz_encP P, sn, gs) + 964 * k) (qz_ef (qz_fwd P C)) (qz_encP P, sn, gs) (Nat.le_refl _) 4 (fun i t hi h => by have := qz_pot_f (qz_fwd P C) i t hi; omega)
  have h2 : (qz_encP P).length = 5 * 12 := qz_encP_it P 12
  have h3 := qz_cnt_le sn 256
  have h4 := qz_cnt_le gs 64
  unfold qz_enc
  generalize qz_it (qz_ef (qz_fwd P C)) (qz_encP P, sn, gs) 4 = E at h1
  unfold qz_pot at h1
  dsimp only at h1
  omega
end
section
/-! ===== the reader follows the writer ===== -/
theorem qz_pre1 {L Lf : List Bool} {c : Bool} (h : L ++ [c] <+: Lf) : Lf.getD L.length false = c := by
  obtain ⟨R, rfl⟩ := h
  rw [List.append_assoc, List.getD_eq_getElem?_getD, List.getElem?_append, if_neg (by omega), Nat.sub_self]
  rfl
theorem qz_it_pre {F : Nat → qz_ET → qz_ET} (hF : ∀ i e, e.1 <+: (F i e).1) (e : qz_ET) (k n : Nat) (h : k ≤ n) : (qz_it F e k).1 <+: (qz_it F e n).1 := by
  induction n with
  | zero => rw [show k = 0 by omega]; exact List.prefix_refl _
  | succ n ih =>
    by_cases hk : k = n + 1
    · rw [hk]; exact List.prefix_refl _
    · exact List.IsPrefix.trans (ih (by omega)) (hF n _)
theorem qz_ec_pre (sz ng : Nat → Int32) (b i : Nat) (e : qz_ET) : e.1 <+: (qz_ec sz ng b i e).1 := by
  unfold qz_ec
  split
  · exact List.IsPrefix.trans (List.prefix_append _ _) (List.prefix_append _ _)
  · exact List.prefix_append _ _
theorem qz_ecs_pre (sz ng : Nat → Int32) (b g : Nat) (e : qz_ET) : e.1 <+: (qz_ecs sz ng b g e).1 :=
  qz_it_pre (F := fun k => qz_ec sz ng b (4 * g + k)) (fun i e => qz_ec_pre sz ng b _ e) e 0 4 (by omega)
theorem qz_eg_pre (sz ng : Nat → Int32) (b g : Nat) (e : qz_ET) : e.1 <+: (qz_eg sz ng b g e).1 := by
  unfold qz_eg
  split
  · split
    · exact List.IsPrefix.trans (List.prefix_append _ _) (qz_ecs_pre sz ng b g (e.1 ++ [true], e.2.1, upd e.2.2 g 1))
    · exact List.prefix_append _ _
  · exact qz_ecs_pre sz ng b g e
theorem qz_ep_pre (sz ng : Nat → Int32) (f b : Nat) (e : qz_ET) : e.1 <+: (qz_ep sz ng f b e).1 :=
  qz_it_pre (F := fun k => qz_eg sz ng b (16 * f + k)) (fun i e => qz_eg_pre sz ng b _ e) e 0 16 (by omega)
theorem qz_eps_pre (sz ng : Nat → Int32) (f : Nat) : ∀ (i : Nat) (e : qz_ET), e.1 <+: (qz_eps sz ng f i e).1 := by
  intro i
  induction i with
  | zero => intro e; exact List.prefix_refl _
  | succ i ih => intro e; exact List.IsPrefix.trans (qz_ep_pre sz ng f i e) (ih _)
theorem qz_ef_pre (C : Nat → Int32) (f : Nat) (e : qz_ET) : e.1 <+: (qz_ef C f e).1 :=
  List.IsPrefix.trans (List.prefix_append _ _) (qz_eps_pre (qz_sz C) (qz_ng C) f _ (e.1 ++ qz_bits (nI (qz_pl (qz_allb C f))) 4, e.2.1, e.2.2))
/-- what the reader knows of cell j, down to the plane t j -/
def qz_Cl (szj ngj dszj dngj snj : Int32) (tj : Nat) : Prop :=
  (∀ b, qz_bt dszj b = (decide (tj ≤ b) && qz_bt szj b)) ∧ (snj = 0 → (∀ b, tj ≤ b → qz_bt szj b = false) ∧ dngj = 0) ∧ (¬ snj = 0 → dngj = ngj)
def qz_Sim (sz ng : Nat → Int32) (f : Nat) (t : Nat → Nat) (e : qz_ET) (d : qz_DT) : Prop :=
  d.1 = e.1.length ∧ (∀ j, j < 256 → d.2.2.2.1 j = e.2.1 j) ∧ (∀ j, j < 64 → d.2.2.2.2 j = e.2.2 j) ∧
  (∀ j, 64 * f ≤ j → j < 64 * f + 64 → qz_Cl (sz j) (ng j) (d.2.1 j) (d.2.2.1 j) (e.2.1 j) (t j)) ∧ (∀ j, 64 * f ≤ j → j < 64 * f + 64 → e.2.2 (j / 4) = 0 → e.2.1 j = 0)
theorem qz_sim_t {sz ng : Nat → Int32} {f : Nat} {t t' : Nat → Nat} {e : qz_ET} {d : qz_DT} (h : qz_Sim sz ng f t e d) (ht : ∀ j, 64 * f ≤ j → j < 64 * f + 64 → t j = t' j) : qz_Sim sz ng f t' e d :=
  ⟨h.1, h.2.1, h.2.2.1, fun j h1 h2 => by rw [← ht j h1 h2]; exact h.2.2.2.1 j h1 h2, h.2.2.2.2⟩
theorem qz_ng_bv {x : Int32} (h : x = 0 ∨ x = 1) : qz_bv (!decide (x = 0)) = x := by
  rcases h with h | h <;> subst h <;> rfl
/-- the bit of plane b is put into what the reader holds -/
theorem qz_put_bit {x y : Int32} {b : Nat} (hb : b < 32) (h : ∀ c, qz_bt y c = (decide (b + 1 ≤ c) && qz_bt x c)) : ∀ c, qz_bt (y ||| (qz_bv (qz_bt x b) <<< (nI b &&& 31))) c = (decide (b ≤ c) && qz_bt x c) := by
  intro c
  rw [qz_b_or, h c]
  rcases Nat.lt_or_ge c 32 with hc | hc
  · rw [qz_b_shl b hb _ hc, qz_bv_bt]
    rcases Nat.lt_trichotomy c b with z | z | z
    · rw [decide_eq_false (p := b + 1 ≤ c) (by omega), decide_eq_false (p := b ≤ c) (by omega)]; rfl
    · subst z
      rw [decide_eq_false (p := c + 1 ≤ c) (by omega), decide_eq_true (p := c ≤ c) (by omega), decide_eq_true (p := c - c = 0) (by omega)]
      cases qz_bt x c <;> rfl
    · rw [decide_eq_true (p := b + 1 ≤ c) (by omega), decide_eq_true (p := b ≤ c) (by omega), decide_eq_false (p := c - b = 0) (by omega)]
      cases qz_bt x c <;> cases qz_bt x b <;> rfl
  · rw [qz_b_big hc, qz_b_big hc]
    simp
theorem qz_sim_c {sz ng : Nat → Int32} {f b i : Nat} {t : Nat → Nat} {e : qz_ET} {d : qz_DT} {Lf : List Bool} {B : Nat → Bool} (hf : f < 4) (hb : b < 32) (h1 : 64 * f ≤ i) (h2 : i < 64 * f + 64) (hB : ∀ q, B q = Lf.getD q false) (hng : ng i = 0 ∨ ng i = 1)
    (hS : qz_Sim sz ng f t e d) (ht : t i = b + 1) (hg : ¬ e.2.2 (i / 4) = 0) (hp : (qz_ec sz ng b i e).1 <+: Lf) : qz_Sim sz ng f (fun j => if j = i then b else t j) (qz_ec sz ng b i e) (qz_dc B b i d) := by
  obtain ⟨L, sn, gs⟩ := e
  obtain ⟨q, dsz, dng, dsn, dgs⟩ := d
  obtain ⟨s1, s2, s3, s4, s5⟩ := hS
  dsimp only at s1 s2 s3 s4 s5 hg
  have c0 := s4 i h1 h2
  rw [ht] at c0
  obtain ⟨c1, c2, c3⟩ := c0
  have esn := s2 i (by omega)
  have keep : ∀ (dsz' dng' sn' : Nat → Int32), qz_Cl (sz i) (ng i) (dsz' i) (dng' i) (sn' i) b → (∀ j, j ≠ i → dsz' j = dsz j) → (∀ j, j ≠ i → dng' j = dng j) → (∀ j, j ≠ i → sn' j = sn j) → ∀ j, 64 * f ≤ j → j < 64 * f + 64 → qz_Cl (sz j) (ng j) (dsz' j) (dng' j) (sn' j) (if j = i then b else t j) := by
    intro dsz' dng' sn' hc k1 k2 k3 j j1 j2
    by_cases ej : j = i
    · rw [if_pos ej, ej]; exact hc
    · rw [if_neg ej, k1 j ej, k2 j ej, k3 j ej]; exact s4 j j1 j2
  unfold qz_ec at hp ⊢
  unfold qz_dc
  dsimp only at hp ⊢
  by_cases cc : sn i = 0 ∧ qz_bt (sz i) b = true
  · rw [if_pos cc] at hp ⊢
    dsimp only at hp
    have b1 : B q = true := by rw [hB, s1]; exact qz_pre1 (List.IsPrefix.trans (List.prefix_append _ _) hp)
    have b2 : B (q + 1) = !decide (ng i = 0) := by
      have := qz_pre1 hp
      rw [qz_l1len] at this
      rw [hB, s1]; exact this
    rw [if_pos ⟨by rw [esn]; exact cc.1, b1⟩]
    refine ⟨?_, fun j hj => ?_, s3, ?_, fun j j1 j2 hgj => ?_⟩
    · dsimp only
      rw [qz_l1len, qz_l1len, s1]
    · dsimp only
      by_cases ej : j = i
      · rw [ej, pk_us, pk_us]
      · rw [pk_un ej, pk_un ej]; exact s2 j hj
    · refine keep (upd dsz i _) (upd dng i _) (upd sn i 1) ⟨?_, ?_, ?_⟩ (fun j hj => pk_un hj) (fun j hj => pk_un hj) (fun j hj => pk_un hj)
      · rw [pk_us, b1, ← cc.2]
        exact qz_put_bit hb c1
      · rw [pk_us]
        intro z
        exact absurd z (by decide)
      · intro _
        rw [pk_us, b2]
        exact qz_ng_bv hng
    · dsimp only at hgj ⊢
      by_cases ej : j = i
      · rw [ej] at hgj
        exact absurd hgj hg
      · rw [pk_un ej]; exact s5 j j1 j2 hgj
  · rw [if_neg cc] at hp ⊢
    dsimp only at hp
    have b1 : B q = qz_bt (sz i) b := by rw [hB, s1]; exact qz_pre1 hp
    rw [if_neg (fun z => cc ⟨by rw [← esn]; exact z.1, by rw [← b1]; exact z.2⟩)]
    refine ⟨?_, s2, s3, ?_, s5⟩
    · dsimp only
      rw [qz_l1len, s1]
    · refine keep (upd dsz i _) dng sn ⟨?_, ?_, c3⟩ (fun j hj => pk_un hj) (fun j hj => rfl) (fun j hj => rfl)
      · rw [pk_us, b1]
        exact qz_put_bit hb c1
      · intro z
        refine ⟨fun c hc => ?_, (c2 z).2⟩
        by_cases ec : c = b
        · rw [ec]
          exact Bool.eq_false_iff.mpr (fun y => cc ⟨z, y⟩)
        · exact (c2 z).1 c (by omega)
theorem qz_ec_gs (sz ng : Nat → Int32) (b i : Nat) (e : qz_ET) : (qz_ec sz ng b i e).2.2 = e.2.2 := by
  unfold qz_ec
  split <;> rfl
theorem qz_sim_cs {sz ng : Nat → Int32} {f b g : Nat} {t : Nat → Nat} {e : qz_ET} {d : qz_DT} {Lf : List Bool} {B : Nat → Bool} (hf : f < 4) (hb : b < 32) (h1 : 16 * f ≤ g) (h2 : g < 16 * f + 16) (hB : ∀ q, B q = Lf.getD q false) (hng : ∀ i, ng i = 0 ∨ ng i = 1)
    (hS : qz_Sim sz ng f t e d) (ht : ∀ j, j / 4 = g → t j = b + 1) (hg : ¬ e.2.2 g = 0) (hp : (qz_ecs sz ng b g e).1 <+: Lf) : qz_Sim sz ng f (fun j => if j / 4 = g then b else t j) (qz_ecs sz ng b g e) (qz_dcs B b g d) := by
  have key : ∀ k, k ≤ 4 → qz_Sim sz ng f (fun j => if 4 * g ≤ j ∧ j < 4 * g + k then b else t j) (qz_it (fun k => qz_ec sz ng b (4 * g + k)) e k) (qz_it (fun k => qz_dc B b (4 * g + k)) d k) ∧ (qz_it (fun k => qz_ec sz ng b (4 * g + k)) e k).2.2 = e.2.2 := by
    intro k
    induction k with
    | zero => exact fun _ => ⟨qz_sim_t hS (fun j _ _ => by rw [if_neg (by omega)]), rfl⟩
    | succ k ih =>
      intro hk
      obtain ⟨i1, i2⟩ := ih (by omega)
      have hp' : (qz_it (fun k => qz_ec sz ng b (4 * g + k)) e (k + 1)).1 <+: Lf := List.IsPrefix.trans (qz_it_pre (F := fun k => qz_ec sz ng b (4 * g + k)) (fun i e => qz_ec_pre sz ng b _ e) e (k + 1) 4 hk) hp
      refine ⟨qz_sim_t (qz_sim_c (i := 4 * g + k) hf hb (by omega) (by omega) hB (hng _) i1 ?_ ?_ hp') (fun j _ _ => ?_), ?_⟩
      · rw [if_neg (by omega)]
        exact ht _ (by omega)
      · rw [i2, show (4 * g + k) / 4 = g by omega]
        exact hg
      · by_cases e1 : j = 4 * g + k
        · rw [if_pos e1, if_pos (by omega)]
        · rw [if_neg e1]
          by_cases e2 : 4 * g ≤ j ∧ j < 4 * g + k
          · rw [if_pos e2, if_pos (by omega)]
          · rw [if_neg e2, if_neg (by omega)]
      · show (qz_ec sz ng b (4 * g + k) _).2.2 = e.2.2
        rw [qz_ec_gs, i2]
  refine qz_sim_t (key 4 (by omega)).1 (fun j _ _ => ?_)
  by_cases e1 : j / 4 = g
  · rw [if_pos e1, if_pos (by omega)]
  · rw [if_neg e1, if_neg (by omega)]
theorem qz_any_f {sz : Nat → Int32} {b g : Nat} (h : ¬ qz_any sz b g = true) : ∀ j, j / 4 = g → qz_bt (sz j) b = false := by
  have key : ∀ k, k ≤ 4 → (∃ m, m < k ∧ qz_bt (sz (4 * g + m)) b = true) → qz_it (fun k v => v || qz_bt (sz (4 * g + k)) b) false k = true := by
    intro k
    induction k with
    | zero => intro _ ⟨m, hm, _⟩; exact absurd hm (by omega)
    | succ k ih =>
      intro hk ⟨m, hm, hbit⟩
      show (qz_it (fun k v => v || qz_bt (sz (4 * g + k)) b) false k || qz_bt (sz (4 * g + k)) b) = true
      by_cases e : m = k
      · rw [← e, hbit, Bool.or_true]
      · rw [ih (by omega) ⟨m, by omega, hbit⟩, Bool.true_or]
  intro j hj
  refine Bool.eq_false_iff.mpr (fun z => h (key 4 (by omega) ⟨j - 4 * g, by omega, ?_⟩))
  rw [show 4 * g + (j - 4 * g) = j by omega]
  exact z
theorem qz_sim_g {sz ng : Nat → Int32} {f b g : Nat} {t : Nat → Nat} {e : qz_ET} {d : qz_DT} {Lf : List Bool} {B : Nat → Bool} (hf : f < 4) (hb : b < 32) (h1 : 16 * f ≤ g) (h2 : g < 16 * f + 16) (hB : ∀ q, B q = Lf.getD q false) (hng : ∀ i, ng i = 0 ∨ ng i = 1)
    (hS : qz_Sim sz ng f t e d) (ht : ∀ j, j / 4 = g → t j = b + 1) (hp : (qz_eg sz ng b g e).1 <+: Lf) : qz_Sim sz ng f (fun j => if j / 4 = g then b else t j) (qz_eg sz ng b g e) (qz_dg B b g d) := by
  have egs := hS.2.2.1 g (by omega)
  unfold qz_eg at hp ⊢
  unfold qz_dg
  by_cases c0 : e.2.2 g = 0
  · rw [if_pos c0] at hp ⊢
    rw [if_pos (show d.2.2.2.2 g = 0 by rw [egs]; exact c0)]
    obtain ⟨s1, s2, s3, s4, s5⟩ := hS
    have gs' : ∀ v, ∀ j, j < 64 → upd d.2.2.2.2 g v j = upd e.2.2 g v j := by
      intro v j hj
      by_cases ej : j = g
      · rw [ej, pk_us, pk_us]
      · rw [pk_un ej, pk_un ej]; exact s3 j hj
    by_cases c1 : qz_any sz b g = true
    · rw [if_pos c1] at hp ⊢
      have b1 : B d.1 = true := by rw [hB, s1]; exact qz_pre1 (List.IsPrefix.trans (qz_ecs_pre sz ng b g (e.1 ++ [true], e.2.1, upd e.2.2 g 1)) hp)
      rw [if_pos b1]
      refine qz_sim_cs hf hb h1 h2 hB hng ⟨?_, s2, gs' 1, s4, fun j j1 j2 z => ?_⟩ ht ?_ hp
      · dsimp only
        rw [qz_l1len, s1]
      · dsimp only at z ⊢
        by_cases ej : j / 4 = g
        · rw [ej, pk_us] at z
          exact absurd z (by decide)
        · rw [pk_un ej] at z
          exact s5 j j1 j2 z
      · dsimp only
        rw [pk_us]
        decide
    · rw [if_neg c1] at hp ⊢
      have b1 : B d.1 = false := by rw [hB, s1]; exact qz_pre1 hp
      rw [if_neg (by rw [b1]; decide)]
      refine ⟨?_, s2, gs' 0, fun j j1 j2 => ?_, fun j j1 j2 z => ?_⟩
      · dsimp only
        rw [qz_l1len, s1]
      · dsimp only
        by_cases ej : j / 4 = g
        · rw [if_pos ej]
          have c := s4 j j1 j2
          rw [ht j ej] at c
          have sn0 := s5 j j1 j2 (by rw [ej]; exact c0)
          have bits : ∀ c, b ≤ c → qz_bt (sz j) c = false := by
            intro c' hc
            by_cases e1 : c' = b
            · rw [e1]; exact qz_any_f c1 j ej
            · exact (c.2.1 sn0).1 c' (by omega)
          refine ⟨fun c' => ?_, fun _ => ⟨bits, (c.2.1 sn0).2⟩, c.2.2⟩
          rw [c.1 c']
          by_cases hc : b ≤ c'
          · rw [bits c' hc, Bool.and_false, Bool.and_false]
          · rw [decide_eq_false (p := b + 1 ≤ c') (by omega), decide_eq_false hc]
        · rw [if_neg ej]
          exact s4 j j1 j2
      · dsimp only at z ⊢
        by_cases ej : j / 4 = g
        · exact s5 j j1 j2 (by rw [ej]; exact c0)
        · rw [pk_un ej] at z
          exact s5 j j1 j2 z
  · rw [if_neg c0] at hp ⊢
    rw [if_neg (show ¬ d.2.2.2.2 g = 0 by rw [egs]; exact c0)]
    exact qz_sim_cs hf hb h1 h2 hB hng hS ht c0 hp
theorem qz_sim_p {sz ng : Nat → Int32} {f b : Nat} {e : qz_ET} {d : qz_DT} {Lf : List Bool} {B : Nat → Bool} (hf : f < 4) (hb : b < 32) (hB : ∀ q, B q = Lf.getD q false) (hng : ∀ i, ng i = 0 ∨ ng i = 1)
    (hS : qz_Sim sz ng f (fun _ => b + 1) e d) (hp : (qz_ep sz ng f b e).1 <+: Lf) : qz_Sim sz ng f (fun _ => b) (qz_ep sz ng f b e) (qz_dp B f b d) := by
  have key : ∀ k, k ≤ 16 → qz_Sim sz ng f (fun j => if j < 64 * f + 4 * k then b else b + 1) (qz_it (fun k => qz_eg sz ng b (16 * f + k)) e k) (qz_it (fun k => qz_dg B b (16 * f + k)) d k) := by
    intro k
    induction k with
    | zero => exact fun _ => qz_sim_t hS (fun j _ _ => by rw [if_neg (by omega)])
    | succ k ih =>
      intro hk
      have hp' : (qz_it (fun k => qz_eg sz ng b (16 * f + k)) e (k + 1)).1 <+: Lf := List.IsPrefix.trans (qz_it_pre (F := fun k => qz_eg sz ng b (16 * f + k)) (fun i e => qz_eg_pre sz ng b _ e) e (k + 1) 16 hk) hp
      refine qz_sim_t (qz_sim_g (g := 16 * f + k) hf hb (by omega) (by omega) hB hng (ih (by omega)) (fun j hj => ?_) hp') (fun j _ _ => ?_)
      · rw [if_neg (by omega)]
      · by_cases e1 : j / 4 = 16 * f + k
        · rw [if_pos e1, if_pos (by omega)]
        · rw [if_neg e1]
          by_cases e2 : j < 64 * f + 4 * k
          · rw [if_pos e2, if_pos (by omega)]
          · rw [if_neg e2, if_neg (by omega)]
  exact qz_sim_t (key 16 (by omega)) (fun j _ _ => by rw [if_pos (by omega)])
theorem qz_sim_ps {sz ng : Nat → Int32} {f : Nat} {Lf : List Bool} {B : Nat → Bool} (hf : f < 4) (hB : ∀ q, B q = Lf.getD q false) (hng : ∀ i, ng i = 0 ∨ ng i = 1) : ∀ (i : Nat) (e : qz_ET) (d : qz_DT), i ≤ 32 →
    qz_Sim sz ng f (fun _ => i) e d → (qz_eps sz ng f i e).1 <+: Lf → qz_Sim sz ng f (fun _ => 0) (qz_eps sz ng f i e) (qz_dps B f i d) := by
  intro i
  induction i with
  | zero => intro e d _ h _; exact h
  | succ i ih =>
    intro e d hi hS hp
    have hp2 : (qz_eps sz ng f i (qz_ep sz ng f i e)).1 <+: Lf := hp
    exact ih _ _ (by omega) (qz_sim_p hf (by omega) hB hng hS (List.IsPrefix.trans (qz_eps_pre sz ng f i _) hp2)) hp2
end
section
/-! ===== one frame written and read ===== -/
theorem qz_pre2 {L M Lf : List Bool} (h : L ++ M <+: Lf) (i : Nat) (hi : i < M.length) : Lf.getD (L.length + i) false = M.getD i false := by
  obtain ⟨R, rfl⟩ := h
  rw [List.append_assoc, List.getD_eq_getElem?_getD, List.getElem?_append, if_neg (by omega), show L.length + i - L.length = i by omega, List.getElem?_append, if_pos hi, List.getD_eq_getElem?_getD]
theorem qz_dec4 : ∀ v, v < 16 → 2 * (2 * (2 * (2 * 0 + (qz_bt (nI v) 3).toNat) + (qz_bt (nI v) 2).toNat) + (qz_bt (nI v) 1).toNat) + (qz_bt (nI v) 0).toNat = v := by decide +kernel
theorem qz_dec5 : ∀ v, v < 32 → 2 * (2 * (2 * (2 * (2 * 0 + (qz_bt (nI v) 4).toNat) + (qz_bt (nI v) 3).toNat) + (qz_bt (nI v) 2).toNat) + (qz_bt (nI v) 1).toNat) + (qz_bt (nI v) 0).toNat = v := by decide +kernel
theorem qz_rd4 {L Lf : List Bool} {B : Nat → Bool} (hB : ∀ q, B q = Lf.getD q false) (v : Nat) (hv : v < 16) (h : L ++ qz_bits (nI v) 4 <+: Lf) : qz_rn B L.length 4 = v := by
  have b0 : B (L.length + 0) = qz_bt (nI v) 3 := (hB _).trans (qz_pre2 h 0 (by rw [qz_bits_len]; omega))
  have b1 : B (L.length + 1) = qz_bt (nI v) 2 := (hB _).trans (qz_pre2 h 1 (by rw [qz_bits_len]; omega))
  have b2 : B (L.length + 2) = qz_bt (nI v) 1 := (hB _).trans (qz_pre2 h 2 (by rw [qz_bits_len]; omega))
  have b3 : B (L.length + 3) = qz_bt (nI v) 0 := (hB _).trans (qz_pre2 h 3 (by rw [qz_bits_len]; omega))
  show 2 * (2 * (2 * (2 * 0 + (B (L.length + 0)).toNat) + (B (L.length + 1)).toNat) + (B (L.length + 2)).toNat) + (B (L.length + 3)).toNat = v
  rw [b0, b1, b2, b3]
  exact qz_dec4 v hv
theorem qz_rd5 {L Lf : List Bool} {B : Nat → Bool} (hB : ∀ q, B q = Lf.getD q false) (v : Nat) (hv : v < 32) (h : L ++ qz_bits (nI v) 5 <+: Lf) : qz_rn B L.length 5 = v := by
  have b0 : B (L.length + 0) = qz_bt (nI v) 4 := (hB _).trans (qz_pre2 h 0 (by rw [qz_bits_len]; omega))
  have b1 : B (L.length + 1) = qz_bt (nI v) 3 := (hB _).trans (qz_pre2 h 1 (by rw [qz_bits_len]; omega))
  have b2 : B (L.length + 2) = qz_bt (nI v) 2 := (hB _).trans (qz_pre2 h 2 (by rw [qz_bits_len]; omega))
  have b3 : B (L.length + 3) = qz_bt (nI v) 1 := (hB _).trans (qz_pre2 h 3 (by rw [qz_bits_len]; omega))
  have b4 : B (L.length + 4) = qz_bt (nI v) 0 := (hB _).trans (qz_pre2 h 4 (by rw [qz_bits_len]; omega))
  show 2 * (2 * (2 * (2 * (2 * 0 + (B (L.length + 0)).toNat) + (B (L.length + 1)).toNat) + (B (L.length + 2)).toNat) + (B (L.length + 3)).toNat) + (B (L.length + 4)).toNat = v
  rw [b0, b1, b2, b3, b4]
  exact qz_dec5 v hv
/-! what a frame's writing leaves alone -/
def qz_Out (f : Nat) (e e' : qz_ET) : Prop := (∀ j, ¬ (64 * f ≤ j ∧ j < 64 * f + 64) → e'.2.1 j = e.2.1 j) ∧ (∀ g, ¬ (16 * f ≤ g ∧ g < 16 * f + 16) → e'.2.2 g = e.2.2 g)
theorem qz_out_t {f : Nat} {e e' e'' : qz_ET} (h : qz_Out f e e') (h' : qz_Out f e' e'') : qz_Out f e e'' := ⟨fun j hj => by rw [h'.1 j hj, h.1 j hj], fun g hg => by rw [h'.2 g hg, h.2 g hg]⟩
theorem qz_out_c (sz ng : Nat → Int32) (f b i : Nat) (e : qz_ET) (h1 : 64 * f ≤ i) (h2 : i < 64 * f + 64) : qz_Out f e (qz_ec sz ng b i e) := by
  unfold qz_ec
  split
  · exact ⟨fun j hj => pk_un (by omega), fun _ _ => rfl⟩
  · exact ⟨fun _ _ => rfl, fun _ _ => rfl⟩
theorem qz_out_cs (sz ng : Nat → Int32) (f b g : Nat) (e : qz_ET) (h1 : 16 * f ≤ g) (h2 : g < 16 * f + 16) : qz_Out f e (qz_ecs sz ng b g e) :=
  qz_it_inv (fun _ t => qz_Out f e t) _ e ⟨fun _ _ => rfl, fun _ _ => rfl⟩ 4 (fun i t hi h => qz_out_t h (qz_out_c sz ng f b (4 * g + i) t (by omega) (by omega)))
theorem qz_out_g (sz ng : Nat → Int32) (f b g : Nat) (e : qz_ET) (h1 : 16 * f ≤ g) (h2 : g < 16 * f + 16) : qz_Out f e (qz_eg sz ng b g e) := by
  unfold qz_eg
  split
  · split
    · exact qz_out_t (e' := (e.1 ++ [true], e.2.1, upd e.2.2 g 1)) ⟨fun _ _ => rfl, fun k hk => pk_un (by omega)⟩ (qz_out_cs sz ng f b g (e.1 ++ [true], e.2.1, upd e.2.2 g 1) h1 h2)
    · exact ⟨fun _ _ => rfl, fun k hk => pk_un (by omega)⟩
  · exact qz_out_cs sz ng f b g e h1 h2
theorem qz_out_p (sz ng : Nat → Int32) (f b : Nat) (e : qz_ET) : qz_Out f e (qz_ep sz ng f b e) :=
  qz_it_inv (fun _ t => qz_Out f e t) _ e ⟨fun _ _ => rfl, fun _ _ => rfl⟩ 16 (fun i t hi h => qz_out_t h (qz_out_g sz ng f b (16 * f + i) t (by omega) (by omega)))
theorem qz_out_ps (sz ng : Nat → Int32) (f : Nat) : ∀ (i : Nat) (e : qz_ET), qz_Out f e (qz_eps sz ng f i e) := by
  intro i
  induction i with
  | zero => intro e; exact ⟨fun _ _ => rfl, fun _ _ => rfl⟩
  | succ i ih => intro e; exact qz_out_t (qz_out_p sz ng f i e) (ih _)
/-! sizes, planes -/
theorem qz_bt_nI {n c : Nat} (h : n < 2 ^ c) : qz_bt (nI n) c = false := by
  show (BitVec.ofNat 32 n).getLsbD c = false
  rw [BitVec.getLsbD_ofNat, Nat.testBit_lt_two_pow h, Bool.and_false]
theorem qz_sz_n {C : Nat → Int32} {j : Nat} (h : qz_bd 6128 (C j)) : ∃ n : Nat, n ≤ 6128 ∧ qz_sz C j = nI n := by
  unfold qz_bd qz_iv at h
  have key : ∀ x : Int32, 0 ≤ x.toInt → x.toInt ≤ 6128 → ∃ n : Nat, n ≤ 6128 ∧ x = nI n := by
    intro x h1 h2
    obtain ⟨n, hn, e⟩ := qz_nonneg (Int32.le_iff_toInt_le.mpr (show (0 : Int32).toInt ≤ x.toInt from h1))
    refine ⟨n, ?_, e⟩
    rw [e, nI_toInt hn] at h2
    omega
  unfold qz_sz
  split
  · rename_i c
    exact key _ (Int32.le_iff_toInt_le.mp c) h.2
  · rename_i c
    have c' : ¬ (0 : Int32).toInt ≤ (C j).toInt := fun z => c (Int32.le_iff_toInt_le.mpr z)
    have c0 : (0 : Int32).toInt = 0 := rfl
    rw [c0] at c'
    have e : (-(C j)).toInt = -(C j).toInt := Jvm.Kit.i32_neg (by omega)
    exact key _ (by rw [e]; omega) (by rw [e]; omega)
theorem qz_sz_hi {C : Nat → Int32} {j : Nat} (h : qz_bd 6128 (C j)) (c : Nat) (hc : 15 ≤ c) : qz_bt (qz_sz C j) c = false := by
  obtain ⟨n, hn, e⟩ := qz_sz_n h
  rw [e]
  refine qz_bt_nI (Nat.lt_of_lt_of_le (show n < 2 ^ 15 by omega) (Nat.pow_le_pow_right (by omega) hc))
theorem qz_all_bt (C : Nat → Int32) (f c : Nat) : ∀ n, (qz_bt (qz_it (fun k x => x ||| qz_sz C (64 * f + k)) 0 n) c = true ↔ ∃ k, k < n ∧ qz_bt (qz_sz C (64 * f + k)) c = true) := by
  intro n
  induction n with
  | zero =>
    refine ⟨fun h => ?_, fun ⟨k, hk, _⟩ => absurd hk (by omega)⟩
    have h' : qz_bt 0 c = true := h
    rw [qz_b_0] at h'
    exact absurd h' (by decide)
  | succ n ih =>
    have e : qz_bt (qz_it (fun k x => x ||| qz_sz C (64 * f + k)) 0 (n + 1)) c = (qz_bt (qz_it (fun k x => x ||| qz_sz C (64 * f + k)) 0 n) c || qz_bt (qz_sz C (64 * f + n)) c) := qz_b_or _ _ c
    rw [e, Bool.or_eq_true, ih]
    constructor
    · rintro (⟨k, hk, h⟩ | h)
      · exact ⟨k, by omega, h⟩
      · exact ⟨n, by omega, h⟩
    · rintro ⟨k, hk, h⟩
      by_cases ek : k = n
      · rw [ek] at h; exact Or.inr h
      · exact Or.inl ⟨k, by omega, h⟩
theorem qz_pl_hi (x : Int32) (h : ∀ c, 15 ≤ c → qz_bt x c = false) : ∀ c, qz_pl x ≤ c → qz_bt x c = false := by
  have key : ∀ c, qz_pl x ≤ c → c < 15 → x >>> (nI c &&& 31) = 0 :=
    qz_it_inv (fun k p => ∀ c, p ≤ c → c < k → x >>> (nI c &&& 31) = 0) _ 0 (fun c _ h => absurd h (by omega)) 15 (fun i p hi hp c => by
      split
      · rename_i z
        intro h1 h2
        by_cases e : c = i
        · rw [e]; exact z
        · exact hp c h1 (by omega)
      · intro h1 h2
        exact absurd h1 (by omega))
  intro c hc
  rcases Nat.lt_or_ge c 15 with z | z
  · have h1 := key c hc z
    have h2 := qz_b_sshr c (by omega) x (i := 0) (by omega)
    rw [h1, if_pos (by omega), qz_b_0] at h2
    exact h2.symm
  · exact h c z
theorem qz_pl_sz {C : Nat → Int32} {f : Nat} (hf : f < 4) (hC : ∀ x, x < 256 → qz_bd 6128 (C x)) (j : Nat) (h1 : 64 * f ≤ j) (h2 : j < 64 * f + 64) : ∀ c, qz_pl (qz_allb C f) ≤ c → qz_bt (qz_sz C j) c = false := by
  intro c hc
  have hall : ∀ c, 15 ≤ c → qz_bt (qz_allb C f) c = false := fun c hc => Bool.eq_false_iff.mpr (fun z => by
    obtain ⟨k, hk, e⟩ := (qz_all_bt C f c 64).mp z
    rw [qz_sz_hi (hC _ (by omega)) c hc] at e
    exact absurd e (by decide))
  have h := qz_pl_hi _ hall c hc
  refine Bool.eq_false_iff.mpr (fun z => ?_)
  have := (qz_all_bt C f c 64).mpr ⟨j - 64 * f, by omega, by rw [show 64 * f + (j - 64 * f) = j by omega]; exact z⟩
  rw [show qz_it (fun k x => x ||| qz_sz C (64 * f + k)) 0 64 = qz_allb C f from rfl, h] at this
  exact absurd this (by decide)
theorem qz_clr_0 (f : Nat) (z : (Nat → Int32) × (Nat → Int32)) (j : Nat) (h1 : 64 * f ≤ j) (h2 : j < 64 * f + 64) : (qz_it (qz_clr f) z 64).1 j = 0 ∧ (qz_it (qz_clr f) z 64).2 j = 0 := by
  have key := qz_it_inv (fun k (t : (Nat → Int32) × (Nat → Int32)) => ∀ m, m < k → t.1 (64 * f + m) = 0 ∧ t.2 (64 * f + m) = 0) (qz_clr f) z (fun m hm => absurd hm (by omega)) 64 (fun i t hi h m hm => by
    show upd t.1 (64 * f + i) 0 (64 * f + m) = 0 ∧ upd t.2 (64 * f + i) 0 (64 * f + m) = 0
    by_cases e : m = i
    · rw [e, pk_us, pk_us]; exact ⟨rfl, rfl⟩
    · rw [pk_un (by omega), pk_un (by omega)]; exact h m (by omega))
  have := key (j - 64 * f) (by omega)
  rw [show 64 * f + (j - 64 * f) = j by omega] at this
  exact this
theorem qz_cs_v (f : Nat) (sz ng C : Nat → Int32) : (∀ j, 64 * f ≤ j → j < 64 * f + 64 → qz_it (qz_cs f sz ng) C 64 j = if ng j = 0 then sz j else -(sz j)) ∧ (∀ j, j < 64 * f → qz_it (qz_cs f sz ng) C 64 j = C j) := by
  obtain ⟨h1, h2⟩ := qz_mw (F := qz_cs f sz ng) (Q := fun k x => x = 64 * f + k) (v := fun k x _ => if ng x = 0 then sz x else -(sz x)) 64 (fun i _ C x hx => pk_un hx) (fun i _ C x hx => by subst hx; exact pk_us) (fun _ _ _ _ _ _ _ _ => rfl) (fun i j x _ _ e1 e2 => by omega) C
  exact ⟨fun j j1 j2 => h1 (j - 64 * f) (by omega) j (by omega), fun j hj => h2 j (fun i _ e => by omega)⟩
/-- a cell whose reading is done -/
theorem qz_cell_done {C : Nat → Int32} {j : Nat} {dsz dng sn : Int32} (h : qz_Cl (qz_sz C j) (qz_ng C j) dsz dng sn 0) : (if dng = 0 then dsz else -dsz) = C j := by
  obtain ⟨h1, h2, h3⟩ := h
  have e : dsz = qz_sz C j := qz_b_ext (fun i _ => by rw [h1 i]; simp)
  have nn : ∀ x : Int32, -(-x) = x := fun x => by grind
  by_cases c : sn = 0
  · obtain ⟨k1, k2⟩ := h2 c
    have z : qz_sz C j = 0 := qz_b_ext (fun i _ => by rw [k1 i (by omega), qz_b_0])
    rw [if_pos k2, e]
    rw [z]
    unfold qz_sz at z
    split at z
    · exact z.symm
    · rw [← nn (C j), z]; rfl
  · rw [h3 c, e]
    unfold qz_ng qz_sz
    by_cases c0 : 0 ≤ C j
    · rw [if_pos c0, if_pos c0, if_pos rfl]
    · rw [if_neg c0, if_neg c0, if_neg (by decide), nn]
def qz_FS (C1 : Nat → Int32) (f : Nat) (e : qz_ET) (D : qz_DT × (Nat → Int32)) : Prop :=
  D.1.1 = e.1.length ∧ (∀ j, j < 256 → D.1.2.2.2.1 j = e.2.1 j) ∧ (∀ j, j < 64 → D.1.2.2.2.2 j = e.2.2 j) ∧ (∀ j, 64 * f ≤ j → j < 256 → e.2.1 j = 0) ∧ (∀ g, 16 * f ≤ g → g < 64 → e.2.2 g = 0) ∧ (∀ j, j < 64 * f → D.2 j = C1 j)
theorem qz_fs_step {C1 : Nat → Int32} {f : Nat} {e : qz_ET} {D : qz_DT × (Nat → Int32)} {Lf : List Bool} {B : Nat → Bool} (hf : f < 4) (hB : ∀ q, B q = Lf.getD q false) (hC : ∀ x, x < 256 → qz_bd 6128 (C1 x)) (hS : qz_FS C1 f e D) (hp : (qz_ef C1 f e).1 <+: Lf) :
    qz_FS C1 (f + 1) (qz_ef C1 f e) (qz_df B f D) := by
  obtain ⟨s1, s2, s3, s4, s5, s6⟩ := hS
  have hP := qz_pl_le (qz_allb C1 f)
  have hng : ∀ i, qz_ng C1 i = 0 ∨ qz_ng C1 i = 1 := fun i => by unfold qz_ng; split <;> simp
  have hr : qz_rn B D.1.1 4 = qz_pl (qz_allb C1 f) := by
    rw [s1]
    exact qz_rd4 hB _ (by omega) (List.IsPrefix.trans (qz_eps_pre (qz_sz C1) (qz_ng C1) f _ (e.1 ++ qz_bits (nI (qz_pl (qz_allb C1 f))) 4, e.2.1, e.2.2)) hp)
  have hsim := qz_sim_ps (sz := qz_sz C1) (ng := qz_ng C1) hf hB hng (qz_pl (qz_allb C1 f)) (e.1 ++ qz_bits (nI (qz_pl (qz_allb C1 f))) 4, e.2.1, e.2.2)
    (D.1.1 + 4, (qz_it (qz_clr f) (D.1.2.1, D.1.2.2.1) 64).1, (qz_it (qz_clr f) (D.1.2.1, D.1.2.2.1) 64).2, D.1.2.2.2.1, D.1.2.2.2.2) (by omega) ?_ hp
  · have hout := qz_out_ps (qz_sz C1) (qz_ng C1) f (qz_pl (qz_allb C1 f)) (e.1 ++ qz_bits (nI (qz_pl (qz_allb C1 f))) 4, e.2.1, e.2.2)
    unfold qz_df
    dsimp only
    rw [hr]
    have ee : qz_ef C1 f e = qz_eps (qz_sz C1) (qz_ng C1) f (qz_pl (qz_allb C1 f)) (e.1 ++ qz_bits (nI (qz_pl (qz_allb C1 f))) 4, e.2.1, e.2.2) := rfl
    rw [ee]
    generalize qz_eps (qz_sz C1) (qz_ng C1) f (qz_pl (qz_allb C1 f)) (e.1 ++ qz_bits (nI (qz_pl (qz_allb C1 f))) 4, e.2.1, e.2.2) = E at hsim hout ⊢
    generalize qz_dps B f (qz_pl (qz_allb C1 f)) (D.1.1 + 4, (qz_it (qz_clr f) (D.1.2.1, D.1.2.2.1) 64).1, (qz_it (qz_clr f) (D.1.2.1, D.1.2.2.1) 64).2, D.1.2.2.2.1, D.1.2.2.2.2) = G at hsim ⊢
    obtain ⟨t1, t2, t3, t4, t5⟩ := hsim
    obtain ⟨o1, o2⟩ := hout
    dsimp only at o1 o2
    refine ⟨t1, t2, t3, fun j j1 j2 => ?_, fun g g1 g2 => ?_, fun j hj => ?_⟩
    · rw [o1 j (by omega)]; exact s4 j (by omega) j2
    · rw [o2 g (by omega)]; exact s5 g (by omega) g2
    · dsimp only
      obtain ⟨v1, v2⟩ := qz_cs_v f G.2.1 G.2.2.1 D.2
      rcases Nat.lt_or_ge j (64 * f) with z | z
      · rw [v2 j z]; exact s6 j z
      · rw [v1 j z (by omega)]
        exact qz_cell_done (t4 j z (by omega))
  · refine ⟨?_, s2, s3, fun j j1 j2 => ?_, fun j j1 j2 _ => s4 j j1 (by omega)⟩
    · dsimp only
      rw [List.length_append, qz_bits_len, s1]
    · dsimp only
      have hz := qz_clr_0 f (D.1.2.1, D.1.2.2.1) j j1 j2
      have hb := qz_pl_sz hf hC j j1 j2
      refine ⟨fun b => ?_, fun _ => ⟨hb, hz.2⟩, fun z => absurd (s4 j j1 (by omega)) z⟩
      rw [hz.1, qz_b_0]
      by_cases c : qz_pl (qz_allb C1 f) ≤ b
      · rw [hb b c, Bool.and_false]
      · rw [decide_eq_false c, Bool.false_and]
end
section
theorem qz_round {s : Nat} {A P C sn gs : Nat → Int32} (hs : s < 2) (hR : qz_Rng C) (hV : qz_Vrg P) (hsn : ∀ j, j < 256 → sn j = 0) (hgs : ∀ j, j < 64 → gs j = 0) (hB : qz_SB s (qz_enc P C sn gs) A)
    {sn2 gs2 sz ng C2 P2 : Nat → Int32} (hsn2 : ∀ j, j < 256 → sn2 j = 0) (hgs2 : ∀ j, j < 64 → gs2 j = 0) :
    (∀ j, j < 12 → qz_dP (qz_B A s) P2 j = P j) ∧ (∀ j, j < 256 → qz_inv (qz_dP (qz_B A s) P2) (qz_dF (qz_B A s) sz ng sn2 gs2 C2).2 j = C j) := by
  have hlen := qz_enc_len P C sn gs
  have hBB : ∀ q, qz_B A s q = (qz_enc P C sn gs).getD q false := by
    intro q
    unfold qz_B
    rcases Nat.lt_or_ge q 5120 with z | z
    · rw [decide_eq_true z, Bool.true_and]; exact hB q z
    · rw [decide_eq_false (by omega), Bool.false_and, qz_gd0 _ q (by omega)]
  have hpre : qz_encP P <+: qz_enc P C sn gs := qz_it_pre (F := qz_ef (qz_fwd P C)) (fun i e => qz_ef_pre _ i e) (qz_encP P, sn, gs) 0 4 (by omega)
  have hpP : ∀ k, k ≤ 12 → qz_it (fun k L => L ++ qz_bits (P k) 5) [] k <+: qz_encP P := by
    have key : ∀ m k, k ≤ m → qz_it (fun k L => L ++ qz_bits (P k) 5) [] k <+: qz_it (fun k L => L ++ qz_bits (P k) 5) [] m := by
      intro m
      induction m with
      | zero => intro k hk; rw [show k = 0 by omega]; exact List.prefix_refl _
      | succ m ih =>
        intro k hk
        by_cases e : k = m + 1
        · rw [e]; exact List.prefix_refl _
        · exact List.IsPrefix.trans (ih k (by omega)) (List.prefix_append _ _)
    exact fun k hk => key 12 k hk
  have r1 : ∀ j, j < 12 → qz_dP (qz_B A s) P2 j = P j := by
    unfold qz_dP
    refine qz_it_inv (fun k (X : Nat → Int32) => k ≤ 12 → ∀ j, j < k → X j = P j) _ P2 (fun _ j hj => absurd hj (by omega)) 12 (fun i X hi hX _ => ?_) (Nat.le_refl 12)
    refine qz_fill rfl (hX (by omega)) ?_
    obtain ⟨v, hv, e⟩ := hV i hi
    have h1 : qz_it (fun k L => L ++ qz_bits (P k) 5) [] i ++ qz_bits (nI v) 5 <+: qz_enc P C sn gs := by
      rw [← e]
      exact List.IsPrefix.trans (hpP (i + 1) (by omega)) hpre
    have h2 := qz_rd5 hBB v (by omega) h1
    rw [qz_encP_it] at h2
    rw [h2, e]
  refine ⟨r1, ?_⟩
  refine qz_undo2 r1 (fun j hj => ?_)
  have hC1 := qz_fwd_bd (P := P) hR
  have key : ∀ k, k ≤ 4 → qz_FS (qz_fwd P C) k (qz_it (qz_ef (qz_fwd P C)) (qz_encP P, sn, gs) k) (qz_it (qz_df (qz_B A s)) ((60, sz, ng, sn2, gs2), C2) k) := by
    intro k
    induction k with
    | zero =>
      intro _
      refine ⟨(qz_encP_it P 12).symm, fun j hj => ?_, fun g hg => ?_, fun j _ hj => hsn j hj, fun g _ hg => hgs g hg, fun j hj => absurd hj (by omega)⟩
      · show sn2 j = sn j
        rw [hsn2 j hj, hsn j hj]
      · show gs2 g = gs g
        rw [hgs2 g hg, hgs g hg]
    | succ k ih =>
      intro hk
      exact qz_fs_step (by omega) hBB hC1 (ih (by omega)) (qz_it_pre (F := qz_ef (qz_fwd P C)) (fun i e => qz_ef_pre _ i e) (qz_encP P, sn, gs) (k + 1) 4 hk)
  exact (key 4 (Nat.le_refl 4)).2.2.2.2.2 j hj
theorem qz_sum_pos {C : Nat → Int32} (h : qz_Rng C) : 0 ≤ qz_sum C := by
  have key : ∃ n : Nat, n ≤ 255 * 256 ∧ qz_sum C = nI n := by
    unfold qz_sum
    refine qz_it_inv (fun k (x : Int32) => k ≤ 256 → ∃ n : Nat, n ≤ 255 * k ∧ x = nI n) _ 0 (fun _ => ⟨0, by omega, rfl⟩) 256 (fun i t hi ht _ => ?_) (Nat.le_refl 256)
    obtain ⟨n, hn, rfl⟩ := ht (by omega)
    obtain ⟨m, hm, e⟩ := h i hi
    exact ⟨n + m, by omega, by rw [e, nI_add]⟩
  obtain ⟨n, hn, e⟩ := key
  rw [e]
  exact nI_pos' (by omega)
end
section
/-! ===== the other calls: none of them touches slot s ===== -/
section
variable {f0 p0 : Int32} {a1 a2 a3 a4 a5 a6 a7 a8 a9 a10 a11 a12 : Nat → Int32}
theorem qz_w_adopt {post : St2 → Prop} (h : ∀ A1 V3, post (f0, p0, A1, a2, V3, a4, a5, a6, a7, a8, a9, a10, a11, a12)) : wpX_adopt post (f0, p0, a1, a2, a3, a4, a5, a6, a7, a8, a9, a10, a11, a12) := by
  unfold wpX_adopt
  dsimp only
  refine pk_loop (fun n i t => wX_adopt_2 post f0 p0 n (nI i) t a2 a3 a4 a5 a6 a7 a8 a9 a10 a11 a12) (fun _ _ => True) 256 0 a1 (by omega) trivial
    (fun n A1 _ => pk_le 256 256 (fun _ => ?_) (fun z => absurd z (by omega)))
    (fun n i t hi _ hw => pk_le 256 i (fun z => absurd z (by omega)) (fun _ => ⟨pk_in i 256 hi, pk_in i 256 hi, nm_e (nm_r (nI_1 i) (hw _ trivial))⟩))
  refine pk_loop (fun n i t => wX_adopt_29 post f0 p0 n (nI i) A1 a2 t a4 a5 a6 a7 a8 a9 a10 a11 a12) (fun _ _ => True) 12 0 a3 (by omega) trivial
    (fun n V _ => pk_le 12 12 (fun _ => h A1 V) (fun z => absurd z (by omega)))
    (fun n i t hi _ hw => pk_le 12 i (fun z => absurd z (by omega)) (fun _ => ⟨pk_in i 12 hi, pk_in i 12 hi, nm_e (nm_r (nI_1 i) (hw _ trivial))⟩))
theorem qz_e_slot (s i : Nat) : (nI s * 160) + nI i = nI (160 * s + i) := by rw [qz_e_base, nI_add]
theorem qz_w_copy {post : Int32 → St2 → Prop} (s : Nat) (hs : s < 2) (h : ∀ r A' v, (∀ j, 160 * s ≤ j → j < 160 * s + 160 → A' j = a5 j) → post r (f0, p0, a1, a2, a3, a4, A', upd a6 (1 - s) v, a7, a8, a9, a10, a11, a12)) : wpX_copySlot post (f0, p0, a1, a2, a3, a4, a5, a6, a7, a8, a9, a10, a11, a12) (nI s) := by
  have e1 : (1 : Int32) - nI s = nI (1 - s) := pk_sub (a := 1) (by omega)
  unfold wpX_copySlot
  dsimp only
  refine qz_w_slot hs (br_f (by decide) ?_)
  refine pk_loop (fun n i t => wX_copySlot_11 post (nI s) f0 p0 n (nI i) a1 a2 a3 a4 t a6 a7 a8 a9 a10 a11 a12) (fun _ t => ∀ j, 160 * s ≤ j → j < 160 * s + 160 → t j = a5 j) 160 0 a5 (by omega) (fun j _ _ => rfl)
    (fun n A' I => pk_le 160 160 (fun _ => ?_) (fun z => absurd z (by omega)))
    (fun n i t hi I hw => pk_le 160 i (fun z => absurd z (by omega)) (fun _ => ?_))
  · rw [e1, nI_clamp (show 1 - s < 2 ^ 31 by omega)]
    exact ⟨vp_in_nI hs (by omega), vp_in_nI (by omega) (by omega), nm_e (h _ _ _ I)⟩
  · rw [e1, qz_e_slot, qz_e_slot, nI_clamp (show 160 * (1 - s) + i < 2 ^ 31 by omega)]
    refine ⟨vp_in_nI (by omega) (by omega), vp_in_nI (by omega) (by omega), nm_e (nm_r (nI_1 i) (hw _ (fun j h1 h2 => ?_)))⟩
    rw [pk_un (by omega)]
    exact I j h1 h2
theorem qz_w_erase {post : Int32 → St2 → Prop} (s : Nat) (hs : s < 2) (h : ∀ r, post r (f0, p0, a1, a2, a3, a4, a5, upd a6 s 0, a7, a8, a9, a10, a11, a12)) : wpX_erase post (f0, p0, a1, a2, a3, a4, a5, a6, a7, a8, a9, a10, a11, a12) (nI s) := by
  unfold wpX_erase wX_erase_23
  dsimp only
  rw [nI_clamp (show s < 2 ^ 31 by omega)]
  have v : vp_in (nI s) 2 := vp_in_nI hs (by omega)
  exact qz_w_slot hs (br_f (by decide) ⟨v, br_c (fun _ => ⟨v, nm_e (h _)⟩) (fun _ => ⟨v, nm_e (h _)⟩)⟩)
theorem qz_w_other {post : St2 → Prop} (s : Nat) (c d e : Int32) (hs : s < 2)
    (h : ∀ g0 r0 b1 b2 b3 b4 b5 b6 b7 b8 b9 b10 b11 b12, (∀ j, 160 * s ≤ j → j < 160 * s + 160 → b5 j = a5 j) → b6 s = a6 s → post (g0, r0, b1, b2, b3, b4, b5, b6, b7, b8, b9, b10, b11, b12)) : wpL_other post (f0, p0, a1, a2, a3, a4, a5, a6, a7, a8, a9, a10, a11, a12) (nI s) c d e := by
  have e1 : (1 : Int32) - nI s = nI (1 - s) := pk_sub (a := 1) (by omega)
  unfold wpL_other
  dsimp only
  rw [e1]
  refine nm_e (br_c (fun _ => ?_) (fun _ => br_c (fun _ => ?_) (fun _ => br_c (fun _ => ?_) (fun _ => br_c (fun _ => ?_) (fun _ => br_c (fun _ => ?_) (fun _ => ?_))))))
  · exact qz_w_encode (1 - s) (by omega) (fun P C sn gs A' C' p sz' ng' sn' gs' _ _ _ _ hW => h _ _ _ _ _ _ _ _ _ _ _ _ _ _ (fun j h1 h2 => hW.1 j (by omega)) (pk_un (by omega)))
  · obtain ⟨t, ht, et⟩ := pk_andE d (m := 1) 1 (by decide)
    rw [et]
    by_cases c6 : a6 t = 0
    · exact qz_w_decode0 t ht c6 (h _ _ _ _ _ _ _ _ _ _ _ _ _ _ (fun _ _ _ => rfl) rfl)
    · exact qz_w_decode t ht c6 (fun sn gs o ov P C q sz' ng' sn' gs' _ _ _ _ _ _ => h _ _ _ _ _ _ _ _ _ _ _ _ _ _ (fun _ _ _ => rfl) rfl)
  · exact qz_w_erase (1 - s) (by omega) (fun r => h _ _ _ _ _ _ _ _ _ _ _ _ _ _ (fun _ _ _ => rfl) (pk_un (by omega)))
  · exact qz_w_copy s hs (fun r A' v hA => h _ _ _ _ _ _ _ _ _ _ _ _ _ _ hA (pk_un (by omega)))
  · exact qz_w_adopt (fun A1 V3 => h _ _ _ _ _ _ _ _ _ _ _ _ _ _ (fun _ _ _ => rfl) rfl)
  · obtain ⟨A1, V3, _, _, hd⟩ := qz_w_draw (f0 := f0) (p0 := p0) (a1 := a1) (a2 := a2) (a3 := a3) (a4 := a4) (a5 := a5) (a6 := a6) (a7 := a7) (a8 := a8) (a9 := a9) (a10 := a10) (a11 := a11) (a12 := a12) c d e
    exact hd _ (h _ _ _ _ _ _ _ _ _ _ _ _ _ _ (fun _ _ _ => rfl) rfl)
end
end
section
/-! ===== the law ===== -/
section
variable {f0 p0 : Int32} {a1 a2 a3 a4 a5 a6 a7 a8 a9 a10 a11 a12 : Nat → Int32}
variable {g0 r0 : Int32} {b1 b2 b3 b4 b5 b6 b7 b8 b9 b10 b11 b12 : Nat → Int32}
theorem qz_w_out {post : Int32 → Prop} (f y x : Nat) (hf : f < 4) (hx : x < 8) (hy : y < 8) (h : post (a2 (64 * f + 8 * y + x))) : wpX_out post (f0, p0, a1, a2, a3, a4, a5, a6, a7, a8, a9, a10, a11, a12) (nI f) (nI x) (nI y) := by
  unfold wpX_out
  dsimp only
  rw [qz_e_cell, nI_clamp (by omega)]
  exact qz_w_frame hf (br_f (by decide) (qz_w_inside hx hy (br_f (by decide) ⟨vp_in_nI (by omega) (by omega), h⟩)))
theorem qz_w_pixel {post : Int32 → Prop} (f y x : Nat) (hf : f < 4) (hx : x < 8) (hy : y < 8) (h : post (a1 (64 * f + 8 * y + x))) : wpX_pixel post (f0, p0, a1, a2, a3, a4, a5, a6, a7, a8, a9, a10, a11, a12) (nI f) (nI x) (nI y) := by
  unfold wpX_pixel
  dsimp only
  rw [qz_e_cell, nI_clamp (by omega)]
  exact qz_w_frame hf (br_f (by decide) (qz_w_inside hx hy (br_f (by decide) ⟨vp_in_nI (by omega) (by omega), h⟩)))
theorem qz_e_4 (l b : Nat) : (4 * nI l) + nI b = nI (4 * l + b) := by rw [← nI_add, ← pk_mul]; rfl
theorem qz_w_outV {post : Int32 → Prop} (l b : Nat) (hl : l < 3) (hb : b < 4) (h : post (a4 (4 * l + b))) : wpX_outVector post (f0, p0, a1, a2, a3, a4, a5, a6, a7, a8, a9, a10, a11, a12) (nI l) (nI b) := by
  unfold wpX_outVector
  dsimp only
  rw [qz_e_4, nI_clamp (by omega)]
  exact qz_w_link hl (br_f (by decide) (qz_w_block hb (br_f (by decide) ⟨vp_in_nI (by omega) (by omega), h⟩)))
theorem qz_w_vec {post : Int32 → Prop} (l b : Nat) (hl : l < 3) (hb : b < 4) (h : post (a3 (4 * l + b))) : wpX_vector post (f0, p0, a1, a2, a3, a4, a5, a6, a7, a8, a9, a10, a11, a12) (nI l) (nI b) := by
  unfold wpX_vector
  dsimp only
  rw [qz_e_4, nI_clamp (by omega)]
  exact qz_w_link hl (br_f (by decide) (qz_w_block hb (br_f (by decide) ⟨vp_in_nI (by omega) (by omega), h⟩)))
theorem qz_w_same {post : Int32 → Prop} (h1 : ∀ j, j < 256 → a2 j = b1 j) (h2 : ∀ j, j < 12 → a4 j = b3 j) (h : post 1) : ∃ n, wL_same_2 post f0 p0 a1 a2 a3 a4 a5 a6 a7 a8 a9 a10 a11 a12 g0 r0 b1 b2 b3 b4 b5 b6 b7 b8 b9 b10 b11 b12 n 0 := by
  refine pk_loop (σ := Unit) (fun n f _ => wL_same_2 post f0 p0 a1 a2 a3 a4 a5 a6 a7 a8 a9 a10 a11 a12 g0 r0 b1 b2 b3 b4 b5 b6 b7 b8 b9 b10 b11 b12 n (nI f)) (fun _ _ => True) 4 0 () (by omega) trivial
    (fun n _ _ => pk_le 4 4 (fun _ => ?_) (fun z => absurd z (by omega)))
    (fun n f _ hf _ hw => pk_le 4 f (fun z => absurd z (by omega)) (fun _ => ?_))
  · refine pk_loop (σ := Unit) (fun n k _ => wL_same_58 post f0 p0 a1 a2 a3 a4 a5 a6 a7 a8 a9 a10 a11 a12 g0 r0 b1 b2 b3 b4 b5 b6 b7 b8 b9 b10 b11 b12 n (nI k)) (fun _ _ => True) 12 0 () (by omega) trivial
      (fun n _ _ => pk_le 12 12 (fun _ => h) (fun z => absurd z (by omega)))
      (fun n k _ hk _ hw => pk_le 12 k (fun z => absurd z (by omega)) (fun _ => ?_))
    have e1 : nI k >>> ((2 : Int32) &&& 31) = nI (k / 4) := pk_shrN (by omega) _ 2 (by decide)
    have e2 : nI k &&& 3 = nI (k % 4) := pk_andN (m := 3) (by omega) 2 (by decide)
    rw [e1, e2]
    exact qz_w_outV (k / 4) (k % 4) (by omega) (by omega) (qz_w_vec (k / 4) (k % 4) (by omega) (by omega) (br_t (h2 _ (by omega)) (nm_r (nI_1 k) (hw () trivial))))
  · refine pk_loop (σ := Unit) (fun n' i _ => wL_same_9 post (wL_same_2 post f0 p0 a1 a2 a3 a4 a5 a6 a7 a8 a9 a10 a11 a12 g0 r0 b1 b2 b3 b4 b5 b6 b7 b8 b9 b10 b11 b12 n) (nI f) f0 p0 a1 a2 a3 a4 a5 a6 a7 a8 a9 a10 a11 a12 g0 r0 b1 b2 b3 b4 b5 b6 b7 b8 b9 b10 b11 b12 n' (nI i)) (fun _ _ => True) 64 0 () (by omega) trivial
      (fun n' _ _ => pk_le 64 64 (fun _ => nm_r (nI_1 f) (hw () trivial)) (fun z => absurd z (by omega)))
      (fun n' i _ hi _ hw2 => pk_le 64 i (fun z => absurd z (by omega)) (fun _ => ?_))
    have e1 : nI i >>> ((3 : Int32) &&& 31) = nI (i / 8) := pk_shrN (by omega) _ 3 (by decide)
    have e2 : nI i &&& 7 = nI (i % 8) := pk_andN (m := 7) (by omega) 3 (by decide)
    rw [e1, e2]
    exact qz_w_out f (i / 8) (i % 8) hf (by omega) (by omega) (qz_w_pixel f (i / 8) (i % 8) hf (by omega) (by omega) (br_t (h1 _ (by omega)) (nm_r (nI_1 i) (hw2 () trivial))))
/-- slot s holds what the frames F and the vectors V were coded to -/
def qz_Ph (s : Nat) (F V A5 A6 : Nat → Int32) : Prop :=
  ∃ P C sn gs : Nat → Int32, (∀ j, j < 12 → P j = V j) ∧ (∀ j, j < 256 → C j = F j) ∧ (∀ j, j < 256 → sn j = 0) ∧ (∀ j, j < 64 → gs j = 0) ∧ qz_SB s (qz_enc P C sn gs) A5 ∧ ¬ A6 s = 0
theorem qz_w_fin {L kc ks s : Nat} {xs : Nat → Int32} (hs : s < 2) (hR : qz_Rng b1) (hV : qz_Vrg b3) (hP : qz_Ph s b1 b3 a5 a6) : wL_law_159 (fun r => r = 1) L xs (nI s) kc ks f0 p0 a1 a2 a3 a4 a5 a6 a7 a8 a9 a10 a11 a12 g0 r0 b1 b2 b3 b4 b5 b6 b7 b8 b9 b10 b11 b12 := by
  obtain ⟨P, C, sn, gs, h1, h2, h3, h4, h5, h6⟩ := hP
  have hRC : qz_Rng C := fun j hj => by rw [h2 j hj]; exact hR j hj
  have hVP : qz_Vrg P := fun j hj => by rw [h1 j hj]; exact hV j hj
  unfold wL_law_159
  refine qz_w_decode s hs h6 (fun sn2 gs2 o ov P2 C2 q sz' ng' sn' gs' g1 g2 g3 g4 g5 g6 => ?_)
  obtain ⟨r1, r2⟩ := qz_round hs hRC hVP h3 h4 h5 (sn2 := sn2) (gs2 := gs2) (sz := a9) (ng := a10) (C2 := a7) (P2 := a8) g1 g2
  rw [← g3] at r1 r2
  rw [← g4] at r2
  have hRC2 : qz_Rng C2 := fun j hj => by rw [r2 j hj]; exact hRC j hj
  refine br_t (qz_sum_pos hRC2) ?_
  exact qz_w_same (fun j hj => by rw [g5 j hj, r2 j hj, h2 j hj]) (fun j hj => by rw [g6 j hj, r1 j hj, h1 j hj]) rfl
theorem qz_w_cell {post : Int32 → Prop} {L : Nat} {xs : Nat → Int32} {u : St0} (hL : L ≤ 260) (k : Nat) (hk : k < 1000) (h : ∀ v, post v) : wpL_cell post L xs u (nI k) :=
  pk_le L k (fun _ => h _) (fun z => ⟨vp_in_nI z (by omega), h _⟩)
theorem qz_w_cellX {post : Int32 → Prop} {L : Nat} {xs : Nat → Int32} {u : St0} {x : Int32} (hL : L ≤ 260) (k : Nat) (hk : k < 1000) (hx : x = nI k) (h : ∀ v, post v) : wpL_cell post L xs u x := by
  subst hx
  exact qz_w_cell hL k hk h
end
/-- after the coding -/
theorem qz_w_ph2 {L kc ks s T : Nat} {xs : Nat → Int32} {g0 r0 : Int32} {b1 b2 b3 b4 b5 b6 b7 b8 b9 b10 b11 b12 : Nat → Int32} (hL : L ≤ 260) (hs : s < 2) (hT : T ≤ 32) (hR : qz_Rng b1) (hV : qz_Vrg b3) :
    ∀ (n t : Nat) {f0 p0 : Int32} {a1 a2 a3 a4 a5 a6 a7 a8 a9 a10 a11 a12 : Nat → Int32}, t ≤ 100 → L ≤ 2 + 3 * t + 3 * n → T < t → qz_Ph s b1 b3 a5 a6 → wL_law_42 (fun r => r = 1) L xs (nI s) (nI T) kc ks (n + 1) (nI t) (nI (2 + 3 * t)) f0 p0 a1 a2 a3 a4 a5 a6 a7 a8 a9 a10 a11 a12 g0 r0 b1 b2 b3 b4 b5 b6 b7 b8 b9 b10 b11 b12 := by
  intro n
  induction n with
  | zero =>
    intro t f0 p0 a1 a2 a3 a4 a5 a6 a7 a8 a9 a10 a11 a12 ht hn hTt hP
    exact pk_le L (2 + 3 * t) (fun _ => pk_lt T t (fun _ => qz_w_fin hs hR hV hP) (fun z => absurd z (by omega))) (fun z => absurd z (by omega))
  | succ n ih =>
    intro t f0 p0 a1 a2 a3 a4 a5 a6 a7 a8 a9 a10 a11 a12 ht hn hTt hP
    refine pk_le L (2 + 3 * t) (fun _ => pk_lt T t (fun _ => qz_w_fin hs hR hV hP) (fun z => absurd z (by omega))) (fun z => ?_)
    refine qz_w_cell hL (2 + 3 * t) (by omega) (fun c => qz_w_cellX hL (2 + 3 * t + 1) (by omega) (nI_add _ 1) (fun d => qz_w_cellX hL (2 + 3 * t + 2) (by omega) (nI_add _ 2) (fun e => ?_)))
    refine pk_le T t (fun _ => pk_eq t T (fun z2 => absurd z2 (by omega)) (fun _ => ?_)) (fun z2 => absurd z2 (by omega))
    refine qz_w_other s c d e hs (fun f0' p0' a1' a2' a3' a4' a5' a6' a7' a8' a9' a10' a11' a12' k5 k6 => nm_r (nI_1 t) (nm_r (nI_add _ 3) (ih (t + 1) (by omega) (by omega) (by omega) ?_)))
    obtain ⟨P, C, sn, gs, h1, h2, h3, h4, h5, h6⟩ := hP
    exact ⟨P, C, sn, gs, h1, h2, h3, h4, fun r hr => by rw [k5 _ (by omega) (by omega)]; exact h5 r hr, by rw [k6]; exact h6⟩
/-- before it: both objects are alike -/
theorem qz_w_ph1 {L kc ks s T : Nat} {xs : Nat → Int32} (hL : L ≤ 260) (hs : s < 2) (hT : T ≤ 32) :
    ∀ (n t : Nat) {f0 p0 : Int32} {a1 a2 a3 a4 a5 a6 a7 a8 a9 a10 a11 a12 : Nat → Int32}, t ≤ 100 → L ≤ 2 + 3 * t + 3 * n → t ≤ T → qz_Rng a1 → qz_Vrg a3 → wL_law_42 (fun r => r = 1) L xs (nI s) (nI T) kc ks (n + 1) (nI t) (nI (2 + 3 * t)) f0 p0 a1 a2 a3 a4 a5 a6 a7 a8 a9 a10 a11 a12 f0 p0 a1 a2 a3 a4 a5 a6 a7 a8 a9 a10 a11 a12 := by
  have ex : ∀ (n t : Nat) {f0 p0 : Int32} {a1 a2 a3 a4 a5 a6 a7 a8 a9 a10 a11 a12 : Nat → Int32}, t ≤ 100 → L ≤ 2 + 3 * t → t ≤ T → qz_Rng a1 → qz_Vrg a3 → wL_law_42 (fun r => r = 1) L xs (nI s) (nI T) kc ks (n + 1) (nI t) (nI (2 + 3 * t)) f0 p0 a1 a2 a3 a4 a5 a6 a7 a8 a9 a10 a11 a12 f0 p0 a1 a2 a3 a4 a5 a6 a7 a8 a9 a10 a11 a12 := by
    intro n t f0 p0 a1 a2 a3 a4 a5 a6 a7 a8 a9 a10 a11 a12 ht hn htT hR hV
    refine pk_le L (2 + 3 * t) (fun _ => pk_lt T t (fun z => absurd z (by omega)) (fun _ => ?_)) (fun z => absurd z (by omega))
    refine qz_w_encode s hs (fun P C sn gs A' C' p sz' ng' sn' gs' g1 g2 g3 g4 g5 => br_t rfl ?_)
    exact qz_w_fin hs hR hV ⟨P, C, sn, gs, g1, g2, g3, g4, g5.2, by rw [pk_us]; decide⟩
  intro n
  induction n with
  | zero =>
    intro t f0 p0 a1 a2 a3 a4 a5 a6 a7 a8 a9 a10 a11 a12 ht hn htT hR hV
    exact ex 0 t ht hn htT hR hV
  | succ n ih =>
    intro t f0 p0 a1 a2 a3 a4 a5 a6 a7 a8 a9 a10 a11 a12 ht hn htT hR hV
    by_cases hx : L ≤ 2 + 3 * t
    · exact ex (n + 1) t ht hx htT hR hV
    refine pk_le L (2 + 3 * t) (fun z => absurd z hx) (fun z => ?_)
    refine qz_w_cell hL (2 + 3 * t) (by omega) (fun c => qz_w_cellX hL (2 + 3 * t + 1) (by omega) (nI_add _ 1) (fun d => qz_w_cellX hL (2 + 3 * t + 2) (by omega) (nI_add _ 2) (fun e => ?_)))
    refine pk_le T t (fun z1 => pk_eq t T (fun _ => ?_) (fun z2 => absurd (Nat.le_antisymm htT z1) z2)) (fun z1 => ?_)
    · refine qz_w_encode s hs (fun P C sn gs A' C' p sz' ng' sn' gs' g1 g2 g3 g4 g5 => br_t rfl ?_)
      refine qz_w_other s c d e hs (fun f0' p0' a1' a2' a3' a4' a5' a6' a7' a8' a9' a10' a11' a12' k5 k6 => nm_r (nI_1 t) (nm_r (nI_add _ 3) (qz_w_ph2 hL hs hT hR hV n (t + 1) (by omega) (by omega) (by omega) ?_)))
      exact ⟨P, C, sn, gs, g1, g2, g3, g4, fun r hr => by rw [k5 _ (by omega) (by omega)]; exact g5.2 r hr, by rw [k6, pk_us]; decide⟩
    · obtain ⟨A1, V3, d1, d2, d3⟩ := qz_w_draw (f0 := f0) (p0 := p0) (a1 := a1) (a2 := a2) (a3 := a3) (a4 := a4) (a5 := a5) (a6 := a6) (a7 := a7) (a8 := a8) (a9 := a9) (a10 := a10) (a11 := a11) (a12 := a12) c d e
      exact d3 _ (d3 _ (nm_r (nI_1 t) (nm_r (nI_add _ 3) (ih (t + 1) (by omega) (by omega) (by omega) (d1 hR) (d2 hV)))))
def qz_v0 : Nat → Int32 := qz_it (fun k V => upd V k 12) (fun _ => 0) 12
theorem qz_v0_r : qz_Vrg qz_v0 := by
  have key : ∀ j, j < 12 → qz_v0 j = 12 := qz_it_inv (fun k (V : Nat → Int32) => ∀ j, j < k → V j = 12) (fun k V => upd V k 12) (fun _ => 0) (fun j hj => absurd hj (by omega)) 12 (fun i t _ h => qz_fill (g := fun _ => 12) rfl h rfl)
  intro j hj
  exact ⟨12, by omega, key j hj⟩
theorem qz_w_init {post : St2 → Prop} (h : post (0, 0, (fun _ => 0), (fun _ => 0), qz_v0, qz_v0, (fun _ => 0), (fun _ => 0), (fun _ => 0), (fun _ => 0), (fun _ => 0), (fun _ => 0), (fun _ => 0), (fun _ => 0))) : wpX_init post 12 1958 (0, 0) := by
  unfold wpX_init
  dsimp only
  refine ⟨by decide, by decide, by decide, by decide, by decide, by decide, by decide, by decide, by decide, by decide, by decide, by decide, by decide, by decide, by decide, by decide, by decide, by decide, by decide, by decide, by decide, by decide, by decide, by decide, ?_⟩
  refine qz_loop (fun n k V => wX_init_108 post 12 1958 12 1958 0 0 n (nI k) (fun _ => 0) (fun _ => 0) V V (fun _ => 0) (fun _ => 0) (fun _ => 0) (fun _ => 0) (fun _ => 0) (fun _ => 0) (fun _ => 0) (fun _ => 0)) (fun k V => upd V k 12) (fun _ => 0) 12
    (fun n => pk_le 12 12 (fun _ => h) (fun z => absurd z (by omega)))
    (fun n i hi hw => pk_le 12 i (fun z => absurd z (by omega)) (fun _ => ⟨pk_in i 12 hi, nm_r (by rw [nI_clamp (by omega)]) ⟨pk_in i 12 hi, nm_r (by rw [nI_clamp (by omega)]) (nm_r (nI_1 i) hw)⟩⟩))
theorem i_vc (xs : Nat → Int32) (L : Nat) (hL : L ≤ 260) : wpL_law (fun r => r = 1) L xs := by
  unfold wpL_law
  refine qz_w_cell hL 0 (by omega) (fun x => ?_)
  obtain ⟨s, hs, es⟩ := pk_andE x (m := 1) 1 (by decide)
  refine nm_r es (qz_w_cell hL 1 (by omega) (fun y => ?_))
  obtain ⟨T, hT, eT⟩ := pk_andE y (m := 31) 5 (by decide)
  refine nm_r (show (1 : Int32) + (y &&& 31) = nI (1 + T) by rw [eT]; exact nI_add 1 T) ?_
  refine ⟨12, 1958, by decide, by decide, qz_w_init ⟨by decide, by decide, 12, 1958, by decide, by decide, qz_w_init ⟨90, ?_⟩⟩⟩
  have hR : qz_Rng (fun _ => 0) := fun j _ => ⟨0, by omega, rfl⟩
  exact qz_w_ph1 (T := 1 + T) hL hs (by omega) 89 0 (by omega) (by omega) (by omega) hR qz_v0_r
end
