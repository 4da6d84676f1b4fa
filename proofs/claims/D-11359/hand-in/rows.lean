section
/-! ===== packed arrays: a Nat holds 16 cells; words of 32 bits, nibbles of 4 ===== -/
noncomputable def zq_fc (x : Nat) (f : Nat → Nat) : Nat := Nat.rec (motive := fun _ => Nat) (f 0) (fun p _ => f (Nat.succ p)) x
noncomputable def zq_fb (x : Nat) (f : Nat → Bool) : Bool := Nat.rec (motive := fun _ => Bool) (f 0) (fun p _ => f (Nat.succ p)) x
theorem zq_fc_eq (x : Nat) (f : Nat → Nat) : zq_fc x f = f x := by cases x <;> rfl
theorem zq_fb_eq (x : Nat) (f : Nat → Bool) : zq_fb x f = f x := by cases x <;> rfl
noncomputable def zq_g (A j : Nat) : Nat := Nat.mod (Nat.shiftRight A (Nat.mul 32 j)) 4294967296
noncomputable def zq_h (A j : Nat) : Nat := Nat.mod (Nat.shiftRight A (Nat.mul 4 j)) 16
noncomputable def zq_s (A k x : Nat) : Nat := zq_fc A (fun A => Nat.xor A (Nat.shiftLeft (Nat.xor (zq_g A k) (Nat.mod x 4294967296)) (Nat.mul 32 k)))
noncomputable def zq_t (A k x : Nat) : Nat := zq_fc A (fun A => Nat.xor A (Nat.shiftLeft (Nat.xor (zq_h A k) (Nat.mod x 16)) (Nat.mul 4 k)))
noncomputable def zq_b (x i : Nat) : Nat := Nat.mod (Nat.shiftRight x i) 2
noncomputable def zq_z (x : Nat) : Bool := Nat.beq (Nat.mod x 4294967296) 0
theorem zq_cell (w A k j x : Nat) : ((A ^^^ ((((A >>> (w * k)) % 2 ^ w) ^^^ (x % 2 ^ w)) <<< (w * k))) >>> (w * j)) % 2 ^ w = if j = k then x % 2 ^ w else (A >>> (w * j)) % 2 ^ w := by
  apply Nat.eq_of_testBit_eq
  intro i
  rw [Nat.testBit_mod_two_pow, Nat.testBit_shiftRight, Nat.testBit_xor, Nat.testBit_shiftLeft, Nat.testBit_xor, Nat.testBit_mod_two_pow, Nat.testBit_mod_two_pow, Nat.testBit_shiftRight]
  by_cases hi : i < w
  · rw [decide_eq_true hi, Bool.true_and]
    by_cases e : j = k
    · subst e
      rw [if_pos rfl, Nat.testBit_mod_two_pow, decide_eq_true hi, Bool.true_and, Nat.add_sub_cancel_left, decide_eq_true hi, decide_eq_true (show w * j + i ≥ w * j by omega)]
      cases A.testBit (w * j + i) <;> cases x.testBit i <;> rfl
    · rw [if_neg e, Nat.testBit_mod_two_pow, Nat.testBit_shiftRight, decide_eq_true hi, Bool.true_and]
      rcases Nat.lt_or_ge j k with h | h
      · have h1 : w * (j + 1) ≤ w * k := Nat.mul_le_mul_left w h
        rw [Nat.mul_add] at h1
        rw [decide_eq_false (show ¬ w * j + i ≥ w * k by omega), Bool.false_and, Bool.xor_false]
      · have h1 : w * (k + 1) ≤ w * j := Nat.mul_le_mul_left w (by omega)
        rw [Nat.mul_add] at h1
        rw [decide_eq_false (show ¬ w * j + i - w * k < w by omega), Bool.false_and, Bool.false_and, Bool.xor_false, Bool.and_false, Bool.xor_false]
  · rw [decide_eq_false hi, Bool.false_and]
    by_cases e : j = k
    · rw [if_pos e, Nat.testBit_mod_two_pow, decide_eq_false hi, Bool.false_and]
    · rw [if_neg e, Nat.testBit_mod_two_pow, decide_eq_false hi, Bool.false_and]
theorem zq_gs (A k x j : Nat) : zq_g (zq_s A k x) j = if j = k then x % 4294967296 else zq_g A j := by
  unfold zq_s
  rw [zq_fc_eq]
  exact zq_cell 32 A k j x
theorem zq_ht (A k x j : Nat) : zq_h (zq_t A k x) j = if j = k then x % 16 else zq_h A j := by
  unfold zq_t
  rw [zq_fc_eq]
  exact zq_cell 4 A k j x
theorem zq_hlt (A j : Nat) : zq_h A j < 16 := Nat.mod_lt _ (by decide)
theorem zq_glt (A j : Nat) : zq_g A j < 4294967296 := Nat.mod_lt _ (by decide)
/-! ===== the arrays of a state ===== -/
noncomputable def zq_W (A : Nat) : Nat → Int32 := fun j => nI (zq_g A j)
noncomputable def zq_B (A : Nat) : Nat → Int32 := fun j => nI (zq_h A j)
theorem zq_nor (a b : Nat) : nI a ||| nI b = nI (a ||| b) := by
  apply Int32.toBitVec_inj.1
  show BitVec.ofNat 32 a ||| BitVec.ofNat 32 b = BitVec.ofNat 32 (a ||| b)
  apply BitVec.eq_of_getLsbD_eq
  intro i hi
  simp [hi]
theorem zq_nand (a b : Nat) : nI a &&& nI b = nI (a &&& b) := by
  apply Int32.toBitVec_inj.1
  show BitVec.ofNat 32 a &&& BitVec.ofNat 32 b = BitVec.ofNat 32 (a &&& b)
  apply BitVec.eq_of_getLsbD_eq
  intro i hi
  simp [hi]
theorem zq_nxor (a b : Nat) : nI a ^^^ nI b = nI (a ^^^ b) := by
  apply Int32.toBitVec_inj.1
  show BitVec.ofNat 32 a ^^^ BitVec.ofNat 32 b = BitVec.ofNat 32 (a ^^^ b)
  apply BitVec.eq_of_getLsbD_eq
  intro i hi
  simp [hi]
theorem zq_m1 : (-1 : Int32) = nI 4294967295 := by decide
theorem zq_not (x : Nat) : nI x ^^^ (-1) = nI (x ^^^ 4294967295) := by rw [zq_m1, zq_nxor]
theorem zq_nmod (x : Nat) : nI (x % 4294967296) = nI x := by
  apply Int32.toBitVec_inj.1
  show BitVec.ofNat 32 (x % 4294967296) = BitVec.ofNat 32 x
  apply BitVec.eq_of_toNat_eq
  rw [BitVec.toNat_ofNat, BitVec.toNat_ofNat]
  exact Nat.mod_mod x (2 ^ 32)
theorem zq_z0 (x : Nat) : nI x = 0 ↔ x % 4294967296 = 0 := by
  constructor
  · intro h
    have h2 : (nI x).toBitVec.toNat = (0 : Int32).toBitVec.toNat := by rw [h]
    exact h2
  · intro h
    rw [← zq_nmod, h]
    rfl
theorem zq_uW (A k x : Nat) : upd (zq_W A) k (nI x) = zq_W (zq_s A k x) := by
  funext j
  show _ = nI (zq_g (zq_s A k x) j)
  rw [zq_gs]
  by_cases e : j = k
  · rw [e, pk_us, if_pos rfl, zq_nmod]
  · rw [pk_un e, if_neg e]
    rfl
theorem zq_uB (A k : Nat) {x : Nat} (hx : x < 16) : upd (zq_B A) k (nI x) = zq_B (zq_t A k x) := by
  funext j
  show _ = nI (zq_h (zq_t A k x) j)
  rw [zq_ht]
  by_cases e : j = k
  · rw [e, pk_us, if_pos rfl, Nat.mod_eq_of_lt hx]
  · rw [pk_un e, if_neg e]
    rfl
theorem zq_by : ∀ x, x < 16 → (nI x).toInt8.toInt32 = nI x := by decide +kernel
theorem zq_sh1 : ∀ k, k < 16 → (1 : Int32) <<< (nI k &&& 31) = nI (2 ^ k) := by decide +kernel
theorem zq_sm : ∀ k, k < 16 → ((nI k &&& 31).toBitVec.smod 32).toNat = k := by decide +kernel
theorem zq_Wc (A : Nat) {i : Nat} (hi : i < 2 ^ 31) : zq_W A (nI i).toNatClampNeg = nI (zq_g A i) := by rw [nI_clamp hi]; rfl
theorem zq_Bc (A : Nat) {i : Nat} (hi : i < 2 ^ 31) : zq_B A (nI i).toNatClampNeg = nI (zq_h A i) := by rw [nI_clamp hi]; rfl
theorem zq_bitv (x : Nat) {k : Nat} (hk : k < 16) : ((nI x >>> (nI k &&& 31)) &&& 1) = nI (zq_b x k) := by
  apply Int32.toBitVec_inj.1
  rw [Int32.toBitVec_and, Int32.toBitVec_shiftRight]
  show (BitVec.ofNat 32 x).sshiftRight ((nI k &&& 31).toBitVec.smod 32).toNat &&& 1#32 = BitVec.ofNat 32 (x >>> k % 2)
  rw [zq_sm k hk, BitVec.and_one_eq_setWidth_ofBool_getLsbD, BitVec.getLsbD_sshiftRight, Nat.add_zero, if_pos (show k < 32 by omega), BitVec.getLsbD_ofNat, decide_eq_true (show k < 32 by omega)]
  have e : x.testBit k = decide (x >>> k % 2 = 1) := by
    rw [Nat.testBit_eq_decide_div_mod_eq, Nat.shiftRight_eq_div_pow]
  rw [e]
  have h2 : x >>> k % 2 < 2 := Nat.mod_lt _ (by decide)
  generalize x >>> k % 2 = z at h2
  have h3 : z = 0 ∨ z = 1 := by omega
  rcases h3 with h | h <;> subst h <;> rfl
theorem zq_blt (x k : Nat) : zq_b x k < 2 := Nat.mod_lt _ (by decide)
theorem zq_bit0 (x : Nat) {k : Nat} (hk : k < 16) : ((nI x >>> (nI k &&& 31)) &&& 1) = 0 ↔ zq_b x k = 0 := by
  rw [zq_bitv x hk, ← nI_0]
  exact nI_eq (Nat.lt_trans (zq_blt x k) (by decide)) (by decide)
theorem zq_c0 {α : Type} {b : Nat} {x y : α} (h : b = 0) : cond (Nat.beq b 0) x y = x := by rw [h]; rfl
theorem zq_c1 {α : Type} {b : Nat} {x y : α} (h : ¬ b = 0) : cond (Nat.beq b 0) x y = y := by
  cases b with
  | zero => exact absurd rfl h
  | succ b => rfl
theorem zq_zt {α : Type} {w : Nat} {x y : α} (h : w % 4294967296 = 0) : cond (zq_z w) x y = x := zq_c0 h
theorem zq_zf {α : Type} {w : Nat} {x y : α} (h : ¬ w % 4294967296 = 0) : cond (zq_z w) x y = y := zq_c1 h
theorem zq_m1lt : ∀ p, p < 17 → nI p + (-1) < nI p := by decide +kernel
end
section
/-! ===== the pure run: read-only loops ===== -/
noncomputable def zq_or (T x i : Nat) : Nat := Nat.rec (motive := fun _ => Nat) 0 (fun i r => cond (Nat.beq (zq_b x i) 0) r (Nat.lor r (zq_g T i))) i
noncomputable def zq_ld (O x i : Nat) : Nat := Nat.rec (motive := fun _ => Nat) 0 (fun i r => cond (Nat.beq (zq_b x i) 0) r (Nat.lor r (Nat.pow 2 (zq_h O i)))) i
noncomputable def zq_bi (x i : Nat) : Nat := Nat.rec (motive := fun _ => Nat) 0 (fun i r => Nat.add r (zq_b x i)) i
noncomputable def zq_lw (x f : Nat) : Nat → Nat := Nat.rec (motive := fun _ => Nat → Nat) (fun i => i) (fun _ r i => cond (Nat.beq (zq_b x i) 0) (r (Nat.succ i)) i) f
noncomputable def zq_fw (n T O M L a m0 k : Nat) : Nat := Nat.rec (motive := fun _ => Nat) m0 (fun k m => zq_fc m (fun m => cond (Nat.beq (zq_b m (zq_h L (Nat.add a k))) 0) m (Nat.lor m (zq_ld O (zq_or T (zq_g M (zq_h L (Nat.add a k))) n) n)))) k
noncomputable def zq_bw (n S O M L a m0 k : Nat) : Nat := Nat.rec (motive := fun _ => Nat) m0 (fun k m => zq_fc m (fun m => cond (Nat.beq (zq_b m (zq_h L (Nat.sub a k))) 0) m (Nat.lor m (zq_ld O (zq_or S (zq_g M (zq_h L (Nat.sub a k))) n) n)))) k
noncomputable def zq_lb (L a k : Nat) : Nat := Nat.rec (motive := fun _ => Nat) 0 (fun k r => Nat.lor r (Nat.pow 2 (zq_h L (Nat.add a k)))) k
noncomputable def zq_wv (T n X m w : Nat) : Nat := Nat.land (Nat.land (zq_or T w n) X) (Nat.xor m 4294967295)
noncomputable def zq_sp (T n X f : Nat) : Nat → Nat → Nat := Nat.rec (motive := fun _ => Nat → Nat → Nat) (fun m _ => m) (fun _ r m w => cond (zq_z w) m (zq_fc (zq_wv T n X m w) (fun w' => zq_fc (Nat.lor m w') (fun m' => r m' w')))) f
noncomputable def zq_cy (T n X u f : Nat) : Nat → Nat → Nat → Nat := Nat.rec (motive := fun _ => Nat → Nat → Nat → Nat) (fun _ _ _ => 0) (fun _ r w m st => cond (zq_z w) 0 (cond (Nat.beq (zq_b m u) 0) (zq_fc (zq_wv T n X m w) (fun w' => zq_fc (Nat.lor m w') (fun m' => r w' m' (Nat.succ st)))) st)) f
noncomputable def zq_sr (S Q n W f : Nat) : Nat → Nat := Nat.rec (motive := fun _ => Nat → Nat) (fun _ => 0) (fun _ r i => cond (zq_z (Nat.land (zq_g Q i) W)) (r (Nat.succ i)) (cond (zq_z (zq_wv S n W (zq_g Q i) (zq_g Q i))) (zq_g Q i) (r (Nat.succ i)))) f
noncomputable def zq_oe (n T O M i : Nat) : Nat := Nat.rec (motive := fun _ => Nat) 0 (fun i r => Nat.add r (zq_bi (Nat.land (zq_g T i) (Nat.xor (zq_g M (zq_h O i)) 4294967295)) 16)) i
/-! stores -/
noncomputable def zq_i0 (i : Nat) : Nat := Nat.rec (motive := fun _ => Nat) 0 (fun i A => zq_t A i i) i
noncomputable def zq_m0 (i : Nat) : Nat := Nat.rec (motive := fun _ => Nat) 0 (fun i A => zq_s A i (Nat.pow 2 i)) i
noncomputable def zq_cp (L N s d k : Nat) : Nat := Nat.rec (motive := fun _ => Nat) N (fun k A => zq_t A (Nat.add d k) (zq_h L (Nat.add s k))) k
noncomputable def zq_fl (L X v s d k : Nat) : Nat := Nat.rec (motive := fun _ => Nat) d (fun k r => cond (Nat.beq (zq_b X (zq_h L (Nat.add s k))) v) (Nat.succ r) r) k
noncomputable def zq_fn (L X v s d N k : Nat) : Nat := Nat.rec (motive := fun _ => Nat) N (fun k A => cond (Nat.beq (zq_b X (zq_h L (Nat.add s k))) v) (zq_t A (zq_fl L X v s d k) (zq_h L (Nat.add s k))) A) k
noncomputable def zq_mm (M X i : Nat) : Nat := Nat.rec (motive := fun _ => Nat) M (fun i A => cond (Nat.beq (zq_b X i) 0) A (zq_s A i 0)) i
noncomputable def zq_ma (M X i : Nat) : Nat := Nat.rec (motive := fun _ => Nat) 0 (fun i r => cond (Nat.beq (zq_b X i) 0) r (Nat.lor r (zq_g (zq_mm M X i) i))) i
noncomputable def zq_cl (O X c i : Nat) : Nat := Nat.rec (motive := fun _ => Nat) O (fun i A => cond (Nat.beq (zq_b X i) 0) A (zq_t A i c)) i
noncomputable def zq_aL (N L i : Nat) : Nat := Nat.rec (motive := fun _ => Nat) L (fun i A => zq_t A i (zq_h N i)) i
noncomputable def zq_aP (N P i : Nat) : Nat := Nat.rec (motive := fun _ => Nat) P (fun i A => zq_t A (zq_h N i) i) i
/-! methods that store, in continuation style; k takes: answer, line length, T, S, O, M, P, L, N -/
noncomputable def zq_rt (len T S O M P L lo hi d F X N m r : Nat) (k : Nat → Nat → Nat → Nat → Nat → Nat → Nat → Nat → Nat → Bool) : Bool :=
  zq_fb (Nat.land F (Nat.xor X 4294967295)) fun Y => zq_fb (zq_fn L Y 1 lo m N d) fun N4 => zq_fb (zq_fl L Y 1 lo m d) fun m4 =>
  zq_fb (Nat.sub len (Nat.succ hi)) fun e => zq_fb (Nat.add m4 e) fun m5 => zq_fb (zq_cp L N4 (Nat.succ hi) m4 e) fun N5 =>
  zq_fb (zq_aP N5 P m5) fun P' => zq_fb (zq_aL N5 L m5) fun L' =>
  cond (Nat.ble m5 16) (cond (Nat.ble (Nat.succ hi) len) (cond (Nat.ble len 16) (k r m5 T S O M P' L' N5) false) false) false
noncomputable def zq_rb (n len T S O M P L N lo hi d F X : Nat) (k : Nat → Nat → Nat → Nat → Nat → Nat → Nat → Nat → Nat → Bool) : Bool :=
  zq_fb (zq_fn L F 0 lo lo (zq_cp L N 0 0 lo) d) fun N2 => zq_fb (zq_fl L F 0 lo lo d) fun m2 =>
  cond (zq_z X) (zq_rt len T S O M P L lo hi d F X N2 m2 0 k)
    (zq_fb (zq_ma M X n) fun A => zq_fb (zq_lw A 15 0) fun c => zq_fb (zq_s (zq_mm M X n) c A) fun M' => zq_fb (zq_cl O A c n) fun O' => zq_fb (zq_bi X 16) fun b =>
      cond (Nat.blt m2 16) (cond (Nat.ble 1 b) (zq_rt len T S O' M' P L lo hi d F X (zq_t N2 m2 c) (Nat.succ m2) (Nat.sub b 1) k) false) false)
noncomputable def zq_rl (n len T S O M P L N fr to : Nat) (k : Nat → Nat → Nat → Nat → Nat → Nat → Nat → Nat → Nat → Bool) : Bool :=
  zq_fb (zq_h P to) fun lo => zq_fb (zq_h P fr) fun hi => zq_fb (Nat.sub (Nat.succ hi) lo) fun d =>
  zq_fb (zq_fw n T O M L lo (Nat.pow 2 to) d) fun F =>
  zq_fb (cond (Nat.beq (zq_b F fr) 0) 0 (Nat.land (Nat.land F (zq_bw n S O M L hi (Nat.pow 2 fr) d)) (zq_lb L lo d))) fun X =>
  zq_rb n len T S O M P L N lo hi d F X k
noncomputable def zq_ae (n len T S O M P L N u v : Nat) (k : Nat → Nat → Nat → Nat → Nat → Nat → Nat → Nat → Nat → Bool) : Bool :=
  cond (Nat.beq (zq_b (zq_g T u) v) 0)
    (zq_fb (zq_s T u (Nat.lor (zq_g T u) (Nat.pow 2 v))) fun T' => zq_fb (zq_s S v (Nat.lor (zq_g S v) (Nat.pow 2 u))) fun S' =>
     zq_fb (zq_h O u) fun fr => zq_fb (zq_h O v) fun to =>
     cond (Nat.blt (zq_h P to) (zq_h P fr)) (zq_rl n len T' S' O M P L N fr to k) (k 0 len T' S' O M P L N))
    false
noncomputable def zq_sl (n len T S O M P L N Q c : Nat) (k : Nat → Nat → Nat → Nat → Nat → Nat → Nat → Nat → Nat → Bool) : Bool :=
  zq_fb (zq_h P c) fun a => zq_fb (zq_g M c) fun r0 =>
  zq_fb (Nat.pow 2 (zq_lw r0 15 0)) fun s0 => zq_fb (Nat.land (zq_sp T n r0 16 s0 s0) (zq_sp S n r0 16 s0 s0)) fun p0 =>
  zq_fb (zq_s Q 0 p0) fun Q1 => zq_fb (Nat.land r0 (Nat.xor p0 4294967295)) fun r1 =>
  zq_fb (Nat.pow 2 (zq_lw r1 15 0)) fun s1 => zq_fb (Nat.land (zq_sp T n r1 16 s1 s1) (zq_sp S n r1 16 s1 s1)) fun p1 =>
  zq_fb (zq_s Q1 1 p1) fun Q2 => zq_fb (Nat.land r1 (Nat.xor p1 4294967295)) fun r2 =>
  cond (zq_z r0) false (cond (zq_z r1) false (cond (zq_z r2)
    (zq_fb (zq_s M c 0) fun M1 => zq_fb (zq_cp L N 0 0 a) fun N1 =>
     zq_fb (zq_sr S Q2 n r0 2 0) fun q0 => zq_fb (Nat.land r0 (Nat.xor q0 4294967295)) fun w1 =>
     zq_fb (zq_lw q0 15 0) fun c0 => zq_fb (zq_s M1 c0 q0) fun M2 => zq_fb (zq_cl O q0 c0 n) fun O1 => zq_fb (zq_t N1 a c0) fun N2 =>
     zq_fb (zq_sr S Q2 n w1 2 0) fun q1 => 
     zq_fb (zq_lw q1 15 0) fun c1 => zq_fb (zq_s M2 c1 q1) fun M3 => zq_fb (zq_cl O1 q1 c1 n) fun O2 => zq_fb (zq_t N2 (Nat.succ a) c1) fun N3 =>
     zq_fb (Nat.sub len (Nat.succ a)) fun e => zq_fb (Nat.add (Nat.succ (Nat.succ a)) e) fun m => zq_fb (zq_cp L N3 (Nat.succ a) (Nat.succ (Nat.succ a)) e) fun N4 =>
     zq_fb (zq_aP N4 P m) fun P' => zq_fb (zq_aL N4 L m) fun L' =>
     cond (Nat.ble m 16) (cond (Nat.ble (Nat.succ a) len) (cond (Nat.ble len 16) (k 1 m T S O2 M3 P' L' N4) false) false) false)
    false))
noncomputable def zq_re (n len T S O M P L N Q u v : Nat) (k : Nat → Nat → Nat → Nat → Nat → Nat → Nat → Nat → Nat → Bool) : Bool :=
  cond (Nat.beq (zq_b (zq_g T u) v) 0) false
    (zq_fb (zq_s T u (Nat.land (zq_g T u) (Nat.xor (Nat.pow 2 v) 4294967295))) fun T' => zq_fb (zq_s S v (Nat.land (zq_g S v) (Nat.xor (Nat.pow 2 u) 4294967295))) fun S' =>
     zq_fb (zq_h O u) fun c =>
     cond (Nat.beq c (zq_h O v)) (cond (Nat.beq (zq_b (zq_sp T' n (zq_g M c) 16 (Nat.pow 2 u) (Nat.pow 2 u)) v) 0) (zq_sl n len T' S' O M P L N Q c k) false) false)
/-! the run of the law -/
noncomputable def zq_all (p : Nat → Bool) (n : Nat) : Bool := Nat.rec (motive := fun _ => Bool) true (fun i r => cond (p i) r false) n
noncomputable def zq_cyc (n T O M w : Nat) : Nat := zq_fc (zq_g M (zq_h O w)) fun X => zq_fc (Nat.land (zq_g T w) X) fun y => zq_cy T n X w 16 y y 1
noncomputable def zq_q (n T O M a b c w : Nat) : Bool := cond (Nat.beq (zq_h O w) a) (cond (Nat.beq (zq_cyc n T O M w) b) (Nat.beq (zq_bi (zq_g M (zq_h O w)) 16) c) false) false
noncomputable def zq_rch (n T O M P L v w : Nat) : Nat := zq_fc (zq_h O v) fun fr => zq_fc (zq_h O w) fun to => zq_fc (zq_h P fr) fun a => zq_fc (zq_h P to) fun b =>
  cond (Nat.ble a b) (zq_b (zq_fw n T O M L a (Nat.pow 2 fr) (Nat.sub (Nat.succ b) a)) to) 0
noncomputable def zq_run (n u v : Nat) : Bool :=
  zq_fb (zq_i0 n) fun A => zq_fb (zq_m0 n) fun M =>
  zq_ae n n 0 0 A M A A 0 u v fun r len T S O M P L N => cond (Nat.beq r 0)
    (zq_ae n len T S O M P L N v u fun r len T S O M P L N => cond (Nat.beq r 1)
      (cond (Nat.beq (zq_b (zq_g T u) v) 1)
        (cond (Nat.beq (Nat.succ len) n)
          (cond (zq_all (fun w => cond (Nat.beq w u) (zq_q n T O M (cond (Nat.ble v u) v u) 2 2 w) (cond (Nat.beq w v) (zq_q n T O M (cond (Nat.ble v u) v u) 2 2 w) (zq_q n T O M w 0 1 w))) n)
            (zq_re n len T S O M P L N 0 u v fun r len T S O M P L N => cond (Nat.beq r 1)
              (cond (zq_all (fun w => Nat.beq (zq_rch n T O M P L v w) (cond (Nat.beq w v) 1 (cond (Nat.beq w u) 1 0))) n)
                (Nat.beq (zq_oe n T O M n) 1) false) false) false) false) false) false) false
noncomputable def zq_run0 (n : Nat) : Bool :=
  zq_fb (zq_i0 n) fun A => zq_fb (zq_m0 n) fun M =>
  cond (zq_all (fun w => zq_q n 0 A M w 0 1 w) n)
    (cond (zq_all (fun v => zq_all (fun w => Nat.beq (zq_rch n 0 A M A A v w) (cond (Nat.beq w v) 1 0)) n) n) (Nat.beq (zq_oe n 0 A M n) 0) false) false
noncomputable def zq_runs (n : Nat) : Bool := zq_all (fun u => zq_all (fun v => cond (Nat.beq u v) true (zq_run n u v)) n) n
end
section
theorem zq_r2 : zq_runs 2 = true := by decide +kernel
theorem zq_r3 : zq_runs 3 = true := by decide +kernel
theorem zq_r4 : zq_runs 4 = true := by decide +kernel
theorem zq_r5 : zq_runs 5 = true := by decide +kernel
theorem zq_r6 : zq_runs 6 = true := by decide +kernel
theorem zq_r7 : zq_runs 7 = true := by decide +kernel
theorem zq_r8 : zq_runs 8 = true := by decide +kernel
theorem zq_r9 : zq_runs 9 = true := by decide +kernel
theorem zq_r10 : zq_runs 10 = true := by decide +kernel
theorem zq_r11 : zq_runs 11 = true := by decide +kernel
theorem zq_r12 : zq_runs 12 = true := by decide +kernel
theorem zq_r13 : zq_runs 13 = true := by decide +kernel
theorem zq_r14 : zq_runs 14 = true := by decide +kernel
theorem zq_r15 : zq_runs 15 = true := by decide +kernel
theorem zq_r16 : zq_runs 16 = true := by decide +kernel
theorem zq_s2 : zq_run0 2 = true := by decide +kernel
theorem zq_s3 : zq_run0 3 = true := by decide +kernel
theorem zq_s4 : zq_run0 4 = true := by decide +kernel
theorem zq_s5 : zq_run0 5 = true := by decide +kernel
theorem zq_s6 : zq_run0 6 = true := by decide +kernel
theorem zq_s7 : zq_run0 7 = true := by decide +kernel
theorem zq_s8 : zq_run0 8 = true := by decide +kernel
theorem zq_s9 : zq_run0 9 = true := by decide +kernel
theorem zq_s10 : zq_run0 10 = true := by decide +kernel
theorem zq_s11 : zq_run0 11 = true := by decide +kernel
theorem zq_s12 : zq_run0 12 = true := by decide +kernel
theorem zq_s13 : zq_run0 13 = true := by decide +kernel
theorem zq_s14 : zq_run0 14 = true := by decide +kernel
theorem zq_s15 : zq_run0 15 = true := by decide +kernel
theorem zq_s16 : zq_run0 16 = true := by decide +kernel
end
section
/-! ===== the walk of the read-only methods ===== -/
section
variable {post : Int32 → Prop} {f0 f1 f2 y y2 : Int32} {a1 a2 a3 a4 a5 a6 a7 a8 a9 : Nat → Int32} {n T S O M P L N Q x : Nat}
theorem zq_or0 {i : Nat} (h : zq_b x i = 0) : zq_or T x (i + 1) = zq_or T x i := zq_c0 h
theorem zq_or1 {i : Nat} (h : ¬ zq_b x i = 0) : zq_or T x (i + 1) = zq_or T x i ||| zq_g T i := zq_c1 h
theorem zq_ld0 {i : Nat} (h : zq_b x i = 0) : zq_ld O x (i + 1) = zq_ld O x i := zq_c0 h
theorem zq_ld1 {i : Nat} (h : ¬ zq_b x i = 0) : zq_ld O x (i + 1) = zq_ld O x i ||| 2 ^ zq_h O i := zq_c1 h
theorem zq_toK (hn : n ≤ 16) (hy : y = nI x) (h : post (nI (zq_or T x n))) : wpX_targetsOf post (nI n, f1, f2, zq_W T, a2, a3, a4, a5, a6, a7, a8, a9) y := by
  subst hy
  exact pk_loop (fun k i s => wX_targetsOf_4 post (nI x) (nI n) f1 f2 (zq_W T) a2 a3 a4 a5 a6 a7 a8 a9 k s (nI i)) (fun i s => s = nI (zq_or T x i)) n 0 0 (by omega) rfl
    (fun k s e => pk_le n n (fun _ => ek_v e h) (fun z => absurd z (by omega)))
    (fun k i s hi e hw => pk_le n i (fun z => absurd z (by omega)) (fun _ => ek_if (zq_bit0 x (by omega)) (fun hb => nm_r (nI_1 i) (hw s (e.trans (congrArg nI (zq_or0 hb).symm))))
      (fun hb => ⟨pk_in i 16 (by omega), nm_r (e' := nI (zq_or T x (i + 1))) (by rw [show s = nI (zq_or T x i) from e, zq_Wc T (show i < 2 ^ 31 by omega), zq_or1 hb]; exact zq_nor _ _) (nm_r (nI_1 i) (hw _ rfl))⟩)))
theorem zq_soK (hn : n ≤ 16) (hy : y = nI x) (h : post (nI (zq_or S x n))) : wpX_sourcesOf post (nI n, f1, f2, a1, zq_W S, a3, a4, a5, a6, a7, a8, a9) y := by
  subst hy
  exact pk_loop (fun k i s => wX_sourcesOf_4 post (nI x) (nI n) f1 f2 a1 (zq_W S) a3 a4 a5 a6 a7 a8 a9 k s (nI i)) (fun i s => s = nI (zq_or S x i)) n 0 0 (by omega) rfl
    (fun k s e => pk_le n n (fun _ => ek_v e h) (fun z => absurd z (by omega)))
    (fun k i s hi e hw => pk_le n i (fun z => absurd z (by omega)) (fun _ => ek_if (zq_bit0 x (by omega)) (fun hb => nm_r (nI_1 i) (hw s (e.trans (congrArg nI (zq_or0 hb).symm))))
      (fun hb => ⟨pk_in i 16 (by omega), nm_r (e' := nI (zq_or S x (i + 1))) (by rw [show s = nI (zq_or S x i) from e, zq_Wc S (show i < 2 ^ 31 by omega), zq_or1 hb]; exact zq_nor _ _) (nm_r (nI_1 i) (hw _ rfl))⟩)))
theorem zq_ldK (hn : n ≤ 16) (hy : y = nI x) (h : post (nI (zq_ld O x n))) : wpX_leadersOf post (nI n, f1, f2, a1, a2, zq_B O, a4, a5, a6, a7, a8, a9) y := by
  subst hy
  exact pk_loop (fun k i s => wX_leadersOf_4 post (nI x) (nI n) f1 f2 a1 a2 (zq_B O) a4 a5 a6 a7 a8 a9 k s (nI i)) (fun i s => s = nI (zq_ld O x i)) n 0 0 (by omega) rfl
    (fun k s e => pk_le n n (fun _ => ek_v e h) (fun z => absurd z (by omega)))
    (fun k i s hi e hw => pk_le n i (fun z => absurd z (by omega)) (fun _ => ek_if (zq_bit0 x (by omega)) (fun hb => nm_r (nI_1 i) (hw s (e.trans (congrArg nI (zq_ld0 hb).symm))))
      (fun hb => ⟨pk_in i 16 (by omega), nm_r (e' := nI (zq_ld O x (i + 1))) (by rw [show s = nI (zq_ld O x i) from e, zq_Bc O (show i < 2 ^ 31 by omega), zq_sh1 _ (zq_hlt O i), zq_ld1 hb]; exact zq_nor _ _) (nm_r (nI_1 i) (hw _ rfl))⟩)))
theorem zq_biK (hy : y = nI x) (h : post (nI (zq_bi x 16))) : wpX_bitsIn post (f0, f1, f2, a1, a2, a3, a4, a5, a6, a7, a8, a9) y := by
  subst hy
  exact pk_loop (fun k i s => wX_bitsIn_4 post (nI x) f0 f1 f2 a1 a2 a3 a4 a5 a6 a7 a8 a9 k s (nI i)) (fun i s => s = nI (zq_bi x i)) 16 0 0 (by omega) rfl
    (fun k s e => pk_le 16 16 (fun _ => ek_v e h) (fun z => absurd z (by omega)))
    (fun k i s hi e hw => pk_le 16 i (fun z => absurd z (by omega)) (fun _ =>
      nm_r (e' := nI (zq_bi x (i + 1))) (by rw [show s = nI (zq_bi x i) from e, zq_bitv x (by omega)]; exact nI_add _ _) (nm_r (nI_1 i) (hw _ rfl))))
theorem zq_lwS (x : Nat) : ∀ f i, zq_lw x f i ≤ i + f := by
  intro f
  induction f with
  | zero => intro i; exact Nat.le_refl _
  | succ f ih =>
    intro i
    by_cases hb : zq_b x i = 0
    · have e : zq_lw x (f + 1) i = zq_lw x f (i + 1) := zq_c0 hb
      have := ih (i + 1)
      omega
    · have e : zq_lw x (f + 1) i = i := zq_c1 hb
      omega
theorem zq_lwl (x : Nat) : zq_lw x 15 0 < 16 := by have := zq_lwS x 15 0; omega
theorem zq_lwL : ∀ f i, i + f = 15 → post (nI (zq_lw x f i)) → wX_lowest_2 post (nI x) f0 f1 f2 a1 a2 a3 a4 a5 a6 a7 a8 a9 (f + 1) (nI i) := by
  intro f
  induction f with
  | zero => exact fun i hi h => pk_le 15 i (fun _ => h) (fun z => absurd z (by omega))
  | succ f ih =>
    intro i hi h
    exact pk_le 15 i (fun z => absurd z (by omega)) (fun _ => ek_if (zq_bit0 x (by omega)) (fun hb => nm_r (nI_1 i) (ih (i + 1) (by omega) (ek_v (P := fun z => post (nI z)) (zq_c0 (y := i) hb).symm h))) (fun hb => ek_v (P := fun z => post (nI z)) (zq_c1 (x := zq_lw x f (i + 1)) hb).symm h))
theorem zq_lwK (hy : y = nI x) (h : post (nI (zq_lw x 15 0))) : wpX_lowest post (f0, f1, f2, a1, a2, a3, a4, a5, a6, a7, a8, a9) y := by
  subst hy
  exact ⟨16, zq_lwL 15 0 rfl h⟩
theorem zq_fwS (a m0 k : Nat) : zq_fw n T O M L a m0 (k + 1) = cond (Nat.beq (zq_b (zq_fw n T O M L a m0 k) (zq_h L (a + k))) 0) (zq_fw n T O M L a m0 k) (zq_fw n T O M L a m0 k ||| zq_ld O (zq_or T (zq_g M (zq_h L (a + k))) n) n) :=
  zq_fc_eq (zq_fw n T O M L a m0 k) (fun m => cond (Nat.beq (zq_b m (zq_h L (a + k))) 0) m (m ||| zq_ld O (zq_or T (zq_g M (zq_h L (a + k))) n) n))
theorem zq_bwS (a m0 k : Nat) : zq_bw n S O M L a m0 (k + 1) = cond (Nat.beq (zq_b (zq_bw n S O M L a m0 k) (zq_h L (a - k))) 0) (zq_bw n S O M L a m0 k) (zq_bw n S O M L a m0 k ||| zq_ld O (zq_or S (zq_g M (zq_h L (a - k))) n) n) :=
  zq_fc_eq (zq_bw n S O M L a m0 k) (fun m => cond (Nat.beq (zq_b m (zq_h L (a - k))) 0) m (m ||| zq_ld O (zq_or S (zq_g M (zq_h L (a - k))) n) n))
theorem zq_fw0 {a m0 k : Nat} (h : zq_b (zq_fw n T O M L a m0 k) (zq_h L (a + k)) = 0) : zq_fw n T O M L a m0 (k + 1) = zq_fw n T O M L a m0 k := (zq_fwS a m0 k).trans (zq_c0 h)
theorem zq_fw1 {a m0 k : Nat} (h : ¬ zq_b (zq_fw n T O M L a m0 k) (zq_h L (a + k)) = 0) : zq_fw n T O M L a m0 (k + 1) = zq_fw n T O M L a m0 k ||| zq_ld O (zq_or T (zq_g M (zq_h L (a + k))) n) n := (zq_fwS a m0 k).trans (zq_c1 h)
theorem zq_bw0 {a m0 k : Nat} (h : zq_b (zq_bw n S O M L a m0 k) (zq_h L (a - k)) = 0) : zq_bw n S O M L a m0 (k + 1) = zq_bw n S O M L a m0 k := (zq_bwS a m0 k).trans (zq_c0 h)
theorem zq_bw1 {a m0 k : Nat} (h : ¬ zq_b (zq_bw n S O M L a m0 k) (zq_h L (a - k)) = 0) : zq_bw n S O M L a m0 (k + 1) = zq_bw n S O M L a m0 k ||| zq_ld O (zq_or S (zq_g M (zq_h L (a - k))) n) n := (zq_bwS a m0 k).trans (zq_c1 h)
theorem zq_fwK {c b : Nat} (hn : n ≤ 16) (hc : c < 16) (hb : b < 16) (hl : zq_h P c ≤ b) (hy : y = nI c) (hy2 : y2 = nI b) (h : post (nI (zq_fw n T O M L (zq_h P c) (2 ^ c) (b + 1 - zq_h P c)))) :
    wpX_forwardUpTo post (nI n, f1, f2, zq_W T, a2, zq_B O, zq_W M, zq_B P, zq_B L, a7, a8, a9) y y2 := by
  subst hy hy2
  refine nm_r (zq_sh1 c hc) ⟨pk_in c 16 hc, nm_r (zq_Bc P (by omega)) ?_⟩
  generalize ha : zq_h P c = a at *
  refine pk_loop (fun fu k s => wX_forwardUpTo_12 post (nI b) (nI n) f1 f2 (zq_W T) a2 (zq_B O) (zq_W M) (zq_B P) (zq_B L) a7 a8 a9 fu s (nI (a + k))) (fun k s => s = nI (zq_fw n T O M L a (2 ^ c) k)) (b + 1 - a) 0 _ (by omega) rfl
    (fun fu s e => pk_lt b (a + (b + 1 - a)) (fun _ => ek_v e h) (fun z => absurd z (by omega))) ?_
  intro fu k s hk e hw
  have e' : s = nI (zq_fw n T O M L a (2 ^ c) k) := e
  subst e'
  refine pk_lt b (a + k) (fun z => absurd z (by omega)) (fun _ => ⟨pk_in (a + k) 16 (by omega), nm_r (zq_Bc L (by omega)) (ek_if (zq_bit0 _ (zq_hlt L _)) (fun hb => nm_r (nI_1 _) (hw _ (congrArg nI (zq_fw0 hb).symm))) (fun hb => ⟨pk_in _ 16 (zq_hlt L _), ?_⟩))⟩)
  exact zq_toK hn (zq_Wc M (Nat.lt_trans (zq_hlt L _) (by decide))) (zq_ldK hn rfl (nm_r (zq_nor _ _) (nm_r (nI_1 _) (hw _ (congrArg nI (zq_fw1 hb).symm)))))
theorem zq_bwK {c b : Nat} (hn : n ≤ 16) (hc : c < 16) (hl : b ≤ zq_h P c) (hy : y = nI c) (hy2 : y2 = nI b) (h : post (nI (zq_bw n S O M L (zq_h P c) (2 ^ c) (zq_h P c + 1 - b)))) :
    wpX_backwardDownTo post (nI n, f1, f2, a1, zq_W S, zq_B O, zq_W M, zq_B P, zq_B L, a7, a8, a9) y y2 := by
  subst hy hy2
  refine nm_r (zq_sh1 c hc) ⟨pk_in c 16 hc, nm_r ((zq_Bc P (by omega)).trans (pk_m1 _).symm) ?_⟩
  have hh : zq_h P c < 16 := zq_hlt P c
  generalize ha : zq_h P c = a at *
  refine pk_loop (fun fu k s => wX_backwardDownTo_12 post (nI b) (nI n) f1 f2 a1 (zq_W S) (zq_B O) (zq_W M) (zq_B P) (zq_B L) a7 a8 a9 fu s (nI (a + 1 - k) + (-1))) (fun k s => s = nI (zq_bw n S O M L a (2 ^ c) k)) (a + 1 - b) 0 _ (by omega) rfl
    (fun fu s e => br_t (by rw [show a + 1 - (a + 1 - b) = b by omega]; exact zq_m1lt b (by omega)) (ek_v e h)) ?_
  intro fu k s hk e hw
  have e' : s = nI (zq_bw n S O M L a (2 ^ c) k) := e
  subst e'
  have hx : nI (a + 1 - k) + (-1) = nI (a - k) := by rw [show a + 1 - k = (a - k) + 1 by omega, pk_m1]
  have hx2 : nI (a - k) + (-1) = nI (a + 1 - (k + 1)) + (-1) := by rw [show a + 1 - (k + 1) = a - k by omega]
  show wX_backwardDownTo_12 post (nI b) (nI n) f1 f2 a1 (zq_W S) (zq_B O) (zq_W M) (zq_B P) (zq_B L) a7 a8 a9 (fu + 1) _ (nI (a + 1 - k) + (-1))
  rw [hx]
  refine pk_lt (a - k) b (fun z => absurd z (by omega)) (fun _ => ⟨pk_in (a - k) 16 (by omega), nm_r (zq_Bc L (by omega)) (ek_if (zq_bit0 _ (zq_hlt L _)) (fun hb => nm_r hx2 (hw _ (congrArg nI (zq_bw0 hb).symm))) (fun hb => ⟨pk_in _ 16 (zq_hlt L _), ?_⟩))⟩)
  exact zq_soK hn (zq_Wc M (Nat.lt_trans (zq_hlt L _) (by decide))) (zq_ldK hn rfl (nm_r (zq_nor _ _) (nm_r hx2 (hw _ (congrArg nI (zq_bw1 hb).symm)))))
theorem zq_lbK {a b : Nat} (hb : b < 16) (hl : a ≤ b) (hy : y = nI a) (hy2 : y2 = nI b) (h : post (nI (zq_lb L a (b + 1 - a)))) :
    wpX_leadersBetween post (f0, f1, f2, a1, a2, a3, a4, a5, zq_B L, a7, a8, a9) y y2 := by
  subst hy hy2
  exact pk_loop (fun fu k s => wX_leadersBetween_5 post (nI b) f0 f1 f2 a1 a2 a3 a4 a5 (zq_B L) a7 a8 a9 fu s (nI (a + k))) (fun k s => s = nI (zq_lb L a k)) (b + 1 - a) 0 0 (by omega) rfl
    (fun fu s e => pk_lt b (a + (b + 1 - a)) (fun _ => ek_v e h) (fun z => absurd z (by omega)))
    (fun fu k s hk e hw => pk_lt b (a + k) (fun z => absurd z (by omega)) (fun _ => ⟨pk_in (a + k) 16 (by omega),
      nm_r (e' := nI (zq_lb L a (k + 1))) (by rw [show s = nI (zq_lb L a k) from e, zq_Bc L (show a + k < 2 ^ 31 by omega), zq_sh1 _ (zq_hlt L _)]; exact zq_nor _ _) (nm_r (nI_1 _) (hw _ rfl))⟩))
/-! waves -/
theorem zq_wvE (T n X m w : Nat) : (nI (zq_or T w n) &&& nI X) &&& (nI m ^^^ (-1)) = nI (zq_wv T n X m w) := by
  rw [zq_not, zq_nand, zq_nand]
  rfl
theorem zq_sp0 {X f m w : Nat} (h : w % 4294967296 = 0) : zq_sp T n X (f + 1) m w = m := zq_zt h
theorem zq_sp1 {X f m w : Nat} (h : ¬ w % 4294967296 = 0) : zq_sp T n X (f + 1) m w = zq_sp T n X f (m ||| zq_wv T n X m w) (zq_wv T n X m w) :=
  (zq_zf h).trans ((zq_fc_eq _ _).trans (zq_fc_eq _ _))
theorem zq_spL {X : Nat} (hn : n ≤ 16) : ∀ f i m w, i + f = 16 → post (nI (zq_sp T n X f m w)) → wX_spreadWithin_8 post (nI X) (nI n) f1 f2 (zq_W T) a2 a3 a4 a5 a6 a7 a8 a9 (f + 1) (nI m) (nI w) (nI i) := by
  intro f
  induction f with
  | zero => exact fun i m w hi h => pk_le 16 i (fun _ => h) (fun z => absurd z (by omega))
  | succ f ih =>
    intro i m w hi h
    exact pk_le 16 i (fun z => absurd z (by omega)) (fun _ => ek_if (zq_z0 w) (fun hz => ek_v (P := fun z => post (nI z)) (zq_sp0 hz).symm h) (fun hz =>
      zq_toK hn rfl (nm_r (zq_wvE T n X m w) (nm_r (zq_nor _ _) (nm_r (nI_1 i) (ih (i + 1) _ _ (by omega) (ek_v (P := fun z => post (nI z)) (zq_sp1 hz).symm h)))))))
theorem zq_spK {X : Nat} (hn : n ≤ 16) (hy : y = nI x) (hy2 : y2 = nI X) (h : post (nI (zq_sp T n X 16 x x))) : wpX_spreadWithin post (nI n, f1, f2, zq_W T, a2, a3, a4, a5, a6, a7, a8, a9) y y2 := by
  subst hy hy2
  exact ⟨17, zq_spL hn 16 0 x x rfl h⟩
theorem zq_gaL {X : Nat} (hn : n ≤ 16) : ∀ f i m w, i + f = 16 → post (nI (zq_sp S n X f m w)) → wX_gatherWithin_8 post (nI X) (nI n) f1 f2 a1 (zq_W S) a3 a4 a5 a6 a7 a8 a9 (f + 1) (nI m) (nI w) (nI i) := by
  intro f
  induction f with
  | zero => exact fun i m w hi h => pk_le 16 i (fun _ => h) (fun z => absurd z (by omega))
  | succ f ih =>
    intro i m w hi h
    exact pk_le 16 i (fun z => absurd z (by omega)) (fun _ => ek_if (zq_z0 w) (fun hz => ek_v (P := fun z => post (nI z)) (zq_sp0 hz).symm h) (fun hz =>
      zq_soK hn rfl (nm_r (zq_wvE S n X m w) (nm_r (zq_nor _ _) (nm_r (nI_1 i) (ih (i + 1) _ _ (by omega) (ek_v (P := fun z => post (nI z)) (zq_sp1 hz).symm h)))))))
theorem zq_gaK {X : Nat} (hn : n ≤ 16) (hy : y = nI x) (hy2 : y2 = nI X) (h : post (nI (zq_sp S n X 16 x x))) : wpX_gatherWithin post (nI n, f1, f2, a1, zq_W S, a3, a4, a5, a6, a7, a8, a9) y y2 := by
  subst hy hy2
  exact ⟨17, zq_gaL hn 16 0 x x rfl h⟩
/-- cycle's answer: 0 stands for NONE -/
def zq_ca (c : Nat) : Int32 := match c with
  | 0 => -2
  | c + 1 => nI (c + 1)
theorem zq_cy0 {X u f w m st : Nat} (h : w % 4294967296 = 0) : zq_cy T n X u (f + 1) w m st = 0 := zq_zt h
theorem zq_cy1 {X u f w m st : Nat} (h : ¬ w % 4294967296 = 0) (hb : zq_b m u = 0) : zq_cy T n X u (f + 1) w m st = zq_cy T n X u f (zq_wv T n X m w) (m ||| zq_wv T n X m w) (st + 1) :=
  (zq_zf h).trans ((zq_c0 hb).trans ((zq_fc_eq _ _).trans (zq_fc_eq _ _)))
theorem zq_cy2 {X u f w m st : Nat} (h : ¬ w % 4294967296 = 0) (hb : ¬ zq_b m u = 0) : zq_cy T n X u (f + 1) w m st = st := (zq_zf h).trans (zq_c1 hb)
theorem zq_cyL {X u : Nat} (hn : n ≤ 16) (hu : u < 16) : ∀ f st w m, st + 1 + f = 17 → post (zq_ca (zq_cy T n X u f w m (st + 1))) → wX_cycle_37 post (nI u) (nI X) (nI n) f1 f2 (zq_W T) a2 a3 a4 a5 a6 a7 a8 a9 (f + 1) (nI w) (nI m) (nI (st + 1)) := by
  intro f
  induction f with
  | zero => exact fun st w m hi h => pk_lt 16 (st + 1) (fun _ => h) (fun z => absurd z (by omega))
  | succ f ih =>
    intro st w m hi h
    exact pk_lt 16 (st + 1) (fun z => absurd z (by omega)) (fun _ => ek_if (zq_z0 w) (fun hz => ek_v (P := fun z => post (zq_ca z)) (zq_cy0 hz).symm h) (fun hz =>
      ek_if (zq_bit0 m hu) (fun hb => zq_toK hn rfl (nm_r (zq_wvE T n X m w) (nm_r (zq_nor _ _) (nm_r (nI_1 _) (ih (st + 1) _ _ (by omega) (ek_v (P := fun z => post (zq_ca z)) (zq_cy1 hz hb).symm h))))))
        (fun hb => ek_v (P := fun z => post (zq_ca z)) (zq_cy2 hz hb).symm h)))
theorem zq_sr0 {W f i : Nat} (h : (zq_g Q i &&& W) % 4294967296 = 0) : zq_sr S Q n W (f + 1) i = zq_sr S Q n W f (i + 1) := zq_zt h
theorem zq_sr1 {W f i : Nat} (h : ¬ (zq_g Q i &&& W) % 4294967296 = 0) (h2 : zq_wv S n W (zq_g Q i) (zq_g Q i) % 4294967296 = 0) : zq_sr S Q n W (f + 1) i = zq_g Q i := (zq_zf h).trans (zq_zt h2)
theorem zq_sr2 {W f i : Nat} (h : ¬ (zq_g Q i &&& W) % 4294967296 = 0) (h2 : ¬ zq_wv S n W (zq_g Q i) (zq_g Q i) % 4294967296 = 0) : zq_sr S Q n W (f + 1) i = zq_sr S Q n W f (i + 1) := (zq_zf h).trans (zq_zf h2)
theorem zq_srL {W c : Nat} (hn : n ≤ 16) (hc : c ≤ 16) : ∀ f i, i + f = c → post (nI (zq_sr S Q n W f i)) → wX_sourcePiece_2 post (nI c) (nI W) (nI n) f1 f2 a1 (zq_W S) a3 a4 a5 a6 a7 a8 (zq_W Q) (f + 1) (nI i) := by
  intro f
  induction f with
  | zero => exact fun i hi h => pk_le c i (fun _ => h) (fun z => absurd z (by omega))
  | succ f ih =>
    intro i hi h
    refine pk_le c i (fun z => absurd z (by omega)) (fun _ => ⟨pk_in i 16 (by omega), nm_r (zq_Wc Q (by omega)) ?_⟩)
    refine ek_if (c := (nI (zq_g Q i) &&& nI W) = 0) (by rw [zq_nand]; exact zq_z0 _) (fun hz => nm_r (nI_1 i) (ih (i + 1) (by omega) (ek_v (P := fun z => post (nI z)) (zq_sr0 hz).symm h))) (fun hz => zq_soK hn rfl (nm_r (zq_wvE S n W (zq_g Q i) (zq_g Q i)) ?_))
    exact ek_if (zq_z0 _) (fun hz2 => ek_v (P := fun z => post (nI z)) (zq_sr1 hz hz2).symm h) (fun hz2 => nm_r (nI_1 i) (ih (i + 1) (by omega) (ek_v (P := fun z => post (nI z)) (zq_sr2 hz hz2).symm h)))
theorem zq_srK {W c : Nat} (hn : n ≤ 16) (hc : c ≤ 16) (hy : y = nI c) (hy2 : y2 = nI W) (h : post (nI (zq_sr S Q n W c 0))) : wpX_sourcePiece post (nI n, f1, f2, a1, zq_W S, a3, a4, a5, a6, a7, a8, zq_W Q) y y2 := by
  subst hy hy2
  exact ⟨c + 1, zq_srL hn hc c 0 (Nat.zero_add c) h⟩
/-! the questions -/
theorem zq_ivT {u : Nat} (hn : n ≤ 16) (hu : u < n) (hy : y = nI u) (h : post 1) : wpX_isVertex post (nI n, f1, f2, a1, a2, a3, a4, a5, a6, a7, a8, a9) y := by
  subst hy
  exact br_f (nI_pos (by omega)) (br_f (nI_ge hu (by omega)) h)
theorem zq_ivF (hx : y < 0 ∨ nI n ≤ y) (h : post 0) : wpX_isVertex post (nI n, f1, f2, a1, a2, a3, a4, a5, a6, a7, a8, a9) y :=
  ⟨fun _ => h, fun z => br_t (hx.elim (fun t => absurd t z) id) h⟩
theorem zq_leT {u : Nat} (hn : n ≤ 16) (hu : u < n) (h : post (nI (zq_h O u))) : wpX_leader post (nI n, f1, f2, a1, a2, zq_B O, a4, a5, a6, a7, a8, a9) (nI u) := by
  unfold wpX_leader; dsimp only
  refine zq_ivT hn hu rfl (br_f (by decide) ⟨pk_in u 16 (by omega), ?_⟩)
  rw [zq_Bc O (show u < 2 ^ 31 by omega)]
  exact h
theorem zq_leF (hx : y < 0 ∨ nI n ≤ y) (h : post (-1)) : wpX_leader post (nI n, f1, f2, a1, a2, a3, a4, a5, a6, a7, a8, a9) y := by
  unfold wpX_leader; dsimp only
  exact zq_ivF hx (br_t rfl h)
theorem zq_cyT {u : Nat} (hn : n ≤ 16) (hu : u < n) (h : post (zq_ca (zq_cyc n T O M u))) : wpX_cycle post (nI n, f1, f2, zq_W T, a2, zq_B O, zq_W M, a5, a6, a7, a8, a9) (nI u) := by
  have h2 : post (zq_ca (zq_cy T n (zq_g M (zq_h O u)) u 16 (zq_g T u &&& zq_g M (zq_h O u)) (zq_g T u &&& zq_g M (zq_h O u)) (0 + 1))) := by
    unfold zq_cyc at h
    rw [zq_fc_eq, zq_fc_eq] at h
    exact h
  unfold wpX_cycle; dsimp only
  refine zq_ivT hn hu rfl (br_f (by decide) ⟨pk_in u 16 (by omega), ?_⟩)
  rw [zq_Bc O (show u < 2 ^ 31 by omega)]
  refine ⟨pk_in _ 16 (zq_hlt O u), nm_r (zq_Wc M (Nat.lt_trans (zq_hlt O u) (by decide))) ⟨pk_in u 16 (by omega), nm_r (e' := nI (zq_g T u &&& zq_g M (zq_h O u))) (by rw [zq_Wc T (show u < 2 ^ 31 by omega)]; exact zq_nand _ _) ⟨17, ?_⟩⟩⟩
  exact zq_cyL hn (by omega) 16 0 _ _ rfl h2
theorem zq_cyF (hx : y < 0 ∨ nI n ≤ y) (h : post (-1)) : wpX_cycle post (nI n, f1, f2, a1, a2, a3, a4, a5, a6, a7, a8, a9) y := by
  unfold wpX_cycle; dsimp only
  exact zq_ivF hx (br_t rfl h)
theorem zq_csT {u : Nat} (hn : n ≤ 16) (hu : u < n) (h : post (nI (zq_bi (zq_g M (zq_h O u)) 16))) : wpX_componentSize post (nI n, f1, f2, a1, a2, zq_B O, zq_W M, a5, a6, a7, a8, a9) (nI u) := by
  unfold wpX_componentSize; dsimp only
  exact zq_ivT hn hu rfl (br_f (by decide) ⟨pk_in u 16 (by omega), nm_r (zq_Bc O (by omega)) ⟨pk_in _ 16 (zq_hlt O u), zq_biK (zq_Wc M (Nat.lt_trans (zq_hlt O u) (by decide))) h⟩⟩)
theorem zq_csF (hx : y < 0 ∨ nI n ≤ y) (h : post (-1)) : wpX_componentSize post (nI n, f1, f2, a1, a2, a3, a4, a5, a6, a7, a8, a9) y := by
  unfold wpX_componentSize; dsimp only
  exact zq_ivF hx (br_t rfl h)
theorem zq_oeK (hn : n ≤ 16) (h : post (nI (zq_oe n T O M n))) : wpX_outerEdges post (nI n, f1, f2, zq_W T, a2, zq_B O, zq_W M, a5, a6, a7, a8, a9) := by
  refine pk_loop (fun k i s => wX_outerEdges_4 post (nI n) f1 f2 (zq_W T) a2 (zq_B O) (zq_W M) a5 a6 a7 a8 a9 k s (nI i)) (fun i s => s = nI (zq_oe n T O M i)) n 0 0 (by omega) rfl
    (fun k s e => pk_le n n (fun _ => ek_v e h) (fun z => absurd z (by omega))) ?_
  intro k i s hi e hw
  have e' : s = nI (zq_oe n T O M i) := e
  subst e'
  refine pk_le n i (fun z => absurd z (by omega)) (fun _ => ⟨pk_in i 16 (by omega), pk_in i 16 (by omega), ?_⟩)
  rw [zq_Bc O (show i < 2 ^ 31 by omega), zq_Wc T (show i < 2 ^ 31 by omega), zq_Wc M (Nat.lt_trans (zq_hlt O i) (by decide))]
  exact ⟨pk_in _ 16 (zq_hlt O i), zq_biK (x := zq_g T i &&& (zq_g M (zq_h O i) ^^^ 4294967295)) (by rw [zq_not, zq_nand]) (nm_r (nI_add _ _) (nm_r (nI_1 i) (hw _ rfl)))⟩
theorem zq_b1 {x k : Nat} (h : ¬ zq_b x k = 0) : 1 = zq_b x k := by
  have := zq_blt x k
  omega
theorem zq_rcT {u v : Nat} (hn : n ≤ 16) (hu : u < n) (hv : v < n) (h : post (nI (zq_rch n T O M P L u v))) : wpX_reaches post (nI n, f1, f2, zq_W T, a2, zq_B O, zq_W M, zq_B P, zq_B L, a7, a8, a9) (nI u) (nI v) := by
  have h2 := h
  unfold zq_rch at h2
  rw [zq_fc_eq, zq_fc_eq, zq_fc_eq, zq_fc_eq] at h2
  have ho := zq_hlt O u
  have ho2 := zq_hlt O v
  have hp := zq_hlt P (zq_h O u)
  have hp2 := zq_hlt P (zq_h O v)
  unfold wpX_reaches; dsimp only
  refine zq_ivT hn hu rfl (br_f (by decide) (zq_ivT hn hv rfl (br_f (by decide) ⟨pk_in u 16 (by omega), nm_r (zq_Bc O (by omega)) ⟨pk_in v 16 (by omega), nm_r (zq_Bc O (by omega)) ⟨pk_in _ 16 ho, pk_in _ 16 ho2, ?_⟩⟩⟩)))
  rw [zq_Bc P (show zq_h O u < 2 ^ 31 by omega), zq_Bc P (show zq_h O v < 2 ^ 31 by omega)]
  refine pk_le (zq_h P (zq_h O u)) (zq_h P (zq_h O v)) (fun z => ⟨pk_in _ 16 ho2, ?_⟩) (fun z => ?_)
  · have e : Nat.ble (zq_h P (zq_h O u)) (zq_h P (zq_h O v)) = true := Nat.ble_eq_true_of_le z
    rw [e] at h2
    refine zq_fwK hn ho hp2 z rfl rfl ?_
    refine ek_if (zq_bit0 _ ho2) (fun hb => ?_) (fun hb => ?_)
    · exact ek_v (P := fun z => post (nI z)) hb.symm h2
    · exact ek_v (P := fun z => post (nI z)) (zq_b1 hb) h2
  · have e : Nat.ble (zq_h P (zq_h O u)) (zq_h P (zq_h O v)) = false := Bool.eq_false_iff.mpr (fun t => absurd (Nat.le_of_ble_eq_true t) (by omega))
    rw [e] at h2
    exact h2
theorem zq_rcF (hx : (y < 0 ∨ nI n ≤ y) ∨ (y2 < 0 ∨ nI n ≤ y2)) (h : post 0) : wpX_reaches post (nI n, f1, f2, a1, a2, a3, a4, a5, a6, a7, a8, a9) y y2 := by
  by_cases hy : y < 0 ∨ nI n ≤ y
  · unfold wpX_reaches; dsimp only
    exact zq_ivF hy (br_t rfl h)
  · have hy2 := hx.resolve_left hy
    have h1 : ¬ y < 0 := fun z => hy (Or.inl z)
    have h2 : ¬ nI n ≤ y := fun z => hy (Or.inr z)
    exact br_f h1 (br_f h2 (br_f (by decide) (zq_ivF hy2 (br_t rfl h))))
end
end
section
/-! ===== the walk of the methods that store ===== -/
section
variable {post : Int32 → Prop} {pst : Int32 → St2 → Prop} {pss : St2 → Prop} {f0 f1 f2 y y2 : Int32} {a1 a2 a3 a4 a5 a6 a7 a8 a9 : Nat → Int32} {n len T S O M P L N Q x : Nat}
  {k : Nat → Nat → Nat → Nat → Nat → Nat → Nat → Nat → Nat → Bool}
theorem zq_cb {c x : Bool} (h : cond c x false = true) : c = true ∧ x = true := by
  cases c
  · exact absurd (show false = true from h) (by decide)
  · exact ⟨rfl, h⟩
theorem zq_apK {m c : Nat} (hm : m < 16) (hc : c < 16) (hy : y = nI c) (h : pss (f0, f1, nI (m + 1), a1, a2, a3, a4, a5, a6, zq_B (zq_t N m c), a8, a9)) : wpX_append pss (f0, f1, nI m, a1, a2, a3, a4, a5, a6, zq_B N, a8, a9) y := by
  subst hy
  exact ⟨pk_in m 16 hm, nm_r (e' := zq_B (zq_t N m c)) (by rw [nI_clamp (show m < 2 ^ 31 by omega), zq_by c hc]; exact zq_uB N m hc) (nm_r (nI_1 m) h)⟩
theorem zq_adK {m : Nat} (hm : m ≤ 16) (h : pss (f0, nI m, nI m, a1, a2, a3, a4, zq_B (zq_aP N P m), zq_B (zq_aL N L m), zq_B N, a8, a9)) : wpX_adoptLine pss (f0, f1, nI m, a1, a2, a3, a4, zq_B P, zq_B L, zq_B N, a8, a9) := by
  refine pk_loop (σ := Unit) (fun fu i _ => wX_adoptLine_10 pss f0 (nI m) (nI m) fu (nI i) a1 a2 a3 a4 (zq_B (zq_aP N P i)) (zq_B (zq_aL N L i)) (zq_B N) a8 a9) (fun _ _ => True) m 0 () (by omega) trivial (fun fu _ _ => pk_le m m (fun _ => h) (fun z => absurd z (by omega))) ?_
  intro fu i _ hi _ hw
  have hN := zq_hlt N i
  refine pk_le m i (fun z => absurd z (by omega)) (fun _ => ⟨pk_in i 16 (by omega), pk_in i 16 (by omega), nm_r (e' := zq_B (zq_aL N L (i + 1))) ?_ ⟨pk_in i 16 (by omega), ?_⟩⟩)
  · rw [nI_clamp (show i < 2 ^ 31 by omega), vp_nar_byte]
    show upd (zq_B (zq_aL N L i)) i (nI (zq_h N i)).toInt8.toInt32 = _
    rw [zq_by _ hN]
    exact zq_uB _ _ hN
  · have e : zq_B (zq_aL N L (i + 1)) (nI i).toNatClampNeg = nI (zq_h N i) := by
      rw [zq_Bc _ (show i < 2 ^ 31 by omega)]
      show nI (zq_h (zq_t (zq_aL N L i) i (zq_h N i)) i) = _
      rw [zq_ht, if_pos rfl, Nat.mod_eq_of_lt hN]
    rw [e]
    exact ⟨pk_in _ 16 hN, nm_r (e' := zq_B (zq_aP N P (i + 1))) (by rw [nI_clamp (Nat.lt_trans hN (by decide)), zq_by i (by omega)]; exact zq_uB _ _ (by omega)) (nm_r (nI_1 i) (hw () trivial))⟩
theorem zq_cl0 {c i : Nat} (h : zq_b x i = 0) : zq_cl O x c (i + 1) = zq_cl O x c i := zq_c0 h
theorem zq_cl1 {c i : Nat} (h : ¬ zq_b x i = 0) : zq_cl O x c (i + 1) = zq_t (zq_cl O x c i) i c := zq_c1 h
theorem zq_clK (hn : n ≤ 16) (hy : y = nI x) (h : pst (nI (zq_lw x 15 0)) (nI n, f1, f2, a1, a2, zq_B (zq_cl O x (zq_lw x 15 0) n), zq_W (zq_s M (zq_lw x 15 0) x), a5, a6, a7, a8, a9)) :
    wpX_claim pst (nI n, f1, f2, a1, a2, zq_B O, zq_W M, a5, a6, a7, a8, a9) y := by
  subst hy
  unfold wpX_claim; dsimp only
  have hc := zq_lwl x
  refine zq_lwK rfl ⟨pk_in _ 16 hc, nm_r (e' := zq_W (zq_s M (zq_lw x 15 0) x)) (by rw [nI_clamp (Nat.lt_trans hc (by decide))]; exact zq_uW _ _ _) ?_⟩
  generalize zq_lw x 15 0 = c at *
  exact pk_loop (fun fu i s => wX_claim_15 pst (nI x) (nI c) (nI n) f1 f2 fu (nI i) a1 a2 s (zq_W (zq_s M c x)) a5 a6 a7 a8 a9) (fun i s => s = zq_B (zq_cl O x c i)) n 0 (zq_B O) (by omega) rfl
    (fun fu s e => pk_le n n (fun _ => ek_v (P := fun z => pst (nI c) (nI n, f1, f2, a1, a2, z, zq_W (zq_s M c x), a5, a6, a7, a8, a9)) e h) (fun z => absurd z (by omega)))
    (fun fu i s hi e hw => pk_le n i (fun z => absurd z (by omega)) (fun _ => ek_if (zq_bit0 x (by omega)) (fun hb => nm_r (nI_1 i) (hw s (e.trans (congrArg zq_B (zq_cl0 hb).symm))))
      (fun hb => ⟨pk_in i 16 (by omega), nm_r (e' := zq_B (zq_cl O x c (i + 1))) (by rw [show s = zq_B (zq_cl O x c i) from e, nI_clamp (show i < 2 ^ 31 by omega), zq_by c hc, zq_cl1 hb]; exact zq_uB _ _ hc) (nm_r (nI_1 i) (hw _ rfl))⟩)))
theorem zq_mm0 {i : Nat} (h : zq_b x i = 0) : zq_mm M x (i + 1) = zq_mm M x i := zq_c0 h
theorem zq_mm1 {i : Nat} (h : ¬ zq_b x i = 0) : zq_mm M x (i + 1) = zq_s (zq_mm M x i) i 0 := zq_c1 h
theorem zq_ma0 {i : Nat} (h : zq_b x i = 0) : zq_ma M x (i + 1) = zq_ma M x i := zq_c0 h
theorem zq_ma1 {i : Nat} (h : ¬ zq_b x i = 0) : zq_ma M x (i + 1) = zq_ma M x i ||| zq_g (zq_mm M x i) i := zq_c1 h
theorem zq_meK (hn : n ≤ 16) (hy : y = nI x) (h : pst (nI (zq_lw (zq_ma M x n) 15 0)) (nI n, f1, f2, a1, a2, zq_B (zq_cl O (zq_ma M x n) (zq_lw (zq_ma M x n) 15 0) n), zq_W (zq_s (zq_mm M x n) (zq_lw (zq_ma M x n) 15 0) (zq_ma M x n)), a5, a6, a7, a8, a9)) :
    wpX_melt pst (nI n, f1, f2, a1, a2, zq_B O, zq_W M, a5, a6, a7, a8, a9) y := by
  subst hy
  refine pk_loop (σ := Int32 × (Nat → Int32)) (fun fu i s => wX_melt_4 pst (nI x) (nI n) f1 f2 fu s.1 (nI i) a1 a2 (zq_B O) s.2 a5 a6 a7 a8 a9) (fun i s => s = (nI (zq_ma M x i), zq_W (zq_mm M x i))) n 0 (0, zq_W M) (by omega) rfl ?_ ?_
  · intro fu s e
    have e' : s = (nI (zq_ma M x n), zq_W (zq_mm M x n)) := e
    subst e'
    exact pk_le n n (fun _ => zq_clK hn rfl h) (fun z => absurd z (by omega))
  · intro fu i s hi e hw
    have e' : s = (nI (zq_ma M x i), zq_W (zq_mm M x i)) := e
    subst e'
    refine pk_le n i (fun z => absurd z (by omega)) (fun _ => ek_if (zq_bit0 x (by omega)) (fun hb => nm_r (nI_1 i) (hw (nI (zq_ma M x i), zq_W (zq_mm M x i)) (by rw [zq_ma0 hb, zq_mm0 hb]))) (fun hb => ⟨pk_in i 16 (by omega), ?_⟩))
    exact nm_r (e' := nI (zq_ma M x (i + 1))) (by dsimp only; rw [zq_Wc _ (show i < 2 ^ 31 by omega), zq_ma1 hb]; exact zq_nor _ _) ⟨pk_in i 16 (by omega), nm_r (e' := zq_W (zq_mm M x (i + 1))) (by dsimp only; rw [nI_clamp (show i < 2 ^ 31 by omega), zq_mm1 hb]; exact zq_uW _ _ 0) (nm_r (nI_1 i) (hw (_, _) rfl))⟩
/-! the filtered copy -/
theorem zq_fl1 {X v s d j : Nat} (h : Nat.beq (zq_b X (zq_h L (s + j))) v = true) : zq_fl L X v s d (j + 1) = zq_fl L X v s d j + 1 := by
  show cond (Nat.beq (zq_b X (zq_h L (s + j))) v) _ _ = _
  rw [h]; rfl
theorem zq_fl0 {X v s d j : Nat} (h : Nat.beq (zq_b X (zq_h L (s + j))) v = false) : zq_fl L X v s d (j + 1) = zq_fl L X v s d j := by
  show cond (Nat.beq (zq_b X (zq_h L (s + j))) v) _ _ = _
  rw [h]; rfl
theorem zq_fn1 {X v s d j : Nat} (h : Nat.beq (zq_b X (zq_h L (s + j))) v = true) : zq_fn L X v s d N (j + 1) = zq_t (zq_fn L X v s d N j) (zq_fl L X v s d j) (zq_h L (s + j)) := by
  show cond (Nat.beq (zq_b X (zq_h L (s + j))) v) _ _ = _
  rw [h]; rfl
theorem zq_fn0 {X v s d j : Nat} (h : Nat.beq (zq_b X (zq_h L (s + j))) v = false) : zq_fn L X v s d N (j + 1) = zq_fn L X v s d N j := by
  show cond (Nat.beq (zq_b X (zq_h L (s + j))) v) _ _ = _
  rw [h]; rfl
theorem zq_flM (L X v s d j : Nat) : ∀ i, zq_fl L X v s d j ≤ zq_fl L X v s d (j + i) := by
  intro i
  induction i with
  | zero => exact Nat.le_refl _
  | succ i ih =>
    cases h : Nat.beq (zq_b X (zq_h L (s + (j + i)))) v
    · have e := zq_fl0 (d := d) h
      rw [← Nat.add_assoc, e]; exact ih
    · have e := zq_fl1 (d := d) h
      rw [← Nat.add_assoc, e]; omega
theorem zq_flB (L X v s d : Nat) : ∀ j, zq_fl L X v s d j ≤ d + j := by
  intro j
  induction j with
  | zero => exact Nat.le_refl _
  | succ j ih =>
    cases h : Nat.beq (zq_b X (zq_h L (s + j))) v
    · rw [zq_fl0 h]; omega
    · rw [zq_fl1 h]; omega
theorem zq_bq0 {b : Nat} (h : b = 0) : Nat.beq b 0 = true ∧ Nat.beq b 1 = false := by subst h; exact ⟨rfl, rfl⟩
theorem zq_bq1 {b : Nat} (h : 1 = b) : Nat.beq b 0 = false ∧ Nat.beq b 1 = true := by subst h; exact ⟨rfl, rfl⟩
/-! repairLine, its loops from the last to the first -/
theorem zq_r221 {i0 m : Nat} {x7 : Int32} (hi : i0 ≤ len) (hl : len ≤ 16) (hm : m + (len - i0) ≤ 16)
    (h : pst x7 (f0, nI (m + (len - i0)), nI (m + (len - i0)), a1, a2, a3, a4, zq_B (zq_aP (zq_cp L N i0 m (len - i0)) P (m + (len - i0))), zq_B (zq_aL (zq_cp L N i0 m (len - i0)) L (m + (len - i0))), zq_B (zq_cp L N i0 m (len - i0)), a8, a9)) :
    ∃ fu, wX_repairLine_221 pst x7 fu (nI i0) f0 (nI len) (nI m) a1 a2 a3 a4 (zq_B P) (zq_B L) (zq_B N) a8 a9 :=
  pk_loop (σ := Unit) (fun fu j _ => wX_repairLine_221 pst x7 fu (nI (i0 + j)) f0 (nI len) (nI (m + j)) a1 a2 a3 a4 (zq_B P) (zq_B L) (zq_B (zq_cp L N i0 m j)) a8 a9) (fun _ _ => True) (len - i0) 0 () (by omega) trivial
    (fun fu _ _ => pk_le len (i0 + (len - i0)) (fun _ => zq_adK hm h) (fun z => absurd z (by omega)))
    (fun fu j _ hj _ hw => pk_le len (i0 + j) (fun z => absurd z (by omega)) (fun _ => ⟨pk_in (i0 + j) 16 (by omega), zq_apK (by omega) (zq_hlt L _) (zq_Bc L (by omega)) (nm_r (nI_1 _) (hw () trivial))⟩))
theorem zq_r167 {lo hi m F X : Nat} {x7 : Int32} (hl : lo ≤ hi) (hh : hi < 16) (hm : zq_fl L (F &&& (X ^^^ 4294967295)) 1 lo m (hi + 1 - lo) ≤ 16)
    (H : ∃ fu, wX_repairLine_221 pst x7 fu (nI (hi + 1)) f0 f1 (nI (zq_fl L (F &&& (X ^^^ 4294967295)) 1 lo m (hi + 1 - lo))) a1 a2 a3 a4 a5 (zq_B L) (zq_B (zq_fn L (F &&& (X ^^^ 4294967295)) 1 lo m N (hi + 1 - lo))) a8 a9) :
    ∃ fu, wX_repairLine_167 pst (nI hi) (nI F) (nI X) x7 fu (nI lo) f0 f1 (nI m) a1 a2 a3 a4 a5 (zq_B L) (zq_B N) a8 a9 := by
  have hY : nI F &&& (nI X ^^^ (-1)) = nI (F &&& (X ^^^ 4294967295)) := by rw [zq_not, zq_nand]
  generalize F &&& (X ^^^ 4294967295) = Y at *
  refine pk_loop (σ := Nat × Nat) (fun fu j s => wX_repairLine_167 pst (nI hi) (nI F) (nI X) x7 fu (nI (lo + j)) f0 f1 (nI s.1) a1 a2 a3 a4 a5 (zq_B L) (zq_B s.2) a8 a9) (fun j s => s = (zq_fl L Y 1 lo m j, zq_fn L Y 1 lo m N j)) (hi + 1 - lo) 0 (m, N) (by omega) rfl ?_ ?_
  · intro fu s e
    have e' : s = (zq_fl L Y 1 lo m (hi + 1 - lo), zq_fn L Y 1 lo m N (hi + 1 - lo)) := e
    subst e'
    exact pk_lt hi (lo + (hi + 1 - lo)) (fun _ => nm_r (nI_1 hi) H) (fun z => absurd z (by omega))
  · intro fu j s hj e hw
    have e' : s = (zq_fl L Y 1 lo m j, zq_fn L Y 1 lo m N j) := e
    subst e'
    refine pk_lt hi (lo + j) (fun z => absurd z (by omega)) (fun _ => nm_r hY ⟨pk_in (lo + j) 16 (by omega), ?_⟩)
    rw [zq_Bc L (show lo + j < 2 ^ 31 by omega)]
    refine ek_if (zq_bit0 Y (zq_hlt L (lo + j))) (fun hb => nm_r (nI_1 _) (hw (_, _) ?_)) (fun hb => ⟨pk_in (lo + j) 16 (by omega), ?_⟩)
    · rw [zq_fl0 (zq_bq0 hb).2, zq_fn0 (zq_bq0 hb).2]
    · have e1 := zq_fl1 (d := m) (zq_bq1 (zq_b1 hb)).2
      have e2 := zq_flM L Y 1 lo m (j + 1) (hi + 1 - lo - (j + 1))
      rw [show j + 1 + (hi + 1 - lo - (j + 1)) = hi + 1 - lo by omega] at e2
      refine zq_apK (by omega) (zq_hlt L (lo + j)) rfl (nm_r (nI_1 _) (hw (zq_fl L Y 1 lo m j + 1, zq_t (zq_fn L Y 1 lo m N j) (zq_fl L Y 1 lo m j) (zq_h L (lo + j))) ?_))
      rw [e1, zq_fn1 (zq_bq1 (zq_b1 hb)).2]
/-- the tail of repairLine: what the run's true answer gives -/
theorem zq_rtK {lo hi d F X m r : Nat} (hd : d = hi + 1 - lo) (hl : lo ≤ hi) (hh : hi < 16) (hk : zq_rt len T S O M P L lo hi d F X N m r k = true)
    (H : ∀ (g2 : Int32) (r len T S O M P L N : Nat), k r len T S O M P L N = true → pst (nI r) (nI n, nI len, g2, zq_W T, zq_W S, zq_B O, zq_W M, zq_B P, zq_B L, zq_B N, a8, a9)) :
    (∃ fu, wX_repairLine_167 pst (nI hi) (nI F) (nI X) (nI r) fu (nI lo) (nI n) (nI len) (nI m) (zq_W T) (zq_W S) (zq_B O) (zq_W M) (zq_B P) (zq_B L) (zq_B N) a8 a9) ∧ m ≤ 16 := by
  subst hd
  unfold zq_rt at hk
  simp only [zq_fb_eq] at hk
  obtain ⟨h1, hk⟩ := zq_cb hk
  obtain ⟨h2, hk⟩ := zq_cb hk
  obtain ⟨h3, hk⟩ := zq_cb hk
  have h1' : zq_fl L (F &&& (X ^^^ 4294967295)) 1 lo m (hi + 1 - lo) + (len - (hi + 1)) ≤ 16 := Nat.le_of_ble_eq_true h1
  have h4 := zq_flM L (F &&& (X ^^^ 4294967295)) 1 lo m 0 (hi + 1 - lo)
  rw [Nat.zero_add] at h4
  have h5 : zq_fl L (F &&& (X ^^^ 4294967295)) 1 lo m 0 = m := rfl
  exact ⟨zq_r167 hl hh (by omega) (zq_r221 (Nat.le_of_ble_eq_true h2) (Nat.le_of_ble_eq_true h3) h1' (H _ _ _ _ _ _ _ _ _ _ hk)), by omega⟩
theorem zq_r93 {lo hi d F X : Nat} (hn : n ≤ 16) (hd : d = hi + 1 - lo) (hl : lo ≤ hi) (hh : hi < 16) (hk : zq_rb n len T S O M P L N lo hi d F X k = true)
    (H : ∀ (g2 : Int32) (r len T S O M P L N : Nat), k r len T S O M P L N = true → pst (nI r) (nI n, nI len, g2, zq_W T, zq_W S, zq_B O, zq_W M, zq_B P, zq_B L, zq_B N, a8, a9)) :
    ∃ fu, wX_repairLine_93 pst (nI lo) (nI hi) (nI F) (nI X) fu (nI lo) (nI n) (nI len) (nI lo) (zq_W T) (zq_W S) (zq_B O) (zq_W M) (zq_B P) (zq_B L) (zq_B (zq_cp L N 0 0 lo)) a8 a9 := by
  unfold zq_rb at hk
  simp only [zq_fb_eq] at hk
  generalize zq_cp L N 0 0 lo = N1 at *
  refine pk_loop (σ := Nat × Nat) (fun fu j s => wX_repairLine_93 pst (nI lo) (nI hi) (nI F) (nI X) fu (nI (lo + j)) (nI n) (nI len) (nI s.1) (zq_W T) (zq_W S) (zq_B O) (zq_W M) (zq_B P) (zq_B L) (zq_B s.2) a8 a9) (fun j s => s = (zq_fl L F 0 lo lo j, zq_fn L F 0 lo lo N1 j)) (hi + 1 - lo) 0 (lo, N1) (by omega) rfl ?_ ?_
  · intro fu s e
    have e' : s = (zq_fl L F 0 lo lo (hi + 1 - lo), zq_fn L F 0 lo lo N1 (hi + 1 - lo)) := e
    subst e'
    refine pk_lt hi (lo + (hi + 1 - lo)) (fun _ => ek_if (zq_z0 X) (fun hz => ?_) (fun hz => ?_)) (fun z => absurd z (by omega))
    · rw [zq_zt hz, hd] at hk
      exact (zq_rtK rfl hl hh hk H).1
    · rw [zq_zf hz, hd] at hk
      obtain ⟨h1, hk⟩ := zq_cb hk
      obtain ⟨h2, hk⟩ := zq_cb hk
      refine zq_biK rfl (nm_r (pk_sub (b := 1) (Nat.le_of_ble_eq_true h2)) (zq_meK hn rfl ?_))
      exact zq_apK (Nat.le_of_ble_eq_true h1) (zq_lwl _) rfl (zq_rtK rfl hl hh hk H).1
  · intro fu j s hj e hw
    have e' : s = (zq_fl L F 0 lo lo j, zq_fn L F 0 lo lo N1 j) := e
    subst e'
    have hf := zq_flB L F 0 lo lo j
    refine pk_lt hi (lo + j) (fun z => absurd z (by omega)) (fun _ => ⟨pk_in (lo + j) 16 (by omega), ?_⟩)
    rw [zq_Bc L (show lo + j < 2 ^ 31 by omega)]
    refine ek_if (zq_bit0 F (zq_hlt L (lo + j))) (fun hb => ⟨pk_in (lo + j) 16 (by omega), ?_⟩) (fun hb => nm_r (nI_1 _) (hw (_, _) ?_))
    · refine zq_apK (by omega) (zq_hlt L (lo + j)) rfl (nm_r (nI_1 _) (hw (zq_fl L F 0 lo lo j + 1, zq_t (zq_fn L F 0 lo lo N1 j) (zq_fl L F 0 lo lo j) (zq_h L (lo + j))) ?_))
      rw [zq_fl1 (zq_bq0 hb).1, zq_fn1 (zq_bq0 hb).1]
    · rw [zq_fl0 (zq_bq1 (zq_b1 hb)).1, zq_fn0 (zq_bq1 (zq_b1 hb)).1]
theorem zq_r67 {lo hi d F X : Nat} (hn : n ≤ 16) (hd : d = hi + 1 - lo) (hl : lo ≤ hi) (hh : hi < 16) (hk : zq_rb n len T S O M P L N lo hi d F X k = true)
    (H : ∀ (g2 : Int32) (r len T S O M P L N : Nat), k r len T S O M P L N = true → pst (nI r) (nI n, nI len, g2, zq_W T, zq_W S, zq_B O, zq_W M, zq_B P, zq_B L, zq_B N, a8, a9)) :
    ∃ fu, wX_repairLine_67 pst (nI lo) (nI hi) (nI F) (nI X) fu 0 (nI n) (nI len) 0 (zq_W T) (zq_W S) (zq_B O) (zq_W M) (zq_B P) (zq_B L) (zq_B N) a8 a9 :=
  pk_loop (σ := Unit) (fun fu j _ => wX_repairLine_67 pst (nI lo) (nI hi) (nI F) (nI X) fu (nI j) (nI n) (nI len) (nI j) (zq_W T) (zq_W S) (zq_B O) (zq_W M) (zq_B P) (zq_B L) (zq_B (zq_cp L N 0 0 j)) a8 a9) (fun _ _ => True) lo 0 () (by omega) trivial
    (fun fu _ _ => pk_le lo lo (fun _ => zq_r93 hn hd hl hh hk H) (fun z => absurd z (by omega)))
    (fun fu j _ hj _ hw => pk_le lo j (fun z => absurd z (by omega)) (fun _ => ⟨pk_in j 16 (by omega), zq_apK (by omega) (zq_hlt L j) (zq_Bc L (by omega)) (nm_r (nI_1 _) (by
      have t := hw () trivial
      have e : zq_cp L N 0 0 (j + 1) = zq_t (zq_cp L N 0 0 j) j (zq_h L j) := by
        show zq_t (zq_cp L N 0 0 j) (0 + j) (zq_h L (0 + j)) = _
        rw [Nat.zero_add]
      rw [e] at t
      exact t))⟩))
theorem zq_rlK {fr to : Nat} (hn : n ≤ 16) (hfr : fr < 16) (hto : to < 16) (hl : zq_h P to ≤ zq_h P fr) (hy : y = nI fr) (hy2 : y2 = nI to) (hk : zq_rl n len T S O M P L N fr to k = true)
    (H : ∀ (g2 : Int32) (r len T S O M P L N : Nat), k r len T S O M P L N = true → pst (nI r) (nI n, nI len, g2, zq_W T, zq_W S, zq_B O, zq_W M, zq_B P, zq_B L, zq_B N, a8, a9)) :
    wpX_repairLine pst (nI n, nI len, f2, zq_W T, zq_W S, zq_B O, zq_W M, zq_B P, zq_B L, zq_B N, a8, a9) y y2 := by
  subst hy hy2
  unfold zq_rl at hk
  simp only [zq_fb_eq] at hk
  have hh := zq_hlt P fr
  refine ⟨pk_in to 16 hto, nm_r (zq_Bc P (by omega)) ⟨pk_in fr 16 hfr, nm_r (zq_Bc P (by omega)) (zq_fwK hn hto hh hl rfl rfl (ek_if (zq_bit0 _ hfr) (fun hb => ?_) (fun hb => ?_)))⟩⟩
  · have e := zq_c0 (x := 0) (y := Nat.land (Nat.land (zq_fw n T O M L (zq_h P to) (Nat.pow 2 to) (Nat.sub (Nat.succ (zq_h P fr)) (zq_h P to))) (zq_bw n S O M L (zq_h P fr) (Nat.pow 2 fr) (Nat.sub (Nat.succ (zq_h P fr)) (zq_h P to)))) (zq_lb L (zq_h P to) (Nat.sub (Nat.succ (zq_h P fr)) (zq_h P to)))) hb
    exact zq_r67 hn rfl hl hh ((congrArg (fun z => zq_rb n len T S O M P L N (zq_h P to) (zq_h P fr) (zq_h P fr + 1 - zq_h P to) (zq_fw n T O M L (zq_h P to) (2 ^ to) (zq_h P fr + 1 - zq_h P to)) z k) e).symm.trans hk) H
  · refine zq_bwK hn hfr hl rfl rfl (zq_lbK hh hl rfl rfl (nm_r (e' := nI _) (by rw [zq_nand, zq_nand]) (zq_r67 hn rfl hl hh ?_ H)))
    have e := zq_c1 (x := 0) (y := Nat.land (Nat.land (zq_fw n T O M L (zq_h P to) (Nat.pow 2 to) (Nat.sub (Nat.succ (zq_h P fr)) (zq_h P to))) (zq_bw n S O M L (zq_h P fr) (Nat.pow 2 fr) (Nat.sub (Nat.succ (zq_h P fr)) (zq_h P to)))) (zq_lb L (zq_h P to) (Nat.sub (Nat.succ (zq_h P fr)) (zq_h P to)))) hb
    exact (congrArg (fun z => zq_rb n len T S O M P L N (zq_h P to) (zq_h P fr) (zq_h P fr + 1 - zq_h P to) (zq_fw n T O M L (zq_h P to) (2 ^ to) (zq_h P fr + 1 - zq_h P to)) z k) e).symm.trans hk
theorem zq_aeK {u v : Nat} (hn : n ≤ 16) (hu : u < n) (hv : v < n) (huv : u ≠ v) (hk : zq_ae n len T S O M P L N u v k = true)
    (H : ∀ (g2 : Int32) (r len T S O M P L N : Nat), k r len T S O M P L N = true → pst (nI r) (nI n, nI len, g2, zq_W T, zq_W S, zq_B O, zq_W M, zq_B P, zq_B L, zq_B N, a8, a9)) :
    wpX_addEdge pst (nI n, nI len, f2, zq_W T, zq_W S, zq_B O, zq_W M, zq_B P, zq_B L, zq_B N, a8, a9) (nI u) (nI v) := by
  have hu1 : u < 2 ^ 31 := by omega
  have hv1 : v < 2 ^ 31 := by omega
  have hu2 : u < 16 := by omega
  have hv2 : v < 16 := by omega
  unfold zq_ae at hk
  obtain ⟨hb, hk⟩ := zq_cb hk
  simp only [zq_fb_eq] at hk
  have hb' : zq_b (zq_g T u) v = 0 := Nat.eq_of_beq_eq_true hb
  unfold wpX_addEdge; dsimp only
  refine zq_ivT hn hu rfl (br_f (by decide) (zq_ivT hn hv rfl (br_f (by decide) (br_f (fun z => huv ((nI_eq hu1 hv1).mp z)) ⟨pk_in u 16 hu2, ?_⟩))))
  rw [zq_Wc T hu1, zq_Wc S hv1, zq_Bc O hu1, zq_Bc O hv1, nI_clamp hu1, nI_clamp hv1]
  refine br_t ((zq_bit0 _ hv2).mpr hb') ⟨pk_in u 16 hu2, pk_in u 16 hu2, nm_r (e' := zq_W (zq_s T u (zq_g T u ||| 2 ^ v))) (by rw [zq_sh1 v hv2, zq_nor]; exact zq_uW _ _ _) ⟨pk_in v 16 hv2, pk_in v 16 hv2, nm_r (e' := zq_W (zq_s S v (zq_g S v ||| 2 ^ u))) (by rw [zq_sh1 u hu2, zq_nor]; exact zq_uW _ _ _) ⟨pk_in u 16 hu2, nm_e ⟨pk_in v 16 hv2, nm_e ⟨pk_in _ 16 (zq_hlt O u), pk_in _ 16 (zq_hlt O v), ?_⟩⟩⟩⟩⟩
  rw [zq_Bc P (Nat.lt_trans (zq_hlt O u) (by decide)), zq_Bc P (Nat.lt_trans (zq_hlt O v) (by decide))]
  have hp1 := zq_hlt P (zq_h O u)
  have hp2 := zq_hlt P (zq_h O v)
  refine pk_lt (zq_h P (zq_h O v)) (zq_h P (zq_h O u)) (fun z => ?_) (fun z => ?_)
  · have e : Nat.blt (zq_h P (zq_h O v)) (zq_h P (zq_h O u)) = true := Nat.ble_eq_true_of_le z
    rw [e] at hk
    exact zq_rlK hn (zq_hlt O u) (zq_hlt O v) (Nat.le_of_lt z) rfl rfl hk H
  · have e : Nat.blt (zq_h P (zq_h O v)) (zq_h P (zq_h O u)) = false := Bool.eq_false_iff.mpr (fun t => absurd (Nat.le_of_ble_eq_true t) (by omega))
    rw [e] at hk
    exact H _ _ _ _ _ _ _ _ _ _ hk
/-- the edge is there already -/
theorem zq_aeN {u v : Nat} (hn : n ≤ 16) (hu : u < n) (hv : v < n) (huv : u ≠ v) (hb : zq_b (zq_g T u) v = 1) (h : pst (-2) (nI n, f1, f2, zq_W T, a2, a3, a4, a5, a6, a7, a8, a9)) :
    wpX_addEdge pst (nI n, f1, f2, zq_W T, a2, a3, a4, a5, a6, a7, a8, a9) (nI u) (nI v) := by
  have hu1 : u < 2 ^ 31 := by omega
  have hv1 : v < 2 ^ 31 := by omega
  unfold wpX_addEdge; dsimp only
  refine zq_ivT hn hu rfl (br_f (by decide) (zq_ivT hn hv rfl (br_f (by decide) (br_f (fun z => huv ((nI_eq hu1 hv1).mp z)) ⟨pk_in u 16 (by omega), ?_⟩))))
  rw [zq_Wc T hu1]
  exact br_f (fun z => absurd ((zq_bit0 _ (by omega)).mp z) (by omega)) h
/-- not two vertices, or one vertex twice -/
theorem zq_aeF (hx : (y < 0 ∨ nI n ≤ y) ∨ (y2 < 0 ∨ nI n ≤ y2) ∨ y = y2) (h : pst (-1) (nI n, f1, f2, a1, a2, a3, a4, a5, a6, a7, a8, a9)) : wpX_addEdge pst (nI n, f1, f2, a1, a2, a3, a4, a5, a6, a7, a8, a9) y y2 := by
  unfold wpX_addEdge; dsimp only
  by_cases hy : y < 0 ∨ nI n ≤ y
  · exact zq_ivF hy (br_t rfl h)
  · have h1 : ¬ y < 0 := fun z => hy (Or.inl z)
    have h2 : ¬ nI n ≤ y := fun z => hy (Or.inr z)
    refine br_f h1 (br_f h2 (br_f (by decide) ?_))
    by_cases hy2 : y2 < 0 ∨ nI n ≤ y2
    · exact zq_ivF hy2 (br_t rfl h)
    · have h3 : ¬ y2 < 0 := fun z => hy2 (Or.inl z)
      have h4 : ¬ nI n ≤ y2 := fun z => hy2 (Or.inr z)
      exact br_f h3 (br_f h4 (br_f (by decide) (br_t ((hx.resolve_left hy).resolve_left hy2) h)))
theorem zq_reF (hx : (y < 0 ∨ nI n ≤ y) ∨ (y2 < 0 ∨ nI n ≤ y2) ∨ y = y2) (h : pst (-1) (nI n, f1, f2, a1, a2, a3, a4, a5, a6, a7, a8, a9)) : wpX_removeEdge pst (nI n, f1, f2, a1, a2, a3, a4, a5, a6, a7, a8, a9) y y2 := by
  unfold wpX_removeEdge; dsimp only
  by_cases hy : y < 0 ∨ nI n ≤ y
  · exact zq_ivF hy (br_t rfl h)
  · have h1 : ¬ y < 0 := fun z => hy (Or.inl z)
    have h2 : ¬ nI n ≤ y := fun z => hy (Or.inr z)
    refine br_f h1 (br_f h2 (br_f (by decide) ?_))
    by_cases hy2 : y2 < 0 ∨ nI n ≤ y2
    · exact zq_ivF hy2 (br_t rfl h)
    · have h3 : ¬ y2 < 0 := fun z => hy2 (Or.inl z)
      have h4 : ¬ nI n ≤ y2 := fun z => hy2 (Or.inr z)
      exact br_f h3 (br_f h4 (br_f (by decide) (br_t ((hx.resolve_left hy).resolve_left hy2) h)))
end
end
section
/-! ===== split, removeEdge, the constructor ===== -/
section
variable {post : Int32 → Prop} {pst : Int32 → St2 → Prop} {pss : St2 → Prop} {f0 f1 f2 y y2 x1 x2 : Int32} {a1 a2 a3 a4 a5 a6 a7 a8 a9 : Nat → Int32} {n len T S O M P L N Q x : Nat}
  {k : Nat → Nat → Nat → Nat → Nat → Nat → Nat → Nat → Nat → Bool}
theorem zq_s20 {r i fu s p : Nat} (hn : n ≤ 16) (hi : i < 16) (hr : ¬ r % 4294967296 = 0) (hs : s = 2 ^ zq_lw r 15 0) (hp : p = zq_sp T n r 16 s s &&& zq_sp S n r 16 s s)
    (h : wX_split_20 pst x1 x2 (nI n) f1 f2 fu (nI (r &&& (p ^^^ 4294967295))) (nI (i + 1)) (nI (i + 1)) (zq_W T) (zq_W S) a3 a4 a5 a6 a7 a8 (zq_W (zq_s Q i p))) :
    wX_split_20 pst x1 x2 (nI n) f1 f2 (fu + 1) (nI r) (nI i) (nI i) (zq_W T) (zq_W S) a3 a4 a5 a6 a7 a8 (zq_W Q) := by
  subst hs
  refine pk_le 16 i (fun z => absurd z (by omega)) (fun _ => br_f (fun z => hr ((zq_z0 r).mp z)) (zq_lwK rfl (nm_r (zq_sh1 _ (zq_lwl r)) (zq_spK hn rfl rfl (zq_gaK hn rfl rfl (nm_r (e' := nI p) (by rw [hp, zq_nand]) ⟨pk_in i 16 hi, nm_r (e' := zq_W (zq_s Q i p)) (by rw [nI_clamp (show i < 2 ^ 31 by omega)]; exact zq_uW _ _ _) (nm_r (nI_1 i) (nm_r (e' := nI (r &&& (p ^^^ 4294967295))) (by rw [zq_not, zq_nand]) (nm_r (nI_1 i) h)))⟩))))))
theorem zq_s186 {i0 m : Nat} {x4 : Int32} (hi : i0 ≤ len) (hl : len ≤ 16) (hm : m + (len - i0) ≤ 16)
    (h : pst (x4 - 1) (f0, nI (m + (len - i0)), nI (m + (len - i0)), a1, a2, a3, a4, zq_B (zq_aP (zq_cp L N i0 m (len - i0)) P (m + (len - i0))), zq_B (zq_aL (zq_cp L N i0 m (len - i0)) L (m + (len - i0))), zq_B (zq_cp L N i0 m (len - i0)), a8, a9)) :
    ∃ fu, wX_split_186 pst x4 fu (nI i0) f0 (nI len) (nI m) a1 a2 a3 a4 (zq_B P) (zq_B L) (zq_B N) a8 a9 :=
  pk_loop (σ := Unit) (fun fu j _ => wX_split_186 pst x4 fu (nI (i0 + j)) f0 (nI len) (nI (m + j)) a1 a2 a3 a4 (zq_B P) (zq_B L) (zq_B (zq_cp L N i0 m j)) a8 a9) (fun _ _ => True) (len - i0) 0 () (by omega) trivial
    (fun fu _ _ => pk_le len (i0 + (len - i0)) (fun _ => zq_adK hm h) (fun z => absurd z (by omega)))
    (fun fu j _ hj _ hw => pk_le len (i0 + j) (fun z => absurd z (by omega)) (fun _ => ⟨pk_in (i0 + j) 16 (by omega), zq_apK (by omega) (zq_hlt L _) (zq_Bc L (by omega)) (nm_r (nI_1 _) (hw () trivial))⟩))
theorem zq_s135 {w j m fu q c : Nat} (hn : n ≤ 16) (hj : j < 2) (hm : m < 16) (hq : q = zq_sr S Q n w 2 0) (hc : c = zq_lw q 15 0)
    (h : wX_split_135 pst x2 (nI 2) fu (nI (w &&& (q ^^^ 4294967295))) (nI (j + 1)) (nI n) f1 (nI (m + 1)) a1 (zq_W S) (zq_B (zq_cl O q c n)) (zq_W (zq_s M c q)) a5 a6 (zq_B (zq_t N m c)) a8 (zq_W Q)) :
    wX_split_135 pst x2 (nI 2) (fu + 1) (nI w) (nI j) (nI n) f1 (nI m) a1 (zq_W S) (zq_B O) (zq_W M) a5 a6 (zq_B N) a8 (zq_W Q) := by
  subst hq hc
  exact pk_le 2 j (fun z => absurd z (by omega)) (fun _ => zq_srK hn (by omega) rfl rfl (nm_r (by rw [zq_not, zq_nand]) (zq_clK hn rfl (zq_apK hm (zq_lwl _) rfl (nm_r (nI_1 j) h)))))
theorem zq_s105 {a : Nat} {x4 x5 : Int32} (ha : a ≤ 16)
    (H : ∃ fu, wX_split_135 pst (nI a) x4 fu x5 0 f0 f1 (nI a) a1 a2 a3 a4 a5 (zq_B L) (zq_B (zq_cp L N 0 0 a)) a8 a9) :
    ∃ fu, wX_split_105 pst (nI a) x4 x5 fu 0 f0 f1 0 a1 a2 a3 a4 a5 (zq_B L) (zq_B N) a8 a9 :=
  pk_loop (σ := Unit) (fun fu j _ => wX_split_105 pst (nI a) x4 x5 fu (nI j) f0 f1 (nI j) a1 a2 a3 a4 a5 (zq_B L) (zq_B (zq_cp L N 0 0 j)) a8 a9) (fun _ _ => True) a 0 () (by omega) trivial
    (fun fu _ _ => pk_le a a (fun _ => H) (fun z => absurd z (by omega)))
    (fun fu j _ hj _ hw => pk_le a j (fun z => absurd z (by omega)) (fun _ => ⟨pk_in j 16 (by omega), zq_apK (by omega) (zq_hlt L j) (zq_Bc L (by omega)) (nm_r (nI_1 _) (by
      have t := hw () trivial
      have e : zq_cp L N 0 0 (j + 1) = zq_t (zq_cp L N 0 0 j) j (zq_h L j) := by
        show zq_t (zq_cp L N 0 0 j) (0 + j) (zq_h L (0 + j)) = _
        rw [Nat.zero_add]
      rw [e] at t
      exact t))⟩))
theorem zq_cn {c x : Bool} (h : cond c false x = true) : c = false ∧ x = true := by
  cases c
  · exact ⟨rfl, h⟩
  · exact absurd (show false = true from h) (by decide)
theorem zq_zF {w : Nat} (h : zq_z w = false) : ¬ w % 4294967296 = 0 := by
  intro e
  have : zq_z w = true := by
    show Nat.beq (w % 4294967296) 0 = true
    rw [e]; rfl
  rw [this] at h
  exact absurd h (by decide)
theorem zq_zT {w : Nat} (h : zq_z w = true) : w % 4294967296 = 0 := Nat.eq_of_beq_eq_true h
theorem zq_fbE {x : Nat} {f : Nat → Bool} (h : zq_fb x f = true) : ∃ z, z = x ∧ f z = true := ⟨x, rfl, (zq_fb_eq x f).symm.trans h⟩
theorem zq_slK {c : Nat} (hn : n ≤ 16) (hc : c < 16) (hy : y = nI c) (hk : zq_sl n len T S O M P L N Q c k = true)
    (H : ∀ (g2 : Int32) (g9 : Nat → Int32) (r len T S O M P L N : Nat), k r len T S O M P L N = true → pst (nI r) (nI n, nI len, g2, zq_W T, zq_W S, zq_B O, zq_W M, zq_B P, zq_B L, zq_B N, a8, g9)) :
    wpX_split pst (nI n, nI len, f2, zq_W T, zq_W S, zq_B O, zq_W M, zq_B P, zq_B L, zq_B N, a8, zq_W Q) y := by
  subst hy
  have hc1 : c < 2 ^ 31 := by omega
  have ha := zq_hlt P c
  unfold zq_sl at hk
  obtain ⟨a, ea, hk⟩ := zq_fbE hk
  obtain ⟨r0, er0, hk⟩ := zq_fbE hk
  obtain ⟨s0, es0, hk⟩ := zq_fbE hk
  obtain ⟨p0, ep0, hk⟩ := zq_fbE hk
  obtain ⟨Q1, eQ1, hk⟩ := zq_fbE hk
  obtain ⟨r1, er1, hk⟩ := zq_fbE hk
  obtain ⟨s1, es1, hk⟩ := zq_fbE hk
  obtain ⟨p1, ep1, hk⟩ := zq_fbE hk
  obtain ⟨Q2, eQ2, hk⟩ := zq_fbE hk
  obtain ⟨r2, er2, hk⟩ := zq_fbE hk
  obtain ⟨h0, hk⟩ := zq_cn hk
  obtain ⟨h1, hk⟩ := zq_cn hk
  obtain ⟨h2, hk⟩ := zq_cb hk
  obtain ⟨M1, eM1, hk⟩ := zq_fbE hk
  obtain ⟨N1, eN1, hk⟩ := zq_fbE hk
  obtain ⟨q0, eq0, hk⟩ := zq_fbE hk
  obtain ⟨w1, ew1, hk⟩ := zq_fbE hk
  obtain ⟨c0, ec0, hk⟩ := zq_fbE hk
  obtain ⟨M2, eM2, hk⟩ := zq_fbE hk
  obtain ⟨O1, eO1, hk⟩ := zq_fbE hk
  obtain ⟨N2, eN2, hk⟩ := zq_fbE hk
  obtain ⟨q1, eq1, hk⟩ := zq_fbE hk
  obtain ⟨c1, ec1, hk⟩ := zq_fbE hk
  obtain ⟨M3, eM3, hk⟩ := zq_fbE hk
  obtain ⟨O2, eO2, hk⟩ := zq_fbE hk
  obtain ⟨N3, eN3, hk⟩ := zq_fbE hk
  obtain ⟨e, ee, hk⟩ := zq_fbE hk
  obtain ⟨m, em, hk⟩ := zq_fbE hk
  obtain ⟨N4, eN4, hk⟩ := zq_fbE hk
  obtain ⟨P', eP', hk⟩ := zq_fbE hk
  obtain ⟨L', eL', hk⟩ := zq_fbE hk
  obtain ⟨h3, hk⟩ := zq_cb hk
  obtain ⟨h4, hk⟩ := zq_cb hk
  obtain ⟨h5, hk⟩ := zq_cb hk
  have ee' : e = len - (a + 1) := ee
  have em' : m = a + 1 + 1 + e := em
  have h3' : m ≤ 16 := Nat.le_of_ble_eq_true h3
  have h4' : a + 1 ≤ len := Nat.le_of_ble_eq_true h4
  have h5' : len ≤ 16 := Nat.le_of_ble_eq_true h5
  have hp := H (nI m) (zq_W Q2) _ _ _ _ _ _ _ _ _ hk
  rw [← ea] at ha
  refine ⟨pk_in c 16 hc, nm_r (e' := nI a) (by rw [ea]; exact zq_Bc P hc1) ⟨pk_in c 16 hc, nm_r (e' := nI r0) (by rw [er0]; exact zq_Wc M hc1) ⟨3, ?_⟩⟩⟩
  refine zq_s20 (i := 0) (s := s0) (p := p0) hn (by omega) (zq_zF h0) es0 ep0 ?_
  rw [← eQ1, show r0 &&& (p0 ^^^ 4294967295) = r1 from er1.symm]
  refine zq_s20 (i := 1) (s := s1) (p := p1) hn (by omega) (zq_zF h1) es1 ep1 ?_
  rw [← eQ2, show r1 &&& (p1 ^^^ 4294967295) = r2 from er2.symm]
  refine br_f (by decide) (br_t ((zq_z0 _).mpr (zq_zT h2)) ⟨pk_in c 16 hc, nm_r (e' := nI r0) (by rw [er0]; exact zq_Wc M hc1) ⟨pk_in c 16 hc, nm_r (e' := zq_W M1) (by rw [nI_clamp hc1, eM1]; exact zq_uW _ _ 0) (zq_s105 (by omega) ⟨3, ?_⟩)⟩⟩)
  rw [← eN1]
  refine zq_s135 (j := 0) (q := q0) (c := c0) hn (by omega) ha eq0 ec0 ?_
  rw [← eM2, ← eO1, ← eN2, show r0 &&& (q0 ^^^ 4294967295) = w1 from ew1.symm]
  refine zq_s135 (j := 1) (q := q1) (c := c1) hn (by omega) (by omega) eq1 ec1 ?_
  rw [← eM3, ← eO2, show zq_t N2 (a + 1) c1 = N3 from eN3.symm]
  refine br_t (by decide) (nm_r (nI_1 _) (zq_s186 h4' h5' (by omega) ?_))
  rw [show nI 2 - 1 = nI 1 by decide, show a + 1 + 1 + (len - (a + 1)) = m by omega, show zq_cp L N3 (a + 1) (a + 1 + 1) (len - (a + 1)) = N4 by rw [eN4, ee]; rfl, ← eP', ← eL']
  exact hp
theorem zq_reK {u v : Nat} (hn : n ≤ 16) (hu : u < n) (hv : v < n) (huv : u ≠ v) (hk : zq_re n len T S O M P L N Q u v k = true)
    (H : ∀ (g2 : Int32) (g9 : Nat → Int32) (r len T S O M P L N : Nat), k r len T S O M P L N = true → pst (nI r) (nI n, nI len, g2, zq_W T, zq_W S, zq_B O, zq_W M, zq_B P, zq_B L, zq_B N, a8, g9)) :
    wpX_removeEdge pst (nI n, nI len, f2, zq_W T, zq_W S, zq_B O, zq_W M, zq_B P, zq_B L, zq_B N, a8, zq_W Q) (nI u) (nI v) := by
  have hu1 : u < 2 ^ 31 := by omega
  have hv1 : v < 2 ^ 31 := by omega
  have hu2 : u < 16 := by omega
  have hv2 : v < 16 := by omega
  unfold zq_re at hk
  obtain ⟨hb, hk⟩ := zq_cn hk
  simp only [zq_fb_eq] at hk
  obtain ⟨h1, hk⟩ := zq_cb hk
  obtain ⟨h2, hk⟩ := zq_cb hk
  have hb' : ¬ zq_b (zq_g T u) v = 0 := fun z => absurd ((zq_bq0 z).1.symm.trans hb) (by decide)
  have h1' : zq_h O u = zq_h O v := Nat.eq_of_beq_eq_true h1
  have h2' := Nat.eq_of_beq_eq_true h2
  unfold wpX_removeEdge; dsimp only
  refine zq_ivT hn hu rfl (br_f (by decide) (zq_ivT hn hv rfl (br_f (by decide) (br_f (fun z => huv ((nI_eq hu1 hv1).mp z)) ⟨pk_in u 16 hu2, ?_⟩))))
  rw [zq_Wc T hu1, zq_Wc S hv1, zq_Bc O hu1, zq_Bc O hv1, nI_clamp hu1, nI_clamp hv1]
  refine br_f (fun z => hb' ((zq_bit0 _ hv2).mp z)) ⟨pk_in u 16 hu2, pk_in u 16 hu2, nm_r (e' := zq_W (zq_s T u (zq_g T u &&& (2 ^ v ^^^ 4294967295)))) (by rw [zq_sh1 v hv2, zq_not, zq_nand]; exact zq_uW _ _ _) ⟨pk_in v 16 hv2, pk_in v 16 hv2, nm_r (e' := zq_W (zq_s S v (zq_g S v &&& (2 ^ u ^^^ 4294967295)))) (by rw [zq_sh1 u hu2, zq_not, zq_nand]; exact zq_uW _ _ _) ⟨pk_in u 16 hu2, nm_e ⟨pk_in v 16 hv2, br_t (congrArg nI h1') ⟨pk_in _ 16 (zq_hlt O u), ?_⟩⟩⟩⟩⟩
  exact zq_spK hn (zq_sh1 u hu2) (zq_Wc M (Nat.lt_trans (zq_hlt O u) (by decide))) (br_t ((zq_bit0 _ hv2).mpr h2') (zq_slK hn (zq_hlt O u) rfl hk H))
/-! the constructor -/
theorem zq_0W : (fun _ => 0 : Nat → Int32) = zq_W 0 := by
  funext j
  show (0 : Int32) = nI (zq_g 0 j)
  rw [show zq_g 0 j = 0 by unfold zq_g; simp [Nat.mod, Nat.shiftRight]]
  rfl
end
end
section
/-! ===== the constructor and the law's own rows ===== -/
section
variable {pss : St2 → Prop} {pl : Int32 → St0 → Prop} {f0 f1 f2 x0 x1 x2 x3 x4 x5 x6 x7 x9 z0 z1 : Int32} {a1 a2 a3 a4 a5 a6 a7 a8 a9 : Nat → Int32} {n len T S O M P L N Q x mc ms kc ks u v w : Nat}
theorem zq_0B : (fun _ => 0 : Nat → Int32) = zq_B 0 := by
  funext j
  show (0 : Int32) = nI (zq_h 0 j)
  rw [show zq_h 0 j = 0 by unfold zq_h; simp [Nat.mod, Nat.shiftRight]]
  rfl
theorem zq_inL (hn : n ≤ 16) (h : pss (nI n, nI n, f2, zq_W 0, zq_W 0, zq_B (zq_i0 n), zq_W (zq_m0 n), zq_B (zq_i0 n), zq_B (zq_i0 n), zq_B 0, (fun _ => 0), zq_W 0)) :
    ∃ fu, wX_init_103 pss mc ms kc ks (nI n) f1 f2 fu 0 (fun _ => 0) (fun _ => 0) (fun _ => 0) (fun _ => 0) (fun _ => 0) (fun _ => 0) (fun _ => 0) (fun _ => 0) (fun _ => 0) := by
  obtain ⟨fu, t⟩ := pk_loop (σ := Unit) (fun fu i _ => wX_init_103 pss mc ms kc ks (nI n) f1 f2 fu (nI i) (zq_W 0) (zq_W 0) (zq_B (zq_i0 i)) (zq_W (zq_m0 i)) (zq_B (zq_i0 i)) (zq_B (zq_i0 i)) (zq_B 0) (fun _ => 0) (zq_W 0)) (fun _ _ => True) n 0 () (by omega) trivial
    (fun fu _ _ => pk_le n n (fun _ => h) (fun z => absurd z (by omega)))
    (fun fu i _ hi _ hw => pk_le n i (fun z => absurd z (by omega)) (fun _ => ⟨pk_in i 16 (by omega), nm_r (e' := zq_B (zq_i0 (i + 1))) (by rw [nI_clamp (show i < 2 ^ 31 by omega), zq_by i (by omega)]; exact zq_uB _ _ (by omega)) ⟨pk_in i 16 (by omega), nm_r (e' := zq_W (zq_m0 (i + 1))) (by rw [nI_clamp (show i < 2 ^ 31 by omega), zq_sh1 i (by omega)]; exact zq_uW _ _ _)
      ⟨pk_in i 16 (by omega), nm_r (e' := zq_B (zq_i0 (i + 1))) (by rw [nI_clamp (show i < 2 ^ 31 by omega), zq_by i (by omega)]; exact zq_uB _ _ (by omega)) ⟨pk_in i 16 (by omega), nm_r (e' := zq_B (zq_i0 (i + 1))) (by rw [nI_clamp (show i < 2 ^ 31 by omega), zq_by i (by omega)]; exact zq_uB _ _ (by omega)) (nm_r (nI_1 i) (hw () trivial))⟩⟩⟩⟩))
  have t' : wX_init_103 pss mc ms kc ks (nI n) f1 f2 fu 0 (zq_W 0) (zq_W 0) (zq_B 0) (zq_W 0) (zq_B 0) (zq_B 0) (zq_B 0) (fun _ => 0) (zq_W 0) := t
  rw [← zq_0W, ← zq_0B] at t'
  exact ⟨fu, t'⟩
/-- the number of vertices that the constructor, and the law, make of the script's first int -/
def zq_cv (p : Int32) (n : Nat) : Prop := (2 ≤ p ∧ p ≤ 16 ∧ p = nI n ∧ 2 ≤ n ∧ n ≤ 16) ∨ (2 ≤ p ∧ ¬ p ≤ 16 ∧ n = 16) ∨ (¬ 2 ≤ p ∧ n = 2)
theorem zq_cvE (p : Int32) : ∃ n, zq_cv p n := by
  by_cases h : 2 ≤ p
  · by_cases h2 : p ≤ 16
    · have h3 : ¬ p < 0 := by
        intro z
        rw [Int32.lt_iff_toInt_lt] at z
        rw [Int32.le_iff_toInt_le] at h
        have e0 : (0 : Int32).toInt = 0 := by decide
        have e2 : (2 : Int32).toInt = 2 := by decide
        omega
      obtain ⟨j, hj, e⟩ := nI_of2 (M := 16) (n := 16) (by decide) h3 h2
      subst e
      exact ⟨j, Or.inl ⟨h, h2, rfl, (nI_leI (a := 2) (by decide) (by omega)).mp h, hj⟩⟩
    · exact ⟨16, Or.inr (Or.inl ⟨h, h2, rfl⟩)⟩
  · exact ⟨2, Or.inr (Or.inr ⟨h, rfl⟩)⟩
theorem zq_cvB {p : Int32} (h : zq_cv p n) : 2 ≤ n ∧ n ≤ 16 := by
  rcases h with ⟨_, _, _, h1, h2⟩ | ⟨_, _, h1⟩ | ⟨_, h1⟩
  · exact ⟨h1, h2⟩
  · omega
  · omega
theorem zq_inK (hc : zq_cv x0 n) (h : pss (nI n, nI n, 0, zq_W 0, zq_W 0, zq_B (zq_i0 n), zq_W (zq_m0 n), zq_B (zq_i0 n), zq_B (zq_i0 n), zq_B 0, (fun _ => 0), zq_W 0)) : wpX_init pss 9 144 (0, 0, 0) x0 := by
  refine ⟨by decide, by decide, by decide, by decide, by decide, by decide, by decide, by decide, by decide, by decide, by decide, by decide, by decide, by decide, by decide, by decide, by decide, by decide, ?_⟩
  have hn := zq_cvB hc
  rcases hc with ⟨h1, h2, h3, _, _⟩ | ⟨h1, h2, h3⟩ | ⟨h1, h3⟩
  · subst h3
    exact br_t h1 (br_t h2 (zq_inL hn.2 h))
  · subst h3
    exact br_t h1 (br_f h2 (zq_inL hn.2 h))
  · subst h3
    exact br_f h1 (zq_inL hn.2 h)
theorem zq_allE {p : Nat → Bool} : ∀ {n : Nat}, zq_all p n = true → ∀ i, i < n → p i = true := by
  intro n
  induction n with
  | zero => intro _ i hi; exact absurd hi (by omega)
  | succ n ih =>
    intro h i hi
    obtain ⟨h1, h2⟩ := zq_cb (show cond (p n) (zq_all p n) false = true from h)
    by_cases e : i = n
    · rw [e]; exact h1
    · exact ih h2 i (by omega)
/-! the end: outerEdges -/
theorem zq_l363 {e : Nat} (hp : pl 1 ()) (hn : n ≤ 16) (he : e = 0 ∨ e = 1) (hx : x5 = nI e) (ho : zq_oe n T O M n = e) (hz : z1 = z0) :
    wL_lawOf_363 pl mc ms x5 z0 z1 kc ks (nI n) f1 f2 (zq_W T) a2 (zq_B O) (zq_W M) a5 a6 a7 a8 a9 := by
  refine br_t hz (zq_oeK hn ?_)
  rw [ho, hx]
  rcases he with rfl | rfl
  · exact br_t rfl (br_t rfl hp)
  · exact br_f (by decide) (br_t rfl hp)
/-! the three questions at w: not there, there, a member -/
theorem zq_l205F (hx : x3 < 0 ∨ nI n ≤ x3) (H : wL_lawOf_294 pl mc ms x1 x2 x3 x4 x5 0 (-1) (-1) kc ks (nI n) f1 f2 a1 a2 a3 a4 a5 a6 a7 a8 a9) :
    wL_lawOf_205 pl mc ms x1 x2 x3 x4 x5 0 x7 0 kc ks (nI n) f1 f2 a1 a2 a3 a4 a5 a6 a7 a8 a9 := by
  unfold wL_lawOf_205
  refine zq_leF hx (br_t rfl (br_t rfl ?_))
  refine br_t rfl (zq_cyF hx (br_t rfl (br_t rfl ?_)))
  exact br_t rfl (zq_csF hx (br_t rfl (br_t rfl H)))
theorem zq_qE {a b c : Nat} (h : zq_q n T O M a b c w = true) : zq_h O w = a ∧ zq_cyc n T O M w = b ∧ zq_bi (zq_g M (zq_h O w)) 16 = c := by
  unfold zq_q at h
  obtain ⟨h1, h⟩ := zq_cb h
  obtain ⟨h2, h⟩ := zq_cb h
  exact ⟨Nat.eq_of_beq_eq_true h1, Nat.eq_of_beq_eq_true h2, Nat.eq_of_beq_eq_true h⟩
theorem zq_l205T (hn : n ≤ 16) (hw : w < n) (hq : zq_q n T O M w 0 1 w = true) (H : wL_lawOf_294 pl mc ms x1 x2 (nI w) x4 x5 1 1 1 kc ks (nI n) f1 f2 (zq_W T) a2 (zq_B O) (zq_W M) a5 a6 a7 a8 a9) :
    wL_lawOf_205 pl mc ms x1 x2 (nI w) x4 x5 0 x7 1 kc ks (nI n) f1 f2 (zq_W T) a2 (zq_B O) (zq_W M) a5 a6 a7 a8 a9 := by
  obtain ⟨h1, h2, h3⟩ := zq_qE hq
  unfold wL_lawOf_205
  refine zq_leT hn hw (br_t rfl (br_f (by decide) ?_))
  refine br_t (by rw [h1]) (zq_cyT hn hw (br_t rfl (br_f (by decide) ?_)))
  refine br_t (by rw [h2]; rfl) (zq_csT hn hw (br_t rfl (br_f (by decide) ?_)))
  rw [h3]
  exact H
theorem zq_l205M {a : Nat} (hn : n ≤ 16) (hw : w < n) (hq : zq_q n T O M a 2 2 w = true) (H : wL_lawOf_294 pl mc ms x1 x2 (nI w) x4 x5 1 2 2 kc ks (nI n) f1 f2 (zq_W T) a2 (zq_B O) (zq_W M) a5 a6 a7 a8 a9) :
    wL_lawOf_205 pl mc ms x1 x2 (nI w) x4 x5 1 (nI a) 1 kc ks (nI n) f1 f2 (zq_W T) a2 (zq_B O) (zq_W M) a5 a6 a7 a8 a9 := by
  obtain ⟨h1, h2, h3⟩ := zq_qE hq
  unfold wL_lawOf_205
  refine zq_leT hn hw (br_f (by decide) ?_)
  refine br_t (by rw [h1]) (zq_cyT hn hw (br_f (by decide) ?_))
  refine br_t (by rw [h2]; rfl) (zq_csT hn hw (br_f (by decide) ?_))
  rw [h3]
  exact H
/-! reaches -/
theorem zq_l316F (hp : pl 1 ()) {e : Nat} (hn : n ≤ 16) (he : e = 0 ∨ e = 1) (h5 : x5 = nI e) (ho : zq_oe n T O M n = e) (hx : x3 < 0 ∨ nI n ≤ x3) (hz : z1 = z0) :
    wL_lawOf_316 pl mc ms x1 x2 x3 x4 x5 0 z0 z1 kc ks (nI n) f1 f2 (zq_W T) a2 (zq_B O) (zq_W M) a5 a6 a7 a8 a9 :=
  br_t hz (zq_rcF (Or.inr hx) (br_t rfl (zq_l363 hp hn he h5 ho rfl)))
theorem zq_l316T (hp : pl 1 ()) (hn : n ≤ 16) (hu : u < n) (hv : v < n) (hw : w < n) (ho : zq_oe n T O M n = 1) (hr : zq_rch n T O M P L v w = cond (Nat.beq w v) 1 (cond (Nat.beq w u) 1 0)) (hz : z1 = z0) :
    wL_lawOf_316 pl mc ms (nI u) (nI v) (nI w) (nI n) 1 1 z0 z1 kc ks (nI n) f1 f2 (zq_W T) a2 (zq_B O) (zq_W M) (zq_B P) (zq_B L) a7 a8 a9 := by
  refine br_t hz (zq_rcT hn hv hw (br_f (by decide) ?_))
  have h348 : ∀ z : Int32, z = 1 → wL_lawOf_348 pl mc ms (nI v) (nI n) 1 z kc ks (nI n) f1 f2 (zq_W T) a2 (zq_B O) (zq_W M) (zq_B P) (zq_B L) a7 a8 a9 := fun z hz =>
    br_f (nI_pos (by omega)) (br_f (nI_ge hv (by omega)) (zq_l363 hp hn (e := 1) (Or.inr rfl) rfl ho hz))
  by_cases e1 : w = v
  · have hr' : zq_rch n T O M P L v w = 1 := by rw [hr, show Nat.beq w v = true by rw [e1]; exact Nat.beq_refl v]; rfl
    exact br_t (congrArg nI e1) (h348 _ (by rw [hr']; rfl))
  · have e1' : Nat.beq w v = false := Bool.eq_false_iff.mpr (fun t => e1 (Nat.eq_of_beq_eq_true t))
    refine br_f (fun z => e1 ((nI_eq (by omega) (by omega)).mp z)) (br_f (by decide) ?_)
    by_cases e2 : w = u
    · have hr' : zq_rch n T O M P L v w = 1 := by rw [hr, e1', show Nat.beq w u = true by rw [e2]; exact Nat.beq_refl u]; rfl
      exact br_t (congrArg nI e2) (h348 _ (by rw [hr']; rfl))
    · have e2' : Nat.beq w u = false := Bool.eq_false_iff.mpr (fun t => e2 (Nat.eq_of_beq_eq_true t))
      have hr' : zq_rch n T O M P L v w = 0 := by rw [hr, e1', e2']; rfl
      exact br_f (fun z => e2 ((nI_eq (by omega) (by omega)).mp z)) (zq_l363 hp hn (e := 1) (Or.inr rfl) rfl ho (by rw [hr']; rfl))
theorem zq_l316N (hp : pl 1 ()) (hn : n ≤ 16) (hw : w < n) (ho : zq_oe n T O M n = 0) (hr : ∀ v, v < n → zq_rch n T O M P L v w = cond (Nat.beq w v) 1 0) (hz : z1 = z0) :
    wL_lawOf_316 pl mc ms x1 x2 (nI w) (nI n) 0 1 z0 z1 kc ks (nI n) f1 f2 (zq_W T) a2 (zq_B O) (zq_W M) (zq_B P) (zq_B L) a7 a8 a9 := by
  refine br_t hz ?_
  by_cases hx : x2 < 0 ∨ nI n ≤ x2
  · refine zq_rcF (Or.inl hx) (br_f (by decide) ?_)
    refine br_f (fun z => ?_) (br_t rfl (zq_l363 hp hn (e := 0) (Or.inl rfl) rfl ho rfl))
    rw [← z] at hx
    exact hx.elim (nI_pos (by omega)) (nI_ge hw (by omega))
  · have hx1 : ¬ x2 < 0 := fun z => hx (Or.inl z)
    have hx2 : ¬ nI n ≤ x2 := fun z => hx (Or.inr z)
    obtain ⟨v, hv, e⟩ := ((pk_ix x2 (n := n) (by omega)).resolve_left hx1).resolve_left hx2
    subst e
    refine zq_rcT hn hv hw (br_f (by decide) ?_)
    by_cases e1 : w = v
    · have hr' : zq_rch n T O M P L v w = 1 := by rw [hr v hv, show Nat.beq w v = true by rw [e1]; exact Nat.beq_refl v]; rfl
      exact br_t (congrArg nI e1) (br_f hx1 (br_f hx2 (zq_l363 hp hn (e := 0) (Or.inl rfl) rfl ho (by rw [hr']; rfl))))
    · have e1' : Nat.beq w v = false := Bool.eq_false_iff.mpr (fun t => e1 (Nat.eq_of_beq_eq_true t))
      have hr' : zq_rch n T O M P L v w = 0 := by rw [hr v hv, e1']; rfl
      exact br_f (fun z => e1 ((nI_eq (by omega) (by omega)).mp z)) (br_t rfl (zq_l363 hp hn (e := 0) (Or.inl rfl) rfl ho (by rw [hr']; rfl)))
end
end
section
/-! ===== the top ===== -/
section
variable {pl : Int32 → St0 → Prop} {x0 x1 x2 x3 x6 x7 : Int32} {n u v : Nat}
theorem zq_rA : ∀ n, 2 ≤ n → n ≤ 16 → zq_runs n = true
  | 0, h, _ => absurd h (by omega)
  | 1, h, _ => absurd h (by omega)
  | 2, _, _ => zq_r2
  | 3, _, _ => zq_r3
  | 4, _, _ => zq_r4
  | 5, _, _ => zq_r5
  | 6, _, _ => zq_r6
  | 7, _, _ => zq_r7
  | 8, _, _ => zq_r8
  | 9, _, _ => zq_r9
  | 10, _, _ => zq_r10
  | 11, _, _ => zq_r11
  | 12, _, _ => zq_r12
  | 13, _, _ => zq_r13
  | 14, _, _ => zq_r14
  | 15, _, _ => zq_r15
  | 16, _, _ => zq_r16
  | n + 17, _, h => absurd h (by omega)
theorem zq_sA : ∀ n, 2 ≤ n → n ≤ 16 → zq_run0 n = true
  | 0, h, _ => absurd h (by omega)
  | 1, h, _ => absurd h (by omega)
  | 2, _, _ => zq_s2
  | 3, _, _ => zq_s3
  | 4, _, _ => zq_s4
  | 5, _, _ => zq_s5
  | 6, _, _ => zq_s6
  | 7, _, _ => zq_s7
  | 8, _, _ => zq_s8
  | 9, _, _ => zq_s9
  | 10, _, _ => zq_s10
  | 11, _, _ => zq_s11
  | 12, _, _ => zq_s12
  | 13, _, _ => zq_s13
  | 14, _, _ => zq_s14
  | 15, _, _ => zq_s15
  | 16, _, _ => zq_s16
  | n + 17, _, h => absurd h (by omega)
theorem zq_rE (h2 : 2 ≤ n) (hn : n ≤ 16) (hu : u < n) (hv : v < n) (huv : u ≠ v) : zq_run n u v = true := by
  have h := zq_allE (zq_allE (zq_rA n h2 hn) u hu) v hv
  rw [show Nat.beq u v = false from Bool.eq_false_iff.mpr (fun t => huv (Nat.eq_of_beq_eq_true t))] at h
  exact h
/-- u and v are two vertices -/
theorem zq_law1 (hp : pl 1 ()) (hc : zq_cv x0 n) (hu : u < n) (hv : v < n) (huv : u ≠ v) (hx6 : (x6 = 1 ∧ (x3 = nI u ∨ x3 = nI v)) ∨ (x6 = 0 ∧ ¬ x3 = nI u ∧ ¬ x3 = nI v)) (hx7 : x7 = nI (cond (Nat.ble v u) v u)) :
    wL_lawOf_87 pl 68 1088 x0 (nI u) (nI v) x3 (nI n) 1 x6 x7 0 0 := by
  obtain ⟨h2, hn⟩ := zq_cvB hc
  have hk := zq_rE h2 hn hu hv huv
  subst hx7
  unfold zq_run at hk
  obtain ⟨A, eA, hk⟩ := zq_fbE hk
  obtain ⟨M, eM, hk⟩ := zq_fbE hk
  refine ⟨by decide, by decide, 9, 144, by decide, by decide, zq_inK hc ?_⟩
  rw [← eA, ← eM]
  refine zq_aeK hn hu hv huv hk (fun g2 r len T S O M P L N hk => ?_)
  obtain ⟨hr, hk1⟩ := zq_cb hk
  have hr' : r = 0 := Nat.eq_of_beq_eq_true hr
  clear hk hr
  subst hr'
  refine br_f (by decide) (br_t rfl ?_)
  refine zq_aeK hn hv hu (fun z => huv z.symm) hk1 (fun g2 r len T S O M P L N hk => ?_)
  obtain ⟨hr, hk2⟩ := zq_cb hk
  have hr' : r = 1 := Nat.eq_of_beq_eq_true hr
  clear hk hr
  subst hr'
  obtain ⟨hb, hk3⟩ := zq_cb hk2
  obtain ⟨hl, hk4⟩ := zq_cb hk3
  have hl' : len + 1 = n := Nat.eq_of_beq_eq_true hl
  obtain ⟨hw, hk5⟩ := zq_cb hk4
  refine br_f (by decide) (br_t rfl ?_)
  refine zq_aeN hn hu hv huv (Nat.eq_of_beq_eq_true hb) ?_
  refine br_f (by decide) (br_t rfl ?_)
  refine br_f (by decide) (br_t (by rw [← hl', nI_pred]) ?_)
  -- what stands behind the three questions
  have tail : ∀ (x9 z : Int32), ((x9 = 0 ∧ (x3 < 0 ∨ nI n ≤ x3)) ∨ (x9 = 1 ∧ ∃ w, w < n ∧ x3 = nI w)) → wL_lawOf_294 pl 68 1088 (nI u) (nI v) x3 (nI n) 1 x9 z z (0 + 1 + 9) (0 + 12 + 144) (nI n) (nI len) g2 (zq_W T) (zq_W S) (zq_B O) (zq_W M) (zq_B P) (zq_B L) (zq_B N) (fun _ => 0) (zq_W 0) := by
    intro x9 z hx9
    refine br_t rfl (zq_reK hn hu hv huv hk5 (fun g2 g9 r len T S O M P L N hk => ?_))
    obtain ⟨hr, hk6⟩ := zq_cb hk
    have hr' : r = 1 := Nat.eq_of_beq_eq_true hr
    clear hk hr
    subst hr'
    obtain ⟨hrc, hk⟩ := zq_cb hk6
    refine br_f (by decide) ?_
    rcases hx9 with ⟨e9, hx⟩ | ⟨e9, w, hw, e3⟩
    · subst e9
      exact zq_l316F (e := 1) hp hn (Or.inr rfl) rfl (Nat.eq_of_beq_eq_true hk) hx rfl
    · subst e9 e3
      exact zq_l316T hp hn hu hv hw (Nat.eq_of_beq_eq_true hk) (Nat.eq_of_beq_eq_true (zq_allE hrc w hw)) rfl
  rcases pk_ix x3 (n := n) (by omega) with h | h | ⟨w, hwn, e3⟩
  · rcases hx6 with ⟨_, e⟩ | ⟨e6, _, _⟩
    · exact absurd h (e.elim (fun e => by rw [e]; exact nI_pos (by omega)) (fun e => by rw [e]; exact nI_pos (by omega)))
    · subst e6
      exact br_t h (zq_l205F (Or.inl h) (tail _ _ (Or.inl ⟨rfl, Or.inl h⟩)))
  · rcases hx6 with ⟨_, e⟩ | ⟨e6, _, _⟩
    · exact absurd h (e.elim (fun e => by rw [e]; exact nI_ge hu (by omega)) (fun e => by rw [e]; exact nI_ge hv (by omega)))
    · subst e6
      exact br_c (fun _ => zq_l205F (Or.inr h) (tail _ _ (Or.inl ⟨rfl, Or.inr h⟩))) (fun _ => br_t h (zq_l205F (Or.inr h) (tail _ _ (Or.inl ⟨rfl, Or.inr h⟩))))
  · subst e3
    refine br_f (nI_pos (by omega)) (br_f (nI_ge hwn (by omega)) ?_)
    have hq := zq_allE hw w hwn
    have inj : ∀ j, j < n → nI w = nI j → w = j := fun j hj z => (nI_eq (by omega) (by omega)).mp z
    rcases hx6 with ⟨e6, e⟩ | ⟨e6, e1, e2⟩
    · subst e6
      refine zq_l205M hn hwn (a := cond (Nat.ble v u) v u) ?_ (tail _ _ (Or.inr ⟨rfl, w, hwn, rfl⟩))
      by_cases b1 : Nat.beq w u = true
      · rw [b1] at hq
        exact hq
      · have b1' := Bool.eq_false_iff.mpr b1
        have b2 : w = v := e.elim (fun z => absurd (by rw [inj u hu z]; exact Nat.beq_refl u) b1) (fun z => inj v hv z)
        have b2' : Nat.beq w v = true := by rw [b2]; exact Nat.beq_refl v
        rw [b1', b2'] at hq
        exact hq
    · subst e6
      refine zq_l205T hn hwn ?_ (tail _ _ (Or.inr ⟨rfl, w, hwn, rfl⟩))
      rw [show Nat.beq w u = false from Bool.eq_false_iff.mpr (fun t => e1 (congrArg nI (Nat.eq_of_beq_eq_true t))), show Nat.beq w v = false from Bool.eq_false_iff.mpr (fun t => e2 (congrArg nI (Nat.eq_of_beq_eq_true t)))] at hq
      exact hq
/-- u and v aren't two vertices: nothing is ever stored -/
theorem zq_law0 (hp : pl 1 ()) (hc : zq_cv x0 n) (hx : (x1 < 0 ∨ nI n ≤ x1) ∨ (x2 < 0 ∨ nI n ≤ x2) ∨ x1 = x2) : wL_lawOf_87 pl 68 1088 x0 x1 x2 x3 (nI n) 0 0 x7 0 0 := by
  obtain ⟨h2, hn⟩ := zq_cvB hc
  have hx' : (x2 < 0 ∨ nI n ≤ x2) ∨ (x1 < 0 ∨ nI n ≤ x1) ∨ x2 = x1 := hx.elim (fun h => Or.inr (Or.inl h)) (fun h => h.elim (fun h => Or.inl h) (fun h => Or.inr (Or.inr h.symm)))
  have hk := zq_sA n h2 hn
  unfold zq_run0 at hk
  obtain ⟨A, eA, hk⟩ := zq_fbE hk
  obtain ⟨M, eM, hk⟩ := zq_fbE hk
  obtain ⟨hw, hk⟩ := zq_cb hk
  obtain ⟨hrc, hk⟩ := zq_cb hk
  have ho := Nat.eq_of_beq_eq_true hk
  refine ⟨by decide, by decide, 9, 144, by decide, by decide, zq_inK hc ?_⟩
  rw [← eA, ← eM]
  refine zq_aeF hx (br_t rfl (br_t rfl ?_))
  refine zq_aeF hx' (br_t rfl (br_t rfl ?_))
  refine zq_aeF hx (br_t rfl (br_t rfl ?_))
  refine br_t rfl (br_t rfl ?_)
  have tail : ∀ (x9 z : Int32), ((x9 = 0 ∧ (x3 < 0 ∨ nI n ≤ x3)) ∨ (x9 = 1 ∧ ∃ w, w < n ∧ x3 = nI w)) → wL_lawOf_294 pl 68 1088 x1 x2 x3 (nI n) 0 x9 z z (0 + 1 + 9) (0 + 12 + 144) (nI n) (nI n) 0 (zq_W 0) (zq_W 0) (zq_B A) (zq_W M) (zq_B A) (zq_B A) (zq_B 0) (fun _ => 0) (zq_W 0) := by
    intro x9 z hx9
    refine br_t rfl (zq_reF hx (br_t rfl ?_))
    rcases hx9 with ⟨e9, hx⟩ | ⟨e9, w, hw, e3⟩
    · subst e9
      exact zq_l316F (e := 0) hp hn (Or.inl rfl) rfl ho hx rfl
    · subst e9 e3
      exact zq_l316N hp hn hw ho (fun v hv => Nat.eq_of_beq_eq_true (zq_allE (zq_allE hrc v hv) w hw)) rfl
  rcases pk_ix x3 (n := n) (by omega) with h | h | ⟨w, hwn, e3⟩
  · exact br_t h (zq_l205F (Or.inl h) (tail _ _ (Or.inl ⟨rfl, Or.inl h⟩)))
  · exact br_c (fun _ => zq_l205F (Or.inr h) (tail _ _ (Or.inl ⟨rfl, Or.inr h⟩))) (fun _ => br_t h (zq_l205F (Or.inr h) (tail _ _ (Or.inl ⟨rfl, Or.inr h⟩))))
  · subst e3
    exact br_f (nI_pos (by omega)) (br_f (nI_ge hwn (by omega)) (zq_l205T hn hwn (zq_allE hw w hwn) (tail _ _ (Or.inr ⟨rfl, w, hwn, rfl⟩))))
theorem zq_l52 (hp : pl 1 ()) (hc : zq_cv x0 n) (hx : (x1 < 0 ∨ nI n ≤ x1) ∨ (x2 < 0 ∨ nI n ≤ x2) ∨ x1 = x2) : wL_lawOf_52 pl 68 1088 x0 x1 x2 x3 (nI n) 0 0 :=
  br_t (c := (0 : Int32) = 0) rfl (br_c (fun _ => zq_law0 hp hc hx) (fun _ => zq_law0 hp hc hx))
theorem zq_l21 (hp : pl 1 ()) (hc : zq_cv x0 n) : wL_lawOf_21 pl 68 1088 x0 x1 x2 x3 (nI n) 0 0 := by
  obtain ⟨h2, hn⟩ := zq_cvB hc
  refine br_c (fun h => zq_l52 hp hc (Or.inl (Or.inl h))) (fun h1 => br_c (fun h => zq_l52 hp hc (Or.inl (Or.inr h))) (fun h1' => ?_))
  obtain ⟨u, hu, e⟩ := ((pk_ix x1 (n := n) (by omega)).resolve_left h1).resolve_left h1'
  subst e
  refine br_c (fun h => zq_l52 hp hc (Or.inr (Or.inl (Or.inl h)))) (fun h3 => br_c (fun h => zq_l52 hp hc (Or.inr (Or.inl (Or.inr h)))) (fun h3' => ?_))
  obtain ⟨v, hv, e⟩ := ((pk_ix x2 (n := n) (by omega)).resolve_left h3).resolve_left h3'
  subst e
  refine br_c (fun h => zq_l52 hp hc (Or.inr (Or.inr h))) (fun huv => ?_)
  have huv' : u ≠ v := fun z => huv (congrArg nI z)
  have h75 : ∀ x6 : Int32, ((x6 = 1 ∧ (x3 = nI u ∨ x3 = nI v)) ∨ (x6 = 0 ∧ ¬ x3 = nI u ∧ ¬ x3 = nI v)) → wL_lawOf_75 pl 68 1088 x0 (nI u) (nI v) x3 (nI n) 1 x6 0 0 := by
    intro x6 hx6
    refine pk_le v u (fun z => zq_law1 hp hc hu hv huv' hx6 ?_) (fun z => zq_law1 hp hc hu hv huv' hx6 ?_)
    · rw [show Nat.ble v u = true from Nat.ble_eq_true_of_le z]
      rfl
    · rw [show Nat.ble v u = false from Bool.eq_false_iff.mpr (fun t => absurd (Nat.le_of_ble_eq_true t) (by omega))]
      rfl
  refine br_f (by decide) (br_c (fun h => h75 1 (Or.inl ⟨rfl, Or.inl h⟩)) (fun h => br_c (fun h' => h75 1 (Or.inl ⟨rfl, Or.inr h'⟩)) (fun h' => h75 0 (Or.inr ⟨rfl, h, h'⟩))))
theorem zq_law (hp : pl 1 ()) : wpL_lawOf pl 68 1088 () x0 x1 x2 x3 := by
  obtain ⟨n, hc⟩ := zq_cvE x0
  have h := zq_l21 (x1 := x1) (x2 := x2) (x3 := x3) hp hc
  rcases hc with ⟨h1, h2, h3, _, _⟩ | ⟨h1, h2, h3⟩ | ⟨h1, h3⟩
  · rw [← h3] at h
    exact br_t h1 (br_t h2 h)
  · subst h3
    exact br_t h1 (br_f h2 h)
  · subst h3
    exact br_f h1 h
theorem zq_ce {post : Int32 → Prop} {L : Nat} {xs : Nat → Int32} {y : Int32} (j : Nat) (hj : j < 4) (hL : L ≤ 4) (hy : y = nI j) (h : ∀ r, post r) : wpL_cellAt post L xs () y := by
  subst hy
  exact pk_le L j (fun _ => h _) (fun z => ⟨pk_in j L z, h _⟩)
end
theorem i_vc (xs : Nat → Int32) (L : Nat) (hL : L ≤ 4) : wpL_law (fun r => r = 1) L xs := by
  unfold wpL_law
  refine zq_ce 0 (by decide) hL rfl (fun r1 => ?_)
  refine zq_ce 1 (by decide) hL rfl (fun r2 => ?_)
  refine zq_ce 2 (by decide) hL rfl (fun r3 => ?_)
  refine zq_ce 3 (by decide) hL rfl (fun r4 => ?_)
  exact ⟨68, 1088, by decide, by decide, zq_law rfl⟩
end
