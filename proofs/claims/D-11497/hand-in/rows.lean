section
/-! cells: a state is one number, eight bits a cell -/
def ev_g (s i : Nat) : Nat := Nat.land (Nat.shiftRight s (Nat.mul 8 i)) 255
def ev_p (s i v : Nat) : Nat := Nat.xor s (Nat.shiftLeft (Nat.xor (ev_g s i) v) (Nat.mul 8 i))
theorem ce_g (s i : Nat) : ev_g s i = (s >>> (8 * i)) &&& 255 := rfl
theorem ce_p (s i v : Nat) : ev_p s i v = s ^^^ ((ev_g s i ^^^ v) <<< (8 * i)) := rfl
theorem ce_lt (s i : Nat) : ev_g s i < 256 := by
  rw [ce_g]
  exact Nat.lt_succ_of_le Nat.and_le_right
theorem ce_255 (m : Nat) : Nat.testBit 255 m = decide (m < 8) := by
  rw [show (255 : Nat) = 2 ^ 8 - 1 from rfl, Nat.testBit_two_pow_sub_one]
theorem ce_vb8 {v m : Nat} (hv : v < 256) (hm : 8 ≤ m) : Nat.testBit v m = false := by
  apply Nat.testBit_lt_two_pow
  have h2 : 2 ^ 8 ≤ 2 ^ m := Nat.pow_le_pow_right (by decide) hm
  omega
theorem ce_gt (s i m : Nat) : Nat.testBit (ev_g s i) m = (Nat.testBit s (8 * i + m) && decide (m < 8)) := by
  rw [ce_g, Nat.testBit_and, Nat.testBit_shiftRight, ce_255]
theorem ce_pt (s i v m : Nat) : Nat.testBit (ev_p s i v) m = (Nat.testBit s m ^^ (decide (8 * i ≤ m) && (Nat.testBit (ev_g s i) (m - 8 * i) ^^ Nat.testBit v (m - 8 * i)))) := by
  rw [ce_p, Nat.testBit_xor, Nat.testBit_shiftLeft, Nat.testBit_xor]
theorem ce_gs (s i : Nat) {v : Nat} (hv : v < 256) : ev_g (ev_p s i v) i = v := by
  apply Nat.eq_of_testBit_eq
  intro m
  rw [ce_gt, ce_pt, ce_gt, show 8 * i + m - 8 * i = m by omega, decide_eq_true (show 8 * i ≤ 8 * i + m by omega)]
  by_cases hm : m < 8
  · rw [decide_eq_true hm]
    cases Nat.testBit s (8 * i + m) <;> cases Nat.testBit v m <;> rfl
  · rw [decide_eq_false hm, ce_vb8 hv (by omega), Bool.and_false]
theorem ce_gn (s : Nat) {i j v : Nat} (hv : v < 256) (h : j ≠ i) : ev_g (ev_p s i v) j = ev_g s j := by
  apply Nat.eq_of_testBit_eq
  intro m
  rw [ce_gt, ce_pt, ce_gt, ce_gt]
  by_cases hm : m < 8
  · rw [decide_eq_true hm, Bool.and_true, Bool.and_true]
    by_cases hi : i < j
    · rw [decide_eq_false (show ¬ 8 * j + m - 8 * i < 8 by omega), ce_vb8 hv (show 8 ≤ 8 * j + m - 8 * i by omega), Bool.and_false]
      cases Nat.testBit s (8 * j + m) <;> simp
    · rw [decide_eq_false (show ¬ 8 * i ≤ 8 * j + m by omega), Bool.false_and]
      cases Nat.testBit s (8 * j + m) <;> rfl
  · rw [decide_eq_false hm, Bool.and_false, Bool.and_false]
/-- an array of the state: len cells from off on -/
def ce_ar (s off len : Nat) : Nat → Int32 := fun i => if i < len then nI (ev_g s (off + i)) else 0
theorem ce_r {off len i : Nat} (s : Nat) (h : i < len) : ce_ar s off len i = nI (ev_g s (off + i)) := if_pos h
theorem ce_r1 {i : Nat} (s : Nat) (h : i < 64) : ce_ar s 0 64 i = nI (ev_g s i) := by rw [ce_r s h, Nat.zero_add]
theorem ce_aw {off len i v : Nat} (s : Nat) (h : i < len) (hv : v < 256) : ce_ar (ev_p s (off + i) v) off len = upd (ce_ar s off len) i (nI v) := by
  funext j
  show (if j < len then nI (ev_g (ev_p s (off + i) v) (off + j)) else 0) = if j = i then nI v else if j < len then nI (ev_g s (off + j)) else 0
  by_cases e : j = i
  · rw [e, if_pos h, if_pos rfl, ce_gs s _ hv]
  · rw [if_neg e, ce_gn s hv (by omega)]
theorem ce_an {off len j v : Nat} (s : Nat) (hv : v < 256) (h : j < off ∨ off + len ≤ j) : ce_ar (ev_p s j v) off len = ce_ar s off len := by
  funext i
  show (if i < len then nI (ev_g (ev_p s j v) (off + i)) else 0) = if i < len then nI (ev_g s (off + i)) else 0
  by_cases e : i < len
  · rw [if_pos e, if_pos e, ce_gn s hv (by omega)]
  · rw [if_neg e, if_neg e]
/-- the state that a number stands for -/
def ce_S (s : Nat) : St2 := (nI (ev_g s 909), nI (ev_g s 910), nI (ev_g s 911), ce_ar s 0 64, ce_ar s 64 65, ce_ar s 129 65, ce_ar s 194 65, ce_ar s 259 325, ce_ar s 584 325)
def ce_ud (u : St2) (x : Int32) : St2 := match u with | (_, b, c, a1, a2, a3, a4, a5, a6) => (x, b, c, a1, a2, a3, a4, a5, a6)
def ce_ub (u : St2) (x : Int32) : St2 := match u with | (d, _, c, a1, a2, a3, a4, a5, a6) => (d, x, c, a1, a2, a3, a4, a5, a6)
def ce_uk (u : St2) (x : Int32) : St2 := match u with | (d, b, _, a1, a2, a3, a4, a5, a6) => (d, b, x, a1, a2, a3, a4, a5, a6)
def ce_u1 (u : St2) (i : Nat) (x : Int32) : St2 := match u with | (d, b, c, a1, a2, a3, a4, a5, a6) => (d, b, c, upd a1 i x, a2, a3, a4, a5, a6)
def ce_u2 (u : St2) (i : Nat) (x : Int32) : St2 := match u with | (d, b, c, a1, a2, a3, a4, a5, a6) => (d, b, c, a1, upd a2 i x, a3, a4, a5, a6)
def ce_u3 (u : St2) (i : Nat) (x : Int32) : St2 := match u with | (d, b, c, a1, a2, a3, a4, a5, a6) => (d, b, c, a1, a2, upd a3 i x, a4, a5, a6)
def ce_u4 (u : St2) (i : Nat) (x : Int32) : St2 := match u with | (d, b, c, a1, a2, a3, a4, a5, a6) => (d, b, c, a1, a2, a3, upd a4 i x, a5, a6)
def ce_u5 (u : St2) (i : Nat) (x : Int32) : St2 := match u with | (d, b, c, a1, a2, a3, a4, a5, a6) => (d, b, c, a1, a2, a3, a4, upd a5 i x, a6)
def ce_u6 (u : St2) (i : Nat) (x : Int32) : St2 := match u with | (d, b, c, a1, a2, a3, a4, a5, a6) => (d, b, c, a1, a2, a3, a4, a5, upd a6 i x)
theorem ce_Sd (s : Nat) {v : Nat} (hv : v < 256) : ce_S (ev_p s 909 v) = ce_ud (ce_S s) (nI v) := by
  simp only [ce_S, ce_ud]
  rw [ce_gs s _ hv, ce_gn s hv (by omega), ce_gn s hv (by omega), ce_an s hv (by omega), ce_an s hv (by omega), ce_an s hv (by omega), ce_an s hv (by omega), ce_an s hv (by omega), ce_an s hv (by omega)]
theorem ce_Sb (s : Nat) {v : Nat} (hv : v < 256) : ce_S (ev_p s 910 v) = ce_ub (ce_S s) (nI v) := by
  simp only [ce_S, ce_ub]
  rw [ce_gs s _ hv, ce_gn s hv (by omega), ce_gn s hv (by omega), ce_an s hv (by omega), ce_an s hv (by omega), ce_an s hv (by omega), ce_an s hv (by omega), ce_an s hv (by omega), ce_an s hv (by omega)]
theorem ce_Sk (s : Nat) {v : Nat} (hv : v < 256) : ce_S (ev_p s 911 v) = ce_uk (ce_S s) (nI v) := by
  simp only [ce_S, ce_uk]
  rw [ce_gs s _ hv, ce_gn s hv (by omega), ce_gn s hv (by omega), ce_an s hv (by omega), ce_an s hv (by omega), ce_an s hv (by omega), ce_an s hv (by omega), ce_an s hv (by omega), ce_an s hv (by omega)]
theorem ce_S1 (s : Nat) {i v : Nat} (hi : i < 64) (hv : v < 256) : ce_S (ev_p s i v) = ce_u1 (ce_S s) i (nI v) := by
  have e : ce_ar (ev_p s i v) 0 64 = upd (ce_ar s 0 64) i (nI v) := by
    have e := ce_aw (off := 0) (len := 64) s hi hv
    rw [Nat.zero_add] at e
    exact e
  simp only [ce_S, ce_u1]
  rw [e, ce_gn s hv (show 909 ≠ i by omega), ce_gn s hv (show 910 ≠ i by omega), ce_gn s hv (show 911 ≠ i by omega), ce_an (off := 64) s hv (by omega), ce_an (off := 129) s hv (by omega), ce_an (off := 194) s hv (by omega), ce_an (off := 259) s hv (by omega), ce_an (off := 584) s hv (by omega)]
theorem ce_S2 (s : Nat) {i v : Nat} (hi : i < 65) (hv : v < 256) : ce_S (ev_p s (64 + i) v) = ce_u2 (ce_S s) i (nI v) := by
  simp only [ce_S, ce_u2]
  rw [ce_aw s hi hv, ce_gn s hv (show 909 ≠ 64 + i by omega), ce_gn s hv (show 910 ≠ 64 + i by omega), ce_gn s hv (show 911 ≠ 64 + i by omega), ce_an (off := 0) s hv (by omega), ce_an (off := 129) s hv (by omega), ce_an (off := 194) s hv (by omega), ce_an (off := 259) s hv (by omega), ce_an (off := 584) s hv (by omega)]
theorem ce_S3 (s : Nat) {i v : Nat} (hi : i < 65) (hv : v < 256) : ce_S (ev_p s (129 + i) v) = ce_u3 (ce_S s) i (nI v) := by
  simp only [ce_S, ce_u3]
  rw [ce_aw s hi hv, ce_gn s hv (show 909 ≠ 129 + i by omega), ce_gn s hv (show 910 ≠ 129 + i by omega), ce_gn s hv (show 911 ≠ 129 + i by omega), ce_an (off := 0) s hv (by omega), ce_an (off := 64) s hv (by omega), ce_an (off := 194) s hv (by omega), ce_an (off := 259) s hv (by omega), ce_an (off := 584) s hv (by omega)]
theorem ce_S4 (s : Nat) {i v : Nat} (hi : i < 65) (hv : v < 256) : ce_S (ev_p s (194 + i) v) = ce_u4 (ce_S s) i (nI v) := by
  simp only [ce_S, ce_u4]
  rw [ce_aw s hi hv, ce_gn s hv (show 909 ≠ 194 + i by omega), ce_gn s hv (show 910 ≠ 194 + i by omega), ce_gn s hv (show 911 ≠ 194 + i by omega), ce_an (off := 0) s hv (by omega), ce_an (off := 64) s hv (by omega), ce_an (off := 129) s hv (by omega), ce_an (off := 259) s hv (by omega), ce_an (off := 584) s hv (by omega)]
theorem ce_S5 (s : Nat) {i v : Nat} (hi : i < 325) (hv : v < 256) : ce_S (ev_p s (259 + i) v) = ce_u5 (ce_S s) i (nI v) := by
  simp only [ce_S, ce_u5]
  rw [ce_aw s hi hv, ce_gn s hv (show 909 ≠ 259 + i by omega), ce_gn s hv (show 910 ≠ 259 + i by omega), ce_gn s hv (show 911 ≠ 259 + i by omega), ce_an (off := 0) s hv (by omega), ce_an (off := 64) s hv (by omega), ce_an (off := 129) s hv (by omega), ce_an (off := 194) s hv (by omega), ce_an (off := 584) s hv (by omega)]
theorem ce_S6 (s : Nat) {i v : Nat} (hi : i < 325) (hv : v < 256) : ce_S (ev_p s (584 + i) v) = ce_u6 (ce_S s) i (nI v) := by
  simp only [ce_S, ce_u6]
  rw [ce_aw s hi hv, ce_gn s hv (show 909 ≠ 584 + i by omega), ce_gn s hv (show 910 ≠ 584 + i by omega), ce_gn s hv (show 911 ≠ 584 + i by omega), ce_an (off := 0) s hv (by omega), ce_an (off := 64) s hv (by omega), ce_an (off := 129) s hv (by omega), ce_an (off := 194) s hv (by omega), ce_an (off := 259) s hv (by omega)]
/-! ints of naturals -/
theorem ce_and (a b : Nat) : nI a &&& nI b = nI (a &&& b) := by
  apply Int32.toBitVec_inj.1
  show BitVec.ofNat 32 a &&& BitVec.ofNat 32 b = BitVec.ofNat 32 (a &&& b)
  apply BitVec.eq_of_getLsbD_eq
  intro i hi
  simp [hi]
theorem ce_xor (a b : Nat) : nI a ^^^ nI b = nI (a ^^^ b) := by
  apply Int32.toBitVec_inj.1
  show BitVec.ofNat 32 a ^^^ BitVec.ofNat 32 b = BitVec.ofNat 32 (a ^^^ b)
  apply BitVec.eq_of_getLsbD_eq
  intro i hi
  simp [hi]
theorem ce_or (a b : Nat) : nI a ||| nI b = nI (a ||| b) := by
  apply Int32.toBitVec_inj.1
  show BitVec.ofNat 32 a ||| BitVec.ofNat 32 b = BitVec.ofNat 32 (a ||| b)
  apply BitVec.eq_of_getLsbD_eq
  intro i hi
  simp [hi]
theorem ce_cl {n : Nat} (h : n < 1000) : (nI n).toNatClampNeg = n := nI_clamp (by omega)
theorem ce_ix (b l : Nat) : nI b * 5 + nI l = nI (b * 5 + l) := by
  rw [show (5 : Int32) = nI 5 from rfl, pk_mul, nI_add]
theorem ce_nb : ∀ n, n < 128 → (nI n).toInt8.toInt32 = nI n := by decide +kernel
theorem ce_ns : ∀ n, n < 256 → (nI n).toInt16.toInt32 = nI n := by decide +kernel
theorem ce_vb {n : Nat} (h : n < 128) : vp_nar .byte (nI n) = nI n := by rw [vp_nar_byte, ce_nb n h]
theorem ce_vs {n : Nat} (h : n < 256) : vp_nar .short (nI n) = nI n := by rw [vp_nar_short, ce_ns n h]
theorem ce_sh : ∀ d, d < 8 → (1 : Int32) <<< (nI d &&& 31) = nI (2 ^ d) := by decide +kernel
theorem ce_shm : ∀ d, d < 8 → ((1 : Int32) <<< (nI d &&& 31)) - 1 = nI (2 ^ d - 1) := by decide +kernel
theorem ce_sc : ∀ d, d < 32 → ((nI d &&& 31).toBitVec.smod 32).toNat = d := by decide +kernel
theorem ce_sr {x d : Nat} (hx : x < 256) (hd : d < 32) : nI x >>> (nI d &&& 31) = nI (x >>> d) := by
  rw [pk_shrN (by omega) (nI d &&& 31) d (ce_sc d hd), Nat.shiftRight_eq_div_pow]
theorem ce_p6 {d : Nat} (h : d ≤ 6) : 2 ^ d ≤ 64 := Nat.pow_le_pow_right (n := 2) (by decide) h
theorem ce_m6 {d : Nat} (k : Nat) (h : d ≤ 6) : k &&& (2 ^ d - 1) < 64 := by
  have h1 : k &&& (2 ^ d - 1) ≤ 2 ^ d - 1 := Nat.and_le_right
  have h2 := ce_p6 h
  omega
theorem ce_sub {a : Nat} (h : 1 ≤ a) : nI a - 1 = nI (a - 1) := by
  rw [show (1 : Int32) = nI 1 from rfl, pk_sub h]
theorem ce_ble {a b : Nat} : (Nat.ble a b = true) = (a ≤ b) := by rw [Nat.ble_eq]
theorem ce_blef {a b : Nat} : (Nat.ble a b = false) = (b < a) := by
  apply propext
  rw [← Bool.not_eq_true, ce_ble]
  omega
theorem ce_beq {a b : Nat} : (Nat.beq a b = true) = (a = b) := by rw [Nat.beq_eq]
theorem ce_beqf {a b : Nat} : (Nat.beq a b = false) = (a ≠ b) := by
  apply propext
  rw [← Bool.not_eq_true, ce_beq]
end
section
/-! evaluators: Bool, in continuation style; every range that the code needs is checked, a failed check answers false -/
noncomputable def ev_fz (n : Nat) (f : Nat → Bool) : Bool := @Nat.rec (fun _ => Bool) (f 0) (fun m _ => f (Nat.succ m)) n
noncomputable def ev_if (c a b : Bool) : Bool := @Bool.rec (fun _ => Bool) b a c
noncomputable def ev_ck (c a : Bool) : Bool := @Bool.rec (fun _ => Bool) false a c
def ev_eq (x y : Int32) : Bool := decide (x = y)
theorem ev_fz_e (n : Nat) (f : Nat → Bool) : ev_fz n f = f n := by cases n <;> rfl
theorem ev_if_e {c a b : Bool} : (ev_if c a b = true) = ((c = true ∧ a = true) ∨ (c = false ∧ b = true)) := by
  cases c <;> simp [ev_if]
theorem ev_ck_e {c a : Bool} : (ev_ck c a = true) = (c = true ∧ a = true) := by
  cases c <;> simp [ev_ck]
theorem ev_eq_e {x y : Int32} : (ev_eq x y = true) = (x = y) := by simp [ev_eq]
noncomputable def ev_isKey (key : Nat) (kt kf : Bool) : Bool := ev_if (Nat.ble key 255) kt (ev_ck (Nat.ble key 1000) kf)
noncomputable def ev_bo (s key : Nat) (k : Nat → Bool) : Bool := ev_ck (Nat.ble (ev_g s 909) 6) (ev_fz (ev_g s (key &&& (2 ^ ev_g s 909 - 1))) k)
noncomputable def ev_findL (s b key : Nat) (nf : Bool) (k : Nat → Bool) : Nat → Nat → Bool
  | 0 => fun _ => false
  | n + 1 => fun i => ev_if (Nat.ble (ev_g s (194 + b)) i) nf (ev_ck (Nat.ble (b * 5 + i) 324) (ev_if (Nat.beq (ev_g s (259 + (b * 5 + i))) key) (k i) (ev_fz (i + 1) (ev_findL s b key nf k n))))
noncomputable def ev_find (s b key : Nat) (nf : Bool) (k : Nat → Bool) : Bool := ev_ck (Nat.ble b 64) (ev_findL s b key nf k 8 0)
noncomputable def ev_has (s key : Nat) (kt kf : Bool) : Bool := ev_isKey key (ev_bo s key (fun b => ev_find s b key kf (fun _ => kt))) kf
noncomputable def ev_app (s b key v : Nat) (k : Nat → Bool) : Bool :=
  ev_ck (Nat.ble b 64) (ev_ck (Nat.ble key 255) (ev_ck (Nat.ble v 255) (ev_fz (ev_g s (194 + b)) (fun l => ev_ck (Nat.ble l 100) (ev_ck (Nat.ble (b * 5 + l) 324)
    (ev_fz (ev_p s (259 + (b * 5 + l)) key) (fun s1 => ev_fz (ev_p s1 (584 + (b * 5 + l)) v) (fun s2 => ev_fz (ev_p s2 (194 + b) (l + 1)) k))))))))
/-! splitting -/
noncomputable def ev_newL (s : Nat) (k : Nat → Nat → Bool) : Nat → Nat → Bool
  | 0 => fun _ => false
  | n + 1 => fun i => ev_ck (Nat.ble i 64) (ev_if (Nat.beq (ev_g s (64 + i)) 0)
      (ev_ck (Nat.ble (ev_g s 910) 100) (ev_fz (ev_p s (64 + i) 1) (fun s1 => ev_fz (ev_p s1 (194 + i) 0) (fun s2 => ev_fz (ev_p s2 910 (ev_g s 910 + 1)) (k i)))))
      (ev_fz (i + 1) (ev_newL s k n)))
noncomputable def ev_new (s : Nat) (k : Nat → Nat → Bool) : Bool := ev_newL s k 66 0
noncomputable def ev_s183 (e d c low : Nat) (k : Nat → Bool) : Nat → Nat → Nat → Bool
  | 0 => fun _ _ => false
  | n + 1 => fun i s => ev_if (Nat.ble (2 ^ ev_g s 909) i) (k s) (ev_if (Nat.beq (i &&& low) (e &&& low))
      (ev_if (Nat.beq ((i >>> d) &&& 1) 1) (ev_fz (ev_p s i c) (fun s1 => ev_fz (i + 1) (fun i1 => ev_s183 e d c low k n i1 s1))) (ev_fz (i + 1) (fun i1 => ev_s183 e d c low k n i1 s)))
      (ev_fz (i + 1) (fun i1 => ev_s183 e d c low k n i1 s)))
noncomputable def ev_s111 (b e d c n : Nat) (k : Nat → Bool) : Nat → Nat → Nat → Bool
  | 0 => fun _ _ => false
  | m + 1 => fun i s => ev_if (Nat.ble n i) (ev_ck (Nat.ble (ev_g s 909) 6) (ev_fz (2 ^ d - 1) (fun low => ev_s183 e d c low k 65 0 s)))
      (ev_ck (Nat.ble (b * 5 + i) 324) (ev_fz (ev_g s (259 + (b * 5 + i))) (fun key => ev_fz (ev_g s (584 + (b * 5 + i))) (fun v =>
        ev_if (Nat.beq ((key >>> d) &&& 1) 0) (ev_app s b key v (fun s1 => ev_fz (i + 1) (fun i1 => ev_s111 b e d c n k m i1 s1))) (ev_app s c key v (fun s1 => ev_fz (i + 1) (fun i1 => ev_s111 b e d c n k m i1 s1)))))))
noncomputable def ev_s66 (s b e d : Nat) (k : Nat → Bool) : Bool :=
  ev_new s (fun c s0 => ev_ck (Nat.ble c 64) (ev_fz (ev_p s0 (129 + b) (d + 1)) (fun s1 => ev_fz (ev_p s1 (129 + c) (d + 1)) (fun s2 => ev_fz (ev_g s0 (194 + b)) (fun n => ev_fz (ev_p s2 (194 + b) 0) (fun s3 => ev_s111 b e d c n k 7 0 s3))))))
noncomputable def ev_s18 (b e d : Nat) (k : Nat → Bool) : Nat → Nat → Nat → Bool
  | 0 => fun _ _ => false
  | m + 1 => fun i s => ev_if (Nat.ble (2 ^ ev_g s 909) i) (ev_fz (ev_p s 909 (ev_g s 909 + 1)) (fun s1 => ev_s66 s1 b e d k))
      (ev_ck (Nat.ble (i + 2 ^ ev_g s 909) 63) (ev_ck (Nat.ble (ev_g s i) 127) (ev_fz (ev_p s (i + 2 ^ ev_g s 909) (ev_g s i)) (fun s1 => ev_fz (i + 1) (fun i1 => ev_s18 b e d k m i1 s1)))))
noncomputable def ev_split (s b e : Nat) (k : Nat → Bool) : Bool :=
  ev_ck (Nat.ble b 64) (ev_ck (Nat.ble (ev_g s 909) 6) (ev_fz (ev_g s (129 + b)) (fun d => ev_ck (Nat.ble d 7) (ev_if (Nat.beq d (ev_g s 909)) (ev_s18 b e d k 65 0 s) (ev_s66 s b e d k)))))
noncomputable def ev_i26 (key : Nat) (k : Nat → Bool) : Nat → Nat → Nat → Nat → Bool
  | 0 => fun _ _ _ => false
  | m + 1 => fun b r s => ev_if (Nat.ble 6 r) (k s) (ev_ck (Nat.ble b 64) (ev_if (Nat.ble (ev_g s (194 + b)) 4) (k s)
      (ev_split s b key (fun s1 => ev_bo s1 key (fun b1 => ev_fz (r + 1) (fun r1 => ev_i26 key k m b1 r1 s1))))))
noncomputable def ev_ins (s key v : Nat) (k : Nat → Bool) : Bool :=
  ev_bo s key (fun b => ev_app s b key v (fun s1 => ev_ck (Nat.ble (ev_g s1 911) 100) (ev_fz (ev_p s1 911 (ev_g s1 911 + 1)) (fun s2 => ev_i26 key k 7 b 0 s2))))
noncomputable def ev_put (s key v : Nat) (k : Int32 → Nat → Bool) : Bool :=
  ev_isKey key (ev_bo s key (fun b => ev_find s b key (ev_if (Nat.ble 40 (ev_g s 911)) (k (-2) s) (ev_ins s key v (fun s1 => k (nI (ev_g s1 910)) s1)))
    (fun i => ev_ck (Nat.ble (b * 5 + i) 324) (ev_ck (Nat.ble v 255) (ev_fz (ev_p s (584 + (b * 5 + i)) v) (fun s1 => k (nI (ev_g s 910)) s1)))))) (k (-1) s)
/-! joining -/
noncomputable def ev_deepL (s : Nat) (k : Nat → Bool) : Nat → Nat → Nat → Bool
  | 0 => fun _ _ => false
  | n + 1 => fun m i => ev_if (Nat.ble 64 i) (k m) (ev_if (Nat.beq (ev_g s (64 + i)) 0) (ev_fz (i + 1) (ev_deepL s k n m))
      (ev_fz (ev_g s (129 + i)) (fun d => ev_if (Nat.ble d m) (ev_fz (i + 1) (ev_deepL s k n m)) (ev_fz (i + 1) (ev_deepL s k n d)))))
noncomputable def ev_deep (s : Nat) (k : Nat → Bool) : Bool := ev_deepL s k 65 0 0
noncomputable def ev_j154 (b c : Nat) (k : Nat → Nat → Bool) : Nat → Nat → Nat → Bool
  | 0 => fun _ _ => false
  | m + 1 => fun i s => ev_if (Nat.ble (2 ^ ev_g s 909) i) (k 1 s) (ev_ck (Nat.ble i 63) (ev_fz (ev_g s i) (fun v => ev_if (Nat.beq v c)
      (ev_fz (ev_p s i b) (fun s1 => ev_fz (i + 1) (fun i1 => ev_j154 b c k m i1 s1)))
      (ev_ck (Nat.ble v 127) (ev_fz (i + 1) (fun i1 => ev_j154 b c k m i1 s))))))
noncomputable def ev_j76 (b d c : Nat) (k : Nat → Nat → Bool) : Nat → Nat → Nat → Bool
  | 0 => fun _ _ => false
  | m + 1 => fun i s => ev_if (Nat.ble (ev_g s (194 + c)) i)
      (ev_ck (Nat.ble (ev_g s 909) 6) (ev_ck (Nat.ble 1 (ev_g s 910)) (ev_fz (ev_p s (64 + c) 0) (fun s1 => ev_fz (ev_p s1 910 (ev_g s 910 - 1)) (fun s2 => ev_fz (ev_p s2 (129 + b) (d - 1)) (fun s3 => ev_j154 b c k 65 0 s3))))))
      (ev_ck (Nat.ble (c * 5 + i) 324) (ev_fz (ev_g s (259 + (c * 5 + i))) (fun key => ev_fz (ev_g s (584 + (c * 5 + i))) (fun v => ev_app s b key v (fun s1 => ev_fz (i + 1) (fun i1 => ev_j76 b d c k m i1 s1))))))
noncomputable def ev_join (s key : Nat) (k : Nat → Nat → Bool) : Bool :=
  ev_bo s key (fun b => ev_ck (Nat.ble b 64) (ev_ck (Nat.ble (ev_g s 909) 6) (ev_fz (ev_g s (129 + b)) (fun d => ev_if (Nat.beq d 0) (k 0 s) (ev_ck (Nat.ble d 7)
    (ev_fz (ev_g s ((key ^^^ 2 ^ (d - 1)) &&& (2 ^ ev_g s 909 - 1))) (fun c => ev_ck (Nat.ble c 64) (ev_if (Nat.beq (ev_g s (129 + c)) d)
      (ev_if (Nat.ble (ev_g s (194 + b) + ev_g s (194 + c)) 4) (ev_j76 b d c k 7 0 s) (k 0 s)) (k 0 s)))))))))
noncomputable def ev_d102 (k : Nat → Bool) : Nat → Nat → Bool
  | 0 => fun _ => false
  | m + 1 => fun s => ev_if (Nat.ble (ev_g s 909) 0) (k s) (ev_deep s (fun r => ev_if (Nat.ble (ev_g s 909) r) (k s) (ev_fz (ev_p s 909 (ev_g s 909 - 1)) (ev_d102 k m))))
noncomputable def ev_d77 (key : Nat) (k : Nat → Bool) : Nat → Nat → Nat → Nat → Bool
  | 0 => fun _ _ _ => false
  | m + 1 => fun j r s => ev_if (Nat.ble 6 r) (ev_d102 k 8 s) (ev_if (Nat.beq j 0) (ev_d102 k 8 s) (ev_join s key (fun j1 s1 => ev_fz (r + 1) (fun r1 => ev_d77 key k m j1 r1 s1))))
noncomputable def ev_del (s b place key : Nat) (k : Nat → Bool) : Bool :=
  ev_ck (Nat.ble b 64) (ev_fz (ev_g s (194 + b)) (fun l => ev_ck (Nat.ble 1 l) (ev_ck (Nat.ble l 100) (ev_ck (Nat.ble (b * 5 + (l - 1)) 324) (ev_ck (Nat.ble (b * 5 + place) 324) (ev_ck (Nat.ble 1 (ev_g s 911))
    (ev_fz (ev_p s (194 + b) (l - 1)) (fun s1 => ev_fz (ev_p s1 (259 + (b * 5 + place)) (ev_g s (259 + (b * 5 + (l - 1))))) (fun s2 => ev_fz (ev_p s2 (584 + (b * 5 + place)) (ev_g s (584 + (b * 5 + (l - 1))))) (fun s3 =>
      ev_fz (ev_p s3 911 (ev_g s 911 - 1)) (fun s4 => ev_d77 key k 7 1 0 s4)))))))))))
noncomputable def ev_rem (s key : Nat) (k : Int32 → Nat → Bool) : Bool :=
  ev_has s key (ev_bo s key (fun b => ev_find s b key false (fun i => ev_del s b i key (fun s1 => k (nI (ev_g s1 910)) s1)))) (k (-1) s)
/-! questions -/
noncomputable def ev_get (s key : Nat) (k : Int32 → Bool) : Bool :=
  ev_has s key (ev_bo s key (fun b => ev_find s b key (k 0) (fun i => ev_ck (Nat.ble (b * 5 + i) 324) (k (nI (ev_g s (584 + (b * 5 + i)))))))) (k 0)
noncomputable def ev_dof (s key : Nat) (k : Int32 → Bool) : Bool := ev_isKey key (ev_bo s key (fun b => ev_ck (Nat.ble b 64) (k (nI (ev_g s (129 + b)))))) (k (-1))
noncomputable def ev_load (s key : Nat) (k : Int32 → Bool) : Bool := ev_isKey key (ev_bo s key (fun b => ev_ck (Nat.ble b 64) (k (nI (ev_g s (194 + b)))))) (k (-1))
noncomputable def ev_b35 (s b i q : Nat) (k : Int32 → Bool) (J : Nat → Bool) : Nat → Nat → Nat → Bool
  | 0 => fun _ _ => false
  | n + 1 => fun l j => ev_if (Nat.ble (ev_g s (194 + b)) j) (ev_if (Nat.beq l q) (k (nI (ev_g s (259 + (b * 5 + i))))) (ev_fz (i + 1) J))
      (ev_ck (Nat.ble (b * 5 + j) 324) (ev_if (Nat.ble (ev_g s (259 + (b * 5 + i))) (ev_g s (259 + (b * 5 + j)))) (ev_fz (j + 1) (ev_b35 s b i q k J n l)) (ev_fz (l + 1) (fun l1 => ev_fz (j + 1) (ev_b35 s b i q k J n l1)))))
noncomputable def ev_b18 (s b q : Nat) (k : Int32 → Bool) : Nat → Nat → Bool
  | 0 => fun _ => false
  | n + 1 => fun i => ev_if (Nat.ble (ev_g s (194 + b)) i) (k (-1)) (ev_ck (Nat.ble (b * 5 + i) 324) (ev_b35 s b i q k (ev_b18 s b q k n) 8 0 0))
noncomputable def ev_inB (s key q : Nat) (k : Int32 → Bool) : Bool := ev_isKey key (ev_bo s key (fun b => ev_ck (Nat.ble b 64) (ev_b18 s b q k 8 0))) (k (-1))
noncomputable def ev_tog (s a b : Nat) (kt kf : Bool) : Bool := ev_isKey a (ev_isKey b (ev_bo s a (fun x => ev_bo s b (fun y => ev_if (Nat.beq x y) kt kf))) kf) kf
noncomputable def ev_ofDL (s d : Nat) (k : Nat → Bool) : Nat → Nat → Nat → Bool
  | 0 => fun _ _ => false
  | m + 1 => fun n i => ev_if (Nat.ble 64 i) (k n) (ev_if (Nat.beq (ev_g s (64 + i)) 0) (ev_fz (i + 1) (ev_ofDL s d k m n))
      (ev_if (Nat.beq (ev_g s (129 + i)) d) (ev_fz (n + 1) (fun n1 => ev_fz (i + 1) (ev_ofDL s d k m n1))) (ev_fz (i + 1) (ev_ofDL s d k m n))))
noncomputable def ev_ofD (s d : Nat) (k : Nat → Bool) : Bool := ev_ck (Nat.ble d 1000) (ev_ofDL s d k 65 0 0)
noncomputable def ev_nextL (s : Nat) (k : Int32 → Bool) : Nat → Nat → Bool
  | 0 => fun _ => false
  | n + 1 => fun x => ev_if (Nat.ble 256 x) (k (-1)) (ev_has s x (k (nI x)) (ev_fz (x + 1) (ev_nextL s k n)))
noncomputable def ev_next (s x : Nat) (k : Int32 → Bool) : Bool := ev_ck (Nat.ble x 1000) (ev_nextL s k 260 x)
noncomputable def ev_grow (s key : Nat) (k : Int32 → Nat → Bool) : Bool :=
  ev_isKey key (ev_has s key (k 0 s) (ev_ins s key 0 (fun s1 => ev_rem s1 key (fun _ s2 => k (nI (ev_g s1 910) - nI (ev_g s 910)) s2)))) (k (-1) s)
end
section
/-! the law's evaluator: t the turn, go whether the old keys go, D the depth, f the flip -/
noncomputable def ev_end (t f s : Nat) : Bool :=
  ev_ck (Nat.beq (ev_g s 910) 8) (ev_ck (Nat.beq (ev_g s 911) 32) (ev_deep s (fun r => ev_ck (Nat.beq r 3) (ev_tog s t (t ||| f) (ev_rem s 256 (fun r1 s1 => ev_ck (ev_eq r1 (-1))
    (ev_ofD s1 9 (fun n => ev_ck (Nat.beq n 0) (ev_dof s1 256 (fun r2 => ev_eq r2 (-1))))))) false))))
noncomputable def ev_L538 (J : Nat → Nat → Nat → Bool) (go D f due e en : Nat) (r : Int32) (s : Nat) : Bool :=
  ev_ck (Nat.ble (D - 3) due) (ev_fz (due - (D - 3)) (fun du => ev_ck (ev_eq r (nI du)) (ev_dof s en (fun r1 => ev_ck (ev_eq r1 3)
    (ev_if (Nat.beq go 0) (ev_has s (en ||| f) false (ev_fz (e + 1) (fun e1 => J du e1 s))) (ev_has s (en ||| 64) false (ev_fz (e + 1) (fun e1 => J du e1 s))))))))
noncomputable def ev_L498 (t go D f : Nat) : Nat → Nat → Nat → Nat → Bool
  | 0 => fun _ _ _ => false
  | m + 1 => fun due e s => ev_if (Nat.ble 8 e) (ev_end t f s) (ev_fz (e ^^^ t) (fun en => ev_if (Nat.beq go 0)
      (ev_fz (en ||| f) (fun ky => ev_rem s ky (fun r s1 => ev_L538 (ev_L498 t go D f m) go D f due e en r s1)))
      (ev_fz (en ||| 64) (fun ky => ev_rem s ky (fun r s1 => ev_L538 (ev_L498 t go D f m) go D f due e en r s1)))))
noncomputable def ev_L453 (t go D f due s : Nat) : Bool :=
  ev_next s 0 (fun r => ev_ck (ev_eq r 0) (ev_next s 200 (fun r1 => ev_ck (ev_eq r1 (-1)) (ev_next s 193 (fun r2 => ev_ck (ev_eq r2 193) (ev_L498 t go D f 9 due 0 s))))))
noncomputable def ev_L342 (t go D f due z s : Nat) : Bool :=
  ev_ck (Nat.beq (ev_g s 911) 40) (ev_ofD s D (fun n => ev_ck (Nat.beq n 16) (ev_put s (t ||| z) 1 (fun r s1 => ev_ck (ev_eq r (-2)) (ev_put s1 t 7 (fun r1 s2 => ev_ck (ev_eq r1 (nI due))
    (ev_get s2 t (fun r2 => ev_ck (ev_eq r2 7) (ev_inB s2 t 3 (fun r3 => ev_ck (ev_eq r3 (nI (t ||| 192))) (ev_inB s2 t 4 (fun r4 => ev_ck (ev_eq r4 (-1))
      (ev_ofD s2 4 (fun n1 => ev_if (Nat.beq D 4) (ev_ck (Nat.beq n1 16) (ev_L453 t go D f due s2)) (ev_ck (Nat.beq n1 8) (ev_L453 t go D f due s2))))))))))))))))
noncomputable def ev_L197 (t go D f : Nat) : Nat → Nat → Nat → Nat → Bool
  | 0 => fun _ _ _ => false
  | m + 1 => fun due e s => ev_if (Nat.ble 8 e) (ev_if (Nat.beq f 8) (ev_L342 t go D f due 16 s) (ev_L342 t go D f due 8 s))
      (ev_fz (e ^^^ t) (fun en => ev_fz (due + D - 3) (fun du => ev_fz (en ||| f) (fun ky => ev_put s ky (100 + e) (fun r s1 => ev_ck (ev_eq r (nI du)) (ev_dof s1 en (fun r1 => ev_ck (ev_eq r1 (nI D))
        (ev_dof s1 ky (fun r2 => ev_ck (ev_eq r2 (nI D)) (ev_load s1 ky (fun r3 => ev_ck (ev_eq r3 1) (ev_tog s1 en (en ||| 192) (ev_tog s1 en ky false (ev_fz (e + 1) (fun e1 => ev_L197 t go D f m du e1 s1))) false)))))))))))
      )
noncomputable def ev_L60 (J : Nat → Nat → Bool) (e en : Nat) : Nat → Nat → Nat → Bool
  | 0 => fun _ _ => false
  | m + 1 => fun k s => ev_if (Nat.ble 4 k) (ev_fz (e + 1) (fun e1 => J e1 s)) (ev_fz (en ||| (k <<< 6)) (fun ky => ev_fz (10 * e + k) (fun v => ev_put s ky v (fun r s1 => ev_ck (decide (¬ r ≤ 0)) (ev_fz (k + 1) (fun k1 => ev_L60 J e en m k1 s1))))))
noncomputable def ev_L43 (t go D f : Nat) : Nat → Nat → Nat → Bool
  | 0 => fun _ _ => false
  | m + 1 => fun e s => ev_if (Nat.ble 8 e)
      (ev_ck (Nat.beq (ev_g s 911) 32) (ev_ck (Nat.beq (ev_g s 910) 8) (ev_deep s (fun r => ev_ck (Nat.beq r 3) (ev_load s 5 (fun r1 => ev_ck (ev_eq r1 4) (ev_grow s (t ||| f) (fun r2 s1 => ev_ck (ev_eq r2 (nI D - 3))
        (ev_ofD s1 3 (fun n => ev_ck (Nat.beq n 8) (ev_L197 t go D f 9 8 0 s1)))))))))))
      (ev_fz (e ^^^ t) (fun en => ev_L60 (ev_L43 t go D f m) e en 5 0 s))
def ev_s0 : Nat := ev_p (ev_p 0 64 1) 910 1
noncomputable def ev_law (t go D f : Nat) : Bool := ev_fz ev_s0 (fun s => ev_L43 t go D f 9 0 s)
end
section
/-! soundness: what an evaluator grants, the printed predicate grants -/
theorem ce_and1 (a : Nat) : nI a &&& 1 = nI (a &&& 1) := ce_and a 1
theorem ce_i65 {b : Nat} (h : b ≤ 64) : vp_in (nI b) 65 := vp_in_nI (by omega) (by decide)
theorem ce_i64 {b : Nat} (h : b ≤ 63) : vp_in (nI b) 64 := vp_in_nI (by omega) (by decide)
theorem ce_i325 {b : Nat} (h : b ≤ 324) : vp_in (nI b) 325 := vp_in_nI (by omega) (by decide)
/-- a predicate of nine places, said of a state -/
def ce_on (P : Int32 → Int32 → Int32 → (Nat → Int32) → (Nat → Int32) → (Nat → Int32) → (Nat → Int32) → (Nat → Int32) → (Nat → Int32) → Prop) (u : St2) : Prop := match u with | (d, b, c, a1, a2, a3, a4, a5, a6) => P d b c a1 a2 a3 a4 a5 a6
theorem so_isKey {post : Int32 → Prop} {key : Nat} {kt kf : Bool} (h : ev_isKey key kt kf = true) (h1 : key < 256 → kt = true → post 1) (h0 : kf = true → post 0) : wpX_isKey post () (nI key) := by
  simp only [ev_isKey, ev_if_e, ev_ck_e, ev_fz_e, ev_eq_e, ce_ble, ce_blef, ce_beq, ce_beqf] at h
  unfold wpX_isKey
  rcases h with ⟨h, hk⟩ | ⟨h, h', hk⟩
  · exact br_f (nI_pos (by omega)) (pk_le 256 key (fun z => absurd z (by omega)) (fun _ => h1 (by omega) hk))
  · exact br_f (nI_pos (by omega)) (pk_le 256 key (fun _ => h0 hk) (fun z => absurd z (by omega)))
theorem so_bo {post : Int32 → Prop} {s key : Nat} {k : Nat → Bool} (h : ev_bo s key k = true) (hk : ∀ b, b < 256 → k b = true → post (nI b)) : wpX_bucketOf post (ce_S s) (nI key) := by
  simp only [ev_bo, ev_if_e, ev_ck_e, ev_fz_e, ev_eq_e, ce_ble, ce_blef, ce_beq, ce_beqf] at h
  obtain ⟨hd, h⟩ := h
  have hm := ce_m6 key hd
  dsimp only [wpX_bucketOf, ce_S]
  rw [ce_shm _ (by omega), ce_and, ce_cl (by omega), ce_r1 s hm]
  exact ⟨ce_i64 (by omega), hk _ (ce_lt _ _) h⟩
theorem so_findL {post : Int32 → Prop} {s b key : Nat} {nf : Bool} {k : Nat → Bool} (hb : b ≤ 64) (hkey : key < 256) (hn : nf = true → post (-1)) (hk : ∀ i, i < 256 → k i = true → post (nI i)) :
    ∀ n i, i ≤ 256 → ev_findL s b key nf k n i = true → wX_find_2 post (nI b) (nI key) (nI (ev_g s 909)) (nI (ev_g s 910)) (nI (ev_g s 911)) (ce_ar s 0 64) (ce_ar s 64 65) (ce_ar s 129 65) (ce_ar s 194 65) (ce_ar s 259 325) (ce_ar s 584 325) n (nI i) := by
  intro n
  induction n with
  | zero => intro i _ h; exact absurd h Bool.false_ne_true
  | succ n ih =>
    intro i hi h
    simp only [ev_findL, ev_if_e, ev_ck_e, ev_fz_e, ev_eq_e, ce_ble, ce_blef, ce_beq, ce_beqf] at h
    have hl := ce_lt s (194 + b)
    have hg := ce_lt s (259 + (b * 5 + i))
    dsimp only [wX_find_2]
    rw [ce_cl (show b < 1000 by omega), ce_r s (show b < 65 by omega)]
    refine ⟨ce_i65 hb, pk_le (ev_g s (194 + b)) i (fun z => ?_) (fun z => ?_)⟩
    · rcases h with ⟨_, h⟩ | ⟨h, _⟩
      · exact hn h
      · omega
    · rcases h with ⟨h, _⟩ | ⟨_, h5, h⟩
      · omega
      · rw [ce_ix, ce_cl (show b * 5 + i < 1000 by omega), ce_r s (show b * 5 + i < 325 by omega)]
        refine ⟨ce_i325 h5, pk_eq (ev_g s (259 + (b * 5 + i))) key (fun y => ?_) (fun y => ?_)⟩
        · rcases h with ⟨_, h⟩ | ⟨h, _⟩
          · exact hk i (by omega) h
          · exact absurd y h
        · rcases h with ⟨h, _⟩ | ⟨_, h⟩
          · exact absurd h y
          · exact nm_r (nI_1 i) (ih (i + 1) (by omega) h)
theorem so_find {post : Int32 → Prop} {s b key : Nat} {nf : Bool} {k : Nat → Bool} (h : ev_find s b key nf k = true) (hkey : key < 256) (hn : nf = true → post (-1)) (hk : ∀ i, i < 256 → b ≤ 64 → k i = true → post (nI i)) : wpX_find post (ce_S s) (nI b) (nI key) := by
  simp only [ev_find, ev_if_e, ev_ck_e, ev_fz_e, ev_eq_e, ce_ble, ce_blef, ce_beq, ce_beqf] at h
  obtain ⟨hb, h⟩ := h
  exact ⟨8, so_findL hb hkey hn (fun i hi h => hk i hi hb h) 8 0 (by omega) h⟩
theorem so_has {post : Int32 → Prop} {s key : Nat} {kt kf : Bool} (h : ev_has s key kt kf = true) (h1 : key < 256 → kt = true → post 1) (h0 : kf = true → post 0) : wpX_has post (ce_S s) (nI key) := by
  unfold ev_has at h
  dsimp only [wpX_has, ce_S]
  refine so_isKey h (fun hlt h => ?_) (fun h => ?_)
  · refine br_f (by decide) (so_bo h (fun b hb h => ?_))
    refine so_find h hlt (fun h => ?_) (fun i hi _ h => ?_)
    · exact br_t (by decide) (h0 h)
    · exact br_f (nI_pos (by omega)) (h1 hlt h)
  · exact br_t rfl (h0 h)
theorem so_app {post : St2 → Prop} {s b key v : Nat} {k : Nat → Bool} (h : ev_app s b key v k = true) (hk : ∀ s', k s' = true → post (ce_S s')) : wpX_append post (ce_S s) (nI b) (nI key) (nI v) := by
  simp only [ev_app, ev_if_e, ev_ck_e, ev_fz_e, ev_eq_e, ce_ble, ce_blef, ce_beq, ce_beqf] at h
  obtain ⟨hb, hkey, hv, hl, h5, h⟩ := h
  have hp := hk _ h
  rw [ce_S4 _ (by omega) (by omega), ce_S6 _ (by omega) (by omega), ce_S5 _ (by omega) (by omega)] at hp
  have e1 : (nI b).toNatClampNeg = b := ce_cl (by omega)
  have e2 : ce_ar s 194 65 b = nI (ev_g s (194 + b)) := ce_r s (by omega)
  have e4 : (nI (b * 5 + ev_g s (194 + b))).toNatClampNeg = b * 5 + ev_g s (194 + b) := ce_cl (by omega)
  have e5 := ce_ns key (by omega)
  have e6 : (nI (ev_g s (194 + b)) + 1).toInt8.toInt32 = nI (ev_g s (194 + b) + 1) := by rw [nI_1, ce_nb _ (by omega)]
  have i1 := ce_i65 hb
  have i2 := ce_i325 h5
  dsimp only [wpX_append, ce_S]
  simp only [e1, e2, ce_ix, e4, e5, e6]
  exact ⟨i1, i2, nm_e ⟨i1, i2, nm_e ⟨i1, i1, nm_e hp⟩⟩⟩
theorem so_newL {post : Int32 → St2 → Prop} {s : Nat} {k : Nat → Nat → Bool} (hk : ∀ i s', i ≤ 64 → k i s' = true → post (nI i) (ce_S s')) :
    ∀ n i, i ≤ 65 → ev_newL s k n i = true → wX_newBucket_2 post (nI (ev_g s 909)) (nI (ev_g s 910)) (nI (ev_g s 911)) (ce_ar s 0 64) (ce_ar s 64 65) (ce_ar s 129 65) (ce_ar s 194 65) (ce_ar s 259 325) (ce_ar s 584 325) n (nI i) := by
  intro n
  induction n with
  | zero => intro i _ h; exact absurd h Bool.false_ne_true
  | succ n ih =>
    intro i hi h
    simp only [ev_newL, ev_if_e, ev_ck_e, ev_fz_e, ev_eq_e, ce_ble, ce_blef, ce_beq, ce_beqf] at h
    obtain ⟨h4, h⟩ := h
    have hu := ce_lt s (64 + i)
    have hc := ce_lt s 910
    have i1 := ce_i65 h4
    dsimp only [wX_newBucket_2]
    rw [ce_cl (show i < 1000 by omega), ce_r s (show i < 65 by omega)]
    refine ⟨i1, pk_eq (ev_g s (64 + i)) 0 (fun y => ?_) (fun y => ?_)⟩
    · rcases h with ⟨_, hb, h⟩ | ⟨h, _⟩
      · have hp := hk i _ h4 h
        rw [ce_Sb _ (by omega), ce_S4 _ (by omega) (by omega), ce_S2 _ (by omega) (by omega)] at hp
        exact ⟨i1, nm_e ⟨i1, nm_e (nm_r (nI_1 _) hp)⟩⟩
      · exact absurd y h
    · rcases h with ⟨h, _⟩ | ⟨_, h⟩
      · exact absurd h y
      · exact nm_r (nI_1 i) (ih (i + 1) (by omega) h)
theorem so_new {post : Int32 → St2 → Prop} {s : Nat} {k : Nat → Nat → Bool} (h : ev_new s k = true) (hk : ∀ i s', i ≤ 64 → k i s' = true → post (nI i) (ce_S s')) : wpX_newBucket post (ce_S s) :=
  ⟨66, so_newL hk 66 0 (by omega) h⟩
theorem so_s183 {post : St2 → Prop} {e d c low : Nat} {k : Nat → Bool} (he : e < 256) (hd : d ≤ 7) (hc : c ≤ 64) (hk : ∀ s', k s' = true → post (ce_S s')) :
    ∀ n i s, ev_g s 909 ≤ 6 → i ≤ 64 → ev_s183 e d c low k n i s = true → wX_split_183 post (nI e) (nI d) (nI c) (nI low) (nI (ev_g s 909)) (nI (ev_g s 910)) (nI (ev_g s 911)) n (nI i) (ce_ar s 0 64) (ce_ar s 64 65) (ce_ar s 129 65) (ce_ar s 194 65) (ce_ar s 259 325) (ce_ar s 584 325) := by
  intro n
  induction n with
  | zero => intro i s _ _ h; exact absurd h Bool.false_ne_true
  | succ n ih =>
    intro i s hD hi h
    simp only [ev_s183, ev_if_e, ev_ck_e, ev_fz_e, ev_eq_e, ce_ble, ce_blef, ce_beq, ce_beqf] at h
    have hp6 := ce_p6 hD
    have l1 : i &&& low ≤ i := Nat.and_le_left
    have l2 : e &&& low ≤ e := Nat.and_le_left
    have l3 : (i >>> d) &&& 1 ≤ 1 := Nat.and_le_right
    dsimp only [wX_split_183]
    rw [ce_sh _ (show ev_g s 909 < 8 by omega), ce_and, ce_and, ce_sr (show i < 256 by omega) (show d < 32 by omega), ce_and1, ce_cl (show i < 1000 by omega), ce_nb c (by omega)]
    refine pk_le (2 ^ ev_g s 909) i (fun z => ?_) (fun z => ?_)
    · rcases h with ⟨_, h⟩ | ⟨h, _⟩
      · exact hk s h
      · omega
    · rcases h with ⟨h, _⟩ | ⟨_, h⟩
      · omega
      · refine pk_eq (i &&& low) (e &&& low) (fun y => ?_) (fun y => ?_)
        · rcases h with ⟨_, h⟩ | ⟨h, _⟩
          · refine pk_eq ((i >>> d) &&& 1) 1 (fun x => ?_) (fun x => ?_)
            · rcases h with ⟨_, h⟩ | ⟨h, _⟩
              · have q : ce_on (fun d0 b0 c0 a1 a2 a3 a4 a5 a6 => wX_split_183 post (nI e) (nI d) (nI c) (nI low) d0 b0 c0 n (nI (i + 1)) a1 a2 a3 a4 a5 a6) (ce_S (ev_p s i c)) := ih (i + 1) (ev_p s i c) (by rw [ce_gn s (by omega) (by omega)]; exact hD) (by omega) h
                rw [ce_S1 s (by omega) (by omega)] at q
                exact ⟨ce_i64 (by omega), nm_e (nm_r (nI_1 i) q)⟩
              · exact absurd x h
            · rcases h with ⟨h, _⟩ | ⟨_, h⟩
              · exact absurd h x
              · exact nm_r (nI_1 i) (ih (i + 1) s hD (by omega) h)
          · exact absurd y h
        · rcases h with ⟨h, _⟩ | ⟨_, h⟩
          · exact absurd h y
          · exact nm_r (nI_1 i) (ih (i + 1) s hD (by omega) h)
theorem so_s111 {post : St2 → Prop} {b e d c w : Nat} {k : Nat → Bool} (hb : b ≤ 64) (he : e < 256) (hd : d ≤ 7) (hc : c ≤ 64) (hw : w < 256) (hk : ∀ s', k s' = true → post (ce_S s')) :
    ∀ n i s, i ≤ 256 → ev_s111 b e d c w k n i s = true → wX_split_111 post (nI b) (nI e) (nI d) (nI c) (nI w) n (nI i) (nI (ev_g s 909)) (nI (ev_g s 910)) (nI (ev_g s 911)) (ce_ar s 0 64) (ce_ar s 64 65) (ce_ar s 129 65) (ce_ar s 194 65) (ce_ar s 259 325) (ce_ar s 584 325) := by
  intro n
  induction n with
  | zero => intro i s _ h; exact absurd h Bool.false_ne_true
  | succ n ih =>
    intro i s hi h
    simp only [ev_s111, ev_if_e, ev_ck_e, ev_fz_e, ev_eq_e, ce_ble, ce_blef, ce_beq, ce_beqf] at h
    dsimp only [wX_split_111, wX_split_146]
    refine pk_le w i (fun z => ?_) (fun z => ?_)
    · rcases h with ⟨_, hD, h⟩ | ⟨h, _⟩
      · exact nm_r (ce_shm d (by omega)) ⟨65, so_s183 he hd hc hk 65 0 s hD (by omega) h⟩
      · omega
    · rcases h with ⟨h, _⟩ | ⟨_, h5, h⟩
      · omega
      · have i2 := ce_i325 h5
        have hg := ce_lt s (259 + (b * 5 + i))
        have l3 : (ev_g s (259 + (b * 5 + i)) >>> d) &&& 1 ≤ 1 := Nat.and_le_right
        rw [ce_ix, ce_cl (show b * 5 + i < 1000 by omega), ce_r (off := 259) s (show b * 5 + i < 325 by omega), ce_r (off := 584) s (show b * 5 + i < 325 by omega)]
        refine ⟨i2, nm_e ?_⟩
        rw [ce_sr hg (show d < 32 by omega), ce_and1]
        refine pk_eq ((ev_g s (259 + (b * 5 + i)) >>> d) &&& 1) 0 (fun y => ?_) (fun y => ?_)
        · rcases h with ⟨_, h⟩ | ⟨h, _⟩
          · refine ⟨i2, so_app h (fun s' h => ?_)⟩
            dsimp only [ce_S]
            exact nm_r (nI_1 i) (ih (i + 1) s' (by omega) h)
          · exact absurd y h
        · rcases h with ⟨h, _⟩ | ⟨_, h⟩
          · exact absurd h y
          · refine ⟨i2, so_app h (fun s' h => ?_)⟩
            dsimp only [ce_S]
            exact nm_r (nI_1 i) (ih (i + 1) s' (by omega) h)
theorem so_s66 {post : St2 → Prop} {s b e d : Nat} {k : Nat → Bool} (hb : b ≤ 64) (he : e < 256) (hd : d ≤ 7) (h : ev_s66 s b e d k = true) (hk : ∀ s', k s' = true → post (ce_S s')) : wX_split_66 post (nI b) (nI e) (nI d) (nI (ev_g s 909)) (nI (ev_g s 910)) (nI (ev_g s 911)) (ce_ar s 0 64) (ce_ar s 64 65) (ce_ar s 129 65) (ce_ar s 194 65) (ce_ar s 259 325) (ce_ar s 584 325) := by
  unfold ev_s66 at h
  unfold wX_split_66
  refine so_new h (fun c s' hc h => ?_)
  simp only [ev_if_e, ev_ck_e, ev_fz_e, ev_eq_e, ce_ble, ce_blef, ce_beq, ce_beqf] at h
  obtain ⟨_, h⟩ := h
  dsimp only [ce_S]
  have i1 := ce_i65 hb
  have e1 : (nI b).toNatClampNeg = b := ce_cl (by omega)
  have e2 : (nI c).toNatClampNeg = c := ce_cl (by omega)
  have e3 : (nI d + 1).toInt8.toInt32 = nI (d + 1) := by rw [nI_1, ce_nb _ (by omega)]
  rw [e1, e2, e3, ce_r (off := 194) s' (show b < 65 by omega)]
  have q : ce_on (wX_split_111 post (nI b) (nI e) (nI d) (nI c) (nI (ev_g s' (194 + b))) 7 (nI 0)) (ce_S (ev_p (ev_p (ev_p s' (129 + b) (d + 1)) (129 + c) (d + 1)) (194 + b) 0)) := so_s111 hb he hd hc (ce_lt _ _) hk 7 0 _ (by omega) h
  rw [ce_S4 _ (by omega) (by omega), ce_S3 _ (by omega) (by omega), ce_S3 _ (by omega) (by omega)] at q
  exact ⟨i1, nm_e ⟨ce_i65 hc, nm_e ⟨i1, nm_e ⟨i1, nm_e ⟨7, q⟩⟩⟩⟩⟩
theorem so_s18 {post : St2 → Prop} {b e d : Nat} {k : Nat → Bool} (hb : b ≤ 64) (he : e < 256) (hd : d ≤ 7) (hk : ∀ s', k s' = true → post (ce_S s')) :
    ∀ n i s, ev_g s 909 ≤ 6 → i ≤ 64 → ev_s18 b e d k n i s = true → wX_split_18 post (nI b) (nI e) (nI d) (nI (ev_g s 909)) (nI (ev_g s 910)) (nI (ev_g s 911)) n (nI i) (ce_ar s 0 64) (ce_ar s 64 65) (ce_ar s 129 65) (ce_ar s 194 65) (ce_ar s 259 325) (ce_ar s 584 325) := by
  intro n
  induction n with
  | zero => intro i s _ _ h; exact absurd h Bool.false_ne_true
  | succ n ih =>
    intro i s hD hi h
    simp only [ev_s18, ev_if_e, ev_ck_e, ev_fz_e, ev_eq_e, ce_ble, ce_blef, ce_beq, ce_beqf] at h
    have hp6 := ce_p6 hD
    dsimp only [wX_split_18]
    rw [ce_sh _ (show ev_g s 909 < 8 by omega)]
    refine pk_le (2 ^ ev_g s 909) i (fun z => ?_) (fun z => ?_)
    · rcases h with ⟨_, h⟩ | ⟨h, _⟩
      · have q : ce_on (wX_split_66 post (nI b) (nI e) (nI d)) (ce_S (ev_p s 909 (ev_g s 909 + 1))) := so_s66 hb he hd h hk
        rw [ce_Sd s (by omega)] at q
        exact nm_r (nI_1 _) q
      · omega
    · rcases h with ⟨h, _⟩ | ⟨_, h1, h2, h⟩
      · omega
      · rw [nI_add, ce_cl (show i < 1000 by omega), ce_cl (show i + 2 ^ ev_g s 909 < 1000 by omega), ce_r1 s (by omega), ce_vb (by omega)]
        have q : ce_on (fun d0 b0 c0 a1 a2 a3 a4 a5 a6 => wX_split_18 post (nI b) (nI e) (nI d) d0 b0 c0 n (nI (i + 1)) a1 a2 a3 a4 a5 a6) (ce_S (ev_p s (i + 2 ^ ev_g s 909) (ev_g s i))) := ih (i + 1) (ev_p s (i + 2 ^ ev_g s 909) (ev_g s i)) (by rw [ce_gn s (by omega) (by omega)]; exact hD) (by omega) h
        rw [ce_S1 s (by omega) (by omega)] at q
        exact ⟨ce_i64 (by omega), ce_i64 (by omega), nm_e (nm_r (nI_1 i) q)⟩
theorem so_split {post : St2 → Prop} {s b e : Nat} {k : Nat → Bool} (he : e < 256) (h : ev_split s b e k = true) (hk : ∀ s', k s' = true → post (ce_S s')) : wpX_split post (ce_S s) (nI b) (nI e) := by
  simp only [ev_split, ev_if_e, ev_ck_e, ev_fz_e, ev_eq_e, ce_ble, ce_blef, ce_beq, ce_beqf] at h
  obtain ⟨hb, hD, hd, h⟩ := h
  dsimp only [wpX_split, ce_S]
  rw [ce_cl (show b < 1000 by omega), ce_r s (show b < 65 by omega)]
  refine ⟨ce_i65 hb, nm_e (pk_eq (ev_g s (129 + b)) (ev_g s 909) (fun y => ?_) (fun y => ?_))⟩
  · rcases h with ⟨_, h⟩ | ⟨h, _⟩
    · exact ⟨65, so_s18 hb he hd hk 65 0 s hD (by omega) h⟩
    · exact absurd y h
  · rcases h with ⟨h, _⟩ | ⟨_, h⟩
    · exact absurd h y
    · exact so_s66 hb he hd h hk
theorem so_i26 {post : St2 → Prop} {key : Nat} {k : Nat → Bool} (hkey : key < 256) (hk : ∀ s', k s' = true → post (ce_S s')) :
    ∀ n b r s, b < 256 → r ≤ 6 → ev_i26 key k n b r s = true → wX_insert_26 post (nI key) n (nI b) (nI r) (nI (ev_g s 909)) (nI (ev_g s 910)) (nI (ev_g s 911)) (ce_ar s 0 64) (ce_ar s 64 65) (ce_ar s 129 65) (ce_ar s 194 65) (ce_ar s 259 325) (ce_ar s 584 325) := by
  intro n
  induction n with
  | zero => intro b r s _ _ h; exact absurd h Bool.false_ne_true
  | succ n ih =>
    intro b r s hb hr h
    simp only [ev_i26, ev_if_e, ev_ck_e, ev_fz_e, ev_eq_e, ce_ble, ce_blef, ce_beq, ce_beqf] at h
    have hl := ce_lt s (194 + b)
    dsimp only [wX_insert_26]
    refine pk_le 6 r (fun z => ?_) (fun z => ?_)
    · rcases h with ⟨_, h⟩ | ⟨h, _⟩
      · exact hk s h
      · omega
    · rcases h with ⟨h, _⟩ | ⟨_, h4, h⟩
      · omega
      · rw [ce_cl (show b < 1000 by omega), ce_r s (show b < 65 by omega)]
        refine ⟨ce_i65 h4, pk_le (ev_g s (194 + b)) 4 (fun y => ?_) (fun y => ?_)⟩
        · rcases h with ⟨_, h⟩ | ⟨h, _⟩
          · exact hk s h
          · omega
        · rcases h with ⟨h, _⟩ | ⟨_, h⟩
          · omega
          · refine so_split hkey h (fun s' h => ?_)
            dsimp only [ce_S]
            exact so_bo h (fun b' hb' h => nm_r (nI_1 r) (ih b' (r + 1) s' hb' (by omega) (by simpa only [ev_fz_e] using h)))
theorem so_ins {post : St2 → Prop} {s key v : Nat} {k : Nat → Bool} (hkey : key < 256) (h : ev_ins s key v k = true) (hk : ∀ s', k s' = true → post (ce_S s')) : wpX_insert post (ce_S s) (nI key) (nI v) := by
  unfold ev_ins at h
  dsimp only [wpX_insert, ce_S]
  refine so_bo h (fun b hb h => ?_)
  refine so_app h (fun s' h => ?_)
  simp only [ev_if_e, ev_ck_e, ev_fz_e, ev_eq_e, ce_ble, ce_blef, ce_beq, ce_beqf] at h
  obtain ⟨hc, h⟩ := h
  dsimp only [ce_S]
  have q : ce_on (wX_insert_26 post (nI key) 7 (nI b) (nI 0)) (ce_S (ev_p s' 911 (ev_g s' 911 + 1))) := so_i26 hkey hk 7 b 0 _ hb (by omega) h
  rw [ce_Sk s' (by omega)] at q
  exact nm_r (nI_1 _) ⟨7, q⟩
theorem so_put {post : Int32 → St2 → Prop} {s key v : Nat} {k : Int32 → Nat → Bool} (h : ev_put s key v k = true) (hk : ∀ r s', k r s' = true → post r (ce_S s')) : wpX_put post (ce_S s) (nI key) (nI v) := by
  unfold ev_put at h
  dsimp only [wpX_put, ce_S]
  refine so_isKey h (fun hlt h => ?_) (fun h => ?_)
  · refine br_f (by decide) (so_bo h (fun b hb h => ?_))
    refine so_find h hlt (fun h => ?_) (fun i hi hb4 h => ?_)
    · refine br_t (by decide) ?_
      simp only [ev_if_e, ev_ck_e, ev_fz_e, ev_eq_e, ce_ble, ce_blef, ce_beq, ce_beqf] at h
      have hc := ce_lt s 911
      refine pk_lt (ev_g s 911) 40 (fun z => ?_) (fun z => ?_)
      · rcases h with ⟨h, _⟩ | ⟨_, h⟩
        · omega
        · exact so_ins hlt h (fun s' h => hk _ s' h)
      · rcases h with ⟨_, h⟩ | ⟨h, _⟩
        · exact hk _ s h
        · omega
    · refine br_f (nI_pos (by omega)) ?_
      simp only [ev_if_e, ev_ck_e, ev_fz_e, ev_eq_e, ce_ble, ce_blef, ce_beq, ce_beqf] at h
      obtain ⟨h5, hv, h⟩ := h
      rw [ce_ix, ce_cl (show b * 5 + i < 1000 by omega)]
      have hp := hk _ _ h
      rw [ce_S6 s (by omega) (by omega)] at hp
      exact ⟨ce_i325 h5, nm_e hp⟩
  · exact br_t rfl (hk _ s h)
end
section
/-! soundness: joining -/
theorem so_deepL {post : Int32 → Prop} {s : Nat} {k : Nat → Bool} (hk : ∀ m, m < 256 → k m = true → post (nI m)) :
    ∀ n m i, m < 256 → i ≤ 64 → ev_deepL s k n m i = true → wX_deepest_4 post (nI (ev_g s 909)) (nI (ev_g s 910)) (nI (ev_g s 911)) (ce_ar s 0 64) (ce_ar s 64 65) (ce_ar s 129 65) (ce_ar s 194 65) (ce_ar s 259 325) (ce_ar s 584 325) n (nI m) (nI i) := by
  intro n
  induction n with
  | zero => intro m i _ _ h; exact absurd h Bool.false_ne_true
  | succ n ih =>
    intro m i hm hi h
    simp only [ev_deepL, ev_if_e, ev_ck_e, ev_fz_e, ev_eq_e, ce_ble, ce_blef, ce_beq, ce_beqf] at h
    have hu := ce_lt s (64 + i)
    have hd := ce_lt s (129 + i)
    dsimp only [wX_deepest_4]
    refine pk_le 64 i (fun z => ?_) (fun z => ?_)
    · rcases h with ⟨_, h⟩ | ⟨h, _⟩
      · exact hk m hm h
      · omega
    · rcases h with ⟨h, _⟩ | ⟨_, h⟩
      · omega
      · have i1 := ce_i65 (show i ≤ 64 by omega)
        rw [ce_cl (show i < 1000 by omega), ce_r (off := 64) s (show i < 65 by omega), ce_r (off := 129) s (show i < 65 by omega)]
        refine ⟨i1, pk_eq (ev_g s (64 + i)) 0 (fun y => ?_) (fun y => ⟨i1, ?_⟩)⟩
        · rcases h with ⟨_, h⟩ | ⟨h, _⟩
          · exact nm_r (nI_1 i) (ih m (i + 1) hm (by omega) h)
          · exact absurd y h
        · rcases h with ⟨h, _⟩ | ⟨_, h⟩
          · exact absurd h y
          · refine pk_le (ev_g s (129 + i)) m (fun x => ?_) (fun x => ⟨i1, ?_⟩)
            · rcases h with ⟨_, h⟩ | ⟨h, _⟩
              · exact nm_r (nI_1 i) (ih m (i + 1) hm (by omega) h)
              · omega
            · rcases h with ⟨h, _⟩ | ⟨_, h⟩
              · omega
              · exact nm_e (nm_r (nI_1 i) (ih (ev_g s (129 + i)) (i + 1) hd (by omega) h))
theorem so_deep {post : Int32 → Prop} {s : Nat} {k : Nat → Bool} (h : ev_deep s k = true) (hk : ∀ m, m < 256 → k m = true → post (nI m)) : wpX_deepest post (ce_S s) :=
  ⟨65, so_deepL hk 65 0 0 (by omega) (by omega) h⟩
theorem ce_upd1 {s i : Nat} (hi : i < 64) : upd (ce_ar s 0 64) i (nI (ev_g s i)) = ce_ar s 0 64 := by
  funext j
  by_cases e : j = i
  · rw [e, pk_us, ce_r1 s hi]
  · rw [pk_un e]
theorem so_j154 {post : Int32 → St2 → Prop} {b c : Nat} {k : Nat → Nat → Bool} (hb : b ≤ 64) (hc : c ≤ 64) (hk : ∀ j s', j ≤ 1 → k j s' = true → post (nI j) (ce_S s')) :
    ∀ n i s, ev_g s 909 ≤ 6 → i ≤ 64 → ev_j154 b c k n i s = true → wX_joinAt_154 post (nI b) (nI c) (nI (ev_g s 909)) (nI (ev_g s 910)) (nI (ev_g s 911)) n (nI i) (ce_ar s 0 64) (ce_ar s 64 65) (ce_ar s 129 65) (ce_ar s 194 65) (ce_ar s 259 325) (ce_ar s 584 325) := by
  intro n
  induction n with
  | zero => intro i s _ _ h; exact absurd h Bool.false_ne_true
  | succ n ih =>
    intro i s hD hi h
    simp only [ev_j154, ev_if_e, ev_ck_e, ev_fz_e, ev_eq_e, ce_ble, ce_blef, ce_beq, ce_beqf] at h
    have hp6 := ce_p6 hD
    have hg := ce_lt s i
    dsimp only [wX_joinAt_154]
    rw [ce_sh _ (show ev_g s 909 < 8 by omega)]
    refine pk_le (2 ^ ev_g s 909) i (fun z => ?_) (fun z => ?_)
    · rcases h with ⟨_, h⟩ | ⟨h, _⟩
      · exact hk 1 s (by omega) h
      · omega
    · rcases h with ⟨h, _⟩ | ⟨_, h3, h⟩
      · omega
      · have i1 := ce_i64 h3
        rw [ce_cl (show i < 1000 by omega), ce_r1 s (by omega)]
        refine ⟨i1, pk_eq (ev_g s i) c (fun y => ?_) (fun y => ?_)⟩
        · rcases h with ⟨_, h⟩ | ⟨h, _⟩
          · have q : ce_on (fun d0 b0 c0 a1 a2 a3 a4 a5 a6 => wX_joinAt_154 post (nI b) (nI c) d0 b0 c0 n (nI (i + 1)) a1 a2 a3 a4 a5 a6) (ce_S (ev_p s i b)) := ih (i + 1) (ev_p s i b) (by rw [ce_gn s (by omega) (by omega)]; exact hD) (by omega) h
            rw [ce_S1 s (by omega) (by omega)] at q
            rw [ce_nb b (by omega)]
            exact ⟨i1, nm_e (nm_r (nI_1 i) q)⟩
          · exact absurd y h
        · rcases h with ⟨h, _⟩ | ⟨_, h7, h⟩
          · exact absurd h y
          · rw [ce_vb (by omega), ce_upd1 (by omega)]
            exact ⟨i1, i1, nm_e (nm_r (nI_1 i) (ih (i + 1) s hD (by omega) h))⟩
theorem so_j76 {post : Int32 → St2 → Prop} {b d c : Nat} {k : Nat → Nat → Bool} (hb : b ≤ 64) (hd : 1 ≤ d) (hd7 : d ≤ 7) (hc : c ≤ 64) (hk : ∀ j s', j ≤ 1 → k j s' = true → post (nI j) (ce_S s')) :
    ∀ n i s, i ≤ 256 → ev_j76 b d c k n i s = true → wX_joinAt_76 post (nI b) (nI d) (nI c) n (nI i) (nI (ev_g s 909)) (nI (ev_g s 910)) (nI (ev_g s 911)) (ce_ar s 0 64) (ce_ar s 64 65) (ce_ar s 129 65) (ce_ar s 194 65) (ce_ar s 259 325) (ce_ar s 584 325) := by
  intro n
  induction n with
  | zero => intro i s _ h; exact absurd h Bool.false_ne_true
  | succ n ih =>
    intro i s hi h
    simp only [ev_j76, ev_if_e, ev_ck_e, ev_fz_e, ev_eq_e, ce_ble, ce_blef, ce_beq, ce_beqf] at h
    have hl := ce_lt s (194 + c)
    have hbc := ce_lt s 910
    dsimp only [wX_joinAt_76]
    rw [ce_cl (show c < 1000 by omega), ce_r s (show c < 65 by omega)]
    refine ⟨ce_i65 hc, pk_le (ev_g s (194 + c)) i (fun z => ?_) (fun z => ?_)⟩
    · rcases h with ⟨_, hD, h1, h⟩ | ⟨h, _⟩
      · obtain ⟨fu, h⟩ : ∃ fu, ev_j154 b c k fu 0 (ev_p (ev_p (ev_p s (64 + c) 0) 910 (ev_g s 910 - 1)) (129 + b) (d - 1)) = true := ⟨65, h⟩
        have q : ce_on (fun d0 b0 c0 a1 a2 a3 a4 a5 a6 => wX_joinAt_154 post (nI b) (nI c) d0 b0 c0 fu (nI 0) a1 a2 a3 a4 a5 a6) (ce_S (ev_p (ev_p (ev_p s (64 + c) 0) 910 (ev_g s 910 - 1)) (129 + b) (d - 1))) :=
          so_j154 hb hc hk fu 0 _ (by rw [ce_gn _ (by omega) (by omega), ce_gn _ (by omega) (by omega), ce_gn _ (by omega) (by omega)]; exact hD) (by omega) h
        rw [ce_S3 _ (by omega) (by omega), ce_Sb _ (by omega), ce_S2 _ (by omega) (by omega)] at q
        rw [ce_sub hd, ce_nb _ (by omega), ce_cl (show b < 1000 by omega)]
        exact ⟨ce_i65 hc, nm_e (nm_r (ce_sub h1) ⟨ce_i65 hb, nm_e ⟨fu, q⟩⟩)⟩
      · omega
    · rcases h with ⟨h, _⟩ | ⟨_, h5, h⟩
      · omega
      · have i2 := ce_i325 h5
        rw [ce_ix, ce_cl (show c * 5 + i < 1000 by omega), ce_r (off := 259) s (show c * 5 + i < 325 by omega), ce_r (off := 584) s (show c * 5 + i < 325 by omega)]
        refine ⟨i2, i2, so_app h (fun s' h => ?_)⟩
        dsimp only [ce_S]
        exact nm_r (nI_1 i) (ih (i + 1) s' (by omega) h)
theorem so_join {post : Int32 → St2 → Prop} {s key : Nat} {k : Nat → Nat → Bool} (h : ev_join s key k = true) (hk : ∀ j s', j ≤ 1 → k j s' = true → post (nI j) (ce_S s')) : wpX_joinAt post (ce_S s) (nI key) := by
  unfold ev_join at h
  dsimp only [wpX_joinAt, ce_S]
  refine so_bo h (fun b hb h => ?_)
  simp only [ev_if_e, ev_ck_e, ev_fz_e, ev_eq_e, ce_ble, ce_blef, ce_beq, ce_beqf] at h
  obtain ⟨hb4, hD, h⟩ := h
  have hd := ce_lt s (129 + b)
  rw [ce_cl (show b < 1000 by omega), ce_r (off := 129) s (show b < 65 by omega)]
  refine ⟨ce_i65 hb4, nm_e (pk_eq (ev_g s (129 + b)) 0 (fun y => ?_) (fun y => ?_))⟩
  · rcases h with ⟨_, h⟩ | ⟨h, _⟩
    · exact hk 0 s (by omega) h
    · exact absurd y h
  · rcases h with ⟨h, _⟩ | ⟨_, h7, hc, h⟩
    · exact absurd h y
    · have hm := ce_m6 (key ^^^ 2 ^ (ev_g s (129 + b) - 1)) hD
      rw [ce_sub (show 1 ≤ ev_g s (129 + b) by omega), ce_sh _ (show ev_g s (129 + b) - 1 < 8 by omega), ce_xor, ce_shm _ (show ev_g s 909 < 8 by omega), ce_and, ce_cl (show (key ^^^ 2 ^ (ev_g s (129 + b) - 1)) &&& (2 ^ ev_g s 909 - 1) < 1000 by omega), ce_r1 s hm]
      refine ⟨ce_i64 (by omega), nm_e ?_⟩
      generalize ev_g s ((key ^^^ 2 ^ (ev_g s (129 + b) - 1)) &&& (2 ^ ev_g s 909 - 1)) = c at h hc ⊢
      have hdc := ce_lt s (129 + c)
      have hlb := ce_lt s (194 + b)
      have hlc := ce_lt s (194 + c)
      rw [ce_cl (show c < 1000 by omega), ce_r (off := 129) s (show c < 65 by omega), ce_r (off := 194) s (show b < 65 by omega), ce_r (off := 194) s (show c < 65 by omega), nI_add]
      refine ⟨ce_i65 hc, pk_eq (ev_g s (129 + c)) (ev_g s (129 + b)) (fun x => ⟨ce_i65 hb4, ce_i65 hc, ?_⟩) (fun x => ?_)⟩
      · rcases h with ⟨_, h⟩ | ⟨h, _⟩
        · refine pk_le (ev_g s (194 + b) + ev_g s (194 + c)) 4 (fun z => ?_) (fun z => ?_)
          · rcases h with ⟨_, h⟩ | ⟨h, _⟩
            · exact ⟨7, so_j76 hb4 (by omega) h7 hc hk 7 0 s (by omega) h⟩
            · omega
          · rcases h with ⟨h, _⟩ | ⟨_, h⟩
            · omega
            · exact hk 0 s (by omega) h
        · exact absurd x h
      · rcases h with ⟨h, _⟩ | ⟨_, h⟩
        · exact absurd h x
        · exact hk 0 s (by omega) h
theorem so_d102 {post : St2 → Prop} {k : Nat → Bool} (hk : ∀ s', k s' = true → post (ce_S s')) :
    ∀ n s, ev_d102 k n s = true → wX_delete_102 post (nI (ev_g s 910)) (nI (ev_g s 911)) (ce_ar s 0 64) (ce_ar s 64 65) (ce_ar s 129 65) (ce_ar s 194 65) (ce_ar s 259 325) (ce_ar s 584 325) n (nI (ev_g s 909)) := by
  intro n
  induction n with
  | zero => intro s h; exact absurd h Bool.false_ne_true
  | succ n ih =>
    intro s h
    simp only [ev_d102, ev_if_e, ev_ck_e, ev_fz_e, ev_eq_e, ce_ble, ce_blef, ce_beq, ce_beqf] at h
    have hD := ce_lt s 909
    dsimp only [wX_delete_102]
    refine pk_le (ev_g s 909) 0 (fun z => ?_) (fun z => ?_)
    · rcases h with ⟨_, h⟩ | ⟨h, _⟩
      · exact hk s h
      · omega
    · rcases h with ⟨h, _⟩ | ⟨_, h⟩
      · omega
      · refine so_deep h (fun m hm h => ?_)
        simp only [ev_if_e, ev_ck_e, ev_fz_e, ev_eq_e, ce_ble, ce_blef, ce_beq, ce_beqf] at h
        refine pk_le (ev_g s 909) m (fun y => ?_) (fun y => ?_)
        · rcases h with ⟨_, h⟩ | ⟨h, _⟩
          · exact hk s h
          · omega
        · rcases h with ⟨h, _⟩ | ⟨_, h⟩
          · omega
          · have q : ce_on (fun d0 b0 c0 a1 a2 a3 a4 a5 a6 => wX_delete_102 post b0 c0 a1 a2 a3 a4 a5 a6 n d0) (ce_S (ev_p s 909 (ev_g s 909 - 1))) := ih _ h
            rw [ce_Sd s (by omega)] at q
            exact nm_r (ce_sub (by omega)) q
theorem so_d77 {post : St2 → Prop} {key : Nat} {k : Nat → Bool} (hk : ∀ s', k s' = true → post (ce_S s')) :
    ∀ n j r s, j ≤ 1 → r ≤ 6 → ev_d77 key k n j r s = true → wX_delete_77 post (nI key) n (nI j) (nI r) (nI (ev_g s 909)) (nI (ev_g s 910)) (nI (ev_g s 911)) (ce_ar s 0 64) (ce_ar s 64 65) (ce_ar s 129 65) (ce_ar s 194 65) (ce_ar s 259 325) (ce_ar s 584 325) := by
  intro n
  induction n with
  | zero => intro j r s _ _ h; exact absurd h Bool.false_ne_true
  | succ n ih =>
    intro j r s hj hr h
    simp only [ev_d77, ev_if_e, ev_ck_e, ev_fz_e, ev_eq_e, ce_ble, ce_blef, ce_beq, ce_beqf] at h
    dsimp only [wX_delete_77]
    refine pk_le 6 r (fun z => ?_) (fun z => ?_)
    · rcases h with ⟨_, h⟩ | ⟨h, _⟩
      · exact ⟨8, so_d102 hk 8 s h⟩
      · omega
    · rcases h with ⟨h, _⟩ | ⟨_, h⟩
      · omega
      · refine pk_eq j 0 (fun y => ?_) (fun y => ?_)
        · rcases h with ⟨_, h⟩ | ⟨h, _⟩
          · exact ⟨8, so_d102 hk 8 s h⟩
          · exact absurd y h
        · rcases h with ⟨h, _⟩ | ⟨_, h⟩
          · exact absurd h y
          · refine so_join h (fun j' s' hj' h => ?_)
            dsimp only [ce_S]
            exact nm_r (nI_1 r) (ih j' (r + 1) s' hj' (by omega) h)
theorem so_del {post : St2 → Prop} {s b place key : Nat} {k : Nat → Bool} (h : ev_del s b place key k = true) (hk : ∀ s', k s' = true → post (ce_S s')) : wpX_delete post (ce_S s) (nI b) (nI place) (nI key) := by
  simp only [ev_del, ev_if_e, ev_ck_e, ev_fz_e, ev_eq_e, ce_ble, ce_blef, ce_beq, ce_beqf] at h
  obtain ⟨hb, h1, hl, h5, h6, hc, h⟩ := h
  have g1 := ce_lt s (259 + (b * 5 + (ev_g s (194 + b) - 1)))
  have g2 := ce_lt s (584 + (b * 5 + (ev_g s (194 + b) - 1)))
  have g3 := ce_lt s 911
  have q : ce_on (wX_delete_77 post (nI key) 7 (nI 1) (nI 0)) (ce_S _) := so_d77 hk 7 1 0 _ (by omega) (by omega) h
  rw [ce_Sk _ (by omega), ce_S6 _ (by omega) g2, ce_S5 _ (by omega) g1, ce_S4 _ (by omega) (by omega)] at q
  have i1 := ce_i65 hb
  have e1 : (nI b).toNatClampNeg = b := ce_cl (by omega)
  have e2 : ce_ar s 194 65 b = nI (ev_g s (194 + b)) := ce_r s (by omega)
  have e3 : (nI (ev_g s (194 + b)) - 1).toInt8.toInt32 = nI (ev_g s (194 + b) - 1) := by rw [ce_sub h1, ce_nb _ (by omega)]
  have e4 : (nI (b * 5 + place)).toNatClampNeg = b * 5 + place := ce_cl (by omega)
  have e5 : (nI (b * 5 + (ev_g s (194 + b) - 1))).toNatClampNeg = b * 5 + (ev_g s (194 + b) - 1) := ce_cl (by omega)
  have e6 : ce_ar s 259 325 (b * 5 + (ev_g s (194 + b) - 1)) = nI (ev_g s (259 + (b * 5 + (ev_g s (194 + b) - 1)))) := ce_r s (by omega)
  have e7 : ce_ar s 584 325 (b * 5 + (ev_g s (194 + b) - 1)) = nI (ev_g s (584 + (b * 5 + (ev_g s (194 + b) - 1)))) := ce_r s (by omega)
  have e8 := ce_vs g1
  dsimp only [wpX_delete, ce_S]
  simp only [e1, e2, e3, ce_ix, e4]
  refine ⟨i1, i1, nm_e ⟨i1, ?_⟩⟩
  simp only [pk_us, ce_ix, e5, e6, e7, e8]
  exact ⟨ce_i325 h5, ce_i325 h6, nm_e ⟨i1, ce_i325 h5, ce_i325 h6, nm_e (nm_r (ce_sub hc) ⟨7, q⟩)⟩⟩
theorem so_rem {post : Int32 → St2 → Prop} {s key : Nat} {k : Int32 → Nat → Bool} (h : ev_rem s key k = true) (hk : ∀ r s', k r s' = true → post r (ce_S s')) : wpX_remove post (ce_S s) (nI key) := by
  unfold ev_rem at h
  dsimp only [wpX_remove, ce_S]
  refine so_has h (fun hlt h => ?_) (fun h => ?_)
  · refine br_f (by decide) (so_bo h (fun b hb h => ?_))
    refine so_find h hlt (fun h => absurd h Bool.false_ne_true) (fun i hi hb4 h => ?_)
    exact so_del h (fun s' h => hk _ s' h)
  · exact br_t rfl (hk _ s h)
/-! soundness: questions -/
theorem so_get {post : Int32 → Prop} {s key : Nat} {k : Int32 → Bool} (h : ev_get s key k = true) (hk : ∀ r, k r = true → post r) : wpX_get post (ce_S s) (nI key) := by
  unfold ev_get at h
  dsimp only [wpX_get, ce_S]
  refine so_has h (fun hlt h => ?_) (fun h => ?_)
  · refine br_f (by decide) (so_bo h (fun b hb h => ?_))
    refine so_find h hlt (fun h => ?_) (fun i hi hb4 h => ?_)
    · exact br_f (by decide) (hk _ h)
    · refine br_t (nI_pos' (by omega)) ?_
      simp only [ev_if_e, ev_ck_e, ev_fz_e, ev_eq_e, ce_ble, ce_blef, ce_beq, ce_beqf] at h
      obtain ⟨h5, h⟩ := h
      rw [ce_ix, ce_cl (show b * 5 + i < 1000 by omega), ce_r (off := 584) s (show b * 5 + i < 325 by omega)]
      exact ⟨ce_i325 h5, hk _ h⟩
  · exact br_t rfl (hk _ h)
theorem so_dof {post : Int32 → Prop} {s key : Nat} {k : Int32 → Bool} (h : ev_dof s key k = true) (hk : ∀ r, k r = true → post r) : wpX_depthOf post (ce_S s) (nI key) := by
  unfold ev_dof at h
  dsimp only [wpX_depthOf, ce_S]
  refine so_isKey h (fun hlt h => ?_) (fun h => ?_)
  · refine br_f (by decide) (so_bo h (fun b hb h => ?_))
    simp only [ev_if_e, ev_ck_e, ev_fz_e, ev_eq_e, ce_ble, ce_blef, ce_beq, ce_beqf] at h
    obtain ⟨hb4, h⟩ := h
    rw [ce_cl (show b < 1000 by omega), ce_r (off := 129) s (show b < 65 by omega)]
    exact ⟨ce_i65 hb4, hk _ h⟩
  · exact br_t rfl (hk _ h)
theorem so_load {post : Int32 → Prop} {s key : Nat} {k : Int32 → Bool} (h : ev_load s key k = true) (hk : ∀ r, k r = true → post r) : wpX_load post (ce_S s) (nI key) := by
  unfold ev_load at h
  dsimp only [wpX_load, ce_S]
  refine so_isKey h (fun hlt h => ?_) (fun h => ?_)
  · refine br_f (by decide) (so_bo h (fun b hb h => ?_))
    simp only [ev_if_e, ev_ck_e, ev_fz_e, ev_eq_e, ce_ble, ce_blef, ce_beq, ce_beqf] at h
    obtain ⟨hb4, h⟩ := h
    rw [ce_cl (show b < 1000 by omega), ce_r (off := 194) s (show b < 65 by omega)]
    exact ⟨ce_i65 hb4, hk _ h⟩
  · exact br_t rfl (hk _ h)
theorem so_b35 {post : Int32 → Prop} {J' : Int32 → Prop} {s b i q : Nat} {k : Int32 → Bool} {J : Nat → Bool} (hb : b ≤ 64) (h5 : b * 5 + i ≤ 324) (hq : q < 256) (hk : ∀ r, k r = true → post r) (hJ : J (i + 1) = true → J' (nI (i + 1))) :
    ∀ n l j, l ≤ j → j ≤ 256 → ev_b35 s b i q k J n l j = true → wX_inBucket_35 post J' (nI q) (nI b) (nI i) (nI (ev_g s 909)) (nI (ev_g s 910)) (nI (ev_g s 911)) (ce_ar s 0 64) (ce_ar s 64 65) (ce_ar s 129 65) (ce_ar s 194 65) (ce_ar s 259 325) (ce_ar s 584 325) n (nI l) (nI j) := by
  intro n
  induction n with
  | zero => intro l j _ _ h; exact absurd h Bool.false_ne_true
  | succ n ih =>
    intro l j hlj hj h
    simp only [ev_b35, ev_if_e, ev_ck_e, ev_fz_e, ev_eq_e, ce_ble, ce_blef, ce_beq, ce_beqf] at h
    have hl := ce_lt s (194 + b)
    have hgi := ce_lt s (259 + (b * 5 + i))
    have hgj := ce_lt s (259 + (b * 5 + j))
    have i5 := ce_i325 h5
    dsimp only [wX_inBucket_35]
    rw [ce_cl (show b < 1000 by omega), ce_r (off := 194) s (show b < 65 by omega), ce_ix, ce_ix, ce_cl (show b * 5 + i < 1000 by omega), ce_r (off := 259) s (show b * 5 + i < 325 by omega)]
    refine ⟨ce_i65 hb, pk_le (ev_g s (194 + b)) j (fun z => ?_) (fun z => ?_)⟩
    · rcases h with ⟨_, h⟩ | ⟨h, _⟩
      · refine pk_eq l q (fun y => ?_) (fun y => ?_)
        · rcases h with ⟨_, h⟩ | ⟨h, _⟩
          · exact ⟨i5, hk _ h⟩
          · exact absurd y h
        · rcases h with ⟨h, _⟩ | ⟨_, h⟩
          · exact absurd h y
          · exact nm_r (nI_1 i) (hJ h)
      · omega
    · rcases h with ⟨h, _⟩ | ⟨_, h6, h⟩
      · omega
      · rw [ce_cl (show b * 5 + j < 1000 by omega), ce_r (off := 259) s (show b * 5 + j < 325 by omega)]
        refine ⟨ce_i325 h6, i5, pk_le (ev_g s (259 + (b * 5 + i))) (ev_g s (259 + (b * 5 + j))) (fun y => ?_) (fun y => ?_)⟩
        · rcases h with ⟨_, h⟩ | ⟨h, _⟩
          · exact nm_r (nI_add l 0) (nm_r (nI_1 j) (ih l (j + 1) (by omega) (by omega) h))
          · omega
        · rcases h with ⟨h, _⟩ | ⟨_, h⟩
          · omega
          · exact nm_r (nI_1 l) (nm_r (nI_1 j) (ih (l + 1) (j + 1) (by omega) (by omega) h))
theorem so_b18 {post : Int32 → Prop} {s b q : Nat} {k : Int32 → Bool} (hb : b ≤ 64) (hq : q < 256) (hk : ∀ r, k r = true → post r) :
    ∀ n i, i ≤ 256 → ev_b18 s b q k n i = true → wX_inBucket_18 post (nI q) (nI b) (nI (ev_g s 909)) (nI (ev_g s 910)) (nI (ev_g s 911)) (ce_ar s 0 64) (ce_ar s 64 65) (ce_ar s 129 65) (ce_ar s 194 65) (ce_ar s 259 325) (ce_ar s 584 325) n (nI i) := by
  intro n
  induction n with
  | zero => intro i _ h; exact absurd h Bool.false_ne_true
  | succ n ih =>
    intro i hi h
    simp only [ev_b18, ev_if_e, ev_ck_e, ev_fz_e, ev_eq_e, ce_ble, ce_blef, ce_beq, ce_beqf] at h
    have hl := ce_lt s (194 + b)
    dsimp only [wX_inBucket_18]
    rw [ce_cl (show b < 1000 by omega), ce_r (off := 194) s (show b < 65 by omega)]
    refine ⟨ce_i65 hb, pk_le (ev_g s (194 + b)) i (fun z => ?_) (fun z => ?_)⟩
    · rcases h with ⟨_, h⟩ | ⟨h, _⟩
      · exact hk _ h
      · omega
    · rcases h with ⟨h, _⟩ | ⟨_, h5, h⟩
      · omega
      · exact ⟨8, so_b35 hb h5 hq hk (fun h => ih (i + 1) (by omega) h) 8 0 0 (by omega) (by omega) h⟩
theorem so_inB {post : Int32 → Prop} {s key q : Nat} {k : Int32 → Bool} (hq : q < 256) (h : ev_inB s key q k = true) (hk : ∀ r, k r = true → post r) : wpX_inBucket post (ce_S s) (nI key) (nI q) := by
  unfold ev_inB at h
  dsimp only [wpX_inBucket, ce_S]
  refine so_isKey h (fun hlt h => ?_) (fun h => ?_)
  · refine br_f (by decide) (so_bo h (fun b hb h => ?_))
    simp only [ev_if_e, ev_ck_e, ev_fz_e, ev_eq_e, ce_ble, ce_blef, ce_beq, ce_beqf] at h
    obtain ⟨hb4, h⟩ := h
    exact ⟨8, so_b18 hb4 hq hk 8 0 (by omega) h⟩
  · exact br_t rfl (hk _ h)
theorem so_tog {post : Int32 → Prop} {s a b : Nat} {kt kf : Bool} (h : ev_tog s a b kt kf = true) (h1 : kt = true → post 1) (h0 : kf = true → post 0) : wpX_together post (ce_S s) (nI a) (nI b) := by
  unfold ev_tog at h
  dsimp only [wpX_together, ce_S]
  refine so_isKey h (fun hlt h => ?_) (fun h => ?_)
  · refine br_f (by decide) (so_isKey h (fun hlt2 h => ?_) (fun h => ?_))
    · refine br_f (by decide) (so_bo h (fun x hx h => so_bo h (fun y hy h => ?_)))
      simp only [ev_if_e, ev_ck_e, ev_fz_e, ev_eq_e, ce_ble, ce_blef, ce_beq, ce_beqf] at h
      refine pk_eq x y (fun e => ?_) (fun e => ?_)
      · rcases h with ⟨_, h⟩ | ⟨h, _⟩
        · exact h1 h
        · exact absurd e h
      · rcases h with ⟨h, _⟩ | ⟨_, h⟩
        · exact absurd h e
        · exact h0 h
    · exact br_t rfl (h0 h)
  · exact br_t rfl (h0 h)
theorem so_ofDL {post : Int32 → Prop} {s d : Nat} {k : Nat → Bool} (hd : d ≤ 1000) (hk : ∀ m, m < 256 → k m = true → post (nI m)) :
    ∀ n m i, m ≤ i → i ≤ 64 → ev_ofDL s d k n m i = true → wX_ofDepth_4 post (nI d) (nI (ev_g s 909)) (nI (ev_g s 910)) (nI (ev_g s 911)) (ce_ar s 0 64) (ce_ar s 64 65) (ce_ar s 129 65) (ce_ar s 194 65) (ce_ar s 259 325) (ce_ar s 584 325) n (nI m) (nI i) := by
  intro n
  induction n with
  | zero => intro m i _ _ h; exact absurd h Bool.false_ne_true
  | succ n ih =>
    intro m i hm hi h
    simp only [ev_ofDL, ev_if_e, ev_ck_e, ev_fz_e, ev_eq_e, ce_ble, ce_blef, ce_beq, ce_beqf] at h
    have hu := ce_lt s (64 + i)
    have hdd := ce_lt s (129 + i)
    dsimp only [wX_ofDepth_4]
    refine pk_le 64 i (fun z => ?_) (fun z => ?_)
    · rcases h with ⟨_, h⟩ | ⟨h, _⟩
      · exact hk m (by omega) h
      · omega
    · rcases h with ⟨h, _⟩ | ⟨_, h⟩
      · omega
      · have i1 := ce_i65 (show i ≤ 64 by omega)
        rw [ce_cl (show i < 1000 by omega), ce_r (off := 64) s (show i < 65 by omega), ce_r (off := 129) s (show i < 65 by omega)]
        refine ⟨i1, pk_eq (ev_g s (64 + i)) 0 (fun y => ?_) (fun y => ⟨i1, ?_⟩)⟩
        · rcases h with ⟨_, h⟩ | ⟨h, _⟩
          · exact nm_r (nI_add m 0) (nm_r (nI_1 i) (ih m (i + 1) (by omega) (by omega) h))
          · exact absurd y h
        · rcases h with ⟨h, _⟩ | ⟨_, h⟩
          · exact absurd h y
          · refine pk_eq (ev_g s (129 + i)) d (fun x => ?_) (fun x => ?_)
            · rcases h with ⟨_, h⟩ | ⟨h, _⟩
              · exact nm_r (nI_1 m) (nm_r (nI_1 i) (ih (m + 1) (i + 1) (by omega) (by omega) h))
              · exact absurd x h
            · rcases h with ⟨h, _⟩ | ⟨_, h⟩
              · exact absurd h x
              · exact nm_r (nI_add m 0) (nm_r (nI_1 i) (ih m (i + 1) (by omega) (by omega) h))
theorem so_ofD {post : Int32 → Prop} {s d : Nat} {k : Nat → Bool} (h : ev_ofD s d k = true) (hk : ∀ m, m < 256 → k m = true → post (nI m)) : wpX_ofDepth post (ce_S s) (nI d) := by
  simp only [ev_ofD, ev_if_e, ev_ck_e, ev_fz_e, ev_eq_e, ce_ble, ce_blef, ce_beq, ce_beqf] at h
  obtain ⟨hd, h⟩ := h
  exact ⟨65, so_ofDL hd hk 65 0 0 (by omega) (by omega) h⟩
theorem so_nextL {post : Int32 → Prop} {s : Nat} {k : Int32 → Bool} (hk : ∀ r, k r = true → post r) :
    ∀ n x, x ≤ 1000 → ev_nextL s k n x = true → wX_next_10 post (nI (ev_g s 909)) (nI (ev_g s 910)) (nI (ev_g s 911)) (ce_ar s 0 64) (ce_ar s 64 65) (ce_ar s 129 65) (ce_ar s 194 65) (ce_ar s 259 325) (ce_ar s 584 325) n (nI x) := by
  intro n
  induction n with
  | zero => intro x _ h; exact absurd h Bool.false_ne_true
  | succ n ih =>
    intro x hx h
    simp only [ev_nextL, ev_if_e, ev_ck_e, ev_fz_e, ev_eq_e, ce_ble, ce_blef, ce_beq, ce_beqf] at h
    dsimp only [wX_next_10]
    refine pk_le 256 x (fun z => ?_) (fun z => ?_)
    · rcases h with ⟨_, h⟩ | ⟨h, _⟩
      · exact hk _ h
      · omega
    · rcases h with ⟨h, _⟩ | ⟨_, h⟩
      · omega
      · exact so_has h (fun _ h => br_f (by decide) (hk _ h)) (fun h => br_t rfl (nm_r (nI_1 x) (ih (x + 1) (by omega) h)))
theorem so_next {post : Int32 → Prop} {s x : Nat} {k : Int32 → Bool} (h : ev_next s x k = true) (hk : ∀ r, k r = true → post r) : wpX_next post (ce_S s) (nI x) := by
  simp only [ev_next, ev_if_e, ev_ck_e, ev_fz_e, ev_eq_e, ce_ble, ce_blef, ce_beq, ce_beqf] at h
  obtain ⟨hx, h⟩ := h
  dsimp only [wpX_next, ce_S]
  exact br_t (nI_pos' (by omega)) ⟨260, so_nextL hk 260 x hx h⟩
theorem so_grow {post : Int32 → St2 → Prop} {s key : Nat} {k : Int32 → Nat → Bool} (h : ev_grow s key k = true) (hk : ∀ r s', k r s' = true → post r (ce_S s')) : wpX_growth post (ce_S s) (nI key) := by
  unfold ev_grow at h
  dsimp only [wpX_growth, ce_S]
  refine so_isKey h (fun hlt h => ?_) (fun h => ?_)
  · refine br_f (by decide) (so_has h (fun _ h => ?_) (fun h => ?_))
    · exact br_f (by decide) (hk _ s h)
    · refine br_t rfl ?_
      refine so_ins (v := 0) hlt h (fun s1 h => ?_)
      dsimp only [ce_S]
      exact so_rem h (fun _ s2 h => hk _ s2 h)
  · exact br_t rfl (hk _ s h)
end
section
/-! soundness: the law -/
theorem ce_or64 (a : Nat) : nI a ||| 64 = nI (a ||| 64) := ce_or a 64
theorem ce_or192 (a : Nat) : nI a ||| 192 = nI (a ||| 192) := ce_or a 192
theorem ce_k6 : ∀ k, k < 4 → nI k <<< ((6 : Int32) &&& 31) = nI (k <<< 6) := by decide +kernel
theorem ce_10 (e k : Nat) : 10 * nI e + nI k = nI (10 * e + k) := by
  rw [show (10 : Int32) = nI 10 from rfl, pk_mul, nI_add]
theorem ce_due {due D : Nat} (h : 3 ≤ D) : nI due + nI D - 3 = nI (due + D - 3) := by
  rw [nI_add, show (3 : Int32) = nI 3 from rfl, pk_sub (by omega)]
theorem ce_due2 {due D : Nat} (h : 3 ≤ D) (h2 : D - 3 ≤ due) : nI due - (nI D - 3) = nI (due - (D - 3)) := by
  rw [show (3 : Int32) = nI 3 from rfl, pk_sub h, pk_sub h2]
theorem so_putN {post : Int32 → St2 → Prop} {s : Nat} (h : post (-1) (ce_S s)) : wpX_put post (ce_S s) (-1) 0 := by
  dsimp only [wpX_put, ce_S, wpX_isKey]
  exact br_t (by decide) (br_t rfl h)
theorem so_L538 {post : Int32 → St0 → Prop} {mc ms kc ks t go D f due e en : Nat} {r : Int32} {s : Nat} {J : Nat → Nat → Nat → Bool} {J' : Int32 → Int32 → Int32 → Int32 → Int32 → Int32 → (Nat → Int32) → (Nat → Int32) → (Nat → Int32) → (Nat → Int32) → (Nat → Int32) → (Nat → Int32) → Prop}
    (hgo : go ≤ 1) (hD : 3 ≤ D) (hJ : ∀ du s', du ≤ due → J du (e + 1) s' = true → J' 1 (nI du) (nI (e + 1)) (nI (ev_g s' 909)) (nI (ev_g s' 910)) (nI (ev_g s' 911)) (ce_ar s' 0 64) (ce_ar s' 64 65) (ce_ar s' 129 65) (ce_ar s' 194 65) (ce_ar s' 259 325) (ce_ar s' 584 325)) (h : ev_L538 J go D f due e en r s = true) : wL_lawOf_538 post mc ms J' (nI t) (nI go) 1 (nI D) (nI f) (nI due) (nI e) (nI en) r kc ks (nI (ev_g s 909)) (nI (ev_g s 910)) (nI (ev_g s 911)) (ce_ar s 0 64) (ce_ar s 64 65) (ce_ar s 129 65) (ce_ar s 194 65) (ce_ar s 259 325) (ce_ar s 584 325) := by
  simp only [ev_L538, ev_if_e, ev_ck_e, ev_fz_e, ev_eq_e, ce_ble, ce_blef, ce_beq, ce_beqf] at h
  obtain ⟨hdu, h2, h⟩ := h
  dsimp only [wL_lawOf_538]
  refine nm_r (ce_due2 hD hdu) ?_
  refine br_f (by decide) (br_t h2 (so_dof h (fun r1 h => ?_)))
  simp only [ev_if_e, ev_ck_e, ev_fz_e, ev_eq_e, ce_ble, ce_blef, ce_beq, ce_beqf] at h
  obtain ⟨h3, h⟩ := h
  refine br_t h3 (pk_eq go 0 (fun y => ?_) (fun y => ?_))
  · rcases h with ⟨_, h⟩ | ⟨h, _⟩
    · dsimp only [wL_lawOf_590]
      rw [ce_or]
      exact so_has h (fun _ h => absurd h Bool.false_ne_true) (fun h => br_t rfl (nm_r (nI_1 e) (hJ _ s (by omega) h)))
    · exact absurd y h
  · rcases h with ⟨h, _⟩ | ⟨_, h⟩
    · exact absurd h y
    · dsimp only [wL_lawOf_590]
      rw [ce_or64]
      exact so_has h (fun _ h => absurd h Bool.false_ne_true) (fun h => br_t rfl (nm_r (nI_1 e) (hJ _ s (by omega) h)))
theorem so_L498 {post : Int32 → St0 → Prop} {mc ms kc ks t go D f : Nat} (hp : post 1 ()) (hgo : go ≤ 1) (hD : 3 ≤ D) :
    ∀ n due e s, e ≤ 8 → ev_L498 t go D f n due e s = true → wL_lawOf_498 post mc ms (nI t) (nI go) (nI D) (nI f) kc ks n 1 (nI due) (nI e) (nI (ev_g s 909)) (nI (ev_g s 910)) (nI (ev_g s 911)) (ce_ar s 0 64) (ce_ar s 64 65) (ce_ar s 129 65) (ce_ar s 194 65) (ce_ar s 259 325) (ce_ar s 584 325) := by
  intro n
  induction n with
  | zero => intro due e s _ h; exact absurd h Bool.false_ne_true
  | succ n ih =>
    intro due e s he h
    simp only [ev_L498, ev_if_e, ev_ck_e, ev_fz_e, ev_eq_e, ce_ble, ce_blef, ce_beq, ce_beqf] at h
    dsimp only [wL_lawOf_498]
    refine pk_le 8 e (fun z => ?_) (fun z => ?_)
    · rcases h with ⟨_, h⟩ | ⟨h, _⟩
      · refine br_f (by decide) ?_
        simp only [ev_end, ev_if_e, ev_ck_e, ev_fz_e, ev_eq_e, ce_ble, ce_blef, ce_beq, ce_beqf] at h
        obtain ⟨h1, h2, h⟩ := h
        dsimp only [wpX_buckets, wpX_size]
        refine br_t (by rw [h1]; rfl) (br_t (by rw [h2]; rfl) (so_deep h (fun m hm h => ?_)))
        simp only [ev_if_e, ev_ck_e, ev_fz_e, ev_eq_e, ce_ble, ce_blef, ce_beq, ce_beqf] at h
        obtain ⟨h3, h⟩ := h
        refine br_t (by rw [h3]; rfl) ?_
        rw [ce_or]
        refine so_tog h (fun h => ?_) (fun h => absurd h Bool.false_ne_true)
        refine br_f (by decide) (so_rem (key := 256) h (fun r s1 h => ?_))
        simp only [ev_if_e, ev_ck_e, ev_fz_e, ev_eq_e, ce_ble, ce_blef, ce_beq, ce_beqf] at h
        obtain ⟨h4, h⟩ := h
        dsimp only [ce_S]
        refine br_t h4 (so_putN (s := s1) ?_)
        dsimp only [ce_S]
        refine br_t rfl (so_ofD (d := 9) h (fun m hm h => ?_))
        simp only [ev_if_e, ev_ck_e, ev_fz_e, ev_eq_e, ce_ble, ce_blef, ce_beq, ce_beqf] at h
        obtain ⟨h5, h⟩ := h
        refine br_t (by rw [h5]; rfl) (so_dof (key := 256) h (fun r h => ?_))
        simp only [ev_if_e, ev_ck_e, ev_fz_e, ev_eq_e, ce_ble, ce_blef, ce_beq, ce_beqf] at h
        exact br_t h hp
      · omega
    · rcases h with ⟨h, _⟩ | ⟨_, h⟩
      · omega
      · refine nm_r (ce_xor e t) (pk_eq go 0 (fun y => ?_) (fun y => ?_))
        · rcases h with ⟨_, h⟩ | ⟨h, _⟩
          · rw [ce_or]
            refine so_rem h (fun r s1 h => ?_)
            dsimp only [ce_S]
            exact so_L538 hgo hD (fun du s' _ h => ih du (e + 1) s' (by omega) h) h
          · exact absurd y h
        · rcases h with ⟨h, _⟩ | ⟨_, h⟩
          · exact absurd h y
          · rw [ce_or64]
            refine so_rem h (fun r s1 h => ?_)
            dsimp only [ce_S]
            exact so_L538 hgo hD (fun du s' _ h => ih du (e + 1) s' (by omega) h) h
theorem so_L453 {post : Int32 → St0 → Prop} {mc ms kc ks t go D f due s : Nat} {z0 z1 : Int32} (hp : post 1 ()) (hgo : go ≤ 1) (hD : 3 ≤ D) (hz : z1 = z0) (h : ev_L453 t go D f due s = true) : wL_lawOf_453 post mc ms (nI t) (nI go) (nI D) (nI f) (nI due) z0 z1 kc ks (nI (ev_g s 909)) (nI (ev_g s 910)) (nI (ev_g s 911)) (ce_ar s 0 64) (ce_ar s 64 65) (ce_ar s 129 65) (ce_ar s 194 65) (ce_ar s 259 325) (ce_ar s 584 325) := by
  unfold ev_L453 at h
  dsimp only [wL_lawOf_453]
  refine br_t hz (so_next (x := 0) h (fun r h => ?_))
  simp only [ev_if_e, ev_ck_e, ev_fz_e, ev_eq_e, ce_ble, ce_blef, ce_beq, ce_beqf] at h
  obtain ⟨h1, h⟩ := h
  refine br_t h1 (so_next (x := 200) h (fun r h => ?_))
  simp only [ev_if_e, ev_ck_e, ev_fz_e, ev_eq_e, ce_ble, ce_blef, ce_beq, ce_beqf] at h
  obtain ⟨h2, h⟩ := h
  refine br_t h2 (so_next (x := 193) h (fun r h => ?_))
  simp only [ev_if_e, ev_ck_e, ev_fz_e, ev_eq_e, ce_ble, ce_blef, ce_beq, ce_beqf] at h
  obtain ⟨h3, h⟩ := h
  exact br_t h3 ⟨9, so_L498 hp hgo hD 9 due 0 s (by omega) h⟩
theorem so_L342 {post : Int32 → St0 → Prop} {mc ms kc ks t go D f due z s : Nat} (hp : post 1 ()) (hgo : go ≤ 1) (hD : 3 ≤ D) (hD7 : D ≤ 7) (h : ev_L342 t go D f due z s = true) : wL_lawOf_342 post mc ms (nI t) (nI go) 1 (nI D) (nI f) (nI due) (nI z) kc ks (nI (ev_g s 909)) (nI (ev_g s 910)) (nI (ev_g s 911)) (ce_ar s 0 64) (ce_ar s 64 65) (ce_ar s 129 65) (ce_ar s 194 65) (ce_ar s 259 325) (ce_ar s 584 325) := by
  simp only [ev_L342, ev_if_e, ev_ck_e, ev_fz_e, ev_eq_e, ce_ble, ce_blef, ce_beq, ce_beqf] at h
  obtain ⟨h1, h⟩ := h
  dsimp only [wL_lawOf_342, wpX_size]
  refine br_f (by decide) (br_t (by rw [h1]; rfl) (so_ofD h (fun m hm h => ?_)))
  simp only [ev_if_e, ev_ck_e, ev_fz_e, ev_eq_e, ce_ble, ce_blef, ce_beq, ce_beqf] at h
  obtain ⟨h2, h⟩ := h
  refine br_t (by rw [h2]; rfl) ?_
  rw [ce_or t z]
  refine so_put (v := 1) h (fun r s1 h => ?_)
  simp only [ev_if_e, ev_ck_e, ev_fz_e, ev_eq_e, ce_ble, ce_blef, ce_beq, ce_beqf] at h
  obtain ⟨h3, h⟩ := h
  dsimp only [ce_S]
  refine br_t h3 (so_put (v := 7) h (fun r1 s2 h => ?_))
  simp only [ev_if_e, ev_ck_e, ev_fz_e, ev_eq_e, ce_ble, ce_blef, ce_beq, ce_beqf] at h
  obtain ⟨h4, h⟩ := h
  dsimp only [ce_S]
  refine br_t h4 (so_get h (fun r2 h => ?_))
  simp only [ev_if_e, ev_ck_e, ev_fz_e, ev_eq_e, ce_ble, ce_blef, ce_beq, ce_beqf] at h
  obtain ⟨h5, h⟩ := h
  refine br_t h5 (so_inB (q := 3) (by omega) h (fun r3 h => ?_))
  simp only [ev_if_e, ev_ck_e, ev_fz_e, ev_eq_e, ce_ble, ce_blef, ce_beq, ce_beqf] at h
  obtain ⟨h6, h⟩ := h
  refine br_t (by rw [h6]; exact (ce_or192 t).symm) (so_inB (q := 4) (by omega) h (fun r4 h => ?_))
  simp only [ev_if_e, ev_ck_e, ev_fz_e, ev_eq_e, ce_ble, ce_blef, ce_beq, ce_beqf] at h
  obtain ⟨h7, h⟩ := h
  refine br_t h7 (so_ofD (d := 4) h (fun m hm h => ?_))
  simp only [ev_if_e, ev_ck_e, ev_fz_e, ev_eq_e, ce_ble, ce_blef, ce_beq, ce_beqf] at h
  refine pk_eq D 4 (fun y => ?_) (fun y => ?_)
  · rcases h with ⟨_, h8, h⟩ | ⟨h, _⟩
    · exact so_L453 hp hgo hD (by rw [h8]; rfl) h
    · exact absurd y h
  · rcases h with ⟨h, _⟩ | ⟨_, h8, h⟩
    · exact absurd h y
    · exact so_L453 hp hgo hD (by rw [h8]; rfl) h
theorem so_L197 {post : Int32 → St0 → Prop} {mc ms kc ks t go D f : Nat} (hp : post 1 ()) (hgo : go ≤ 1) (hD : 3 ≤ D) (hD7 : D ≤ 7) (hf : f ≤ 64) :
    ∀ n due e s, e ≤ 8 → ev_L197 t go D f n due e s = true → wL_lawOf_197 post mc ms (nI t) (nI go) (nI D) (nI f) kc ks n 1 (nI due) (nI e) (nI (ev_g s 909)) (nI (ev_g s 910)) (nI (ev_g s 911)) (ce_ar s 0 64) (ce_ar s 64 65) (ce_ar s 129 65) (ce_ar s 194 65) (ce_ar s 259 325) (ce_ar s 584 325) := by
  intro n
  induction n with
  | zero => intro due e s _ h; exact absurd h Bool.false_ne_true
  | succ n ih =>
    intro due e s he h
    simp only [ev_L197, ev_if_e, ev_ck_e, ev_fz_e, ev_eq_e, ce_ble, ce_blef, ce_beq, ce_beqf] at h
    dsimp only [wL_lawOf_197]
    refine pk_le 8 e (fun z => ?_) (fun z => ?_)
    · rcases h with ⟨_, h⟩ | ⟨h, _⟩
      · refine pk_eq f 8 (fun y => ?_) (fun y => ?_)
        · rcases h with ⟨_, h⟩ | ⟨h, _⟩
          · exact so_L342 (z := 16) hp hgo hD hD7 h
          · exact absurd y h
        · rcases h with ⟨h, _⟩ | ⟨_, h⟩
          · exact absurd h y
          · exact so_L342 (z := 8) hp hgo hD hD7 h
      · omega
    · rcases h with ⟨h, _⟩ | ⟨_, h⟩
      · omega
      · refine nm_r (ce_xor e t) (nm_r (ce_due hD) ?_)
        rw [ce_or (e ^^^ t) f, show (100 : Int32) + nI e = nI (100 + e) from nI_add 100 e]
        refine so_put h (fun r s1 h => ?_)
        simp only [ev_if_e, ev_ck_e, ev_fz_e, ev_eq_e, ce_ble, ce_blef, ce_beq, ce_beqf] at h
        obtain ⟨h1, h⟩ := h
        dsimp only [ce_S]
        refine br_f (by decide) (br_t h1 (so_dof h (fun r1 h => ?_)))
        simp only [ev_if_e, ev_ck_e, ev_fz_e, ev_eq_e, ce_ble, ce_blef, ce_beq, ce_beqf] at h
        obtain ⟨h2, h⟩ := h
        refine br_t h2 (so_dof h (fun r2 h => ?_))
        simp only [ev_if_e, ev_ck_e, ev_fz_e, ev_eq_e, ce_ble, ce_blef, ce_beq, ce_beqf] at h
        obtain ⟨h3, h⟩ := h
        refine br_t h3 (so_load h (fun r3 h => ?_))
        simp only [ev_if_e, ev_ck_e, ev_fz_e, ev_eq_e, ce_ble, ce_blef, ce_beq, ce_beqf] at h
        obtain ⟨h4, h⟩ := h
        refine br_t h4 ?_
        rw [ce_or192]
        refine so_tog h (fun h => ?_) (fun h => absurd h Bool.false_ne_true)
        refine br_f (by decide) (so_tog h (fun h => absurd h Bool.false_ne_true) (fun h => ?_))
        exact br_t rfl (nm_r (nI_1 e) (ih _ (e + 1) s1 (by omega) h))
theorem so_L60 {post : Int32 → St0 → Prop} {mc ms kc ks t go D f e en : Nat} {J : Nat → Nat → Bool} {J' : Int32 → Int32 → Int32 → Int32 → Int32 → (Nat → Int32) → (Nat → Int32) → (Nat → Int32) → (Nat → Int32) → (Nat → Int32) → (Nat → Int32) → Prop}
    (hJ : ∀ s', J (e + 1) s' = true → J' 1 (nI (e + 1)) (nI (ev_g s' 909)) (nI (ev_g s' 910)) (nI (ev_g s' 911)) (ce_ar s' 0 64) (ce_ar s' 64 65) (ce_ar s' 129 65) (ce_ar s' 194 65) (ce_ar s' 259 325) (ce_ar s' 584 325)) :
    ∀ n k s, k ≤ 4 → ev_L60 J e en n k s = true → wL_lawOf_60 post mc ms J' (nI t) (nI go) (nI D) (nI f) (nI e) (nI en) kc ks n 1 (nI k) (nI (ev_g s 909)) (nI (ev_g s 910)) (nI (ev_g s 911)) (ce_ar s 0 64) (ce_ar s 64 65) (ce_ar s 129 65) (ce_ar s 194 65) (ce_ar s 259 325) (ce_ar s 584 325) := by
  intro n
  induction n with
  | zero => intro k s _ h; exact absurd h Bool.false_ne_true
  | succ n ih =>
    intro k s hk h
    simp only [ev_L60, ev_if_e, ev_ck_e, ev_fz_e, ev_eq_e, ce_ble, ce_blef, ce_beq, ce_beqf] at h
    dsimp only [wL_lawOf_60]
    refine pk_le 4 k (fun z => ?_) (fun z => ?_)
    · rcases h with ⟨_, h⟩ | ⟨h, _⟩
      · exact nm_r (nI_1 e) (hJ s h)
      · omega
    · rcases h with ⟨h, _⟩ | ⟨_, h⟩
      · omega
      · rw [ce_k6 k (by omega), ce_or, ce_10]
        refine so_put h (fun r s1 h => ?_)
        simp only [decide_eq_true_eq, ev_if_e, ev_ck_e, ev_fz_e, ev_eq_e, ce_ble, ce_blef, ce_beq, ce_beqf] at h
        obtain ⟨h1, h⟩ := h
        dsimp only [ce_S]
        exact br_f (by decide) (br_f h1 (nm_r (nI_1 k) (ih (k + 1) s1 (by omega) h)))
theorem so_L43 {post : Int32 → St0 → Prop} {mc ms kc ks t go D f : Nat} (hp : post 1 ()) (hgo : go ≤ 1) (hD : 3 ≤ D) (hD7 : D ≤ 7) (hf : f ≤ 64) :
    ∀ n e s, e ≤ 8 → ev_L43 t go D f n e s = true → wL_lawOf_43 post mc ms (nI t) (nI go) (nI D) (nI f) kc ks n 1 (nI e) (nI (ev_g s 909)) (nI (ev_g s 910)) (nI (ev_g s 911)) (ce_ar s 0 64) (ce_ar s 64 65) (ce_ar s 129 65) (ce_ar s 194 65) (ce_ar s 259 325) (ce_ar s 584 325) := by
  intro n
  induction n with
  | zero => intro e s _ h; exact absurd h Bool.false_ne_true
  | succ n ih =>
    intro e s he h
    simp only [ev_L43, ev_if_e, ev_ck_e, ev_fz_e, ev_eq_e, ce_ble, ce_blef, ce_beq, ce_beqf] at h
    dsimp only [wL_lawOf_43]
    refine pk_le 8 e (fun z => ?_) (fun z => ?_)
    · rcases h with ⟨_, h1, h2, h⟩ | ⟨h, _⟩
      · refine br_f (by decide) ?_
        dsimp only [wpX_buckets, wpX_size]
        refine br_t (by rw [h1]; rfl) (br_t (by rw [h2]; rfl) (so_deep h (fun m hm h => ?_)))
        simp only [ev_if_e, ev_ck_e, ev_fz_e, ev_eq_e, ce_ble, ce_blef, ce_beq, ce_beqf] at h
        obtain ⟨h3, h⟩ := h
        refine br_t (by rw [h3]; rfl) (so_load (key := 5) h (fun r1 h => ?_))
        simp only [ev_if_e, ev_ck_e, ev_fz_e, ev_eq_e, ce_ble, ce_blef, ce_beq, ce_beqf] at h
        obtain ⟨h4, h⟩ := h
        refine br_t h4 ?_
        rw [ce_or]
        refine so_grow h (fun r2 s1 h => ?_)
        simp only [ev_if_e, ev_ck_e, ev_fz_e, ev_eq_e, ce_ble, ce_blef, ce_beq, ce_beqf] at h
        obtain ⟨h5, h⟩ := h
        dsimp only [ce_S]
        refine br_t h5 (so_ofD (d := 3) h (fun m hm h => ?_))
        simp only [ev_if_e, ev_ck_e, ev_fz_e, ev_eq_e, ce_ble, ce_blef, ce_beq, ce_beqf] at h
        obtain ⟨h6, h⟩ := h
        exact br_t (by rw [h6]; rfl) ⟨9, so_L197 hp hgo hD hD7 hf 9 8 0 s1 (by omega) h⟩
      · omega
    · rcases h with ⟨h, _⟩ | ⟨_, h⟩
      · omega
      · exact nm_r (ce_xor e t) ⟨5, so_L60 (fun s' h => ih (e + 1) s' (by omega) h) 5 0 s (by omega) h⟩
theorem ce_g0 (i : Nat) : ev_g 0 i = 0 := by
  rw [ce_g, Nat.zero_shiftRight, Nat.zero_and]
theorem ce_ar0 (off len : Nat) : ce_ar 0 off len = fun _ => 0 := by
  funext i
  show (if i < len then nI (ev_g 0 (off + i)) else 0) = 0
  rw [ce_g0, nI_0, ite_self]
theorem ce_S0 : ce_S ev_s0 = (0, 1, 0, (fun _ => 0), upd (fun _ => 0) 0 1, (fun _ => 0), (fun _ => 0), (fun _ => 0), (fun _ => 0)) := by
  have e : ce_S ev_s0 = ce_ub (ce_u2 (ce_S 0) 0 (nI 1)) (nI 1) := by
    unfold ev_s0
    rw [ce_Sb _ (by omega), show ev_p 0 64 1 = ev_p 0 (64 + 0) 1 from rfl, ce_S2 _ (by omega) (by omega)]
  rw [e]
  dsimp only [ce_ub, ce_u2, ce_S]
  rw [ce_ar0, ce_ar0, ce_ar0, ce_ar0, ce_ar0, ce_ar0, ce_g0, ce_g0]
  rfl
theorem so_init {post : St2 → Prop} (h : post (ce_S ev_s0)) : wpX_init post 6 909 (0, 0, 0) := by
  rw [ce_S0] at h
  exact ⟨by omega, by omega, by omega, by omega, by omega, by omega, by omega, by omega, by omega, by omega, by omega, by omega, nm_e h⟩
theorem so_lawOf {post : Int32 → St0 → Prop} (hp : post 1 ()) (H : ∀ t go w, t < 8 → go < 2 → w < 3 → ev_law t go (4 + w) (2 ^ (3 + w)) = true) (p0 p1 p2 : Int32) : wpL_lawOf post 7 918 () p0 p1 p2 := by
  obtain ⟨t, ht, et⟩ := pk_andE p1 (m := 7) 3 (by decide)
  obtain ⟨go, hgo, ego⟩ := pk_andE p2 (m := 1) 1 (by decide)
  obtain ⟨w, hw, ew⟩ := pk_andE p0 (m := 65535) 16 (by decide)
  unfold wpL_lawOf
  refine ⟨by omega, by omega, 6, 909, by omega, by omega, so_init ?_⟩
  dsimp only [ce_S]
  have hw3 : w % 3 < 3 := Nat.mod_lt _ (by decide)
  have e7 : 4 + ((p0 &&& 65535) - (p0 &&& 65535) / 3 * 3) = nI (4 + w % 3) := by
    rw [ew, show (3 : Int32) = nI 3 from rfl, pk_rem (by omega) (by omega) (by omega), show (4 : Int32) = nI 4 from rfl, nI_add]
  have e8 : (1 : Int32) <<< ((nI (4 + w % 3) - 1) &&& 31) = nI (2 ^ (3 + w % 3)) := by
    rw [ce_sub (by omega), ce_sh _ (by omega), show 4 + w % 3 - 1 = 3 + w % 3 by omega]
  refine nm_r et (nm_r ego ⟨by decide, nm_r e7 (nm_r e8 ⟨9, ?_⟩)⟩)
  have h := H t go (w % 3) ht hgo hw3
  unfold ev_law at h
  rw [ev_fz_e] at h
  exact so_L43 hp (by omega) (by omega) (by omega) (ce_p6 (by omega)) 9 0 ev_s0 (by omega) h
theorem so_cell {post : Int32 → Prop} {L : Nat} {xs : Nat → Int32} (hL : L ≤ 3) (p : Nat) (hp : p < 3) (h : ∀ r, post r) : wpL_cellAt post L xs () (nI p) := by
  unfold wpL_cellAt
  exact pk_le L p (fun _ => h _) (fun z => ⟨vp_in_nI z (by omega), h _⟩)
end
section
/-! the law's evaluator answers true in each of the 48 cases: by the kernel's own computation -/
theorem ce_all0 : ∀ t, t < 8 → ∀ go, go < 2 → ev_law t go 4 8 = true := by decide +kernel
theorem ce_all1 : ∀ t, t < 8 → ∀ go, go < 2 → ev_law t go 5 16 = true := by decide +kernel
theorem ce_all2 : ∀ t, t < 8 → ∀ go, go < 2 → ev_law t go 6 32 = true := by decide +kernel
theorem ce_all (t go w : Nat) (ht : t < 8) (hgo : go < 2) (hw : w < 3) : ev_law t go (4 + w) (2 ^ (3 + w)) = true := by
  have h : w = 0 ∨ w = 1 ∨ w = 2 := by omega
  rcases h with e | e | e
  · rw [e]
    exact ce_all0 t ht go hgo
  · rw [e]
    exact ce_all1 t ht go hgo
  · rw [e]
    exact ce_all2 t ht go hgo
end
section
theorem i_vc (xs : Nat → Int32) (L : Nat) (hL : L ≤ 3) : wpL_law (fun r => r = 1) L xs := by
  unfold wpL_law
  refine so_cell hL 0 (by omega) (fun r1 => so_cell hL 1 (by omega) (fun r2 => so_cell hL 2 (by omega) (fun r3 => ?_)))
  exact ⟨7, 918, by omega, by omega, so_lawOf rfl ce_all r1 r2 r3⟩
end
