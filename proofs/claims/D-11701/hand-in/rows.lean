section
/-! Codes: a small int x is kept as the natural c = x + 2 (0 in a packed array: nothing known). A packed array is one natural, four bits a place; the place of index i is i + 2, so an index and a value have the same code. -/
def dm_dc (c : Nat) : Int32 := nI c - nI 2
theorem dm_nI (k : Nat) : dm_dc (k + 2) = nI k := by
  unfold dm_dc
  rw [pk_sub (show 2 ≤ k + 2 by omega), Nat.add_sub_cancel]
theorem dm_toInt {c : Nat} (h : c < 2 ^ 20) : (dm_dc c).toInt = (c : Int) - 2 := by
  unfold dm_dc
  rw [pk_sub_toInt (by omega) (by omega)]
  rfl
theorem dm_le {a b : Nat} (ha : a < 2 ^ 20) (hb : b < 2 ^ 20) : dm_dc a ≤ dm_dc b ↔ a ≤ b := by
  rw [Int32.le_iff_toInt_le, dm_toInt ha, dm_toInt hb]
  omega
theorem dm_lt {a b : Nat} (ha : a < 2 ^ 20) (hb : b < 2 ^ 20) : dm_dc a < dm_dc b ↔ a < b := by
  rw [Int32.lt_iff_toInt_lt, dm_toInt ha, dm_toInt hb]
  omega
theorem dm_eq {a b : Nat} (ha : a < 2 ^ 20) (hb : b < 2 ^ 20) : dm_dc a = dm_dc b ↔ a = b := by
  rw [← Int32.toInt_inj, dm_toInt ha, dm_toInt hb]
  omega
theorem dm_cl {c : Nat} (h : c < 2 ^ 20) : (dm_dc c).toNatClampNeg = c - 2 := by
  show (dm_dc c).toInt.toNat = c - 2
  rw [dm_toInt h]
  omega
theorem dm_in {c N : Nat} (h : 2 ≤ c) (h2 : c < 16) (hN : 14 ≤ N := by decide) : vp_in (dm_dc c) N := by
  rw [vp_in_iff, dm_toInt (by omega)]
  omega
theorem dm_s (c : Nat) : dm_dc c + 1 = dm_dc (c + 1) := by
  unfold dm_dc
  rw [nI_succ c]
  generalize nI c = x
  generalize nI 2 = y
  grind
theorem dm_p {c : Nat} (h : 1 ≤ c) : dm_dc c + (-1) = dm_dc (c - 1) := by
  obtain ⟨m, rfl⟩ : ∃ m, c = m + 1 := ⟨c - 1, by omega⟩
  rw [← dm_s, Nat.add_sub_cancel]
  generalize dm_dc m = x
  grind
theorem dm_q {c : Nat} (h : 1 ≤ c) : dm_dc c - 1 = dm_dc (c - 1) := by
  rw [← dm_p h]
  generalize dm_dc c = x
  grind
theorem dm_add {a b : Nat} (h : 2 ≤ a + b) : dm_dc a + dm_dc b = dm_dc (a + b - 2) := by
  unfold dm_dc
  rw [← pk_sub h, ← nI_add]
  generalize nI a = x
  generalize nI b = y
  generalize nI 2 = z
  grind
theorem dm_m1 : (-1 : Int32) = dm_dc 1 := by rfl
theorem dm_0 : (0 : Int32) = dm_dc 2 := by rfl
theorem dm_1 : (1 : Int32) = dm_dc 3 := by rfl
theorem dm_4 : (4 : Int32) = dm_dc 6 := by rfl
/-! Conditions as the predicates write them -/
theorem dm_isN {c : Nat} (h : c < 2 ^ 20) : dm_dc c = -1 ↔ c = 1 := by
  rw [dm_m1, dm_eq h (by omega)]
theorem dm_is0 {c : Nat} (h : c < 2 ^ 20) : dm_dc c = 0 ↔ c = 2 := by
  rw [dm_0, dm_eq h (by omega)]
theorem dm_neg {c : Nat} (h : c < 2 ^ 20) : dm_dc c < 0 ↔ c < 2 := by
  rw [dm_0, dm_lt h (by omega)]
theorem dm_pos {c : Nat} (h : c < 2 ^ 20) : 0 ≤ dm_dc c ↔ 2 ≤ c := by
  rw [dm_0, dm_le (by omega) h]
theorem dm_npos {c : Nat} (h : c < 2 ^ 20) : dm_dc c ≤ 0 ↔ c ≤ 2 := by
  rw [dm_0, dm_le h (by omega)]
theorem dm_ge4 {c : Nat} (h : c < 2 ^ 20) : 4 ≤ dm_dc c ↔ 6 ≤ c := by
  rw [dm_4, dm_le (by omega) h]
/-! Packed arrays -/
def dm_gt (A c : Nat) : Nat := Nat.land (Nat.shiftRight A (Nat.mul 4 c)) 15
def dm_st (A c v : Nat) : Nat := Nat.xor A (Nat.shiftLeft (Nat.xor (dm_gt A c) v) (Nat.mul 4 c))
theorem dm_gt_lt (A c : Nat) : dm_gt A c < 16 := Nat.and_lt_two_pow (n := 4) _ (by decide)
theorem dm_gt_bit (A c i : Nat) : (dm_gt A c).testBit i = (A.testBit (4 * c + i) && decide (i < 4)) := by
  show ((A >>> (4 * c)) &&& (2 ^ 4 - 1)).testBit i = _
  rw [Nat.testBit_and, Nat.testBit_shiftRight, Nat.testBit_two_pow_sub_one]
theorem dm_hi {v i : Nat} (hv : v < 16) (hi : 4 ≤ i) : v.testBit i = false :=
  Nat.testBit_lt_two_pow (Nat.lt_of_lt_of_le hv (Nat.pow_le_pow_right (n := 2) (by decide) hi : 2 ^ 4 ≤ 2 ^ i))
theorem dm_gt_st {A c v : Nat} (d : Nat) (hv : v < 16) : dm_gt (dm_st A c v) d = if d = c then v else dm_gt A d := by
  apply Nat.eq_of_testBit_eq
  intro i
  have hx : (dm_st A c v).testBit (4 * d + i) = (A.testBit (4 * d + i) ^^ (decide (4 * d + i ≥ 4 * c) && (((dm_gt A c).testBit (4 * d + i - 4 * c)) ^^ v.testBit (4 * d + i - 4 * c)))) := by
    show (A ^^^ (((dm_gt A c) ^^^ v) <<< (4 * c))).testBit (4 * d + i) = _
    rw [Nat.testBit_xor, Nat.testBit_shiftLeft, Nat.testBit_xor]
  rw [dm_gt_bit, hx]
  by_cases hi : i < 4
  · by_cases e : d = c
    · subst e
      rw [if_pos rfl, dm_gt_bit, show 4 * d + i - 4 * d = i by omega]
      have e1 : decide (4 * d + i ≥ 4 * d) = true := decide_eq_true (by omega)
      have e2 : decide (i < 4) = true := decide_eq_true hi
      rw [e1, e2]
      cases A.testBit (4 * d + i) <;> cases v.testBit i <;> rfl
    · rw [if_neg e, dm_gt_bit A d i]
      have e2 : decide (i < 4) = true := decide_eq_true hi
      rw [e2]
      by_cases l : d < c
      · have e1 : decide (4 * d + i ≥ 4 * c) = false := decide_eq_false (by omega)
        rw [e1]
        cases A.testBit (4 * d + i) <;> rfl
      · rw [dm_hi (dm_gt_lt A c) (by omega), dm_hi hv (by omega)]
        cases A.testBit (4 * d + i) <;> cases decide (4 * d + i ≥ 4 * c) <;> rfl
  · have e2 : decide (i < 4) = false := decide_eq_false hi
    rw [e2, Bool.and_false]
    by_cases e : d = c
    · rw [if_pos e, dm_hi hv (by omega)]
    · rw [if_neg e, dm_hi (dm_gt_lt A d) (by omega)]
/-- the packed array A tells what is known of the array a -/
def dm_R (A : Nat) (a : Nat → Int32) : Prop := ∀ c, dm_gt A c ≠ 0 → 2 ≤ c ∧ c < 16 ∧ a (c - 2) = dm_dc (dm_gt A c)
theorem dm_R0 (a : Nat → Int32) : dm_R 0 a := by
  intro c h
  refine absurd ?_ h
  show (0 >>> (4 * c)) &&& 15 = 0
  rw [Nat.zero_shiftRight, Nat.zero_and]
theorem dm_Rst {A c v : Nat} {a : Nat → Int32} {x : Int32} {k : Nat} (h : dm_R A a) (h1 : 2 ≤ c) (h2 : c < 16) (hv : v < 16) (hx : x = dm_dc v := by rfl) (hk : k = c - 2 := by first | rfl | exact dm_cl (by omega)) : dm_R (dm_st A c v) (upd a k x) := by
  intro d hd
  rw [dm_gt_st d hv] at hd ⊢
  rw [hk, hx]
  by_cases e : d = c
  · rw [if_pos e, e]
    exact ⟨h1, h2, pk_us⟩
  · rw [if_neg e] at hd ⊢
    obtain ⟨q1, q2, q3⟩ := h d hd
    refine ⟨q1, q2, ?_⟩
    rw [pk_un (by omega)]
    exact q3
/-- a place that is known is read -/
theorem dm_Rrd {A c w : Nat} {a : Nat → Int32} (h : dm_R A a) (e : dm_gt A c = w) (h0 : w ≠ 0) : 2 ≤ c ∧ c < 16 ∧ a (dm_dc c).toNatClampNeg = dm_dc w := by
  obtain ⟨q1, q2, q3⟩ := h c (by rw [e]; exact h0)
  refine ⟨q1, q2, ?_⟩
  rw [dm_cl (by omega), q3, e]
/-! Steps of the pure run: its answer is a natural, 0 where it fails -/
noncomputable def dm_rd (A c : Nat) (k : Nat → Nat) : Nat := Nat.rec (motive := fun _ => Nat) 0 (fun m _ => k (Nat.succ m)) (dm_gt A c)
noncomputable def dm_nz (x : Nat) (k : Nat → Nat) : Nat := Nat.rec (motive := fun _ => Nat) 0 (fun m _ => k (Nat.succ m)) x
noncomputable def dm_fc (x : Nat) (k : Nat → Nat) : Nat := Nat.rec (motive := fun _ => Nat) (k 0) (fun m _ => k (Nat.succ m)) x
noncomputable def dm_sq (x y : Nat) : Nat := Nat.rec (motive := fun _ => Nat) 0 (fun _ _ => y) x
noncomputable def dm_lq (a b x y : Nat) : Nat := Bool.rec (motive := fun _ => Nat) y x (Nat.ble a b)
noncomputable def dm_eqq (a b x y : Nat) : Nat := Bool.rec (motive := fun _ => Nat) y x (Nat.beq a b)
noncomputable def dm_bt (s v x y : Nat) : Nat := Nat.rec (motive := fun _ => Nat) y (fun _ _ => x) (Nat.land (Nat.shiftRight s (Nat.sub v 2)) 1)
theorem dm_nz_ok {x r : Nat} {k : Nat → Nat} (h : dm_nz x k = r) (hr : r ≠ 0) : x ≠ 0 ∧ k x = r := by
  cases x with
  | zero => exact absurd h.symm hr
  | succ m => exact ⟨Nat.succ_ne_zero m, h⟩
theorem dm_rd_ok {A c r : Nat} {k : Nat → Nat} {a : Nat → Int32} (hR : dm_R A a) (h : dm_rd A c k = r) (hr : r ≠ 0) : ∃ w, 1 ≤ w ∧ w < 16 ∧ 2 ≤ c ∧ c < 16 ∧ a (dm_dc c).toNatClampNeg = dm_dc w ∧ k w = r := by
  obtain ⟨h0, h1⟩ := dm_nz_ok (x := dm_gt A c) h hr
  obtain ⟨q1, q2, q3⟩ := dm_Rrd hR rfl h0
  exact ⟨dm_gt A c, by omega, dm_gt_lt A c, q1, q2, q3, h1⟩
theorem dm_rd_gt {A c r : Nat} {k : Nat → Nat} (h : dm_rd A c k = r) (hr : r ≠ 0) : dm_gt A c ≠ 0 ∧ k (dm_gt A c) = r := dm_nz_ok (x := dm_gt A c) h hr
theorem dm_fc_eq (x : Nat) (k : Nat → Nat) : dm_fc x k = k x := by
  cases x <;> rfl
theorem dm_sq_ok {x y : Nat} (h : dm_sq x y ≠ 0) : x ≠ 0 ∧ y ≠ 0 := by
  cases x with
  | zero => exact absurd rfl h
  | succ m => exact ⟨Nat.succ_ne_zero m, h⟩
theorem dm_lq_if (a b x y : Nat) : dm_lq a b x y = if a ≤ b then x else y := by
  unfold dm_lq
  by_cases h : a ≤ b
  · rw [if_pos h, Nat.ble_eq_true_of_le h]
  · rw [if_neg h]
    cases e : Nat.ble a b
    · rfl
    · exact absurd (Nat.le_of_ble_eq_true e) h
theorem dm_eqq_if (a b x y : Nat) : dm_eqq a b x y = if a = b then x else y := by
  unfold dm_eqq
  by_cases h : a = b
  · rw [if_pos h, h, Nat.beq_refl]
  · rw [if_neg h]
    cases e : Nat.beq a b
    · rfl
    · exact absurd (Nat.eq_of_beq_eq_true e) h
def dm_tb (s v : Nat) : Prop := Nat.land (Nat.shiftRight s (Nat.sub v 2)) 1 ≠ 0
theorem dm_bt_t {s v x y : Nat} (h : dm_tb s v) : dm_bt s v x y = x := by
  unfold dm_bt
  cases e : Nat.land (Nat.shiftRight s (Nat.sub v 2)) 1
  · exact absurd e h
  · rfl
theorem dm_bt_f {s v x y : Nat} (h : ¬ dm_tb s v) : dm_bt s v x y = y := by
  unfold dm_bt
  cases e : Nat.land (Nat.shiftRight s (Nat.sub v 2)) 1
  · rfl
  · exact absurd (by unfold dm_tb; rw [e]; exact Nat.succ_ne_zero _) h
end
section
/-! The pure run of the class on packed arrays: each loop a step (..S) under Nat.rec over its fuel; answers through a continuation -/
noncomputable def dm_chainS (T H : Nat) (k : Nat → Nat → Nat → Nat → Nat) (ih : Nat → Nat → Nat → Nat → Nat → Nat) (e oF oN iF iN : Nat) : Nat :=
  dm_lq 2 e (dm_rd T e fun t => dm_rd oF t fun x => dm_rd H e fun h => dm_rd iF h fun y =>
    dm_fc (dm_st oN e x) fun oN' => dm_fc (dm_st oF t e) fun oF' => dm_fc (dm_st iN e y) fun iN' => dm_fc (dm_st iF h e) fun iF' =>
    dm_fc (Nat.sub e 1) fun e' => ih e' oF' oN' iF' iN') (k oF oN iF iN)
noncomputable def dm_chain (T H : Nat) (k : Nat → Nat → Nat → Nat → Nat) (n : Nat) : Nat → Nat → Nat → Nat → Nat → Nat :=
  Nat.rec (motive := fun _ => Nat → Nat → Nat → Nat → Nat → Nat) (fun _ _ _ _ _ => 0) (fun _ ih => dm_chainS T H k ih) n
noncomputable def dm_dfsS (H oN : Nat) (k : Nat → Nat → Nat → Nat → Nat) (ih : Nat → Nat → Nat → Nat → Nat → Nat → Nat → Nat) (d cU sK nU aT pA rc : Nat) : Nat :=
  dm_lq 2 d (dm_rd sK d fun v => dm_rd cU v fun e => dm_eqq e 1 (dm_fc (Nat.sub d 1) fun d' => ih d' cU sK nU aT pA rc)
    (dm_rd oN e fun x => dm_rd H e fun w => dm_rd nU w fun nw => dm_fc (dm_st cU v x) fun cU' =>
      dm_lq 2 nw (ih d cU' sK nU aT pA rc)
        (dm_lq 6 rc 0 (dm_lq 6 d 0 (dm_fc (dm_st nU w rc) fun nU' => dm_fc (dm_st aT rc w) fun aT' => dm_fc (dm_st pA w v) fun pA' =>
          dm_fc (Nat.succ rc) fun rc' => dm_fc (Nat.succ d) fun d' => dm_fc (dm_st sK d' w) fun sK' => ih d' cU' sK' nU' aT' pA' rc')))))
    (k nU aT pA rc)
noncomputable def dm_dfs (H oN : Nat) (k : Nat → Nat → Nat → Nat → Nat) (n : Nat) : Nat → Nat → Nat → Nat → Nat → Nat → Nat → Nat :=
  Nat.rec (motive := fun _ => Nat → Nat → Nat → Nat → Nat → Nat → Nat → Nat) (fun _ _ _ _ _ _ _ => 0) (fun _ ih => dm_dfsS H oN k ih) n
noncomputable def dm_l71S (sE v sK : Nat) (k : Nat → Nat → Nat → Nat) (ih : Nat → Nat → Nat → Nat) (x4 lA aN : Nat) : Nat :=
  dm_lq 2 x4 (dm_rd sK x4 fun x => dm_rd aN x fun a => dm_rd lA a fun la => dm_rd lA x fun lx => dm_rd sE la fun sa => dm_rd sE lx fun sx =>
    dm_rd aN a fun aa => dm_fc (dm_st aN x aa) fun aN' => dm_fc (Nat.sub x4 1) fun x4' =>
      dm_lq sx sa (ih x4' lA aN') (dm_fc (dm_st lA x la) fun lA' => ih x4' lA' aN'))
    (dm_rd lA v fun r => k r lA aN)
noncomputable def dm_l71 (sE v sK : Nat) (k : Nat → Nat → Nat → Nat) (n : Nat) : Nat → Nat → Nat → Nat :=
  Nat.rec (motive := fun _ => Nat → Nat → Nat → Nat) (fun _ _ _ => 0) (fun _ ih => dm_l71S sE v sK k ih) n
noncomputable def dm_l19S (sE v lA aN : Nat) (k : Nat → Nat → Nat → Nat) (ih : Nat → Nat → Nat → Nat) (dp w sK : Nat) : Nat :=
  dm_rd aN w fun a => dm_rd aN a fun aa => dm_eqq aa 1 (dm_fc (Nat.sub dp 1) fun x4 => dm_l71 sE v sK k 5 x4 lA aN)
    (dm_fc (dm_st sK dp w) fun sK' => dm_fc (Nat.succ dp) fun dp' => ih dp' a sK')
noncomputable def dm_l19 (sE v lA aN : Nat) (k : Nat → Nat → Nat → Nat) (n : Nat) : Nat → Nat → Nat → Nat :=
  Nat.rec (motive := fun _ => Nat → Nat → Nat → Nat) (fun _ _ _ => 0) (fun _ ih => dm_l19S sE v lA aN k ih) n
noncomputable def dm_low (sE v : Nat) (k : Nat → Nat → Nat → Nat) (lA aN : Nat) : Nat :=
  dm_rd aN v fun a => dm_eqq a 1 (k v lA aN) (dm_l19 sE v lA aN k 4 2 v 0)
noncomputable def dm_lbsS (T iN nU w : Nat) (k : Nat → Nat → Nat → Nat) (ih : Nat → Nat → Nat → Nat → Nat) (e sE lA aN : Nat) : Nat :=
  dm_eqq e 1 (k sE lA aN) (dm_rd T e fun v => dm_rd nU v fun nv => dm_rd iN e fun e' =>
    dm_lq 2 nv (dm_low sE v (fun u lA' aN' => dm_rd sE u fun su => dm_rd sE w fun sw => dm_lq sw su (ih e' sE lA' aN') (dm_fc (dm_st sE w su) fun sE' => ih e' sE' lA' aN')) lA aN)
      (ih e' sE lA aN))
noncomputable def dm_lbs (T iN nU w : Nat) (k : Nat → Nat → Nat → Nat) (n : Nat) : Nat → Nat → Nat → Nat → Nat :=
  Nat.rec (motive := fun _ => Nat → Nat → Nat → Nat → Nat) (fun _ _ _ _ => 0) (fun _ ih => dm_lbsS T iN nU w k ih) n
noncomputable def dm_ebS (sE bN p : Nat) (k : Nat → Nat → Nat → Nat) (ih : Nat → Nat → Nat → Nat → Nat) (v lA aN iD : Nat) : Nat :=
  dm_eqq v 1 (k lA aN iD) (dm_low sE v (fun u lA' aN' => dm_rd sE u fun su => dm_rd sE v fun sv => dm_rd bN v fun v' =>
    dm_lq sv su (dm_fc (dm_st iD v p) fun iD' => ih v' lA' aN' iD') (dm_fc (dm_st iD v u) fun iD' => ih v' lA' aN' iD')) lA aN)
noncomputable def dm_eb (sE bN p : Nat) (k : Nat → Nat → Nat → Nat) (n : Nat) : Nat → Nat → Nat → Nat → Nat :=
  Nat.rec (motive := fun _ => Nat → Nat → Nat → Nat → Nat) (fun _ _ _ _ => 0) (fun _ ih => dm_ebS sE bN p k ih) n
noncomputable def dm_fsS (T iN iF nU aT pA : Nat) (k : Nat → Nat → Nat) (ih : Nat → Nat → Nat → Nat → Nat → Nat → Nat → Nat) (i sE lA aN bF bN iD : Nat) : Nat :=
  dm_lq 3 i (dm_rd aT i fun w => dm_rd iF w fun e => dm_lbs T iN nU w (fun sE' lA' aN' =>
      dm_rd sE' w fun sw => dm_rd aT sw fun s => dm_rd bF s fun b => dm_rd pA w fun p =>
      dm_fc (dm_st bN w b) fun bN' => dm_fc (dm_st bF s w) fun bF' => dm_fc (dm_st aN' w p) fun aN2 => dm_rd bF' p fun v0 =>
      dm_eb sE' bN' p (fun lA2 aN3 iD' => dm_fc (dm_st bF' p 1) fun bF2 => dm_fc (Nat.sub i 1) fun i' => ih i' sE' lA2 aN3 bF2 bN' iD') 4 v0 lA' aN2 iD) 6 e sE lA aN)
    (k sE iD)
noncomputable def dm_fs (T iN iF nU aT pA : Nat) (k : Nat → Nat → Nat) (n : Nat) : Nat → Nat → Nat → Nat → Nat → Nat → Nat → Nat :=
  Nat.rec (motive := fun _ => Nat → Nat → Nat → Nat → Nat → Nat → Nat → Nat) (fun _ _ _ _ _ _ _ => 0) (fun _ ih => dm_fsS T iN iF nU aT pA k ih) n
noncomputable def dm_setS (aT sE rc : Nat) (k : Nat → Nat) (ih : Nat → Nat → Nat) (i iD : Nat) : Nat :=
  dm_lq rc i (dm_fc (dm_st iD 2 1) k) (dm_rd aT i fun w => dm_rd iD w fun d => dm_rd sE w fun s => dm_rd aT s fun q => dm_fc (Nat.succ i) fun i' =>
    dm_eqq d q (ih i' iD) (dm_rd iD d fun dd => dm_fc (dm_st iD w dd) fun iD' => ih i' iD'))
noncomputable def dm_set (aT sE rc : Nat) (k : Nat → Nat) (n : Nat) : Nat → Nat → Nat :=
  Nat.rec (motive := fun _ => Nat → Nat → Nat) (fun _ _ => 0) (fun _ ih => dm_setS aT sE rc k ih) n
noncomputable def dm_l32S (aT iD rc k : Nat) (ih : Nat → Nat) (i : Nat) : Nat :=
  dm_lq rc i k (dm_rd aT i fun v => dm_rd iD v fun d => dm_lq 2 d (dm_fc (Nat.succ i) ih) 0)
noncomputable def dm_l32 (aT iD rc k : Nat) (n : Nat) : Nat → Nat :=
  Nat.rec (motive := fun _ => Nat → Nat) (fun _ => 0) (fun _ ih => dm_l32S aT iD rc k ih) n
noncomputable def dm_l79S (aT iD : Nat) (k : Nat → Nat) (ih : Nat → Nat → Nat) (i sZ : Nat) : Nat :=
  dm_lq 3 i (dm_rd aT i fun v => dm_rd iD v fun d => dm_rd sZ d fun sd => dm_rd sZ v fun sv => dm_fc (Nat.sub (Nat.add sd sv) 2) fun s =>
    dm_lq 16 s 0 (dm_fc (dm_st sZ d s) fun sZ' => dm_fc (Nat.sub i 1) fun i' => ih i' sZ')) (k sZ)
noncomputable def dm_l79 (aT iD : Nat) (k : Nat → Nat) (n : Nat) : Nat → Nat → Nat :=
  Nat.rec (motive := fun _ => Nat → Nat → Nat) (fun _ _ => 0) (fun _ ih => dm_l79S aT iD k ih) n
noncomputable def dm_l148S (aT iD sZ rc : Nat) (k : Nat → Nat) (ih : Nat → Nat → Nat → Nat) (i eN cU : Nat) : Nat :=
  dm_lq rc i (k eN) (dm_rd aT i fun v => dm_rd iD v fun d => dm_rd eN d fun ed => dm_rd cU d fun cd => dm_rd sZ v fun sv =>
    dm_fc (Nat.sub (Nat.add ed cd) 2) fun x => dm_lq 16 x 0 (dm_fc (Nat.sub (Nat.add cd sv) 2) fun y => dm_lq 16 y 0
      (dm_fc (dm_st eN v x) fun eN' => dm_fc (dm_st cU d y) fun cU' => dm_fc (Nat.succ i) fun i' => ih i' eN' cU')))
noncomputable def dm_l148 (aT iD sZ rc : Nat) (k : Nat → Nat) (n : Nat) : Nat → Nat → Nat → Nat :=
  Nat.rec (motive := fun _ => Nat → Nat → Nat → Nat) (fun _ _ _ => 0) (fun _ ih => dm_l148S aT iD sZ rc k ih) n
noncomputable def dm_lay (aT iD rc : Nat) (k : Nat → Nat → Nat) : Nat :=
  dm_l32 aT iD rc (dm_fc (Nat.sub rc 1) fun i0 => dm_l79 aT iD (fun sZ => dm_l148 aT iD sZ rc (fun eN => k sZ eN) 5 3 0x200 0x333300) 5 i0 0x333300) 5 3
noncomputable def dm_cp4 (A : Nat) (k : Nat → Nat) : Nat :=
  dm_rd A 2 fun x0 => dm_rd A 3 fun x1 => dm_rd A 4 fun x2 => dm_rd A 5 fun x3 => dm_fc (dm_st (dm_st (dm_st (dm_st 0 2 x0) 3 x1) 4 x2) 5 x3) k
noncomputable def dm_refr (T H ec : Nat) (k : Nat → Nat → Nat → Nat → Nat → Nat → Nat → Nat) : Nat :=
  dm_fc (Nat.sub ec 1) fun e0 => dm_chain T H (fun oF oN iF iN => dm_cp4 oF fun cU =>
    dm_dfs H oN (fun nU aT pA rc => dm_cp4 nU fun s0 => dm_fc (Nat.sub rc 1) fun i0 =>
      dm_fs T iN iF nU aT pA (fun sE iD => dm_set aT sE rc (fun iD' => dm_lay aT iD' rc (fun sZ eN => k oF oN nU iD' sZ eN rc)) 5 3 iD)
        5 i0 s0 0x543200 0x111100 0x111100 0 0x111100) 20 2 cU 0x200 0x111200 0x200 0x100 3) 14 e0 0x111100 0 0x111100 0
/-! A sweep -/
noncomputable def dm_b74S (H oN kk : Nat) (k : Nat → Nat → Nat → Nat) (ih : Nat → Nat → Nat → Nat → Nat) (e fR qU qd : Nat) : Nat :=
  dm_eqq e 1 (k fR qU qd) (dm_rd H e fun w => dm_rd fR w fun fw => dm_rd oN e fun e' => dm_eqq fw 1
    (dm_lq 6 qd (ih e' fR qU qd) (dm_rd qU kk fun q => dm_fc (dm_st fR w q) fun fR' => dm_fc (dm_st qU qd w) fun qU' => dm_fc (Nat.succ qd) fun qd' => ih e' fR' qU' qd'))
    (ih e' fR qU qd))
noncomputable def dm_b74 (H oN kk : Nat) (k : Nat → Nat → Nat → Nat) (n : Nat) : Nat → Nat → Nat → Nat → Nat :=
  Nat.rec (motive := fun _ => Nat → Nat → Nat → Nat → Nat) (fun _ _ _ _ => 0) (fun _ ih => dm_b74S H oN kk k ih) n
noncomputable def dm_b44S (oF H oN : Nat) (ih : Nat → Nat → Nat → Nat → Nat) (kk fR qU qd : Nat) : Nat :=
  dm_lq 6 kk fR (dm_lq qd kk fR (dm_rd qU kk fun q => dm_rd oF q fun e =>
    dm_b74 H oN kk (fun fR' qU' qd' => dm_fc (Nat.succ kk) fun kk' => ih kk' fR' qU' qd') 5 e fR qU qd))
noncomputable def dm_b44 (oF H oN : Nat) (n : Nat) : Nat → Nat → Nat → Nat → Nat :=
  Nat.rec (motive := fun _ => Nat → Nat → Nat → Nat → Nat) (fun _ _ _ _ => 0) (fun _ ih => dm_b44S oF H oN ih) n
noncomputable def dm_bfs (oF oN H : Nat) : Nat := dm_b44 oF H oN 5 2 0x111200 0x200 3
noncomputable def dm_v45S (H oN pI : Nat) (k : Nat → Nat → Nat → Nat → Nat) (ih : Nat → Nat → Nat → Nat → Nat → Nat) (e vI qU qd far : Nat) : Nat :=
  dm_eqq e 1 (k vI qU qd far) (dm_rd H e fun w => dm_rd oN e fun e' => dm_rd pI w fun pw =>
    dm_lq 2 pw (dm_lq pw far (ih e' vI qU qd far) (ih e' vI qU qd pw))
      (dm_rd vI w fun vw => dm_eqq vw 2 (dm_lq 6 qd (ih e' vI qU qd far) (dm_fc (dm_st vI w 3) fun vI' => dm_fc (dm_st qU qd w) fun qU' => dm_fc (Nat.succ qd) fun qd' => ih e' vI' qU' qd' far))
        (ih e' vI qU qd far)))
noncomputable def dm_v45 (H oN pI : Nat) (k : Nat → Nat → Nat → Nat → Nat) (n : Nat) : Nat → Nat → Nat → Nat → Nat → Nat :=
  Nat.rec (motive := fun _ => Nat → Nat → Nat → Nat → Nat → Nat) (fun _ _ _ _ _ => 0) (fun _ ih => dm_v45S H oN pI k ih) n
noncomputable def dm_v14S (oF H oN pI : Nat) (k : Nat → Nat → Nat) (ih : Nat → Nat → Nat → Nat → Nat → Nat) (kk vI qU qd far : Nat) : Nat :=
  dm_lq 6 kk (k vI far) (dm_lq qd kk (k vI far) (dm_rd qU kk fun q => dm_rd oF q fun e =>
    dm_v45 H oN pI (fun vI' qU' qd' far' => dm_fc (Nat.succ kk) fun kk' => ih kk' vI' qU' qd' far') 5 e vI qU qd far))
noncomputable def dm_v14 (oF H oN pI : Nat) (k : Nat → Nat → Nat) (n : Nat) : Nat → Nat → Nat → Nat → Nat → Nat :=
  Nat.rec (motive := fun _ => Nat → Nat → Nat → Nat → Nat → Nat) (fun _ _ _ _ _ => 0) (fun _ ih => dm_v14S oF H oN pI k ih) n
noncomputable def dm_w122S (oF H oN pI sK len : Nat) (ih : Nat → Nat → Nat → Nat → Nat) (sum kk vI far : Nat) : Nat :=
  dm_lq len kk sum (dm_rd sK kk fun u => dm_fc (dm_st 0 2 u) fun q0 => dm_v14 oF H oN pI (fun vI' far' => dm_fc (Nat.succ kk) fun kk' =>
    dm_eqq far' kk' (dm_fc (Nat.succ sum) fun s' => ih s' kk' vI' far') (ih sum kk' vI' far')) 5 2 vI q0 3 far)
noncomputable def dm_w122 (oF H oN pI sK len : Nat) (n : Nat) : Nat → Nat → Nat → Nat → Nat :=
  Nat.rec (motive := fun _ => Nat → Nat → Nat → Nat → Nat) (fun _ _ _ _ => 0) (fun _ ih => dm_w122S oF H oN pI sK len ih) n
noncomputable def dm_w68S (fR : Nat) (k : Nat → Nat → Nat) (ih : Nat → Nat → Nat → Nat → Nat) (u kk pI sK : Nat) : Nat :=
  dm_lq 2 kk (dm_lq 2 u (dm_fc (dm_st pI u kk) fun pI' => dm_fc (dm_st sK kk u) fun sK' => dm_fc (Nat.sub kk 1) fun kk' =>
    dm_lq kk 2 (ih 2 kk' pI' sK') (dm_rd fR u fun u' => ih u' kk' pI' sK')) 0) (k pI sK)
noncomputable def dm_w68 (fR : Nat) (k : Nat → Nat → Nat) (n : Nat) : Nat → Nat → Nat → Nat → Nat :=
  Nat.rec (motive := fun _ => Nat → Nat → Nat → Nat → Nat) (fun _ _ _ _ => 0) (fun _ ih => dm_w68S fR k ih) n
noncomputable def dm_w38S (fR : Nat) (k : Nat → Nat) (ih : Nat → Nat → Nat) (len u : Nat) : Nat :=
  dm_eqq u 2 (k len) (dm_lq 6 len (k len) (dm_rd fR u fun u' => dm_fc (Nat.succ len) fun l' => ih l' u'))
noncomputable def dm_w38 (fR : Nat) (k : Nat → Nat) (n : Nat) : Nat → Nat → Nat :=
  Nat.rec (motive := fun _ => Nat → Nat → Nat) (fun _ _ => 0) (fun _ ih => dm_w38S fR k ih) n
noncomputable def dm_swp (oF oN H fR v : Nat) : Nat :=
  dm_w38 fR (fun len => dm_w68 fR (fun pI sK => dm_w122 oF H oN pI sK len 6 3 2 0x222200 2) 6 v len 0x111100 0) 6 2 v
/-! The questions -/
noncomputable def dm_over (nU eN sZ u v y z : Nat) : Nat :=
  dm_rd nU u fun nu => dm_lq 2 nu (dm_rd eN v fun ev => dm_rd eN u fun eu => dm_lq eu ev (dm_rd sZ u fun su => dm_lq (Nat.sub (Nat.add eu su) 2) ev z y) z) z
noncomputable def dm_nearS (nU eN sZ iD w : Nat) (k : Nat → Nat) (ih : Nat → Nat → Nat) (x kk : Nat) : Nat :=
  dm_lq 6 kk (k x) (dm_over nU eN sZ x w (k x) (dm_rd iD x fun x' => dm_fc (Nat.succ kk) fun kk' => ih x' kk'))
noncomputable def dm_near (nU eN sZ iD w : Nat) (k : Nat → Nat) (n : Nat) : Nat → Nat → Nat :=
  Nat.rec (motive := fun _ => Nat → Nat → Nat) (fun _ _ => 0) (fun _ ih => dm_nearS nU eN sZ iD w k ih) n
/-! The law's own work: heads, reach, ones -/
def dm_hd (G u : Nat) : Nat := Nat.mul 2 (Nat.land (Nat.shiftRight G (Nat.mul 3 (Nat.sub u 2))) 7)
noncomputable def dm_rs (G kept u s : Nat) : Nat := dm_bt s u (Nat.lor s (Nat.land (dm_hd G u) kept)) s
noncomputable def dm_round (G kept s : Nat) (k : Nat → Nat) : Nat :=
  dm_fc (dm_rs G kept 2 s) fun s => dm_fc (dm_rs G kept 3 s) fun s => dm_fc (dm_rs G kept 4 s) fun s => dm_fc (dm_rs G kept 5 s) k
noncomputable def dm_reach (G kept : Nat) : Nat :=
  dm_round G kept (Nat.land 1 kept) fun s => dm_round G kept s fun s => dm_round G kept s fun s => dm_round G kept s fun s => s
noncomputable def dm_ones (s : Nat) : Nat := Nat.add (Nat.add (Nat.add (Nat.land s 1) (Nat.land (Nat.shiftRight s 1) 1)) (Nat.land (Nat.shiftRight s 2) 1)) (Nat.land (Nat.shiftRight s 3) 1)
noncomputable def dm_l39S (u h : Nat) (k : Nat → Nat → Nat → Nat) (ih : Nat → Nat → Nat → Nat → Nat) (t T H ec : Nat) : Nat :=
  dm_lq 6 t (k T H ec) (dm_fc (Nat.succ t) fun t' => dm_bt h t (dm_lq 15 ec 0 (dm_fc (dm_st T ec u) fun T' => dm_fc (dm_st H ec t) fun H' => dm_fc (Nat.succ ec) fun ec' => ih t' T' H' ec'))
    (ih t' T H ec))
noncomputable def dm_l39 (u h : Nat) (k : Nat → Nat → Nat → Nat) (n : Nat) : Nat → Nat → Nat → Nat → Nat :=
  Nat.rec (motive := fun _ => Nat → Nat → Nat → Nat → Nat) (fun _ _ _ _ => 0) (fun _ ih => dm_l39S u h k ih) n
noncomputable def dm_l22S (G : Nat) (k : Nat → Nat → Nat → Nat) (ih : Nat → Nat → Nat → Nat → Nat) (u T H ec : Nat) : Nat :=
  dm_lq 6 u (k T H ec) (dm_fc (dm_hd G u) fun h => dm_l39 u h (fun T' H' ec' => dm_fc (Nat.succ u) fun u' => ih u' T' H' ec') 4 3 T H ec)
noncomputable def dm_l22 (G : Nat) (k : Nat → Nat → Nat → Nat) (n : Nat) : Nat → Nat → Nat → Nat → Nat :=
  Nat.rec (motive := fun _ => Nat → Nat → Nat → Nat → Nat) (fun _ _ _ _ => 0) (fun _ ih => dm_l22S G k ih) n
/-! What the law checks: al what is reached, B (packed) what each vertex holds below it, C (packed) each vertex's depth -/
noncomputable def dm_ckB (nU sZ al B u : Nat) : Nat :=
  dm_rd nU u fun nu => dm_bt al u (dm_lq 2 nu (dm_rd sZ u fun su => dm_eqq su (Nat.add (dm_ones (dm_gt B u)) 2) 1 0) 0) (dm_lq 2 nu 0 1)
noncomputable def dm_ckD (nU eN sZ al B u v : Nat) : Nat :=
  dm_rd nU v fun nv => dm_bt al v (dm_lq 2 nv (dm_over nU eN sZ u v (dm_bt (dm_gt B u) v 1 0) (dm_bt (dm_gt B u) v 0 1)) 0) (dm_lq 2 nv 0 1)
noncomputable def dm_mkC (oF oN H fR nU u : Nat) (k : Nat → Nat) : Nat :=
  dm_rd nU u fun nu => dm_lq 2 nu (dm_nz (dm_swp oF oN H fR u) fun s => dm_lq 16 s 0 (k s)) (k 0)
noncomputable def dm_endN (nU eN sZ iD al C v w cnt near : Nat) : Nat :=
  dm_bt al v (dm_eqq (dm_gt C v) cnt (dm_bt al w (dm_near nU eN sZ iD w (fun x => dm_eqq x near 1 0) 5 v 2) 1) 0) (dm_eqq (dm_gt C v) 0 1 0)
noncomputable def dm_l97S (B C v w : Nat) (k : Nat → Nat → Nat) (ih : Nat → Nat → Nat → Nat → Nat) (u cnt near rank : Nat) : Nat :=
  dm_lq 6 u (k cnt near) (dm_fc (dm_gt B u) fun b => dm_fc (Nat.succ u) fun u' => dm_bt b v (dm_fc (Nat.succ cnt) fun cnt' =>
    dm_bt b w (dm_fc (dm_gt C u) fun c => dm_lq c rank (ih u' cnt' near rank) (ih u' cnt' u c)) (ih u' cnt' near rank)) (ih u' cnt near rank))
noncomputable def dm_l97 (B C v w : Nat) (k : Nat → Nat → Nat) (n : Nat) : Nat → Nat → Nat → Nat → Nat :=
  Nat.rec (motive := fun _ => Nat → Nat → Nat → Nat → Nat) (fun _ _ _ _ => 0) (fun _ ih => dm_l97S B C v w k ih) n
noncomputable def dm_ckN (nU eN sZ iD al B C v w : Nat) : Nat :=
  dm_l97 B C v w (fun cnt near => dm_endN nU eN sZ iD al C v w cnt near) 5 2 2 2 2
/-- f at the four vertices -/
noncomputable def dm_for (f : Nat → Nat) : Nat := dm_sq (f 2) (dm_sq (f 3) (dm_sq (f 4) (f 5)))
noncomputable def dm_fin (G H oF oN nU iD sZ eN rc : Nat) : Nat :=
  dm_fc (dm_reach G 15) fun al => dm_fc (dm_reach G 14) fun r0 => dm_fc (dm_reach G 13) fun r1 => dm_fc (dm_reach G 11) fun r2 => dm_fc (dm_reach G 7) fun r3 =>
  dm_fc (dm_st (dm_st (dm_st (dm_st 0 2 (Nat.land al (Nat.xor r0 15))) 3 (Nat.land al (Nat.xor r1 15))) 4 (Nat.land al (Nat.xor r2 15))) 5 (Nat.land al (Nat.xor r3 15))) fun B =>
  dm_nz (dm_bfs oF oN H) fun fR => dm_mkC oF oN H fR nU 2 fun c0 => dm_mkC oF oN H fR nU 3 fun c1 => dm_mkC oF oN H fR nU 4 fun c2 => dm_mkC oF oN H fR nU 5 fun c3 =>
  dm_fc (dm_st (dm_st (dm_st (dm_st 0 2 c0) 3 c1) 4 c2) 5 c3) fun C =>
  dm_eqq rc (Nat.add (dm_ones al) 2) (dm_sq (dm_for fun u => dm_ckB nU sZ al B u) (dm_sq (dm_for fun u => dm_for fun v => dm_ckD nU eN sZ al B u v) (dm_for fun v => dm_for fun w => dm_ckN nU eN sZ iD al B C v w))) 0
noncomputable def dm_ck (G : Nat) : Nat :=
  dm_l22 G (fun T H ec => dm_refr T H ec fun oF oN nU iD sZ eN rc => dm_fin G H oF oN nU iD sZ eN rc) 5 2 0 0 2
noncomputable def dm_all (n : Nat) : Nat → Bool :=
  Nat.rec (motive := fun _ => Nat → Bool) (fun _ => true) (fun _ ih g => Bool.rec (motive := fun _ => Bool) false (ih (Nat.succ g)) (Nat.beq (dm_ck g) 1)) n
end
section
/-! chain, numberVertices -/
theorem dm_fill {a : Nat → Int32} {v : Nat} {x : Int32} (hv : v < 16) (hx : x = dm_dc v) : dm_R (dm_st (dm_st (dm_st (dm_st 0 2 v) 3 v) 4 v) 5 v) (upd (upd (upd (upd a (dm_dc 2).toNatClampNeg x) (dm_dc 3).toNatClampNeg x) (dm_dc 4).toNatClampNeg x) (dm_dc 5).toNatClampNeg x) :=
  dm_Rst (dm_Rst (dm_Rst (dm_Rst (dm_R0 a) (by decide) (by decide) hv hx (dm_cl (by decide))) (by decide) (by decide) hv hx (dm_cl (by decide))) (by decide) (by decide) hv hx (dm_cl (by decide))) (by decide) (by decide) hv hx (dm_cl (by decide))
theorem dm_fillN {a : Nat → Int32} : dm_R 0x111100 (upd (upd (upd (upd a (dm_dc 2).toNatClampNeg (-1)) (dm_dc 3).toNatClampNeg (-1)) (dm_dc 4).toNatClampNeg (-1)) (dm_dc 5).toNatClampNeg (-1)) := by
  have h := dm_fill (a := a) (v := 1) (x := -1) (by decide) dm_m1
  rw [show dm_st (dm_st (dm_st (dm_st 0 2 1) 3 1) 4 1) 5 1 = 0x111100 by decide] at h
  exact h
theorem dm_fill1 {a : Nat → Int32} : dm_R 0x333300 (upd (upd (upd (upd a (dm_dc 2).toNatClampNeg 1) (dm_dc 3).toNatClampNeg 1) (dm_dc 4).toNatClampNeg 1) (dm_dc 5).toNatClampNeg 1) := by
  have h := dm_fill (a := a) (v := 3) (x := 1) (by decide) dm_1
  rw [show dm_st (dm_st (dm_st (dm_st 0 2 3) 3 3) 4 3) 5 3 = 0x333300 by decide] at h
  exact h
theorem dm_fill0 {a : Nat → Int32} : dm_R 0x222200 (upd (upd (upd (upd a (dm_dc 2).toNatClampNeg 0) (dm_dc 3).toNatClampNeg 0) (dm_dc 4).toNatClampNeg 0) (dm_dc 5).toNatClampNeg 0) := by
  have h := dm_fill (a := a) (v := 2) (x := 0) (by decide) dm_0
  rw [show dm_st (dm_st (dm_st (dm_st 0 2 2) 3 2) 4 2) 5 2 = 0x222200 by decide] at h
  exact h
theorem dm_fillI {a : Nat → Int32} : dm_R 0x543200 (upd (upd (upd (upd a (dm_dc 2).toNatClampNeg (dm_dc 2)) (dm_dc 3).toNatClampNeg (dm_dc 3)) (dm_dc 4).toNatClampNeg (dm_dc 4)) (dm_dc 5).toNatClampNeg (dm_dc 5)) := by
  have h : dm_R (dm_st (dm_st (dm_st (dm_st 0 2 2) 3 3) 4 4) 5 5) (upd (upd (upd (upd a (dm_dc 2).toNatClampNeg (dm_dc 2)) (dm_dc 3).toNatClampNeg (dm_dc 3)) (dm_dc 4).toNatClampNeg (dm_dc 4)) (dm_dc 5).toNatClampNeg (dm_dc 5)) :=
    dm_Rst (dm_Rst (dm_Rst (dm_Rst (dm_R0 a) (by decide) (by decide) (by decide) rfl (dm_cl (by decide))) (by decide) (by decide) (by decide) rfl (dm_cl (by decide))) (by decide) (by decide) (by decide) rfl (dm_cl (by decide))) (by decide) (by decide) (by decide) rfl (dm_cl (by decide))
  rw [show dm_st (dm_st (dm_st (dm_st 0 2 2) 3 3) 4 4) 5 5 = 0x543200 by decide] at h
  exact h
theorem dm_copy {A r : Nat} {k : Nat → Nat} {a b : Nat → Int32} (hA : dm_R A a) (hr : r ≠ 0) (h : dm_cp4 A k = r) :
    ∃ B, dm_R B (upd (upd (upd (upd b (dm_dc 2).toNatClampNeg (a (dm_dc 2).toNatClampNeg)) (dm_dc 3).toNatClampNeg (a (dm_dc 3).toNatClampNeg)) (dm_dc 4).toNatClampNeg (a (dm_dc 4).toNatClampNeg)) (dm_dc 5).toNatClampNeg (a (dm_dc 5).toNatClampNeg)) ∧ k B = r := by
  unfold dm_cp4 at h
  obtain ⟨x0, _, l0, _, _, e0, h⟩ := dm_rd_ok hA h hr
  obtain ⟨x1, _, l1, _, _, e1, h⟩ := dm_rd_ok hA h hr
  obtain ⟨x2, _, l2, _, _, e2, h⟩ := dm_rd_ok hA h hr
  obtain ⟨x3, _, l3, _, _, e3, h⟩ := dm_rd_ok hA h hr
  rw [dm_fc_eq] at h
  exact ⟨_, dm_Rst (dm_Rst (dm_Rst (dm_Rst (dm_R0 b) (by decide) (by decide) l0 e0 (dm_cl (by decide))) (by decide) (by decide) l1 e1 (dm_cl (by decide))) (by decide) (by decide) l2 e2 (dm_cl (by decide))) (by decide) (by decide) l3 e3 (dm_cl (by decide)), h⟩
theorem dm_n4 {c : Nat} (h : c < 6) : ¬ (4 : Int32) ≤ dm_dc c := fun z => absurd ((dm_ge4 (by omega)).mp z) (by omega)
section
variable {post : St2 → Prop} {ed re cu qd fa : Int32} {a1 a2 a3 a4 a5 a6 a7 a8 a9 a10 a11 a12 a13 a14 a15 a16 a17 a18 a19 a20 a21 a22 a23 a24 : Nat → Int32}
theorem dm_w37 {T H r : Nat} {k : Nat → Nat → Nat → Nat → Nat} (hr : r ≠ 0) (hT : dm_R T a1) (hH : dm_R H a2)
    (hp : ∀ oF oN iF iN b3 b4 b5 b6, dm_R oF b3 → dm_R oN b4 → dm_R iF b5 → dm_R iN b6 → k oF oN iF iN = r → post (4, ed, re, cu, qd, fa, a1, a2, b3, b4, b5, b6, a7, a8, a9, a10, a11, a12, a13, a14, a15, a16, a17, a18, a19, a20, a21, a22, a23, a24)) :
    ∀ (n e oF oN iF iN : Nat) (a3 a4 a5 a6 : Nat → Int32), dm_R oF a3 → dm_R oN a4 → dm_R iF a5 → dm_R iN a6 → e < 16 → dm_chain T H k n e oF oN iF iN = r →
      wX_chain_37 post 4 ed re cu qd fa n (dm_dc e) a1 a2 a3 a4 a5 a6 a7 a8 a9 a10 a11 a12 a13 a14 a15 a16 a17 a18 a19 a20 a21 a22 a23 a24 := by
  intro n
  induction n with
  | zero => exact fun e oF oN iF iN a3 a4 a5 a6 _ _ _ _ _ h => absurd h.symm hr
  | succ n ih =>
    intro e oF oN iF iN a3 a4 a5 a6 h3 h4 h5 h6 he h
    have h : dm_chainS T H k (dm_chain T H k n) e oF oN iF iN = r := h
    unfold dm_chainS at h
    rw [dm_lq_if] at h
    by_cases c1 : 2 ≤ e
    · rw [if_pos c1] at h
      obtain ⟨t, _, t2, e1, e2, et, h⟩ := dm_rd_ok hT h hr
      obtain ⟨x, _, x2, t1, _, ex, h⟩ := dm_rd_ok h3 h hr
      obtain ⟨q, _, q2, _, _, eq, h⟩ := dm_rd_ok hH h hr
      obtain ⟨y, _, y2, q1, _, ey, h⟩ := dm_rd_ok h5 h hr
      rw [dm_fc_eq, dm_fc_eq, dm_fc_eq, dm_fc_eq, dm_fc_eq] at h
      refine br_f (fun z => absurd ((dm_neg (by omega)).mp z) (by omega)) ?_
      rw [et, eq, ex, ey]
      exact ⟨dm_in e1 e2, dm_in t1 t2, dm_in e1 e2, nm_e ⟨dm_in e1 e2, dm_in t1 t2, nm_e ⟨dm_in e1 e2, dm_in q1 q2, dm_in e1 e2, nm_e ⟨dm_in e1 e2, dm_in q1 q2, nm_e (nm_r (dm_p (by omega))
        (ih _ _ _ _ _ _ _ _ _ (dm_Rst h3 t1 t2 e2 rfl (dm_cl (by omega))) (dm_Rst h4 e1 e2 x2 rfl (dm_cl (by omega))) (dm_Rst h5 q1 q2 e2 rfl (dm_cl (by omega))) (dm_Rst h6 e1 e2 y2 rfl (dm_cl (by omega))) (by omega) h))⟩⟩⟩⟩
    · rw [if_neg c1] at h
      exact br_t ((dm_neg (by omega)).mpr (by omega)) (hp _ _ _ _ _ _ _ _ h3 h4 h5 h6 h)
theorem dm_wchain {T H ec r : Nat} {k : Nat → Nat → Nat → Nat → Nat} (hr : r ≠ 0) (hT : dm_R T a1) (hH : dm_R H a2) (hec : 1 ≤ ec) (hec2 : ec < 16)
    (hp : ∀ oF oN iF iN b3 b4 b5 b6, dm_R oF b3 → dm_R oN b4 → dm_R iF b5 → dm_R iN b6 → k oF oN iF iN = r → post (4, dm_dc ec, re, cu, qd, fa, a1, a2, b3, b4, b5, b6, a7, a8, a9, a10, a11, a12, a13, a14, a15, a16, a17, a18, a19, a20, a21, a22, a23, a24))
    (h : dm_chain T H k 14 (ec - 1) 0x111100 0 0x111100 0 = r) : wpX_chain post (4, dm_dc ec, re, cu, qd, fa, a1, a2, a3, a4, a5, a6, a7, a8, a9, a10, a11, a12, a13, a14, a15, a16, a17, a18, a19, a20, a21, a22, a23, a24) := by
  unfold wpX_chain
  refine ⟨5, ?_⟩
  refine br_f (dm_n4 (c := 2) (by omega)) ⟨dm_in (c := 2) (by omega) (by omega), nm_e ⟨dm_in (c := 2) (by omega) (by omega), nm_e (nm_r (dm_s 2) ?_)⟩⟩
  refine br_f (dm_n4 (c := 3) (by omega)) ⟨dm_in (c := 3) (by omega) (by omega), nm_e ⟨dm_in (c := 3) (by omega) (by omega), nm_e (nm_r (dm_s 3) ?_)⟩⟩
  refine br_f (dm_n4 (c := 4) (by omega)) ⟨dm_in (c := 4) (by omega) (by omega), nm_e ⟨dm_in (c := 4) (by omega) (by omega), nm_e (nm_r (dm_s 4) ?_)⟩⟩
  refine br_f (dm_n4 (c := 5) (by omega)) ⟨dm_in (c := 5) (by omega) (by omega), nm_e ⟨dm_in (c := 5) (by omega) (by omega), nm_e (nm_r (dm_s 5) ?_)⟩⟩
  refine br_t ((dm_ge4 (c := 6) (by omega)).mpr (by omega)) (nm_r (dm_q hec) ⟨14, ?_⟩)
  exact dm_w37 hr hT hH hp 14 (ec - 1) _ _ _ _ _ _ _ _ dm_fillN (dm_R0 a4) dm_fillN (dm_R0 a6) (by omega) h
theorem dm_warr {w rc : Nat} (pv : Int32) (w1 : 2 ≤ w) (w2 : w < 16) (r1 : 2 ≤ rc) (r2 : rc < 16)
    (H : post (4, ed, dm_dc (rc + 1), cu, qd, fa, a1, a2, a3, a4, a5, a6, a7, a8, upd a9 (dm_dc w).toNatClampNeg (dm_dc rc), upd a10 (dm_dc rc).toNatClampNeg (dm_dc w), upd a11 (dm_dc w).toNatClampNeg pv, a12, a13, a14, a15, a16, a17, a18, a19, a20, a21, a22, a23, a24)) :
    wpX_arrive post (4, ed, dm_dc rc, cu, qd, fa, a1, a2, a3, a4, a5, a6, a7, a8, a9, a10, a11, a12, a13, a14, a15, a16, a17, a18, a19, a20, a21, a22, a23, a24) (dm_dc w) pv := by
  unfold wpX_arrive
  exact ⟨dm_in w1 w2, nm_e ⟨dm_in r1 r2, nm_e ⟨dm_in w1 w2, nm_e (nm_r (dm_s rc) H)⟩⟩⟩
theorem dm_w57 {H oN r : Nat} {k : Nat → Nat → Nat → Nat → Nat} (hr : r ≠ 0) (hH : dm_R H a2) (hN : dm_R oN a4)
    (hp : ∀ nU aT pA rc b7 b8 b9 b10 b11, dm_R nU b9 → dm_R aT b10 → dm_R pA b11 → 3 ≤ rc → rc ≤ 6 → k nU aT pA rc = r → post (4, ed, dm_dc rc, cu, qd, fa, a1, a2, a3, a4, a5, a6, b7, b8, b9, b10, b11, a12, a13, a14, a15, a16, a17, a18, a19, a20, a21, a22, a23, a24)) :
    ∀ (n d s cU sK nU aT pA rc : Nat) (a7 a8 a9 a10 a11 : Nat → Int32), dm_R cU a7 → dm_R sK a8 → dm_R nU a9 → dm_R aT a10 → dm_R pA a11 → d ≤ 6 → 3 ≤ rc → rc ≤ 6 → s + n ≤ 122 → dm_dfs H oN k n d cU sK nU aT pA rc = r →
      wX_numberVertices_57 post n (dm_dc d) (dm_dc s) 4 ed (dm_dc rc) cu qd fa a1 a2 a3 a4 a5 a6 a7 a8 a9 a10 a11 a12 a13 a14 a15 a16 a17 a18 a19 a20 a21 a22 a23 a24 := by
  intro n
  induction n with
  | zero => exact fun d s cU sK nU aT pA rc a7 a8 a9 a10 a11 _ _ _ _ _ _ _ _ _ h => absurd h.symm hr
  | succ n ih =>
    intro d s cU sK nU aT pA rc a7 a8 a9 a10 a11 h7 h8 h9 h10 h11 hd hrc hrc2 hs h
    have h : dm_dfsS H oN k (dm_dfs H oN k n) d cU sK nU aT pA rc = r := h
    unfold dm_dfsS at h
    rw [dm_lq_if] at h
    refine br_f (fun z => absurd ((dm_le (a := 122) (by omega) (by omega)).mp z) (by omega)) ?_
    by_cases c1 : 2 ≤ d
    · rw [if_pos c1] at h
      obtain ⟨v, _, v2, d1, d2, ev, h⟩ := dm_rd_ok h8 h hr
      obtain ⟨e, _, e2, v1, _, ee, h⟩ := dm_rd_ok h7 h hr
      rw [dm_eqq_if] at h
      refine br_f (fun z => absurd ((dm_neg (by omega)).mp z) (by omega)) ⟨dm_in d1 d2, nm_r ev ⟨dm_in v1 v2, nm_r ee ?_⟩⟩
      by_cases c2 : e = 1
      · rw [if_pos c2, dm_fc_eq] at h
        exact br_t ((dm_isN (by omega)).mpr c2) (nm_r (dm_p (by omega)) (nm_r (dm_s s) (ih _ _ _ _ _ _ _ _ _ _ _ _ _ h7 h8 h9 h10 h11 (by omega) hrc hrc2 (by omega) h)))
      · rw [if_neg c2] at h
        obtain ⟨x, _, x2, e1, _, ex, h⟩ := dm_rd_ok hN h hr
        obtain ⟨w, _, w2, _, _, ew, h⟩ := dm_rd_ok hH h hr
        obtain ⟨nw, _, nw2, w1, _, enw, h⟩ := dm_rd_ok h9 h hr
        rw [dm_fc_eq, dm_lq_if] at h
        refine br_f (fun z => c2 ((dm_isN (by omega)).mp z)) ?_
        rw [ex]
        refine ⟨dm_in e1 e2, dm_in v1 v2, nm_e ⟨dm_in e1 e2, nm_r ew ⟨dm_in w1 w2, ?_⟩⟩⟩
        rw [enw]
        by_cases c3 : 2 ≤ nw
        · rw [if_pos c3] at h
          exact br_t ((dm_pos (by omega)).mpr c3) (nm_r (dm_s s) (ih _ _ _ _ _ _ _ _ _ _ _ _ _ (dm_Rst h7 v1 v2 x2 rfl (dm_cl (by omega))) h8 h9 h10 h11 hd hrc hrc2 (by omega) h))
        · rw [if_neg c3, dm_lq_if] at h
          by_cases c4 : 6 ≤ rc
          · rw [if_pos c4] at h
            exact absurd h.symm hr
          · rw [if_neg c4, dm_lq_if] at h
            by_cases c5 : 6 ≤ d
            · rw [if_pos c5] at h
              exact absurd h.symm hr
            · rw [if_neg c5, dm_fc_eq, dm_fc_eq, dm_fc_eq, dm_fc_eq, dm_fc_eq, dm_fc_eq] at h
              refine br_f (fun z => c3 ((dm_pos (by omega)).mp z)) (dm_warr (dm_dc v) w1 w2 (by omega) (by omega) ?_)
              refine nm_r (dm_s d) ⟨dm_in (by omega) (by omega), nm_e (nm_r (dm_s s) ?_)⟩
              exact ih _ _ _ _ _ _ _ _ _ _ _ _ _ (dm_Rst h7 v1 v2 x2 rfl (dm_cl (by omega))) (dm_Rst h8 (by omega) (by omega) w2 rfl (dm_cl (by omega))) (dm_Rst h9 w1 w2 (by omega) rfl (dm_cl (by omega))) (dm_Rst h10 (by omega) (by omega) w2 rfl (dm_cl (by omega))) (dm_Rst h11 w1 w2 v2 rfl (dm_cl (by omega))) (by omega) (by omega) (by omega) (by omega) h
    · rw [if_neg c1] at h
      exact br_t ((dm_neg (by omega)).mpr (by omega)) (hp _ _ _ _ _ _ _ _ _ h9 h10 h11 hrc hrc2 h)
theorem dm_wnum {H oF oN r : Nat} {k : Nat → Nat → Nat → Nat → Nat} (hr : r ≠ 0) (hH : dm_R H a2) (hF : dm_R oF a3) (hN : dm_R oN a4)
    (hp : ∀ nU aT pA rc b7 b8 b9 b10 b11, dm_R nU b9 → dm_R aT b10 → dm_R pA b11 → 3 ≤ rc → rc ≤ 6 → k nU aT pA rc = r → post (4, ed, dm_dc rc, cu, qd, fa, a1, a2, a3, a4, a5, a6, b7, b8, b9, b10, b11, a12, a13, a14, a15, a16, a17, a18, a19, a20, a21, a22, a23, a24))
    (h : (dm_cp4 oF fun cU => dm_dfs H oN k 20 2 cU 0x200 0x111200 0x200 0x100 3) = r) : wpX_numberVertices post (4, ed, re, cu, qd, fa, a1, a2, a3, a4, a5, a6, a7, a8, a9, a10, a11, a12, a13, a14, a15, a16, a17, a18, a19, a20, a21, a22, a23, a24) := by
  obtain ⟨cU, hcU, h⟩ := dm_copy (b := a7) hF hr h
  unfold wpX_numberVertices
  refine ⟨5, ?_⟩
  refine br_f (dm_n4 (c := 2) (by omega)) ⟨dm_in (c := 2) (by omega) (by omega), nm_e ⟨dm_in (c := 2) (by omega) (by omega), dm_in (c := 2) (by omega) (by omega), nm_e (nm_r (dm_s 2) ?_)⟩⟩
  refine br_f (dm_n4 (c := 3) (by omega)) ⟨dm_in (c := 3) (by omega) (by omega), nm_e ⟨dm_in (c := 3) (by omega) (by omega), dm_in (c := 3) (by omega) (by omega), nm_e (nm_r (dm_s 3) ?_)⟩⟩
  refine br_f (dm_n4 (c := 4) (by omega)) ⟨dm_in (c := 4) (by omega) (by omega), nm_e ⟨dm_in (c := 4) (by omega) (by omega), dm_in (c := 4) (by omega) (by omega), nm_e (nm_r (dm_s 4) ?_)⟩⟩
  refine br_f (dm_n4 (c := 5) (by omega)) ⟨dm_in (c := 5) (by omega) (by omega), nm_e ⟨dm_in (c := 5) (by omega) (by omega), dm_in (c := 5) (by omega) (by omega), nm_e (nm_r (dm_s 5) ?_)⟩⟩
  refine br_t ((dm_ge4 (c := 6) (by omega)).mpr (by omega)) (dm_warr (w := 2) (rc := 2) (-1) (by omega) (by omega) (by omega) (by omega) (nm_e ⟨20, ?_⟩))
  exact dm_w57 hr hH hN hp 20 2 2 cU 0x200 0x111200 0x200 0x100 3 _ _ _ _ _ hcU
    (dm_Rst (A := 0) (c := 2) (v := 2) (dm_R0 a8) (by decide) (by decide) (by decide) dm_0 (by decide))
    (dm_Rst (A := 0x111100) (c := 2) (v := 2) dm_fillN (by decide) (by decide) (by decide) rfl (dm_cl (by decide)))
    (dm_Rst (A := 0) (c := 2) (v := 2) (dm_R0 a10) (by decide) (by decide) (by decide) rfl (dm_cl (by decide)))
    (dm_Rst (A := 0) (c := 2) (v := 1) (dm_R0 a11) (by decide) (by decide) (by decide) dm_m1 (dm_cl (by decide)))
    (by decide) (by decide) (by decide) (by decide) h
end
end
section
/-! lowest, lowerBySources, emptyBucket, findSemi -/
section
variable {pst : Int32 → St2 → Prop} {post : St2 → Prop} {ed re cu qd fa : Int32} {a1 a2 a3 a4 a5 a6 a7 a8 a9 a10 a11 a12 a13 a14 a15 a16 a17 a18 a19 a20 a21 a22 a23 a24 : Nat → Int32}
theorem dm_w71 {sE v sK r : Nat} {k : Nat → Nat → Nat → Nat} (hr : r ≠ 0) (hE : dm_R sE a12) (hK : dm_R sK a8)
    (hp : ∀ u lA aN b13 b14, u < 16 → dm_R lA b13 → dm_R aN b14 → k u lA aN = r → pst (dm_dc u) (4, ed, re, cu, qd, fa, a1, a2, a3, a4, a5, a6, a7, a8, a9, a10, a11, a12, b13, b14, a15, a16, a17, a18, a19, a20, a21, a22, a23, a24)) :
    ∀ (n x4 lA aN : Nat) (a13 a14 : Nat → Int32), dm_R lA a13 → dm_R aN a14 → x4 < 16 → dm_l71 sE v sK k n x4 lA aN = r →
      wX_lowest_71 pst (dm_dc v) 4 ed re cu qd fa n (dm_dc x4) a1 a2 a3 a4 a5 a6 a7 a8 a9 a10 a11 a12 a13 a14 a15 a16 a17 a18 a19 a20 a21 a22 a23 a24 := by
  intro n
  induction n with
  | zero => exact fun x4 lA aN a13 a14 _ _ _ h => absurd h.symm hr
  | succ n ih =>
    intro x4 lA aN a13 a14 h13 h14 hx h
    have h : dm_l71S sE v sK k (dm_l71 sE v sK k n) x4 lA aN = r := h
    unfold dm_l71S at h
    rw [dm_lq_if] at h
    by_cases c1 : 2 ≤ x4
    · rw [if_pos c1] at h
      obtain ⟨x, _, x2, _, _, ex, h⟩ := dm_rd_ok hK h hr
      obtain ⟨a, _, a2', x1, _, ea, h⟩ := dm_rd_ok h14 h hr
      obtain ⟨la, _, la2, a1', _, ela, h⟩ := dm_rd_ok h13 h hr
      obtain ⟨lx, _, lx2, _, _, elx, h⟩ := dm_rd_ok h13 h hr
      obtain ⟨sa, _, sa2, la1, _, esa, h⟩ := dm_rd_ok hE h hr
      obtain ⟨sx, _, sx2, lx1, _, esx, h⟩ := dm_rd_ok hE h hr
      obtain ⟨aa, _, aa2, _, _, eaa, h⟩ := dm_rd_ok h14 h hr
      rw [dm_fc_eq, dm_fc_eq, dm_lq_if] at h
      refine br_f (fun z => absurd ((dm_neg (by omega)).mp z) (by omega)) ⟨dm_in c1 hx, nm_r ex ⟨dm_in x1 x2, nm_r ea ?_⟩⟩
      rw [ela, elx, esa, esx]
      refine ⟨dm_in a1' a2', dm_in la1 la2, dm_in x1 x2, dm_in lx1 lx2, ?_⟩
      by_cases c2 : sx ≤ sa
      · rw [if_pos c2] at h
        refine br_t ((dm_le (by omega) (by omega)).mpr c2) ?_
        unfold wX_lowest_135
        rw [eaa]
        exact ⟨dm_in a1' a2', dm_in x1 x2, nm_e (nm_r (dm_p (by omega)) (ih _ _ _ _ _ h13 (dm_Rst h14 x1 x2 aa2 rfl (dm_cl (by omega))) (by omega) h))⟩
      · rw [if_neg c2, dm_fc_eq] at h
        refine br_f (fun z => c2 ((dm_le (by omega) (by omega)).mp z)) ⟨dm_in a1' a2', dm_in x1 x2, nm_e ?_⟩
        unfold wX_lowest_135
        rw [eaa]
        exact ⟨dm_in a1' a2', dm_in x1 x2, nm_e (nm_r (dm_p (by omega)) (ih _ _ _ _ _ (dm_Rst h13 x1 x2 la2 rfl (dm_cl (by omega))) (dm_Rst h14 x1 x2 aa2 rfl (dm_cl (by omega))) (by omega) h))⟩
    · rw [if_neg c1] at h
      obtain ⟨u, _, u2, v1, v2, eu, h⟩ := dm_rd_ok h13 h hr
      refine br_t ((dm_neg (by omega)).mpr (by omega)) ⟨dm_in v1 v2, ?_⟩
      rw [eu]
      exact hp _ _ _ _ _ u2 h13 h14 h
theorem dm_w19 {sE v lA aN r : Nat} {k : Nat → Nat → Nat → Nat} (hr : r ≠ 0) (hE : dm_R sE a12) (hL : dm_R lA a13) (hA : dm_R aN a14)
    (hp : ∀ u lA aN b8 b13 b14, u < 16 → dm_R lA b13 → dm_R aN b14 → k u lA aN = r → pst (dm_dc u) (4, ed, re, cu, qd, fa, a1, a2, a3, a4, a5, a6, a7, b8, a9, a10, a11, a12, b13, b14, a15, a16, a17, a18, a19, a20, a21, a22, a23, a24)) :
    ∀ (n dp w sK : Nat) (a8 : Nat → Int32), dm_R sK a8 → 2 ≤ dp → dp + n ≤ 6 → dm_l19 sE v lA aN k n dp w sK = r →
      wX_lowest_19 pst (dm_dc v) 4 ed re cu qd fa n (dm_dc dp) (dm_dc w) (dm_dc dp) a1 a2 a3 a4 a5 a6 a7 a8 a9 a10 a11 a12 a13 a14 a15 a16 a17 a18 a19 a20 a21 a22 a23 a24 := by
  intro n
  induction n with
  | zero => exact fun dp w sK a8 _ _ _ h => absurd h.symm hr
  | succ n ih =>
    intro dp w sK a8 h8 hd hn h
    have h : dm_l19S sE v lA aN k (dm_l19 sE v lA aN k n) dp w sK = r := h
    unfold dm_l19S at h
    obtain ⟨a, _, a2', w1, w2, ea, h⟩ := dm_rd_ok hA h hr
    obtain ⟨aa, _, aa2, a1', _, eaa, h⟩ := dm_rd_ok hA h hr
    rw [dm_eqq_if] at h
    refine br_f (dm_n4 (by omega)) ?_
    rw [ea, eaa]
    refine ⟨dm_in w1 w2, dm_in a1' a2', ?_⟩
    by_cases c1 : aa = 1
    · rw [if_pos c1, dm_fc_eq] at h
      exact br_t ((dm_isN (by omega)).mpr c1) (nm_r (dm_q (by omega)) ⟨5, dm_w71 hr hE h8 (fun u lA aN b13 b14 => hp u lA aN a8 b13 b14) 5 (dp - 1) lA aN a13 a14 hL hA (by omega) h⟩)
    · rw [if_neg c1, dm_fc_eq, dm_fc_eq] at h
      exact br_f (fun z => c1 ((dm_isN (by omega)).mp z)) ⟨dm_in hd (by omega), nm_e (nm_r (dm_s dp) ⟨dm_in w1 w2, nm_e (nm_r (dm_s dp) (ih _ _ _ _ (dm_Rst h8 hd (by omega) w2 rfl (dm_cl (by omega))) (by omega) (by omega) h))⟩)⟩
theorem dm_wlow {sE v lA aN r : Nat} {k : Nat → Nat → Nat → Nat} (hr : r ≠ 0) (hE : dm_R sE a12) (hL : dm_R lA a13) (hA : dm_R aN a14)
    (hp : ∀ u lA aN b8 b13 b14, u < 16 → dm_R lA b13 → dm_R aN b14 → k u lA aN = r → pst (dm_dc u) (4, ed, re, cu, qd, fa, a1, a2, a3, a4, a5, a6, a7, b8, a9, a10, a11, a12, b13, b14, a15, a16, a17, a18, a19, a20, a21, a22, a23, a24))
    (h : dm_low sE v k lA aN = r) : wpX_lowest pst (4, ed, re, cu, qd, fa, a1, a2, a3, a4, a5, a6, a7, a8, a9, a10, a11, a12, a13, a14, a15, a16, a17, a18, a19, a20, a21, a22, a23, a24) (dm_dc v) := by
  unfold dm_low at h
  obtain ⟨a, _, a2', v1, v2, ea, h⟩ := dm_rd_ok hA h hr
  rw [dm_eqq_if] at h
  unfold wpX_lowest
  refine ⟨dm_in v1 v2, ?_⟩
  rw [ea]
  by_cases c1 : a = 1
  · rw [if_pos c1] at h
    exact br_t ((dm_isN (by omega)).mpr c1) (hp _ _ _ _ _ _ v2 hL hA h)
  · rw [if_neg c1] at h
    exact br_f (fun z => c1 ((dm_isN (by omega)).mp z)) ⟨4, dm_w19 hr hE hL hA hp 4 2 v 0 a8 (dm_R0 a8) (by omega) (by omega) h⟩
theorem dm_wlbs9 {T iN nU w r : Nat} {k : Nat → Nat → Nat → Nat} (hr : r ≠ 0) (hT : dm_R T a1) (hI : dm_R iN a6) (hU : dm_R nU a9)
    (hp : ∀ sE lA aN b8 b12 b13 b14, dm_R sE b12 → dm_R lA b13 → dm_R aN b14 → k sE lA aN = r → post (4, ed, re, cu, qd, fa, a1, a2, a3, a4, a5, a6, a7, b8, a9, a10, a11, b12, b13, b14, a15, a16, a17, a18, a19, a20, a21, a22, a23, a24)) :
    ∀ (n s e sE lA aN : Nat) (a8 a12 a13 a14 : Nat → Int32), dm_R sE a12 → dm_R lA a13 → dm_R aN a14 → s + n ≤ 62 → e < 16 → dm_lbs T iN nU w k n e sE lA aN = r →
      wX_lowerBySources_9 post (dm_dc w) n (dm_dc e) (dm_dc s) 4 ed re cu qd fa a1 a2 a3 a4 a5 a6 a7 a8 a9 a10 a11 a12 a13 a14 a15 a16 a17 a18 a19 a20 a21 a22 a23 a24 := by
  intro n
  induction n with
  | zero => exact fun s e sE lA aN a8 a12 a13 a14 _ _ _ _ _ h => absurd h.symm hr
  | succ n ih =>
    intro s e sE lA aN a8 a12 a13 a14 h12 h13 h14 hs he h
    have h : dm_lbsS T iN nU w k (dm_lbs T iN nU w k n) e sE lA aN = r := h
    unfold dm_lbsS at h
    rw [dm_eqq_if] at h
    refine br_f (fun z => absurd ((dm_le (a := 62) (by omega) (by omega)).mp z) (by omega)) ?_
    by_cases c1 : e = 1
    · rw [if_pos c1] at h
      exact br_t ((dm_isN (by omega)).mpr c1) (hp _ _ _ _ _ _ _ h12 h13 h14 h)
    · rw [if_neg c1] at h
      obtain ⟨v, _, v2, e1, _, ev, h⟩ := dm_rd_ok hT h hr
      obtain ⟨nv, _, nv2, v1, _, env, h⟩ := dm_rd_ok hU h hr
      obtain ⟨e', _, e2', _, _, ee', h⟩ := dm_rd_ok hI h hr
      rw [dm_lq_if] at h
      refine br_f (fun z => c1 ((dm_isN (by omega)).mp z)) ⟨dm_in e1 he, nm_r ev ⟨dm_in v1 v2, ?_⟩⟩
      rw [env]
      by_cases c2 : 2 ≤ nv
      · rw [if_pos c2] at h
        refine br_f (fun z => absurd ((dm_neg (by omega)).mp z) (by omega)) (dm_wlow hr h12 h13 h14 (fun u lA' aN' b8 b13 b14 u2 h13' h14' h => ?_) h)
        dsimp only
        obtain ⟨su, _, su2, u1, _, esu, h⟩ := dm_rd_ok h12 h hr
        obtain ⟨sw, _, sw2, w1, w2, esw, h⟩ := dm_rd_ok h12 h hr
        rw [dm_lq_if] at h
        refine ⟨dm_in u1 u2, dm_in w1 w2, ?_⟩
        rw [esu, esw]
        by_cases c3 : sw ≤ su
        · rw [if_pos c3] at h
          exact br_t ((dm_le (by omega) (by omega)).mpr c3) ⟨dm_in e1 he, nm_r ee' (nm_r (dm_s s) (ih _ _ _ _ _ _ _ _ _ h12 h13' h14' (by omega) e2' h))⟩
        · rw [if_neg c3, dm_fc_eq] at h
          exact br_f (fun z => c3 ((dm_le (by omega) (by omega)).mp z)) ⟨dm_in u1 u2, dm_in w1 w2, nm_e ⟨dm_in e1 he, nm_r ee' (nm_r (dm_s s) (ih _ _ _ _ _ _ _ _ _ (dm_Rst h12 w1 w2 su2 rfl (dm_cl (by omega))) h13' h14' (by omega) e2' h))⟩⟩
      · rw [if_neg c2] at h
        exact br_t ((dm_neg (by omega)).mpr (by omega)) ⟨dm_in e1 he, nm_r ee' (nm_r (dm_s s) (ih _ _ _ _ _ _ _ _ _ h12 h13 h14 (by omega) e2' h))⟩
theorem dm_weB9 {sE bN p r : Nat} {k : Nat → Nat → Nat → Nat} (hr : r ≠ 0) (hE : dm_R sE a12) (hB : dm_R bN a16) (p1 : 2 ≤ p) (p2 : p < 16)
    (hp : ∀ lA aN iD b8 b13 b14 b17, dm_R lA b13 → dm_R aN b14 → dm_R iD b17 → k lA aN iD = r → post (4, ed, re, cu, qd, fa, a1, a2, a3, a4, a5, a6, a7, b8, a9, a10, a11, a12, b13, b14, upd a15 (dm_dc p).toNatClampNeg (-1), a16, b17, a18, a19, a20, a21, a22, a23, a24)) :
    ∀ (n s v lA aN iD : Nat) (a8 a13 a14 a17 : Nat → Int32), dm_R lA a13 → dm_R aN a14 → dm_R iD a17 → s + n ≤ 6 → v < 16 → dm_eb sE bN p k n v lA aN iD = r →
      wX_emptyBucket_9 post (dm_dc p) n (dm_dc v) (dm_dc s) 4 ed re cu qd fa a1 a2 a3 a4 a5 a6 a7 a8 a9 a10 a11 a12 a13 a14 a15 a16 a17 a18 a19 a20 a21 a22 a23 a24 := by
  intro n
  induction n with
  | zero => exact fun s v lA aN iD a8 a13 a14 a17 _ _ _ _ _ h => absurd h.symm hr
  | succ n ih =>
    intro s v lA aN iD a8 a13 a14 a17 h13 h14 h17 hs hv h
    have h : dm_ebS sE bN p k (dm_eb sE bN p k n) v lA aN iD = r := h
    unfold dm_ebS at h
    rw [dm_eqq_if] at h
    refine br_f (dm_n4 (by omega)) ?_
    by_cases c1 : v = 1
    · rw [if_pos c1] at h
      exact br_t ((dm_isN (by omega)).mpr c1) ⟨dm_in p1 p2, nm_e (hp _ _ _ _ _ _ _ h13 h14 h17 h)⟩
    · rw [if_neg c1] at h
      refine br_f (fun z => c1 ((dm_isN (by omega)).mp z)) (dm_wlow hr hE h13 h14 (fun u lA' aN' b8 b13 b14 u2 h13' h14' h => ?_) h)
      dsimp only
      obtain ⟨su, _, su2, u1, _, esu, h⟩ := dm_rd_ok hE h hr
      obtain ⟨sv, _, sv2, v1, v2, esv, h⟩ := dm_rd_ok hE h hr
      obtain ⟨v', _, v2', _, _, ev', h⟩ := dm_rd_ok hB h hr
      rw [dm_lq_if] at h
      refine ⟨dm_in u1 u2, dm_in v1 v2, ?_⟩
      rw [esu, esv]
      by_cases c3 : sv ≤ su
      · rw [if_pos c3, dm_fc_eq] at h
        refine br_t ((dm_le (by omega) (by omega)).mpr c3) ?_
        unfold wX_emptyBucket_56
        exact ⟨dm_in v1 v2, nm_e ⟨dm_in v1 v2, nm_r ev' (nm_r (dm_s s) (ih _ _ _ _ _ _ _ _ _ h13' h14' (dm_Rst h17 v1 v2 p2 rfl (dm_cl (by omega))) (by omega) v2' h))⟩⟩
      · rw [if_neg c3, dm_fc_eq] at h
        refine br_f (fun z => c3 ((dm_le (by omega) (by omega)).mp z)) ?_
        unfold wX_emptyBucket_56
        exact ⟨dm_in v1 v2, nm_e ⟨dm_in v1 v2, nm_r ev' (nm_r (dm_s s) (ih _ _ _ _ _ _ _ _ _ h13' h14' (dm_Rst h17 v1 v2 u2 rfl (dm_cl (by omega))) (by omega) v2' h))⟩⟩
theorem dm_w63 {T iN iF nU aT pA r : Nat} {k : Nat → Nat → Nat} (hr : r ≠ 0) (hT : dm_R T a1) (hI : dm_R iN a6) (hF : dm_R iF a5) (hU : dm_R nU a9) (hA : dm_R aT a10) (hP : dm_R pA a11)
    (hp : ∀ sE iD b8 b12 b13 b14 b15 b16 b17, dm_R sE b12 → dm_R iD b17 → k sE iD = r → post (4, ed, re, cu, qd, fa, a1, a2, a3, a4, a5, a6, a7, b8, a9, a10, a11, b12, b13, b14, b15, b16, b17, a18, a19, a20, a21, a22, a23, a24)) :
    ∀ (n i sE lA aN bF bN iD : Nat) (a8 a12 a13 a14 a15 a16 a17 : Nat → Int32), dm_R sE a12 → dm_R lA a13 → dm_R aN a14 → dm_R bF a15 → dm_R bN a16 → dm_R iD a17 → i < 16 → dm_fs T iN iF nU aT pA k n i sE lA aN bF bN iD = r →
      wX_findSemi_63 post n (dm_dc i) 4 ed re cu qd fa a1 a2 a3 a4 a5 a6 a7 a8 a9 a10 a11 a12 a13 a14 a15 a16 a17 a18 a19 a20 a21 a22 a23 a24 := by
  intro n
  induction n with
  | zero => exact fun i sE lA aN bF bN iD a8 a12 a13 a14 a15 a16 a17 _ _ _ _ _ _ _ h => absurd h.symm hr
  | succ n ih =>
    intro i sE lA aN bF bN iD a8 a12 a13 a14 a15 a16 a17 h12 h13 h14 h15 h16 h17 hi h
    have h : dm_fsS T iN iF nU aT pA k (dm_fs T iN iF nU aT pA k n) i sE lA aN bF bN iD = r := h
    unfold dm_fsS at h
    rw [dm_lq_if] at h
    by_cases c1 : 3 ≤ i
    · rw [if_pos c1] at h
      obtain ⟨w, _, w2, i1, i2, ew, h⟩ := dm_rd_ok hA h hr
      obtain ⟨e, _, e2, w1, _, ee, h⟩ := dm_rd_ok hF h hr
      refine br_f (fun z => absurd ((dm_npos (by omega)).mp z) (by omega)) ⟨dm_in i1 i2, nm_r ew ?_⟩
      unfold wpX_lowerBySources
      refine ⟨dm_in w1 w2, nm_r ee ⟨6, ?_⟩⟩
      refine dm_wlbs9 hr hT hI hU (fun sE' lA' aN' b8 b12 b13 b14 h12' h13' h14' h => ?_) 6 2 e sE lA aN a8 a12 a13 a14 h12 h13 h14 (by omega) e2 h
      dsimp only
      obtain ⟨sw, _, sw2, _, _, esw, h⟩ := dm_rd_ok h12' h hr
      obtain ⟨s, _, s2, sw1, _, es, h⟩ := dm_rd_ok hA h hr
      obtain ⟨b, _, b2, s1, _, eb, h⟩ := dm_rd_ok h15 h hr
      obtain ⟨p, _, p2, _, _, ep, h⟩ := dm_rd_ok hP h hr
      rw [dm_fc_eq, dm_fc_eq, dm_fc_eq] at h
      rw [esw]
      refine ⟨dm_in w1 w2, dm_in sw1 sw2, nm_r es ⟨dm_in s1 s2, dm_in w1 w2, nm_r (congrArg (upd a16 (dm_dc w).toNatClampNeg) eb) ⟨dm_in s1 s2, nm_e ⟨dm_in w1 w2, dm_in w1 w2, nm_r (congrArg (upd b14 (dm_dc w).toNatClampNeg) ep) ⟨dm_in w1 w2, ?_⟩⟩⟩⟩⟩
      have h15' := dm_Rst h15 s1 s2 w2 rfl (dm_cl (show s < 2 ^ 20 by omega))
      obtain ⟨v0, _, v02, p1, _, ev0, h⟩ := dm_rd_ok h15' h hr
      rw [ep]
      unfold wpX_emptyBucket
      refine ⟨dm_in p1 p2, nm_r ev0 ⟨4, ?_⟩⟩
      refine dm_weB9 hr h12' (dm_Rst h16 w1 w2 b2 rfl (dm_cl (by omega))) p1 p2 (fun lA2 aN3 iD' c8 c13 c14 c17 g13 g14 g17 h => ?_) 4 2 v0 _ _ _ _ _ _ _ h13' (dm_Rst h14' w1 w2 p2 rfl (dm_cl (by omega))) h17 (by omega) v02 h
      rw [dm_fc_eq, dm_fc_eq] at h
      exact nm_r (dm_p (by omega)) (ih _ _ _ _ _ _ _ _ _ _ _ _ _ _ h12' g13 g14 (dm_Rst h15' p1 p2 (by decide) dm_m1 (dm_cl (by omega))) (dm_Rst h16 w1 w2 b2 rfl (dm_cl (by omega))) g17 (by omega) h)
    · rw [if_neg c1] at h
      exact br_t ((dm_npos (by omega)).mpr (by omega)) (hp _ _ _ _ _ _ _ _ _ h12 h17 h)
theorem dm_wfs {T iN iF nU aT pA rc r : Nat} {k : Nat → Nat → Nat} (hr : r ≠ 0) (hT : dm_R T a1) (hI : dm_R iN a6) (hF : dm_R iF a5) (hU : dm_R nU a9) (hA : dm_R aT a10) (hP : dm_R pA a11) (hrc : 3 ≤ rc) (hrc2 : rc ≤ 6)
    (hp : ∀ sE iD b8 b12 b13 b14 b15 b16 b17, dm_R sE b12 → dm_R iD b17 → k sE iD = r → post (4, ed, dm_dc rc, cu, qd, fa, a1, a2, a3, a4, a5, a6, a7, b8, a9, a10, a11, b12, b13, b14, b15, b16, b17, a18, a19, a20, a21, a22, a23, a24))
    (h : (dm_cp4 nU fun s0 => dm_fc (Nat.sub rc 1) fun i0 => dm_fs T iN iF nU aT pA k 5 i0 s0 0x543200 0x111100 0x111100 0 0x111100) = r) :
    wpX_findSemi post (4, ed, dm_dc rc, cu, qd, fa, a1, a2, a3, a4, a5, a6, a7, a8, a9, a10, a11, a12, a13, a14, a15, a16, a17, a18, a19, a20, a21, a22, a23, a24) := by
  obtain ⟨s0, hs0, h⟩ := dm_copy (b := a12) hU hr h
  rw [dm_fc_eq] at h
  unfold wpX_findSemi
  refine ⟨5, ?_⟩
  refine br_f (dm_n4 (c := 2) (by omega)) ⟨dm_in (c := 2) (by omega) (by omega), dm_in (c := 2) (by omega) (by omega), nm_e ⟨dm_in (c := 2) (by omega) (by omega), nm_e ⟨dm_in (c := 2) (by omega) (by omega), nm_e ⟨dm_in (c := 2) (by omega) (by omega), nm_e ⟨dm_in (c := 2) (by omega) (by omega), nm_e (nm_r (dm_s 2) ?_)⟩⟩⟩⟩⟩
  refine br_f (dm_n4 (c := 3) (by omega)) ⟨dm_in (c := 3) (by omega) (by omega), dm_in (c := 3) (by omega) (by omega), nm_e ⟨dm_in (c := 3) (by omega) (by omega), nm_e ⟨dm_in (c := 3) (by omega) (by omega), nm_e ⟨dm_in (c := 3) (by omega) (by omega), nm_e ⟨dm_in (c := 3) (by omega) (by omega), nm_e (nm_r (dm_s 3) ?_)⟩⟩⟩⟩⟩
  refine br_f (dm_n4 (c := 4) (by omega)) ⟨dm_in (c := 4) (by omega) (by omega), dm_in (c := 4) (by omega) (by omega), nm_e ⟨dm_in (c := 4) (by omega) (by omega), nm_e ⟨dm_in (c := 4) (by omega) (by omega), nm_e ⟨dm_in (c := 4) (by omega) (by omega), nm_e ⟨dm_in (c := 4) (by omega) (by omega), nm_e (nm_r (dm_s 4) ?_)⟩⟩⟩⟩⟩
  refine br_f (dm_n4 (c := 5) (by omega)) ⟨dm_in (c := 5) (by omega) (by omega), dm_in (c := 5) (by omega) (by omega), nm_e ⟨dm_in (c := 5) (by omega) (by omega), nm_e ⟨dm_in (c := 5) (by omega) (by omega), nm_e ⟨dm_in (c := 5) (by omega) (by omega), nm_e ⟨dm_in (c := 5) (by omega) (by omega), nm_e (nm_r (dm_s 5) ?_)⟩⟩⟩⟩⟩
  refine br_t ((dm_ge4 (c := 6) (by omega)).mpr (by omega)) (nm_r (dm_q (by omega)) ⟨5, ?_⟩)
  exact dm_w63 hr hT hI hF hU hA hP hp 5 (rc - 1) s0 0x543200 0x111100 0x111100 0 0x111100 _ _ _ _ _ _ _ hs0 dm_fillI dm_fillN dm_fillN (dm_R0 a16) dm_fillN (by omega) h
end
end
section
/-! settle, layOut, refresh -/
section
variable {post : St2 → Prop} {ed re cu qd fa : Int32} {a1 a2 a3 a4 a5 a6 a7 a8 a9 a10 a11 a12 a13 a14 a15 a16 a17 a18 a19 a20 a21 a22 a23 a24 : Nat → Int32}
theorem dm_wset2 {aT sE rc r : Nat} {k : Nat → Nat} (hr : r ≠ 0) (hrc : rc ≤ 6) (hT : dm_R aT a10) (hE : dm_R sE a12)
    (hp : ∀ iD b17, dm_R iD b17 → k iD = r → post (4, ed, dm_dc rc, cu, qd, fa, a1, a2, a3, a4, a5, a6, a7, a8, a9, a10, a11, a12, a13, a14, a15, a16, b17, a18, a19, a20, a21, a22, a23, a24)) :
    ∀ (n i iD : Nat) (a17 : Nat → Int32), dm_R iD a17 → i ≤ 16 → dm_set aT sE rc k n i iD = r →
      wX_settle_2 post 4 ed (dm_dc rc) cu qd fa n (dm_dc i) a1 a2 a3 a4 a5 a6 a7 a8 a9 a10 a11 a12 a13 a14 a15 a16 a17 a18 a19 a20 a21 a22 a23 a24 := by
  intro n
  induction n with
  | zero => exact fun i iD a17 _ _ h => absurd h.symm hr
  | succ n ih =>
    intro i iD a17 h17 hi h
    have h : dm_setS aT sE rc k (dm_set aT sE rc k n) i iD = r := h
    unfold dm_setS at h
    rw [dm_lq_if] at h
    by_cases c1 : rc ≤ i
    · rw [if_pos c1, dm_fc_eq] at h
      exact br_t ((dm_le (by omega) (by omega)).mpr c1) (nm_e (hp _ _ (dm_Rst (c := 2) (v := 1) h17 (by decide) (by decide) (by decide) dm_m1 rfl) h))
    · rw [if_neg c1] at h
      obtain ⟨w, _, w2, i1, i2, ew, h⟩ := dm_rd_ok hT h hr
      obtain ⟨d, _, d2, w1, _, ed', h⟩ := dm_rd_ok h17 h hr
      obtain ⟨s, _, s2, _, _, es, h⟩ := dm_rd_ok hE h hr
      obtain ⟨q, _, q2, s1, _, eq, h⟩ := dm_rd_ok hT h hr
      rw [dm_fc_eq, dm_eqq_if] at h
      refine br_f (fun z => c1 ((dm_le (by omega) (by omega)).mp z)) ⟨dm_in i1 i2, nm_r ew ⟨dm_in w1 w2, dm_in w1 w2, ?_⟩⟩
      rw [es, ed', eq]
      refine ⟨dm_in s1 s2, ?_⟩
      by_cases c2 : d = q
      · rw [if_pos c2] at h
        exact br_t ((dm_eq (by omega) (by omega)).mpr c2) (nm_r (dm_s i) (ih _ _ _ h17 (by omega) h))
      · rw [if_neg c2] at h
        obtain ⟨dd, _, dd2, d1, _, edd, h⟩ := dm_rd_ok h17 h hr
        rw [dm_fc_eq] at h
        rw [edd]
        exact br_f (fun z => c2 ((dm_eq (by omega) (by omega)).mp z)) ⟨dm_in w1 w2, dm_in d1 d2, dm_in w1 w2, nm_e (nm_r (dm_s i) (ih _ _ _ (dm_Rst h17 w1 w2 dd2 rfl (dm_cl (by omega))) (by omega) h))⟩
theorem dm_w148 {aT iD sZ rc r : Nat} {k : Nat → Nat} (hr : r ≠ 0) (hrc : rc ≤ 6) (hT : dm_R aT a10) (hD : dm_R iD a17) (hZ : dm_R sZ a19)
    (hp : ∀ eN b7 b20, dm_R eN b20 → k eN = r → post (4, ed, dm_dc rc, cu, qd, fa, a1, a2, a3, a4, a5, a6, b7, a8, a9, a10, a11, a12, a13, a14, a15, a16, a17, a18, a19, b20, a21, a22, a23, a24)) :
    ∀ (n i eN cU : Nat) (a7 a20 : Nat → Int32), dm_R eN a20 → dm_R cU a7 → i ≤ 16 → dm_l148 aT iD sZ rc k n i eN cU = r →
      wX_layOut_148 post 4 ed (dm_dc rc) cu qd fa n (dm_dc i) a1 a2 a3 a4 a5 a6 a7 a8 a9 a10 a11 a12 a13 a14 a15 a16 a17 a18 a19 a20 a21 a22 a23 a24 := by
  intro n
  induction n with
  | zero => exact fun i eN cU a7 a20 _ _ _ h => absurd h.symm hr
  | succ n ih =>
    intro i eN cU a7 a20 h20 h7 hi h
    have h : dm_l148S aT iD sZ rc k (dm_l148 aT iD sZ rc k n) i eN cU = r := h
    unfold dm_l148S at h
    rw [dm_lq_if] at h
    by_cases c1 : rc ≤ i
    · rw [if_pos c1] at h
      exact br_t ((dm_le (by omega) (by omega)).mpr c1) (hp _ _ _ h20 h)
    · rw [if_neg c1] at h
      obtain ⟨v, _, v2, i1, i2, ev, h⟩ := dm_rd_ok hT h hr
      obtain ⟨d, _, d2, v1, _, ed', h⟩ := dm_rd_ok hD h hr
      obtain ⟨x, x1, x2, d1, _, ex, h⟩ := dm_rd_ok h20 h hr
      obtain ⟨y, y1, y2, _, _, ey, h⟩ := dm_rd_ok h7 h hr
      obtain ⟨z, z1, z2, _, _, ez, h⟩ := dm_rd_ok hZ h hr
      rw [dm_fc_eq, dm_lq_if] at h
      by_cases c2 : 16 ≤ Nat.sub (Nat.add x y) 2
      · rw [if_pos c2] at h
        exact absurd h.symm hr
      · rw [if_neg c2, dm_fc_eq, dm_lq_if] at h
        by_cases c3 : 16 ≤ Nat.sub (Nat.add y z) 2
        · rw [if_pos c3] at h
          exact absurd h.symm hr
        · rw [if_neg c3, dm_fc_eq, dm_fc_eq, dm_fc_eq] at h
          have q2 : x + y - 2 < 16 := Nat.lt_of_not_le c2
          have q3 : y + z - 2 < 16 := Nat.lt_of_not_le c3
          refine br_f (fun z => c1 ((dm_le (by omega) (by omega)).mp z)) ⟨dm_in i1 i2, nm_r ev ⟨dm_in v1 v2, nm_r ed' ?_⟩⟩
          rw [ex, ey, ez, dm_add (show 2 ≤ x + y by omega), dm_add (show 2 ≤ y + z by omega)]
          exact ⟨dm_in d1 d2, dm_in d1 d2, dm_in v1 v2, nm_e ⟨dm_in d1 d2, dm_in v1 v2, dm_in d1 d2, nm_e (nm_r (dm_s i) (ih _ _ _ _ _ (dm_Rst h20 v1 v2 q2 rfl (dm_cl (by omega))) (dm_Rst h7 d1 d2 q3 rfl (dm_cl (by omega))) (by omega) h))⟩⟩
theorem dm_w125 {aT iD sZ eN rc r : Nat} {k : Nat → Nat} (hr : r ≠ 0) (hrc : rc ≤ 6) (hT : dm_R aT a10) (hD : dm_R iD a17) (hZ : dm_R sZ a19) (hN : dm_R eN a20)
    (hp : ∀ eN b7 b20, dm_R eN b20 → k eN = r → post (4, ed, dm_dc rc, cu, qd, fa, a1, a2, a3, a4, a5, a6, b7, a8, a9, a10, a11, a12, a13, a14, a15, a16, a17, a18, a19, b20, a21, a22, a23, a24)) (h : dm_l148 aT iD sZ rc k 5 3 eN 0x333300 = r) :
    ∃ n, wX_layOut_125 post 4 ed (dm_dc rc) cu qd fa n 0 a1 a2 a3 a4 a5 a6 a7 a8 a9 a10 a11 a12 a13 a14 a15 a16 a17 a18 a19 a20 a21 a22 a23 a24 := by
  refine ⟨5, ?_⟩
  refine br_f (dm_n4 (c := 2) (by omega)) ⟨dm_in (c := 2) (by omega) (by omega), nm_e (nm_r (dm_s 2) ?_)⟩
  refine br_f (dm_n4 (c := 3) (by omega)) ⟨dm_in (c := 3) (by omega) (by omega), nm_e (nm_r (dm_s 3) ?_)⟩
  refine br_f (dm_n4 (c := 4) (by omega)) ⟨dm_in (c := 4) (by omega) (by omega), nm_e (nm_r (dm_s 4) ?_)⟩
  refine br_f (dm_n4 (c := 5) (by omega)) ⟨dm_in (c := 5) (by omega) (by omega), nm_e (nm_r (dm_s 5) ?_)⟩
  refine br_t ((dm_ge4 (c := 6) (by omega)).mpr (by omega)) ⟨5, ?_⟩
  exact dm_w148 hr hrc hT hD hZ hp 5 3 eN 0x333300 _ _ hN dm_fill1 (by omega) h
theorem dm_w79 {aT iD rc r : Nat} {k : Nat → Nat} (hr : r ≠ 0) (hT : dm_R aT a10) (hD : dm_R iD a17)
    (hp : ∀ sZ b19, dm_R sZ b19 → k sZ = r → ∃ n, wX_layOut_125 post 4 ed (dm_dc rc) cu qd fa n 0 a1 a2 a3 a4 a5 a6 a7 a8 a9 a10 a11 a12 a13 a14 a15 a16 a17 a18 b19 (upd a20 0 0) a21 a22 a23 a24) :
    ∀ (n i sZ : Nat) (a19 : Nat → Int32), dm_R sZ a19 → i < 16 → dm_l79 aT iD k n i sZ = r →
      wX_layOut_79 post 4 ed (dm_dc rc) cu qd fa n (dm_dc i) a1 a2 a3 a4 a5 a6 a7 a8 a9 a10 a11 a12 a13 a14 a15 a16 a17 a18 a19 a20 a21 a22 a23 a24 := by
  intro n
  induction n with
  | zero => exact fun i sZ a19 _ _ h => absurd h.symm hr
  | succ n ih =>
    intro i sZ a19 h19 hi h
    have h : dm_l79S aT iD k (dm_l79 aT iD k n) i sZ = r := h
    unfold dm_l79S at h
    rw [dm_lq_if] at h
    by_cases c1 : 3 ≤ i
    · rw [if_pos c1] at h
      obtain ⟨v, _, v2, i1, i2, ev, h⟩ := dm_rd_ok hT h hr
      obtain ⟨d, _, d2, v1, _, ed', h⟩ := dm_rd_ok hD h hr
      obtain ⟨x, x1, x2, d1, _, ex, h⟩ := dm_rd_ok h19 h hr
      obtain ⟨y, y1, y2, _, _, ey, h⟩ := dm_rd_ok h19 h hr
      rw [dm_fc_eq, dm_lq_if] at h
      by_cases c2 : 16 ≤ Nat.sub (Nat.add x y) 2
      · rw [if_pos c2] at h
        exact absurd h.symm hr
      · rw [if_neg c2, dm_fc_eq, dm_fc_eq] at h
        have q2 : x + y - 2 < 16 := Nat.lt_of_not_le c2
        refine br_f (fun z => absurd ((dm_npos (by omega)).mp z) (by omega)) ⟨dm_in i1 i2, nm_r ev ?_⟩
        rw [ed', ex, ey, dm_add (show 2 ≤ x + y by omega)]
        exact ⟨dm_in v1 v2, dm_in d1 d2, dm_in v1 v2, dm_in d1 d2, nm_e (nm_r (dm_p (by omega)) (ih _ _ _ (dm_Rst h19 d1 d2 q2 rfl (dm_cl (by omega))) (by omega) h))⟩
    · rw [if_neg c1] at h
      exact br_t ((dm_npos (by omega)).mpr (by omega)) (nm_e (hp _ _ h19 h))
theorem dm_w32 {aT iD rc r k : Nat} (hr : r ≠ 0) (hrc : 1 ≤ rc) (hrc2 : rc ≤ 6) (hT : dm_R aT a10) (hD : dm_R iD a17)
    (hp : ∀ b18 : Nat → Int32, k = r → ∃ n, wX_layOut_79 post 4 ed (dm_dc rc) cu qd fa n (dm_dc (rc - 1)) a1 a2 a3 a4 a5 a6 a7 a8 a9 a10 a11 a12 a13 a14 a15 a16 a17 b18 a19 a20 a21 a22 a23 a24) :
    ∀ (n i : Nat) (a18 : Nat → Int32), i ≤ 16 → dm_l32 aT iD rc k n i = r →
      wX_layOut_32 post 4 ed (dm_dc rc) cu qd fa n (dm_dc i) a1 a2 a3 a4 a5 a6 a7 a8 a9 a10 a11 a12 a13 a14 a15 a16 a17 a18 a19 a20 a21 a22 a23 a24 := by
  intro n
  induction n with
  | zero => exact fun i a18 _ h => absurd h.symm hr
  | succ n ih =>
    intro i a18 hi h
    have h : dm_l32S aT iD rc k (dm_l32 aT iD rc k n) i = r := h
    unfold dm_l32S at h
    rw [dm_lq_if] at h
    by_cases c1 : rc ≤ i
    · rw [if_pos c1] at h
      exact br_t ((dm_le (by omega) (by omega)).mpr c1) (nm_r (dm_q hrc) (hp _ h))
    · rw [if_neg c1] at h
      obtain ⟨v, _, v2, i1, i2, ev, h⟩ := dm_rd_ok hT h hr
      obtain ⟨d, _, d2, v1, _, ed', h⟩ := dm_rd_ok hD h hr
      rw [dm_lq_if] at h
      by_cases c2 : 2 ≤ d
      · rw [if_pos c2, dm_fc_eq] at h
        refine br_f (fun z => c1 ((dm_le (by omega) (by omega)).mp z)) ⟨dm_in i1 i2, nm_r ev ?_⟩
        rw [ed']
        exact ⟨dm_in v1 v2, dm_in c2 d2, dm_in v1 v2, nm_e (nm_r (dm_s i) (ih _ _ (by omega) h))⟩
      · rw [if_neg c2] at h
        exact absurd h.symm hr
theorem dm_wlay {aT iD rc r : Nat} {k : Nat → Nat → Nat} (hr : r ≠ 0) (hrc : 3 ≤ rc) (hrc2 : rc ≤ 6) (hT : dm_R aT a10) (hD : dm_R iD a17)
    (hp : ∀ sZ eN b7 b18 b19 b20, dm_R sZ b19 → dm_R eN b20 → k sZ eN = r → post (4, ed, dm_dc rc, cu, qd, fa, a1, a2, a3, a4, a5, a6, b7, a8, a9, a10, a11, a12, a13, a14, a15, a16, a17, b18, b19, b20, a21, a22, a23, a24))
    (h : dm_lay aT iD rc k = r) : wpX_layOut post (4, ed, dm_dc rc, cu, qd, fa, a1, a2, a3, a4, a5, a6, a7, a8, a9, a10, a11, a12, a13, a14, a15, a16, a17, a18, a19, a20, a21, a22, a23, a24) := by
  unfold dm_lay at h
  unfold wpX_layOut
  refine nm_e ⟨5, ?_⟩
  refine br_f (dm_n4 (c := 2) (by omega)) ⟨dm_in (c := 2) (by omega) (by omega), nm_e (nm_r (dm_s 2) ?_)⟩
  refine br_f (dm_n4 (c := 3) (by omega)) ⟨dm_in (c := 3) (by omega) (by omega), nm_e (nm_r (dm_s 3) ?_)⟩
  refine br_f (dm_n4 (c := 4) (by omega)) ⟨dm_in (c := 4) (by omega) (by omega), nm_e (nm_r (dm_s 4) ?_)⟩
  refine br_f (dm_n4 (c := 5) (by omega)) ⟨dm_in (c := 5) (by omega) (by omega), nm_e (nm_r (dm_s 5) ?_)⟩
  refine br_t ((dm_ge4 (c := 6) (by omega)).mpr (by omega)) ⟨5, ?_⟩
  refine dm_w32 hr (by omega) hrc2 hT hD (fun b18 h => ⟨5, ?_⟩) 5 3 _ (by omega) h
  rw [dm_fc_eq] at h
  refine dm_w79 hr hT hD (fun sZ b19 h19 h => ?_) 5 (rc - 1) 0x333300 _ dm_fill1 (by omega) h
  exact dm_w125 hr hrc2 hT hD h19 (dm_Rst (A := 0) (c := 2) (v := 2) (dm_R0 a20) (by decide) (by decide) (by decide) dm_0 rfl) (fun eN b7 b20 h20 h => hp _ _ _ _ _ _ h19 h20 h) h
/-- the object after refresh -/
def dm_F (H oF oN nU iD sZ eN rc : Nat) (u : St2) : Prop := ∃ a1 a2 a3 a4 a5 a6 a7 a8 a9 a10 a11 a12 a13 a14 a15 a16 a17 a18 a19 a20 a21 a22 a23 a24 : Nat → Int32, ∃ ed qd fa : Int32, u = (4, ed, dm_dc rc, 1, qd, fa, a1, a2, a3, a4, a5, a6, a7, a8, a9, a10, a11, a12, a13, a14, a15, a16, a17, a18, a19, a20, a21, a22, a23, a24) ∧ dm_R H a2 ∧ dm_R oF a3 ∧ dm_R oN a4 ∧ dm_R nU a9 ∧ dm_R iD a17 ∧ dm_R sZ a19 ∧ dm_R eN a20
theorem dm_wrefr {T H ec r : Nat} {k : Nat → Nat → Nat → Nat → Nat → Nat → Nat → Nat} (hr : r ≠ 0) (hT : dm_R T a1) (hH : dm_R H a2) (hec : 1 ≤ ec) (hec2 : ec < 16)
    (hp : ∀ oF oN nU iD sZ eN rc u, 3 ≤ rc → rc ≤ 6 → dm_F H oF oN nU iD sZ eN rc u → k oF oN nU iD sZ eN rc = r → post u)
    (h : dm_refr T H ec k = r) : wpX_refresh post (4, dm_dc ec, re, 0, qd, fa, a1, a2, a3, a4, a5, a6, a7, a8, a9, a10, a11, a12, a13, a14, a15, a16, a17, a18, a19, a20, a21, a22, a23, a24) := by
  unfold dm_refr at h
  rw [dm_fc_eq] at h
  unfold wpX_refresh
  refine br_t rfl (dm_wchain hr hT hH hec hec2 (fun oF oN iF iN b3 b4 b5 b6 h3 h4 h5 h6 h => ?_) h)
  refine dm_wnum hr hH h3 h4 (fun nU aT pA rc b7 b8 b9 b10 b11 h9 h10 h11 r1 r2 h => ?_) h
  refine dm_wfs hr hT h6 h5 h9 h10 h11 r1 r2 (fun sE iD c8 c12 c13 c14 c15 c16 c17 g12 g17 h => ?_) h
  dsimp only
  unfold wpX_settle
  refine ⟨5, dm_wset2 hr r2 h10 g12 (fun iD' d17 k17 h => ?_) 5 3 iD c17 g17 (by omega) h⟩
  refine dm_wlay hr r1 r2 h10 k17 (fun sZ eN d7 d18 d19 d20 k19 k20 h => ?_) h
  exact hp oF oN nU iD' sZ eN rc _ r1 r2 ⟨_, _, _, _, _, _, _, _, _, _, _, _, _, _, _, _, _, _, _, _, _, _, _, _, _, _, _, rfl, hH, h3, h4, h9, k17, k19, k20⟩ h
/-- a second refresh does nothing -/
theorem dm_wref1 {H oF oN nU iD sZ eN rc : Nat} {u : St2} (hF : dm_F H oF oN nU iD sZ eN rc u) (h : post u) : wpX_refresh post u := by
  obtain ⟨a1, a2, a3, a4, a5, a6, a7, a8, a9, a10, a11, a12, a13, a14, a15, a16, a17, a18, a19, a20, a21, a22, a23, a24, ed, qd, fa, rfl, _⟩ := hF
  unfold wpX_refresh
  exact br_f (by decide) h
end
end
section
/-! breadthFirst, detour, leave, sweep -/
section
variable {pst : Int32 → St2 → Prop} {post : St2 → Prop} {ed re cu qd fa : Int32} {a1 a2 a3 a4 a5 a6 a7 a8 a9 a10 a11 a12 a13 a14 a15 a16 a17 a18 a19 a20 a21 a22 a23 a24 : Nat → Int32}
theorem dm_u74 {J : Int32 → Int32 → (Nat → Int32) → (Nat → Int32) → (Nat → Int32) → (Nat → Int32) → (Nat → Int32) → (Nat → Int32) → (Nat → Int32) → (Nat → Int32) → (Nat → Int32) → (Nat → Int32) → (Nat → Int32) → (Nat → Int32) → (Nat → Int32) → (Nat → Int32) → (Nat → Int32) → (Nat → Int32) → (Nat → Int32) → (Nat → Int32) → (Nat → Int32) → (Nat → Int32) → (Nat → Int32) → (Nat → Int32) → (Nat → Int32) → (Nat → Int32) → Prop} {H oN kk r : Nat} {k : Nat → Nat → Nat → Nat} (hr : r ≠ 0) (hH : dm_R H a2) (hN : dm_R oN a4)
    (hp : ∀ fR qU qd b22 b23, dm_R fR b22 → dm_R qU b23 → 3 ≤ qd → qd ≤ 6 → k fR qU qd = r → J (dm_dc (kk + 1)) (dm_dc qd) a1 a2 a3 a4 a5 a6 a7 a8 a9 a10 a11 a12 a13 a14 a15 a16 a17 a18 a19 a20 a21 b22 b23 a24) :
    ∀ (n s e fR qU qd : Nat) (a22 a23 : Nat → Int32), dm_R fR a22 → dm_R qU a23 → 3 ≤ qd → qd ≤ 6 → s + n ≤ 62 → e < 16 → dm_b74 H oN kk k n e fR qU qd = r →
      wX_breadthFirst_74 post J (dm_dc kk) 4 ed re cu fa n (dm_dc e) (dm_dc s) (dm_dc qd) a1 a2 a3 a4 a5 a6 a7 a8 a9 a10 a11 a12 a13 a14 a15 a16 a17 a18 a19 a20 a21 a22 a23 a24 := by
  intro n
  induction n with
  | zero => exact fun s e fR qU qd a22 a23 _ _ _ _ _ _ h => absurd h.symm hr
  | succ n ih =>
    intro s e fR qU qd a22 a23 h22 h23 q1 q2 hs he h
    have h : dm_b74S H oN kk k (dm_b74 H oN kk k n) e fR qU qd = r := h
    unfold dm_b74S at h
    rw [dm_eqq_if] at h
    refine br_f (fun z => absurd ((dm_le (a := 62) (by omega) (by omega)).mp z) (by omega)) ?_
    by_cases c1 : e = 1
    · rw [if_pos c1] at h
      exact br_t ((dm_isN (by omega)).mpr c1) (nm_r (dm_s kk) (hp _ _ _ _ _ h22 h23 q1 q2 h))
    · rw [if_neg c1] at h
      obtain ⟨w, _, w2, e1, _, ew, h⟩ := dm_rd_ok hH h hr
      obtain ⟨fw, _, fw2, w1, _, efw, h⟩ := dm_rd_ok h22 h hr
      obtain ⟨e', _, e2', _, _, ee', h⟩ := dm_rd_ok hN h hr
      rw [dm_eqq_if] at h
      refine br_f (fun z => c1 ((dm_isN (by omega)).mp z)) ⟨dm_in e1 he, nm_r ew ⟨dm_in w1 w2, ?_⟩⟩
      rw [efw]
      by_cases c2 : fw = 1
      · rw [if_pos c2, dm_lq_if] at h
        refine br_t ((dm_isN (by omega)).mpr c2) ?_
        by_cases c3 : 6 ≤ qd
        · rw [if_pos c3] at h
          exact br_t ((dm_ge4 (by omega)).mpr c3) ⟨dm_in e1 he, nm_r ee' (nm_r (dm_s s) (ih _ _ _ _ _ _ _ h22 h23 q1 q2 (by omega) e2' h))⟩
        · rw [if_neg c3] at h
          obtain ⟨q, _, qq2, k1, k2, eq, h⟩ := dm_rd_ok h23 h hr
          rw [dm_fc_eq, dm_fc_eq, dm_fc_eq] at h
          refine br_f (fun z => c3 ((dm_ge4 (by omega)).mp z)) ?_
          rw [eq]
          exact ⟨dm_in k1 k2, dm_in w1 w2, nm_e ⟨dm_in (by omega) (by omega), nm_e (nm_r (dm_s qd) ⟨dm_in e1 he, nm_r ee' (nm_r (dm_s s) (ih _ _ _ _ _ _ _ (dm_Rst h22 w1 w2 qq2 rfl (dm_cl (by omega))) (dm_Rst h23 (by omega) (by omega) w2 rfl (dm_cl (by omega))) (by omega) (by omega) (by omega) e2' h))⟩)⟩⟩
      · rw [if_neg c2] at h
        exact br_f (fun z => c2 ((dm_isN (by omega)).mp z)) ⟨dm_in e1 he, nm_r ee' (nm_r (dm_s s) (ih _ _ _ _ _ _ _ h22 h23 q1 q2 (by omega) e2' h))⟩
theorem dm_u44 {H oF oN r : Nat} (hr : r ≠ 0) (hH : dm_R H a2) (hF : dm_R oF a3) (hN : dm_R oN a4)
    (hp : ∀ qd b22 b23, dm_R r b22 → post (4, ed, re, cu, qd, fa, a1, a2, a3, a4, a5, a6, a7, a8, a9, a10, a11, a12, a13, a14, a15, a16, a17, a18, a19, a20, a21, b22, b23, a24)) :
    ∀ (n kk fR qU qd : Nat) (a22 a23 : Nat → Int32), dm_R fR a22 → dm_R qU a23 → 3 ≤ qd → qd ≤ 6 → kk ≤ 16 → dm_b44 oF H oN n kk fR qU qd = r →
      wX_breadthFirst_44 post 4 ed re cu fa n (dm_dc kk) (dm_dc qd) a1 a2 a3 a4 a5 a6 a7 a8 a9 a10 a11 a12 a13 a14 a15 a16 a17 a18 a19 a20 a21 a22 a23 a24 := by
  intro n
  induction n with
  | zero => exact fun kk fR qU qd a22 a23 _ _ _ _ _ h => absurd h.symm hr
  | succ n ih =>
    intro kk fR qU qd a22 a23 h22 h23 q1 q2 hk h
    have h : dm_b44S oF H oN (dm_b44 oF H oN n) kk fR qU qd = r := h
    unfold dm_b44S at h
    rw [dm_lq_if] at h
    by_cases c1 : 6 ≤ kk
    · rw [if_pos c1] at h
      exact br_t ((dm_ge4 (by omega)).mpr c1) (hp _ _ _ (h ▸ h22))
    · rw [if_neg c1, dm_lq_if] at h
      refine br_f (fun z => c1 ((dm_ge4 (by omega)).mp z)) ?_
      by_cases c2 : qd ≤ kk
      · rw [if_pos c2] at h
        exact br_t ((dm_le (by omega) (by omega)).mpr c2) (hp _ _ _ (h ▸ h22))
      · rw [if_neg c2] at h
        obtain ⟨q, _, qq2, k1, k2, eq, h⟩ := dm_rd_ok h23 h hr
        obtain ⟨e, _, e2, qq1, _, ee, h⟩ := dm_rd_ok hF h hr
        refine br_f (fun z => c2 ((dm_le (by omega) (by omega)).mp z)) ?_
        rw [eq]
        refine ⟨dm_in k1 k2, dm_in qq1 qq2, nm_r ee ⟨5, ?_⟩⟩
        refine dm_u74 hr hH hN (fun fR' qU' qd' b22 b23 g22 g23 p1 p2 h => ?_) 5 2 e fR qU qd a22 a23 h22 h23 q1 q2 (by omega) e2 h
        rw [dm_fc_eq] at h
        exact ih _ _ _ _ _ _ g22 g23 p1 p2 (by omega) h
theorem dm_ubfs {H oF oN r : Nat} (hr : r ≠ 0) (hH : dm_R H a2) (hF : dm_R oF a3) (hN : dm_R oN a4)
    (hp : ∀ qd b22 b23, dm_R r b22 → post (4, ed, re, cu, qd, fa, a1, a2, a3, a4, a5, a6, a7, a8, a9, a10, a11, a12, a13, a14, a15, a16, a17, a18, a19, a20, a21, b22, b23, a24)) (h : dm_bfs oF oN H = r) :
    wpX_breadthFirst post (4, ed, re, cu, qd, fa, a1, a2, a3, a4, a5, a6, a7, a8, a9, a10, a11, a12, a13, a14, a15, a16, a17, a18, a19, a20, a21, a22, a23, a24) := by
  unfold dm_bfs at h
  unfold wpX_breadthFirst
  refine ⟨5, ?_⟩
  refine br_f (dm_n4 (c := 2) (by omega)) ⟨dm_in (c := 2) (by omega) (by omega), nm_e (nm_r (dm_s 2) ?_)⟩
  refine br_f (dm_n4 (c := 3) (by omega)) ⟨dm_in (c := 3) (by omega) (by omega), nm_e (nm_r (dm_s 3) ?_)⟩
  refine br_f (dm_n4 (c := 4) (by omega)) ⟨dm_in (c := 4) (by omega) (by omega), nm_e (nm_r (dm_s 4) ?_)⟩
  refine br_f (dm_n4 (c := 5) (by omega)) ⟨dm_in (c := 5) (by omega) (by omega), nm_e (nm_r (dm_s 5) ?_)⟩
  refine br_t ((dm_ge4 (c := 6) (by omega)).mpr (by omega)) (nm_e (nm_e ⟨5, ?_⟩))
  exact dm_u44 hr hH hF hN hp 5 2 0x111200 0x200 3 _ _
    (dm_Rst (A := 0x111100) (c := 2) (v := 2) dm_fillN (by decide) (by decide) (by decide) dm_0 rfl)
    (dm_Rst (A := 0) (c := 2) (v := 2) (dm_R0 a23) (by decide) (by decide) (by decide) dm_0 rfl) (by decide) (by decide) (by decide) h
theorem dm_u45 {J : Int32 → Int32 → Int32 → Int32 → Int32 → Int32 → Int32 → (Nat → Int32) → (Nat → Int32) → (Nat → Int32) → (Nat → Int32) → (Nat → Int32) → (Nat → Int32) → (Nat → Int32) → (Nat → Int32) → (Nat → Int32) → (Nat → Int32) → (Nat → Int32) → (Nat → Int32) → (Nat → Int32) → (Nat → Int32) → (Nat → Int32) → (Nat → Int32) → (Nat → Int32) → (Nat → Int32) → (Nat → Int32) → (Nat → Int32) → (Nat → Int32) → (Nat → Int32) → (Nat → Int32) → (Nat → Int32) → Prop} {H oN pI kk r : Nat} {k : Nat → Nat → Nat → Nat → Nat} (hr : r ≠ 0) (hH : dm_R H a2) (hN : dm_R oN a4) (hP : dm_R pI a21)
    (hp : ∀ vI qU qd far b23 b24, dm_R vI b24 → dm_R qU b23 → 3 ≤ qd → qd ≤ 6 → far < 16 → k vI qU qd far = r → J (dm_dc (kk + 1)) 4 ed re cu (dm_dc qd) (dm_dc far) a1 a2 a3 a4 a5 a6 a7 a8 a9 a10 a11 a12 a13 a14 a15 a16 a17 a18 a19 a20 a21 a22 b23 b24) :
    ∀ (n s e vI qU qd far : Nat) (a23 a24 : Nat → Int32), dm_R vI a24 → dm_R qU a23 → 3 ≤ qd → qd ≤ 6 → far < 16 → s + n ≤ 62 → e < 16 → dm_v45 H oN pI k n e vI qU qd far = r →
      wX_leave_45 post J (dm_dc kk) n (dm_dc e) (dm_dc s) 4 ed re cu (dm_dc qd) (dm_dc far) a1 a2 a3 a4 a5 a6 a7 a8 a9 a10 a11 a12 a13 a14 a15 a16 a17 a18 a19 a20 a21 a22 a23 a24 := by
  intro n
  induction n with
  | zero => exact fun s e vI qU qd far a23 a24 _ _ _ _ _ _ _ h => absurd h.symm hr
  | succ n ih =>
    intro s e vI qU qd far a23 a24 h24 h23 q1 q2 hf hs he h
    have h : dm_v45S H oN pI k (dm_v45 H oN pI k n) e vI qU qd far = r := h
    unfold dm_v45S at h
    rw [dm_eqq_if] at h
    refine br_f (fun z => absurd ((dm_le (a := 62) (by omega) (by omega)).mp z) (by omega)) ?_
    by_cases c1 : e = 1
    · rw [if_pos c1] at h
      exact br_t ((dm_isN (by omega)).mpr c1) (nm_r (dm_s kk) (hp _ _ _ _ _ _ h24 h23 q1 q2 hf h))
    · rw [if_neg c1] at h
      obtain ⟨w, _, w2, e1, _, ew, h⟩ := dm_rd_ok hH h hr
      obtain ⟨e', _, e2', _, _, ee', h⟩ := dm_rd_ok hN h hr
      obtain ⟨pw, _, pw2, w1, _, epw, h⟩ := dm_rd_ok hP h hr
      rw [dm_lq_if] at h
      refine br_f (fun z => c1 ((dm_isN (by omega)).mp z)) ⟨dm_in e1 he, ?_⟩
      rw [ew]
      unfold wpX_detour
      dsimp only
      rw [epw]
      refine ⟨dm_in w1 w2, ?_⟩
      by_cases c2 : 2 ≤ pw
      · rw [if_pos c2, dm_lq_if] at h
        refine br_f (fun z => absurd ((dm_neg (by omega)).mp z) (by omega)) ⟨dm_in w1 w2, ?_⟩
        by_cases c3 : pw ≤ far
        · rw [if_pos c3] at h
          exact br_t ((dm_le (by omega) (by omega)).mpr c3) ⟨dm_in e1 he, nm_r ee' (nm_r (dm_s s) (ih _ _ _ _ _ _ _ _ h24 h23 q1 q2 hf (by omega) e2' h))⟩
        · rw [if_neg c3] at h
          exact br_f (fun z => c3 ((dm_le (by omega) (by omega)).mp z)) ⟨dm_in w1 w2, nm_e ⟨dm_in e1 he, nm_r ee' (nm_r (dm_s s) (ih _ _ _ _ _ _ _ _ h24 h23 q1 q2 pw2 (by omega) e2' h))⟩⟩
      · rw [if_neg c2] at h
        obtain ⟨vw, _, vw2, _, _, evw, h⟩ := dm_rd_ok h24 h hr
        rw [dm_eqq_if] at h
        refine br_t ((dm_neg (by omega)).mpr (by omega)) ⟨dm_in w1 w2, ?_⟩
        rw [evw]
        by_cases c3 : vw = 2
        · rw [if_pos c3, dm_lq_if] at h
          refine br_t ((dm_is0 (by omega)).mpr c3) ?_
          by_cases c4 : 6 ≤ qd
          · rw [if_pos c4] at h
            exact br_t ((dm_ge4 (by omega)).mpr c4) ⟨dm_in e1 he, nm_r ee' (nm_r (dm_s s) (ih _ _ _ _ _ _ _ _ h24 h23 q1 q2 hf (by omega) e2' h))⟩
          · rw [if_neg c4, dm_fc_eq, dm_fc_eq, dm_fc_eq] at h
            exact br_f (fun z => c4 ((dm_ge4 (by omega)).mp z)) ⟨dm_in w1 w2, nm_e ⟨dm_in (by omega) (by omega), nm_e (nm_r (dm_s qd) ⟨dm_in e1 he, nm_r ee' (nm_r (dm_s s) (ih _ _ _ _ _ _ _ _ (dm_Rst h24 w1 w2 (by decide) dm_1 (dm_cl (by omega))) (dm_Rst h23 (by omega) (by omega) w2 rfl (dm_cl (by omega))) (by omega) (by omega) hf (by omega) e2' h))⟩)⟩⟩
        · rw [if_neg c3] at h
          exact br_f (fun z => c3 ((dm_is0 (by omega)).mp z)) ⟨dm_in e1 he, nm_r ee' (nm_r (dm_s s) (ih _ _ _ _ _ _ _ _ h24 h23 q1 q2 hf (by omega) e2' h))⟩
theorem dm_u14 {H oF oN pI r : Nat} {k : Nat → Nat → Nat} (hr : r ≠ 0) (hH : dm_R H a2) (hF : dm_R oF a3) (hN : dm_R oN a4) (hP : dm_R pI a21)
    (hp : ∀ vI far qd b23 b24, dm_R vI b24 → far < 16 → k vI far = r → post (4, ed, re, cu, qd, dm_dc far, a1, a2, a3, a4, a5, a6, a7, a8, a9, a10, a11, a12, a13, a14, a15, a16, a17, a18, a19, a20, a21, a22, b23, b24)) :
    ∀ (n kk vI qU qd far : Nat) (a23 a24 : Nat → Int32), dm_R vI a24 → dm_R qU a23 → 3 ≤ qd → qd ≤ 6 → far < 16 → kk ≤ 16 → dm_v14 oF H oN pI k n kk vI qU qd far = r →
      wX_leave_14 post n (dm_dc kk) 4 ed re cu (dm_dc qd) (dm_dc far) a1 a2 a3 a4 a5 a6 a7 a8 a9 a10 a11 a12 a13 a14 a15 a16 a17 a18 a19 a20 a21 a22 a23 a24 := by
  intro n
  induction n with
  | zero => exact fun kk vI qU qd far a23 a24 _ _ _ _ _ _ h => absurd h.symm hr
  | succ n ih =>
    intro kk vI qU qd far a23 a24 h24 h23 q1 q2 hf hk h
    have h : dm_v14S oF H oN pI k (dm_v14 oF H oN pI k n) kk vI qU qd far = r := h
    unfold dm_v14S at h
    rw [dm_lq_if] at h
    by_cases c1 : 6 ≤ kk
    · rw [if_pos c1] at h
      exact br_t ((dm_ge4 (by omega)).mpr c1) (hp _ _ _ _ _ h24 hf h)
    · rw [if_neg c1, dm_lq_if] at h
      refine br_f (fun z => c1 ((dm_ge4 (by omega)).mp z)) ?_
      by_cases c2 : qd ≤ kk
      · rw [if_pos c2] at h
        exact br_t ((dm_le (by omega) (by omega)).mpr c2) (hp _ _ _ _ _ h24 hf h)
      · rw [if_neg c2] at h
        obtain ⟨q, _, qq2, k1, k2, eq, h⟩ := dm_rd_ok h23 h hr
        obtain ⟨e, _, e2, qq1, _, ee, h⟩ := dm_rd_ok hF h hr
        refine br_f (fun z => c2 ((dm_le (by omega) (by omega)).mp z)) ?_
        rw [eq]
        refine ⟨dm_in k1 k2, dm_in qq1 qq2, nm_r ee ⟨5, ?_⟩⟩
        refine dm_u45 hr hH hN hP (fun vI' qU' qd' far' b23 b24 g24 g23 p1 p2 hf' h => ?_) 5 2 e vI qU qd far a23 a24 h24 h23 q1 q2 hf (by omega) e2 h
        rw [dm_fc_eq] at h
        exact ih _ _ _ _ _ _ _ g24 g23 p1 p2 hf' (by omega) h
theorem dm_u122 {H oF oN pI sK len r : Nat} (hr : r ≠ 0) (hl : len ≤ 6) (hH : dm_R H a2) (hF : dm_R oF a3) (hN : dm_R oN a4) (hK : dm_R sK a8) (hP : dm_R pI a21)
    (hp : ∀ qd fa b23 b24, pst (dm_dc r) (4, ed, re, cu, qd, fa, a1, a2, a3, a4, a5, a6, a7, a8, a9, a10, a11, a12, a13, a14, a15, a16, a17, a18, a19, a20, a21, a22, b23, b24)) :
    ∀ (n sum kk vI far : Nat) (qd : Int32) (a23 a24 : Nat → Int32), dm_R vI a24 → far < 16 → kk ≤ 16 → dm_w122 oF H oN pI sK len n sum kk vI far = r →
      wX_sweep_122 pst (dm_dc len) n (dm_dc sum) (dm_dc kk) 4 ed re cu qd (dm_dc far) a1 a2 a3 a4 a5 a6 a7 a8 a9 a10 a11 a12 a13 a14 a15 a16 a17 a18 a19 a20 a21 a22 a23 a24 := by
  intro n
  induction n with
  | zero => exact fun sum kk vI far qd a23 a24 _ _ _ h => absurd h.symm hr
  | succ n ih =>
    intro sum kk vI far qd a23 a24 h24 hf hk h
    have h : dm_w122S oF H oN pI sK len (dm_w122 oF H oN pI sK len n) sum kk vI far = r := h
    unfold dm_w122S at h
    rw [dm_lq_if] at h
    by_cases c1 : len ≤ kk
    · rw [if_pos c1] at h
      rw [h]
      exact br_t ((dm_le (by omega) (by omega)).mpr c1) (hp _ _ _ _)
    · rw [if_neg c1] at h
      obtain ⟨u, _, u2, k1, k2, eu, h⟩ := dm_rd_ok hK h hr
      rw [dm_fc_eq] at h
      refine br_f (fun z => c1 ((dm_le (by omega) (by omega)).mp z)) ⟨dm_in k1 k2, ?_⟩
      rw [eu]
      unfold wpX_leave
      dsimp only
      refine nm_e ⟨5, ?_⟩
      refine dm_u14 hr hH hF hN hP (fun vI' far' qd' b23 b24 g24 hf' h => ?_) 5 2 vI (dm_st 0 2 u) 3 far _ a24 h24
        (dm_Rst (dm_R0 a23) (by decide) (by decide) u2 rfl rfl) (by decide) (by decide) hf (by decide) h
      dsimp only
      rw [dm_fc_eq, dm_eqq_if] at h
      rw [dm_s kk]
      by_cases c2 : far' = kk + 1
      · rw [if_pos c2, dm_fc_eq] at h
        exact br_t ((dm_eq (by omega) (by omega)).mpr c2) (nm_r (dm_s sum) (nm_e (ih _ _ _ _ _ _ _ g24 hf' (by omega) h)))
      · rw [if_neg c2] at h
        exact br_f (fun z => c2 ((dm_eq (by omega) (by omega)).mp z)) (nm_e (ih _ _ _ _ _ _ _ g24 hf' (by omega) h))
theorem dm_u68 {fR r : Nat} {x2 : Int32} {k : Nat → Nat → Nat} (hr : r ≠ 0) (hR : dm_R fR a22)
    (hp : ∀ pI sK b8 b21, dm_R pI b21 → dm_R sK b8 → k pI sK = r → ∃ n, wX_sweep_122 pst x2 n 1 0 4 ed re cu qd 0 a1 a2 a3 a4 a5 a6 a7 b8 a9 a10 a11 a12 a13 a14 a15 a16 a17 a18 a19 a20 b21 a22 a23 a24) :
    ∀ (n u kk pI sK : Nat) (a8 a21 : Nat → Int32), dm_R pI a21 → dm_R sK a8 → u < 16 → kk < 16 → dm_w68 fR k n u kk pI sK = r →
      wX_sweep_68 pst x2 4 ed re cu qd fa n (dm_dc u) (dm_dc kk) a1 a2 a3 a4 a5 a6 a7 a8 a9 a10 a11 a12 a13 a14 a15 a16 a17 a18 a19 a20 a21 a22 a23 a24 := by
  intro n
  induction n with
  | zero => exact fun u kk pI sK a8 a21 _ _ _ _ h => absurd h.symm hr
  | succ n ih =>
    intro u kk pI sK a8 a21 h21 h8 hu hk h
    have h : dm_w68S fR k (dm_w68 fR k n) u kk pI sK = r := h
    unfold dm_w68S at h
    rw [dm_lq_if] at h
    by_cases c1 : 2 ≤ kk
    · rw [if_pos c1, dm_lq_if] at h
      by_cases c2 : 2 ≤ u
      · rw [if_pos c2, dm_fc_eq, dm_fc_eq, dm_fc_eq, dm_lq_if] at h
        refine br_f (fun z => absurd ((dm_neg (by omega)).mp z) (by omega)) ⟨dm_in c2 hu, nm_e ⟨dm_in c1 hk, nm_e ?_⟩⟩
        by_cases c3 : kk ≤ 2
        · rw [if_pos c3] at h
          exact br_t ((dm_npos (by omega)).mpr c3) (nm_r (dm_p (by omega)) (ih 2 _ _ _ _ _ (dm_Rst h21 c2 hu hk rfl (dm_cl (by omega))) (dm_Rst h8 c1 hk hu rfl (dm_cl (by omega))) (by omega) (by omega) h))
        · rw [if_neg c3] at h
          obtain ⟨u', _, u2', _, _, eu', h⟩ := dm_rd_ok hR h hr
          exact br_f (fun z => c3 ((dm_npos (by omega)).mp z)) ⟨dm_in c2 hu, nm_r eu' (nm_r (dm_p (by omega)) (ih _ _ _ _ _ _ (dm_Rst h21 c2 hu hk rfl (dm_cl (by omega))) (dm_Rst h8 c1 hk hu rfl (dm_cl (by omega))) u2' (by omega) h))⟩
      · rw [if_neg c2] at h
        exact absurd h.symm hr
    · rw [if_neg c1] at h
      exact br_t ((dm_neg (by omega)).mpr (by omega)) (hp _ _ _ _ h21 h8 h)
theorem dm_u38 {fR r : Nat} {x1 : Int32} {k : Nat → Nat} (hr : r ≠ 0) (hR : dm_R fR a22)
    (hp : ∀ len, 2 ≤ len → len ≤ 6 → k len = r → ∃ n, wX_sweep_68 pst (dm_dc len) 4 ed re cu qd fa n x1 (dm_dc len) a1 a2 a3 a4 a5 a6 a7 a8 a9 a10 a11 a12 a13 a14 a15 a16 a17 a18 a19 a20 a21 a22 a23 a24) :
    ∀ (n len u : Nat), 2 ≤ len → len ≤ 6 → u < 16 → dm_w38 fR k n len u = r →
      wX_sweep_38 pst x1 4 ed re cu qd fa a1 a2 a3 a4 a5 a6 a7 a8 a9 a10 a11 a12 a13 a14 a15 a16 a17 a18 a19 a20 a21 a22 a23 a24 n (dm_dc len) (dm_dc u) := by
  intro n
  induction n with
  | zero => exact fun len u _ _ _ h => absurd h.symm hr
  | succ n ih =>
    intro len u l1 l2 hu h
    have h : dm_w38S fR k (dm_w38 fR k n) len u = r := h
    unfold dm_w38S at h
    rw [dm_eqq_if] at h
    by_cases c1 : u = 2
    · rw [if_pos c1] at h
      exact br_t ((dm_is0 (by omega)).mpr c1) (hp len l1 l2 h)
    · rw [if_neg c1, dm_lq_if] at h
      refine br_f (fun z => c1 ((dm_is0 (by omega)).mp z)) ?_
      by_cases c2 : 6 ≤ len
      · rw [if_pos c2] at h
        exact br_t ((dm_ge4 (by omega)).mpr c2) (hp len l1 l2 h)
      · rw [if_neg c2] at h
        obtain ⟨u', _, u2', u1, _, eu', h⟩ := dm_rd_ok hR h hr
        rw [dm_fc_eq] at h
        exact br_f (fun z => c2 ((dm_ge4 (by omega)).mp z)) (nm_r (dm_s len) ⟨dm_in u1 hu, nm_r eu' (ih _ _ (by omega) (by omega) u2' h)⟩)
theorem dm_uswp {H oF oN fR v r : Nat} (hr : r ≠ 0) (hH : dm_R H a2) (hF : dm_R oF a3) (hN : dm_R oN a4) (hv : v < 16) (hb : dm_bfs oF oN H = fR) (hb0 : fR ≠ 0)
    (hp : ∀ qd fa b8 b21 b22 b23 b24, pst (dm_dc r) (4, ed, re, cu, qd, fa, a1, a2, a3, a4, a5, a6, a7, b8, a9, a10, a11, a12, a13, a14, a15, a16, a17, a18, a19, a20, b21, b22, b23, b24)) (h : dm_swp oF oN H fR v = r) :
    wpX_sweep pst (4, ed, re, cu, qd, fa, a1, a2, a3, a4, a5, a6, a7, a8, a9, a10, a11, a12, a13, a14, a15, a16, a17, a18, a19, a20, a21, a22, a23, a24) (dm_dc v) := by
  unfold dm_swp at h
  unfold wpX_sweep
  refine dm_ubfs hb0 hH hF hN (fun qd b22 b23 h22 => ?_) hb
  refine ⟨5, ?_⟩
  refine br_f (dm_n4 (c := 2) (by omega)) ⟨dm_in (c := 2) (by omega) (by omega), nm_e ⟨dm_in (c := 2) (by omega) (by omega), nm_e (nm_r (dm_s 2) ?_)⟩⟩
  refine br_f (dm_n4 (c := 3) (by omega)) ⟨dm_in (c := 3) (by omega) (by omega), nm_e ⟨dm_in (c := 3) (by omega) (by omega), nm_e (nm_r (dm_s 3) ?_)⟩⟩
  refine br_f (dm_n4 (c := 4) (by omega)) ⟨dm_in (c := 4) (by omega) (by omega), nm_e ⟨dm_in (c := 4) (by omega) (by omega), nm_e (nm_r (dm_s 4) ?_)⟩⟩
  refine br_f (dm_n4 (c := 5) (by omega)) ⟨dm_in (c := 5) (by omega) (by omega), nm_e ⟨dm_in (c := 5) (by omega) (by omega), nm_e (nm_r (dm_s 5) ?_)⟩⟩
  refine br_t ((dm_ge4 (c := 6) (by omega)).mpr (by omega)) ⟨6, ?_⟩
  refine dm_u38 hr h22 (fun len l1 l2 h => ⟨6, ?_⟩) 6 2 v (by omega) (by omega) hv h
  refine dm_u68 hr h22 (fun pI sK b8 b21 h21 h8 h => ⟨6, ?_⟩) 6 v len 0x111100 0 _ _ dm_fillN (dm_R0 a8) hv (by omega) h
  exact dm_u122 hr l2 hH hF hN h8 h21 (fun qd fa b23 b24 => hp qd fa b8 b21 b22 b23 b24) 6 3 2 0x222200 2 qd b23 _ dm_fill0 (by omega) (by omega) h
end
end
section
/-! The questions on a refreshed object -/
theorem dm_ex (x : Nat) (h : x ≠ 0) : ∃ r, r ≠ 0 ∧ x = r := ⟨x, h, rfl⟩
theorem dm_mkF {H oF oN nU iD sZ eN rc : Nat} {ed qd fa : Int32} {a1 a2 a3 a4 a5 a6 a7 a8 a9 a10 a11 a12 a13 a14 a15 a16 a17 a18 a19 a20 a21 a22 a23 a24 : Nat → Int32} (h2 : dm_R H a2) (h3 : dm_R oF a3) (h4 : dm_R oN a4) (h9 : dm_R nU a9) (h17 : dm_R iD a17) (h19 : dm_R sZ a19) (h20 : dm_R eN a20) :
    dm_F H oF oN nU iD sZ eN rc (4, ed, dm_dc rc, 1, qd, fa, a1, a2, a3, a4, a5, a6, a7, a8, a9, a10, a11, a12, a13, a14, a15, a16, a17, a18, a19, a20, a21, a22, a23, a24) :=
  ⟨_, _, _, _, _, _, _, _, _, _, _, _, _, _, _, _, _, _, _, _, _, _, _, _, _, _, _, rfl, h2, h3, h4, h9, h17, h19, h20⟩
section
variable {pst : Int32 → St2 → Prop} {post : St2 → Prop} {ed re cu qd fa : Int32} {a1 a2 a3 a4 a5 a6 a7 a8 a9 a10 a11 a12 a13 a14 a15 a16 a17 a18 a19 a20 a21 a22 a23 a24 : Nat → Int32} {H oF oN nU iD sZ eN rc : Nat} {s : St2}
theorem dm_isV {p : Nat} {P : Int32 → Prop} (p1 : 2 ≤ p) (p2 : p < 6) (h : P 1) : wpX_isVertex P (4, ed, re, cu, qd, fa, a1, a2, a3, a4, a5, a6, a7, a8, a9, a10, a11, a12, a13, a14, a15, a16, a17, a18, a19, a20, a21, a22, a23, a24) (dm_dc p) := by
  unfold wpX_isVertex
  exact br_f (fun z => absurd ((dm_neg (by omega)).mp z) (by omega)) (br_f (dm_n4 p2) h)
theorem dm_qbelow1 {al B p : Nat} (hF : dm_F H oF oN nU iD sZ eN rc s) (p1 : 2 ≤ p) (p2 : p < 6) (ck : dm_ckB nU sZ al B p ≠ 0)
    (y1 : dm_tb al p → pst (dm_dc (dm_ones (dm_gt B p) + 2)) s) (y2 : ¬ dm_tb al p → pst (-2) s) : wpX_below pst s (dm_dc p) := by
  have hF' := hF
  obtain ⟨a1, a2, a3, a4, a5, a6, a7, a8, a9, a10, a11, a12, a13, a14, a15, a16, a17, a18, a19, a20, a21, a22, a23, a24, ed, qd, fa, rfl, h2, h3, h4, h9, h17, h19, h20⟩ := hF
  unfold wpX_below
  refine dm_isV p1 p2 (br_f (by decide) (dm_wref1 hF' ?_))
  dsimp only
  obtain ⟨r, hr, h⟩ := dm_ex _ ck
  unfold dm_ckB at h
  obtain ⟨nu, _, nu2, _, _, enu, h⟩ := dm_rd_ok h9 h hr
  rw [enu]
  refine ⟨dm_in p1 (by omega), ?_⟩
  by_cases tb : dm_tb al p
  · rw [dm_bt_t tb, dm_lq_if] at h
    by_cases c1 : 2 ≤ nu
    · rw [if_pos c1] at h
      obtain ⟨su, _, su2, _, _, esu, h⟩ := dm_rd_ok h19 h hr
      rw [dm_eqq_if] at h
      rw [esu]
      by_cases c2 : su = Nat.add (dm_ones (dm_gt B p)) 2
      · rw [c2]
        exact br_t ((dm_pos (by omega)).mpr c1) ⟨dm_in p1 (by omega), y1 tb⟩
      · rw [if_neg c2] at h
        exact absurd h.symm hr
    · rw [if_neg c1] at h
      exact absurd h.symm hr
  · rw [dm_bt_f tb, dm_lq_if] at h
    by_cases c1 : 2 ≤ nu
    · rw [if_pos c1] at h
      exact absurd h.symm hr
    · exact br_f (fun z => c1 ((dm_pos (by omega)).mp z)) (y2 tb)
theorem dm_qbelow0 {al B p T ec r0 : Nat} {k : Nat → Nat → Nat → Nat → Nat → Nat → Nat → Nat} (hr0 : r0 ≠ 0) (hT : dm_R T a1) (hH : dm_R H a2) (hec : 1 ≤ ec) (hec2 : ec < 16) (p1 : 2 ≤ p) (p2 : p < 6)
    (ck : ∀ oF oN nU iD sZ eN rc, k oF oN nU iD sZ eN rc = r0 → dm_ckB nU sZ al B p ≠ 0)
    (y1 : ∀ oF oN nU iD sZ eN rc s, 3 ≤ rc → rc ≤ 6 → dm_F H oF oN nU iD sZ eN rc s → k oF oN nU iD sZ eN rc = r0 → dm_tb al p → pst (dm_dc (dm_ones (dm_gt B p) + 2)) s)
    (y2 : ∀ oF oN nU iD sZ eN rc s, 3 ≤ rc → rc ≤ 6 → dm_F H oF oN nU iD sZ eN rc s → k oF oN nU iD sZ eN rc = r0 → ¬ dm_tb al p → pst (-2) s)
    (h0 : dm_refr T H ec k = r0) : wpX_below pst (4, dm_dc ec, re, 0, qd, fa, a1, a2, a3, a4, a5, a6, a7, a8, a9, a10, a11, a12, a13, a14, a15, a16, a17, a18, a19, a20, a21, a22, a23, a24) (dm_dc p) := by
  unfold wpX_below
  refine dm_isV p1 p2 (br_f (by decide) (dm_wrefr hr0 hT hH hec hec2 (fun oF oN nU iD sZ eN rc s r1 r2 hF hk => ?_) h0))
  have hF' := hF
  obtain ⟨a1, a2, a3, a4, a5, a6, a7, a8, a9, a10, a11, a12, a13, a14, a15, a16, a17, a18, a19, a20, a21, a22, a23, a24, ed, qd, fa, rfl, h2, h3, h4, h9, h17, h19, h20⟩ := hF
  dsimp only
  obtain ⟨r, hr, h⟩ := dm_ex _ (ck _ _ _ _ _ _ _ hk)
  unfold dm_ckB at h
  obtain ⟨nu, _, nu2, _, _, enu, h⟩ := dm_rd_ok h9 h hr
  rw [enu]
  refine ⟨dm_in p1 (by omega), ?_⟩
  by_cases tb : dm_tb al p
  · rw [dm_bt_t tb, dm_lq_if] at h
    by_cases c1 : 2 ≤ nu
    · rw [if_pos c1] at h
      obtain ⟨su, _, su2, _, _, esu, h⟩ := dm_rd_ok h19 h hr
      rw [dm_eqq_if] at h
      rw [esu]
      by_cases c2 : su = Nat.add (dm_ones (dm_gt B p)) 2
      · rw [c2]
        exact br_t ((dm_pos (by omega)).mpr c1) ⟨dm_in p1 (by omega), y1 _ _ _ _ _ _ _ _ r1 r2 hF' hk tb⟩
      · rw [if_neg c2] at h
        exact absurd h.symm hr
    · rw [if_neg c1] at h
      exact absurd h.symm hr
  · rw [dm_bt_f tb, dm_lq_if] at h
    by_cases c1 : 2 ≤ nu
    · rw [if_pos c1] at h
      exact absurd h.symm hr
    · exact br_f (fun z => c1 ((dm_pos (by omega)).mp z)) (y2 _ _ _ _ _ _ _ _ r1 r2 hF' hk tb)
theorem dm_qover {P : Int32 → Prop} {p q y z r : Nat} (hr : r ≠ 0) (h9 : dm_R nU a9) (h19 : dm_R sZ a19) (h20 : dm_R eN a20) (p2 : p < 16) (h : dm_over nU eN sZ p q y z = r) (hy : 2 ≤ p → y = r → P 1) (hz : 2 ≤ p → z = r → P 0) :
    wpX_over P (4, ed, re, cu, qd, fa, a1, a2, a3, a4, a5, a6, a7, a8, a9, a10, a11, a12, a13, a14, a15, a16, a17, a18, a19, a20, a21, a22, a23, a24) (dm_dc p) (dm_dc q) := by
  unfold dm_over at h
  obtain ⟨nu, _, nu2, p1, _, enu, h⟩ := dm_rd_ok h9 h hr
  rw [dm_lq_if] at h
  unfold wpX_over
  dsimp only
  rw [enu]
  refine ⟨dm_in p1 p2, ?_⟩
  by_cases c1 : 2 ≤ nu
  · rw [if_pos c1] at h
    obtain ⟨ev, _, ev2, q1, q2, eev, h⟩ := dm_rd_ok h20 h hr
    obtain ⟨eu, _, eu2, _, _, eeu, h⟩ := dm_rd_ok h20 h hr
    rw [dm_lq_if] at h
    refine br_f (fun z => absurd ((dm_neg (by omega)).mp z) (by omega)) ⟨dm_in p1 p2, dm_in q1 q2, ?_⟩
    rw [eev, eeu]
    by_cases c2 : eu ≤ ev
    · rw [if_pos c2] at h
      obtain ⟨su, _, su2, _, _, esu, h⟩ := dm_rd_ok h19 h hr
      rw [dm_lq_if] at h
      have h : (if eu + su - 2 ≤ ev then z else y) = r := h
      refine br_f (fun z => absurd ((dm_lt (by omega) (by omega)).mp z) (by omega)) ⟨dm_in q1 q2, dm_in p1 p2, dm_in p1 p2, ?_⟩
      rw [esu, dm_add (show 2 ≤ eu + su by omega)]
      by_cases c3 : eu + su - 2 ≤ ev
      · rw [if_pos c3] at h
        exact br_t ((dm_le (by omega) (by omega)).mpr c3) (hz p1 h)
      · rw [if_neg c3] at h
        exact br_f (fun z => c3 ((dm_le (by omega) (by omega)).mp z)) (hy p1 h)
    · rw [if_neg c2] at h
      exact br_t ((dm_lt (by omega) (by omega)).mpr (by omega)) (hz p1 h)
  · rw [if_neg c1] at h
    exact br_t ((dm_neg (by omega)).mpr (by omega)) (hz p1 h)
theorem dm_qdom {al B p q : Nat} (hF : dm_F H oF oN nU iD sZ eN rc s) (p1 : 2 ≤ p) (p2 : p < 6) (q1 : 2 ≤ q) (q2 : q < 6) (ck : dm_ckD nU eN sZ al B p q ≠ 0)
    (y0 : ¬ dm_tb al q → pst (-2) s) (y1 : dm_tb al q → dm_tb (dm_gt B p) q → pst 1 s) (y2 : dm_tb al q → ¬ dm_tb (dm_gt B p) q → pst 0 s) : wpX_dominates pst s (dm_dc p) (dm_dc q) := by
  have hF' := hF
  obtain ⟨a1, a2, a3, a4, a5, a6, a7, a8, a9, a10, a11, a12, a13, a14, a15, a16, a17, a18, a19, a20, a21, a22, a23, a24, ed, qd, fa, rfl, h2, h3, h4, h9, h17, h19, h20⟩ := hF
  unfold wpX_dominates
  refine dm_isV p1 p2 (br_f (by decide) (dm_isV q1 q2 (br_f (by decide) (dm_wref1 hF' ?_))))
  dsimp only
  obtain ⟨r, hr, h⟩ := dm_ex _ ck
  unfold dm_ckD at h
  obtain ⟨nv, _, nv2, _, _, env, h⟩ := dm_rd_ok h9 h hr
  rw [env]
  refine ⟨dm_in q1 (by omega), ?_⟩
  by_cases tb : dm_tb al q
  · rw [dm_bt_t tb, dm_lq_if] at h
    by_cases c1 : 2 ≤ nv
    · rw [if_pos c1] at h
      refine br_t ((dm_pos (by omega)).mpr c1) (dm_qover hr h9 h19 h20 (by omega) h (fun _ h => ?_) (fun _ h => ?_))
      · refine br_f (by decide) ?_
        by_cases tb2 : dm_tb (dm_gt B p) q
        · exact y1 tb tb2
        · rw [dm_bt_f tb2] at h
          exact absurd h.symm hr
      · refine br_t rfl ?_
        by_cases tb2 : dm_tb (dm_gt B p) q
        · rw [dm_bt_t tb2] at h
          exact absurd h.symm hr
        · exact y2 tb tb2
    · rw [if_neg c1] at h
      exact absurd h.symm hr
  · rw [dm_bt_f tb, dm_lq_if] at h
    by_cases c1 : 2 ≤ nv
    · rw [if_pos c1] at h
      exact absurd h.symm hr
    · exact br_f (fun z => c1 ((dm_pos (by omega)).mp z)) (y0 tb)
/-- c is the depth of p, or 0 (for -2) where p isn't reached -/
def dm_isC (oF oN H fR nU p c : Nat) : Prop := c < 16 ∧ dm_gt nU p ≠ 0 ∧ ((2 ≤ dm_gt nU p ∧ c ≠ 0 ∧ dm_swp oF oN H fR p = c) ∨ (¬ 2 ≤ dm_gt nU p ∧ c = 0))
theorem dm_mkC_ok {oF oN H fR nU p r : Nat} {k : Nat → Nat} (hr : r ≠ 0) (h : dm_mkC oF oN H fR nU p k = r) : ∃ c, dm_isC oF oN H fR nU p c ∧ k c = r := by
  unfold dm_mkC at h
  obtain ⟨g, h⟩ := dm_rd_gt h hr
  rw [dm_lq_if] at h
  by_cases c1 : 2 ≤ dm_gt nU p
  · rw [if_pos c1] at h
    obtain ⟨g2, h⟩ := dm_nz_ok h hr
    rw [dm_lq_if] at h
    by_cases c2 : 16 ≤ dm_swp oF oN H fR p
    · rw [if_pos c2] at h
      exact absurd h.symm hr
    · rw [if_neg c2] at h
      exact ⟨_, ⟨by omega, g, Or.inl ⟨c1, g2, rfl⟩⟩, h⟩
  · rw [if_neg c1] at h
    exact ⟨0, ⟨by omega, g, Or.inr ⟨c1, rfl⟩⟩, h⟩
theorem dm_qcom {p c fR : Nat} (hF : dm_F H oF oN nU iD sZ eN rc s) (p1 : 2 ≤ p) (p2 : p < 6) (hb : dm_bfs oF oN H = fR) (hb0 : fR ≠ 0) (hc : dm_isC oF oN H fR nU p c)
    (hp : ∀ s', dm_F H oF oN nU iD sZ eN rc s' → pst (dm_dc c) s') : wpX_common pst s (dm_dc p) := by
  have hF' := hF
  obtain ⟨a1, a2, a3, a4, a5, a6, a7, a8, a9, a10, a11, a12, a13, a14, a15, a16, a17, a18, a19, a20, a21, a22, a23, a24, ed, qd, fa, rfl, h2, h3, h4, h9, h17, h19, h20⟩ := hF
  unfold wpX_common
  refine dm_isV p1 p2 (br_f (by decide) (dm_wref1 hF' ?_))
  dsimp only
  obtain ⟨cl, g, hc⟩ := hc
  obtain ⟨_, _, enu⟩ := dm_Rrd h9 rfl g
  have gl := dm_gt_lt nU p
  rw [enu]
  refine ⟨dm_in p1 (by omega), ?_⟩
  rcases hc with ⟨c1, c0, hs⟩ | ⟨c1, c0⟩
  · exact br_t ((dm_pos (by omega)).mpr c1) (dm_uswp c0 h2 h3 h4 (by omega) hb hb0 (fun qd fa b8 b21 b22 b23 b24 => hp _ (dm_mkF h2 h3 h4 h9 h17 h19 h20)) hs)
  · rw [c0] at hp
    exact br_f (fun z => c1 ((dm_pos (by omega)).mp z)) (hp _ hF')
theorem dm_q48 {w r : Nat} {k : Nat → Nat} (hr : r ≠ 0) (h9 : dm_R nU a9) (h17 : dm_R iD a17) (h19 : dm_R sZ a19) (h20 : dm_R eN a20)
    (hp : ∀ x, x < 16 → k x = r → pst (dm_dc x) (4, ed, re, cu, qd, fa, a1, a2, a3, a4, a5, a6, a7, a8, a9, a10, a11, a12, a13, a14, a15, a16, a17, a18, a19, a20, a21, a22, a23, a24)) :
    ∀ (n x kk : Nat), x < 16 → kk ≤ 6 → dm_near nU eN sZ iD w k n x kk = r → wX_nearest_48 pst (dm_dc w) 4 ed re cu qd fa a1 a2 a3 a4 a5 a6 a7 a8 a9 a10 a11 a12 a13 a14 a15 a16 a17 a18 a19 a20 a21 a22 a23 a24 n (dm_dc x) (dm_dc kk) := by
  intro n
  induction n with
  | zero => exact fun x kk _ _ h => absurd h.symm hr
  | succ n ih =>
    intro x kk hx hk h
    have h : dm_nearS nU eN sZ iD w k (dm_near nU eN sZ iD w k n) x kk = r := h
    unfold dm_nearS at h
    rw [dm_lq_if] at h
    by_cases c1 : 6 ≤ kk
    · rw [if_pos c1] at h
      exact br_t ((dm_ge4 (by omega)).mpr c1) (hp x hx h)
    · rw [if_neg c1] at h
      refine br_f (fun z => c1 ((dm_ge4 (by omega)).mp z)) (dm_qover hr h9 h19 h20 hx h (fun x1 h => ?_) (fun x1 h => ?_))
      · exact br_f (by decide) (hp x hx h)
      · obtain ⟨x', _, x2', _, _, ex', h⟩ := dm_rd_ok h17 h hr
        rw [dm_fc_eq] at h
        exact br_t rfl ⟨dm_in x1 hx, nm_r ex' (nm_r (dm_s kk) (ih _ _ x2' (by omega) h))⟩
theorem dm_qnear {v w : Nat} (hF : dm_F H oF oN nU iD sZ eN rc s) (v1 : 2 ≤ v) (v2 : v < 6) (w1 : 2 ≤ w) (w2 : w < 6) (gv : dm_gt nU v ≠ 0) (gw : dm_gt nU w ≠ 0)
    (y0 : ¬ (2 ≤ dm_gt nU v ∧ 2 ≤ dm_gt nU w) → pst (-2) s)
    (y1 : 2 ≤ dm_gt nU v → 2 ≤ dm_gt nU w → ∃ r k, r ≠ 0 ∧ dm_near nU eN sZ iD w k 5 v 2 = r ∧ ∀ x, k x = r → pst (dm_dc x) s) : wpX_nearest pst s (dm_dc v) (dm_dc w) := by
  have hF' := hF
  obtain ⟨a1, a2, a3, a4, a5, a6, a7, a8, a9, a10, a11, a12, a13, a14, a15, a16, a17, a18, a19, a20, a21, a22, a23, a24, ed, qd, fa, rfl, h2, h3, h4, h9, h17, h19, h20⟩ := hF
  unfold wpX_nearest
  refine dm_isV v1 v2 (br_f (by decide) (dm_isV w1 w2 (br_f (by decide) (dm_wref1 hF' ?_))))
  dsimp only
  obtain ⟨_, _, ev⟩ := dm_Rrd h9 rfl gv
  obtain ⟨_, _, ew⟩ := dm_Rrd h9 rfl gw
  have lv := dm_gt_lt nU v
  have lw := dm_gt_lt nU w
  rw [ev, ew]
  refine ⟨dm_in v1 (by omega), ?_⟩
  by_cases c1 : 2 ≤ dm_gt nU v
  · refine br_f (fun z => absurd ((dm_neg (by omega)).mp z) (by omega)) ⟨dm_in w1 (by omega), ?_⟩
    by_cases c2 : 2 ≤ dm_gt nU w
    · obtain ⟨r, k, hr, h, hp⟩ := y1 c1 c2
      exact br_t ((dm_pos (by omega)).mpr c2) ⟨5, dm_q48 hr h9 h17 h19 h20 (fun x _ hx => hp x hx) 5 v 2 (by omega) (by omega) h⟩
    · exact br_f (fun z => c2 ((dm_pos (by omega)).mp z)) (y0 (fun z => c2 z.2))
  · exact br_t ((dm_neg (by omega)).mpr (by omega)) (y0 (fun z => c1 z.1))
theorem dm_qcnt (hF : dm_F H oF oN nU iD sZ eN rc s) (h : pst (dm_dc rc) s) : wpX_reachableCount pst s := by
  have hF' := hF
  obtain ⟨a1, a2, a3, a4, a5, a6, a7, a8, a9, a10, a11, a12, a13, a14, a15, a16, a17, a18, a19, a20, a21, a22, a23, a24, ed, qd, fa, rfl, _⟩ := hF
  unfold wpX_reachableCount
  exact dm_wref1 hF' h
end
end
section
/-! The law's own bits: heads, reach, ones; the edges -/
theorem dm_bit1 : ∀ s, s < 16 → ∀ u, u < 6 → 2 ≤ u → (((nI s >>> (dm_dc u &&& 31)) &&& 1) = 1 ↔ Nat.land (Nat.shiftRight s (Nat.sub u 2)) 1 ≠ 0) := by decide +kernel
theorem dm_bit0 : ∀ s, s < 16 → ∀ u, u < 6 → 2 ≤ u → (((nI s >>> (dm_dc u &&& 31)) &&& 1) = 0 ↔ ¬ Nat.land (Nat.shiftRight s (Nat.sub u 2)) 1 ≠ 0) := by decide +kernel
theorem dm_and : ∀ a, a < 16 → ∀ b, b < 16 → nI a &&& nI b = nI (Nat.land a b) := by decide +kernel
theorem dm_or : ∀ a, a < 16 → ∀ b, b < 16 → nI a ||| nI b = nI (Nat.lor a b) := by decide +kernel
theorem dm_not : ∀ a, a < 16 → ∀ b, b < 16 → nI a &&& (nI b ^^^ (-1)) = nI (Nat.land a (Nat.xor b 15)) := by decide +kernel
theorem dm_kept : ∀ u, u < 6 → 2 ≤ u → (15 : Int32) - ((1 : Int32) <<< (dm_dc u &&& 31)) = nI (15 - 2 ^ (u - 2)) := by decide +kernel
theorem dm_onesI : ∀ a, a < 16 → ((((nI a &&& 1) + ((nI a >>> ((1 : Int32) &&& 31)) &&& 1)) + ((nI a >>> ((2 : Int32) &&& 31)) &&& 1)) + ((nI a >>> ((3 : Int32) &&& 31)) &&& 1)) = dm_dc (dm_ones a + 2) := by decide +kernel
theorem dm_sh1 : ∀ j, j < 8 → nI j <<< ((1 : Int32) &&& 31) = nI (Nat.mul 2 j) := by decide +kernel
theorem dm_hd_lt (G u : Nat) : dm_hd G u < 16 := by
  have h : Nat.land (Nat.shiftRight G (Nat.mul 3 (Nat.sub u 2))) 7 < 8 := Nat.and_lt_two_pow (n := 3) _ (by decide)
  show 2 * Nat.land (Nat.shiftRight G (Nat.mul 3 (Nat.sub u 2))) 7 < 16
  omega
/-- what the law reads of its first int: the heads of each vertex -/
def dm_HG (g : Int32) (G : Nat) : Prop := ∀ u, 2 ≤ u → u < 6 → ((g >>> ((3 * dm_dc u) &&& 31)) &&& 7) <<< ((1 : Int32) &&& 31) = nI (dm_hd G u)
theorem dm_land7 (G k : Nat) : Nat.land (Nat.shiftRight G k) 7 = G / 2 ^ k % 8 := by
  show (G >>> k) &&& (2 ^ 3 - 1) = _
  rw [Nat.and_two_pow_sub_one_eq_mod, Nat.shiftRight_eq_div_pow]
theorem dm_HG_ex (g : Int32) : ∃ G, G < 4096 ∧ dm_HG g G := by
  obtain ⟨j0, l0, e0⟩ := pk_andE (g >>> ((3 * dm_dc 2) &&& 31)) (m := 7) 3 (by decide)
  obtain ⟨j1, l1, e1⟩ := pk_andE (g >>> ((3 * dm_dc 3) &&& 31)) (m := 7) 3 (by decide)
  obtain ⟨j2, l2, e2⟩ := pk_andE (g >>> ((3 * dm_dc 4) &&& 31)) (m := 7) 3 (by decide)
  obtain ⟨j3, l3, e3⟩ := pk_andE (g >>> ((3 * dm_dc 5) &&& 31)) (m := 7) 3 (by decide)
  have hj : ∀ u, u = 2 ∨ u = 3 ∨ u = 4 ∨ u = 5 → ((g >>> ((3 * dm_dc u) &&& 31)) &&& 7) <<< ((1 : Int32) &&& 31) = nI (dm_hd (j0 + 8 * j1 + 64 * j2 + 512 * j3) u) := by
    intro u hu
    rcases hu with rfl | rfl | rfl | rfl
    · rw [e0, dm_sh1 _ l0]
      unfold dm_hd
      rw [dm_land7, show (j0 + 8 * j1 + 64 * j2 + 512 * j3) / 2 ^ (Nat.mul 3 (Nat.sub 2 2)) % 8 = j0 from by show (j0 + 8 * j1 + 64 * j2 + 512 * j3) / 1 % 8 = j0; omega]
    · rw [e1, dm_sh1 _ l1]
      unfold dm_hd
      rw [dm_land7, show (j0 + 8 * j1 + 64 * j2 + 512 * j3) / 2 ^ (Nat.mul 3 (Nat.sub 3 2)) % 8 = j1 from by show (j0 + 8 * j1 + 64 * j2 + 512 * j3) / 8 % 8 = j1; omega]
    · rw [e2, dm_sh1 _ l2]
      unfold dm_hd
      rw [dm_land7, show (j0 + 8 * j1 + 64 * j2 + 512 * j3) / 2 ^ (Nat.mul 3 (Nat.sub 4 2)) % 8 = j2 from by show (j0 + 8 * j1 + 64 * j2 + 512 * j3) / 64 % 8 = j2; omega]
    · rw [e3, dm_sh1 _ l3]
      unfold dm_hd
      rw [dm_land7, show (j0 + 8 * j1 + 64 * j2 + 512 * j3) / 2 ^ (Nat.mul 3 (Nat.sub 5 2)) % 8 = j3 from by show (j0 + 8 * j1 + 64 * j2 + 512 * j3) / 512 % 8 = j3; omega]
  exact ⟨j0 + 8 * j1 + 64 * j2 + 512 * j3, by omega, fun u u1 u2 => hj u (by omega)⟩
theorem dm_rs_lt {G kept u s : Nat} (hs : s < 16) (hk : kept < 16) : dm_rs G kept u s < 16 := by
  unfold dm_rs
  by_cases tb : dm_tb s u
  · rw [dm_bt_t tb]
    exact Nat.or_lt_two_pow (n := 4) hs (Nat.and_lt_two_pow (n := 4) _ hk)
  · rw [dm_bt_f tb]
    exact hs
noncomputable def dm_rr (G kept s : Nat) : Nat := dm_rs G kept 5 (dm_rs G kept 4 (dm_rs G kept 3 (dm_rs G kept 2 s)))
theorem dm_rr_lt {G kept s : Nat} (hs : s < 16) (hk : kept < 16) : dm_rr G kept s < 16 := dm_rs_lt (dm_rs_lt (dm_rs_lt (dm_rs_lt hs hk) hk) hk) hk
theorem dm_reach_eq (G kept : Nat) : dm_reach G kept = dm_rr G kept (dm_rr G kept (dm_rr G kept (dm_rr G kept (Nat.land 1 kept)))) := by
  unfold dm_reach dm_round dm_rr
  simp only [dm_fc_eq]
theorem dm_reach_lt {G kept : Nat} (hk : kept < 16) : dm_reach G kept < 16 := by
  rw [dm_reach_eq]
  exact dm_rr_lt (dm_rr_lt (dm_rr_lt (dm_rr_lt (Nat.and_lt_two_pow (n := 4) _ hk) hk) hk) hk) hk
section
variable {post : Int32 → Prop} {J : Int32 → Int32 → Prop} {g x4 : Int32} {G kept s u n : Nat}
theorem dm_rch32 (hG : dm_HG g G) (hs : s < 16) (hk : kept < 16) (u1 : 2 ≤ u) (u2 : u < 6)
    (h : wL_reach_32 post J g (nI kept) x4 n (nI (dm_rs G kept u s)) (dm_dc (u + 1))) : wL_reach_32 post J g (nI kept) x4 (n + 1) (nI s) (dm_dc u) := by
  refine br_f (dm_n4 u2) ?_
  unfold wpL_heads
  rw [hG u u1 u2]
  unfold dm_rs at h
  by_cases tb : dm_tb s u
  · rw [dm_bt_t tb] at h
    refine br_t ((dm_bit1 s hs u u2 u1).mpr tb) (nm_r ?_ (nm_r (dm_s u) h))
    rw [dm_and _ (dm_hd_lt G u) _ hk]
    exact dm_or _ hs _ (Nat.and_lt_two_pow (n := 4) _ hk)
  · rw [dm_bt_f tb] at h
    exact br_f (fun z => tb ((dm_bit1 s hs u u2 u1).mp z)) (nm_r (dm_s u) h)
theorem dm_rch23 {c : Nat} (hG : dm_HG g G) (hs : s < 16) (hk : kept < 16) (c2 : c < 6)
    (h : wL_reach_23 post g (nI kept) n (nI (dm_rr G kept s)) (dm_dc (c + 1))) : wL_reach_23 post g (nI kept) (n + 1) (nI s) (dm_dc c) :=
  br_f (dm_n4 c2) ⟨5, dm_rch32 (u := 2) hG hs hk (by omega) (by omega) (dm_rch32 (u := 3) hG (dm_rs_lt hs hk) hk (by omega) (by omega) (dm_rch32 (u := 4) hG (dm_rs_lt (dm_rs_lt hs hk) hk) hk (by omega) (by omega)
    (dm_rch32 (u := 5) hG (dm_rs_lt (dm_rs_lt (dm_rs_lt hs hk) hk) hk) hk (by omega) (by omega) (br_t ((dm_ge4 (c := 6) (by omega)).mpr (by omega)) (nm_r (dm_s c) h)))))⟩
theorem dm_rchK (hG : dm_HG g G) (hk : kept < 16) (h : post (nI (dm_reach G kept))) : ∃ n, wL_reach_23 post g (nI kept) n (nI (Nat.land 1 kept)) 0 := by
  rw [dm_reach_eq] at h
  have l0 : Nat.land 1 kept < 16 := Nat.and_lt_two_pow (n := 4) _ hk
  exact ⟨5, dm_rch23 (c := 2) hG l0 hk (by omega) (dm_rch23 (c := 3) hG (dm_rr_lt l0 hk) hk (by omega) (dm_rch23 (c := 4) hG (dm_rr_lt (dm_rr_lt l0 hk) hk) hk (by omega)
    (dm_rch23 (c := 5) hG (dm_rr_lt (dm_rr_lt (dm_rr_lt l0 hk) hk) hk) hk (by omega) (br_t ((dm_ge4 (c := 6) (by omega)).mpr (by omega)) h))))⟩
theorem dm_k15 {u : Nat} : 15 - 2 ^ (u - 2) < 16 := Nat.lt_of_le_of_lt (Nat.sub_le _ _) (by decide)
theorem dm_rch (hG : dm_HG g G) (u1 : 2 ≤ u) (u2 : u < 6) (h : post (nI (dm_reach G (15 - 2 ^ (u - 2))))) : wpL_reach post () g (dm_dc u) :=
  br_t ((dm_pos (by omega)).mpr u1) (nm_r (dm_kept u u2 u1) (nm_r (dm_and 1 (by decide) _ dm_k15) (dm_rchK hG dm_k15 h)))
theorem dm_rchA (hG : dm_HG g G) (h : post (nI (dm_reach G 15))) : wpL_reach post () g (-1) :=
  br_f (by decide) (nm_r (dm_and 1 (by decide) 15 (by decide)) (dm_rchK hG (by decide) h))
end
section
variable {lp : Int32 → St0 → Prop} {mc ms kc ks : Nat} {g x3 x4 : Int32} {re qd fa : Int32} {a1 a2 a3 a4 a5 a6 a7 a8 a9 a10 a11 a12 a13 a14 a15 a16 a17 a18 a19 a20 a21 a22 a23 a24 : Nat → Int32}
theorem dm_k39 {J : Int32 → Int32 → Int32 → Int32 → Int32 → Int32 → Int32 → (Nat → Int32) → (Nat → Int32) → (Nat → Int32) → (Nat → Int32) → (Nat → Int32) → (Nat → Int32) → (Nat → Int32) → (Nat → Int32) → (Nat → Int32) → (Nat → Int32) → (Nat → Int32) → (Nat → Int32) → (Nat → Int32) → (Nat → Int32) → (Nat → Int32) → (Nat → Int32) → (Nat → Int32) → (Nat → Int32) → (Nat → Int32) → (Nat → Int32) → (Nat → Int32) → (Nat → Int32) → (Nat → Int32) → (Nat → Int32) → Prop} {u hh r : Nat} {k : Nat → Nat → Nat → Nat} (hr : r ≠ 0) (u1 : 2 ≤ u) (u2 : u < 6) (hh16 : hh < 16)
    (hp : ∀ T H ec b1 b2, dm_R T b1 → dm_R H b2 → 2 ≤ ec → ec < 16 → k T H ec = r → J (dm_dc (u + 1)) 4 (dm_dc ec) re 0 qd fa b1 b2 a3 a4 a5 a6 a7 a8 a9 a10 a11 a12 a13 a14 a15 a16 a17 a18 a19 a20 a21 a22 a23 a24) :
    ∀ (n t T H ec : Nat) (a1 a2 : Nat → Int32), dm_R T a1 → dm_R H a2 → 2 ≤ ec → ec < 16 → 2 ≤ t → t ≤ 6 → dm_l39 u hh k n t T H ec = r →
      wL_lawOf_39 lp mc ms J g x3 x4 (dm_dc u) (nI hh) kc ks n (dm_dc t) 4 (dm_dc ec) re 0 qd fa a1 a2 a3 a4 a5 a6 a7 a8 a9 a10 a11 a12 a13 a14 a15 a16 a17 a18 a19 a20 a21 a22 a23 a24 := by
  intro n
  induction n with
  | zero => exact fun t T H ec a1 a2 _ _ _ _ _ _ h => absurd h.symm hr
  | succ n ih =>
    intro t T H ec a1 a2 h1 h2 e1 e2 t1 t2 h
    have h : dm_l39S u hh k (dm_l39 u hh k n) t T H ec = r := h
    unfold dm_l39S at h
    rw [dm_lq_if] at h
    by_cases c1 : 6 ≤ t
    · rw [if_pos c1] at h
      exact br_t ((dm_ge4 (by omega)).mpr c1) (nm_r (dm_s u) (hp _ _ _ _ _ h1 h2 e1 e2 h))
    · rw [if_neg c1, dm_fc_eq] at h
      refine br_f (fun z => c1 ((dm_ge4 (by omega)).mp z)) ?_
      by_cases tb : dm_tb hh t
      · rw [dm_bt_t tb, dm_lq_if] at h
        refine br_t ((dm_bit1 hh hh16 t (by omega) t1).mpr tb) ?_
        by_cases c2 : 15 ≤ ec
        · rw [if_pos c2] at h
          exact absurd h.symm hr
        · rw [if_neg c2, dm_fc_eq, dm_fc_eq, dm_fc_eq] at h
          unfold wpX_link
          refine dm_isV u1 u2 (br_f (by decide) (dm_isV t1 (by omega) (br_f (by decide) (br_f (fun z => absurd ((dm_eq (b := 62) (by omega) (by omega)).mp z) (by omega)) ?_))))
          exact ⟨dm_in e1 e2, nm_e ⟨dm_in e1 e2, nm_e (nm_r (dm_s ec) (nm_r (dm_s t) (ih _ _ _ _ _ _ (dm_Rst h1 e1 e2 (by omega) rfl (dm_cl (by omega))) (dm_Rst h2 e1 e2 (by omega) rfl (dm_cl (by omega))) (by omega) (by omega) (by omega) (by omega) h)))⟩⟩
      · rw [dm_bt_f tb] at h
        exact br_f (fun z => tb ((dm_bit1 hh hh16 t (by omega) t1).mp z)) (nm_r (dm_s t) (ih _ _ _ _ _ _ h1 h2 e1 e2 (by omega) (by omega) h))
theorem dm_k22 {G r : Nat} {k : Nat → Nat → Nat → Nat} (hr : r ≠ 0) (hG : dm_HG g G)
    (hp : ∀ T H ec b1 b2, dm_R T b1 → dm_R H b2 → 2 ≤ ec → ec < 16 → k T H ec = r → ∃ n, wL_lawOf_97 lp mc ms g x3 x4 (nI (dm_reach G 15)) kc ks n 0 0 0 0 4 (dm_dc ec) re 0 qd fa b1 b2 a3 a4 a5 a6 a7 a8 a9 a10 a11 a12 a13 a14 a15 a16 a17 a18 a19 a20 a21 a22 a23 a24) :
    ∀ (n u T H ec : Nat) (a1 a2 : Nat → Int32), dm_R T a1 → dm_R H a2 → 2 ≤ ec → ec < 16 → 2 ≤ u → u ≤ 6 → dm_l22 G k n u T H ec = r →
      wL_lawOf_22 lp mc ms g x3 x4 kc ks n (dm_dc u) 4 (dm_dc ec) re 0 qd fa a1 a2 a3 a4 a5 a6 a7 a8 a9 a10 a11 a12 a13 a14 a15 a16 a17 a18 a19 a20 a21 a22 a23 a24 := by
  intro n
  induction n with
  | zero => exact fun u T H ec a1 a2 _ _ _ _ _ _ h => absurd h.symm hr
  | succ n ih =>
    intro u T H ec a1 a2 h1 h2 e1 e2 u1 u2 h
    have h : dm_l22S G k (dm_l22 G k n) u T H ec = r := h
    unfold dm_l22S at h
    rw [dm_lq_if] at h
    by_cases c1 : 6 ≤ u
    · rw [if_pos c1] at h
      exact br_t ((dm_ge4 (by omega)).mpr c1) (dm_rchA hG (hp _ _ _ _ _ h1 h2 e1 e2 h))
    · rw [if_neg c1, dm_fc_eq] at h
      refine br_f (fun z => c1 ((dm_ge4 (by omega)).mp z)) ?_
      unfold wpL_heads
      rw [hG u u1 (by omega)]
      refine ⟨4, dm_k39 hr u1 (by omega) (dm_hd_lt G u) (fun T H ec b1 b2 g1 g2 q1 q2 h => ?_) 4 3 T H ec a1 a2 h1 h2 e1 e2 (by omega) (by omega) h⟩
      rw [dm_fc_eq] at h
      exact ih _ _ _ _ _ _ g1 g2 q1 q2 (by omega) (by omega) h
end
end
section
/-! The law on a refreshed object -/
noncomputable def dm_al (G : Nat) : Nat := dm_reach G 15
noncomputable def dm_B (G : Nat) : Nat := dm_st (dm_st (dm_st (dm_st 0 2 (Nat.land (dm_al G) (Nat.xor (dm_reach G 14) 15))) 3 (Nat.land (dm_al G) (Nat.xor (dm_reach G 13) 15))) 4 (Nat.land (dm_al G) (Nat.xor (dm_reach G 11) 15))) 5 (Nat.land (dm_al G) (Nat.xor (dm_reach G 7) 15))
theorem dm_al_lt (G : Nat) : dm_al G < 16 := dm_reach_lt (by decide)
theorem dm_gtS {x0 x1 x2 x3 : Nat} (l0 : x0 < 16) (l1 : x1 < 16) (l2 : x2 < 16) (l3 : x3 < 16) (d : Nat) :
    dm_gt (dm_st (dm_st (dm_st (dm_st 0 2 x0) 3 x1) 4 x2) 5 x3) d = if d = 5 then x3 else if d = 4 then x2 else if d = 3 then x1 else if d = 2 then x0 else dm_gt 0 d := by
  rw [dm_gt_st d l3, dm_gt_st d l2, dm_gt_st d l1, dm_gt_st d l0]
theorem dm_land_lt {a b : Nat} (h : a < 16) : Nat.land a b < 16 := Nat.lt_of_le_of_lt (Nat.and_le_left (n := a) (m := b)) h
theorem dm_B_eq (G : Nat) : ∀ u, 2 ≤ u → u < 6 → dm_gt (dm_B G) u = Nat.land (dm_al G) (Nat.xor (dm_reach G (15 - 2 ^ (u - 2))) 15) := by
  intro u u1 u2
  unfold dm_B
  rw [dm_gtS (dm_land_lt (dm_al_lt G)) (dm_land_lt (dm_al_lt G)) (dm_land_lt (dm_al_lt G)) (dm_land_lt (dm_al_lt G))]
  obtain rfl | rfl | rfl | rfl : u = 2 ∨ u = 3 ∨ u = 4 ∨ u = 5 := by omega
  · rfl
  · rfl
  · rfl
  · rfl
theorem dm_x11 (G u : Nat) (u1 : 2 ≤ u) (u2 : u < 6) : nI (dm_al G) &&& (nI (dm_reach G (15 - 2 ^ (u - 2))) ^^^ (-1)) = nI (dm_gt (dm_B G) u) := by
  rw [dm_not _ (dm_al_lt G) _ (dm_reach_lt dm_k15), dm_B_eq G u u1 u2]
theorem dm_for_ok {f : Nat → Nat} (h : dm_for f ≠ 0) : ∀ u, 2 ≤ u → u < 6 → f u ≠ 0 := by
  unfold dm_for at h
  obtain ⟨h2, h⟩ := dm_sq_ok h
  obtain ⟨h3, h⟩ := dm_sq_ok h
  obtain ⟨h4, h5⟩ := dm_sq_ok h
  intro u u1 u2
  obtain rfl | rfl | rfl | rfl : u = 2 ∨ u = 3 ∨ u = 4 ∨ u = 5 := by omega
  · exact h2
  · exact h3
  · exact h4
  · exact h5
/-- what the pure run has checked of a graph -/
def dm_Q (G H oF oN nU iD sZ eN rc C fR : Nat) : Prop :=
  dm_bfs oF oN H = fR ∧ fR ≠ 0 ∧ (∀ u, 2 ≤ u → u < 6 → dm_isC oF oN H fR nU u (dm_gt C u)) ∧ rc = dm_ones (dm_al G) + 2 ∧ (∀ u, 2 ≤ u → u < 6 → dm_ckB nU sZ (dm_al G) (dm_B G) u ≠ 0)
  ∧ (∀ u, 2 ≤ u → u < 6 → ∀ v, 2 ≤ v → v < 6 → dm_ckD nU eN sZ (dm_al G) (dm_B G) u v ≠ 0) ∧ (∀ v, 2 ≤ v → v < 6 → ∀ w, 2 ≤ w → w < 6 → dm_ckN nU eN sZ iD (dm_al G) (dm_B G) C v w ≠ 0)
theorem dm_fin_ok {G H oF oN nU iD sZ eN rc r : Nat} (hr : r ≠ 0) (h : dm_fin G H oF oN nU iD sZ eN rc = r) : ∃ C fR, dm_Q G H oF oN nU iD sZ eN rc C fR := by
  unfold dm_fin at h
  rw [dm_fc_eq, dm_fc_eq, dm_fc_eq, dm_fc_eq, dm_fc_eq, dm_fc_eq] at h
  obtain ⟨hb0, h⟩ := dm_nz_ok h hr
  obtain ⟨c0, i0, h⟩ := dm_mkC_ok hr h
  obtain ⟨c1, i1, h⟩ := dm_mkC_ok hr h
  obtain ⟨c2, i2, h⟩ := dm_mkC_ok hr h
  obtain ⟨c3, i3, h⟩ := dm_mkC_ok hr h
  rw [dm_fc_eq, dm_eqq_if] at h
  by_cases hrc : rc = Nat.add (dm_ones (dm_reach G 15)) 2
  · rw [if_pos hrc] at h
    obtain ⟨hB, h⟩ := dm_sq_ok (by rw [h]; exact hr)
    obtain ⟨hD, hN⟩ := dm_sq_ok h
    refine ⟨dm_st (dm_st (dm_st (dm_st 0 2 c0) 3 c1) 4 c2) 5 c3, dm_bfs oF oN H, rfl, hb0, ?_, hrc, dm_for_ok hB, fun u u1 u2 => dm_for_ok (dm_for_ok hD u u1 u2), fun v v1 v2 => dm_for_ok (dm_for_ok hN v v1 v2)⟩
    intro u u1 u2
    rw [dm_gtS i0.1 i1.1 i2.1 i3.1]
    obtain rfl | rfl | rfl | rfl : u = 2 ∨ u = 3 ∨ u = 4 ∨ u = 5 := by omega
    · exact i0
    · exact i1
    · exact i2
    · exact i3
  · rw [if_neg hrc] at h
    exact absurd h.symm hr
theorem dm_ckB_iff {nU sZ al B u : Nat} (ck : dm_ckB nU sZ al B u ≠ 0) : dm_gt nU u ≠ 0 ∧ (dm_tb al u ↔ 2 ≤ dm_gt nU u) := by
  obtain ⟨r, hr, h⟩ := dm_ex _ ck
  unfold dm_ckB at h
  obtain ⟨g, h⟩ := dm_rd_gt h hr
  refine ⟨g, ?_⟩
  by_cases tb : dm_tb al u
  · rw [dm_bt_t tb, dm_lq_if] at h
    by_cases c1 : 2 ≤ dm_gt nU u
    · exact ⟨fun _ => c1, fun _ => tb⟩
    · rw [if_neg c1] at h
      exact absurd h.symm hr
  · rw [dm_bt_f tb, dm_lq_if] at h
    by_cases c1 : 2 ≤ dm_gt nU u
    · rw [if_pos c1] at h
      exact absurd h.symm hr
    · exact ⟨fun z => absurd z tb, fun z => absurd z c1⟩
section
variable {lp : Int32 → St0 → Prop} {mc ms kc ks : Nat} {g : Int32} {ed re cu qd fa : Int32} {a1 a2 a3 a4 a5 a6 a7 a8 a9 a10 a11 a12 a13 a14 a15 a16 a17 a18 a19 a20 a21 a22 a23 a24 : Nat → Int32} {G H oF oN nU iD sZ eN rc C fR v w : Nat}
theorem dm_k334 {x8 : Int32} (hl : lp 1 ()) (hF : dm_F H oF oN nU iD sZ eN rc (4, ed, dm_dc rc, 1, qd, fa, a1, a2, a3, a4, a5, a6, a7, a8, a9, a10, a11, a12, a13, a14, a15, a16, a17, a18, a19, a20, a21, a22, a23, a24)) (v1 : 2 ≤ v) (v2 : v < 6) (w1 : 2 ≤ w) (w2 : w < 6) (gv : dm_gt nU v ≠ 0) (gw : dm_gt nU w ≠ 0)
    (hn : ¬ (2 ≤ dm_gt nU v ∧ 2 ≤ dm_gt nU w)) : wL_lawOf_335 lp mc ms (dm_dc v) (dm_dc w) x8 0 kc ks 4 ed (dm_dc rc) 1 qd fa a1 a2 a3 a4 a5 a6 a7 a8 a9 a10 a11 a12 a13 a14 a15 a16 a17 a18 a19 a20 a21 a22 a23 a24 := by
  unfold wL_lawOf_335
  refine dm_qnear hF v1 v2 w1 w2 gv gw (fun _ => ?_) (fun a b => absurd ⟨a, b⟩ hn)
  dsimp only
  refine br_t rfl ?_
  unfold wL_lawOf_357
  exact br_t rfl hl
theorem dm_k335 {near r : Nat} (hr : r ≠ 0) (hl : lp 1 ()) (hF : dm_F H oF oN nU iD sZ eN rc (4, ed, dm_dc rc, 1, qd, fa, a1, a2, a3, a4, a5, a6, a7, a8, a9, a10, a11, a12, a13, a14, a15, a16, a17, a18, a19, a20, a21, a22, a23, a24)) (v1 : 2 ≤ v) (v2 : v < 6) (w1 : 2 ≤ w) (w2 : w < 6) (gv : 2 ≤ dm_gt nU v) (gw : 2 ≤ dm_gt nU w)
    (h : dm_near nU eN sZ iD w (fun x => dm_eqq x near 1 0) 5 v 2 = r) : wL_lawOf_335 lp mc ms (dm_dc v) (dm_dc w) (dm_dc near) 1 kc ks 4 ed (dm_dc rc) 1 qd fa a1 a2 a3 a4 a5 a6 a7 a8 a9 a10 a11 a12 a13 a14 a15 a16 a17 a18 a19 a20 a21 a22 a23 a24 := by
  unfold wL_lawOf_335
  refine dm_qnear hF v1 v2 w1 w2 (by omega) (by omega) (fun z => absurd ⟨gv, gw⟩ z) (fun _ _ => ⟨r, _, hr, h, fun x hx => ?_⟩)
  dsimp only
  refine br_f (by decide) ?_
  unfold wL_lawOf_357
  rw [dm_eqq_if] at hx
  by_cases e : x = near
  · exact br_t (by rw [e]) hl
  · rw [if_neg e] at hx
    exact absurd hx.symm hr
theorem dm_k296 {x8 z0 z1 x10 : Int32} (hl : lp 1 ()) (hQ : dm_Q G H oF oN nU iD sZ eN rc C fR) (hF : dm_F H oF oN nU iD sZ eN rc (4, ed, dm_dc rc, 1, qd, fa, a1, a2, a3, a4, a5, a6, a7, a8, a9, a10, a11, a12, a13, a14, a15, a16, a17, a18, a19, a20, a21, a22, a23, a24)) (v1 : 2 ≤ v) (v2 : v < 6) (w1 : 2 ≤ w) (w2 : w < 6)
    (hz : z1 = z0) (hx : (¬ dm_tb (dm_al G) v ∧ x10 = 0) ∨ (dm_tb (dm_al G) v ∧ x10 = 1 ∧ (dm_tb (dm_al G) w → ∃ near r, r ≠ 0 ∧ x8 = dm_dc near ∧ dm_near nU eN sZ iD w (fun x => dm_eqq x near 1 0) 5 v 2 = r))) :
    wL_lawOf_296 lp mc ms (dm_dc v) (dm_dc w) (nI (dm_al G)) x8 x10 z0 z1 kc ks 4 ed (dm_dc rc) 1 qd fa a1 a2 a3 a4 a5 a6 a7 a8 a9 a10 a11 a12 a13 a14 a15 a16 a17 a18 a19 a20 a21 a22 a23 a24 := by
  obtain ⟨hb, hb0, hC, hrc, hB, hD, hN⟩ := hQ
  obtain ⟨gv, iv⟩ := dm_ckB_iff (hB v v1 v2)
  obtain ⟨gw, iw⟩ := dm_ckB_iff (hB w w1 w2)
  unfold wL_lawOf_296
  refine br_t hz (dm_qcnt hF ?_)
  dsimp only
  unfold wpL_ones
  rw [dm_onesI _ (dm_al_lt G)]
  refine br_t (by rw [hrc]) ?_
  rcases hx with ⟨t, e⟩ | ⟨t, e, hw⟩
  · exact br_t e (dm_k334 hl hF v1 v2 w1 w2 gv gw (fun z => t (iv.mpr z.1)))
  · rw [e]
    refine br_f (by decide) ?_
    by_cases tw : dm_tb (dm_al G) w
    · obtain ⟨near, r, hr, ex, h⟩ := hw tw
      rw [ex]
      exact br_t ((dm_bit1 _ (dm_al_lt G) w w2 w1).mpr tw) (dm_k335 hr hl hF v1 v2 w1 w2 (iv.mp t) (iw.mp tw) h)
    · exact br_f (fun z => tw ((dm_bit1 _ (dm_al_lt G) w w2 w1).mp z)) (dm_k334 hl hF v1 v2 w1 w2 gv gw (fun z => tw (iw.mpr z.2)))
theorem dm_kend {cnt near r : Nat} (hr : r ≠ 0) (hl : lp 1 ()) (hQ : dm_Q G H oF oN nU iD sZ eN rc C fR) (hF : dm_F H oF oN nU iD sZ eN rc (4, ed, dm_dc rc, 1, qd, fa, a1, a2, a3, a4, a5, a6, a7, a8, a9, a10, a11, a12, a13, a14, a15, a16, a17, a18, a19, a20, a21, a22, a23, a24)) (v1 : 2 ≤ v) (v2 : v < 6) (w1 : 2 ≤ w) (w2 : w < 6)
    (h : dm_endN nU eN sZ iD (dm_al G) C v w cnt near = r) :
    (((nI (dm_al G) >>> (dm_dc v &&& 31)) &&& 1) = 1 → wL_lawOf_276 lp mc ms (dm_dc v) (dm_dc w) (nI (dm_al G)) (dm_dc cnt) (dm_dc near) 1 kc ks 4 ed (dm_dc rc) 1 qd fa a1 a2 a3 a4 a5 a6 a7 a8 a9 a10 a11 a12 a13 a14 a15 a16 a17 a18 a19 a20 a21 a22 a23 a24) ∧
    (¬ ((nI (dm_al G) >>> (dm_dc v &&& 31)) &&& 1) = 1 → wL_lawOf_276 lp mc ms (dm_dc v) (dm_dc w) (nI (dm_al G)) (dm_dc cnt) (dm_dc near) 0 kc ks 4 ed (dm_dc rc) 1 qd fa a1 a2 a3 a4 a5 a6 a7 a8 a9 a10 a11 a12 a13 a14 a15 a16 a17 a18 a19 a20 a21 a22 a23 a24) := by
  have hQ' := hQ
  obtain ⟨hb, hb0, hC, hrc, hB, hD, hN⟩ := hQ
  unfold dm_endN at h
  by_cases t : dm_tb (dm_al G) v
  · rw [dm_bt_t t, dm_eqq_if] at h
    refine br_t ((dm_bit1 _ (dm_al_lt G) v v2 v1).mpr t) ?_
    by_cases c1 : dm_gt C v = cnt
    · rw [if_pos c1] at h
      unfold wL_lawOf_276
      refine dm_qcom hF v1 v2 hb hb0 (hC v v1 v2) (fun s' hF' => ?_)
      have hF2 := hF'
      obtain ⟨a1, a2, a3, a4, a5, a6, a7, a8, a9, a10, a11, a12, a13, a14, a15, a16, a17, a18, a19, a20, a21, a22, a23, a24, ed, qd, fa, rfl, _⟩ := hF'
      dsimp only
      refine br_f (by decide) (dm_k296 hl hQ' hF2 v1 v2 w1 w2 (by rw [c1]) (Or.inr ⟨t, rfl, fun tw => ?_⟩))
      rw [dm_bt_t tw] at h
      exact ⟨near, r, hr, rfl, h⟩
    · rw [if_neg c1] at h
      exact absurd h.symm hr
  · rw [dm_bt_f t, dm_eqq_if] at h
    refine br_f (fun z => t ((dm_bit1 _ (dm_al_lt G) v v2 v1).mp z)) ?_
    by_cases c1 : dm_gt C v = 0
    · unfold wL_lawOf_276
      refine dm_qcom hF v1 v2 hb hb0 (hC v v1 v2) (fun s' hF' => ?_)
      have hF2 := hF'
      obtain ⟨a1, a2, a3, a4, a5, a6, a7, a8, a9, a10, a11, a12, a13, a14, a15, a16, a17, a18, a19, a20, a21, a22, a23, a24, ed, qd, fa, rfl, _⟩ := hF'
      dsimp only
      exact br_t rfl (dm_k296 hl hQ' hF2 v1 v2 w1 w2 (by rw [c1]; rfl) (Or.inl ⟨t, rfl⟩))
    · rw [if_neg c1] at h
      exact absurd h.symm hr
end
section
variable {lp : Int32 → St0 → Prop} {mc ms kc ks : Nat} {g : Int32} {ed re cu qd fa : Int32} {a1 a2 a3 a4 a5 a6 a7 a8 a9 a10 a11 a12 a13 a14 a15 a16 a17 a18 a19 a20 a21 a22 a23 a24 : Nat → Int32} {G H oF oN nU iD sZ eN rc C fR v w : Nat} {J : Int32 → Int32 → Int32 → Int32 → Int32 → Int32 → Int32 → Int32 → Int32 → Int32 → (Nat → Int32) → (Nat → Int32) → (Nat → Int32) → (Nat → Int32) → (Nat → Int32) → (Nat → Int32) → (Nat → Int32) → (Nat → Int32) → (Nat → Int32) → (Nat → Int32) → (Nat → Int32) → (Nat → Int32) → (Nat → Int32) → (Nat → Int32) → (Nat → Int32) → (Nat → Int32) → (Nat → Int32) → (Nat → Int32) → (Nat → Int32) → (Nat → Int32) → (Nat → Int32) → (Nat → Int32) → (Nat → Int32) → (Nat → Int32) → Prop} {u cnt near rank n r : Nat} {k : Nat → Nat → Nat}
theorem dm_k215a (hr : r ≠ 0) (hQ : dm_Q G H oF oN nU iD sZ eN rc C fR) (hF : dm_F H oF oN nU iD sZ eN rc (4, ed, dm_dc rc, 1, qd, fa, a1, a2, a3, a4, a5, a6, a7, a8, a9, a10, a11, a12, a13, a14, a15, a16, a17, a18, a19, a20, a21, a22, a23, a24)) (u1 : 2 ≤ u) (u2 : u < 6) (w1 : 2 ≤ w) (w2 : w < 6) (hk : rank < 16)
    (hJ : ∀ near' rank' ed qd fa b1 b2 b3 b4 b5 b6 b7 b8 b9 b10 b11 b12 b13 b14 b15 b16 b17 b18 b19 b20 b21 b22 b23 b24, dm_F H oF oN nU iD sZ eN rc (4, ed, dm_dc rc, 1, qd, fa, b1, b2, b3, b4, b5, b6, b7, b8, b9, b10, b11, b12, b13, b14, b15, b16, b17, b18, b19, b20, b21, b22, b23, b24) → rank' < 16 → dm_l97 (dm_B G) C v w k n (u + 1) cnt near' rank' = r → J (dm_dc cnt) (dm_dc near') (dm_dc rank') (dm_dc (u + 1)) 4 ed (dm_dc rc) 1 qd fa b1 b2 b3 b4 b5 b6 b7 b8 b9 b10 b11 b12 b13 b14 b15 b16 b17 b18 b19 b20 b21 b22 b23 b24)
    (h : dm_bt (dm_gt (dm_B G) u) w (dm_fc (dm_gt C u) fun c => dm_lq c rank (dm_l97 (dm_B G) C v w k n (Nat.succ u) cnt near rank) (dm_l97 (dm_B G) C v w k n (Nat.succ u) cnt u c)) (dm_l97 (dm_B G) C v w k n (Nat.succ u) cnt near rank) = r) :
    wL_lawOf_215 lp mc ms J g (dm_dc v) (dm_dc w) (nI (dm_al G)) (dm_dc cnt) (dm_dc near) (dm_dc rank) (dm_dc u) (nI (dm_gt (dm_B G) u)) 1 kc ks 4 ed (dm_dc rc) 1 qd fa a1 a2 a3 a4 a5 a6 a7 a8 a9 a10 a11 a12 a13 a14 a15 a16 a17 a18 a19 a20 a21 a22 a23 a24 := by
  obtain ⟨hb, hb0, hC, hrc, hB, hD, hN⟩ := hQ
  unfold wL_lawOf_215
  refine dm_qcom hF u1 u2 hb hb0 (hC u u1 u2) (fun s' hF' => ?_)
  have hF2 := hF'
  obtain ⟨a1, a2, a3, a4, a5, a6, a7, a8, a9, a10, a11, a12, a13, a14, a15, a16, a17, a18, a19, a20, a21, a22, a23, a24, ed, qd, fa, rfl, _⟩ := hF'
  dsimp only
  have lc := dm_gt_lt C u
  refine br_f (by decide) ?_
  by_cases t : dm_tb (dm_gt (dm_B G) u) w
  · rw [dm_bt_t t, dm_fc_eq, dm_lq_if] at h
    refine br_t ((dm_bit1 _ (dm_gt_lt _ _) w w2 w1).mpr t) ?_
    by_cases c1 : dm_gt C u ≤ rank
    · rw [if_pos c1] at h
      exact br_t ((dm_le (by omega) (by omega)).mpr c1) (nm_r (dm_s u) (hJ _ _ _ _ _ _ _ _ _ _ _ _ _ _ _ _ _ _ _ _ _ _ _ _ _ _ _ _ _ hF2 hk h))
    · rw [if_neg c1] at h
      exact br_f (fun z => c1 ((dm_le (by omega) (by omega)).mp z)) (nm_r (dm_s u) (hJ _ _ _ _ _ _ _ _ _ _ _ _ _ _ _ _ _ _ _ _ _ _ _ _ _ _ _ _ _ hF2 lc h))
  · rw [dm_bt_f t] at h
    exact br_f (fun z => t ((dm_bit1 _ (dm_gt_lt _ _) w w2 w1).mp z)) (nm_r (dm_s u) (hJ _ _ _ _ _ _ _ _ _ _ _ _ _ _ _ _ _ _ _ _ _ _ _ _ _ _ _ _ _ hF2 hk h))
theorem dm_k215b (hQ : dm_Q G H oF oN nU iD sZ eN rc C fR) (hF : dm_F H oF oN nU iD sZ eN rc (4, ed, dm_dc rc, 1, qd, fa, a1, a2, a3, a4, a5, a6, a7, a8, a9, a10, a11, a12, a13, a14, a15, a16, a17, a18, a19, a20, a21, a22, a23, a24)) (u1 : 2 ≤ u) (u2 : u < 6)
    (hJ : ∀ ed qd fa b1 b2 b3 b4 b5 b6 b7 b8 b9 b10 b11 b12 b13 b14 b15 b16 b17 b18 b19 b20 b21 b22 b23 b24, dm_F H oF oN nU iD sZ eN rc (4, ed, dm_dc rc, 1, qd, fa, b1, b2, b3, b4, b5, b6, b7, b8, b9, b10, b11, b12, b13, b14, b15, b16, b17, b18, b19, b20, b21, b22, b23, b24) → J (dm_dc cnt) (dm_dc near) (dm_dc rank) (dm_dc (u + 1)) 4 ed (dm_dc rc) 1 qd fa b1 b2 b3 b4 b5 b6 b7 b8 b9 b10 b11 b12 b13 b14 b15 b16 b17 b18 b19 b20 b21 b22 b23 b24) :
    wL_lawOf_215 lp mc ms J g (dm_dc v) (dm_dc w) (nI (dm_al G)) (dm_dc cnt) (dm_dc near) (dm_dc rank) (dm_dc u) (nI (dm_gt (dm_B G) u)) 0 kc ks 4 ed (dm_dc rc) 1 qd fa a1 a2 a3 a4 a5 a6 a7 a8 a9 a10 a11 a12 a13 a14 a15 a16 a17 a18 a19 a20 a21 a22 a23 a24 := by
  obtain ⟨hb, hb0, hC, hrc, hB, hD, hN⟩ := hQ
  unfold wL_lawOf_215
  refine dm_qcom hF u1 u2 hb hb0 (hC u u1 u2) (fun s' hF' => ?_)
  have hF2 := hF'
  obtain ⟨a1, a2, a3, a4, a5, a6, a7, a8, a9, a10, a11, a12, a13, a14, a15, a16, a17, a18, a19, a20, a21, a22, a23, a24, ed, qd, fa, rfl, _⟩ := hF'
  dsimp only
  exact br_t rfl (nm_r (dm_s u) (hJ _ _ _ _ _ _ _ _ _ _ _ _ _ _ _ _ _ _ _ _ _ _ _ _ _ _ _ hF2))
theorem dm_k144 {z0 z1 : Int32} (hr : r ≠ 0) (hQ : dm_Q G H oF oN nU iD sZ eN rc C fR) (hF : dm_F H oF oN nU iD sZ eN rc (4, ed, dm_dc rc, 1, qd, fa, a1, a2, a3, a4, a5, a6, a7, a8, a9, a10, a11, a12, a13, a14, a15, a16, a17, a18, a19, a20, a21, a22, a23, a24)) (u1 : 2 ≤ u) (u2 : u < 6) (v1 : 2 ≤ v) (v2 : v < 6) (w1 : 2 ≤ w) (w2 : w < 6) (hk : rank < 16) (hz : z1 = z0)
    (hJ : ∀ cnt' near' rank' ed qd fa b1 b2 b3 b4 b5 b6 b7 b8 b9 b10 b11 b12 b13 b14 b15 b16 b17 b18 b19 b20 b21 b22 b23 b24, dm_F H oF oN nU iD sZ eN rc (4, ed, dm_dc rc, 1, qd, fa, b1, b2, b3, b4, b5, b6, b7, b8, b9, b10, b11, b12, b13, b14, b15, b16, b17, b18, b19, b20, b21, b22, b23, b24) → rank' < 16 → dm_l97 (dm_B G) C v w k n (u + 1) cnt' near' rank' = r → J (dm_dc cnt') (dm_dc near') (dm_dc rank') (dm_dc (u + 1)) 4 ed (dm_dc rc) 1 qd fa b1 b2 b3 b4 b5 b6 b7 b8 b9 b10 b11 b12 b13 b14 b15 b16 b17 b18 b19 b20 b21 b22 b23 b24)
    (h : dm_l97 (dm_B G) C v w k (n + 1) u cnt near rank = r) :
    wL_lawOf_144 lp mc ms J g (dm_dc v) (dm_dc w) (nI (dm_al G)) (dm_dc cnt) (dm_dc near) (dm_dc rank) (dm_dc u) (nI (dm_gt (dm_B G) u)) z0 z1 kc ks 4 ed (dm_dc rc) 1 qd fa a1 a2 a3 a4 a5 a6 a7 a8 a9 a10 a11 a12 a13 a14 a15 a16 a17 a18 a19 a20 a21 a22 a23 a24 := by
  have hQ' := hQ
  obtain ⟨hb, hb0, hC, hrc, hB, hD, hN⟩ := hQ
  have h : dm_l97S (dm_B G) C v w k (dm_l97 (dm_B G) C v w k n) u cnt near rank = r := h
  unfold dm_l97S at h
  rw [dm_lq_if, if_neg (by omega), dm_fc_eq, dm_fc_eq] at h
  unfold wL_lawOf_144
  refine br_t hz ?_
  have ck := hD u u1 u2 v v1 v2
  by_cases t : dm_tb (dm_gt (dm_B G) u) v
  · rw [dm_bt_t t, dm_fc_eq] at h
    refine br_t ((dm_bit1 _ (dm_gt_lt _ _) v v2 v1).mpr t) ?_
    have h190 : ∀ z : Int32, (dm_tb (dm_al G) v → z = 1) → (¬ dm_tb (dm_al G) v → z = -2) → wL_lawOf_190 lp mc ms J g (dm_dc v) (dm_dc w) (nI (dm_al G)) (dm_dc cnt) (dm_dc near) (dm_dc rank) (dm_dc u) (nI (dm_gt (dm_B G) u)) 1 z kc ks 4 ed (dm_dc rc) 1 qd fa a1 a2 a3 a4 a5 a6 a7 a8 a9 a10 a11 a12 a13 a14 a15 a16 a17 a18 a19 a20 a21 a22 a23 a24 := by
      intro z z1 z2
      unfold wL_lawOf_190
      have k215 := dm_k215a (lp := lp) (mc := mc) (ms := ms) (kc := kc) (ks := ks) (g := g) (cnt := cnt + 1) (near := near) hr hQ' hF u1 u2 w1 w2 hk (hJ (cnt + 1)) h
      refine dm_qdom hF u1 u2 v1 v2 ck (fun a => ?_) (fun a b => ?_) (fun a b => absurd t b)
      · dsimp only
        exact br_t (z2 a).symm (br_f (by decide) (nm_r (dm_s cnt) k215))
      · dsimp only
        exact br_t (z1 a).symm (br_f (by decide) (nm_r (dm_s cnt) k215))
    unfold wL_lawOf_164
    by_cases a : dm_tb (dm_al G) v
    · exact br_f (fun z => (dm_bit0 _ (dm_al_lt G) v v2 v1).mp z a) (br_f (by decide) (h190 1 (fun _ => rfl) (fun b => absurd a b)))
    · exact br_t ((dm_bit0 _ (dm_al_lt G) v v2 v1).mpr a) (h190 (-2) (fun b => absurd b a) (fun _ => rfl))
  · rw [dm_bt_f t] at h
    refine br_f (fun z => t ((dm_bit1 _ (dm_gt_lt _ _) v v2 v1).mp z)) ?_
    have h190 : ∀ z : Int32, (dm_tb (dm_al G) v → z = 0) → (¬ dm_tb (dm_al G) v → z = -2) → wL_lawOf_190 lp mc ms J g (dm_dc v) (dm_dc w) (nI (dm_al G)) (dm_dc cnt) (dm_dc near) (dm_dc rank) (dm_dc u) (nI (dm_gt (dm_B G) u)) 0 z kc ks 4 ed (dm_dc rc) 1 qd fa a1 a2 a3 a4 a5 a6 a7 a8 a9 a10 a11 a12 a13 a14 a15 a16 a17 a18 a19 a20 a21 a22 a23 a24 := by
      intro z z1 z2
      unfold wL_lawOf_190
      have k215 := dm_k215b (lp := lp) (mc := mc) (ms := ms) (kc := kc) (ks := ks) (g := g) (J := J) (v := v) (w := w) (cnt := cnt) (near := near) (rank := rank) hQ' hF u1 u2 (fun ed qd fa b1 b2 b3 b4 b5 b6 b7 b8 b9 b10 b11 b12 b13 b14 b15 b16 b17 b18 b19 b20 b21 b22 b23 b24 hF => hJ cnt near rank ed qd fa b1 b2 b3 b4 b5 b6 b7 b8 b9 b10 b11 b12 b13 b14 b15 b16 b17 b18 b19 b20 b21 b22 b23 b24 hF hk h)
      refine dm_qdom hF u1 u2 v1 v2 ck (fun a => ?_) (fun a b => absurd b t) (fun a b => ?_)
      · dsimp only
        exact br_t (z2 a).symm (br_t rfl k215)
      · dsimp only
        exact br_t (z1 a).symm (br_t rfl k215)
    unfold wL_lawOf_164
    by_cases a : dm_tb (dm_al G) v
    · exact br_f (fun z => (dm_bit0 _ (dm_al_lt G) v v2 v1).mp z a) (br_t rfl (h190 0 (fun _ => rfl) (fun b => absurd a b)))
    · exact br_t ((dm_bit0 _ (dm_al_lt G) v v2 v1).mpr a) (h190 (-2) (fun b => absurd b a) (fun _ => rfl))
end
section
variable {lp : Int32 → St0 → Prop} {mc ms kc ks : Nat} {g : Int32} {G H oF oN nU iD sZ eN rc C fR v w r : Nat}
theorem dm_k97 (hr : r ≠ 0) (hl : lp 1 ()) (hG : dm_HG g G) (hQ : dm_Q G H oF oN nU iD sZ eN rc C fR) (v1 : 2 ≤ v) (v2 : v < 6) (w1 : 2 ≤ w) (w2 : w < 6) :
    ∀ (n u cnt near rank : Nat) (ed qd fa : Int32) (a1 a2 a3 a4 a5 a6 a7 a8 a9 a10 a11 a12 a13 a14 a15 a16 a17 a18 a19 a20 a21 a22 a23 a24 : Nat → Int32), dm_F H oF oN nU iD sZ eN rc (4, ed, dm_dc rc, 1, qd, fa, a1, a2, a3, a4, a5, a6, a7, a8, a9, a10, a11, a12, a13, a14, a15, a16, a17, a18, a19, a20, a21, a22, a23, a24) → 2 ≤ u → u ≤ 6 → rank < 16 →
      dm_l97 (dm_B G) C v w (fun cnt near => dm_endN nU eN sZ iD (dm_al G) C v w cnt near) n u cnt near rank = r →
      wL_lawOf_97 lp mc ms g (dm_dc v) (dm_dc w) (nI (dm_al G)) kc ks n (dm_dc cnt) (dm_dc near) (dm_dc rank) (dm_dc u) 4 ed (dm_dc rc) 1 qd fa a1 a2 a3 a4 a5 a6 a7 a8 a9 a10 a11 a12 a13 a14 a15 a16 a17 a18 a19 a20 a21 a22 a23 a24 := by
  intro n
  induction n with
  | zero => exact fun u cnt near rank ed qd fa a1 a2 a3 a4 a5 a6 a7 a8 a9 a10 a11 a12 a13 a14 a15 a16 a17 a18 a19 a20 a21 a22 a23 a24 _ _ _ _ h => absurd h.symm hr
  | succ n ih =>
    intro u cnt near rank ed qd fa a1 a2 a3 a4 a5 a6 a7 a8 a9 a10 a11 a12 a13 a14 a15 a16 a17 a18 a19 a20 a21 a22 a23 a24 hF u1 u2 hk h
    by_cases c1 : 6 ≤ u
    · have h : dm_l97S (dm_B G) C v w (fun cnt near => dm_endN nU eN sZ iD (dm_al G) C v w cnt near) (dm_l97 (dm_B G) C v w (fun cnt near => dm_endN nU eN sZ iD (dm_al G) C v w cnt near) n) u cnt near rank = r := h
      unfold dm_l97S at h
      rw [dm_lq_if, if_pos c1] at h
      exact br_t ((dm_ge4 (by omega)).mpr c1) (dm_kend hr hl hQ hF v1 v2 w1 w2 h)
    · refine br_f (fun z => c1 ((dm_ge4 (by omega)).mp z)) (dm_rch hG u1 (by omega) (nm_r (dm_x11 G u u1 (by omega)) ?_))
      have k144 := fun (z0 : Int32) (e : ∀ z1 : Int32, z1 = z0 → z1 = z0) => dm_k144 (lp := lp) (mc := mc) (ms := ms) (kc := kc) (ks := ks) (g := g) (z0 := z0) (z1 := z0) (cnt := cnt) (near := near) hr hQ hF u1 (by omega) v1 v2 w1 w2 hk rfl
        (fun cnt' near' rank' ed qd fa b1 b2 b3 b4 b5 b6 b7 b8 b9 b10 b11 b12 b13 b14 b15 b16 b17 b18 b19 b20 b21 b22 b23 b24 hF hk h => ih (u + 1) cnt' near' rank' ed qd fa b1 b2 b3 b4 b5 b6 b7 b8 b9 b10 b11 b12 b13 b14 b15 b16 b17 b18 b19 b20 b21 b22 b23 b24 hF (by omega) (by omega) hk h) h
      refine dm_qbelow1 hF u1 (by omega) (hQ.2.2.2.2.1 u u1 (by omega)) (fun t => ?_) (fun t => ?_)
      · dsimp only
        refine br_t ((dm_bit1 _ (dm_al_lt G) u (by omega) u1).mpr t) ?_
        unfold wpL_ones
        rw [dm_onesI _ (dm_gt_lt _ _)]
        exact k144 _ (fun _ e => e)
      · dsimp only
        exact br_f (fun z => t ((dm_bit1 _ (dm_al_lt G) u (by omega) u1).mp z)) (k144 _ (fun _ e => e))
/-- the first round of the law's loop: the object isn't refreshed yet -/
theorem dm_k970 {T ec : Nat} {re qd fa : Int32} {a1 a2 a3 a4 a5 a6 a7 a8 a9 a10 a11 a12 a13 a14 a15 a16 a17 a18 a19 a20 a21 a22 a23 a24 : Nat → Int32} (hr : r ≠ 0) (hl : lp 1 ()) (hG : dm_HG g G) (v1 : 2 ≤ v) (v2 : v < 6) (w1 : 2 ≤ w) (w2 : w < 6) (hT : dm_R T a1) (hH : dm_R H a2) (hec : 2 ≤ ec) (hec2 : ec < 16)
    (h : (dm_refr T H ec fun oF oN nU iD sZ eN rc => dm_fin G H oF oN nU iD sZ eN rc) = r) :
    ∃ n, wL_lawOf_97 lp mc ms g (dm_dc v) (dm_dc w) (nI (dm_al G)) kc ks n 0 0 0 0 4 (dm_dc ec) re 0 qd fa a1 a2 a3 a4 a5 a6 a7 a8 a9 a10 a11 a12 a13 a14 a15 a16 a17 a18 a19 a20 a21 a22 a23 a24 := by
  refine ⟨5, ?_⟩
  refine br_f (dm_n4 (c := 2) (by omega)) (dm_rch (u := 2) hG (by omega) (by omega) (nm_r (dm_x11 G 2 (by omega) (by omega)) ?_))
  have k144 : ∀ oF oN nU iD sZ eN rc (z0 ed qd fa : Int32) (a1 a2 a3 a4 a5 a6 a7 a8 a9 a10 a11 a12 a13 a14 a15 a16 a17 a18 a19 a20 a21 a22 a23 a24 : Nat → Int32), dm_F H oF oN nU iD sZ eN rc (4, ed, dm_dc rc, 1, qd, fa, a1, a2, a3, a4, a5, a6, a7, a8, a9, a10, a11, a12, a13, a14, a15, a16, a17, a18, a19, a20, a21, a22, a23, a24) → dm_fin G H oF oN nU iD sZ eN rc = r →
      wL_lawOf_144 lp mc ms (wL_lawOf_97 lp mc ms g (dm_dc v) (dm_dc w) (nI (dm_al G)) kc ks 4) g (dm_dc v) (dm_dc w) (nI (dm_al G)) (dm_dc 2) (dm_dc 2) (dm_dc 2) (dm_dc 2) (nI (dm_gt (dm_B G) 2)) z0 z0 kc ks 4 ed (dm_dc rc) 1 qd fa a1 a2 a3 a4 a5 a6 a7 a8 a9 a10 a11 a12 a13 a14 a15 a16 a17 a18 a19 a20 a21 a22 a23 a24 := by
    intro oF oN nU iD sZ eN rc z0 ed qd fa a1 a2 a3 a4 a5 a6 a7 a8 a9 a10 a11 a12 a13 a14 a15 a16 a17 a18 a19 a20 a21 a22 a23 a24 hF h
    obtain ⟨C, fR, hQ⟩ := dm_fin_ok hr h
    obtain ⟨r2, hr2, h2⟩ := dm_ex _ (hQ.2.2.2.2.2.2 v v1 v2 w w1 w2)
    exact dm_k144 (lp := lp) (mc := mc) (ms := ms) (kc := kc) (ks := ks) (g := g) (z0 := z0) (z1 := z0) (cnt := 2) (near := 2) (rank := 2) hr2 hQ hF (by omega) (by omega) v1 v2 w1 w2 (by omega) rfl
      (fun cnt' near' rank' ed qd fa b1 b2 b3 b4 b5 b6 b7 b8 b9 b10 b11 b12 b13 b14 b15 b16 b17 b18 b19 b20 b21 b22 b23 b24 hF hk h => dm_k97 hr2 hl hG hQ v1 v2 w1 w2 4 3 cnt' near' rank' ed qd fa b1 b2 b3 b4 b5 b6 b7 b8 b9 b10 b11 b12 b13 b14 b15 b16 b17 b18 b19 b20 b21 b22 b23 b24 hF (by omega) (by omega) hk h) h2
  refine dm_qbelow0 (al := dm_al G) (B := dm_B G) (p := 2) hr hT hH (by omega) hec2 (by omega) (by omega) (fun oF oN nU iD sZ eN rc h => ?_) (fun oF oN nU iD sZ eN rc s r1 r2 hF h t => ?_) (fun oF oN nU iD sZ eN rc s r1 r2 hF h t => ?_) h
  · obtain ⟨C, fR, hQ⟩ := dm_fin_ok hr h
    exact hQ.2.2.2.2.1 2 (by omega) (by omega)
  · have hF2 := hF
    obtain ⟨a1, a2, a3, a4, a5, a6, a7, a8, a9, a10, a11, a12, a13, a14, a15, a16, a17, a18, a19, a20, a21, a22, a23, a24, ed, qd, fa, rfl, _⟩ := hF
    dsimp only
    refine br_t ((dm_bit1 _ (dm_al_lt G) 2 (by omega) (by omega)).mpr t) ?_
    unfold wpL_ones
    rw [dm_onesI _ (dm_gt_lt _ _)]
    exact k144 _ _ _ _ _ _ _ _ _ _ _ _ _ _ _ _ _ _ _ _ _ _ _ _ _ _ _ _ _ _ _ _ _ _ _ hF2 h
  · have hF2 := hF
    obtain ⟨a1, a2, a3, a4, a5, a6, a7, a8, a9, a10, a11, a12, a13, a14, a15, a16, a17, a18, a19, a20, a21, a22, a23, a24, ed, qd, fa, rfl, _⟩ := hF
    dsimp only
    exact br_f (fun z => t ((dm_bit1 _ (dm_al_lt G) 2 (by omega) (by omega)).mp z)) (k144 _ _ _ _ _ _ _ _ _ _ _ _ _ _ _ _ _ _ _ _ _ _ _ _ _ _ _ _ _ _ _ _ _ _ _ hF2 h)
end
end
section
/-! The pure run answers 1 on each of the 4096 graphs: the kernel runs it -/
theorem dm_k00_ck : dm_all 256 0 = true := by decide +kernel
theorem dm_k01_ck : dm_all 256 256 = true := by decide +kernel
theorem dm_k02_ck : dm_all 256 512 = true := by decide +kernel
theorem dm_k03_ck : dm_all 256 768 = true := by decide +kernel
theorem dm_k04_ck : dm_all 256 1024 = true := by decide +kernel
theorem dm_k05_ck : dm_all 256 1280 = true := by decide +kernel
theorem dm_k06_ck : dm_all 256 1536 = true := by decide +kernel
theorem dm_k07_ck : dm_all 256 1792 = true := by decide +kernel
theorem dm_k08_ck : dm_all 256 2048 = true := by decide +kernel
theorem dm_k09_ck : dm_all 256 2304 = true := by decide +kernel
theorem dm_k10_ck : dm_all 256 2560 = true := by decide +kernel
theorem dm_k11_ck : dm_all 256 2816 = true := by decide +kernel
theorem dm_k12_ck : dm_all 256 3072 = true := by decide +kernel
theorem dm_k13_ck : dm_all 256 3328 = true := by decide +kernel
theorem dm_k14_ck : dm_all 256 3584 = true := by decide +kernel
theorem dm_k15_ck : dm_all 256 3840 = true := by decide +kernel
theorem dm_all_ok : ∀ n g, dm_all n g = true → ∀ i, i < n → dm_ck (g + i) = 1 := by
  intro n
  induction n with
  | zero => exact fun g _ i hi => absurd hi (Nat.not_lt_zero i)
  | succ n ih =>
    intro g h i hi
    have h : Bool.rec (motive := fun _ => Bool) false (dm_all n (Nat.succ g)) (Nat.beq (dm_ck g) 1) = true := h
    cases e : Nat.beq (dm_ck g) 1 with
    | false =>
      rw [e] at h
      exact absurd h Bool.false_ne_true
    | true =>
      rw [e] at h
      cases i with
      | zero => exact Nat.eq_of_beq_eq_true e
      | succ j =>
        have q := ih (Nat.succ g) h j (by omega)
        rw [show g + (j + 1) = Nat.succ g + j by omega]
        exact q
theorem dm_ck_all (G : Nat) (hG : G < 4096) : dm_ck G = 1 := by
  have key : ∀ q : Nat, dm_all 256 (256 * q) = true → G / 256 = q → dm_ck G = 1 := by
    intro q hq e
    have h := dm_all_ok 256 (256 * q) hq (G % 256) (Nat.mod_lt _ (by decide))
    rw [show 256 * q + G % 256 = G by omega] at h
    exact h
  have hq : G / 256 < 16 := by omega
  obtain e | e | e | e | e | e | e | e | e | e | e | e | e | e | e | e : G / 256 = 0 ∨ G / 256 = 1 ∨ G / 256 = 2 ∨ G / 256 = 3 ∨ G / 256 = 4 ∨ G / 256 = 5 ∨ G / 256 = 6 ∨ G / 256 = 7 ∨ G / 256 = 8 ∨ G / 256 = 9 ∨ G / 256 = 10 ∨ G / 256 = 11 ∨ G / 256 = 12 ∨ G / 256 = 13 ∨ G / 256 = 14 ∨ G / 256 = 15 := by omega
  · exact key 0 dm_k00_ck e
  · exact key 1 dm_k01_ck e
  · exact key 2 dm_k02_ck e
  · exact key 3 dm_k03_ck e
  · exact key 4 dm_k04_ck e
  · exact key 5 dm_k05_ck e
  · exact key 6 dm_k06_ck e
  · exact key 7 dm_k07_ck e
  · exact key 8 dm_k08_ck e
  · exact key 9 dm_k09_ck e
  · exact key 10 dm_k10_ck e
  · exact key 11 dm_k11_ck e
  · exact key 12 dm_k12_ck e
  · exact key 13 dm_k13_ck e
  · exact key 14 dm_k14_ck e
  · exact key 15 dm_k15_ck e
end
section
theorem dm_cell {P : Int32 → Prop} {L : Nat} {xs : Nat → Int32} (hL : L ≤ 3) (j : Nat) (hj : j < 3) (h : ∀ x, P x) : wpL_cellAt P L xs () (nI j) := by
  unfold wpL_cellAt
  by_cases c : L ≤ j
  · exact br_t (nI_le c (by omega)) (h 0)
  · exact br_f (nI_ge (by omega) (by omega)) ⟨vp_in_nI (by omega) (by omega), h _⟩
theorem dm_lawOf {lp : Int32 → St0 → Prop} (hl : lp 1 ()) (p0 p1 p2 : Int32) : wpL_lawOf lp 418 6672 () p0 p1 p2 := by
  obtain ⟨v, lv, ev⟩ := pk_andE p1 (m := 3) 2 (by decide)
  obtain ⟨w, lw, ew⟩ := pk_andE p2 (m := 3) 2 (by decide)
  obtain ⟨G, hG4, hG⟩ := dm_HG_ex p0
  have h := dm_ck_all G hG4
  unfold dm_ck at h
  unfold wpL_lawOf
  refine nm_r (ev.trans (dm_nI v).symm) (nm_r (ew.trans (dm_nI w).symm) ⟨by decide, by decide, 24, 721, by decide, by decide, ?_⟩)
  unfold wpX_init
  refine ⟨by decide, by decide, by decide, by decide, by decide, by decide, by decide, by decide, by decide, by decide, by decide, by decide, by decide, by decide, by decide, by decide, by decide, by decide, by decide, by decide, by decide, by decide, by decide, by decide, by decide, by decide, by decide, by decide, by decide, by decide, by decide, by decide, by decide, by decide, by decide, by decide, by decide, by decide, by decide, by decide, by decide, by decide, by decide, by decide, by decide, by decide, by decide, by decide, br_t (by decide) ?_⟩
  unfold wX_init_207
  refine br_t (by decide) ⟨5, ?_⟩
  exact dm_k22 (by decide) hG (fun T H ec b1 b2 g1 g2 e1 e2 h => dm_k970 (by decide) hl hG (by omega) (by omega) (by omega) (by omega) g1 g2 e1 e2 h) 5 2 0 0 2 _ _ (dm_R0 _) (dm_R0 _) (by decide) (by decide) (by decide) (by decide) h
theorem i_vc (xs : Nat → Int32) (L : Nat) (hL : L ≤ 3) : wpL_law (fun r => r = 1) L xs := by
  unfold wpL_law
  exact dm_cell hL 0 (by decide) (fun r1 => dm_cell hL 1 (by decide) (fun r2 => dm_cell hL 2 (by decide) (fun r3 => ⟨418, 6672, by decide, by decide, dm_lawOf rfl r1 r2 r3⟩)))
end
