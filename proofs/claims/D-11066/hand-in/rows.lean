section
/-! ===== the pure picture: naturals as tables, Bool in continuation style ===== -/
noncomputable def zq_if (b x y : Bool) : Bool := Bool.rec (motive := fun _ => Bool) y x b
theorem zq_if_t (x y : Bool) : zq_if true x y = x := rfl
theorem zq_if_f (x y : Bool) : zq_if false x y = y := rfl
theorem zq_ifE {b x y : Bool} (h : zq_if b x y = true) : (b = true ∧ x = true) ∨ (b = false ∧ y = true) := by
  cases b with
  | true => exact Or.inl ⟨rfl, h⟩
  | false => exact Or.inr ⟨rfl, h⟩
theorem zq_ifN {m n : Nat} {x y : Bool} (h : zq_if (Nat.beq m n) x y = true) : (m = n ∧ x = true) ∨ (m ≠ n ∧ y = true) := by
  rcases zq_ifE h with ⟨e, h⟩ | ⟨e, h⟩
  · exact Or.inl ⟨Nat.eq_of_beq_eq_true e, h⟩
  · exact Or.inr ⟨Nat.ne_of_beq_eq_false e, h⟩
theorem zq_ifL {m n : Nat} {x y : Bool} (h : zq_if (Nat.ble m n) x y = true) : (m ≤ n ∧ x = true) ∨ (n < m ∧ y = true) := by
  rcases zq_ifE h with ⟨e, h⟩ | ⟨e, h⟩
  · exact Or.inl ⟨Nat.le_of_ble_eq_true e, h⟩
  · refine Or.inr ⟨?_, h⟩
    rcases Nat.lt_or_ge n m with g | g
    · exact g
    · rw [Nat.ble_eq_true_of_le g] at e
      exact absurd e (by decide)
/-- forces a number before going on -/
noncomputable def zq_fz (n : Nat) (k : Nat → Bool) : Bool := Nat.rec (motive := fun _ => Bool) (k 0) (fun m _ => k (Nat.succ m)) n
theorem zq_fz_eq (n : Nat) (k : Nat → Bool) : zq_fz n k = k n := by cases n <;> rfl
/-- a guard: x is a place of an array -/
noncomputable def zq_gd (x : Nat) (b : Bool) : Bool := zq_if (Nat.ble x 9) b false
theorem zq_gd_el {x : Nat} {b : Bool} (h : zq_gd x b = true) : x < 10 ∧ b = true := by
  rcases zq_ifL h with ⟨e, h⟩ | ⟨e, h⟩
  · exact ⟨by omega, h⟩
  · exact absurd h (by decide)
/-! ===== Int32 by its bits (a family of the kit, turned) ===== -/
def zq_bt (x : Int32) (i : Nat) : Bool := x.toBitVec.getLsbD i
theorem zq_bext {x y : Int32} (h : ∀ i, i < 32 → zq_bt x i = zq_bt y i) : x = y := Int32.toBitVec_inj.mp (BitVec.eq_of_getLsbD_eq (fun i hi => h i hi))
theorem zq_band (x y : Int32) (i : Nat) : zq_bt (x &&& y) i = (zq_bt x i && zq_bt y i) := by unfold zq_bt; rw [Int32.toBitVec_and, BitVec.getLsbD_and]
theorem zq_sl : ∀ n, n < 32 → ((nI n &&& 31).toBitVec.smod 32).toNat = n := by decide +kernel
theorem zq_bsshr (n : Nat) (hn : n < 32) (x : Int32) {i : Nat} (hi : i < 32) : zq_bt (x >>> (nI n &&& 31)) i = if n + i < 32 then zq_bt x (n + i) else zq_bt x 31 := by
  unfold zq_bt
  rw [Int32.toBitVec_shiftRight]
  show (x.toBitVec.sshiftRight ((nI n &&& 31).toBitVec.smod 32).toNat).getLsbD i = _
  rw [zq_sl n hn, BitVec.getLsbD_sshiftRight, BitVec.msb_eq_getLsbD_last]
  simp [hi]
theorem zq_and (a b : Nat) : nI a &&& nI b = nI (a &&& b) := by
  apply Int32.toBitVec_inj.1
  show BitVec.ofNat 32 a &&& BitVec.ofNat 32 b = BitVec.ofNat 32 (a &&& b)
  apply BitVec.eq_of_getLsbD_eq
  intro i hi
  simp [hi]
theorem zq_or (a b : Nat) : nI a ||| nI b = nI (a ||| b) := by
  apply Int32.toBitVec_inj.1
  show BitVec.ofNat 32 a ||| BitVec.ofNat 32 b = BitVec.ofNat 32 (a ||| b)
  apply BitVec.eq_of_getLsbD_eq
  intro i hi
  simp [hi]
theorem zq_xor (a b : Nat) : nI a ^^^ nI b = nI (a ^^^ b) := by
  apply Int32.toBitVec_inj.1
  show BitVec.ofNat 32 a ^^^ BitVec.ofNat 32 b = BitVec.ofNat 32 (a ^^^ b)
  apply BitVec.eq_of_getLsbD_eq
  intro i hi
  simp [hi]
theorem zq_btn (n : Nat) {i : Nat} (hi : i < 32) : zq_bt (nI n) i = n.testBit i := by
  show (BitVec.ofNat 32 n).getLsbD i = n.testBit i
  rw [BitVec.getLsbD_ofNat, decide_eq_true hi, Bool.true_and]
theorem zq_bit (s : Nat) {v : Nat} (hv : v < 10) : ((nI s >>> (nI v &&& 31)) &&& 1) = nI ((s >>> v) % 2) := by
  apply zq_bext
  intro i hi
  have e2 : (s >>> v) % 2 = (s >>> v) % 2 ^ 1 := rfl
  rw [zq_band, zq_bsshr v (by omega) _ hi, zq_btn _ hi, e2, Nat.testBit_mod_two_pow, Nat.testBit_shiftRight]
  have e1 : zq_bt (1 : Int32) i = (1 : Nat).testBit i := zq_btn 1 hi
  rw [e1]
  by_cases h0 : i = 0
  · subst h0
    rw [if_pos (by omega), zq_btn _ (by omega)]
    simp
  · have : (1 : Nat).testBit i = false := Nat.testBit_lt_two_pow (Nat.one_lt_two_pow h0)
    rw [this, Bool.and_false, decide_eq_false (by omega), Bool.false_and]
def zq_tb (s v : Nat) : Bool := Nat.beq (Nat.mod (Nat.shiftRight s v) 2) 1
theorem zq_in1 {s v : Nat} (hv : v < 10) (h : zq_tb s v = true) : ((nI s >>> (nI v &&& 31)) &&& 1) = 1 := by
  have e : (s >>> v) % 2 = 1 := Nat.eq_of_beq_eq_true h
  rw [zq_bit s hv, e]
  rfl
theorem zq_in0 {s v : Nat} (hv : v < 10) (h : zq_tb s v = false) : ¬ ((nI s >>> (nI v &&& 31)) &&& 1) = 1 := by
  have e : (s >>> v) % 2 ≠ 1 := Nat.ne_of_beq_eq_false h
  have e0 : (s >>> v) % 2 = 0 := by omega
  rw [zq_bit s hv, e0]
  decide
theorem zq_inb {A B : Prop} {s v : Nat} (hv : v < 10) (hA : zq_tb s v = false → A) (hB : zq_tb s v = true → B) : wpX_in (fun r => (r = 0 → A) ∧ (¬ r = 0 → B)) () (nI s) (nI v) := by
  cases h : zq_tb s v with
  | true => exact br_t (zq_in1 hv h) (br_f (by decide) (hB h))
  | false => exact br_f (zq_in0 hv h) (br_t rfl (hA h))
theorem zq_sh1 : ∀ v, v < 10 → ((1 : Int32) <<< (nI v &&& 31)) = nI (Nat.shiftLeft 1 v) := by decide +kernel
theorem zq_orb (s : Nat) {v : Nat} (hv : v < 10) : nI s ||| ((1 : Int32) <<< (nI v &&& 31)) = nI (Nat.lor s (Nat.shiftLeft 1 v)) := by
  rw [zq_sh1 v hv, zq_or]
  rfl
/-- s without t -/
def zq_an (s t : Nat) : Nat := Nat.land s (Nat.xor t 4294967295)
theorem zq_m1 : (-1 : Int32) = nI 4294967295 := by decide +kernel
theorem zq_ann (s t : Nat) : nI s &&& (nI t ^^^ (-1)) = nI (zq_an s t) := by
  rw [zq_m1, zq_xor, zq_and]
  rfl
theorem zq_anb (s : Nat) {v : Nat} (hv : v < 10) : nI s &&& (((1 : Int32) <<< (nI v &&& 31)) ^^^ (-1)) = nI (zq_an s (Nat.shiftLeft 1 v)) := by
  rw [zq_sh1 v hv, zq_ann]
/-! ===== tables: cells of w bits in a natural ===== -/
def zq_gw (w m k : Nat) : Nat := (m >>> (w * k)) % 2 ^ w
def zq_sw (w m k v : Nat) : Nat := m ^^^ ((zq_gw w m k ^^^ v) <<< (w * k))
theorem zq_gw_lt (w m k : Nat) : zq_gw w m k < 2 ^ w := Nat.mod_lt _ (Nat.two_pow_pos w)
theorem zq_tbf {w v i : Nat} (hv : v < 2 ^ w) (h : w ≤ i) : v.testBit i = false :=
  Nat.testBit_lt_two_pow (Nat.lt_of_lt_of_le hv (Nat.pow_le_pow_right (by decide) h))
theorem zq_gsE {w m k v : Nat} (hv : v < 2 ^ w) : zq_gw w (zq_sw w m k v) k = v := by
  apply Nat.eq_of_testBit_eq
  intro i
  have e : (zq_gw w (zq_sw w m k v) k).testBit i = (decide (i < w) && (m.testBit (w * k + i) ^^ (decide (w * k + i ≥ w * k) && ((zq_gw w m k).testBit (w * k + i - w * k) ^^ v.testBit (w * k + i - w * k))))) := by
    rw [show zq_gw w (zq_sw w m k v) k = (zq_sw w m k v >>> (w * k)) % 2 ^ w from rfl, Nat.testBit_mod_two_pow, Nat.testBit_shiftRight]
    rw [show zq_sw w m k v = m ^^^ ((zq_gw w m k ^^^ v) <<< (w * k)) from rfl, Nat.testBit_xor, Nat.testBit_shiftLeft, Nat.testBit_xor]
  rw [e, Nat.add_sub_cancel_left, decide_eq_true (show w * k + i ≥ w * k by omega), Bool.true_and]
  by_cases hi : i < w
  · have g : (zq_gw w m k).testBit i = m.testBit (w * k + i) := by
      rw [show zq_gw w m k = (m >>> (w * k)) % 2 ^ w from rfl, Nat.testBit_mod_two_pow, Nat.testBit_shiftRight, decide_eq_true hi, Bool.true_and]
    rw [g, decide_eq_true hi, Bool.true_and]
    cases m.testBit (w * k + i) <;> cases v.testBit i <;> rfl
  · rw [decide_eq_false hi, Bool.false_and, zq_tbf hv (by omega)]
theorem zq_gsN {w m k v j : Nat} (hv : v < 2 ^ w) (hj : j ≠ k) : zq_gw w (zq_sw w m k v) j = zq_gw w m j := by
  apply Nat.eq_of_testBit_eq
  intro i
  have e : (zq_gw w (zq_sw w m k v) j).testBit i = (decide (i < w) && (m.testBit (w * j + i) ^^ (decide (w * j + i ≥ w * k) && ((zq_gw w m k).testBit (w * j + i - w * k) ^^ v.testBit (w * j + i - w * k))))) := by
    rw [show zq_gw w (zq_sw w m k v) j = (zq_sw w m k v >>> (w * j)) % 2 ^ w from rfl, Nat.testBit_mod_two_pow, Nat.testBit_shiftRight]
    rw [show zq_sw w m k v = m ^^^ ((zq_gw w m k ^^^ v) <<< (w * k)) from rfl, Nat.testBit_xor, Nat.testBit_shiftLeft, Nat.testBit_xor]
  have g : (zq_gw w m j).testBit i = (decide (i < w) && m.testBit (w * j + i)) := by
    rw [show zq_gw w m j = (m >>> (w * j)) % 2 ^ w from rfl, Nat.testBit_mod_two_pow, Nat.testBit_shiftRight]
  rw [e, g]
  by_cases hi : i < w
  · have z : (decide (w * j + i ≥ w * k) && ((zq_gw w m k).testBit (w * j + i - w * k) ^^ v.testBit (w * j + i - w * k))) = false := by
      rcases Nat.lt_or_ge j k with h | h
      · have h1 : w * (j + 1) ≤ w * k := Nat.mul_le_mul_left w h
        rw [Nat.mul_add, Nat.mul_one] at h1
        rw [decide_eq_false (by omega), Bool.false_and]
      · have h1 : w * (k + 1) ≤ w * j := Nat.mul_le_mul_left w (by omega)
        rw [Nat.mul_add, Nat.mul_one] at h1
        rw [zq_tbf (zq_gw_lt w m k) (by omega), zq_tbf hv (by omega)]
        exact Bool.and_false _
    rw [z, Bool.xor_false]
  · rw [decide_eq_false hi, Bool.false_and, Bool.false_and]
/-! ===== arrays of vertices: 15 stands for -1 ===== -/
def zq_gt (m k : Nat) : Nat := Nat.mod (Nat.shiftRight m (Nat.mul 4 k)) 16
def zq_st (m k v : Nat) : Nat := Nat.xor m (Nat.shiftLeft (Nat.xor (zq_gt m k) v) (Nat.mul 4 k))
theorem zq_gt_lt (m k : Nat) : zq_gt m k < 16 := Nat.mod_lt _ (by decide)
theorem zq_gsE4 {m k v : Nat} (hv : v < 16) : zq_gt (zq_st m k v) k = v := zq_gsE (w := 4) hv
theorem zq_gsN4 {m k v j : Nat} (hv : v < 16) (hj : j ≠ k) : zq_gt (zq_st m k v) j = zq_gt m j := zq_gsN (w := 4) hv hj
def zq_dv (n : Nat) : Int32 := if n = 15 then -1 else nI n
theorem zq_dv15 : zq_dv 15 = -1 := rfl
theorem zq_dvl {n : Nat} (h : n < 10) : zq_dv n = nI n := if_neg (by omega)
theorem zq_dvneg15 : zq_dv 15 < 0 := by decide
theorem zq_dvneg : ∀ n, n < 16 → n ≠ 15 → ¬ zq_dv n < 0 := by decide +kernel
theorem zq_dvpos : ∀ n, n < 16 → n ≠ 15 → 0 ≤ zq_dv n := by decide +kernel
theorem zq_dvpos15 : ¬ 0 ≤ zq_dv 15 := by decide
theorem zq_dvinj : ∀ a, a < 16 → ∀ b, b < 16 → a ≠ b → ¬ zq_dv a = zq_dv b := by decide +kernel
def zq_dn (n : Nat) : Int32 := if n = 15 then -2 else nI n
theorem zq_dnl {n : Nat} (h : n < 10) : zq_dn n = nI n := if_neg (by omega)
def zq_Ar (d : Nat → Int32) (a : Nat → Int32) (m : Nat) : Prop := ∀ k, k < 10 → a k = d (zq_gt m k)
abbrev zq_A (a : Nat → Int32) (m : Nat) : Prop := zq_Ar zq_dv a m
abbrev zq_F (a : Nat → Int32) (m : Nat) : Prop := zq_Ar zq_dn a m
theorem zq_Ar_put {d : Nat → Int32} {a : Nat → Int32} {m k v : Nat} {x : Int32} (h : zq_Ar d a m) (hk : k < 10) (hv : v < 16) (hx : x = d v) : zq_Ar d (upd a k x) (zq_st m k v) := by
  intro j hj
  by_cases e : j = k
  · rw [e, pk_us, zq_gsE4 hv, hx]
  · rw [pk_un e, zq_gsN4 hv e, h j hj]
theorem zq_A_rd {a : Nat → Int32} {m k : Nat} (h : zq_A a m) (hk : k < 10) (hg : zq_gt m k < 10) : a k = nI (zq_gt m k) := by
  rw [h k hk, zq_dvl hg]
def zq_Q (a : Nat → Int32) (Q wt : Nat) : Prop := wt ≤ 10 ∧ ∀ k, k < wt → a k = zq_dv (zq_gt Q k)
theorem zq_Q_put {a : Nat → Int32} {Q wt v : Nat} (h : zq_Q a Q wt) (hw : wt < 10) (hv : v < 10) : zq_Q (upd a wt (nI v)) (zq_st Q wt v) (Nat.succ wt) := by
  refine ⟨by omega, fun j hj => ?_⟩
  by_cases e : j = wt
  · rw [e, pk_us, zq_gsE4 (by omega), zq_dvl hv]
  · rw [pk_un e, zq_gsN4 (by omega) e, h.2 j (by omega)]
/-! ===== the edges: rows of 10 bits ===== -/
def zq_rw (m k : Nat) : Nat := Nat.mod (Nat.shiftRight m (Nat.mul 10 k)) 1024
def zq_rs (m k v : Nat) : Nat := Nat.xor m (Nat.shiftLeft (Nat.xor (zq_rw m k) v) (Nat.mul 10 k))
theorem zq_rsE {m k v : Nat} (hv : v < 1024) : zq_rw (zq_rs m k v) k = v := zq_gsE (w := 10) hv
theorem zq_rsN {m k v j : Nat} (hv : v < 1024) (hj : j ≠ k) : zq_rw (zq_rs m k v) j = zq_rw m j := zq_gsN (w := 10) hv hj
def zq_E (a : Nat → Int32) (m : Nat) : Prop := ∀ k, k < 10 → a k = nI (zq_rw m k)
theorem zq_E_put {a : Nat → Int32} {m k v : Nat} {x : Int32} (h : zq_E a m) (hk : k < 10) (hv : v < 1024) (hx : x = nI v) : zq_E (upd a k x) (zq_rs m k v) := by
  intro j hj
  by_cases e : j = k
  · rw [e, pk_us, zq_rsE hv, hx]
  · rw [pk_un e, zq_rsN hv e, h j hj]
/-! ===== small steps ===== -/
theorem zq_vi {n : Nat} (h : n < 10) : vp_in (nI n) 10 := vp_in_nI h (by decide)
theorem zq_cl {n : Nat} (h : n < 10) : (nI n).toNatClampNeg = n := nI_clamp (by omega)
theorem zq_lo {i : Nat} (h : i < 10) : ¬ (10 : Int32) ≤ nI i := nI_ge (a := i) (b := 10) h (by decide)
theorem zq_hi : (10 : Int32) ≤ nI 10 := by decide
theorem zq_ne {a b : Nat} (ha : a < 10) (hb : b < 10) (h : a ≠ b) : ¬ nI a = nI b := fun z => h ((nI_eq (by omega) (by omega)).mp z)
theorem zq_nn {n : Nat} (h : n < 10) : ¬ nI n < 0 := nI_pos (by omega)
theorem zq_np {n : Nat} (h : n < 10) : 0 ≤ nI n := nI_pos' (by omega)
end
section
section
variable {f0_on f0_among f0_barA f0_barB f0_even f0_waiting f0_marked f0_shrunk : Int32} {a1 a2 a3 a4 a5 a6 : Nat → Int32}
/-! ===== meetEven ===== -/
noncomputable def zq_me (ev wt Q v : Nat) (k : Nat → Nat → Nat → Bool) : Bool :=
  zq_if (zq_tb ev v) (k ev wt Q) (zq_gd wt (zq_fz (Nat.lor ev (Nat.shiftLeft 1 v)) fun ev' => zq_fz (zq_st Q wt v) fun Q' => zq_fz (Nat.succ wt) fun wt' => k ev' wt' Q'))
theorem zq_me_ok {post : St2 → Prop} {k : Nat → Nat → Nat → Bool} {ev wt Q v : Nat} (hv : v < 10) (hQ : zq_Q a5 Q wt) (h : zq_me ev wt Q v k = true)
    (hp : ∀ (ev' wt' Q' : Nat) (b5 : Nat → Int32), zq_Q b5 Q' wt' → k ev' wt' Q' = true → post (f0_on, f0_among, f0_barA, f0_barB, nI ev', nI wt', f0_marked, f0_shrunk, a1, a2, a3, a4, b5, a6)) :
    wpX_meetEven post (f0_on, f0_among, f0_barA, f0_barB, nI ev, nI wt, f0_marked, f0_shrunk, a1, a2, a3, a4, a5, a6) (nI v) := by
  unfold wpX_meetEven
  dsimp only
  simp only [zq_me, zq_fz_eq] at h
  refine zq_inb hv (fun hb => ?_) (fun hb => ?_)
  · rw [hb, zq_if_f] at h
    obtain ⟨hw, h⟩ := zq_gd_el h
    refine nm_r (zq_orb ev hv) ⟨zq_vi hw, nm_e (nm_r (nI_1 wt) (hp _ _ _ _ ?_ h))⟩
    rw [zq_cl hw]
    exact zq_Q_put hQ hw hv
  · rw [hb, zq_if_t] at h
    exact hp _ _ _ _ hQ h
/-! ===== commonBase ===== -/
noncomputable def zq_c2s (B M P seen : Nat) (k : Nat → Bool) (ih : Nat → Bool) (y : Nat) : Bool :=
  zq_gd y (zq_if (zq_tb seen y) (k y) (zq_fz (zq_gt M y) fun m => zq_gd m (zq_fz (zq_gt P m) fun p => zq_gd p (zq_fz (zq_gt B p) ih))))
noncomputable def zq_c2 (B M P seen : Nat) (k : Nat → Bool) (r : Nat) : Nat → Bool :=
  Nat.rec (motive := fun _ => Nat → Bool) (fun y => zq_gd y (k y)) (fun _ ih => zq_c2s B M P seen k ih) r
theorem zq_c2_ok {post : Int32 → Prop} {k : Nat → Bool} {B M P seen : Nat} (hM : zq_A a2 M) (hB : zq_A a3 B) (hP : zq_A a4 P) (hp : ∀ y, y < 10 → k y = true → post (nI y)) :
    ∀ (r i y : Nat), i + r = 10 → zq_c2 B M P seen k r y = true → wX_commonBase_81 post (nI seen) f0_on f0_among f0_barA f0_barB f0_even f0_waiting f0_marked f0_shrunk a1 a2 a3 a4 a5 a6 (r + 1) (zq_dv y) (nI i) := by
  intro r
  induction r with
  | zero =>
    intro i y hi h
    obtain rfl : i = 10 := by omega
    change zq_gd y (k y) = true at h
    obtain ⟨hy, h⟩ := zq_gd_el h
    rw [zq_dvl hy]
    exact br_t zq_hi (hp y hy h)
  | succ r ih =>
    intro i y hi h
    change zq_c2s B M P seen k (zq_c2 B M P seen k r) y = true at h
    simp only [zq_c2s, zq_fz_eq] at h
    obtain ⟨hy, h⟩ := zq_gd_el h
    rw [zq_dvl hy]
    refine br_f (zq_lo (by omega)) (zq_inb hy (fun hb => ?_) (fun hb => ?_))
    · rw [hb, zq_if_f] at h
      obtain ⟨hm, h⟩ := zq_gd_el h
      obtain ⟨hq, h⟩ := zq_gd_el h
      rw [zq_cl hy, zq_A_rd hM hy hm, zq_cl hm, zq_A_rd hP hm hq, zq_cl hq, hB _ hq]
      exact ⟨zq_vi hy, zq_vi hm, zq_vi hq, nm_e (nm_r (nI_1 i) (ih (i + 1) _ (by omega) h))⟩
    · rw [hb, zq_if_t] at h
      exact hp y hy h
noncomputable def zq_c1s (B M P : Nat) (k : Nat → Bool) (fin : Nat → Bool) (ih : Nat → Nat → Bool) (seen x : Nat) : Bool :=
  zq_if (Nat.beq x 15) (fin seen) (zq_gd x (zq_fz (zq_gt B x) fun b => zq_gd b (zq_fz (Nat.lor seen (Nat.shiftLeft 1 b)) fun s' => zq_fz (zq_gt M b) fun m => zq_if (Nat.beq m 15) (ih s' 15) (zq_gd m (zq_fz (zq_gt P m) (ih s'))))))
noncomputable def zq_c1 (B M P : Nat) (k : Nat → Bool) (fin : Nat → Bool) (r : Nat) : Nat → Nat → Bool :=
  Nat.rec (motive := fun _ => Nat → Nat → Bool) (fun seen _ => fin seen) (fun _ ih => zq_c1s B M P k fin ih) r
theorem zq_c1_ok {post : Int32 → Prop} {k : Nat → Bool} {B M P w : Nat} (hM : zq_A a2 M) (hB : zq_A a3 B) (hP : zq_A a4 P) (hw : w < 10) (hp : ∀ y, y < 10 → k y = true → post (nI y)) :
    ∀ (r i seen x : Nat), i + r = 10 → zq_c1 B M P k (fun s => zq_c2 B M P s k 10 (zq_gt B w)) r seen x = true → wX_commonBase_8 post (nI w) f0_on f0_among f0_barA f0_barB f0_even f0_waiting f0_marked f0_shrunk a1 a2 a3 a4 a5 a6 (r + 1) (nI seen) (zq_dv x) (nI i) := by
  have fin : ∀ seen, zq_c2 B M P seen k 10 (zq_gt B w) = true → vp_in (nI w) 10 ∧ ∀ x5_3 : Int32, x5_3 = a3 (nI w).toNatClampNeg → (∃ fu81 : Nat, wX_commonBase_81 post (nI seen) f0_on f0_among f0_barA f0_barB f0_even f0_waiting f0_marked f0_shrunk a1 a2 a3 a4 a5 a6 fu81 x5_3 0) := by
    intro seen h
    refine ⟨zq_vi hw, ?_⟩
    rw [zq_cl hw, hB w hw]
    exact nm_e ⟨11, zq_c2_ok hM hB hP hp 10 0 _ (by omega) h⟩
  intro r
  induction r with
  | zero =>
    intro i seen x hi h
    obtain rfl : i = 10 := by omega
    exact br_t zq_hi (fin seen h)
  | succ r ih =>
    intro i seen x hi h
    change zq_c1s B M P k (fun s => zq_c2 B M P s k 10 (zq_gt B w)) (zq_c1 B M P k (fun s => zq_c2 B M P s k 10 (zq_gt B w)) r) seen x = true at h
    simp only [zq_c1s, zq_fz_eq] at h
    refine br_f (zq_lo (by omega)) ?_
    rcases zq_ifN h with ⟨e, h⟩ | ⟨e, h⟩
    · subst e
      exact br_t zq_dvneg15 (fin seen h)
    · obtain ⟨hx, h⟩ := zq_gd_el h
      obtain ⟨hb, h⟩ := zq_gd_el h
      rw [zq_dvl hx]
      refine br_f (zq_nn hx) ?_
      rw [zq_cl hx, zq_A_rd hB hx hb]
      refine ⟨zq_vi hx, nm_e (nm_r (zq_orb seen hb) ⟨zq_vi hb, ?_⟩)⟩
      rw [zq_cl hb]
      rcases zq_ifN h with ⟨e, h⟩ | ⟨e, h⟩
      · rw [hM _ hb, e]
        exact br_f zq_dvpos15 (nm_r (nI_1 i) (ih (i + 1) _ 15 (by omega) h))
      · obtain ⟨hm, h⟩ := zq_gd_el h
        rw [zq_A_rd hM hb hm, zq_cl hm, hP _ hm]
        exact br_t (zq_np hm) ⟨zq_vi hb, zq_vi hm, nm_e (nm_r (nI_1 i) (ih (i + 1) _ _ (by omega) h))⟩
noncomputable def zq_cb (B M P v w : Nat) (k : Nat → Bool) : Bool := zq_c1 B M P k (fun s => zq_c2 B M P s k 10 (zq_gt B w)) 10 0 v
theorem zq_cb_ok {post : Int32 → Prop} {k : Nat → Bool} {B M P v w : Nat} (hM : zq_A a2 M) (hB : zq_A a3 B) (hP : zq_A a4 P) (hv : v < 10) (hw : w < 10) (h : zq_cb B M P v w k = true) (hp : ∀ y, y < 10 → k y = true → post (nI y)) :
    wpX_commonBase post (f0_on, f0_among, f0_barA, f0_barB, f0_even, f0_waiting, f0_marked, f0_shrunk, a1, a2, a3, a4, a5, a6) (nI v) (nI w) := by
  unfold wpX_commonBase
  dsimp only
  rw [← zq_dvl hv]
  exact ⟨11, zq_c1_ok hM hB hP hw hp 10 0 0 v (by omega) h⟩
/-! ===== markSide ===== -/
noncomputable def zq_mss (B M root : Nat) (k : Nat → Nat → Bool) (ih : Nat → Nat → Nat → Nat → Bool) (x fr sh P : Nat) : Bool :=
  zq_gd x (zq_fz (zq_gt B x) fun bx => zq_if (Nat.beq bx root) (k sh P) (zq_gd bx (zq_fz (zq_gt M x) fun m => zq_gd m (zq_fz (zq_gt B m) fun bm => zq_gd bm (zq_fz (Nat.lor sh (Nat.lor (Nat.shiftLeft 1 bx) (Nat.shiftLeft 1 bm))) fun sh' => zq_fz (zq_st P x fr) fun P' => zq_fz (zq_gt P' m) fun x' => ih x' m sh' P')))))
noncomputable def zq_ms (B M root : Nat) (k : Nat → Nat → Bool) (r : Nat) : Nat → Nat → Nat → Nat → Bool :=
  Nat.rec (motive := fun _ => Nat → Nat → Nat → Nat → Bool) (fun _ _ sh P => k sh P) (fun _ ih => zq_mss B M root k ih) r
theorem zq_ms_lp {post : St2 → Prop} {k : Nat → Nat → Bool} {B M root : Nat} (hM : zq_A a2 M) (hB : zq_A a3 B) (hr : root < 10)
    (hp : ∀ (sh P : Nat) (b4 : Nat → Int32), zq_A b4 P → k sh P = true → post (f0_on, f0_among, f0_barA, f0_barB, f0_even, f0_waiting, f0_marked, nI sh, a1, a2, a3, b4, a5, a6)) :
    ∀ (r i x fr sh P : Nat) (b4 : Nat → Int32), i + r = 10 → fr < 10 → zq_A b4 P → zq_ms B M root k r x fr sh P = true → wX_markSide_9 post (nI root) f0_on f0_among f0_barA f0_barB f0_even f0_waiting f0_marked (r + 1) (zq_dv x) (nI fr) (nI i) (nI sh) a1 a2 a3 b4 a5 a6 := by
  intro r
  induction r with
  | zero =>
    intro i x fr sh P b4 hi hf h4 h
    obtain rfl : i = 10 := by omega
    exact br_t zq_hi (hp sh P b4 h4 h)
  | succ r ih =>
    intro i x fr sh P b4 hi hf h4 h
    change zq_mss B M root k (zq_ms B M root k r) x fr sh P = true at h
    simp only [zq_mss, zq_fz_eq] at h
    obtain ⟨hx, h⟩ := zq_gd_el h
    rw [zq_dvl hx]
    refine br_f (zq_lo (by omega)) ⟨zq_vi hx, ?_⟩
    rw [zq_cl hx]
    rcases zq_ifN h with ⟨e, h⟩ | ⟨e, h⟩
    · rw [zq_A_rd hB hx (by omega)]
      exact br_t (by rw [e]) (hp sh P b4 h4 h)
    · obtain ⟨hbx, h⟩ := zq_gd_el h
      obtain ⟨hm, h⟩ := zq_gd_el h
      obtain ⟨hbm, h⟩ := zq_gd_el h
      rw [zq_A_rd hB hx hbx, zq_A_rd hM hx hm, zq_cl hm, zq_A_rd hB hm hbm]
      have e1 : nI sh ||| (((1 : Int32) <<< (nI (zq_gt B x) &&& 31)) ||| ((1 : Int32) <<< (nI (zq_gt B (zq_gt M x)) &&& 31))) = nI (Nat.lor sh (Nat.lor (Nat.shiftLeft 1 (zq_gt B x)) (Nat.shiftLeft 1 (zq_gt B (zq_gt M x))))) := by
        rw [zq_sh1 _ hbx, zq_sh1 _ hbm, zq_or, zq_or]
        rfl
      have h4' : zq_A (upd b4 x (nI fr)) (zq_st P x fr) := zq_Ar_put h4 hx (by omega) (zq_dvl hf).symm
      refine br_f (zq_ne hbx hr e) ⟨zq_vi hx, zq_vi hx, zq_vi hm, nm_r e1 ⟨zq_vi hx, nm_e ⟨zq_vi hx, nm_e ⟨zq_vi hx, zq_vi hm, ?_⟩⟩⟩⟩
      rw [h4' _ hm]
      exact nm_e (nm_r (nI_1 i) (ih (i + 1) _ _ _ _ _ (by omega) hm h4' h))
theorem zq_ms_ok {post : St2 → Prop} {k : Nat → Nat → Bool} {B M P root v w sh : Nat} (hM : zq_A a2 M) (hB : zq_A a3 B) (hP : zq_A a4 P) (hr : root < 10) (hv : v < 10) (hw : w < 10) (h : zq_ms B M root k 10 v w sh P = true)
    (hp : ∀ (sh P : Nat) (b4 : Nat → Int32), zq_A b4 P → k sh P = true → post (f0_on, f0_among, f0_barA, f0_barB, f0_even, f0_waiting, f0_marked, nI sh, a1, a2, a3, b4, a5, a6)) :
    wpX_markSide post (f0_on, f0_among, f0_barA, f0_barB, f0_even, f0_waiting, f0_marked, nI sh, a1, a2, a3, a4, a5, a6) (nI v) (nI root) (nI w) := by
  unfold wpX_markSide
  dsimp only
  rw [← zq_dvl hv]
  exact ⟨11, zq_ms_lp hM hB hr hp 10 0 v w sh P a4 (by omega) hw hP h⟩
/-! ===== shrink ===== -/
noncomputable def zq_sqs (am root sh : Nat) (ih : Nat → Nat → Nat → Nat → Nat → Bool) (x B ev wt Q : Nat) : Bool :=
  zq_fz (Nat.succ x) fun x' => zq_if (zq_tb am x) (zq_fz (zq_gt B x) fun b => zq_gd b (zq_if (zq_tb sh b) (zq_fz (zq_st B x root) fun B' => zq_me ev wt Q x (fun ev' wt' Q' => ih x' B' ev' wt' Q')) (ih x' B ev wt Q))) (ih x' B ev wt Q)
noncomputable def zq_sq (am root sh : Nat) (k : Nat → Nat → Nat → Nat → Bool) (r : Nat) : Nat → Nat → Nat → Nat → Nat → Bool :=
  Nat.rec (motive := fun _ => Nat → Nat → Nat → Nat → Nat → Bool) (fun _ B ev wt Q => k B ev wt Q) (fun _ ih => zq_sqs am root sh ih) r
theorem zq_sq_ok {post : St2 → Prop} {k : Nat → Nat → Nat → Nat → Bool} {am root sh : Nat} (hr : root < 10)
    (hp : ∀ (B ev wt Q : Nat) (b3 b5 : Nat → Int32), zq_A b3 B → zq_Q b5 Q wt → k B ev wt Q = true → post (f0_on, nI am, f0_barA, f0_barB, nI ev, nI wt, f0_marked, nI sh, a1, a2, b3, a4, b5, a6)) :
    ∀ (r x B ev wt Q : Nat) (b3 b5 : Nat → Int32), x + r = 10 → zq_A b3 B → zq_Q b5 Q wt → zq_sq am root sh k r x B ev wt Q = true → wX_shrink_29 post (nI root) (r + 1) (nI x) f0_on (nI am) f0_barA f0_barB (nI ev) (nI wt) f0_marked (nI sh) a1 a2 b3 a4 b5 a6 := by
  intro r
  induction r with
  | zero =>
    intro x B ev wt Q b3 b5 hx h3 h5 h
    obtain rfl : x = 10 := by omega
    exact br_t zq_hi (hp B ev wt Q b3 b5 h3 h5 h)
  | succ r ih =>
    intro x B ev wt Q b3 b5 hx h3 h5 h
    have hx' : x < 10 := by omega
    change zq_sqs am root sh (zq_sq am root sh k r) x B ev wt Q = true at h
    simp only [zq_sqs, zq_fz_eq] at h
    refine br_f (zq_lo hx') (zq_inb hx' (fun hb => ?_) (fun hb => ?_))
    · rw [hb, zq_if_f] at h
      exact nm_r (nI_1 x) (ih _ _ _ _ _ _ _ (by omega) h3 h5 h)
    · rw [hb, zq_if_t] at h
      obtain ⟨hbx, h⟩ := zq_gd_el h
      rw [zq_cl hx', zq_A_rd h3 hx' hbx]
      refine ⟨zq_vi hx', zq_inb hbx (fun hc => ?_) (fun hc => ?_)⟩
      · rw [hc, zq_if_f] at h
        exact nm_r (nI_1 x) (ih _ _ _ _ _ _ _ (by omega) h3 h5 h)
      · rw [hc, zq_if_t] at h
        have h3' : zq_A (upd b3 x (nI root)) (zq_st B x root) := zq_Ar_put h3 hx' (by omega) (zq_dvl hr).symm
        refine ⟨zq_vi hx', nm_e (zq_me_ok hx' h5 h (fun ev' wt' Q' c5 g5 g => ?_))⟩
        exact nm_r (nI_1 x) (ih _ _ _ _ _ _ _ (by omega) h3' g5 g)
noncomputable def zq_sk (am B M P ev wt Q v w : Nat) (k : Nat → Nat → Nat → Nat → Nat → Bool) : Bool :=
  zq_cb B M P v w fun root => zq_ms B M root (fun sh P1 => zq_ms B M root (fun sh2 P2 => zq_sq am root sh2 (fun B' ev' wt' Q' => k B' P2 ev' wt' Q') 10 0 B ev wt Q) 10 w v sh P1) 10 v w 0 P
theorem zq_sk_ok {post : St2 → Prop} {k : Nat → Nat → Nat → Nat → Nat → Bool} {am B M P ev wt Q v w : Nat} (hM : zq_A a2 M) (hB : zq_A a3 B) (hP : zq_A a4 P) (hQ : zq_Q a5 Q wt) (hv : v < 10) (hw : w < 10) (h : zq_sk am B M P ev wt Q v w k = true)
    (hp : ∀ (B P ev wt Q : Nat) (sh : Int32) (b3 b4 b5 : Nat → Int32), zq_A b3 B → zq_A b4 P → zq_Q b5 Q wt → k B P ev wt Q = true → post (f0_on, nI am, f0_barA, f0_barB, nI ev, nI wt, f0_marked, sh, a1, a2, b3, b4, b5, a6)) :
    wpX_shrink post (f0_on, nI am, f0_barA, f0_barB, nI ev, nI wt, f0_marked, f0_shrunk, a1, a2, a3, a4, a5, a6) (nI v) (nI w) := by
  unfold wpX_shrink
  dsimp only
  refine zq_cb_ok hM hB hP hv hw h (fun root hr g => ?_)
  refine zq_ms_ok (sh := 0) hM hB hP hr hv hw g (fun sh P1 b4 h4 g => ?_)
  refine zq_ms_ok hM hB h4 hr hw hv g (fun sh2 P2 c4 g4 g => ?_)
  exact ⟨11, zq_sq_ok hr (fun B' ev' wt' Q' b3 b5 h3 h5 g => hp B' P2 ev' wt' Q' _ b3 c4 b5 h3 g4 h5 g) 10 0 B ev wt Q _ _ (by omega) hB hQ g⟩
end
end
section
section
variable {f0_on f0_among f0_barA f0_barB f0_even f0_waiting f0_marked f0_shrunk : Int32} {a1 a2 a3 a4 a5 a6 : Nat → Int32}
/-! ===== usable ===== -/
noncomputable def zq_u3 (E am v w : Nat) : Bool := zq_if (zq_tb (zq_rw E v) w) (zq_tb am w) false
noncomputable def zq_u2 (E am bA bB v w : Nat) : Bool := zq_if (Nat.beq v bB) (zq_if (Nat.beq w bA) false (zq_u3 E am v w)) (zq_u3 E am v w)
noncomputable def zq_ub (E am bA bB v w : Nat) : Bool := zq_if (Nat.beq v bA) (zq_if (Nat.beq w bB) false (zq_u2 E am bA bB v w)) (zq_u2 E am bA bB v w)
/-- a test of a number against a picture's number -/
theorem zq_eqv {X Y : Prop} {v b : Nat} (hv : v < 10) (hb : b < 16) (f : Nat.beq v b = true → X) (g : Nat.beq v b = false → Y) : (nI v = zq_dv b → X) ∧ (¬ nI v = zq_dv b → Y) := by
  cases h : Nat.beq v b with
  | true =>
    have e : v = b := Nat.eq_of_beq_eq_true h
    exact br_t (by rw [← e, zq_dvl hv]) (f h)
  | false =>
    have e : v ≠ b := Nat.ne_of_beq_eq_false h
    exact br_f (by rw [← zq_dvl hv]; exact zq_dvinj v (by omega) b hb e) (g h)
theorem zq_u3_ok {X Y : Prop} {E am v w : Nat} (hE : zq_E a1 E) (hv : v < 10) (hw : w < 10) (hX : zq_u3 E am v w = false → X) (hY : zq_u3 E am v w = true → Y) :
    wX_usable_34 (fun r => (r = 0 → X) ∧ (¬ r = 0 → Y)) (nI v) (nI w) f0_on (nI am) f0_barA f0_barB f0_even f0_waiting f0_marked f0_shrunk a1 a2 a3 a4 a5 a6 := by
  unfold wX_usable_34
  refine ⟨zq_vi hv, ?_⟩
  rw [zq_cl hv, hE v hv]
  refine zq_inb hw (fun h => ?_) (fun h => zq_inb hw (fun g => ?_) (fun g => ?_))
  · exact br_t rfl (hX (by unfold zq_u3; rw [h, zq_if_f]))
  · exact br_t rfl (hX (by unfold zq_u3; rw [h, zq_if_t, g]))
  · exact br_f (by decide) (hY (by unfold zq_u3; rw [h, zq_if_t, g]))
theorem zq_u2_ok {X Y : Prop} {E am bA bB v w : Nat} (hE : zq_E a1 E) (hA : bA < 16) (hB : bB < 16) (hv : v < 10) (hw : w < 10) (hX : zq_u2 E am bA bB v w = false → X) (hY : zq_u2 E am bA bB v w = true → Y) :
    wX_usable_16 (fun r => (r = 0 → X) ∧ (¬ r = 0 → Y)) (nI v) (nI w) f0_on (nI am) (zq_dv bA) (zq_dv bB) f0_even f0_waiting f0_marked f0_shrunk a1 a2 a3 a4 a5 a6 := by
  unfold wX_usable_16
  refine zq_eqv hv hB (fun h => zq_eqv hw hA (fun g => ?_) (fun g => ?_)) (fun h => ?_)
  · exact br_t rfl (hX (by unfold zq_u2; rw [h, zq_if_t, g, zq_if_t]))
  · have e : zq_u2 E am bA bB v w = zq_u3 E am v w := by unfold zq_u2; rw [h, zq_if_t, g, zq_if_f]
    rw [e] at hX hY
    exact zq_u3_ok hE hv hw hX hY
  · have e : zq_u2 E am bA bB v w = zq_u3 E am v w := by unfold zq_u2; rw [h, zq_if_f]
    rw [e] at hX hY
    exact zq_u3_ok hE hv hw hX hY
theorem zq_ub_ok {X Y : Prop} {E am bA bB v w : Nat} (hE : zq_E a1 E) (hA : bA < 16) (hB : bB < 16) (hv : v < 10) (hw : w < 10) (hX : zq_ub E am bA bB v w = false → X) (hY : zq_ub E am bA bB v w = true → Y) :
    wpX_usable (fun r => (r = 0 → X) ∧ (¬ r = 0 → Y)) (f0_on, nI am, zq_dv bA, zq_dv bB, f0_even, f0_waiting, f0_marked, f0_shrunk, a1, a2, a3, a4, a5, a6) (nI v) (nI w) := by
  unfold wpX_usable
  dsimp only
  refine zq_eqv hv hA (fun h => zq_eqv hw hB (fun g => ?_) (fun g => ?_)) (fun h => ?_)
  · exact br_t rfl (hX (by unfold zq_ub; rw [h, zq_if_t, g, zq_if_t]))
  · have e : zq_ub E am bA bB v w = zq_u2 E am bA bB v w := by unfold zq_ub; rw [h, zq_if_t, g, zq_if_f]
    rw [e] at hX hY
    exact zq_u2_ok hE hA hB hv hw hX hY
  · have e : zq_ub E am bA bB v w = zq_u2 E am bA bB v w := by unfold zq_ub; rw [h, zq_if_f]
    rw [e] at hX hY
    exact zq_u2_ok hE hA hB hv hw hX hY
/-! ===== look ===== -/
noncomputable def zq_l0 (B M P ev wt Q v w : Nat) (k : Nat → Nat → Nat → Nat → Nat → Nat → Bool) : Bool :=
  zq_fz (zq_gt P w) fun pw => zq_if (Nat.beq pw 15) (zq_fz (zq_st P w v) fun P' => zq_fz (zq_gt M w) fun mw => zq_if (Nat.beq mw 15) (k w B P' ev wt Q) (zq_gd mw (zq_me ev wt Q mw (fun ev' wt' Q' => k 15 B P' ev' wt' Q')))) (k 15 B P ev wt Q)
noncomputable def zq_lk (am B M P ev wt Q v w root : Nat) (k : Nat → Nat → Nat → Nat → Nat → Nat → Bool) : Bool :=
  zq_fz (zq_gt B v) fun bv => zq_fz (zq_gt B w) fun bw => zq_if (Nat.beq bv bw) (k 15 B P ev wt Q) (zq_fz (zq_gt M v) fun mv => zq_if (Nat.beq mv w) (k 15 B P ev wt Q) (
    zq_if (Nat.beq w root) (zq_sk am B M P ev wt Q v w (k 15)) (zq_fz (zq_gt M w) fun mw => zq_if (Nat.beq mw 15) (zq_l0 B M P ev wt Q v w k) (zq_gd mw (zq_fz (zq_gt P mw) fun pm => zq_if (Nat.beq pm 15) (zq_l0 B M P ev wt Q v w k) (zq_sk am B M P ev wt Q v w (k 15)))))))
theorem zq_l0_ok {post : Int32 → St2 → Prop} {k : Nat → Nat → Nat → Nat → Nat → Nat → Bool} {B M P ev wt Q v w : Nat} (hM : zq_A a2 M) (hB : zq_A a3 B) (hP : zq_A a4 P) (hQ : zq_Q a5 Q wt) (hv : v < 10) (hw : w < 10) (h : zq_l0 B M P ev wt Q v w k = true)
    (hp : ∀ (e B P ev wt Q : Nat) (sh : Int32) (b3 b4 b5 : Nat → Int32), e < 16 → zq_A b3 B → zq_A b4 P → zq_Q b5 Q wt → k e B P ev wt Q = true → post (zq_dv e) (f0_on, f0_among, f0_barA, f0_barB, nI ev, nI wt, f0_marked, sh, a1, a2, b3, b4, b5, a6)) :
    wX_look_59 post (nI v) (nI w) f0_on f0_among f0_barA f0_barB (nI ev) (nI wt) f0_marked f0_shrunk a1 a2 a3 a4 a5 a6 := by
  unfold wX_look_59 wX_look_60
  refine br_t rfl ⟨zq_vi hw, ?_⟩
  simp only [zq_l0, zq_fz_eq] at h
  rw [zq_cl hw]
  rcases zq_ifN h with ⟨e, h⟩ | ⟨e, h⟩
  · have h4' : zq_A (upd a4 w (nI v)) (zq_st P w v) := zq_Ar_put hP hw (by omega) (zq_dvl hv).symm
    rw [hP w hw, e]
    refine br_t zq_dvneg15 ⟨zq_vi hw, nm_e ⟨zq_vi hw, ?_⟩⟩
    rcases zq_ifN h with ⟨e, h⟩ | ⟨e, h⟩
    · rw [hM w hw, e]
      refine br_f zq_dvpos15 ?_
      rw [← zq_dvl hw]
      exact hp w _ _ _ _ _ _ _ _ _ (by omega) hB h4' hQ h
    · obtain ⟨hm, h⟩ := zq_gd_el h
      rw [zq_A_rd hM hw hm]
      exact br_t (zq_np hm) ⟨zq_vi hw, zq_me_ok hm hQ h (fun ev' wt' Q' b5 h5 g => hp 15 _ _ _ _ _ _ _ _ _ (by omega) hB h4' h5 g)⟩
  · rw [hP w hw]
    exact br_f (zq_dvneg _ (zq_gt_lt _ _) e) (hp 15 _ _ _ _ _ _ _ _ _ (by omega) hB hP hQ h)
theorem zq_l1_ok {post : Int32 → St2 → Prop} {k : Nat → Nat → Nat → Nat → Nat → Nat → Bool} {am B M P ev wt Q v w : Nat} (hM : zq_A a2 M) (hB : zq_A a3 B) (hP : zq_A a4 P) (hQ : zq_Q a5 Q wt) (hv : v < 10) (hw : w < 10) (h : zq_sk am B M P ev wt Q v w (k 15) = true)
    (hp : ∀ (e B P ev wt Q : Nat) (sh : Int32) (b3 b4 b5 : Nat → Int32), e < 16 → zq_A b3 B → zq_A b4 P → zq_Q b5 Q wt → k e B P ev wt Q = true → post (zq_dv e) (f0_on, nI am, f0_barA, f0_barB, nI ev, nI wt, f0_marked, sh, a1, a2, b3, b4, b5, a6)) :
    wX_look_55 post (nI v) (nI w) f0_on (nI am) f0_barA f0_barB (nI ev) (nI wt) f0_marked f0_shrunk a1 a2 a3 a4 a5 a6 := by
  unfold wX_look_55 wX_look_60
  refine br_f (by decide) (zq_sk_ok hM hB hP hQ hv hw h (fun B' P' ev' wt' Q' sh b3 b4 b5 h3 h4 h5 g => ?_))
  exact hp 15 _ _ _ _ _ _ _ _ _ (by omega) h3 h4 h5 g
theorem zq_lk_ok {post : Int32 → St2 → Prop} {k : Nat → Nat → Nat → Nat → Nat → Nat → Bool} {am B M P ev wt Q v w root : Nat} (hM : zq_A a2 M) (hB : zq_A a3 B) (hP : zq_A a4 P) (hQ : zq_Q a5 Q wt) (hv : v < 10) (hw : w < 10) (hr : root < 10) (h : zq_lk am B M P ev wt Q v w root k = true)
    (hp : ∀ (e B P ev wt Q : Nat) (sh : Int32) (b3 b4 b5 : Nat → Int32), e < 16 → zq_A b3 B → zq_A b4 P → zq_Q b5 Q wt → k e B P ev wt Q = true → post (zq_dv e) (f0_on, nI am, f0_barA, f0_barB, nI ev, nI wt, f0_marked, sh, a1, a2, b3, b4, b5, a6)) :
    wpX_look post (f0_on, nI am, f0_barA, f0_barB, nI ev, nI wt, f0_marked, f0_shrunk, a1, a2, a3, a4, a5, a6) (nI v) (nI w) (nI root) := by
  unfold wpX_look
  dsimp only
  simp only [zq_lk, zq_fz_eq] at h
  refine ⟨zq_vi hv, zq_vi hw, ?_⟩
  rw [zq_cl hv, zq_cl hw, hB v hv, hB w hw]
  rcases zq_ifN h with ⟨e, h⟩ | ⟨e, h⟩
  · exact br_t (by rw [e]) (hp 15 _ _ _ _ _ _ _ _ _ (by omega) hB hP hQ h)
  refine br_f (zq_dvinj _ (zq_gt_lt _ _) _ (zq_gt_lt _ _) e) ⟨zq_vi hv, ?_⟩
  rcases zq_ifN h with ⟨e, h⟩ | ⟨e, h⟩
  · exact br_t (by rw [hM v hv, e, zq_dvl hw]) (hp 15 _ _ _ _ _ _ _ _ _ (by omega) hB hP hQ h)
  refine br_f (by rw [hM v hv, ← zq_dvl hw]; exact zq_dvinj _ (zq_gt_lt _ _) _ (by omega) e) ?_
  rcases zq_ifN h with ⟨e, h⟩ | ⟨e, h⟩
  · exact br_t (by rw [e]) (zq_l1_ok hM hB hP hQ hv hw h hp)
  refine br_f (zq_ne hw hr e) ⟨zq_vi hw, ?_⟩
  rcases zq_ifN h with ⟨e, h⟩ | ⟨e, h⟩
  · exact br_t (by rw [hM w hw, e]; exact zq_dvneg15) (zq_l0_ok hM hB hP hQ hv hw h hp)
  obtain ⟨hm, h⟩ := zq_gd_el h
  have em : a2 w = nI (zq_gt M w) := zq_A_rd hM hw hm
  refine br_f (by rw [em]; exact zq_nn hm) ⟨zq_vi hw, by rw [em]; exact zq_vi hm, ?_⟩
  rcases zq_ifN h with ⟨e, h⟩ | ⟨e, h⟩
  · exact br_t (by rw [em, zq_cl hm, hP _ hm, e]; exact zq_dvneg15) (zq_l0_ok hM hB hP hQ hv hw h hp)
  · exact br_f (by rw [em, zq_cl hm, hP _ hm]; exact zq_dvneg _ (zq_gt_lt _ _) e) (zq_l1_ok hM hB hP hQ hv hw h hp)
/-! ===== search ===== -/
noncomputable def zq_s6s (E am bA bB M root v : Nat) (k : Nat → Nat → Nat → Bool) (ih : Nat → Nat → Nat → Nat → Nat → Nat → Bool) (w B P ev wt Q : Nat) : Bool :=
  zq_fz (Nat.succ w) fun w' => zq_if (zq_ub E am bA bB v w) (zq_lk am B M P ev wt Q v w root (fun e B' P' ev' wt' Q' => zq_if (Nat.beq e 15) (ih w' B' P' ev' wt' Q') (k e ev' P'))) (ih w' B P ev wt Q)
noncomputable def zq_s6 (E am bA bB M root v : Nat) (k : Nat → Nat → Nat → Bool) (J : Nat → Nat → Nat → Nat → Nat → Bool) (r : Nat) : Nat → Nat → Nat → Nat → Nat → Nat → Bool :=
  Nat.rec (motive := fun _ => Nat → Nat → Nat → Nat → Nat → Nat → Bool) (fun _ B P ev wt Q => J B P ev wt Q) (fun _ ih => zq_s6s E am bA bB M root v k ih) r
theorem zq_s6_ok {post : Int32 → St2 → Prop} {J45 : Int32 → Int32 → Int32 → Int32 → Int32 → Int32 → Int32 → Int32 → Int32 → (Nat → Int32) → (Nat → Int32) → (Nat → Int32) → (Nat → Int32) → (Nat → Int32) → (Nat → Int32) → Prop}
    {k : Nat → Nat → Nat → Bool} {J : Nat → Nat → Nat → Nat → Nat → Bool} {E am bA bB M root v i : Nat} (hE : zq_E a1 E) (hM : zq_A a2 M) (hA : bA < 16) (hB : bB < 16) (hr : root < 10) (hv : v < 10)
    (hp : ∀ (e ev P : Nat) (wt sh : Int32) (b3 b4 b5 : Nat → Int32), e < 16 → zq_A b4 P → k e ev P = true → post (zq_dv e) (f0_on, nI am, zq_dv bA, zq_dv bB, nI ev, wt, f0_marked, sh, a1, a2, b3, b4, b5, a6))
    (hJ : ∀ (B P ev wt Q : Nat) (sh : Int32) (b3 b4 b5 : Nat → Int32), zq_A b3 B → zq_A b4 P → zq_Q b5 Q wt → J B P ev wt Q = true → J45 (nI (i + 1)) f0_on (nI am) (zq_dv bA) (zq_dv bB) (nI ev) (nI wt) f0_marked sh a1 a2 b3 b4 b5 a6) :
    ∀ (r w B P ev wt Q : Nat) (sh : Int32) (b3 b4 b5 : Nat → Int32), w + r = 10 → zq_A b3 B → zq_A b4 P → zq_Q b5 Q wt → zq_s6 E am bA bB M root v k J r w B P ev wt Q = true → wX_search_63 post J45 (nI root) (nI i) (nI v) (r + 1) (nI w) f0_on (nI am) (zq_dv bA) (zq_dv bB) (nI ev) (nI wt) f0_marked sh a1 a2 b3 b4 b5 a6 := by
  intro r
  induction r with
  | zero =>
    intro w B P ev wt Q sh b3 b4 b5 hw h3 h4 h5 h
    obtain rfl : w = 10 := by omega
    exact br_t zq_hi (nm_r (nI_1 i) (hJ B P ev wt Q sh b3 b4 b5 h3 h4 h5 h))
  | succ r ih =>
    intro w B P ev wt Q sh b3 b4 b5 hw h3 h4 h5 h
    have hw' : w < 10 := by omega
    change zq_s6s E am bA bB M root v k (zq_s6 E am bA bB M root v k J r) w B P ev wt Q = true at h
    simp only [zq_s6s, zq_fz_eq] at h
    refine br_f (zq_lo hw') (zq_ub_ok hE hA hB hv hw' (fun hb => ?_) (fun hb => ?_))
    · rw [hb, zq_if_f] at h
      exact br_t (by decide) (nm_r (nI_1 w) (ih _ _ _ _ _ _ _ _ _ _ (by omega) h3 h4 h5 h))
    · rw [hb, zq_if_t] at h
      refine zq_lk_ok hM h3 h4 h5 hv hw' hr h (fun e B' P' ev' wt' Q' sh' c3 c4 c5 he g3 g4 g5 g => ?_)
      rcases zq_ifN g with ⟨e15, g⟩ | ⟨ne, g⟩
      · subst e15
        exact br_t zq_dvneg15 (nm_r (nI_1 w) (ih _ _ _ _ _ _ _ _ _ _ (by omega) g3 g4 g5 g))
      · exact br_f (zq_dvneg e he ne) (hp e ev' P' _ sh' c3 c4 c5 he g4 g)
noncomputable def zq_s4s (E am bA bB M root : Nat) (k : Nat → Nat → Nat → Bool) (ih : Nat → Nat → Nat → Nat → Nat → Nat → Bool) (i B P ev wt Q : Nat) : Bool :=
  zq_if (Nat.ble wt i) (k 15 ev P) (zq_gd i (zq_fz (zq_gt Q i) fun v => zq_gd v (zq_fz (Nat.succ i) fun i' => zq_s6 E am bA bB M root v k (ih i') 10 0 B P ev wt Q)))
noncomputable def zq_s4 (E am bA bB M root : Nat) (k : Nat → Nat → Nat → Bool) (r : Nat) : Nat → Nat → Nat → Nat → Nat → Nat → Bool :=
  Nat.rec (motive := fun _ => Nat → Nat → Nat → Nat → Nat → Nat → Bool) (fun _ _ _ _ _ _ => false) (fun _ ih => zq_s4s E am bA bB M root k ih) r
theorem zq_s4_ok {post : Int32 → St2 → Prop} {k : Nat → Nat → Nat → Bool} {E am bA bB M root : Nat} (hE : zq_E a1 E) (hM : zq_A a2 M) (hA : bA < 16) (hB : bB < 16) (hr : root < 10)
    (hp : ∀ (e ev P : Nat) (wt sh : Int32) (b3 b4 b5 : Nat → Int32), e < 16 → zq_A b4 P → k e ev P = true → post (zq_dv e) (f0_on, nI am, zq_dv bA, zq_dv bB, nI ev, wt, f0_marked, sh, a1, a2, b3, b4, b5, a6)) :
    ∀ (r i B P ev wt Q : Nat) (sh : Int32) (b3 b4 b5 : Nat → Int32), i ≤ 10 → zq_A b3 B → zq_A b4 P → zq_Q b5 Q wt → zq_s4 E am bA bB M root k r i B P ev wt Q = true → wX_search_45 post (nI root) r (nI i) f0_on (nI am) (zq_dv bA) (zq_dv bB) (nI ev) (nI wt) f0_marked sh a1 a2 b3 b4 b5 a6 := by
  intro r
  induction r with
  | zero =>
    intro i B P ev wt Q sh b3 b4 b5 hi h3 h4 h5 h
    exact absurd (show false = true from h) (by decide)
  | succ r ih =>
    intro i B P ev wt Q sh b3 b4 b5 hi h3 h4 h5 h
    change zq_s4s E am bA bB M root k (zq_s4 E am bA bB M root k r) i B P ev wt Q = true at h
    simp only [zq_s4s, zq_fz_eq] at h
    have hwt := h5.1
    rcases zq_ifL h with ⟨e, h⟩ | ⟨e, h⟩
    · exact br_t (nI_le e (by omega)) (hp 15 ev P _ sh b3 b4 b5 (by omega) h4 h)
    · obtain ⟨hi', h⟩ := zq_gd_el h
      obtain ⟨hv, h⟩ := zq_gd_el h
      refine br_f (nI_ge e (by omega)) ⟨zq_vi hi', ?_⟩
      rw [zq_cl hi', h5.2 i e, zq_dvl hv]
      refine nm_e ⟨11, zq_s6_ok hE hM hA hB hr hv hp (fun B' P' ev' wt' Q' sh' c3 c4 c5 g3 g4 g5 g => ?_) 10 0 B P ev wt Q sh b3 b4 b5 (by omega) h3 h4 h5 h⟩
      exact ih (i + 1) B' P' ev' wt' Q' sh' c3 c4 c5 (by omega) g3 g4 g5 g
noncomputable def zq_se (E am bA bB M root : Nat) (k : Nat → Nat → Nat → Bool) : Bool :=
  zq_me 0 0 0 root (fun ev wt Q => zq_s4 E am bA bB M root k 11 0 0x9876543210 0xffffffffff ev wt Q)
theorem zq_B0 : ∀ k, k < 10 → zq_gt 0x9876543210 k = k := by decide +kernel
theorem zq_P0 : ∀ k, k < 10 → zq_gt 0xffffffffff k = 15 := by decide +kernel
theorem zq_se_lp {post : Int32 → St2 → Prop} {k : Nat → Nat → Nat → Bool} {E am bA bB M root : Nat} (hE : zq_E a1 E) (hM : zq_A a2 M) (hA : bA < 16) (hB : bB < 16) (hr : root < 10) (h : zq_se E am bA bB M root k = true)
    (hp : ∀ (e ev P : Nat) (wt sh : Int32) (b3 b4 b5 : Nat → Int32), e < 16 → zq_A b4 P → k e ev P = true → post (zq_dv e) (f0_on, nI am, zq_dv bA, zq_dv bB, nI ev, wt, f0_marked, sh, a1, a2, b3, b4, b5, a6)) :
    ∀ (r i : Nat) (b3 b4 : Nat → Int32), i + r = 10 → (∀ j, j < i → b3 j = nI j) → (∀ j, j < i → b4 j = -1) → wX_search_2 post (nI root) f0_on (nI am) (zq_dv bA) (zq_dv bB) f0_even f0_waiting f0_marked f0_shrunk (r + 1) (nI i) a1 a2 b3 b4 a5 a6 := by
  intro r
  induction r with
  | zero =>
    intro i b3 b4 hi h3 h4
    obtain rfl : i = 10 := by omega
    have g3 : zq_A b3 0x9876543210 := fun j hj => by rw [h3 j hj, zq_B0 j hj, zq_dvl hj]
    have g4 : zq_A b4 0xffffffffff := fun j hj => by rw [h4 j hj, zq_P0 j hj, zq_dv15]
    refine br_t zq_hi (zq_me_ok (ev := 0) (wt := 0) (Q := 0) hr ⟨by omega, fun j hj => absurd hj (by omega)⟩ h (fun ev wt Q b5 h5 g => ?_))
    exact ⟨11, zq_s4_ok hE hM hA hB hr hp 11 0 _ _ ev wt Q _ _ _ _ (by omega) g3 g4 h5 g⟩
  | succ r ih =>
    intro i b3 b4 hi h3 h4
    have hi' : i < 10 := by omega
    refine br_f (zq_lo hi') ⟨zq_vi hi', ?_⟩
    rw [zq_cl hi']
    refine nm_e ⟨zq_vi hi', nm_e (nm_r (nI_1 i) (ih (i + 1) _ _ (by omega) (fun j hj => ?_) (fun j hj => ?_)))⟩
    · by_cases e : j = i
      · rw [e, pk_us]
      · rw [pk_un e, h3 j (by omega)]
    · by_cases e : j = i
      · rw [e, pk_us]
      · rw [pk_un e, h4 j (by omega)]
theorem zq_se_ok {post : Int32 → St2 → Prop} {k : Nat → Nat → Nat → Bool} {E am bA bB M root : Nat} (hE : zq_E a1 E) (hM : zq_A a2 M) (hA : bA < 16) (hB : bB < 16) (hr : root < 10) (h : zq_se E am bA bB M root k = true)
    (hp : ∀ (e ev P : Nat) (wt sh : Int32) (b3 b4 b5 : Nat → Int32), e < 16 → zq_A b4 P → k e ev P = true → post (zq_dv e) (f0_on, nI am, zq_dv bA, zq_dv bB, nI ev, wt, f0_marked, sh, a1, a2, b3, b4, b5, a6)) :
    wpX_search post (f0_on, nI am, zq_dv bA, zq_dv bB, f0_even, f0_waiting, f0_marked, f0_shrunk, a1, a2, a3, a4, a5, a6) (nI root) := by
  unfold wpX_search
  dsimp only
  exact ⟨11, zq_se_lp hE hM hA hB hr h hp 10 0 a3 a4 (by omega) (fun j hj => absurd hj (by omega)) (fun j hj => absurd hj (by omega))⟩
end
end
section
section
variable {f0_on f0_among f0_barA f0_barB f0_even f0_waiting f0_marked f0_shrunk : Int32} {a1 a2 a3 a4 a5 a6 : Nat → Int32}
/-! ===== turnRound ===== -/
noncomputable def zq_trs (P : Nat) (k : Nat → Bool) (ih : Nat → Nat → Bool) (w M : Nat) : Bool :=
  zq_if (Nat.beq w 15) (k M) (zq_gd w (zq_fz (zq_gt P w) fun v => zq_gd v (zq_fz (zq_gt M v) fun nx => zq_fz (zq_st (zq_st M v w) w v) fun M' => ih nx M')))
noncomputable def zq_tr (P : Nat) (k : Nat → Bool) (r : Nat) : Nat → Nat → Bool :=
  Nat.rec (motive := fun _ => Nat → Nat → Bool) (fun _ M => k M) (fun _ ih => zq_trs P k ih) r
theorem zq_tr_lp {post : St2 → Prop} {k : Nat → Bool} {P : Nat} (hP : zq_A a4 P)
    (hp : ∀ (M : Nat) (b2 : Nat → Int32), zq_A b2 M → k M = true → post (f0_on, f0_among, f0_barA, f0_barB, f0_even, f0_waiting, f0_marked, f0_shrunk, a1, b2, a3, a4, a5, a6)) :
    ∀ (r i w M : Nat) (b2 : Nat → Int32), i + r = 10 → zq_A b2 M → zq_tr P k r w M = true → wX_turnRound_4 post f0_on f0_among f0_barA f0_barB f0_even f0_waiting f0_marked f0_shrunk (r + 1) (zq_dv w) (nI i) a1 b2 a3 a4 a5 a6 := by
  intro r
  induction r with
  | zero =>
    intro i w M b2 hi h2 h
    obtain rfl : i = 10 := by omega
    exact br_t zq_hi (hp M b2 h2 h)
  | succ r ih =>
    intro i w M b2 hi h2 h
    change zq_trs P k (zq_tr P k r) w M = true at h
    simp only [zq_trs, zq_fz_eq] at h
    refine br_f (zq_lo (by omega)) ?_
    rcases zq_ifN h with ⟨e, h⟩ | ⟨e, h⟩
    · subst e
      exact br_t zq_dvneg15 (hp M b2 h2 h)
    · obtain ⟨hw, h⟩ := zq_gd_el h
      obtain ⟨hv, h⟩ := zq_gd_el h
      have h2' : zq_A (upd (upd b2 (zq_gt P w) (nI w)) w (nI (zq_gt P w))) (zq_st (zq_st M (zq_gt P w) w) w (zq_gt P w)) :=
        zq_Ar_put (zq_Ar_put h2 hv (by omega) (zq_dvl hw).symm) hw (by omega) (zq_dvl hv).symm
      rw [zq_dvl hw]
      refine br_f (zq_nn hw) ?_
      rw [zq_cl hw, zq_A_rd hP hw hv]
      refine ⟨zq_vi hw, nm_e ⟨zq_vi hv, ?_⟩⟩
      rw [zq_cl hv, h2 _ hv]
      exact nm_e ⟨zq_vi hv, nm_e ⟨zq_vi hw, nm_e (nm_r (nI_1 i) (ih (i + 1) _ _ _ (by omega) h2' h))⟩⟩
theorem zq_tr_ok {post : St2 → Prop} {k : Nat → Bool} {P M w : Nat} (hM : zq_A a2 M) (hP : zq_A a4 P) (h : zq_tr P k 10 w M = true)
    (hp : ∀ (M : Nat) (b2 : Nat → Int32), zq_A b2 M → k M = true → post (f0_on, f0_among, f0_barA, f0_barB, f0_even, f0_waiting, f0_marked, f0_shrunk, a1, b2, a3, a4, a5, a6)) :
    wpX_turnRound post (f0_on, f0_among, f0_barA, f0_barB, f0_even, f0_waiting, f0_marked, f0_shrunk, a1, a2, a3, a4, a5, a6) (zq_dv w) := by
  unfold wpX_turnRound
  dsimp only
  exact ⟨11, zq_tr_lp hP hp 10 0 w M a2 (by omega) hM h⟩
/-! ===== matchAmong ===== -/
noncomputable def zq_mas (E set bA bB : Nat) (ih : Nat → Nat → Nat → Bool) (n v M : Nat) : Bool :=
  zq_fz (Nat.succ v) fun v' => zq_if (zq_tb set v) (zq_fz (zq_gt M v) fun m => zq_if (Nat.beq m 15) (zq_se E set bA bB M v (fun e _ P => zq_if (Nat.beq e 15) (ih n v' M) (zq_tr P (fun M' => zq_fz (Nat.succ n) fun n' => ih n' v' M') 10 e M))) (ih n v' M)) (ih n v' M)
noncomputable def zq_ml (E set bA bB : Nat) (k : Nat → Nat → Bool) (r : Nat) : Nat → Nat → Nat → Bool :=
  Nat.rec (motive := fun _ => Nat → Nat → Nat → Bool) (fun n _ M => k n M) (fun _ ih => zq_mas E set bA bB ih) r
theorem zq_ml_ok {post : Int32 → St2 → Prop} {k : Nat → Nat → Bool} {E set bA bB : Nat} (hE : zq_E a1 E) (hA : bA < 16) (hB : bB < 16)
    (hp : ∀ (n M : Nat) (ev wt sh : Int32) (b2 b3 b4 b5 : Nat → Int32), zq_A b2 M → k n M = true → post (nI n) (f0_on, nI set, zq_dv bA, zq_dv bB, ev, wt, f0_marked, sh, a1, b2, b3, b4, b5, a6)) :
    ∀ (r n v M : Nat) (ev wt sh : Int32) (b2 b3 b4 b5 : Nat → Int32), v + r = 10 → zq_A b2 M → zq_ml E set bA bB k r n v M = true → wX_matchAmong_30 post (nI set) (r + 1) (nI n) (nI v) f0_on (nI set) (zq_dv bA) (zq_dv bB) ev wt f0_marked sh a1 b2 b3 b4 b5 a6 := by
  intro r
  induction r with
  | zero =>
    intro n v M ev wt sh b2 b3 b4 b5 hv h2 h
    obtain rfl : v = 10 := by omega
    exact br_t zq_hi (hp n M _ _ _ _ _ _ _ h2 h)
  | succ r ih =>
    intro n v M ev wt sh b2 b3 b4 b5 hv h2 h
    have hv' : v < 10 := by omega
    change zq_mas E set bA bB (zq_ml E set bA bB k r) n v M = true at h
    simp only [zq_mas, zq_fz_eq] at h
    refine br_f (zq_lo hv') (zq_inb hv' (fun hb => ?_) (fun hb => ?_))
    · rw [hb, zq_if_f] at h
      exact nm_r (nI_1 v) (ih _ _ _ _ _ _ _ _ _ _ (by omega) h2 h)
    · rw [hb, zq_if_t] at h
      refine ⟨zq_vi hv', ?_⟩
      rw [zq_cl hv', h2 v hv']
      rcases zq_ifN h with ⟨e, h⟩ | ⟨e, h⟩
      · rw [e]
        refine br_f zq_dvpos15 (zq_se_ok hE h2 hA hB hv' h (fun e ev' P wt' sh' c3 c4 c5 he g4 g => ?_))
        rcases zq_ifN g with ⟨e15, g⟩ | ⟨ne, g⟩
        · subst e15
          exact br_t zq_dvneg15 (nm_r (nI_1 v) (ih _ _ _ _ _ _ _ _ _ _ (by omega) h2 g))
        · refine br_f (zq_dvneg e he ne) (zq_tr_ok h2 g4 g (fun M' c2 g2 g => ?_))
          exact nm_r (nI_1 n) (nm_r (nI_1 v) (ih _ _ _ _ _ _ _ _ _ _ (by omega) g2 g))
      · exact br_t (zq_dvpos _ (zq_gt_lt _ _) e) (nm_r (nI_1 v) (ih _ _ _ _ _ _ _ _ _ _ (by omega) h2 h))
noncomputable def zq_ma (E set bA bB : Nat) (k : Nat → Nat → Bool) : Bool := zq_ml E set bA bB k 10 0 0 0xffffffffff
theorem zq_ma_lp {post : Int32 → St2 → Prop} {k : Nat → Nat → Bool} {E set bA bB : Nat} (hE : zq_E a1 E) (hA : bA < 16) (hB : bB < 16) (h : zq_ma E set bA bB k = true)
    (hp : ∀ (n M : Nat) (ev wt sh : Int32) (b2 b3 b4 b5 : Nat → Int32), zq_A b2 M → k n M = true → post (nI n) (f0_on, nI set, zq_dv bA, zq_dv bB, ev, wt, f0_marked, sh, a1, b2, b3, b4, b5, a6)) :
    ∀ (r i : Nat) (b2 : Nat → Int32), i + r = 10 → (∀ j, j < i → b2 j = -1) → wX_matchAmong_7 post (nI set) f0_on (nI set) (zq_dv bA) (zq_dv bB) f0_even f0_waiting f0_marked f0_shrunk (r + 1) (nI i) a1 b2 a3 a4 a5 a6 := by
  intro r
  induction r with
  | zero =>
    intro i b2 hi h2
    obtain rfl : i = 10 := by omega
    have g2 : zq_A b2 0xffffffffff := fun j hj => by rw [h2 j hj, zq_P0 j hj, zq_dv15]
    exact br_t zq_hi ⟨11, zq_ml_ok hE hA hB hp 10 0 0 _ _ _ _ _ _ _ _ (by omega) g2 h⟩
  | succ r ih =>
    intro i b2 hi h2
    have hi' : i < 10 := by omega
    refine br_f (zq_lo hi') ⟨zq_vi hi', ?_⟩
    rw [zq_cl hi']
    refine nm_e (nm_r (nI_1 i) (ih (i + 1) _ (by omega) (fun j hj => ?_)))
    by_cases e : j = i
    · rw [e, pk_us]
    · rw [pk_un e, h2 j (by omega)]
theorem zq_ma_ok {post : Int32 → St2 → Prop} {k : Nat → Nat → Bool} {E set bA bB : Nat} (hE : zq_E a1 E) (hA : bA < 16) (hB : bB < 16) (h : zq_ma E set bA bB k = true)
    (hp : ∀ (n M : Nat) (ev wt sh : Int32) (b2 b3 b4 b5 : Nat → Int32), zq_A b2 M → k n M = true → post (nI n) (f0_on, nI set, zq_dv bA, zq_dv bB, ev, wt, f0_marked, sh, a1, b2, b3, b4, b5, a6)) :
    wpX_matchAmong post (f0_on, f0_among, zq_dv bA, zq_dv bB, f0_even, f0_waiting, f0_marked, f0_shrunk, a1, a2, a3, a4, a5, a6) (nI set) := by
  unfold wpX_matchAmong
  dsimp only
  exact ⟨11, zq_ma_lp hE hA hB h hp 10 0 a2 (by omega) (fun j hj => absurd hj (by omega))⟩
theorem zq_sz_ok {post : Int32 → St2 → Prop} {k : Nat → Nat → Bool} {E set : Nat} (hE : zq_E a1 E) (h : zq_ma E set 15 15 k = true)
    (hp : ∀ (n M : Nat) (ev wt sh : Int32) (b2 b3 b4 b5 : Nat → Int32), zq_A b2 M → k n M = true → post (nI n) (f0_on, nI set, zq_dv 15, zq_dv 15, ev, wt, f0_marked, sh, a1, b2, b3, b4, b5, a6)) :
    wpX_sizeAmong post (f0_on, f0_among, f0_barA, f0_barB, f0_even, f0_waiting, f0_marked, f0_shrunk, a1, a2, a3, a4, a5, a6) (nI set) := by
  unfold wpX_sizeAmong
  dsimp only
  exact zq_ma_ok (bA := 15) (bB := 15) hE (by decide) (by decide) h hp
/-! ===== freeVertices ===== -/
noncomputable def zq_fvs (E on M : Nat) (ih : Nat → Nat → Bool) (s v : Nat) : Bool :=
  zq_fz (Nat.succ v) fun v' => zq_if (zq_tb on v) (zq_fz (zq_gt M v) fun m => zq_if (Nat.beq m 15) (zq_se E on 15 15 M v (fun _ ev _ => zq_fz (Nat.lor s ev) fun s' => ih s' v')) (ih s v')) (ih s v')
noncomputable def zq_fl (E on M : Nat) (k : Nat → Bool) (r : Nat) : Nat → Nat → Bool :=
  Nat.rec (motive := fun _ => Nat → Nat → Bool) (fun s _ => k s) (fun _ ih => zq_fvs E on M ih) r
theorem zq_fl_ok {post : Int32 → St2 → Prop} {k : Nat → Bool} {E on M : Nat} (hE : zq_E a1 E) (hM : zq_A a2 M)
    (hp : ∀ (s : Nat) (ev wt sh : Int32) (b3 b4 b5 : Nat → Int32), k s = true → post (nI s) (nI on, nI on, zq_dv 15, zq_dv 15, ev, wt, f0_marked, sh, a1, a2, b3, b4, b5, a6)) :
    ∀ (r s v : Nat) (ev wt sh : Int32) (b3 b4 b5 : Nat → Int32), v + r = 10 → zq_fl E on M k r s v = true → wX_freeVertices_13 post (r + 1) (nI s) (nI v) (nI on) (nI on) (zq_dv 15) (zq_dv 15) ev wt f0_marked sh a1 a2 b3 b4 b5 a6 := by
  intro r
  induction r with
  | zero =>
    intro s v ev wt sh b3 b4 b5 hv h
    obtain rfl : v = 10 := by omega
    exact br_t zq_hi (hp s _ _ _ _ _ _ h)
  | succ r ih =>
    intro s v ev wt sh b3 b4 b5 hv h
    have hv' : v < 10 := by omega
    change zq_fvs E on M (zq_fl E on M k r) s v = true at h
    simp only [zq_fvs, zq_fz_eq] at h
    refine br_f (zq_lo hv') (zq_inb hv' (fun hb => ?_) (fun hb => ?_))
    · rw [hb, zq_if_f] at h
      exact nm_r (nI_1 v) (ih _ _ _ _ _ _ _ _ (by omega) h)
    · rw [hb, zq_if_t] at h
      refine ⟨zq_vi hv', ?_⟩
      rw [zq_cl hv', hM v hv']
      rcases zq_ifN h with ⟨e, h⟩ | ⟨e, h⟩
      · rw [e]
        refine br_f zq_dvpos15 (zq_se_ok (bA := 15) (bB := 15) hE hM (by decide) (by decide) hv' h (fun e ev' P wt' sh' c3 c4 c5 he g4 g => ?_))
        exact nm_r (zq_or s ev') (nm_r (nI_1 v) (ih _ _ _ _ _ _ _ _ (by omega) g))
      · exact br_t (zq_dvpos _ (zq_gt_lt _ _) e) (nm_r (nI_1 v) (ih _ _ _ _ _ _ _ _ (by omega) h))
noncomputable def zq_fv (E on : Nat) (k : Nat → Bool) : Bool := zq_ma E on 15 15 (fun _ M => zq_fl E on M k 10 0 0)
theorem zq_fv_ok {post : Int32 → St2 → Prop} {k : Nat → Bool} {E on : Nat} (hE : zq_E a1 E) (h : zq_fv E on k = true)
    (hp : ∀ (s : Nat) (am bA bB ev wt sh : Int32) (b2 b3 b4 b5 : Nat → Int32), k s = true → post (nI s) (nI on, am, bA, bB, ev, wt, f0_marked, sh, a1, b2, b3, b4, b5, a6)) :
    wpX_freeVertices post (nI on, f0_among, f0_barA, f0_barB, f0_even, f0_waiting, f0_marked, f0_shrunk, a1, a2, a3, a4, a5, a6) := by
  unfold wpX_freeVertices
  dsimp only
  refine zq_sz_ok hE h (fun n M ev wt sh b2 b3 b4 b5 h2 g => ?_)
  exact ⟨11, zq_fl_ok hE h2 (fun s ev wt sh b3 b4 b5 g => hp s _ _ _ _ _ _ _ _ _ _ g) 10 0 0 _ _ _ _ _ _ (by omega) g⟩
end
end
section
section
variable {f0_on f0_among f0_barA f0_barB f0_even f0_waiting f0_marked f0_shrunk : Int32} {a1 a2 a3 a4 a5 a6 : Nat → Int32}
/-! ===== bad, badPair, noEdge ===== -/
theorem zq_bad {post : Int32 → Prop} {v : Nat} (hv : v < 10) (h : post 0) : wpX_bad post () (nI v) :=
  br_f (zq_nn hv) (br_t (nI_lt (a := v) (b := 10) hv (by decide)) h)
theorem zq_badPair {post : Int32 → Prop} {v w : Nat} (hv : v < 10) (hw : w < 10) (hn : v ≠ w) (h : post 0) : wpX_badPair post () (nI v) (nI w) :=
  zq_bad hv (br_t rfl (zq_bad hw (br_t rfl (br_f (zq_ne hv hw hn) h))))
theorem zq_noEdge {post : Int32 → Prop} {E on v w : Nat} (hE : zq_E a1 E) (hv : v < 10) (hw : w < 10) (hn : v ≠ w) (h1 : zq_tb (zq_rw E v) w = true) (h2 : zq_tb on v = true) (h3 : zq_tb on w = true) (h : post 0) :
    wpX_noEdge post (nI on, f0_among, f0_barA, f0_barB, f0_even, f0_waiting, f0_marked, f0_shrunk, a1, a2, a3, a4, a5, a6) (nI v) (nI w) := by
  unfold wpX_noEdge
  dsimp only
  refine zq_badPair hv hw hn (br_t rfl ⟨zq_vi hv, ?_⟩)
  rw [zq_cl hv, hE v hv]
  refine zq_inb hw (fun z => absurd (h1.symm.trans z) (by decide)) (fun _ => ?_)
  refine zq_inb hv (fun z => absurd (h2.symm.trans z) (by decide)) (fun _ => ?_)
  exact zq_inb hw (fun z => absurd (h3.symm.trans z) (by decide)) (fun _ => h)
/-! ===== size ===== -/
theorem zq_size_ok {post : Int32 → St2 → Prop} {k : Nat → Nat → Bool} {E on : Nat} (hE : zq_E a1 E) (h : zq_ma E on 15 15 k = true)
    (hp : ∀ (n M : Nat) (am bA bB ev wt sh : Int32) (b2 b3 b4 b5 : Nat → Int32), k n M = true → post (nI n) (nI on, am, bA, bB, ev, wt, f0_marked, sh, a1, b2, b3, b4, b5, a6)) :
    wpX_size post (nI on, f0_among, f0_barA, f0_barB, f0_even, f0_waiting, f0_marked, f0_shrunk, a1, a2, a3, a4, a5, a6) := by
  unfold wpX_size
  dsimp only
  exact zq_sz_ok hE h (fun n M ev wt sh b2 b3 b4 b5 _ g => hp n M _ _ _ _ _ _ _ _ _ _ g)
/-! ===== borderVertices, part ===== -/
noncomputable def zq_bvs (E free : Nat) (ih : Nat → Nat → Bool) (s v : Nat) : Bool :=
  zq_fz (Nat.succ v) fun v' => zq_if (zq_tb free v) (zq_fz (Nat.lor s (zq_rw E v)) fun s' => ih s' v') (ih s v')
noncomputable def zq_bl (E on free : Nat) (k : Nat → Bool) (r : Nat) : Nat → Nat → Bool :=
  Nat.rec (motive := fun _ => Nat → Nat → Bool) (fun s _ => zq_fz (zq_an (Nat.land s on) free) k) (fun _ ih => zq_bvs E free ih) r
theorem zq_bl_ok {post : Int32 → Prop} {k : Nat → Bool} {E on free : Nat} (hE : zq_E a1 E) (hp : ∀ s, k s = true → post (nI s)) :
    ∀ (r s v : Nat), v + r = 10 → zq_bl E on free k r s v = true → wX_borderVertices_4 post (nI free) (nI on) f0_among f0_barA f0_barB f0_even f0_waiting f0_marked f0_shrunk a1 a2 a3 a4 a5 a6 (r + 1) (nI s) (nI v) := by
  intro r
  induction r with
  | zero =>
    intro s v hv h
    obtain rfl : v = 10 := by omega
    change zq_fz (zq_an (Nat.land s on) free) k = true at h
    rw [zq_fz_eq] at h
    refine br_t zq_hi ?_
    rw [zq_and, zq_ann]
    exact hp _ h
  | succ r ih =>
    intro s v hv h
    have hv' : v < 10 := by omega
    change zq_bvs E free (zq_bl E on free k r) s v = true at h
    simp only [zq_bvs, zq_fz_eq] at h
    refine br_f (zq_lo hv') (zq_inb hv' (fun hb => ?_) (fun hb => ?_))
    · rw [hb, zq_if_f] at h
      exact nm_r (nI_1 v) (ih _ _ (by omega) h)
    · rw [hb, zq_if_t] at h
      refine ⟨zq_vi hv', ?_⟩
      rw [zq_cl hv', hE v hv', zq_or]
      exact nm_e (nm_r (nI_1 v) (ih _ _ (by omega) h))
theorem zq_bv_ok {post : Int32 → Prop} {k : Nat → Bool} {E on free : Nat} (hE : zq_E a1 E) (h : zq_bl E on free k 10 0 0 = true) (hp : ∀ s, k s = true → post (nI s)) :
    wpX_borderVertices post (nI on, f0_among, f0_barA, f0_barB, f0_even, f0_waiting, f0_marked, f0_shrunk, a1, a2, a3, a4, a5, a6) (nI free) := by
  unfold wpX_borderVertices
  dsimp only
  exact ⟨11, zq_bl_ok hE hp 10 0 0 (by omega) h⟩
noncomputable def zq_pt (E on : Nat) (k : Nat → Nat → Bool) : Bool := zq_fv E on (fun f => zq_bl E on f (k f) 10 0 0)
theorem zq_pt_ok {post : Int32 → St2 → Prop} {k : Nat → Nat → Bool} {E on v : Nat} {p : Int32} (hE : zq_E a1 E) (hv : v < 10) (ho : zq_tb on v = true) (h : zq_pt E on k = true)
    (hk : ∀ f b, k f b = true → (zq_tb f v = true ∧ p = 1) ∨ (zq_tb f v = false ∧ zq_tb b v = true ∧ p = 2) ∨ (zq_tb f v = false ∧ zq_tb b v = false ∧ p = 3))
    (hp : ∀ (am bA bB ev wt sh : Int32) (b2 b3 b4 b5 : Nat → Int32), post p (nI on, am, bA, bB, ev, wt, f0_marked, sh, a1, b2, b3, b4, b5, a6)) :
    wpX_part post (nI on, f0_among, f0_barA, f0_barB, f0_even, f0_waiting, f0_marked, f0_shrunk, a1, a2, a3, a4, a5, a6) (nI v) := by
  unfold wpX_part
  dsimp only
  refine zq_bad hv (br_t rfl (zq_inb hv (fun z => absurd (ho.symm.trans z) (by decide)) (fun _ => ?_)))
  refine zq_fv_ok hE h (fun f am bA bB ev wt sh b2 b3 b4 b5 g => ?_)
  refine zq_bv_ok hE g (fun b g => ?_)
  refine zq_inb hv (fun hf => zq_inb hv (fun hb => ?_) (fun hb => ?_)) (fun hf => ?_)
  · rcases hk f b g with ⟨z, _⟩ | ⟨_, z, _⟩ | ⟨_, _, e⟩
    · exact absurd (z.symm.trans hf) (by decide)
    · exact absurd (z.symm.trans hb) (by decide)
    · subst e
      exact hp _ _ _ _ _ _ _ _ _ _
  · rcases hk f b g with ⟨z, _⟩ | ⟨_, _, e⟩ | ⟨_, z, _⟩
    · exact absurd (z.symm.trans hf) (by decide)
    · subst e
      exact hp _ _ _ _ _ _ _ _ _ _
    · exact absurd (hb.symm.trans z) (by decide)
  · rcases hk f b g with ⟨_, e⟩ | ⟨z, _, _⟩ | ⟨z, _, _⟩
    · subst e
      exact hp _ _ _ _ _ _ _ _ _ _
    · exact absurd (hf.symm.trans z) (by decide)
    · exact absurd (hf.symm.trans z) (by decide)
/-! ===== groupOf, groups ===== -/
noncomputable def zq_g2s (E free bf : Nat) (ih : Nat → Nat → Bool) (s u : Nat) : Bool :=
  zq_fz (Nat.succ u) fun u' => zq_if (zq_tb bf u) (zq_fz (Nat.lor s (Nat.land (zq_rw E u) free)) fun s' => ih s' u') (ih s u')
noncomputable def zq_g2 (E free bf : Nat) (J : Nat → Bool) (r : Nat) : Nat → Nat → Bool :=
  Nat.rec (motive := fun _ => Nat → Nat → Bool) (fun s _ => J s) (fun _ ih => zq_g2s E free bf ih) r
theorem zq_g2_ok {post : Int32 → Prop} {J10 : Int32 → Int32 → Int32 → Prop} {J : Nat → Bool} {E free bf i : Nat} (hE : zq_E a1 E) (hJ : ∀ s, J s = true → J10 (nI s) (nI bf) (nI (i + 1))) :
    ∀ (r s u : Nat), u + r = 10 → zq_g2 E free bf J r s u = true → wX_groupOf_29 post J10 (nI free) (nI bf) (nI i) f0_on f0_among f0_barA f0_barB f0_even f0_waiting f0_marked f0_shrunk a1 a2 a3 a4 a5 a6 (r + 1) (nI s) (nI u) := by
  intro r
  induction r with
  | zero =>
    intro s u hu h
    obtain rfl : u = 10 := by omega
    exact br_t zq_hi (nm_r (nI_1 i) (hJ s h))
  | succ r ih =>
    intro s u hu h
    have hu' : u < 10 := by omega
    change zq_g2s E free bf (zq_g2 E free bf J r) s u = true at h
    simp only [zq_g2s, zq_fz_eq] at h
    refine br_f (zq_lo hu') (zq_inb hu' (fun hb => ?_) (fun hb => ?_))
    · rw [hb, zq_if_f] at h
      exact nm_r (nI_1 u) (ih _ _ (by omega) h)
    · rw [hb, zq_if_t] at h
      refine ⟨zq_vi hu', ?_⟩
      rw [zq_cl hu', hE u hu', zq_and, zq_or]
      exact nm_e (nm_r (nI_1 u) (ih _ _ (by omega) h))
noncomputable def zq_g1s (E free : Nat) (k : Nat → Bool) (ih : Nat → Nat → Bool) (s bf : Nat) : Bool :=
  zq_if (Nat.ble s 1023) (zq_if (Nat.beq s bf) (k s) (zq_g2 E free s (fun s' => ih s' s) 10 s 0)) false
noncomputable def zq_g1 (E free : Nat) (k : Nat → Bool) (r : Nat) : Nat → Nat → Bool :=
  Nat.rec (motive := fun _ => Nat → Nat → Bool) (fun s _ => k s) (fun _ ih => zq_g1s E free k ih) r
theorem zq_g1_ok {post : Int32 → Prop} {k : Nat → Bool} {E free : Nat} (hE : zq_E a1 E) (hp : ∀ s, k s = true → post (nI s)) :
    ∀ (r i s bf : Nat), i + r = 10 → bf ≤ 1023 → zq_g1 E free k r s bf = true → wX_groupOf_10 post (nI free) f0_on f0_among f0_barA f0_barB f0_even f0_waiting f0_marked f0_shrunk a1 a2 a3 a4 a5 a6 (r + 1) (nI s) (nI bf) (nI i) := by
  intro r
  induction r with
  | zero =>
    intro i s bf hi hb h
    obtain rfl : i = 10 := by omega
    exact br_t zq_hi (hp s h)
  | succ r ih =>
    intro i s bf hi hb h
    change zq_g1s E free k (zq_g1 E free k r) s bf = true at h
    simp only [zq_g1s] at h
    refine br_f (zq_lo (by omega)) ?_
    rcases zq_ifL h with ⟨hs, h⟩ | ⟨_, z⟩
    · rcases zq_ifN h with ⟨e, h⟩ | ⟨e, h⟩
      · exact br_t (by rw [e]) (hp s h)
      · refine br_f (fun z => e ((nI_eq (by omega) (by omega)).mp z)) ⟨11, zq_g2_ok hE (fun s' g => ?_) 10 s 0 (by omega) h⟩
        exact ih (i + 1) s' s (by omega) hs g
    · exact absurd z (by decide)
theorem zq_go_ok {post : Int32 → Prop} {k : Nat → Bool} {E free v : Nat} (hE : zq_E a1 E) (hv : v < 10) (h : zq_g1 E free k 10 (Nat.shiftLeft 1 v) 0 = true) (hp : ∀ s, k s = true → post (nI s)) :
    wpX_groupOf post (f0_on, f0_among, f0_barA, f0_barB, f0_even, f0_waiting, f0_marked, f0_shrunk, a1, a2, a3, a4, a5, a6) (nI v) (nI free) := by
  unfold wpX_groupOf
  dsimp only
  exact nm_r (zq_sh1 v hv) ⟨11, zq_g1_ok hE hp 10 0 _ 0 (by omega) (by omega) h⟩
noncomputable def zq_grs (E free : Nat) (ih : Nat → Nat → Nat → Bool) (l n v : Nat) : Bool :=
  zq_fz (Nat.succ v) fun v' => zq_if (zq_tb l v) (zq_fz (Nat.shiftLeft 1 v) fun b => zq_g1 E free (fun g => zq_fz (zq_an l g) fun l' => zq_fz (Nat.succ n) fun n' => ih l' n' v') 10 b 0) (ih l n v')
noncomputable def zq_gl (E free : Nat) (k : Nat → Bool) (r : Nat) : Nat → Nat → Nat → Bool :=
  Nat.rec (motive := fun _ => Nat → Nat → Nat → Bool) (fun _ n _ => k n) (fun _ ih => zq_grs E free ih) r
theorem zq_gl_ok {post : Int32 → St2 → Prop} {k : Nat → Bool} {E free : Nat} (hE : zq_E a1 E) (hp : ∀ n, k n = true → post (nI n) (f0_on, f0_among, f0_barA, f0_barB, f0_even, f0_waiting, f0_marked, f0_shrunk, a1, a2, a3, a4, a5, a6)) :
    ∀ (r l n v : Nat), v + r = 10 → zq_gl E free k r l n v = true → wX_groups_12 post (nI free) f0_on f0_among f0_barA f0_barB f0_even f0_waiting f0_marked f0_shrunk a1 a2 a3 a4 a5 a6 (r + 1) (nI l) (nI n) (nI v) := by
  intro r
  induction r with
  | zero =>
    intro l n v hv h
    obtain rfl : v = 10 := by omega
    exact br_t zq_hi (hp n h)
  | succ r ih =>
    intro l n v hv h
    have hv' : v < 10 := by omega
    change zq_grs E free (zq_gl E free k r) l n v = true at h
    simp only [zq_grs, zq_fz_eq] at h
    refine br_f (zq_lo hv') (zq_inb hv' (fun hb => ?_) (fun hb => ?_))
    · rw [hb, zq_if_f] at h
      exact nm_r (nI_1 v) (ih _ _ _ (by omega) h)
    · rw [hb, zq_if_t] at h
      refine zq_go_ok hE hv' h (fun g hg => ?_)
      exact nm_r (zq_ann l g) (nm_r (nI_1 n) (nm_r (nI_1 v) (ih _ _ _ (by omega) hg)))
noncomputable def zq_gr (E on : Nat) (k : Nat → Bool) : Bool := zq_fv E on (fun f => zq_gl E f k 10 f 0 0)
theorem zq_gr_ok {post : Int32 → St2 → Prop} {k : Nat → Bool} {E on : Nat} (hE : zq_E a1 E) (h : zq_gr E on k = true)
    (hp : ∀ (n : Nat) (am bA bB ev wt sh : Int32) (b2 b3 b4 b5 : Nat → Int32), k n = true → post (nI n) (nI on, am, bA, bB, ev, wt, f0_marked, sh, a1, b2, b3, b4, b5, a6)) :
    wpX_groups post (nI on, f0_among, f0_barA, f0_barB, f0_even, f0_waiting, f0_marked, f0_shrunk, a1, a2, a3, a4, a5, a6) := by
  unfold wpX_groups
  dsimp only
  refine zq_fv_ok hE h (fun f am bA bB ev wt sh b2 b3 b4 b5 g => ?_)
  exact ⟨11, zq_gl_ok hE (fun n g => hp n _ _ _ _ _ _ _ _ _ _ g) 10 f 0 0 (by omega) g⟩
/-! ===== bits, needed ===== -/
noncomputable def zq_bis (s : Nat) (ih : Nat → Nat → Bool) (n v : Nat) : Bool :=
  zq_fz (Nat.succ v) fun v' => zq_fz (Nat.add n (Nat.mod (Nat.shiftRight s v) 2)) fun n' => ih n' v'
noncomputable def zq_bi (s : Nat) (k : Nat → Bool) (r : Nat) : Nat → Nat → Bool :=
  Nat.rec (motive := fun _ => Nat → Nat → Bool) (fun n _ => k n) (fun _ ih => zq_bis s ih) r
theorem zq_bi_ok {post : Int32 → Prop} {k : Nat → Bool} {s : Nat} (hp : ∀ n, k n = true → post (nI n)) :
    ∀ (r n v : Nat), v + r = 10 → zq_bi s k r n v = true → wX_bits_4 post (nI s) (r + 1) (nI n) (nI v) := by
  intro r
  induction r with
  | zero =>
    intro n v hv h
    obtain rfl : v = 10 := by omega
    exact br_t zq_hi (hp n h)
  | succ r ih =>
    intro n v hv h
    have hv' : v < 10 := by omega
    change zq_bis s (zq_bi s k r) n v = true at h
    simp only [zq_bis, zq_fz_eq] at h
    refine br_f (zq_lo hv') ?_
    rw [zq_bit s hv', nI_add]
    exact nm_e (nm_r (nI_1 v) (ih _ _ (by omega) h))
noncomputable def zq_nd (E on : Nat) (k : Nat → Bool) : Bool := zq_fv E on (fun f => zq_fz (zq_an on f) fun s => zq_bi s k 10 0 0)
theorem zq_nd_ok {post : Int32 → St2 → Prop} {k : Nat → Bool} {E on : Nat} (hE : zq_E a1 E) (h : zq_nd E on k = true)
    (hp : ∀ (n : Nat) (am bA bB ev wt sh : Int32) (b2 b3 b4 b5 : Nat → Int32), k n = true → post (nI n) (nI on, am, bA, bB, ev, wt, f0_marked, sh, a1, b2, b3, b4, b5, a6)) :
    wpX_needed post (nI on, f0_among, f0_barA, f0_barB, f0_even, f0_waiting, f0_marked, f0_shrunk, a1, a2, a3, a4, a5, a6) := by
  unfold wpX_needed
  dsimp only
  refine zq_fv_ok hE h (fun f am bA bB ev wt sh b2 b3 b4 b5 g => ?_)
  rw [zq_fz_eq] at g
  rw [zq_ann]
  exact ⟨11, zq_bi_ok (fun n g => hp n _ _ _ _ _ _ _ _ _ _ g) 10 0 0 (by omega) g⟩
/-! ===== inSome, inAll, helps ===== -/
noncomputable def zq_is (E on v w : Nat) : Bool :=
  zq_if (zq_tb (zq_rw E v) w) (zq_ma E on 15 15 (fun c _ => zq_fz (zq_an (zq_an on (Nat.shiftLeft 1 v)) (Nat.shiftLeft 1 w)) fun s => zq_ma E s 15 15 (fun d _ => Nat.beq (Nat.succ d) c))) false
theorem zq_is_ok {post : Int32 → St2 → Prop} {E on v w : Nat} (hE : zq_E a1 E) (hv : v < 10) (hw : w < 10) (hn : v ≠ w) (h2 : zq_tb on v = true) (h3 : zq_tb on w = true) (h : zq_is E on v w = true)
    (hp : ∀ (am bA bB ev wt sh : Int32) (b2 b3 b4 b5 : Nat → Int32), post 1 (nI on, am, bA, bB, ev, wt, f0_marked, sh, a1, b2, b3, b4, b5, a6)) :
    wpX_inSome post (nI on, f0_among, f0_barA, f0_barB, f0_even, f0_waiting, f0_marked, f0_shrunk, a1, a2, a3, a4, a5, a6) (nI v) (nI w) := by
  unfold wpX_inSome
  dsimp only
  simp only [zq_is, zq_fz_eq] at h
  rcases zq_ifE h with ⟨h1, h⟩ | ⟨_, z⟩
  · refine zq_noEdge hE hv hw hn h1 h2 h3 (br_t rfl ?_)
    refine zq_sz_ok hE h (fun c M ev wt sh b2 b3 b4 b5 _ g => ?_)
    dsimp only
    rw [zq_anb on hv, zq_anb _ hw]
    refine zq_sz_ok hE g (fun d M ev wt sh b2 b3 b4 b5 _ g => ?_)
    have e : d + 1 = c := Nat.eq_of_beq_eq_true g
    exact br_t (by rw [nI_1, e]) (hp _ _ _ _ _ _ _ _ _ _)
  · exact absurd z (by decide)
noncomputable def zq_ia (E on v w : Nat) : Bool :=
  zq_if (zq_tb (zq_rw E v) w) (zq_ma E on 15 15 (fun c _ => zq_ma E on v w (fun d _ => Nat.beq c d))) false
theorem zq_ia_ok {post : Int32 → St2 → Prop} {E on v w : Nat} (hE : zq_E a1 E) (hv : v < 10) (hw : w < 10) (hn : v ≠ w) (h2 : zq_tb on v = true) (h3 : zq_tb on w = true) (h : zq_ia E on v w = true)
    (hp : ∀ (am bA bB ev wt sh : Int32) (b2 b3 b4 b5 : Nat → Int32), post 0 (nI on, am, bA, bB, ev, wt, f0_marked, sh, a1, b2, b3, b4, b5, a6)) :
    wpX_inAll post (nI on, f0_among, f0_barA, f0_barB, f0_even, f0_waiting, f0_marked, f0_shrunk, a1, a2, a3, a4, a5, a6) (nI v) (nI w) := by
  unfold wpX_inAll
  dsimp only
  simp only [zq_ia] at h
  rcases zq_ifE h with ⟨h1, h⟩ | ⟨_, z⟩
  · refine zq_noEdge hE hv hw hn h1 h2 h3 (br_t rfl ?_)
    refine zq_sz_ok hE h (fun c M ev wt sh b2 b3 b4 b5 _ g => ?_)
    dsimp only
    rw [← zq_dvl hv, ← zq_dvl hw]
    refine zq_ma_ok hE (by omega) (by omega) g (fun d M ev wt sh b2 b3 b4 b5 _ g => ?_)
    have e : c = d := Nat.eq_of_beq_eq_true g
    subst e
    exact br_t (Int32.le_refl _) (hp _ _ _ _ _ _ _ _ _ _)
  · exact absurd z (by decide)
theorem zq_he_ok {post : Int32 → St2 → Prop} {E v w : Nat} (hE : zq_E a1 E) (hv : v < 10) (hw : w < 10) (hn : v ≠ w) (h : zq_tb (zq_rw E v) w = true)
    (hp : post 0 (f0_on, f0_among, f0_barA, f0_barB, f0_even, f0_waiting, f0_marked, f0_shrunk, a1, a2, a3, a4, a5, a6)) :
    wpX_helps post (f0_on, f0_among, f0_barA, f0_barB, f0_even, f0_waiting, f0_marked, f0_shrunk, a1, a2, a3, a4, a5, a6) (nI v) (nI w) := by
  unfold wpX_helps
  dsimp only
  refine zq_badPair hv hw hn (br_t rfl ⟨zq_vi hv, ?_⟩)
  rw [zq_cl hv, hE v hv]
  exact zq_inb hw (fun z => absurd (h.symm.trans z) (by decide)) (fun _ => hp)
end
end
section
section
variable {f0_on f0_among f0_barA f0_barB f0_even f0_waiting f0_marked f0_shrunk : Int32} {a1 a2 a3 a4 a5 a6 : Nat → Int32}
/-! ===== firstPartner ===== -/
theorem zq_need : ∀ c, c < 10 → ∀ n, n < 10 → Nat.succ c ≠ n → ¬ nI c = nI n - 1 := by decide +kernel
noncomputable def zq_fps (E v left need : Nat) (k : Nat → Bool) (ih : Nat → Bool) (w : Nat) : Bool :=
  zq_fz (Nat.succ w) fun w' => zq_if (zq_tb left w) (zq_if (zq_tb (zq_rw E v) w) (zq_fz (zq_an (zq_an left (Nat.shiftLeft 1 v)) (Nat.shiftLeft 1 w)) fun s => zq_ma E s 15 15 (fun c _ => zq_gd c (zq_if (Nat.beq (Nat.succ c) need) (k w) (ih w')))) (ih w')) (ih w')
noncomputable def zq_fp (E v left need : Nat) (k : Nat → Bool) (r : Nat) : Nat → Bool :=
  Nat.rec (motive := fun _ => Nat → Bool) (fun _ => k 15) (fun _ ih => zq_fps E v left need k ih) r
theorem zq_fp_lp {post : Int32 → St2 → Prop} {k : Nat → Bool} {E v left need : Nat} (hE : zq_E a1 E) (hv : v < 10) (hn : need < 10)
    (hp : ∀ (w : Nat) (am bA bB ev wt sh : Int32) (b2 b3 b4 b5 : Nat → Int32), w < 16 → k w = true → post (zq_dv w) (f0_on, am, bA, bB, ev, wt, f0_marked, sh, a1, b2, b3, b4, b5, a6)) :
    ∀ (r w : Nat) (am bA bB ev wt sh : Int32) (b2 b3 b4 b5 : Nat → Int32), w + r = 10 → zq_fp E v left need k r w = true → wX_firstPartner_5 post (nI v) (nI left) (nI need) (r + 1) (nI w) f0_on am bA bB ev wt f0_marked sh a1 b2 b3 b4 b5 a6 := by
  intro r
  induction r with
  | zero =>
    intro w am bA bB ev wt sh b2 b3 b4 b5 hw h
    obtain rfl : w = 10 := by omega
    exact br_t zq_hi (hp 15 _ _ _ _ _ _ _ _ _ _ (by omega) h)
  | succ r ih =>
    intro w am bA bB ev wt sh b2 b3 b4 b5 hw h
    have hw' : w < 10 := by omega
    change zq_fps E v left need k (zq_fp E v left need k r) w = true at h
    simp only [zq_fps, zq_fz_eq] at h
    refine br_f (zq_lo hw') (zq_inb hw' (fun hb => ?_) (fun hb => ?_))
    · rw [hb, zq_if_f] at h
      exact nm_r (nI_1 w) (ih _ _ _ _ _ _ _ _ _ _ _ (by omega) h)
    · rw [hb, zq_if_t] at h
      refine ⟨zq_vi hv, ?_⟩
      rw [zq_cl hv, hE v hv]
      refine zq_inb hw' (fun hc => ?_) (fun hc => ?_)
      · rw [hc, zq_if_f] at h
        exact nm_r (nI_1 w) (ih _ _ _ _ _ _ _ _ _ _ _ (by omega) h)
      · rw [hc, zq_if_t] at h
        rw [zq_anb left hv, zq_anb _ hw']
        refine zq_sz_ok hE h (fun c M ev' wt' sh' c2 c3 c4 c5 _ g => ?_)
        obtain ⟨hc, g⟩ := zq_gd_el g
        rcases zq_ifN g with ⟨e, g⟩ | ⟨e, g⟩
        · refine br_t (by rw [← e]; exact (nI_pred c).symm) ?_
          have t := hp w (nI (zq_an (zq_an left (Nat.shiftLeft 1 v)) (Nat.shiftLeft 1 w))) (zq_dv 15) (zq_dv 15) ev' wt' sh' c2 c3 c4 c5 (by omega) g
          rw [zq_dvl hw'] at t
          exact t
        · exact br_f (zq_need c hc need hn e) (nm_r (nI_1 w) (ih _ _ _ _ _ _ _ _ _ _ _ (by omega) g))
theorem zq_fp_ok {post : Int32 → St2 → Prop} {k : Nat → Bool} {E v left need : Nat} (hE : zq_E a1 E) (hv : v < 10) (hn : need < 10) (h : zq_fp E v left need k (Nat.sub 9 v) (Nat.succ v) = true)
    (hp : ∀ (w : Nat) (am bA bB ev wt sh : Int32) (b2 b3 b4 b5 : Nat → Int32), w < 16 → k w = true → post (zq_dv w) (f0_on, am, bA, bB, ev, wt, f0_marked, sh, a1, b2, b3, b4, b5, a6)) :
    wpX_firstPartner post (f0_on, f0_among, f0_barA, f0_barB, f0_even, f0_waiting, f0_marked, f0_shrunk, a1, a2, a3, a4, a5, a6) (nI v) (nI left) (nI need) := by
  unfold wpX_firstPartner
  dsimp only
  exact nm_r (nI_1 v) ⟨_, zq_fp_lp hE hv hn hp (9 - v) (v + 1) _ _ _ _ _ _ _ _ _ _ (by omega) h⟩
/-! ===== findFirst, partner ===== -/
noncomputable def zq_ffs (E : Nat) (ih : Nat → Nat → Nat → Nat → Bool) (left need v F : Nat) : Bool :=
  zq_fz (Nat.succ v) fun v' => zq_if (zq_tb left v) (zq_gd need (zq_fp E v left need (fun w => zq_fz (zq_an left (Nat.shiftLeft 1 v)) fun l1 => zq_if (Nat.beq w 15) (ih l1 need v' F) (zq_gd w (zq_if (Nat.ble 1 need) (zq_fz (zq_an l1 (Nat.shiftLeft 1 w)) fun l2 => zq_fz (zq_st (zq_st F v w) w v) fun F' => zq_fz (Nat.sub need 1) fun n' => ih l2 n' v' F') false))) (Nat.sub 9 v) (Nat.succ v))) (ih left need v' F)
noncomputable def zq_ff (E : Nat) (k : Nat → Bool) (r : Nat) : Nat → Nat → Nat → Nat → Bool :=
  Nat.rec (motive := fun _ => Nat → Nat → Nat → Nat → Bool) (fun _ _ _ F => k F) (fun _ ih => zq_ffs E ih) r
theorem zq_ff_lp {post : St2 → Prop} {k : Nat → Bool} {E : Nat} (hE : zq_E a1 E)
    (hp : ∀ (F : Nat) (am bA bB ev wt sh : Int32) (b2 b3 b4 b5 b6 : Nat → Int32), zq_F b6 F → k F = true → post (f0_on, am, bA, bB, ev, wt, f0_marked, sh, a1, b2, b3, b4, b5, b6)) :
    ∀ (r left need v F : Nat) (am bA bB ev wt sh : Int32) (b2 b3 b4 b5 b6 : Nat → Int32), v + r = 10 → zq_F b6 F → zq_ff E k r left need v F = true → wX_findFirst_38 post (r + 1) (nI left) (nI need) (nI v) f0_on am bA bB ev wt f0_marked sh a1 b2 b3 b4 b5 b6 := by
  intro r
  induction r with
  | zero =>
    intro left need v F am bA bB ev wt sh b2 b3 b4 b5 b6 hv h6 h
    obtain rfl : v = 10 := by omega
    exact br_t zq_hi (hp F _ _ _ _ _ _ _ _ _ _ _ h6 h)
  | succ r ih =>
    intro left need v F am bA bB ev wt sh b2 b3 b4 b5 b6 hv h6 h
    have hv' : v < 10 := by omega
    change zq_ffs E (zq_ff E k r) left need v F = true at h
    simp only [zq_ffs, zq_fz_eq] at h
    refine br_f (zq_lo hv') (zq_inb hv' (fun hb => ?_) (fun hb => ?_))
    · rw [hb, zq_if_f] at h
      exact nm_r (nI_1 v) (ih _ _ _ _ _ _ _ _ _ _ _ _ _ _ _ (by omega) h6 h)
    · rw [hb, zq_if_t] at h
      obtain ⟨hn, h⟩ := zq_gd_el h
      refine zq_fp_ok hE hv' hn h (fun w am bA bB ev wt sh c2 c3 c4 c5 hw g => ?_)
      refine nm_r (zq_anb left hv') ?_
      rcases zq_ifN g with ⟨e, g⟩ | ⟨e, g⟩
      · subst e
        exact br_t zq_dvneg15 (nm_r (nI_1 v) (ih _ _ _ _ _ _ _ _ _ _ _ _ _ _ _ (by omega) h6 g))
      · obtain ⟨hw', g⟩ := zq_gd_el g
        rcases zq_ifL g with ⟨h1, g⟩ | ⟨_, z⟩
        · rw [zq_dvl hw']
          have h6' : zq_F (upd (upd b6 v (nI w)) w (nI v)) (zq_st (zq_st F v w) w v) :=
            zq_Ar_put (zq_Ar_put h6 hv' (by omega) (zq_dnl hw').symm) hw' (by omega) (zq_dnl hv').symm
          refine br_f (zq_nn hw') ⟨zq_vi hv', ?_⟩
          rw [zq_cl hv', zq_cl hw']
          exact nm_e ⟨zq_vi hw', nm_e (nm_r (zq_anb _ hw') (nm_r (sb_m1 h1) (nm_r (nI_1 v) (ih _ _ _ _ _ _ _ _ _ _ _ _ _ _ _ (by omega) h6' g))))⟩
        · exact absurd z (by decide)
theorem zq_ff_in {post : St2 → Prop} {k : Nat → Bool} {E left need : Nat} (hE : zq_E a1 E) (h : zq_ff E k 10 left need 0 0xffffffffff = true)
    (hp : ∀ (F : Nat) (am bA bB ev wt sh : Int32) (b2 b3 b4 b5 b6 : Nat → Int32), zq_F b6 F → k F = true → post (f0_on, am, bA, bB, ev, wt, f0_marked, sh, a1, b2, b3, b4, b5, b6)) :
    ∀ (r i : Nat) (b6 : Nat → Int32), i + r = 10 → (∀ j, j < i → b6 j = -2) → wX_findFirst_16 post (nI left) (nI need) f0_on f0_among f0_barA f0_barB f0_even f0_waiting f0_marked f0_shrunk (r + 1) (nI i) a1 a2 a3 a4 a5 b6 := by
  intro r
  induction r with
  | zero =>
    intro i b6 hi h6
    obtain rfl : i = 10 := by omega
    have g6 : zq_F b6 0xffffffffff := fun j hj => by rw [h6 j hj, zq_P0 j hj]; rfl
    exact br_t zq_hi ⟨11, zq_ff_lp hE hp 10 left need 0 _ _ _ _ _ _ _ _ _ _ _ _ (by omega) g6 h⟩
  | succ r ih =>
    intro i b6 hi h6
    have hi' : i < 10 := by omega
    refine br_f (zq_lo hi') ⟨zq_vi hi', ?_⟩
    rw [zq_cl hi']
    refine nm_e (nm_r (nI_1 i) (ih (i + 1) _ (by omega) (fun j hj => ?_)))
    by_cases e : j = i
    · rw [e, pk_us]
    · rw [pk_un e, h6 j (by omega)]
noncomputable def zq_pa (E on v w : Nat) : Bool := zq_ma E on 15 15 (fun c _ => zq_ff E (fun F => Nat.beq (zq_gt F v) w) 10 on c 0 0xffffffffff)
theorem zq_pa_ok {post : Int32 → St2 → Prop} {E on v w : Nat} (hE : zq_E a1 E) (hv : v < 10) (hw : w < 10) (h : zq_pa E on v w = true)
    (hp : ∀ u, post (nI w) u) :
    wpX_partner post (nI on, f0_among, f0_barA, f0_barB, f0_even, f0_waiting, f0_marked, f0_shrunk, a1, a2, a3, a4, a5, a6) (nI v) := by
  unfold wpX_partner
  dsimp only
  refine zq_bad hv (br_t rfl ?_)
  unfold wpX_findFirst
  dsimp only
  refine zq_sz_ok hE h (fun c M ev wt sh b2 b3 b4 b5 _ g => ?_)
  refine ⟨11, zq_ff_in hE g (fun F am bA bB ev wt sh b2 b3 b4 b5 b6 h6 g => ?_) 10 0 _ (by omega) (fun j hj => absurd hj (by omega))⟩
  have e : zq_gt F v = w := Nat.eq_of_beq_eq_true g
  refine ⟨zq_vi hv, ?_⟩
  dsimp only
  rw [zq_cl hv, h6 v hv, e, zq_dnl hw]
  exact hp _
/-! ===== setEdge, circle ===== -/
noncomputable def zq_gk (x : Nat) (b : Bool) : Bool := zq_if (Nat.ble x 1023) b false
theorem zq_gk_el {x : Nat} {b : Bool} (h : zq_gk x b = true) : x < 1024 ∧ b = true := by
  rcases zq_ifL h with ⟨e, h⟩ | ⟨e, h⟩
  · exact ⟨by omega, h⟩
  · exact absurd h (by decide)
noncomputable def zq_sd (E p q : Nat) (k : Nat → Nat → Bool) : Bool :=
  zq_fz (zq_an (zq_rw E p) (Nat.shiftLeft 1 q)) fun x1 => zq_gk x1 (zq_fz (zq_rs E p x1) fun E1 => zq_fz (zq_an (zq_rw E1 q) (Nat.shiftLeft 1 p)) fun x2 => zq_gk x2 (zq_fz (zq_rs E1 q x2) fun E2 => zq_fz (Nat.lor (zq_rw E2 p) (Nat.shiftLeft 1 q)) fun x3 => zq_gk x3 (zq_fz (zq_rs E2 p x3) fun E3 => zq_fz (Nat.lor (zq_rw E3 q) (Nat.shiftLeft 1 p)) fun x4 => zq_gk x4 (zq_fz (zq_rs E3 q x4) fun E4 => zq_fz (Nat.mod (Nat.shiftRight (zq_rw E p) q) 2) fun o => k o E4))))
theorem zq_sd_ok {post : Int32 → St2 → Prop} {k : Nat → Nat → Bool} {E p q : Nat} (hE : zq_E a1 E) (hP : p < 10) (hq : q < 10) (h : zq_sd E p q k = true)
    (hp : ∀ (o E : Nat) (b1 : Nat → Int32), o ≤ 1 → zq_E b1 E → k o E = true → post (nI o) (f0_on, f0_among, f0_barA, f0_barB, f0_even, f0_waiting, f0_marked, f0_shrunk, b1, a2, a3, a4, a5, a6)) :
    wpX_setEdge post (f0_on, f0_among, f0_barA, f0_barB, f0_even, f0_waiting, f0_marked, f0_shrunk, a1, a2, a3, a4, a5, a6) (nI p) (nI q) 1 := by
  unfold wpX_setEdge
  dsimp only
  simp only [zq_sd, zq_fz_eq] at h
  obtain ⟨k1, h⟩ := zq_gk_el h
  obtain ⟨k2, h⟩ := zq_gk_el h
  obtain ⟨k3, h⟩ := zq_gk_el h
  obtain ⟨k4, h⟩ := zq_gk_el h
  rw [zq_cl hP, zq_cl hq]
  refine ⟨zq_vi hP, ?_⟩
  rw [hE p hP, zq_bit _ hq]
  refine nm_e ⟨zq_vi hP, zq_vi hP, ?_⟩
  have E1 := zq_E_put hE hP k1 (zq_anb (zq_rw E p) hq)
  refine nm_e ⟨zq_vi hq, zq_vi hq, ?_⟩
  rw [E1 q hq]
  have E2 := zq_E_put E1 hq k2 (zq_anb _ hP)
  refine nm_e (br_f (by decide) ⟨zq_vi hP, zq_vi hP, ?_⟩)
  rw [E2 p hP]
  have E3 := zq_E_put E2 hP k3 (zq_orb _ hq)
  refine nm_e ⟨zq_vi hq, zq_vi hq, ?_⟩
  rw [E3 q hq]
  have E4 := zq_E_put E3 hq k4 (zq_orb _ hP)
  exact nm_e (hp _ _ _ (by have : (zq_rw E p >>> q) % 2 < 2 := Nat.mod_lt _ (by decide); exact Nat.le_of_lt_succ this) E4 h)
noncomputable def zq_ccs (ih : Nat → Nat → Nat → Bool) (f v E : Nat) : Bool :=
  zq_fz (Nat.succ v) fun v' => zq_sd E v v' (fun o E' => zq_fz (Nat.add f (Nat.sub 1 o)) fun f' => ih f' v' E')
noncomputable def zq_cc (k : Nat → Nat → Bool) (r : Nat) : Nat → Nat → Nat → Bool :=
  Nat.rec (motive := fun _ => Nat → Nat → Nat → Bool) (fun f _ E => k f E) (fun _ ih => zq_ccs ih) r
theorem zq_one {o : Nat} (h : o ≤ 1) : (1 : Int32) - nI o = nI (1 - o) := pk_sub (a := 1) h
theorem zq_cc_ok {post : Int32 → St2 → Prop} {k : Nat → Nat → Bool} {b : Nat} (hb : b < 10)
    (hp : ∀ (f E : Nat) (b1 : Nat → Int32), zq_E b1 E → k f E = true → post (nI f) (f0_on, f0_among, f0_barA, f0_barB, f0_even, f0_waiting, f0_marked, f0_shrunk, b1, a2, a3, a4, a5, a6)) :
    ∀ (r f v E : Nat) (b1 : Nat → Int32), v + r = b → zq_E b1 E → zq_cc k r f v E = true → wX_circle_36 post (nI b) (r + 1) (nI f) (nI v) f0_on f0_among f0_barA f0_barB f0_even f0_waiting f0_marked f0_shrunk b1 a2 a3 a4 a5 a6 := by
  intro r
  induction r with
  | zero =>
    intro f v E b1 hv h1 h
    obtain rfl : v = b := by omega
    exact br_t (Int32.le_refl _) (hp f E b1 h1 h)
  | succ r ih =>
    intro f v E b1 hv h1 h
    change zq_ccs (zq_cc k r) f v E = true at h
    simp only [zq_ccs, zq_fz_eq] at h
    refine br_f (nI_ge (a := v) (b := b) (by omega) (by omega)) ?_
    rw [nI_1]
    refine zq_sd_ok h1 (by omega) (by omega) h (fun o E' c1 ho g1 g => ?_)
    refine nm_r (by rw [zq_one ho, nI_add]; rfl) (nm_r rfl (ih _ _ _ _ (by omega) g1 g))
noncomputable def zq_ci (E a b : Nat) (k : Nat → Nat → Bool) : Bool := zq_sd E b a (fun o E' => zq_fz (Nat.sub 1 o) fun f => zq_cc k (Nat.sub b a) f a E')
theorem zq_ci_ok {post : Int32 → St2 → Prop} {k : Nat → Nat → Bool} {E a b : Nat} (hE : zq_E a1 E) (ha : a < 10) (hb : b < 10) (hab : a + 2 ≤ b) (h : zq_ci E a b k = true)
    (hp : ∀ (f E : Nat) (b1 : Nat → Int32), zq_E b1 E → k f E = true → post (nI f) (f0_on, f0_among, f0_barA, f0_barB, f0_even, f0_waiting, f0_marked, f0_shrunk, b1, a2, a3, a4, a5, a6)) :
    wpX_circle post (f0_on, f0_among, f0_barA, f0_barB, f0_even, f0_waiting, f0_marked, f0_shrunk, a1, a2, a3, a4, a5, a6) (nI a) (nI b) := by
  unfold wpX_circle
  dsimp only
  simp only [zq_ci, zq_fz_eq] at h
  refine zq_bad ha (br_t rfl (zq_bad hb (br_t rfl ?_)))
  refine br_t (by rw [pk_sub (show a ≤ b by omega)]; exact nI_le (a := 2) (by omega) (by omega)) ?_
  refine zq_sd_ok hE hb ha h (fun o E' b1 ho h1 g => ?_)
  exact nm_r (zq_one ho) ⟨_, zq_cc_ok hb hp (b - a) _ a E' b1 (by omega) h1 g⟩
end
end
section
/-! ===== what the law asks, evaluated ===== -/
noncomputable def zq_al (g : Nat → Bool) (r : Nat) : Bool := Nat.rec (motive := fun _ => Bool) true (fun i ih => zq_if (g i) ih false) r
theorem zq_al_el {g : Nat → Bool} : ∀ r, zq_al g r = true → ∀ v, v < r → g v = true := by
  intro r
  induction r with
  | zero => intro _ v hv; exact absurd hv (by omega)
  | succ r ih =>
    intro h v hv
    change zq_if (g r) (zq_al g r) false = true at h
    rcases zq_ifE h with ⟨h1, h⟩ | ⟨_, z⟩
    · by_cases e : v = r
      · rw [e]; exact h1
      · exact ih h v (by omega)
    · exact absurd z (by decide)
/-- the number b if the circle is odd, else c -/
noncomputable def zq_oc (n b c : Nat) : Nat := Bool.rec (motive := fun _ => Nat) c b (Nat.beq (Nat.mod (Nat.succ n) 2) 1)
noncomputable def zq_core (a n v : Nat) : Bool := zq_if (Nat.beq (Nat.mod (Nat.succ n) 2) 1) false (zq_if (Nat.ble a v) (Nat.ble v (Nat.add a n)) false)
noncomputable def zq_pc (a n f b v : Nat) : Bool := zq_if (zq_core a n v) (zq_if (zq_tb f v) false (zq_if (zq_tb b v) false true)) (zq_tb f v)
noncomputable def zq_chk (a n E : Nat) : Bool :=
  zq_if (zq_ma E 1023 15 15 (fun c _ => Nat.beq c (Nat.div (Nat.succ n) 2)))
  (zq_if (zq_pt E 1023 (fun f b => zq_al (zq_pc a n f b) 10))
  (zq_if (zq_gr E 1023 (fun c => Nat.beq (Nat.add c n) (zq_oc n 10 9)))
  (zq_if (zq_is E 1023 a (Nat.succ a))
  (zq_if (zq_ia E 1023 a (Nat.succ a))
  (zq_if (zq_nd E 1023 (fun c => Nat.beq c (zq_oc n 0 (Nat.succ n))))
  (zq_pa E 1023 a (Nat.succ a)) false) false) false) false) false) false
noncomputable def zq_top (a n : Nat) : Bool := zq_ci 0 a (Nat.add a n) (fun f E => zq_if (Nat.beq f (Nat.succ n)) (zq_chk a n E) false)
theorem zq_ev : ∀ a, a < 8 → ∀ n, n < 10 → 2 ≤ n → a + n ≤ 9 → zq_top a n = true := by decide +kernel
end
section
section
variable {f0_on f0_among f0_barA f0_barB f0_even f0_waiting f0_marked f0_shrunk : Int32} {a1 a2 a3 a4 a5 a6 : Nat → Int32}
theorem zq_oc_t {n b c : Nat} (h : (n + 1) % 2 = 1) : zq_oc n b c = b := by
  have e : Nat.beq (Nat.mod (Nat.succ n) 2) 1 = true := by
    show Nat.beq ((n + 1) % 2) 1 = true
    rw [h]
    rfl
  unfold zq_oc
  rw [e]
theorem zq_oc_f {n b c : Nat} (h : (n + 1) % 2 = 0) : zq_oc n b c = c := by
  have e : Nat.beq (Nat.mod (Nat.succ n) 2) 1 = false := by
    show Nat.beq ((n + 1) % 2) 1 = false
    rw [h]
    rfl
  unfold zq_oc
  rw [e]
theorem zq_blef {a b : Nat} (h : b < a) : Nat.ble a b = false := by
  cases e : Nat.ble a b with
  | false => rfl
  | true => exact absurd (Nat.le_of_ble_eq_true e) (by omega)
theorem zq_core_t {a n v : Nat} (h : (n + 1) % 2 = 0) (h1 : a ≤ v) (h2 : v ≤ a + n) : zq_core a n v = true := by
  have e : Nat.beq (Nat.mod (Nat.succ n) 2) 1 = false := by
    show Nat.beq ((n + 1) % 2) 1 = false
    rw [h]
    rfl
  have e2 : Nat.ble v (Nat.add a n) = true := Nat.ble_eq_true_of_le h2
  unfold zq_core
  rw [e, zq_if_f, Nat.ble_eq_true_of_le h1, zq_if_t, e2]
theorem zq_core_f {a n v : Nat} (h : (n + 1) % 2 = 1 ∨ v < a ∨ a + n < v) : zq_core a n v = false := by
  unfold zq_core
  cases e : Nat.beq (Nat.mod (Nat.succ n) 2) 1 with
  | true => rfl
  | false =>
    have e' : ¬ (n + 1) % 2 = 1 := Nat.ne_of_beq_eq_false e
    rw [zq_if_f]
    cases e1 : Nat.ble a v with
    | false => rfl
    | true =>
      have h1 : a ≤ v := Nat.le_of_ble_eq_true e1
      have h2 : Nat.ble v (Nat.add a n) = false := zq_blef (show a + n < v by omega)
      rw [zq_if_t, h2]
theorem zq_on : ∀ v, v < 10 → zq_tb 1023 v = true := by decide +kernel
/-- all that the law asks, of one graph -/
def zq_facts (a n E : Nat) : Prop :=
  zq_ma E 1023 15 15 (fun c _ => Nat.beq c (Nat.div (Nat.succ n) 2)) = true ∧
  zq_pt E 1023 (fun f b => zq_al (zq_pc a n f b) 10) = true ∧
  zq_gr E 1023 (fun c => Nat.beq (Nat.add c n) (zq_oc n 10 9)) = true ∧
  zq_is E 1023 a (Nat.succ a) = true ∧ zq_ia E 1023 a (Nat.succ a) = true ∧
  zq_nd E 1023 (fun c => Nat.beq c (zq_oc n 0 (Nat.succ n))) = true ∧ zq_pa E 1023 a (Nat.succ a) = true
theorem zq_ifA {b x : Bool} (h : zq_if b x false = true) : b = true ∧ x = true := by
  rcases zq_ifE h with h | ⟨_, z⟩
  · exact h
  · exact absurd z (by decide)
theorem zq_chk_el {a n E : Nat} (h : zq_chk a n E = true) : zq_facts a n E := by
  unfold zq_chk at h
  obtain ⟨h1, h⟩ := zq_ifA h
  obtain ⟨h2, h⟩ := zq_ifA h
  obtain ⟨h3, h⟩ := zq_ifA h
  obtain ⟨h4, h⟩ := zq_ifA h
  obtain ⟨h5, h⟩ := zq_ifA h
  obtain ⟨h6, h⟩ := zq_ifA h
  exact ⟨h1, h2, h3, h4, h5, h6, h⟩
theorem zq_l230 {post : Int32 → St0 → Prop} {mc ms kc ks a E : Nat} {z : Int32} (ha : a + 1 < 10) (hE : zq_E a1 E) (hb : zq_tb (zq_rw E a) (Nat.succ a) = true) (h : zq_pa E 1023 a (Nat.succ a) = true) (hp : post 1 ()) :
    wL_lawOf_230 post mc ms (nI a) z z kc ks (nI 1023) f0_among f0_barA f0_barB f0_even f0_waiting f0_marked f0_shrunk a1 a2 a3 a4 a5 a6 := by
  unfold wL_lawOf_230
  refine br_t rfl ?_
  rw [nI_1]
  refine zq_he_ok hE (by omega) ha (by omega) hb ?_
  refine br_t rfl (zq_pa_ok hE (by omega) ha h (fun u => ?_))
  obtain ⟨_, _, _, _, _, _, _, _, _, _, _, _, _, _⟩ := u
  exact br_t rfl hp
theorem zq_l185 {post : Int32 → St0 → Prop} {mc ms kc ks a n E : Nat} {x z0 z1 z2 : Int32} (ha : a + 1 < 10) (hE : zq_E a1 E) (hf : zq_facts a n E) (hx : ((n + 1) % 2 = 1 ∧ x = 1) ∨ ((n + 1) % 2 = 0 ∧ x = 0)) (hz : z2 = z1 + z0) (hp : post 1 ()) :
    wL_lawOf_185 post mc ms (nI a) (nI (n + 1)) x z0 z1 z2 kc ks (nI 1023) f0_among f0_barA f0_barB f0_even f0_waiting f0_marked f0_shrunk a1 a2 a3 a4 a5 a6 := by
  obtain ⟨_, _, _, h4, h5, h6, h7⟩ := hf
  have hb : zq_tb (zq_rw E a) (Nat.succ a) = true := (zq_ifA h5).1
  unfold wL_lawOf_185
  refine br_t hz ?_
  rw [nI_1 a]
  refine zq_is_ok hE (by omega) ha (by omega) (zq_on _ (by omega)) (zq_on _ ha) h4 (fun am bA bB ev wt sh b2 b3 b4 b5 => br_f (by decide) ?_)
  refine zq_ia_ok hE (by omega) ha (by omega) (zq_on _ (by omega)) (zq_on _ ha) h5 (fun am bA bB ev wt sh b2 b3 b4 b5 => br_t rfl ?_)
  refine zq_nd_ok hE h6 (fun c am bA bB ev wt sh b2 b3 b4 b5 g => ?_)
  have e : c = zq_oc n 0 (Nat.succ n) := Nat.eq_of_beq_eq_true g
  rcases hx with ⟨ho, rfl⟩ | ⟨ho, rfl⟩
  · rw [zq_oc_t ho] at e
    subst e
    exact br_f (by decide) (zq_l230 ha hE hb h7 hp)
  · rw [zq_oc_f ho] at e
    subst e
    exact br_t rfl (zq_l230 ha hE hb h7 hp)
theorem zq_l142 {post : Int32 → St0 → Prop} {mc ms kc ks a n v E : Nat} {x p : Int32} (ha : a + 1 < 10) (hn : n < 10) (hv : v < 10) (hE : zq_E a1 E) (hf : zq_facts a n E) (hx : ((n + 1) % 2 = 1 ∧ x = 1) ∨ ((n + 1) % 2 = 0 ∧ x = 0))
    (hc : (zq_core a n v = true ∧ p = 3) ∨ (zq_core a n v = false ∧ p = 1)) (hp : post 1 ()) :
    wL_lawOf_142 post mc ms (nI a) (nI (n + 1)) x (nI v) p kc ks (nI 1023) f0_among f0_barA f0_barB f0_even f0_waiting f0_marked f0_shrunk a1 a2 a3 a4 a5 a6 := by
  have hf' := hf
  obtain ⟨h1, h2, h3, _, _, _, _⟩ := hf
  unfold wL_lawOf_142
  refine zq_size_ok hE h1 (fun c M am bA bB ev wt sh b2 b3 b4 b5 g => ⟨by decide, ?_⟩)
  have e : c = (n + 1) / 2 := Nat.eq_of_beq_eq_true g
  refine br_t (by rw [e]; exact (pk_div (a := n + 1) (d := 2) (by omega) (by omega) (by omega)).symm) ?_
  refine zq_pt_ok (p := p) hE hv (zq_on v hv) h2 (fun f b g => ?_) (fun am bA bB ev wt sh b2 b3 b4 b5 => br_t rfl ?_)
  · have g' := zq_al_el 10 g v hv
    unfold zq_pc at g'
    rcases hc with ⟨hc, e⟩ | ⟨hc, e⟩
    · rw [hc, zq_if_t] at g'
      rcases zq_ifE g' with ⟨_, z⟩ | ⟨hf, g'⟩
      · exact absurd z (by decide)
      · rcases zq_ifE g' with ⟨_, z⟩ | ⟨hb, _⟩
        · exact absurd z (by decide)
        · exact Or.inr (Or.inr ⟨hf, hb, e⟩)
    · rw [hc, zq_if_f] at g'
      exact Or.inl ⟨g', e⟩
  · refine zq_gr_ok hE h3 (fun c am bA bB ev wt sh b2 b3 b4 b5 g => ?_)
    have e : c + n = zq_oc n 10 9 := Nat.eq_of_beq_eq_true g
    rcases hx with ⟨ho, rfl⟩ | ⟨ho, rfl⟩
    · rw [zq_oc_t ho] at e
      refine br_f (by decide) (zq_l185 ha hE hf' (Or.inl ⟨ho, rfl⟩) ?_ hp)
      rw [show (10 : Int32) - nI (n + 1) = nI (10 - (n + 1)) from pk_sub (a := 10) (by omega), nI_1]
      rw [show c = 10 - (n + 1) + 1 by omega]
    · rw [zq_oc_f ho] at e
      refine br_t rfl (zq_l185 ha hE hf' (Or.inr ⟨ho, rfl⟩) ?_ hp)
      rw [show (10 : Int32) - nI (n + 1) = nI (10 - (n + 1)) from pk_sub (a := 10) (by omega), show (0 : Int32) = nI 0 from rfl, nI_add]
      rw [show c = 10 - (n + 1) + 0 by omega]
theorem zq_l92 {post : Int32 → St0 → Prop} {mc ms kc ks a n E : Nat} {x2 x : Int32} (ha : a + 1 < 10) (hn : n < 10) (hE : zq_E a1 E) (hf : zq_facts a n E) (hx : ((n + 1) % 2 = 1 ∧ x = 1) ∨ ((n + 1) % 2 = 0 ∧ x = 0)) (hp : post 1 ()) :
    wL_lawOf_92 post mc ms x2 (nI a) (nI n) (nI (n + 1)) x kc ks (nI 1023) f0_among f0_barA f0_barB f0_even f0_waiting f0_marked f0_shrunk a1 a2 a3 a4 a5 a6 := by
  unfold wL_lawOf_92
  rw [pk_and x2 (m := 2147483647) 31 (by decide)]
  have hz : x2.toBitVec.toNat % 2 ^ 31 < 2 ^ 31 := Nat.mod_lt _ (by decide)
  refine ⟨by decide, nm_r (pk_rem (d := 10) hz (by decide) (by decide)) ?_⟩
  have hv : x2.toBitVec.toNat % 2 ^ 31 % 10 < 10 := Nat.mod_lt _ (by decide)
  generalize x2.toBitVec.toNat % 2 ^ 31 % 10 = v at hv
  rw [nI_add]
  have out : ∀ q, zq_core a n v = false → q = (0 : Int32) → wL_lawOf_125 post mc ms (nI a) (nI (n + 1)) x (nI v) q kc ks (nI 1023) f0_among f0_barA f0_barB f0_even f0_waiting f0_marked f0_shrunk a1 a2 a3 a4 a5 a6 := by
    intro q hc hq
    unfold wL_lawOf_125 wL_lawOf_141
    exact br_t hq (zq_l142 ha hn hv hE hf hx (Or.inr ⟨hc, rfl⟩) hp)
  refine pk_lt v a (fun h => out 0 (zq_core_f (Or.inr (Or.inl h))) rfl) (fun h => pk_lt (a + n) v (fun g => out 0 (zq_core_f (Or.inr (Or.inr g))) rfl) (fun g => ?_))
  unfold wL_lawOf_125 wL_lawOf_141
  refine br_f (by decide) ?_
  rcases hx with ⟨ho, rfl⟩ | ⟨ho, rfl⟩
  · exact br_f (by decide) (zq_l142 ha hn hv hE hf (Or.inl ⟨ho, rfl⟩) (Or.inr ⟨zq_core_f (Or.inl ho), rfl⟩) hp)
  · exact br_t rfl (zq_l142 ha hn hv hE hf (Or.inr ⟨ho, rfl⟩) (Or.inl ⟨zq_core_t ho h g, rfl⟩) hp)
theorem zq_l51 {post : Int32 → St0 → Prop} {mc ms kc ks a n : Nat} {x2 : Int32} (ha : a < 8) (hn : 2 ≤ n) (han : a + n ≤ 9) (hE : zq_E a1 0) (hp : post 1 ()) :
    wL_lawOf_51 post mc ms x2 (nI a) (nI n) kc ks (nI 1023) f0_among f0_barA f0_barB f0_even f0_waiting f0_marked f0_shrunk a1 a2 a3 a4 a5 a6 := by
  have ht : zq_top a n = true := zq_ev a ha n (by omega) hn han
  unfold wL_lawOf_51
  rw [nI_add]
  refine zq_ci_ok hE (by omega) (by omega) (by omega) ht (fun f E b1 h1 g => ?_)
  obtain ⟨g1, g⟩ := zq_ifA g
  have e : f = n + 1 := Nat.eq_of_beq_eq_true g1
  have hf := zq_chk_el g
  refine br_t (by rw [e, nI_1]) (nm_r (nI_1 n) ⟨by decide, ?_⟩)
  rw [show nI (n + 1) - nI (n + 1) / 2 * 2 = nI ((n + 1) % 2) from pk_rem (d := 2) (by omega) (by decide) (by decide)]
  have h2 : (n + 1) % 2 = 1 ∨ (n + 1) % 2 = 0 := by omega
  rcases h2 with h2 | h2
  · rw [h2]
    exact br_t rfl (zq_l92 (by omega) (by omega) h1 hf (Or.inl ⟨h2, rfl⟩) hp)
  · rw [h2]
    exact br_f (by decide) (zq_l92 (by omega) (by omega) h1 hf (Or.inr ⟨h2, rfl⟩) hp)
theorem zq_E0 : zq_E (fun _ => 0) 0 := (by decide +kernel : ∀ k, k < 10 → (0 : Int32) = nI (zq_rw 0 k))
theorem zq_lawOf {post : Int32 → St0 → Prop} {mc ms : Nat} {x y z : Int32} (hm : 7 ≤ mc) (hs : 74 ≤ ms) (hp : post 1 ()) : wpL_lawOf post mc ms () x y z := by
  unfold wpL_lawOf
  rw [pk_and x (m := 2147483647) 31 (by decide), pk_and y (m := 2147483647) 31 (by decide)]
  have hX : x.toBitVec.toNat % 2 ^ 31 < 2 ^ 31 := Nat.mod_lt _ (by decide)
  have hY : y.toBitVec.toNat % 2 ^ 31 < 2 ^ 31 := Nat.mod_lt _ (by decide)
  generalize x.toBitVec.toNat % 2 ^ 31 = X at hX
  generalize y.toBitVec.toNat % 2 ^ 31 = Y at hY
  refine ⟨by omega, by omega, 6, 60, by omega, by omega, by omega, by omega, by omega, by omega, by omega, by omega, by omega, by omega, by omega, by omega, by omega, by omega, ?_⟩
  refine ⟨by decide, nm_r (pk_rem (d := 8) hX (by decide) (by decide)) ?_⟩
  have ha : X % 8 < 8 := Nat.mod_lt _ (by decide)
  generalize X % 8 = a at ha
  have e8 : (8 : Int32) - nI a = nI (8 - a) := pk_sub (a := 8) (by omega)
  have e9 : (9 : Int32) - nI a = nI (9 - a) := pk_sub (a := 9) (by omega)
  rw [e8, e9]
  refine ⟨nI_ne0 (by omega) (by omega), ?_⟩
  rw [pk_rem hY (show 0 < 8 - a by omega) (by omega)]
  have hb : Y % (8 - a) < 8 - a := Nat.mod_lt _ (by omega)
  generalize Y % (8 - a) = b at hb
  refine nm_r (show (2 : Int32) + nI b = nI (2 + b) from nI_add 2 b) ?_
  exact br_t (nI_le (by omega) (by omega)) (zq_l51 ha (by omega) (by omega) zq_E0 hp)
theorem zq_cell {post : Int32 → Prop} {L i : Nat} {xs : Nat → Int32} (hL : L ≤ 3) (hi : i < 3) (h : ∀ x, post x) : wpL_cellAt post L xs () (nI i) :=
  pk_le L i (fun _ => h 0) (fun g => ⟨pk_in i L g, h _⟩)
end
theorem i_vc (xs : Nat → Int32) (L : Nat) (hL : L ≤ 3) : wpL_law (fun r => r = 1) L xs := by
  unfold wpL_law
  refine zq_cell (i := 0) hL (by omega) (fun x => zq_cell (i := 1) hL (by omega) (fun y => zq_cell (i := 2) hL (by omega) (fun z => ?_)))
  exact ⟨52, 816, by omega, by omega, zq_lawOf (by omega) (by omega) rfl⟩
end
