section
theorem nx_and (a b : Nat) : nI a &&& nI b = nI (a &&& b) := by
  apply Int32.toBitVec_inj.1
  show BitVec.ofNat 32 a &&& BitVec.ofNat 32 b = BitVec.ofNat 32 (a &&& b)
  apply BitVec.eq_of_getLsbD_eq
  intro i hi
  simp [hi]
theorem nx_cnt : ∀ j : Fin 32, (UInt32.ofNat j.val &&& Int32.toUInt32 31).toNat % 32 = j.val := by decide +kernel
theorem nx_ush {k j : Nat} (hk : k < 65536) (hj : j < 32) : ((nI k).toUInt32 >>> ((nI j).toUInt32 &&& Int32.toUInt32 31)).toInt32 = nI (k >>> j) := by
  have hs : k >>> j ≤ k := by
    rw [Nat.shiftRight_eq_div_pow]
    exact Nat.div_le_self _ _
  have e2 : UInt32.ofNat k >>> (UInt32.ofNat j &&& Int32.toUInt32 31) = UInt32.ofNat (k >>> j) := by
    apply UInt32.toNat_inj.1
    have h1 : (UInt32.ofNat k).toNat = k := Nat.mod_eq_of_lt (by omega)
    have h2 : (UInt32.ofNat (k >>> j)).toNat = k >>> j := Nat.mod_eq_of_lt (by omega)
    rw [UInt32.toNat_shiftRight, nx_cnt ⟨j, hj⟩, h1, h2]
  show (UInt32.ofNat k >>> (UInt32.ofNat j &&& Int32.toUInt32 31)).toInt32 = _
  rw [e2]
  rfl
theorem nx_bit {k j : Nat} (hk : k < 65536) (hj : j < 16) : (((nI k).toUInt32 >>> ((nI j).toUInt32 &&& Int32.toUInt32 31)).toInt32 &&& 1) = 0 ↔ k.testBit j = false := by
  rw [nx_ush hk (by omega)]
  show nI (k >>> j) &&& nI 1 = 0 ↔ _
  rw [nx_and, Nat.and_one_is_mod, ← nI_0, nI_eq (by omega) (by omega), Nat.testBit_eq_decide_div_mod_eq, Nat.shiftRight_eq_div_pow, decide_eq_false_iff_not]
  generalize k / 2 ^ j = z
  omega
theorem nx_mod (k : Nat) : nI k &&& 65535 = nI (k % 65536) := by
  show nI k &&& nI 65535 = _
  rw [nx_and, show (65535 : Nat) = 2 ^ 16 - 1 from rfl, Nat.and_two_pow_sub_one_eq_mod]
theorem nx_m16 {k : Nat} (h : k < 65536) : nI k &&& 65535 = nI k := by rw [nx_mod, Nat.mod_eq_of_lt h]
def qd_dg (x v : Nat) : Nat := (x >>> (2 * v)) % 4
def qd_dv (d : Nat) : Int32 := if d = 1 then 1 else if d = 2 then 0 else -1
def qd_st (A v d : Nat) : Nat := (A ^^^ (A &&& (3 <<< (2 * v)))) ||| (d <<< (2 * v))
def qd_op (c A : Nat) : Bool := (c &&& A == 0) && ((c &&& (c >>> 1)) &&& 21845 == 0)
def qd_bI : Bool → Int32
  | true => 1
  | false => 0
/-- the loop of force, from the highest variable down -/
def qd_fl (m c A : Nat) : Nat → Nat → Nat → Nat → Nat × Nat × Nat
  | 0, mo, la, fb => (mo, la, fb)
  | v + 1, mo, la, fb => if qd_dg A v = 0 ∧ ¬ qd_dg c v = 0 then (if m.testBit v = true then qd_fl m c A v (mo + 1) v fb else qd_fl m c A v mo la v) else qd_fl m c A v mo la fb
/-- one pass over the clauses: what follows, whether something was found, whether all is lost -/
def qd_fz (c A : Nat) : Nat × Nat × Nat → Option (Option Nat)
  | (mo, la, fb) => if mo = 0 then none else if mo = 1 ∧ la ≤ fb then some (some (qd_st A la (if qd_dg c la % 2 = 1 then 1 else 2))) else some none
def qd_dk (m : Nat) : List Nat → Nat → Bool → Nat × Bool × Bool
  | [], A, ch => (A, ch, false)
  | c :: t, A, ch => if qd_op c A = true then
      (match qd_fz c A (qd_fl m c A 8 0 0 8) with
        | none => (A, ch, true)
        | some none => qd_dk m t A ch
        | some (some B) => qd_dk m t B true)
      else qd_dk m t A ch
/-- the passes -/
def qd_dr (m : Nat) (es : List Nat) : Nat → Nat → Nat × Bool
  | 0, A => (A, false)
  | r + 1, A => match qd_dk m es A false with
    | (B, _, true) => (B, true)
    | (B, true, false) => qd_dr m es r B
    | (B, false, false) => (B, false)
def qd_oc (w A : Nat) : List Nat → Bool
  | [] => false
  | c :: t => if qd_op c A = true ∧ ¬ qd_dg c w = 0 then true else qd_oc w A t
def qd_nb (m : Nat) (es : List Nat) (A w : Nat) : Bool := qd_oc w (qd_st A w 0) es && !(m.testBit w && decide (qd_dg (qd_dr m es 10 (qd_st A w 0)).1 w = 2))
/-- the search: fuel, variable, whether it goes down, what it found, the values -/
def qd_sr (m : Nat) (es : List Nat) (s : Nat) : Nat → Nat → Bool → Bool → Nat → Bool
  | 0, _, _, res, _ => res
  | n + 1, v, true, res, A => match qd_dr m es 10 A with
    | (_, true) => qd_sr m es s n v false false A
    | (B, false) => if v = 8 then qd_sr m es s n v false true A else qd_sr m es s n (v + 1) true res (qd_st A v (if m.testBit v = true ∧ qd_dg B v = 1 then 1 else 2))
  | n + 1, v, false, res, A => if v = s then res else
    if (qd_dg A (v - 1) = 2 ∧ ¬ res = m.testBit (v - 1)) ∧ qd_nb m es A (v - 1) = true then qd_sr m es s n v true res (qd_st A (v - 1) 1) else qd_sr m es s n (v - 1) false res (qd_st A (v - 1) 0)
def qd_ini (p s : Nat) : Nat → Nat
  | 0 => 0
  | i + 1 => qd_st (qd_ini p s i) i (if i < s then (if p.testBit (s - 1 - i) = true then 1 else 2) else 0)
def qd_iw (m : Nat) (es : List Nat) (p : Nat) : Bool := qd_sr m es p.log2 2000 p.log2 true false (qd_ini p p.log2 8)
def qd_ch (m : Nat) (es : List Nat) (p : Nat) : Nat := if qd_iw m es (2 * p) = m.testBit p.log2 then 0 else if qd_iw m es (2 * p + 1) = m.testBit p.log2 then 1 else 2
def qd_cn (m : Nat) (es : List Nat) : Nat → Nat → Nat
  | 0, _ => 0
  | n + 1, p => (if qd_iw m es p = true then 1 else 0) + qd_cn m es n (p + 1)
/-- the values as the state holds them, up to n -/
def qd_R (n : Nat) (a : Nat → Int32) (A : Nat) : Prop := ∀ j, j < n → qd_dg A j < 3 ∧ a j = qd_dv (qd_dg A j)
/-- the clauses as the state holds them, one that is left out as 65535 -/
def qd_L (lo : Int32) (a1 : Nat → Int32) (es : List Nat) : Prop := es.length ≤ 20 ∧ ∀ k c, es[k]? = some c → (nI k = lo ∧ c = 65535) ∨ (¬ nI k = lo ∧ c < 65536 ∧ a1 k = nI c)
theorem qd_dg_lt (x v : Nat) : qd_dg x v < 4 := Nat.mod_lt _ (by decide)
theorem qd_tb (x v i : Nat) : (qd_dg x v).testBit i = (decide (i < 2) && x.testBit (2 * v + i)) := by
  unfold qd_dg
  rw [show (4 : Nat) = 2 ^ 2 from rfl, Nat.testBit_mod_two_pow, Nat.testBit_shiftRight]
theorem qd_big {d i : Nat} (hd : d < 4) (hi : 2 ≤ i) : d.testBit i = false := Nat.testBit_lt_two_pow (Nat.lt_of_lt_of_le hd (Nat.pow_le_pow_right (n := 2) (by decide) hi))
theorem qd_st_self (A v : Nat) {d : Nat} (hd : d < 4) : qd_dg (qd_st A v d) v = d := by
  apply Nat.eq_of_testBit_eq
  intro i
  rw [qd_tb]
  by_cases hi : i < 2
  · have h3 : (3 : Nat).testBit i = true := by
      have : i = 0 ∨ i = 1 := by omega
      rcases this with rfl | rfl <;> rfl
    unfold qd_st
    rw [Nat.testBit_or, Nat.testBit_xor, Nat.testBit_and, Nat.testBit_shiftLeft, Nat.testBit_shiftLeft]
    rw [show 2 * v + i - 2 * v = i by omega]
    simp [hi, h3]
  · rw [qd_big hd (by omega)]
    simp [hi]
theorem qd_st_ne (A v : Nat) {d j : Nat} (hd : d < 4) (hj : j ≠ v) : qd_dg (qd_st A v d) j = qd_dg A j := by
  apply Nat.eq_of_testBit_eq
  intro i
  rw [qd_tb, qd_tb]
  by_cases hi : i < 2
  · congr 1
    unfold qd_st
    rw [Nat.testBit_or, Nat.testBit_xor, Nat.testBit_and, Nat.testBit_shiftLeft, Nat.testBit_shiftLeft]
    by_cases hjv : j < v
    · have : ¬ (2 * j + i ≥ 2 * v) := by omega
      simp [this]
    · rw [qd_big (d := 3) (by decide) (show 2 ≤ 2 * j + i - 2 * v by omega), qd_big hd (show 2 ≤ 2 * j + i - 2 * v by omega)]
      simp
  · simp [hi]
theorem qd_R_st {n w d A : Nat} {a' : Nat → Int32} (h : ∀ j, j < n → j ≠ w → qd_dg A j < 3 ∧ a' j = qd_dv (qd_dg A j)) (hw : a' w = qd_dv d) (hd : d < 3) : qd_R n a' (qd_st A w d) := by
  intro j hj
  by_cases e : j = w
  · rw [e, qd_st_self A w (show d < 4 by omega)]
    exact ⟨hd, hw⟩
  · rw [qd_st_ne A w (show d < 4 by omega) e]
    exact h j hj e
theorem qd_R_up {n w d A : Nat} {a : Nat → Int32} (h : qd_R n a A) (hd : d < 3) : qd_R n (upd a w (qd_dv d)) (qd_st A w d) :=
  qd_R_st (fun j hj e => by rw [pk_un e]; exact h j hj) pk_us hd
theorem qd_dg_and (x y v : Nat) : qd_dg (x &&& y) v = qd_dg x v &&& qd_dg y v := by
  unfold qd_dg
  rw [Nat.shiftRight_and_distrib, show (4 : Nat) = 2 ^ 2 from rfl, Nat.and_mod_two_pow]
theorem qd_zero {x : Nat} (hx : x < 65536) : x = 0 ↔ ∀ v, v < 8 → qd_dg x v = 0 := by
  constructor
  · intro e v _
    rw [e, qd_dg, Nat.zero_shiftRight]
  · intro h
    have e : ∀ v, x / 2 ^ (2 * v) % 4 = qd_dg x v := fun v => by rw [qd_dg, Nat.shiftRight_eq_div_pow]
    have h0 : x / 1 % 4 = 0 := (e 0).trans (h 0 (by decide))
    have h1 : x / 4 % 4 = 0 := (e 1).trans (h 1 (by decide))
    have h2 : x / 16 % 4 = 0 := (e 2).trans (h 2 (by decide))
    have h3 : x / 64 % 4 = 0 := (e 3).trans (h 3 (by decide))
    have h4 : x / 256 % 4 = 0 := (e 4).trans (h 4 (by decide))
    have h5 : x / 1024 % 4 = 0 := (e 5).trans (h 5 (by decide))
    have h6 : x / 4096 % 4 = 0 := (e 6).trans (h 6 (by decide))
    have h7 : x / 16384 % 4 = 0 := (e 7).trans (h 7 (by decide))
    omega
theorem qd_t3 (x : Nat) : (x % 4 &&& x / 2 % 4) &&& 1 = 0 ↔ x % 4 ≠ 3 := by
  have key : ∀ r, r < 8 → ((r % 4 &&& r / 2 % 4) &&& 1 = 0 ↔ r % 4 ≠ 3) := by decide
  have h := key (x % 8) (Nat.mod_lt _ (by decide))
  rw [show x % 8 % 4 = x % 4 by omega, show x % 8 / 2 % 4 = x / 2 % 4 by omega] at h
  exact h
theorem qd_dg_half (c v : Nat) : qd_dg (c >>> 1) v = (c >>> (2 * v)) / 2 % 4 := by
  unfold qd_dg
  rw [← Nat.shiftRight_add, Nat.add_comm, Nat.shiftRight_succ]
theorem qd_dg_one : ∀ v, v < 8 → qd_dg 21845 v = 1 := by decide
theorem qd_op_iff {c A : Nat} (hc : c < 65536) : qd_op c A = true ↔ ∀ v, v < 8 → (qd_dg c v ≠ 3 ∧ qd_dg c v &&& qd_dg A v = 0) := by
  unfold qd_op
  rw [Bool.and_eq_true, beq_iff_eq, beq_iff_eq, qd_zero (x := c &&& A) (Nat.lt_of_le_of_lt Nat.and_le_left hc), qd_zero (x := (c &&& (c >>> 1)) &&& 21845) (Nat.lt_of_le_of_lt Nat.and_le_right (by decide))]
  constructor
  · intro h v hv
    have h2 := h.2 v hv
    rw [qd_dg_and, qd_dg_and, qd_dg_one v hv, qd_dg_half] at h2
    exact ⟨(qd_t3 _).mp h2, by rw [← qd_dg_and]; exact h.1 v hv⟩
  · intro h
    refine ⟨fun v hv => by rw [qd_dg_and]; exact (h v hv).2, fun v hv => ?_⟩
    rw [qd_dg_and, qd_dg_and, qd_dg_one v hv, qd_dg_half]
    exact (qd_t3 _).mpr (h v hv).1
theorem qd_op_no (A : Nat) : qd_op 65535 A = false := Bool.and_false _
theorem qd_sh {c v : Nat} (hc : c < 65536) (hv : v < 8) : ((nI c).toUInt32 >>> ((2 * nI v).toUInt32 &&& Int32.toUInt32 31)).toInt32 = nI (c >>> (2 * v)) := by
  rw [show (2 : Int32) * nI v = nI (2 * v) from pk_mul 2 v]
  exact nx_ush hc (by omega)
theorem qd_sh3 {c v : Nat} (hc : c < 65536) (hv : v < 8) : ((nI c).toUInt32 >>> ((2 * nI v).toUInt32 &&& Int32.toUInt32 31)).toInt32 &&& 3 = nI (qd_dg c v) := by
  rw [qd_sh hc hv]
  show nI (c >>> (2 * v)) &&& nI 3 = _
  rw [nx_and, show (3 : Nat) = 2 ^ 2 - 1 from rfl, Nat.and_two_pow_sub_one_eq_mod]
  rfl
theorem qd_sh1 {c v : Nat} (hc : c < 65536) (hv : v < 8) : ((nI c).toUInt32 >>> ((2 * nI v).toUInt32 &&& Int32.toUInt32 31)).toInt32 &&& 1 = nI (qd_dg c v % 2) := by
  rw [qd_sh hc hv]
  show nI (c >>> (2 * v)) &&& nI 1 = _
  rw [nx_and, Nat.and_one_is_mod]
  unfold qd_dg
  rw [show c >>> (2 * v) % 4 % 2 = c >>> (2 * v) % 2 by omega]
theorem qd_ok : ∀ h, h < 4 → ∀ d, d < 3 → ((h ≠ 3 ∧ h &&& d = 0) ↔ (¬ (d = 1 ∧ h % 2 = 1) ∧ ¬ (d = 2 ∧ 2 ≤ h) ∧ h ≠ 3)) := by decide
theorem qd_d1 : ∀ d, d < 3 → (qd_dv d = 1 ↔ d = 1) := by decide
theorem qd_d0 : ∀ d, d < 3 → (qd_dv d = 0 ↔ d = 2) := by decide
theorem qd_dm : ∀ d, d < 3 → (0 ≤ qd_dv d ↔ ¬ d = 0) := by decide
theorem qd_b1 : ∀ h, h < 4 → (nI h &&& 1 = 0 ↔ h % 2 = 0) := by decide
theorem qd_b2 : ∀ h, h < 4 → (nI h &&& 2 = 0 ↔ h < 2) := by decide
theorem qd_b3 : ∀ h, h < 4 → (nI h = 3 ↔ h = 3) := by decide
theorem qd_bz : ∀ h, h < 4 → (nI h = 0 ↔ h = 0) := by decide
theorem qd_10 : ¬ (1 : Int32) = 0 := by decide
theorem qd_drop {es : List Nat} {k c : Nat} {t : List Nat} (h : es.drop k = c :: t) : k < es.length ∧ es[k]? = some c ∧ es.drop (k + 1) = t := by
  have h1 : es[k]? = some c := by
    have e : (es.drop k)[0]? = es[k + 0]? := List.getElem?_drop
    rw [h] at e
    exact e.symm
  have h2 : k < es.length := by
    rcases Nat.lt_or_ge k es.length with z | z
    · exact z
    · rw [List.drop_eq_nil_of_le z] at h
      exact absurd h (by simp)
  have h3 : (es.drop k).drop 1 = es.drop (k + 1) := List.drop_drop
  rw [h] at h3
  exact ⟨h2, h1, h3.symm⟩
end
section
theorem qd_isMakers {post : Int32 → Prop} {m v : Nat} {f1 f2 f3 : Int32} {a1 a2 a3 : Nat → Int32} (hm : m < 256) (hv : v < 8) (H : post (qd_bI (m.testBit v))) :
    wpX_isMakers post (nI m, f1, f2, f3, a1, a2, a3) (nI v) := by
  refine ek_if (nx_bit (k := m) (j := v) (by omega) (by omega)) (fun h => ?_) (fun h => ?_)
  · rw [h] at H
    exact H
  · rw [eq_true_of_ne_false h] at H
    exact H
theorem qd_isOpen_l {post : Int32 → Prop} {k c A : Nat} {f0 f1 f2 f3 : Int32} {a1 a2 a3 : Nat → Int32} (hk : k < 20) (hc : c < 65536) (ha : a1 k = nI c) (hR : qd_R 8 a3 A) (H : post (qd_bI (qd_op c A))) :
    ∀ r i : Nat, i + r = 8 → (∀ j, j < i → qd_dg c j ≠ 3 ∧ qd_dg c j &&& qd_dg A j = 0) → wX_isOpen_2 post (nI k) f0 f1 f2 f3 a1 a2 a3 (r + 1) (nI i) := by
  intro r
  induction r with
  | zero =>
    intro i hi hj
    refine pk_le 8 i (fun _ => ?_) (fun z => absurd z (by omega))
    have e : qd_op c A = true := (qd_op_iff hc).mpr (fun v hv => hj v (by omega))
    rw [e] at H
    exact H
  | succ r ih =>
    intro i hi hj
    have hi8 : i < 8 := by omega
    obtain ⟨hd, ea⟩ := hR i hi8
    have hh := qd_dg_lt c i
    have bad : ¬ (qd_dg c i ≠ 3 ∧ qd_dg c i &&& qd_dg A i = 0) → post 0 := by
      intro n
      have e : qd_op c A = false := Bool.eq_false_iff.mpr (fun t => n ((qd_op_iff hc).mp t i hi8))
      rw [e] at H
      exact H
    rw [qd_ok _ hh _ hd] at bad
    have good : (¬ (qd_dg A i = 1 ∧ qd_dg c i % 2 = 1) ∧ ¬ (qd_dg A i = 2 ∧ 2 ≤ qd_dg c i) ∧ qd_dg c i ≠ 3) → wX_isOpen_2 post (nI k) f0 f1 f2 f3 a1 a2 a3 (r + 1) (nI (i + 1)) := by
      intro n
      exact ih (i + 1) (by omega) (lt_s hj ((qd_ok _ hh _ hd).mpr n))
    have e1 : a3 (nI i).toNatClampNeg = 1 ↔ qd_dg A i = 1 := by
      rw [nI_clamp (by omega), ea]
      exact qd_d1 _ hd
    have e0 : a3 (nI i).toNatClampNeg = 0 ↔ qd_dg A i = 2 := by
      rw [nI_clamp (by omega), ea]
      exact qd_d0 _ hd
    have L53 : ¬ (qd_dg A i = 1 ∧ qd_dg c i % 2 = 1) → ¬ (qd_dg A i = 2 ∧ 2 ≤ qd_dg c i) → wX_isOpen_53 post (wX_isOpen_2 post (nI k) f0 f1 f2 f3 a1 a2 a3 (r + 1)) (nI k) (nI i) (nI (qd_dg c i)) f0 f1 f2 f3 a1 a2 a3 :=
      fun n1 n2 => br_t rfl (ek_if (qd_b3 _ hh) (fun z => bad (fun n => n.2.2 z)) (fun z => nm_r (nI_1 i) (good ⟨n1, n2, z⟩)))
    have L49 : post 0 → wX_isOpen_49 post (wX_isOpen_2 post (nI k) f0 f1 f2 f3 a1 a2 a3 (r + 1)) (nI k) (nI i) (nI (qd_dg c i)) f0 f1 f2 f3 a1 a2 a3 :=
      fun p => br_f qd_10 p
    have L36 : ¬ (qd_dg A i = 1 ∧ qd_dg c i % 2 = 1) → wX_isOpen_36 post (wX_isOpen_2 post (nI k) f0 f1 f2 f3 a1 a2 a3 (r + 1)) (nI k) (nI i) (nI (qd_dg c i)) f0 f1 f2 f3 a1 a2 a3 :=
      fun n1 => ⟨pk_in i 8 hi8, ek_if e0 (fun z => ek_if (qd_b2 _ hh) (fun y => L53 n1 (fun n => absurd n.2 (by omega))) (fun y => L49 (bad (fun n => n.2.1 ⟨z, by omega⟩)))) (fun z => L53 n1 (fun n => z n.1))⟩
    refine pk_le 8 i (fun z => absurd z (by omega)) (fun _ => ⟨pk_in k 20 hk, nm_r (e' := nI (qd_dg c i)) (by rw [nI_clamp (by omega), ha]; exact qd_sh3 hc hi8) ⟨pk_in i 8 hi8, ?_⟩⟩)
    exact ek_if e1 (fun z => ek_if (qd_b1 _ hh) (fun y => L36 (fun n => absurd n.2 (by omega))) (fun y => L49 (bad (fun n => n.1 ⟨z, by omega⟩)))) (fun z => L36 (fun n => z n.1))
theorem qd_isOpen {post : Int32 → Prop} {k c A : Nat} {f0 f1 f2 f3 : Int32} {a1 a2 a3 : Nat → Int32} (hk : k < 20) (hc : c < 65536) (ha : a1 k = nI c) (hR : qd_R 8 a3 A) (H : post (qd_bI (qd_op c A))) :
    wpX_isOpen post (f0, f1, f2, f3, a1, a2, a3) (nI k) :=
  ⟨9, qd_isOpen_l hk hc ha hR H 8 0 (by omega) (fun j hj => absurd hj (by omega))⟩
theorem qd_isOpen_2_l {post : Int32 → Prop} {k c A : Nat} {f0 f1 f2 f3 : Int32} {a1 a2 a3 : Nat → Int32} (hk : k < 20) (hc : c < 65536) (ha : a1 k = nI c) (hR : qd_R 8 a2 A) (H : post (qd_bI (qd_op c A))) :
    ∀ r i : Nat, i + r = 8 → (∀ j, j < i → qd_dg c j ≠ 3 ∧ qd_dg c j &&& qd_dg A j = 0) → wX_isOpen_2_2 post (nI k) f0 f1 f2 f3 a1 a2 a3 (r + 1) (nI i) := by
  intro r
  induction r with
  | zero =>
    intro i hi hj
    refine pk_le 8 i (fun _ => ?_) (fun z => absurd z (by omega))
    have e : qd_op c A = true := (qd_op_iff hc).mpr (fun v hv => hj v (by omega))
    rw [e] at H
    exact H
  | succ r ih =>
    intro i hi hj
    have hi8 : i < 8 := by omega
    obtain ⟨hd, ea⟩ := hR i hi8
    have hh := qd_dg_lt c i
    have bad : ¬ (qd_dg c i ≠ 3 ∧ qd_dg c i &&& qd_dg A i = 0) → post 0 := by
      intro n
      have e : qd_op c A = false := Bool.eq_false_iff.mpr (fun t => n ((qd_op_iff hc).mp t i hi8))
      rw [e] at H
      exact H
    rw [qd_ok _ hh _ hd] at bad
    have good : (¬ (qd_dg A i = 1 ∧ qd_dg c i % 2 = 1) ∧ ¬ (qd_dg A i = 2 ∧ 2 ≤ qd_dg c i) ∧ qd_dg c i ≠ 3) → wX_isOpen_2_2 post (nI k) f0 f1 f2 f3 a1 a2 a3 (r + 1) (nI (i + 1)) := by
      intro n
      exact ih (i + 1) (by omega) (lt_s hj ((qd_ok _ hh _ hd).mpr n))
    have e1 : a2 (nI i).toNatClampNeg = 1 ↔ qd_dg A i = 1 := by
      rw [nI_clamp (by omega), ea]
      exact qd_d1 _ hd
    have e0 : a2 (nI i).toNatClampNeg = 0 ↔ qd_dg A i = 2 := by
      rw [nI_clamp (by omega), ea]
      exact qd_d0 _ hd
    have L53 : ¬ (qd_dg A i = 1 ∧ qd_dg c i % 2 = 1) → ¬ (qd_dg A i = 2 ∧ 2 ≤ qd_dg c i) → wX_isOpen_2_53 post (wX_isOpen_2_2 post (nI k) f0 f1 f2 f3 a1 a2 a3 (r + 1)) (nI k) (nI i) (nI (qd_dg c i)) f0 f1 f2 f3 a1 a2 a3 :=
      fun n1 n2 => br_t rfl (ek_if (qd_b3 _ hh) (fun z => bad (fun n => n.2.2 z)) (fun z => nm_r (nI_1 i) (good ⟨n1, n2, z⟩)))
    have L49 : post 0 → wX_isOpen_2_49 post (wX_isOpen_2_2 post (nI k) f0 f1 f2 f3 a1 a2 a3 (r + 1)) (nI k) (nI i) (nI (qd_dg c i)) f0 f1 f2 f3 a1 a2 a3 :=
      fun p => br_f qd_10 p
    have L36 : ¬ (qd_dg A i = 1 ∧ qd_dg c i % 2 = 1) → wX_isOpen_2_36 post (wX_isOpen_2_2 post (nI k) f0 f1 f2 f3 a1 a2 a3 (r + 1)) (nI k) (nI i) (nI (qd_dg c i)) f0 f1 f2 f3 a1 a2 a3 :=
      fun n1 => ⟨pk_in i 8 hi8, ek_if e0 (fun z => ek_if (qd_b2 _ hh) (fun y => L53 n1 (fun n => absurd n.2 (by omega))) (fun y => L49 (bad (fun n => n.2.1 ⟨z, by omega⟩)))) (fun z => L53 n1 (fun n => z n.1))⟩
    refine pk_le 8 i (fun z => absurd z (by omega)) (fun _ => ⟨pk_in k 20 hk, nm_r (e' := nI (qd_dg c i)) (by rw [nI_clamp (by omega), ha]; exact qd_sh3 hc hi8) ⟨pk_in i 8 hi8, ?_⟩⟩)
    exact ek_if e1 (fun z => ek_if (qd_b1 _ hh) (fun y => L36 (fun n => absurd n.2 (by omega))) (fun y => L49 (bad (fun n => n.1 ⟨z, by omega⟩)))) (fun z => L36 (fun n => z n.1))
theorem qd_isOpen_2 {post : Int32 → Prop} {k c A : Nat} {f0 f1 f2 f3 : Int32} {a1 a2 a3 : Nat → Int32} (hk : k < 20) (hc : c < 65536) (ha : a1 k = nI c) (hR : qd_R 8 a2 A) (H : post (qd_bI (qd_op c A))) :
    wpX_isOpen_2 post (f0, f1, f2, f3, a1, a2, a3) (nI k) :=
  ⟨9, qd_isOpen_2_l hk hc ha hR H 8 0 (by omega) (fun j hj => absurd hj (by omega))⟩
theorem qd_force_98 {post : Int32 → St2 → Prop} {k c mo la fb : Nat} {x3 z0 f0 f1 f2 f3 : Int32} {a1 a2 a3 : Nat → Int32} (hk : k < 20) (hc : c < 65536) (ha : a1 k = nI c) (hz : z0 = 0 ∨ z0 = 1)
    (hx : 0 < mo → x3 = nI la ∧ la < 8) (hfb : fb ≤ 8) (hmo : mo ≤ 8)
    (H1 : mo = 1 ∧ la ≤ fb → post 1 (f0, f1, f2, z0, a1, a2, upd a3 la (qd_dv (if qd_dg c la % 2 = 1 then 1 else 2))))
    (H0 : ¬ (mo = 1 ∧ la ≤ fb) → post 0 (f0, f1, f2, z0, a1, a2, a3)) :
    wX_force_98 post (nI k) (nI mo) x3 (nI fb) z0 f0 f1 f2 f3 a1 a2 a3 := by
  refine ⟨by rcases hz with rfl | rfl <;> rfl, by rcases hz with rfl | rfl <;> rfl, pk_eq mo 1 (fun z => ?_) (fun z => H0 (fun y => z y.1))⟩
  obtain ⟨rfl, hla⟩ := hx (by omega)
  refine pk_le la fb (fun y => ⟨pk_in k 20 hk, ?_⟩) (fun y => H0 (fun w => absurd w.2 (by omega)))
  have b : ((((a1 (nI k).toNatClampNeg).toUInt32 >>> ((2 * nI la).toUInt32 &&& Int32.toUInt32 31)).toInt32) &&& 1) = 0 ↔ ¬ qd_dg c la % 2 = 1 := by
    rw [nI_clamp (by omega), ha, qd_sh1 hc hla, ← nI_0, nI_eq (by omega) (by omega)]
    omega
  refine ek_if b (fun w => ⟨pk_in la 8 hla, nm_r ?_ (H1 ⟨z, y⟩)⟩) (fun w => ⟨pk_in la 8 hla, nm_r ?_ (H1 ⟨z, y⟩)⟩)
  · rw [nI_clamp (by omega), if_neg w]
    rfl
  · rw [nI_clamp (by omega), if_pos (Decidable.of_not_not w)]
    rfl
theorem qd_force_l {post : Int32 → St2 → Prop} {m k c A : Nat} {f1 f2 f3 : Int32} {a1 a2 a3 : Nat → Int32} {R : Nat × Nat × Nat} (hm : m < 256) (hk : k < 20) (hc : c < 65536) (ha : a1 k = nI c) (hR : qd_R 8 a3 A)
    (F : ∀ x3, (0 < R.1 → x3 = nI R.2.1 ∧ R.2.1 < 8) → R.2.2 ≤ 8 → R.1 ≤ 8 → ((nI R.1 = 0 → wX_force_98 post (nI k) (nI R.1) x3 (nI R.2.2) 1 (nI m) f1 f2 f3 a1 a2 a3) ∧ (¬ nI R.1 = 0 → wX_force_98 post (nI k) (nI R.1) x3 (nI R.2.2) 0 (nI m) f1 f2 f3 a1 a2 a3))) :
    ∀ (v mo la fb : Nat) (x3 x5 : Int32), x5 = nI v + (-1) → mo + v ≤ 8 → (0 < mo → x3 = nI la ∧ la < 8) → fb ≤ 8 → qd_fl m c A v mo la fb = R →
      wX_force_12 post (nI k) (nI m) f1 f2 f3 a1 a2 a3 (v + 1) (nI mo) x3 (nI fb) x5 := by
  intro v
  induction v with
  | zero =>
    intro mo la fb x3 x5 h5 hmo hx hfb hF
    subst h5 hF
    exact br_t (by decide) (F x3 hx hfb (show mo ≤ 8 by omega))
  | succ v ih =>
    intro mo la fb x3 x5 h5 hmo hx hfb hF
    rw [pk_m1] at h5
    subst h5
    have hv : v < 8 := by omega
    obtain ⟨hd, ea⟩ := hR v hv
    have em : 0 ≤ a3 (nI v).toNatClampNeg ↔ ¬ qd_dg A v = 0 := by
      rw [nI_clamp (by omega), ea]
      exact qd_dm _ hd
    have ez : (((a1 (nI k).toNatClampNeg).toUInt32 >>> ((2 * nI v).toUInt32 &&& Int32.toUInt32 31)).toInt32) &&& 3 = 0 ↔ qd_dg c v = 0 := by
      rw [nI_clamp (by omega), ha, qd_sh3 hc hv]
      exact qd_bz _ (qd_dg_lt c v)
    have e : qd_fl m c A (v + 1) mo la fb = if qd_dg A v = 0 ∧ ¬ qd_dg c v = 0 then (if m.testBit v = true then qd_fl m c A v (mo + 1) v fb else qd_fl m c A v mo la v) else qd_fl m c A v mo la fb := rfl
    rw [e] at hF
    have L47 : ¬ (qd_dg A v = 0 ∧ ¬ qd_dg c v = 0) → wX_force_47 post (wX_force_12 post (nI k) (nI m) f1 f2 f3 a1 a2 a3 (v + 1)) (nI k) (nI mo) x3 (nI fb) (nI v) (nI m) f1 f2 f3 a1 a2 a3 := by
      intro n
      rw [if_neg n] at hF
      exact br_t rfl (br_t rfl (nm_e (ih mo la fb x3 _ rfl (by omega) hx hfb hF)))
    have L48 : (qd_dg A v = 0 ∧ ¬ qd_dg c v = 0) → wX_force_48 post (wX_force_12 post (nI k) (nI m) f1 f2 f3 a1 a2 a3 (v + 1)) (nI k) (nI mo) x3 (nI fb) (nI v) 1 (nI m) f1 f2 f3 a1 a2 a3 := by
      intro n
      rw [if_pos n] at hF
      refine br_f qd_10 (qd_isMakers hm hv ?_)
      cases hb : m.testBit v with
      | false =>
        rw [hb, if_neg (by decide)] at hF
        exact br_t rfl (br_f qd_10 (nm_e (ih mo la v x3 _ rfl (by omega) hx (by omega) hF)))
      | true =>
        rw [hb, if_pos rfl] at hF
        exact br_f qd_10 (nm_r (nI_1 mo) (nm_e (ih (mo + 1) v fb (nI v) _ rfl (by omega) (fun _ => ⟨rfl, hv⟩) hfb hF)))
    exact br_f (nI_pos (by omega)) ⟨pk_in v 8 hv, ek_if em (fun z => L47 (fun n => z n.1)) (fun z => ⟨pk_in k 20 hk, ek_if ez (fun y => L47 (fun n => n.2 y)) (fun y => L48 ⟨Decidable.of_not_not z, y⟩)⟩)⟩
theorem qd_force {post : Int32 → St2 → Prop} {m k c A : Nat} {f1 f2 f3 : Int32} {a1 a2 a3 : Nat → Int32} (hm : m < 256) (hk : k < 20) (hc : c < 65536) (ha : a1 k = nI c) (hR : qd_R 8 a3 A)
    (Hl : qd_fz c A (qd_fl m c A 8 0 0 8) = none → post 0 (nI m, f1, f2, 1, a1, a2, a3))
    (H0 : qd_fz c A (qd_fl m c A 8 0 0 8) = some none → post 0 (nI m, f1, f2, 0, a1, a2, a3))
    (H1 : ∀ B a, qd_fz c A (qd_fl m c A 8 0 0 8) = some (some B) → qd_R 8 a B → post 1 (nI m, f1, f2, 0, a1, a2, a)) :
    wpX_force post (nI m, f1, f2, f3, a1, a2, a3) (nI k) := by
  refine ⟨9, qd_force_l (R := qd_fl m c A 8 0 0 8) hm hk hc ha hR ?_ 8 0 0 8 (-1) 7 (by decide) (by omega) (fun z => absurd z (by omega)) (by omega) rfl⟩
  generalize qd_fl m c A 8 0 0 8 = R at Hl H0 H1
  obtain ⟨mo, la, fb⟩ := R
  intro x3 hx hfb hmo
  refine pk_eq mo 0 (fun z => ?_) (fun z => ?_)
  · exact qd_force_98 hk hc ha (Or.inr rfl) hx hfb hmo (fun y => absurd y.1 (by omega)) (fun _ => Hl (if_pos z))
  · refine qd_force_98 hk hc ha (Or.inl rfl) hx hfb hmo (fun y => ?_) (fun y => H0 ((if_neg z).trans (if_neg y)))
    refine H1 (qd_st A la (if qd_dg c la % 2 = 1 then 1 else 2)) _ ((if_neg z).trans (if_pos y)) (qd_R_up hR ?_)
    split <;> decide
end
section
theorem qd_57 {post : St2 → Prop} {J35 : Int32 → Int32 → Int32 → Int32 → Int32 → Int32 → (Nat → Int32) → (Nat → Int32) → (Nat → Int32) → Prop} {x3 lo : Int32} {m : Nat} {es : List Nat} {a1 a2 : Nat → Int32} {R : Nat × Bool × Bool}
    (hm : m < 256) (hL : qd_L lo a1 es) (F : ∀ a3, qd_R 8 a3 R.1 → J35 (qd_bI R.2.1) (x3 + 1) (nI m) (nI es.length) lo (qd_bI R.2.2) a1 a2 a3) :
    ∀ (t : List Nat) (k A : Nat) (ch : Bool) (a3 : Nat → Int32), k ≤ es.length → es.drop k = t → qd_R 8 a3 A → qd_dk m t A ch = R →
      wX_derive_57 post J35 x3 (t.length + 1) (qd_bI ch) (nI k) (nI m) (nI es.length) lo 0 a1 a2 a3 := by
  have h20 := hL.1
  intro t
  induction t with
  | nil =>
    intro k A ch a3 hk hd hR hF
    have hl : es.length ≤ k := List.drop_eq_nil_iff.mp hd
    subst hF
    exact pk_le es.length k (fun _ => nm_e (F a3 hR)) (fun z => absurd z (by omega))
  | cons c t ih =>
    intro k A ch a3 hk hd hR hF
    obtain ⟨h1, h2, h3⟩ := qd_drop hd
    have e : qd_dk m (c :: t) A ch = if qd_op c A = true then
      (match qd_fz c A (qd_fl m c A 8 0 0 8) with
        | none => (A, ch, true)
        | some none => qd_dk m t A ch
        | some (some B) => qd_dk m t B true)
      else qd_dk m t A ch := rfl
    rw [e] at hF
    refine pk_le es.length k (fun z => absurd z (by omega)) (fun _ => br_t rfl ?_)
    rcases hL.2 k c h2 with ⟨el, ec⟩ | ⟨el, hc, ha⟩
    · rw [ec, qd_op_no, if_neg (by decide)] at hF
      exact br_t el (nm_r (nI_1 k) (ih (k + 1) A ch a3 (by omega) h3 hR hF))
    · refine br_f el (qd_isOpen (by omega) hc ha hR ?_)
      cases ho : qd_op c A with
      | false =>
        rw [ho, if_neg (by decide)] at hF
        exact br_t rfl (nm_r (nI_1 k) (ih (k + 1) A ch a3 (by omega) h3 hR hF))
      | true =>
        rw [ho, if_pos rfl] at hF
        refine br_f qd_10 (qd_force hm (by omega) hc ha hR (fun hz => ?_) (fun hz => ?_) (fun B a hz hB => ?_))
        · rw [hz] at hF
          have G : J35 (qd_bI ch) (x3 + 1) (nI m) (nI es.length) lo 1 a1 a2 a3 := by
            subst hF
            exact F a3 hR
          have G2 : wX_derive_57 post J35 x3 (t.length + 1) (qd_bI ch) (nI (k + 1)) (nI m) (nI es.length) lo 1 a1 a2 a3 := pk_le es.length (k + 1) (fun _ => nm_e G) (fun _ => br_f qd_10 (nm_e G))
          cases ch with
          | false => exact br_t rfl (br_t rfl (nm_r (nI_1 k) G2))
          | true => exact br_t rfl (br_f qd_10 (nm_r (nI_1 k) G2))
        · rw [hz] at hF
          have G2 := ih (k + 1) A ch a3 (by omega) h3 hR hF
          cases ch with
          | false => exact br_t rfl (br_t rfl (nm_r (nI_1 k) G2))
          | true => exact br_t rfl (br_f qd_10 (nm_r (nI_1 k) G2))
        · rw [hz] at hF
          exact br_f qd_10 (nm_r (nI_1 k) (ih (k + 1) B true a (by omega) h3 hB hF))
theorem qd_35 {post : St2 → Prop} {lo : Int32} {m : Nat} {es : List Nat} {a1 a2 : Nat → Int32} {R : Nat × Bool}
    (hm : m < 256) (hL : qd_L lo a1 es) (F : ∀ a3, qd_R 8 a3 R.1 → post (nI m, nI es.length, lo, qd_bI R.2, a1, a2, a3)) :
    ∀ (r i A : Nat) (a3 : Nat → Int32), i + r = 10 → qd_R 8 a3 A → qd_dr m es r A = R →
      wX_derive_35 post (r + 1) 1 (nI i) (nI m) (nI es.length) lo 0 a1 a2 a3 := by
  intro r
  induction r with
  | zero =>
    intro i A a3 hi hR hF
    subst hF
    exact pk_le 10 i (fun _ => F a3 hR) (fun z => absurd z (by omega))
  | succ r ih =>
    intro i A a3 hi hR hF
    refine pk_le 10 i (fun z => absurd z (by omega)) (fun _ => br_f qd_10 (br_t rfl ⟨es.length + 1, qd_57 hm hL (R := qd_dk m es A false) (fun a h => ?_) es 0 A false a3 (by omega) rfl hR rfl⟩))
    have e : qd_dr m es (r + 1) A = match qd_dk m es A false with
      | (B, _, true) => (B, true)
      | (B, true, false) => qd_dr m es r B
      | (B, false, false) => (B, false) := rfl
    rw [e] at hF
    generalize qd_dk m es A false = D at hF h
    obtain ⟨B, ch, lost⟩ := D
    cases lost with
    | true =>
      have P : post (nI m, nI es.length, lo, 1, a1, a2, a) := by
        subst hF
        exact F a h
      exact br_c (fun _ => P) (fun _ => br_c (fun _ => P) (fun _ => br_f qd_10 P))
    | false =>
      cases ch with
      | false =>
        have P : post (nI m, nI es.length, lo, 0, a1, a2, a) := by
          subst hF
          exact F a h
        exact br_c (fun _ => P) (fun _ => br_t rfl P)
      | true =>
        have G := ih (i + 1) B a (by omega) h hF
        rw [← nI_1] at G
        exact G
theorem qd_7 {post : St2 → Prop} {lo : Int32} {m A : Nat} {es : List Nat} {a1 a2 : Nat → Int32}
    (hm : m < 256) (hL : qd_L lo a1 es) (hR : qd_R 8 a2 A) (F : ∀ a3, qd_R 8 a3 (qd_dr m es 10 A).1 → post (nI m, nI es.length, lo, qd_bI (qd_dr m es 10 A).2, a1, a2, a3)) :
    ∀ (r i : Nat) (a3 : Nat → Int32), i + r = 8 → (∀ j, j < i → a3 j = a2 j) → wX_derive_7 post (nI m) (nI es.length) lo 0 (r + 1) (nI i) a1 a2 a3 := by
  intro r
  induction r with
  | zero =>
    intro i a3 hi h
    refine pk_le 8 i (fun _ => ⟨11, qd_35 hm hL F 10 0 A a3 (by omega) ?_ rfl⟩) (fun z => absurd z (by omega))
    intro j hj
    rw [h j (by omega)]
    exact hR j hj
  | succ r ih =>
    intro i a3 hi h
    refine pk_le 8 i (fun z => absurd z (by omega)) (fun _ => ⟨pk_in i 8 (by omega), pk_in i 8 (by omega), nm_e (nm_r (nI_1 i) (ih (i + 1) _ (by omega) ?_))⟩)
    rw [nI_clamp (by omega)]
    refine lt_s (fun j hj => ?_) pk_us
    rw [pk_un (by omega)]
    exact h j hj
theorem qd_derive {post : St2 → Prop} {lo z p0 : Int32} {m A : Nat} {es : List Nat} {a1 a2 a3 : Nat → Int32}
    (hm : m < 256) (hL : qd_L lo a1 es) (hR : qd_R 8 a2 A) (F : ∀ a3, qd_R 8 a3 (qd_dr m es 10 A).1 → post (nI m, nI es.length, lo, qd_bI (qd_dr m es 10 A).2, a1, a2, a3)) :
    wpX_derive post (nI m, nI es.length, lo, z, a1, a2, a3) p0 :=
  ⟨9, qd_7 hm hL hR F 8 0 a3 (by omega) (fun j hj => absurd hj (by omega))⟩
theorem qd_occurs {post : Int32 → Prop} {lo z : Int32} {m w A : Nat} {es : List Nat} {a1 a2 a3 : Nat → Int32}
    (hL : qd_L lo a1 es) (hR : qd_R 8 a2 A) (hw : w < 8) (H : post (qd_bI (qd_oc w A es))) :
    wpX_occurs post (nI m, nI es.length, lo, z, a1, a2, a3) (nI w) := by
  have h20 := hL.1
  have key : ∀ (t : List Nat) (k : Nat), k ≤ es.length → es.drop k = t → qd_oc w A t = qd_oc w A es → wX_occurs_2 post (nI w) (nI m) (nI es.length) lo z a1 a2 a3 (t.length + 1) (nI k) := by
    intro t
    induction t with
    | nil =>
      intro k hk hd hF
      have hl : es.length ≤ k := List.drop_eq_nil_iff.mp hd
      rw [← hF] at H
      exact pk_le es.length k (fun _ => H) (fun z => absurd z (by omega))
    | cons c t ih =>
      intro k hk hd hF
      obtain ⟨h1, h2, h3⟩ := qd_drop hd
      have e : qd_oc w A (c :: t) = if qd_op c A = true ∧ ¬ qd_dg c w = 0 then true else qd_oc w A t := rfl
      rw [e] at hF
      refine pk_le es.length k (fun z => absurd z (by omega)) (fun _ => ?_)
      have N : ¬ (qd_op c A = true ∧ ¬ qd_dg c w = 0) → wX_occurs_2 post (nI w) (nI m) (nI es.length) lo z a1 a2 a3 (t.length + 1) (nI (k + 1)) := by
        intro n
        rw [if_neg n] at hF
        exact ih (k + 1) (by omega) h3 hF
      rcases hL.2 k c h2 with ⟨el, ec⟩ | ⟨el, hc, ha⟩
      · exact br_t el (nm_r (nI_1 k) (N (fun n => by rw [ec, qd_op_no] at n; exact absurd n.1 (by decide))))
      · refine br_f el (qd_isOpen_2 (by omega) hc ha hR ?_)
        cases ho : qd_op c A with
        | false => exact br_t rfl (nm_r (nI_1 k) (N (fun n => by rw [ho] at n; exact absurd n.1 (by decide))))
        | true =>
          have ez : (((a1 (nI k).toNatClampNeg).toUInt32 >>> ((2 * nI w).toUInt32 &&& Int32.toUInt32 31)).toInt32) &&& 3 = 0 ↔ qd_dg c w = 0 := by
            rw [nI_clamp (by omega), ha, qd_sh3 hc hw]
            exact qd_bz _ (qd_dg_lt c w)
          refine br_f qd_10 ⟨pk_in k 20 (by omega), ek_if ez (fun y => nm_r (nI_1 k) (N (fun n => n.2 y))) (fun y => ?_)⟩
          rw [if_pos ⟨ho, y⟩] at hF
          rw [← hF] at H
          exact H
  exact ⟨es.length + 1, key es 0 (by omega) rfl rfl⟩
theorem qd_firstValue {post : Int32 → Prop} {f1 f2 f3 : Int32} {m v B : Nat} {a1 a2 a3 : Nat → Int32}
    (hm : m < 256) (hR : qd_R 8 a3 B) (hv : v < 8) (H : post (qd_dv (if m.testBit v = true ∧ qd_dg B v = 1 then 1 else 2))) :
    wpX_firstValue post (nI m, f1, f2, f3, a1, a2, a3) (nI v) := by
  unfold wpX_firstValue
  dsimp only
  refine qd_isMakers hm hv ?_
  obtain ⟨hd, ea⟩ := hR v hv
  cases hb : m.testBit v with
  | false =>
    rw [hb, if_neg (fun n => absurd n.1 (by decide))] at H
    exact br_t rfl H
  | true =>
    have e1 : a3 (nI v).toNatClampNeg = 1 ↔ qd_dg B v = 1 := by
      rw [nI_clamp (by omega), ea]
      exact qd_d1 _ hd
    refine br_f qd_10 ⟨pk_in v 8 hv, ek_if e1 (fun y => ?_) (fun y => ?_)⟩
    · rw [if_pos ⟨hb, y⟩] at H
      exact H
    · rw [if_neg (fun n => y n.2)] at H
      exact H
theorem qd_needsBoth {post : Int32 → St2 → Prop} {lo z : Int32} {m w A : Nat} {es : List Nat} {a1 a2 a3 : Nat → Int32}
    (hm : m < 256) (hL : qd_L lo a1 es) (hR : qd_R 8 a2 A) (hw : w < 8)
    (H : ∀ z' a2' a3', (∀ j, j ≠ w → a2' j = a2 j) → post (qd_bI (qd_nb m es A w)) (nI m, nI es.length, lo, z', a1, a2', a3')) :
    wpX_needsBoth post (nI m, nI es.length, lo, z, a1, a2, a3) (nI w) := by
  have R0 : qd_R 8 (upd a2 w (-1)) (qd_st A w 0) := qd_R_up (d := 0) hR (by decide)
  refine ⟨pk_in w 8 hw, nm_r (e' := upd a2 w (-1)) (by rw [nI_clamp (by omega)]) (qd_derive hm hL R0 (fun a h => ?_))⟩
  refine qd_occurs hL R0 hw ⟨pk_in w 8 hw, nm_r (e' := upd (upd a2 w (-1)) w 0) (by rw [nI_clamp (by omega)]) (qd_isMakers hm hw ?_)⟩
  have P : ∀ z', post (qd_bI (qd_nb m es A w)) (nI m, nI es.length, lo, z', a1, upd (upd a2 w (-1)) w 0, a) := fun z' => H z' _ a (fun j hj => by rw [pk_un hj, pk_un hj])
  have e : qd_nb m es A w = (qd_oc w (qd_st A w 0) es && !(m.testBit w && decide (qd_dg (qd_dr m es 10 (qd_st A w 0)).1 w = 2))) := rfl
  rw [e] at P
  obtain ⟨hd, ea⟩ := h w hw
  have e0 : a (nI w).toNatClampNeg = 0 ↔ qd_dg (qd_dr m es 10 (qd_st A w 0)).1 w = 2 := by
    rw [nI_clamp (by omega), ea]
    exact qd_d0 _ hd
  cases hb : m.testBit w with
  | false =>
    rw [hb] at P
    cases ho : qd_oc w (qd_st A w 0) es with
    | false =>
      rw [ho] at P
      exact br_t rfl (br_t rfl (P _))
    | true =>
      rw [ho] at P
      exact br_t rfl (br_f qd_10 (br_t rfl (P _)))
  | true =>
    rw [hb] at P
    refine br_f qd_10 ⟨pk_in w 8 hw, ek_if e0 (fun y => ?_) (fun y => ?_)⟩
    · rw [decide_eq_true y] at P
      cases ho : qd_oc w (qd_st A w 0) es with
      | false =>
        rw [ho] at P
        exact br_t rfl (P _)
      | true =>
        rw [ho] at P
        exact br_f qd_10 (br_f qd_10 (P _))
    · rw [decide_eq_false y] at P
      cases ho : qd_oc w (qd_st A w 0) es with
      | false =>
        rw [ho] at P
        exact br_t rfl (P _)
      | true =>
        rw [ho] at P
        exact br_f qd_10 (br_t rfl (P _))
end
section
theorem qd_lengthOf {post : Int32 → Prop} {p : Nat} (h1 : 1 ≤ p) (h5 : p < 512) (H : post (nI p.log2)) : wpX_lengthOf post () (nI p) := by
  have hp : p ≠ 0 := by omega
  have h8 : p.log2 < 9 := (Nat.log2_lt hp).mpr h5
  have key : ∀ r i : Nat, i + r = 9 → 1 ≤ i → wX_lengthOf_4 post (nI p) (r + 1) (nI (min p.log2 (i - 1))) (nI i) := by
    intro r
    induction r with
    | zero =>
      intro i hi h1i
      rw [show min p.log2 (i - 1) = p.log2 by omega]
      exact pk_le 9 i (fun _ => H) (fun z => absurd z (by omega))
    | succ r ih =>
      intro i hi h1i
      have hle : p >>> i ≤ p := by
        rw [Nat.shiftRight_eq_div_pow]
        exact Nat.div_le_self _ _
      have e : ((nI p).toUInt32 >>> ((nI i).toUInt32 &&& Int32.toUInt32 31)).toInt32 = 0 ↔ ¬ i ≤ p.log2 := by
        rw [nx_ush (by omega) (by omega), ← nI_0, nI_eq (by omega) (by omega), Nat.shiftRight_eq_div_pow, Nat.div_eq_zero_iff, Nat.le_log2 hp]
        have := Nat.two_pow_pos i
        omega
      have ih' := ih (i + 1) (by omega) (by omega)
      rw [show i + 1 - 1 = i by omega] at ih'
      refine pk_le 9 i (fun z => absurd z (by omega)) (fun _ => ek_if e (fun z => nm_r (nI_1 i) ?_) (fun z => nm_r (nI_1 i) ?_))
      · rw [show min p.log2 (i - 1) = min p.log2 i by omega]
        exact ih'
      · rw [show min p.log2 i = i by omega] at ih'
        exact ih'
  have k0 := key 8 1 (by omega) (by omega)
  rw [show min p.log2 (1 - 1) = 0 by omega] at k0
  exact ⟨9, k0⟩
theorem qd_nar (b : Bool) : narrow .boolean (.int (qd_bI b)) = .int (qd_bI b) := by
  cases b <;> rfl
theorem qd_54 {post : Int32 → St2 → Prop} {lo : Int32} {m s : Nat} {es : List Nat} {a1 : Nat → Int32} {b : Bool}
    (hm : m < 256) (hL : qd_L lo a1 es) (H : ∀ z a2 a3, post (qd_bI b) (nI m, nI es.length, lo, z, a1, a2, a3)) :
    ∀ (n i v : Nat) (ent res : Bool) (A : Nat) (z : Int32) (a2 a3 : Nat → Int32), i + n = 2000 → s ≤ v → v ≤ 8 → qd_R 8 a2 A → qd_sr m es s n v ent res A = b →
      wX_isWon_54 post (nI s) (n + 1) (nI v) (qd_bI ent) (qd_bI res) (nI i) (nI m) (nI es.length) lo z a1 a2 a3 := by
  intro n
  induction n with
  | zero =>
    intro i v ent res A z a2 a3 hi hs hv hR hF
    have e : qd_sr m es s 0 v ent res A = res := rfl
    rw [← hF, e] at H
    exact pk_le 2000 i (fun _ => ⟨qd_nar res, H z a2 a3⟩) (fun z => absurd z (by omega))
  | succ n ih =>
    intro i v ent res A z a2 a3 hi hs hv hR hF
    refine pk_le 2000 i (fun z => absurd z (by omega)) (fun _ => ?_)
    cases ent with
    | false =>
      have e : qd_sr m es s (n + 1) v false res A = if v = s then res else
        if (qd_dg A (v - 1) = 2 ∧ ¬ res = m.testBit (v - 1)) ∧ qd_nb m es A (v - 1) = true then qd_sr m es s n v true res (qd_st A (v - 1) 1) else qd_sr m es s n (v - 1) false res (qd_st A (v - 1) 0) := rfl
      rw [e] at hF
      refine br_t rfl (pk_eq v s (fun g => ?_) (fun g => ?_))
      · rw [if_pos g] at hF
        rw [← hF] at H
        exact ⟨qd_nar res, H z a2 a3⟩
      · obtain ⟨w, rfl⟩ : ∃ w, v = w + 1 := ⟨v - 1, by omega⟩
        rw [if_neg g, Nat.add_sub_cancel] at hF
        have hw : w < 8 := by omega
        obtain ⟨hd, ea⟩ := hR w hw
        have e0 : a2 (nI w).toNatClampNeg = 0 ↔ qd_dg A w = 2 := by
          rw [nI_clamp (by omega), ea]
          exact qd_d0 _ hd
        have L0 : ¬ ((qd_dg A w = 2 ∧ ¬ res = m.testBit w) ∧ qd_nb m es A w = true) → ∀ z' a2' a3', (∀ j, j ≠ w → a2' j = a2 j) →
            wX_isWon_164 post (wX_isWon_54 post (nI s) (n + 1)) (nI s) (nI w) (qd_bI res) (nI i) (nI m) (nI es.length) lo z' a1 a2' a3' := by
          intro c z' a2' a3' hk
          rw [if_neg c] at hF
          have R' : qd_R 8 (upd a2' w (-1)) (qd_st A w 0) := qd_R_st (fun j hj g => by rw [pk_un g, hk j g]; exact hR j hj) pk_us (by decide)
          exact br_t rfl ⟨pk_in w 8 hw, nm_r (e' := upd a2' w (-1)) (by rw [nI_clamp (by omega)]) (br_t rfl (nm_r (nI_add w 0) (nm_r (nI_1 i) (ih (i + 1) w false res _ z' _ a3' (by omega) (by omega) (by omega) R' hF))))⟩
        have L1 : ((qd_dg A w = 2 ∧ ¬ res = m.testBit w) ∧ qd_nb m es A w = true) → ∀ z' a2' a3', (∀ j, j ≠ w → a2' j = a2 j) →
            wX_isWon_165 post (wX_isWon_54 post (nI s) (n + 1)) (nI s) (nI w) (qd_bI res) (nI i) 1 (nI m) (nI es.length) lo z' a1 a2' a3' := by
          intro c z' a2' a3' hk
          rw [if_pos c] at hF
          have R' : qd_R 8 (upd a2' w 1) (qd_st A w 1) := qd_R_st (fun j hj g => by rw [pk_un g, hk j g]; exact hR j hj) pk_us (by decide)
          exact br_f qd_10 ⟨pk_in w 8 hw, nm_r (e' := upd a2' w 1) (by rw [nI_clamp (by omega)]) (br_f qd_10 (nm_r (nI_1 w) (nm_r (nI_1 i) (ih (i + 1) (w + 1) true res _ z' _ a3' (by omega) (by omega) (by omega) R' hF))))⟩
        refine nm_r (pk_m1 w) ⟨pk_in w 8 hw, ek_if e0 (fun g2 => qd_isMakers hm hw ?_) (fun g2 => L0 (fun c => g2 c.1.1) z a2 a3 (fun _ _ => rfl))⟩
        have er : qd_bI res = qd_bI (m.testBit w) ↔ res = m.testBit w := by
          cases res <;> cases m.testBit w <;> decide
        refine ek_if er (fun g3 => L0 (fun c => c.1.2 g3) z a2 a3 (fun _ _ => rfl)) (fun g3 => qd_needsBoth hm hL hR hw (fun z' a2' a3' hk => ?_))
        cases hb : qd_nb m es A w with
        | false => exact br_t rfl (L0 (fun c => by rw [hb] at c; exact absurd c.2 (by decide)) z' a2' a3' hk)
        | true => exact br_f qd_10 (L1 ⟨⟨g2, g3⟩, hb⟩ z' a2' a3' hk)
    | true =>
      have e : qd_sr m es s (n + 1) v true res A = match qd_dr m es 10 A with
        | (_, true) => qd_sr m es s n v false false A
        | (B, false) => if v = 8 then qd_sr m es s n v false true A else qd_sr m es s n (v + 1) true res (qd_st A v (if m.testBit v = true ∧ qd_dg B v = 1 then 1 else 2)) := rfl
      rw [e] at hF
      refine br_f qd_10 (qd_derive hm hL hR (fun a h => ?_))
      generalize qd_dr m es 10 A = D at hF h
      obtain ⟨B, lost⟩ := D
      cases lost with
      | true => exact br_f qd_10 (br_f qd_10 (nm_r (nI_1 i) (ih (i + 1) v false false A 1 a2 a (by omega) hs hv hR hF)))
      | false =>
        refine br_t rfl (pk_eq v 8 (fun g => ?_) (fun g => ?_))
        · have hF' : qd_sr m es s n v false true A = b := (if_pos g).symm.trans hF
          exact br_t rfl (nm_r (nI_1 i) (ih (i + 1) v false true A 0 a2 a (by omega) hs hv hR hF'))
        · have hF' := (if_neg g).symm.trans hF
          have hv8 : v < 8 := by omega
          refine qd_firstValue hm h hv8 ⟨pk_in v 8 hv8, nm_r (e' := upd a2 v (qd_dv (if m.testBit v = true ∧ qd_dg B v = 1 then 1 else 2))) (by rw [nI_clamp (by omega)]) (nm_r (nI_1 v) (nm_r (nI_1 i) (ih (i + 1) (v + 1) true res _ 0 _ a (by omega) (by omega) (by omega) (qd_R_up hR ?_) hF')))⟩
          split <;> decide
theorem qd_bitv {p q : Nat} (hp : p < 512) (hq : q < 16) : ((nI p).toUInt32 >>> ((nI q).toUInt32 &&& Int32.toUInt32 31)).toInt32 &&& 1 = qd_dv (if p.testBit q = true then 1 else 2) := by
  rw [nx_ush (by omega) (by omega)]
  show nI (p >>> q) &&& nI 1 = _
  rw [nx_and, Nat.and_one_is_mod, Nat.testBit_eq_decide_div_mod_eq, Nat.shiftRight_eq_div_pow]
  have h : p / 2 ^ q % 2 = 0 ∨ p / 2 ^ q % 2 = 1 := by omega
  rcases h with h | h <;> rw [h] <;> rfl
theorem qd_w7 {post : Int32 → St2 → Prop} {lo z : Int32} {m p s : Nat} {es : List Nat} {a1 a3 : Nat → Int32}
    (hp : p < 512) (hs : s ≤ 8) (H : ∀ a2, qd_R 8 a2 (qd_ini p s 8) → ∃ n, wX_isWon_54 post (nI s) n (nI s) 1 0 0 (nI m) (nI es.length) lo z a1 a2 a3) :
    ∀ (r i : Nat) (a2 : Nat → Int32), i + r = 8 → qd_R i a2 (qd_ini p s i) → wX_isWon_7 post (nI p) (nI s) (nI m) (nI es.length) lo z (r + 1) (nI i) a1 a2 a3 := by
  intro r
  induction r with
  | zero =>
    intro i a2 hi hR
    have h8 : i = 8 := by omega
    subst h8
    exact pk_le 8 8 (fun _ => H a2 hR) (fun z => absurd z (by omega))
  | succ r ih =>
    intro i a2 hi hR
    have hR' : ∀ d, d < 3 → qd_R (i + 1) (upd a2 i (qd_dv d)) (qd_st (qd_ini p s i) i d) := fun d hd => qd_R_st (fun j hj g => by rw [pk_un g]; exact hR j (by omega)) pk_us hd
    have e : qd_ini p s (i + 1) = qd_st (qd_ini p s i) i (if i < s then (if p.testBit (s - 1 - i) = true then 1 else 2) else 0) := rfl
    have ih' := ih (i + 1) (upd a2 i (qd_dv (if i < s then (if p.testBit (s - 1 - i) = true then 1 else 2) else 0))) (by omega) (by rw [e]; exact hR' _ (by split; split <;> decide; decide))
    refine pk_le 8 i (fun z => absurd z (by omega)) (fun _ => pk_le s i (fun g => ?_) (fun g => ?_))
    · rw [if_neg (by omega)] at ih'
      exact ⟨pk_in i 8 (by omega), nm_r (e' := upd a2 i (-1)) (by rw [nI_clamp (by omega)]) (nm_r (nI_1 i) ih')⟩
    · rw [if_pos g] at ih'
      refine ⟨pk_in i 8 (by omega), nm_r ?_ (nm_r (nI_1 i) ih')⟩
      have e2 : nI s - 1 - nI i = nI (s - 1 - i) := by
        rw [show nI s - 1 = nI (s - 1) from pk_sub (a := s) (b := 1) (by omega), pk_sub (by omega)]
      rw [nI_clamp (by omega), e2, qd_bitv hp (by omega)]
theorem qd_isWon {post : Int32 → St2 → Prop} {lo z : Int32} {m p : Nat} {es : List Nat} {a1 a2 a3 : Nat → Int32} {b : Bool} (hb : qd_iw m es p = b) (h1 : 1 ≤ p) (h5 : p < 512)
    (hm : m < 256) (hL : qd_L lo a1 es) (H : ∀ z a2 a3, post (qd_bI b) (nI m, nI es.length, lo, z, a1, a2, a3)) :
    wpX_isWon post (nI m, nI es.length, lo, z, a1, a2, a3) (nI p) := by
  have h8 : p.log2 ≤ 8 := Nat.le_of_lt_succ ((Nat.log2_lt (by omega)).mpr h5)
  unfold wpX_isWon
  dsimp only
  refine qd_lengthOf h1 h5 ⟨9, qd_w7 h5 h8 (fun a h => ?_) 8 0 a2 (by omega) (fun j hj => absurd hj (by omega))⟩
  exact ⟨2001, qd_54 hm hL H 2000 0 p.log2 true false _ z a a3 (by omega) (Nat.le_refl _) h8 h hb⟩
end
section
/-- the clauses, none left out -/
def qd_P (a1 : Nat → Int32) (ls : List Nat) : Prop := ls.length ≤ 20 ∧ ∀ k c, ls[k]? = some c → c < 65536 ∧ a1 k = nI c
theorem qd_some {ls : List Nat} {k c : Nat} (h : ls[k]? = some c) : k < ls.length := by
  rcases Nat.lt_or_ge k ls.length with z | z
  · exact z
  · rw [List.getElem?_eq_none z] at h
    exact absurd h (by simp)
theorem qd_nm : ∀ k, k < 20 → ¬ nI k = -1 := by decide
theorem qd_P_L {a1 : Nat → Int32} {ls : List Nat} (h : qd_P a1 ls) : qd_L (-1) a1 ls :=
  ⟨h.1, fun k c hk => Or.inr ⟨qd_nm k (Nat.lt_of_lt_of_le (qd_some hk) h.1), h.2 k c hk⟩⟩
theorem qd_P_set {a1 : Nat → Int32} {ls : List Nat} {k : Nat} (h : qd_P a1 ls) (hk : k < ls.length) : qd_L (nI k) a1 (ls.set k 65535) := by
  have h20 := h.1
  refine ⟨by rw [List.length_set]; exact h20, fun j c hj => ?_⟩
  have hj2 := qd_some hj
  rw [List.length_set] at hj2
  by_cases e : k = j
  · subst e
    rw [List.getElem?_set_self hk] at hj
    exact Or.inl ⟨rfl, (Option.some.inj hj).symm⟩
  · rw [List.getElem?_set_ne e] at hj
    exact Or.inr ⟨fun z => e ((nI_eq (by omega) (by omega)).mp z).symm, h.2 j c hj⟩
theorem qd_isWon_x {post : Int32 → St2 → Prop} {lo z x : Int32} {m cl : Nat} {es : List Nat} {a1 a2 a3 : Nat → Int32} (p : Nat) (b : Bool) (hb : qd_iw m es p = b) (hx : x = nI p) (hcl : es.length = cl) (h1 : 1 ≤ p) (h5 : p < 512)
    (hm : m < 256) (hL : qd_L lo a1 es) (H : ∀ z a2 a3, post (qd_bI b) (nI m, nI cl, lo, z, a1, a2, a3)) :
    wpX_isWon post (nI m, nI cl, lo, z, a1, a2, a3) x := by
  subst hx hcl
  exact qd_isWon hb h1 h5 hm hL H
theorem qd_won {post : Int32 → St2 → Prop} {z x : Int32} {m : Nat} {ls : List Nat} {a1 a2 a3 : Nat → Int32} (p : Nat) (b : Bool) (hb : qd_iw m ls p = b) (hx : x = nI p) (h1 : 1 ≤ p) (h5 : p < 512)
    (hm : m < 256) (hP : qd_P a1 ls) (H : ∀ z a2 a3, post (qd_bI b) (nI m, nI ls.length, -1, z, a1, a2, a3)) :
    wpX_won post (nI m, nI ls.length, -1, z, a1, a2, a3) x := by
  refine pk_lt p 1 (fun z => absurd z (by omega)) (fun _ => pk_le p 511 (fun _ => ?_) (fun z => absurd z (by omega)) hx rfl) hx rfl
  refine qd_isWon_x p b hb hx rfl h1 h5 hm (qd_P_L hP) (fun z a2 a3 => ?_)
  cases b with
  | false => exact br_t rfl (H z a2 a3)
  | true => exact br_f qd_10 (H z a2 a3)
theorem qd_bIi (a b : Bool) : qd_bI a = qd_bI b ↔ a = b := by
  cases a <;> cases b <;> decide
theorem qd_choice {post : Int32 → St2 → Prop} {z x : Int32} {m : Nat} {ls : List Nat} {a1 a2 a3 : Nat → Int32} (p n : Nat) (hn : qd_ch m ls p = n) (hx : x = nI p) (h1 : 1 ≤ p) (h5 : p < 256)
    (hm : m < 256) (hP : qd_P a1 ls) (H : ∀ z a2 a3, post (nI n) (nI m, nI ls.length, -1, z, a1, a2, a3)) :
    wpX_choice post (nI m, nI ls.length, -1, z, a1, a2, a3) x := by
  subst hx
  have hl : p.log2 < 8 := (Nat.log2_lt (by omega)).mpr h5
  have e0 : (2 : Int32) * nI p + 0 = nI (2 * p) := by
    rw [show (2 : Int32) * nI p = nI (2 * p) from pk_mul 2 p]
    exact nI_add (2 * p) 0
  have e1 : (2 : Int32) * nI p + 1 = nI (2 * p + 1) := by
    rw [show (2 : Int32) * nI p = nI (2 * p) from pk_mul 2 p]
    exact nI_1 (2 * p)
  have e : qd_ch m ls p = if qd_iw m ls (2 * p) = m.testBit p.log2 then 0 else if qd_iw m ls (2 * p + 1) = m.testBit p.log2 then 1 else 2 := rfl
  rw [e] at hn
  refine pk_lt p 1 (fun z => absurd z (by omega)) (fun _ => pk_le p 255 (fun _ => ?_) (fun z => absurd z (by omega)))
  refine qd_lengthOf h1 (by omega) (qd_isMakers hm hl ⟨3, pk_le 2 0 (fun z => absurd z (by omega)) (fun _ => ?_)⟩)
  refine qd_isWon_x (2 * p) (qd_iw m ls (2 * p)) rfl e0 rfl (by omega) (by omega) hm (qd_P_L hP) (fun z a2 a3 => ?_)
  refine ek_if (qd_bIi _ _) (fun g => ?_) (fun g => nm_r (e' := 1) (by decide) (pk_le 2 1 (fun z => absurd z (by omega)) (fun _ => ?_)))
  · rw [if_pos g] at hn
    subst hn
    exact H z a2 a3
  · rw [if_neg g] at hn
    refine qd_isWon_x (2 * p + 1) (qd_iw m ls (2 * p + 1)) rfl e1 rfl (by omega) (by omega) hm (qd_P_L hP) (fun z a2 a3 => ?_)
    refine ek_if (qd_bIi _ _) (fun g => ?_) (fun g => nm_r (e' := 2) (by decide) (pk_le 2 2 (fun _ => ?_) (fun z => absurd z (by omega))))
    · rw [if_pos g] at hn
      subst hn
      exact H z a2 a3
    · rw [if_neg g] at hn
      subst hn
      exact H z a2 a3
theorem qd_cn_le (m : Nat) (ls : List Nat) : ∀ n p : Nat, qd_cn m ls n p ≤ n := by
  intro n
  induction n with
  | zero => exact fun p => Nat.le_refl 0
  | succ n ih =>
    intro p
    have e : qd_cn m ls (n + 1) p = (if qd_iw m ls p = true then 1 else 0) + qd_cn m ls n (p + 1) := rfl
    rw [e]
    have h := ih (p + 1)
    split <;> omega
theorem qd_count_l {post : Int32 → St2 → Prop} {x1 : Int32} {m e r : Nat} {ls : List Nat} {a1 : Nat → Int32} (hm : m < 256) (hP : qd_P a1 ls) (he : (2 : Int32) <<< (x1 &&& 31) = nI e) (h5 : e ≤ 512)
    (H : ∀ z a2 a3, post (nI r) (nI m, nI ls.length, -1, z, a1, a2, a3)) :
    ∀ (n p acc : Nat) (z : Int32) (a2 a3 : Nat → Int32), p + n = e → 1 ≤ p → acc + qd_cn m ls n p = r →
      wX_count_18 post x1 (n + 1) (nI acc) (nI p) (nI m) (nI ls.length) (-1) z a1 a2 a3 := by
  intro n
  induction n with
  | zero =>
    intro p acc z a2 a3 hp h1 hr
    have hr' : acc = r := hr
    subst hr'
    exact pk_le e p (fun _ => H z a2 a3) (fun z => absurd z (by omega)) he rfl
  | succ n ih =>
    intro p acc z a2 a3 hp h1 hr
    have hc : qd_cn m ls (n + 1) p = (if qd_iw m ls p = true then 1 else 0) + qd_cn m ls n (p + 1) := rfl
    rw [hc] at hr
    refine pk_le e p (fun z => absurd z (by omega)) (fun _ => ?_) he rfl
    refine qd_isWon_x p (qd_iw m ls p) rfl rfl rfl h1 (by omega) hm (qd_P_L hP) (fun z a2 a3 => ?_)
    cases hb : qd_iw m ls p with
    | false =>
      rw [hb, if_neg (by decide)] at hr
      exact br_t rfl (nm_r (nI_add acc 0) (nm_r (nI_1 p) (ih (p + 1) (acc + 0) z a2 a3 (by omega) (by omega) (by omega))))
    | true =>
      rw [hb, if_pos rfl] at hr
      exact br_f qd_10 (nm_r (nI_1 acc) (nm_r (nI_1 p) (ih (p + 1) (acc + 1) z a2 a3 (by omega) (by omega) (by omega))))
theorem qd_s1 : ∀ k, k < 9 → (1 : Int32) <<< (nI k &&& 31) = nI (2 ^ k) := by decide
theorem qd_s2 : ∀ k, k < 9 → (2 : Int32) <<< (nI k &&& 31) = nI (2 ^ (k + 1)) := by decide
theorem qd_count {post : Int32 → St2 → Prop} {z x : Int32} {m : Nat} {ls : List Nat} {a1 a2 a3 : Nat → Int32} (k r : Nat) (hr : qd_cn m ls (2 ^ k) (2 ^ k) = r) (hx : x = nI k) (hk : k < 9)
    (hm : m < 256) (hP : qd_P a1 ls) (H : ∀ z a2 a3, post (nI r) (nI m, nI ls.length, -1, z, a1, a2, a3)) :
    wpX_count post (nI m, nI ls.length, -1, z, a1, a2, a3) x := by
  subst hx
  have h1 : 1 ≤ 2 ^ k := Nat.two_pow_pos k
  have h2 : 2 ^ (k + 1) = 2 ^ k + 2 ^ k := by rw [Nat.pow_succ]; omega
  have h3 : 2 ^ (k + 1) ≤ 2 ^ 9 := Nat.pow_le_pow_right (by decide) (by omega)
  refine pk_lt k 0 (fun z => absurd z (by omega)) (fun _ => pk_le k 8 (fun _ => nm_r (qd_s1 k hk) ⟨2 ^ k + 1, ?_⟩) (fun z => absurd z (by omega)))
  exact qd_count_l hm hP (qd_s2 k hk) h3 H (2 ^ k) (2 ^ k) 0 z a2 a3 h2.symm h1 (by rw [Nat.zero_add]; exact hr)
theorem qd_spare {post : Int32 → St2 → Prop} {z x : Int32} {m : Nat} {ls : List Nat} {a1 a2 a3 : Nat → Int32} (k : Nat) (b : Bool) (hb : qd_iw m (ls.set k 65535) 1 = b) (hx : x = nI k) (hk : k < ls.length)
    (hm : m < 256) (hP : qd_P a1 ls) (H : ∀ z a2 a3, post (qd_bI b) (nI m, nI ls.length, -1, z, a1, a2, a3)) :
    wpX_spare post (nI m, nI ls.length, -1, z, a1, a2, a3) x := by
  subst hx
  have h20 := hP.1
  refine pk_lt k 0 (fun z => absurd z (by omega)) (fun _ => pk_lt k ls.length (fun _ => ?_) (fun z => absurd z (by omega)))
  refine qd_isWon_x 1 b hb rfl List.length_set (by decide) (by decide) hm (qd_P_set hP hk) (fun z a2 a3 => ?_)
  cases b with
  | false => exact br_t rfl (H z a2 a3)
  | true => exact br_f qd_10 (H z a2 a3)
theorem qd_swapped {post : Int32 → St2 → Prop} {z x : Int32} {m : Nat} {ls : List Nat} {a1 a2 a3 : Nat → Int32} (n : Nat) (b : Bool) (hb : qd_iw n ls 1 = b)
    (e1 : nI m ^^^ ((1 : Int32) <<< ((x &&& 7) &&& 31)) = nI n) (e2 : nI n ^^^ ((1 : Int32) <<< ((x &&& 7) &&& 31)) = nI m)
    (hn : n < 256) (hP : qd_P a1 ls) (H : ∀ z a2 a3, post (qd_bI b) (nI m, nI ls.length, -1, z, a1, a2, a3)) :
    wpX_swapped post (nI m, nI ls.length, -1, z, a1, a2, a3) x := by
  refine nm_r e1 (qd_isWon_x 1 b hb rfl rfl (by decide) (by decide) hn (qd_P_L hP) (fun z a2 a3 => nm_r e2 ?_))
  cases b with
  | false => exact br_t rfl (H z a2 a3)
  | true => exact br_f qd_10 (H z a2 a3)
theorem qd_add {post : Int32 → St2 → Prop} {z x : Int32} {m : Nat} {ls : List Nat} {a1 a2 a3 : Nat → Int32} (q : Nat) (ms : List Nat) (e : ls ++ [q] = ms) (hx : x &&& 65535 = nI q) (hq : q < 65536) (hl : ls.length < 20)
    (hP : qd_P a1 ls) (H : ∀ b1, qd_P b1 ms → post (nI ms.length) (nI m, nI ms.length, -1, z, b1, a2, a3)) :
    wpX_add post (nI m, nI ls.length, -1, z, a1, a2, a3) x := by
  subst e
  have hlen : (ls ++ [q]).length = ls.length + 1 := by simp
  refine pk_lt ls.length 20 (fun _ => ⟨pk_in ls.length 20 hl, nm_r (e' := upd a1 ls.length (nI q)) (by rw [nI_clamp (by omega), hx]) (nm_r (e' := nI (ls ++ [q]).length) (by rw [nI_1, hlen]) (H _ ⟨by omega, fun k c hk => ?_⟩))⟩) (fun z => absurd z (by omega))
  have hk2 := qd_some hk
  by_cases g : k = ls.length
  · subst g
    rw [List.getElem?_concat_length] at hk
    have hc : q = c := Option.some.inj hk
    subst hc
    exact ⟨hq, pk_us⟩
  · rw [List.getElem?_append_left (by omega)] at hk
    rw [pk_un g]
    exact hP.2 k c hk
theorem qd_dropL {post : Int32 → St2 → Prop} {z : Int32} {m q cl : Nat} {a1 a2 a3 : Nat → Int32} (hcl : cl < 20)
    (H : ∀ a, (∀ j, a j = if q ≤ j ∧ j < cl then a1 (j + 1) else a1 j) → post (nI cl) (nI m, nI cl, -1, z, a, a2, a3)) :
    ∀ (r i : Nat) (a : Nat → Int32), i + r = cl → q ≤ i → (∀ j, a j = if q ≤ j ∧ j < i then a1 (j + 1) else a1 j) → wX_drop_26 post (nI m) (nI cl) (-1) z (r + 1) (nI i) a a2 a3 := by
  intro r
  induction r with
  | zero =>
    intro i a hi hq h
    have hi' : i = cl := by omega
    subst hi'
    exact pk_le i i (fun _ => H a h) (fun z => absurd z (by omega))
  | succ r ih =>
    intro i a hi hq h
    refine pk_le cl i (fun z => absurd z (by omega)) (fun _ => ⟨pk_in (i + 1) 20 (by omega) (nI_1 i), pk_in i 20 (by omega), nm_r (e' := upd a i (a (i + 1))) (by rw [nI_1, nI_clamp (by omega), nI_clamp (by omega)]) (nm_r (nI_1 i) (ih (i + 1) _ (by omega) (by omega) (fun j => ?_)))⟩)
    by_cases e : j = i
    · rw [e, pk_us, h (i + 1), if_neg (by omega), if_pos (by omega)]
    · rw [pk_un e, h j]
      by_cases g : q ≤ j ∧ j < i
      · rw [if_pos g, if_pos (by omega)]
      · rw [if_neg g, if_neg (by omega)]
theorem qd_drop_m {post : Int32 → St2 → Prop} {z x : Int32} {m : Nat} {ls : List Nat} {a1 a2 a3 : Nat → Int32} (q : Nat) (ms : List Nat) (e : ls.eraseIdx q = ms) (hx : x = nI q) (hq : q < ls.length)
    (hP : qd_P a1 ls) (H : ∀ b1, qd_P b1 ms → post (nI ms.length) (nI m, nI ms.length, -1, z, b1, a2, a3)) :
    wpX_drop post (nI m, nI ls.length, -1, z, a1, a2, a3) x := by
  subst hx
  have h20 := hP.1
  have hlen : ms.length = ls.length - 1 := by rw [← e, List.length_eraseIdx_of_lt hq]
  refine pk_lt q 0 (fun z => absurd z (by omega)) (fun _ => pk_lt q ls.length (fun _ => nm_r (e' := nI ms.length) (by rw [hlen]; exact pk_sub (b := 1) (by omega)) ⟨ms.length - q + 1, ?_⟩) (fun z => absurd z (by omega)))
  refine qd_dropL (q := q) (by omega) (fun a h => H a ⟨by omega, fun k c hk => ?_⟩) (ms.length - q) q a1 (by omega) (Nat.le_refl q) (fun j => by rw [if_neg (by omega)])
  have hk2 := qd_some hk
  rw [← e, List.getElem?_eraseIdx] at hk
  rw [h k]
  by_cases g : k < q
  · rw [if_pos g] at hk
    rw [if_neg (by omega)]
    exact hP.2 k c hk
  · rw [if_neg g] at hk
    rw [if_pos (by omega)]
    exact hP.2 (k + 1) c hk
end
section
theorem qd_t1 : qd_iw 221 [5, 5376, 6656] 1 = true ∧ qd_iw 221 [5, 5376, 6656] 2 = false ∧ qd_iw 221 [5, 5376, 6656] 3 = true ∧ qd_iw 221 [5, 5376, 6656] 4 = false ∧ qd_iw 221 [5, 5376, 6656] 5 = true := by decide +kernel
theorem qd_t2 : qd_ch 221 [5, 5376, 6656] 1 = 1 ∧ qd_ch 221 [5, 5376, 6656] 2 = 0 ∧ qd_ch 221 [5, 5376, 6656] 3 = 2 := by decide +kernel
theorem qd_t3a : qd_cn 221 [5, 5376, 6656] (2 ^ 0) (2 ^ 0) = 1 ∧ qd_cn 221 [5, 5376, 6656] (2 ^ 1) (2 ^ 1) = 1 ∧ qd_cn 221 [5, 5376, 6656] (2 ^ 2) (2 ^ 2) = 3 := by decide +kernel
theorem qd_t4 : ∀ v, v < 256 → qd_iw 221 [5, 5376, 6656] (256 + v) = decide ((v / 128 % 2 = 1 ∨ v / 64 % 2 = 1) ∧ (v / 8 % 2 = 1 ∨ v / 4 % 2 = 1 ∨ v / 2 % 2 = 1) ∧ (v / 8 % 2 = 0 ∨ v / 4 % 2 = 0 ∨ v / 2 % 2 = 1)) := by decide +kernel
theorem qd_t5 : qd_cn 221 [5, 5376, 6656] (2 ^ 8) (2 ^ 8) = 144 := by decide +kernel
theorem qd_t6 : ∀ w, w < 64 → qd_ch 221 [5, 5376, 6656] (64 + w) = if w / 32 % 2 + w / 16 % 2 = 0 then 2 else if w / 2 % 2 = w % 2 then 1 else 0 := by decide +kernel
theorem qd_t7 : ∀ w, w < 64 → qd_iw 221 [5, 5376, 6656] (64 + w) = decide (¬ w / 32 % 2 + w / 16 % 2 = 0) := by decide +kernel
theorem qd_t8 : qd_iw 221 [5, 5376, 6656, 8192] 1 = false ∧ qd_ch 221 [5, 5376, 6656, 8192] 1 = 2 := by decide +kernel
theorem qd_t9 : qd_iw 221 ([5, 5376, 6656, 8192].set 3 65535) 1 = true ∧ qd_iw 221 ([5, 5376, 6656, 8192].set 0 65535) 1 = false ∧ qd_iw 221 ([5, 5376, 6656, 8192].set 1 65535) 1 = true ∧ qd_iw 221 ([5, 5376, 6656, 8192].set 2 65535) 1 = true := by decide +kernel
theorem qd_t10 : qd_iw 253 [5, 5376, 6656, 8192] 1 = true ∧ qd_iw 223 [5, 5376, 6656, 8192] 1 = false ∧ qd_iw 220 [5, 5376, 6656, 8192] 1 = false := by decide +kernel
theorem qd_t11 : ∀ l, l < 16 → qd_iw 221 [5, 5376, 6656, 2 ^ l] 1 = !(decide (l = 1 ∨ l / 2 = 1 ∨ l / 2 = 5 ∨ l = 13)) := by decide +kernel
theorem qd_i1 : ∀ v, v < 256 → (256 : Int32) ||| nI v = nI (256 + v) := by decide +kernel
theorem qd_i2 : ∀ v, v < 256 → (64 : Int32) ||| (nI v >>> ((2 : Int32) &&& 31)) = nI (64 + v / 4) := by decide +kernel
theorem qd_i3 : ∀ v, v < 256 → (nI v >>> ((7 : Int32) &&& 31)) &&& 1 = nI (v / 128 % 2) ∧ (nI v >>> ((6 : Int32) &&& 31)) &&& 1 = nI (v / 64 % 2) ∧ (nI v >>> ((3 : Int32) &&& 31)) &&& 1 = nI (v / 8 % 2) ∧ (nI v >>> ((2 : Int32) &&& 31)) &&& 1 = nI (v / 4 % 2) ∧ (nI v >>> ((1 : Int32) &&& 31)) &&& 1 = nI (v / 2 % 2) := by decide +kernel
theorem qd_i4 : ∀ l, l < 16 → ((1 : Int32) <<< (nI l &&& 31)) &&& 65535 = nI (2 ^ l) ∧ nI l >>> ((1 : Int32) &&& 31) = nI (l / 2) := by decide +kernel
end
section
theorem qd_ge {a : Nat} {x : Int32} (ha : a < 2 ^ 31) (h : nI (a + 1) ≤ x) (ha' : a + 1 < 2 ^ 31) : ¬ x < 0 ∧ ¬ x ≤ nI a ∧ nI a < x ∧ ¬ x < nI (a + 1) := by
  rw [Int32.le_iff_toInt_le, nI_toInt ha'] at h
  have h0 : (0 : Int32).toInt = 0 := rfl
  refine ⟨?_, ?_, ?_, ?_⟩
  · rw [Int32.lt_iff_toInt_lt, h0]
    omega
  · rw [Int32.le_iff_toInt_le, nI_toInt ha]
    omega
  · rw [Int32.lt_iff_toInt_lt, nI_toInt ha]
    omega
  · rw [Int32.lt_iff_toInt_lt, nI_toInt ha']
    omega
theorem qd_611 {post : Int32 → St0 → Prop} {mc ms kc ks m : Nat} {x3 z0 z1 z : Int32} {ls : List Nat} {a1 a2 a3 : Nat → Int32} (H : post 1 ()) (hm : m < 256) (hP : qd_P a1 ls) (hz : z1 = z0) :
    wL_lawOf_611 post mc ms x3 z0 z1 kc ks (nI m) (nI ls.length) (-1) z a1 a2 a3 := by
  refine br_t hz ?_
  rcases pk_ix x3 (n := 9) (by decide) with h | h | ⟨j, hj, rfl⟩
  · exact br_t h (br_t h (br_t rfl H))
  · obtain ⟨g0, g1, g2, g3⟩ := qd_ge (a := 8) (by decide) h (by decide)
    exact br_f g0 (br_f g1 (br_f g0 (br_f g1 (br_t rfl H))))
  · have hc := qd_cn_le m ls (2 ^ j) (2 ^ j)
    have h9 : 2 ^ j ≤ 2 ^ 8 := Nat.pow_le_pow_right (by decide) (by omega)
    refine qd_count j (qd_cn m ls (2 ^ j) (2 ^ j)) rfl rfl hj hm hP (fun z a2 a3 => ?_)
    refine pk_lt j 0 (fun z => absurd z (by omega)) (fun _ => pk_le j 8 (fun _ => br_f (nI_pos (by omega)) (br_f ?_ H)) (fun z => absurd z (by omega)))
    rw [qd_s1 j hj]
    exact nI_nlt hc (by omega)
theorem qd_588 {post : Int32 → St0 → Prop} {mc ms kc ks m : Nat} {x0 x3 z0 z1 z : Int32} {ls : List Nat} {a1 a2 a3 : Nat → Int32} (H : post 1 ()) (hm : m < 256) (hl : ls.length = 4) (hP : qd_P a1 ls) (hz : z1 = z0) :
    wL_lawOf_588 post mc ms x0 x3 z0 z1 kc ks (nI m) (nI ls.length) (-1) z a1 a2 a3 := by
  refine br_t hz ?_
  rcases pk_ix x0 (n := 4) (by decide) with h | h | ⟨j, hj, rfl⟩
  · exact br_t h (br_t h (qd_611 H hm hP rfl))
  · obtain ⟨g0, g1, g2, g3⟩ := qd_ge (a := 3) (by decide) h (by decide)
    refine br_f g0 (br_f ?_ (br_f g0 (br_t g2 (qd_611 H hm hP rfl))))
    rw [hl]
    exact g3
  · refine qd_drop_m j (ls.eraseIdx j) rfl rfl (by omega) hP (fun b1 hb => ?_)
    have hlen : (ls.eraseIdx j).length = 3 := by rw [List.length_eraseIdx_of_lt (by omega), hl]
    refine pk_lt j 0 (fun z => absurd z (by omega)) (fun _ => pk_lt 3 j (fun z => absurd z (by omega)) (fun _ => qd_611 H hm hb ?_))
    rw [hlen]
    rfl
theorem qd_570 {post : Int32 → St0 → Prop} {mc ms kc ks m : Nat} {x0 x3 z : Int32} {ls : List Nat} {a1 a2 a3 : Nat → Int32} (lost : Bool) (H : post 1 ()) (hm : m < 256) (hl : ls.length = 4) (hP : qd_P a1 ls) (hb : qd_iw m ls 1 = !lost) :
    wL_lawOf_570 post mc ms x0 x3 (qd_bI lost) kc ks (nI m) (nI ls.length) (-1) z a1 a2 a3 := by
  refine qd_won 1 (!lost) hb rfl (by decide) (by decide) hm hP (fun z a2 a3 => ?_)
  cases lost with
  | false => exact br_t rfl (qd_588 H hm hl hP rfl)
  | true => exact br_f qd_10 (qd_588 H hm hl hP rfl)
theorem qd_374 {post : Int32 → St0 → Prop} {mc ms kc ks : Nat} {x0 x2 x3 z0 z1 z : Int32} {a1 a2 a3 : Nat → Int32} (H : post 1 ()) (hP : qd_P a1 [5, 5376, 6656]) (hz : z1 = z0) :
    wL_lawOf_374 post mc ms x0 x2 x3 z0 z1 kc ks (nI 221) (nI [5, 5376, 6656].length) (-1) z a1 a2 a3 := by
  refine br_t hz (qd_add 8192 [5, 5376, 6656, 8192] rfl (by decide) (by decide) (by decide) hP (fun b1 hb => br_t rfl ?_))
  refine qd_won 1 false qd_t8.1 rfl (by decide) (by decide) (by decide) hb (fun z a2 a3 => br_t rfl ?_)
  refine qd_choice 1 2 qd_t8.2 rfl (by decide) (by decide) (by decide) hb (fun z a2 a3 => br_t rfl ?_)
  refine qd_spare 3 true qd_t9.1 rfl (by decide) (by decide) hb (fun z a2 a3 => br_t rfl ?_)
  refine qd_spare 0 false qd_t9.2.1 rfl (by decide) (by decide) hb (fun z a2 a3 => br_t rfl ?_)
  refine qd_spare 1 true qd_t9.2.2.1 rfl (by decide) (by decide) hb (fun z a2 a3 => br_t rfl ?_)
  refine qd_spare 2 true qd_t9.2.2.2 rfl (by decide) (by decide) hb (fun z a2 a3 => br_t rfl ?_)
  refine qd_swapped 253 true qd_t10.1 (by decide) (by decide) (by decide) hb (fun z a2 a3 => br_t rfl ?_)
  refine qd_swapped 223 false qd_t10.2.1 (by decide) (by decide) (by decide) hb (fun z a2 a3 => br_t rfl ?_)
  refine qd_swapped 220 false qd_t10.2.2 (by decide) (by decide) (by decide) hb (fun z a2 a3 => br_t rfl ?_)
  refine br_f (by decide) (br_f (by decide) (br_t rfl ?_))
  obtain ⟨l, hl, el⟩ := pk_andE x2 (m := 15) 4 (by decide)
  obtain ⟨i1, i2⟩ := qd_i4 l hl
  refine nm_r el (qd_drop_m 3 [5, 5376, 6656] rfl rfl (by decide) hb (fun c1 hc => br_t rfl ?_))
  refine qd_won 1 true qd_t1.1 rfl (by decide) (by decide) (by decide) hc (fun z a2 a3 => br_t rfl ?_)
  have hq : 2 ^ l < 65536 := Nat.lt_of_lt_of_le (Nat.pow_lt_pow_right (by decide) hl) (by decide)
  refine qd_add (2 ^ l) [5, 5376, 6656, 2 ^ l] rfl i1 hq (by decide) hc (fun d1 hd => br_t rfl ?_)
  have T := qd_t11 l hl
  have Y : (l = 1 ∨ l / 2 = 1 ∨ l / 2 = 5 ∨ l = 13) → wL_lawOf_565 post mc ms x0 x3 kc ks (nI 221) (nI [5, 5376, 6656, 2 ^ l].length) (-1) z d1 a2 a3 := by
    intro c
    rw [decide_eq_true c] at T
    exact qd_570 true H (by decide) rfl hd T
  have N : ¬ (l = 1 ∨ l / 2 = 1 ∨ l / 2 = 5 ∨ l = 13) → wL_lawOf_570 post mc ms x0 x3 0 kc ks (nI 221) (nI [5, 5376, 6656, 2 ^ l].length) (-1) z d1 a2 a3 := by
    intro c
    rw [decide_eq_false c] at T
    exact qd_570 false H (by decide) rfl hd T
  exact pk_eq l 1 (fun c => Y (Or.inl c)) (fun n1 => pk_eq (l / 2) 1 (fun c => Y (Or.inr (Or.inl c))) (fun n2 => pk_eq (l / 2) 5 (fun c => Y (Or.inr (Or.inr (Or.inl c)))) (fun n3 => pk_eq l 13 (fun c => Y (Or.inr (Or.inr (Or.inr c)))) (fun n4 => N (by omega))) i2 rfl) i2 rfl)
theorem qd_346 {post : Int32 → St0 → Prop} {mc ms kc ks v : Nat} {x0 x2 x3 z0 z1 z : Int32} {a1 a2 a3 : Nat → Int32} (hv : v < 256) (H : post 1 ()) (hP : qd_P a1 [5, 5376, 6656]) (hz : z1 = z0) :
    wL_lawOf_346 post mc ms x0 x2 x3 (nI v) (nI (v / 128 % 2)) (nI (v / 64 % 2)) z0 z1 kc ks (nI 221) (nI [5, 5376, 6656].length) (-1) z a1 a2 a3 := by
  refine br_t hz (qd_won (64 + v / 4) _ (qd_t7 (v / 4) (by omega)) (qd_i2 v hv) (by omega) (by omega) (by decide) hP (fun z a2 a3 => ?_))
  refine pk_eq (v / 128 % 2 + v / 64 % 2) 0 (fun c => qd_374 H hP ?_) (fun c => qd_374 H hP ?_) (nI_add _ _) rfl
  · rw [decide_eq_false (by omega)]
    rfl
  · rw [decide_eq_true (by omega)]
    rfl
theorem qd_292 {post : Int32 → St0 → Prop} {mc ms kc ks v : Nat} {x0 x2 x3 z0 z1 z : Int32} {a1 a2 a3 : Nat → Int32} (hv : v < 256) (H : post 1 ()) (hP : qd_P a1 [5, 5376, 6656]) (hz : z1 = z0) :
    wL_lawOf_292 post mc ms x0 x2 x3 (nI v) (nI (v / 128 % 2)) (nI (v / 64 % 2)) (nI (v / 8 % 2)) (nI (v / 4 % 2)) z0 z1 kc ks (nI 221) (nI [5, 5376, 6656].length) (-1) z a1 a2 a3 := by
  refine br_t hz (qd_count 8 144 qd_t5 rfl (by decide) (by decide) hP (fun z a2 a3 => br_t rfl ?_))
  refine qd_choice (64 + v / 4) _ (qd_t6 (v / 4) (by omega)) (qd_i2 v hv) (by omega) (by omega) (by decide) hP (fun z a2 a3 => ?_)
  refine pk_eq (v / 128 % 2 + v / 64 % 2) 0 (fun c => qd_346 hv H hP ?_) (fun c => pk_eq (v / 8 % 2) (v / 4 % 2) (fun d => qd_346 hv H hP ?_) (fun d => qd_346 hv H hP ?_)) (nI_add _ _) rfl
  · rw [if_pos (by omega)]
    rfl
  · rw [if_neg (by omega), if_pos (by omega)]
    rfl
  · rw [if_neg (by omega), if_neg (by rw [Nat.div_div_eq_div_mul]; exact d)]
    rfl
theorem qd_269 {post : Int32 → St0 → Prop} {mc ms kc ks v : Nat} {x0 x2 x3 z : Int32} {a1 a2 a3 : Nat → Int32} (b : Bool) (hv : v < 256) (H : post 1 ()) (hP : qd_P a1 [5, 5376, 6656]) (hb : qd_iw 221 [5, 5376, 6656] (256 + v) = b) :
    wL_lawOf_269 post mc ms x0 x2 x3 (nI v) (nI (v / 128 % 2)) (nI (v / 64 % 2)) (nI (v / 8 % 2)) (nI (v / 4 % 2)) (qd_bI b) kc ks (nI 221) (nI [5, 5376, 6656].length) (-1) z a1 a2 a3 := by
  refine qd_won (256 + v) b hb (qd_i1 v hv) (by omega) (by omega) (by decide) hP (fun z a2 a3 => ?_)
  cases b with
  | false => exact br_t rfl (qd_292 hv H hP rfl)
  | true => exact br_f qd_10 (qd_292 hv H hP rfl)
theorem qd_val {post : Int32 → St0 → Prop} {mc ms kc ks v : Nat} {x0 x2 x3 z : Int32} {a1 a2 a3 : Nat → Int32} (hv : v < 256) (H : post 1 ()) (hP : qd_P a1 [5, 5376, 6656]) :
    ((nI (v / 128 % 2) = 1 → wL_lawOf_230 post mc ms x0 x2 x3 (nI v) (nI (v / 128 % 2)) (nI (v / 64 % 2)) (nI (v / 8 % 2)) (nI (v / 4 % 2)) (nI (v / 2 % 2)) kc ks (nI 221) (nI [5, 5376, 6656].length) (-1) z a1 a2 a3) ∧ (¬ nI (v / 128 % 2) = 1 → (((nI (v / 64 % 2) = 1 → wL_lawOf_230 post mc ms x0 x2 x3 (nI v) (nI (v / 128 % 2)) (nI (v / 64 % 2)) (nI (v / 8 % 2)) (nI (v / 4 % 2)) (nI (v / 2 % 2)) kc ks (nI 221) (nI [5, 5376, 6656].length) (-1) z a1 a2 a3) ∧ (¬ nI (v / 64 % 2) = 1 → wL_lawOf_268 post mc ms x0 x2 x3 (nI v) (nI (v / 128 % 2)) (nI (v / 64 % 2)) (nI (v / 8 % 2)) (nI (v / 4 % 2)) kc ks (nI 221) (nI [5, 5376, 6656].length) (-1) z a1 a2 a3))))) := by
  have T := qd_t4 v hv
  have Y : ((v / 128 % 2 = 1 ∨ v / 64 % 2 = 1) ∧ (v / 8 % 2 = 1 ∨ v / 4 % 2 = 1 ∨ v / 2 % 2 = 1) ∧ (v / 8 % 2 = 0 ∨ v / 4 % 2 = 0 ∨ v / 2 % 2 = 1)) → wL_lawOf_264 post mc ms x0 x2 x3 (nI v) (nI (v / 128 % 2)) (nI (v / 64 % 2)) (nI (v / 8 % 2)) (nI (v / 4 % 2)) kc ks (nI 221) (nI [5, 5376, 6656].length) (-1) z a1 a2 a3 := by
    intro c
    rw [decide_eq_true c] at T
    exact qd_269 true hv H hP T
  have N : ¬ ((v / 128 % 2 = 1 ∨ v / 64 % 2 = 1) ∧ (v / 8 % 2 = 1 ∨ v / 4 % 2 = 1 ∨ v / 2 % 2 = 1) ∧ (v / 8 % 2 = 0 ∨ v / 4 % 2 = 0 ∨ v / 2 % 2 = 1)) → wL_lawOf_268 post mc ms x0 x2 x3 (nI v) (nI (v / 128 % 2)) (nI (v / 64 % 2)) (nI (v / 8 % 2)) (nI (v / 4 % 2)) kc ks (nI 221) (nI [5, 5376, 6656].length) (-1) z a1 a2 a3 := by
    intro c
    rw [decide_eq_false c] at T
    exact qd_269 false hv H hP T
  clear T
  have M : (v / 128 % 2 = 1 ∨ v / 64 % 2 = 1) → (v / 8 % 2 = 1 ∨ v / 4 % 2 = 1 ∨ v / 2 % 2 = 1) → wL_lawOf_248 post mc ms x0 x2 x3 (nI v) (nI (v / 128 % 2)) (nI (v / 64 % 2)) (nI (v / 8 % 2)) (nI (v / 4 % 2)) (nI (v / 2 % 2)) kc ks (nI 221) (nI [5, 5376, 6656].length) (-1) z a1 a2 a3 :=
    fun c1 c2 => pk_eq (v / 8 % 2) 0 (fun c => Y ⟨c1, c2, Or.inl c⟩) (fun n1 => pk_eq (v / 4 % 2) 0 (fun c => Y ⟨c1, c2, Or.inr (Or.inl c)⟩) (fun n2 => pk_eq (v / 2 % 2) 1 (fun c => Y ⟨c1, c2, Or.inr (Or.inr c)⟩) (fun n3 => N (fun c => c.2.2.elim n1 (fun d => d.elim n2 n3)))))
  have K : (v / 128 % 2 = 1 ∨ v / 64 % 2 = 1) → wL_lawOf_230 post mc ms x0 x2 x3 (nI v) (nI (v / 128 % 2)) (nI (v / 64 % 2)) (nI (v / 8 % 2)) (nI (v / 4 % 2)) (nI (v / 2 % 2)) kc ks (nI 221) (nI [5, 5376, 6656].length) (-1) z a1 a2 a3 :=
    fun c1 => pk_eq (v / 8 % 2) 1 (fun c => M c1 (Or.inl c)) (fun n1 => pk_eq (v / 4 % 2) 1 (fun c => M c1 (Or.inr (Or.inl c))) (fun n2 => pk_eq (v / 2 % 2) 1 (fun c => M c1 (Or.inr (Or.inr c))) (fun n3 => N (fun c => c.2.1.elim n1 (fun d => d.elim n2 n3)))))
  exact pk_eq (v / 128 % 2) 1 (fun c => K (Or.inl c)) (fun n1 => pk_eq (v / 64 % 2) 1 (fun c => K (Or.inr c)) (fun n2 => N (fun c => c.1.elim n1 n2)))
theorem qd_P0 : qd_P (fun _ => 0) [] := ⟨by decide, fun k c h => absurd h (by simp)⟩
theorem qd_lawOf {post : Int32 → St0 → Prop} (H : post 1 ()) (p0 p1 p2 p3 : Int32) : wpL_lawOf post 30 464 () p0 p1 p2 p3 := by
  refine ⟨by decide, by decide, 29, 457, by decide, by decide, by decide, by decide, by decide, by decide, by decide, by decide, ?_⟩
  refine nm_e (br_t rfl (nm_r (e' := nI 253) (by decide) ?_))
  refine nm_e (br_t rfl (nm_r (e' := nI 221) (by decide) ?_))
  refine qd_add (ls := []) 5 [5] rfl (by decide) (by decide) (by decide) qd_P0 (fun b1 hb => br_t rfl ?_)
  refine qd_add 5376 [5, 5376] rfl (by decide) (by decide) (by decide) hb (fun b2 hb2 => br_t rfl ?_)
  refine qd_add 6656 [5, 5376, 6656] rfl (by decide) (by decide) (by decide) hb2 (fun b3 hP => br_t rfl ?_)
  refine qd_won 1 true qd_t1.1 rfl (by decide) (by decide) (by decide) hP (fun z a2 a3 => br_t rfl ?_)
  refine qd_choice 1 1 qd_t2.1 rfl (by decide) (by decide) (by decide) hP (fun z a2 a3 => br_t rfl ?_)
  refine qd_won 2 false qd_t1.2.1 rfl (by decide) (by decide) (by decide) hP (fun z a2 a3 => br_t rfl ?_)
  refine qd_won 3 true qd_t1.2.2.1 rfl (by decide) (by decide) (by decide) hP (fun z a2 a3 => br_t rfl ?_)
  refine qd_won 4 false qd_t1.2.2.2.1 rfl (by decide) (by decide) (by decide) hP (fun z a2 a3 => br_t rfl ?_)
  refine qd_won 5 true qd_t1.2.2.2.2 rfl (by decide) (by decide) (by decide) hP (fun z a2 a3 => br_t rfl ?_)
  refine qd_choice 2 0 qd_t2.2.1 rfl (by decide) (by decide) (by decide) hP (fun z a2 a3 => br_t rfl ?_)
  refine qd_choice 3 2 qd_t2.2.2 rfl (by decide) (by decide) (by decide) hP (fun z a2 a3 => br_t rfl ?_)
  refine qd_count 0 1 qd_t3a.1 rfl (by decide) (by decide) hP (fun z a2 a3 => br_t rfl ?_)
  refine qd_count 1 1 qd_t3a.2.1 rfl (by decide) (by decide) hP (fun z a2 a3 => br_t rfl ?_)
  refine qd_count 2 3 qd_t3a.2.2 rfl (by decide) (by decide) hP (fun z a2 a3 => br_t rfl ?_)
  obtain ⟨v, hv, ev⟩ := pk_andE p1 (m := 255) 8 (by decide)
  have hv' : v < 256 := hv
  obtain ⟨i7, i6, i3, i2, i1⟩ := qd_i3 v hv'
  exact nm_r ev (nm_r i7 (nm_r i6 (nm_r i3 (nm_r i2 (nm_r i1 (qd_val hv' H hP))))))
theorem qd_cell {post : Int32 → Prop} {L j : Nat} {xs : Nat → Int32} (hL : L ≤ 4) (hj : j < 4) (h : ∀ x, post x) : wpL_cellAt post L xs () (nI j) :=
  pk_le L j (fun _ => h 0) (fun z => ⟨pk_in j L z, h _⟩)
theorem i_vc (xs : Nat → Int32) (L : Nat) (hL : L ≤ 4) : wpL_law (fun r => r = 1) L xs :=
  qd_cell (j := 0) hL (by decide) (fun p0 => qd_cell (j := 1) hL (by decide) (fun p1 => qd_cell (j := 2) hL (by decide) (fun p2 => qd_cell (j := 3) hL (by decide) (fun p3 => ⟨30, 464, by decide, by decide, qd_lawOf rfl p0 p1 p2 p3⟩))))
end
