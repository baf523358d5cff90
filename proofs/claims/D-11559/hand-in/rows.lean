section
/-- the 32 bits of an int as a natural -/
def db_v (x : Int32) : Nat := x.toUInt32.toBitVec.toNat
theorem db_vI (x : Int32) : Int32.ofNat (db_v x) = x := (Int32.ofNat_bitVecToNat x.toBitVec).trans (Int32.ofBitVec_toBitVec x)
theorem db_v_lt (x : Int32) : db_v x < 4294967296 := x.toUInt32.toBitVec.isLt
theorem db_v_nI {n : Nat} (h : n < 4294967296) : db_v (Int32.ofNat n) = n := pk_tn h
theorem db_v_inj {x y : Int32} (h : db_v x = db_v y) : x = y := by
  rw [← db_vI x, ← db_vI y, h]
theorem db_toInt (x : Int32) : (db_v x < 2147483648 → x.toInt = (db_v x : Int)) ∧ (2147483648 ≤ db_v x → x.toInt = (db_v x : Int) - 4294967296) := by
  have e : x.toInt = if 2 * db_v x < 4294967296 then (db_v x : Int) else (db_v x : Int) - 4294967296 := BitVec.toInt_eq_toNat_cond x.toBitVec
  constructor
  · intro h
    rw [e, if_pos (by omega)]
  · intro h
    rw [e, if_neg (by omega)]
def db_eq (a b : Int32) : Bool := Nat.beq (db_v a) (db_v b)
def db_le (a b : Int32) : Bool := Nat.ble (Nat.mod (Nat.add (db_v a) 2147483648) 4294967296) (Nat.mod (Nat.add (db_v b) 2147483648) 4294967296)
def db_lt (a b : Int32) : Bool := Nat.ble (Nat.succ (Nat.mod (Nat.add (db_v a) 2147483648) 4294967296)) (Nat.mod (Nat.add (db_v b) 2147483648) 4294967296)
theorem db_eq_iff {a b : Int32} : db_eq a b = true ↔ a = b :=
  ⟨fun h => db_v_inj (Nat.eq_of_beq_eq_true h), fun h => by rw [h]; exact Nat.beq_refl _⟩
theorem db_key {x y : Int32} : (x.toInt ≤ y.toInt ↔ (db_v x + 2147483648) % 4294967296 ≤ (db_v y + 2147483648) % 4294967296) ∧ (x.toInt < y.toInt ↔ (db_v x + 2147483648) % 4294967296 < (db_v y + 2147483648) % 4294967296) := by
  have hx := db_v_lt x
  have hy := db_v_lt y
  obtain ⟨x1, x2⟩ := db_toInt x
  obtain ⟨y1, y2⟩ := db_toInt y
  generalize x.toInt = p at *
  generalize y.toInt = q at *
  generalize db_v x = m at *
  generalize db_v y = n at *
  rcases Nat.lt_or_ge m 2147483648 with hm | hm
  · have := x1 hm
    rcases Nat.lt_or_ge n 2147483648 with hn | hn
    · have := y1 hn
      omega
    · have := y2 hn
      omega
  · have := x2 hm
    rcases Nat.lt_or_ge n 2147483648 with hn | hn
    · have := y1 hn
      omega
    · have := y2 hn
      omega
theorem db_le_iff {a b : Int32} : db_le a b = true ↔ a ≤ b :=
  ⟨fun h => Int32.le_iff_toInt_le.mpr (db_key.1.mpr (Nat.le_of_ble_eq_true h)), fun h => Nat.ble_eq_true_of_le (db_key.1.mp (Int32.le_iff_toInt_le.mp h))⟩
theorem db_lt_iff {a b : Int32} : db_lt a b = true ↔ a < b :=
  ⟨fun h => Int32.lt_iff_toInt_lt.mpr (db_key.2.mpr (Nat.le_of_ble_eq_true h)), fun h => Nat.ble_eq_true_of_le (db_key.2.mp (Int32.lt_iff_toInt_lt.mp h))⟩
theorem dc_if {t A B : Bool} {c P Q : Prop} (e : t = true ↔ c) (h : cond t A B = true) (hA : A = true → P) (hB : B = true → Q) : (c → P) ∧ (¬ c → Q) := by
  cases t with
  | true => exact ⟨fun _ => hA h, fun n => absurd (e.mp rfl) n⟩
  | false => exact ⟨fun y => absurd (e.mpr y) Bool.false_ne_true, fun _ => hB h⟩
theorem dc_eq {a b : Int32} {A B : Bool} {P Q : Prop} (h : cond (db_eq a b) A B = true) (hA : A = true → P) (hB : B = true → Q) : (a = b → P) ∧ (¬ a = b → Q) := dc_if db_eq_iff h hA hB
theorem dc_le {a b : Int32} {A B : Bool} {P Q : Prop} (h : cond (db_le a b) A B = true) (hA : A = true → P) (hB : B = true → Q) : (a ≤ b → P) ∧ (¬ a ≤ b → Q) := dc_if db_le_iff h hA hB
theorem dc_lt {a b : Int32} {A B : Bool} {P Q : Prop} (h : cond (db_lt a b) A B = true) (hA : A = true → P) (hB : B = true → Q) : (a < b → P) ∧ (¬ a < b → Q) := dc_if db_lt_iff h hA hB
theorem dc_both {A B : Bool} {c P Q : Prop} (h : cond A B false = true) (hA : A = true → P) (hB : B = true → Q) : (c → P) ∧ (¬ c → Q) := by
  cases A with
  | true => exact ⟨fun _ => hA rfl, fun _ => hB h⟩
  | false => exact absurd h Bool.false_ne_true
theorem dc_sy {e : Int32} {P : Int32 → Prop} (hk : ∀ x, x = e → P x) : ∀ x, x = e → P x := hk
/-- a value is worked out before it is handed on -/
def db_z (x : Int32) (k : Int32 → Bool) : Bool := match db_v x with
  | 0 => k (Int32.ofNat 0)
  | Nat.succ n => k (Int32.ofNat (Nat.succ n))
theorem db_z_eq (x : Int32) (k : Int32 → Bool) : db_z x k = k x := by
  have e := db_vI x
  unfold db_z
  cases h : db_v x with
  | zero => rw [h] at e; exact congrArg k e
  | succ n => rw [h] at e; exact congrArg k e
theorem dz_ok {x : Int32} {k : Int32 → Bool} (h : db_z x k = true) : k x = true := db_z_eq x k ▸ h
theorem dc_let {e : Int32} {k : Int32 → Bool} {P : Int32 → Prop} (h : db_z e k = true) (hk : ∀ x, k x = true → P x) : ∀ x, x = e → P x := by
  intro x hx
  rw [hx]
  exact hk e (dz_ok h)
def db_ck (i : Int32) (n : Nat) : Bool := Nat.ble (Nat.succ (db_v i)) n
theorem dc_in {i : Int32} {n : Nat} {A : Bool} {P : Prop} (h : cond (db_ck i n) A false = true) (hn : Nat.ble n 2147483648 = true) (hk : A = true → P) : vp_in i n ∧ P := by
  cases e : db_ck i n with
  | true =>
    rw [e] at h
    refine ⟨?_, hk h⟩
    have e1 : db_v i < n := Nat.le_of_ble_eq_true e
    have e2 : n ≤ 2147483648 := Nat.le_of_ble_eq_true hn
    rw [vp_in_iff, (db_toInt i).1 (by omega)]
    omega
  | false => rw [e] at h; exact absurd h Bool.false_ne_true
/-- an array as a list -/
def db_g : List Int32 → Nat → Int32
  | [], _ => 0
  | x :: _, 0 => x
  | _ :: xs, i + 1 => db_g xs i
def db_st : List Int32 → Nat → Int32 → (List Int32 → Bool) → Bool
  | [], _, _, _ => false
  | _ :: xs, 0, v, k => k (v :: xs)
  | x :: xs, i + 1, v, k => db_st xs i v (fun ys => k (x :: ys))
def db_up (l : List Int32) (i : Nat) (v : Int32) (k : List Int32 → Bool) : Bool := db_z v (fun v => db_st l i v k)
theorem db_st_ok : ∀ (l : List Int32) (i : Nat) (v : Int32) (k : List Int32 → Bool), db_st l i v k = true → ∃ m, k m = true ∧ db_g m = upd (db_g l) i v := by
  intro l
  induction l with
  | nil => intro i v k h; exact absurd h Bool.false_ne_true
  | cons x xs ih =>
    intro i v k h
    cases i with
    | zero =>
      refine ⟨v :: xs, h, ?_⟩
      funext j
      cases j with
      | zero => rfl
      | succ j => rfl
    | succ i =>
      obtain ⟨m, h1, h2⟩ := ih i v (fun ys => k (x :: ys)) h
      refine ⟨x :: m, h1, ?_⟩
      funext j
      cases j with
      | zero => rfl
      | succ j =>
        show db_g m j = if j + 1 = i + 1 then v else db_g xs j
        rw [h2]
        show (if j = i then v else db_g xs j) = _
        by_cases e : j = i
        · rw [if_pos e, if_pos (by omega)]
        · rw [if_neg e, if_neg (by omega)]
theorem dc_st {l : List Int32} {i : Nat} {v : Int32} {k : List Int32 → Bool} {P : (Nat → Int32) → Prop} (h : db_up l i v k = true) (hk : ∀ m, k m = true → P (db_g m)) : ∀ a, a = upd (db_g l) i v → P a := by
  intro a ha
  obtain ⟨m, h1, h2⟩ := db_st_ok l i v k (dz_ok h)
  rw [ha, ← h2]
  exact hk m h1
/-- what takes a state on -/
abbrev db_K : Type := Int32 → Int32 → Int32 → Int32 → Int32 → Int32 → Int32 → Int32 → Int32 → Int32 → Int32 → Int32 → List Int32 → List Int32 → List Int32 → List Int32 → List Int32 → List Int32 → Bool
end
section
/-- bit s of a -/
def db_inN (a s : Nat) : Bool := Nat.beq (Nat.land (Nat.shiftRight a (Nat.land s 31)) 1) 1
theorem dh_bit (p0 p1 : Int32) : ((p0.toUInt32 >>> (p1.toUInt32 &&& Int32.toUInt32 31)).toInt32 &&& 1) = nI (Nat.land (Nat.shiftRight (db_v p0) (Nat.land (db_v p1) 31)) 1) := by
  have hk : ((p1.toUInt32 &&& Int32.toUInt32 31).toBitVec % 32).toNat = Nat.land (db_v p1) 31 := by
    show (db_v p1 &&& 31) % 32 = db_v p1 &&& 31
    exact Nat.mod_eq_of_lt (Nat.lt_of_le_of_lt Nat.and_le_right (by decide))
  rw [pk_and _ 1 (by decide), pk_ushr p0 p1 _ hk]
  congr 1
  show db_v p0 / 2 ^ (db_v p1 &&& 31) % 2 = (db_v p0 >>> (db_v p1 &&& 31)) &&& 1
  rw [Nat.and_one_is_mod, Nat.shiftRight_eq_div_pow]
theorem dh_bit0 (p0 p1 : Int32) : ((p0.toUInt32 >>> (p1.toUInt32 &&& Int32.toUInt32 31)).toInt32 &&& 1) = 0 ↔ db_inN (db_v p0) (db_v p1) = false := by
  rw [dh_bit]
  unfold db_inN
  have h : Nat.land (Nat.shiftRight (db_v p0) (Nat.land (db_v p1) 31)) 1 < 2 := Nat.lt_of_le_of_lt Nat.and_le_right (by decide)
  generalize Nat.land (Nat.shiftRight (db_v p0) (Nat.land (db_v p1) 31)) 1 = m at h
  have h2 : m = 0 ∨ m = 1 := by omega
  rcases h2 with h2 | h2
  · rw [h2]
    decide
  · rw [h2]
    decide
theorem dh_in {post : Int32 → Prop} {u : St0} {p0 p1 : Int32} (h1 : db_inN (db_v p0) (db_v p1) = true → post 1) (h0 : db_inN (db_v p0) (db_v p1) = false → post 0) : wpX_in post u p0 p1 := by
  refine ⟨fun h => h0 ((dh_bit0 p0 p1).mp h), fun h => h1 ?_⟩
  cases e : db_inN (db_v p0) (db_v p1) with
  | true => rfl
  | false => exact absurd ((dh_bit0 p0 p1).mpr e) h
def db_in (kb : Int32 → Bool) (p0 p1 : Int32) : Bool := cond (db_inN (db_v p0) (db_v p1)) (kb 1) (kb 0)
theorem dh_cond {t A B : Bool} {P Q : Prop} (h : cond t A B = true) (hA : A = true → P) (hB : B = true → Q) : (t = true → P) ∧ (t = false → Q) := by
  cases t with
  | true => exact ⟨fun _ => hA h, fun n => absurd n (by decide)⟩
  | false => exact ⟨fun n => absurd n (by decide), fun _ => hB h⟩
theorem dh_false {t A : Bool} (h : cond t A false = true) : t = true ∧ A = true := by
  cases t with
  | true => exact ⟨rfl, h⟩
  | false => exact absurd h Bool.false_ne_true
theorem ds_in {post : Int32 → Prop} {kb : Int32 → Bool} {p0 p1 : Int32} (h : db_in kb p0 p1 = true) (hk : ∀ r, kb r = true → post r) : wpX_in post () p0 p1 :=
  have q := dh_cond h (hk 1) (hk 0)
  dh_in q.1 q.2
/-- may the piece that began at b go in direction d -/
def db_cgN (ki tm b d : Nat) : Bool := cond (db_inN ki b) true (cond (Nat.beq tm 0) (Nat.ble 2 d) (Nat.ble d 1))
theorem dh_v0 {x : Int32} : Nat.beq (db_v x) 0 = true ↔ x = 0 := db_eq_iff (a := x) (b := 0)
theorem dh_cg {post : Int32 → Prop} {f0_first : Int32} {f0_second : Int32} {f0_kings : Int32} {f0_toMove : Int32} {f0_pastTop : Int32} {f0_pastSize : Int32} {f0_squareCount : Int32} {f0_taken : Int32} {f0_wanted : Int32} {f0_seen : Int32} {f0_most : Int32} {f0_beginnings : Int32} {a1 : Nat → Int32} {a2 : Nat → Int32} {a3 : Nat → Int32} {a4 : Nat → Int32} {a5 : Nat → Int32} {a6 : Nat → Int32} {p0 : Int32} {d : Nat} (hd : d < 4) (h1 : db_cgN (db_v f0_kings) (db_v f0_toMove) (db_v p0) d = true → post 1) (h0 : db_cgN (db_v f0_kings) (db_v f0_toMove) (db_v p0) d = false → post 0) :
    wpX_canGo post (f0_first, f0_second, f0_kings, f0_toMove, f0_pastTop, f0_pastSize, f0_squareCount, f0_taken, f0_wanted, f0_seen, f0_most, f0_beginnings, a1, a2, a3, a4, a5, a6) p0 (nI d) := by
  unfold db_cgN at h1 h0
  unfold wpX_canGo
  refine dh_in (fun e => ?_) (fun e => ?_)
  · rw [e] at h1
    exact br_f (by decide) (h1 rfl)
  · rw [e] at h1 h0
    refine br_t rfl ?_
    cases t : Nat.beq (db_v f0_toMove) 0 with
    | true =>
      rw [t] at h1 h0
      refine br_t (dh_v0.mp t) ?_
      refine pk_lt d 2 (fun z => h0 ?_) (fun z => h1 (Nat.ble_eq_true_of_le z))
      cases q : Nat.ble 2 d with
      | true => have := Nat.le_of_ble_eq_true q; omega
      | false => rfl
    | false =>
      rw [t] at h1 h0
      refine br_f (fun z => absurd (dh_v0.mpr z) (by rw [t]; decide)) ?_
      refine pk_le 2 d (fun z => h0 ?_) (fun z => h1 (Nat.ble_eq_true_of_le (by omega)))
      cases q : Nat.ble d 1 with
      | true => have := Nat.le_of_ble_eq_true q; omega
      | false => rfl
def db_canGo (kb : Int32 → Bool) (f0_first f0_second f0_kings f0_toMove : Int32) (p0 p1 : Int32) : Bool := cond (Nat.ble (db_v p1) 3) (cond (db_cgN (db_v f0_kings) (db_v f0_toMove) (db_v p0) (db_v p1)) (kb 1) (kb 0)) false
theorem ds_canGo {post : Int32 → Prop} {kb : Int32 → Bool} {f0_first : Int32} {f0_second : Int32} {f0_kings : Int32} {f0_toMove : Int32} {f0_pastTop : Int32} {f0_pastSize : Int32} {f0_squareCount : Int32} {f0_taken : Int32} {f0_wanted : Int32} {f0_seen : Int32} {f0_most : Int32} {f0_beginnings : Int32} {a1 : List Int32} {a2 : List Int32} {a3 : List Int32} {a4 : List Int32} {a5 : List Int32} {a6 : List Int32} {p0 p1 : Int32} (h : db_canGo kb f0_first f0_second f0_kings f0_toMove p0 p1 = true) (hk : ∀ r, kb r = true → post r) :
    wpX_canGo post (f0_first, f0_second, f0_kings, f0_toMove, f0_pastTop, f0_pastSize, f0_squareCount, f0_taken, f0_wanted, f0_seen, f0_most, f0_beginnings, db_g a1, db_g a2, db_g a3, db_g a4, db_g a5, db_g a6) p0 p1 := by
  unfold db_canGo at h
  obtain ⟨e, h⟩ := dh_false h
  have e2 := Nat.le_of_ble_eq_true e
  have q := dh_cond h (hk 1) (hk 0)
  have H : wpX_canGo post (f0_first, f0_second, f0_kings, f0_toMove, f0_pastTop, f0_pastSize, f0_squareCount, f0_taken, f0_wanted, f0_seen, f0_most, f0_beginnings, db_g a1, db_g a2, db_g a3, db_g a4, db_g a5, db_g a6) p0 (nI (db_v p1)) := dh_cg (by omega) q.1 q.2
  rw [show nI (db_v p1) = p1 from db_vI p1] at H
  exact H
/-- the table of neighbours: 0, or the square and one -/
def db_nbN (s d : Nat) : Nat := Nat.land (Nat.shiftRight 168325339091146258993924839123410675144340329879003840170088851053995815447306824405971744215000585452211818588017158179613937843941562386697927384505737513236195796229272063824889996879138600896787780108512203560044732177993728 (Nat.mul 6 (Nat.add (Nat.mul 4 s) d))) 63
def db_r (t : Nat) : Int32 := match t with
  | 0 => -1
  | Nat.succ n => Int32.ofNat n
end
section
def db_neighbour_72 (kb : Int32 → Bool) (x2 : Int32) (x3 : Int32) (z0 : Int32) : Bool := cond (db_eq (z0) (0)) (kb (-1)) (db_z (((x2 * 4) + (x3 >>> ((1 : Int32) &&& 31)))) (fun t1 => kb t1))
theorem ds_neighbour_72 {post : Int32 → Prop} {kb : Int32 → Bool} {x2 : Int32} {x3 : Int32} {z0 : Int32} (h : db_neighbour_72 kb x2 x3 z0 = true) (hk : ∀ r, kb r = true → post r) : wX_neighbour_72 post x2 x3 z0 := by
  unfold db_neighbour_72 at h
  unfold wX_neighbour_72
  refine dc_eq h (fun h => ?_) (fun h => ?_)
  · exact hk _ h
  · have h := dz_ok h
    exact hk _ h
def db_neighbour_71 (kb : Int32 → Bool) (x2 : Int32) (x3 : Int32) : Bool := db_neighbour_72 kb x2 x3 0
theorem ds_neighbour_71 {post : Int32 → Prop} {kb : Int32 → Bool} {x2 : Int32} {x3 : Int32} (h : db_neighbour_71 kb x2 x3 = true) (hk : ∀ r, kb r = true → post r) : wX_neighbour_71 post x2 x3 := by
  unfold db_neighbour_71 at h
  unfold wX_neighbour_71
  exact ds_neighbour_72 h hk
def db_neighbour_45 (kb : Int32 → Bool) (x2 : Int32) (z0 : Int32) (z1 : Int32) : Bool := db_z (z1 + z0) (fun x3_5 => cond (db_lt (x2) (0)) (db_neighbour_71 kb x2 x3_5) (cond (db_le (8) (x2)) (db_neighbour_71 kb x2 x3_5) (cond (db_lt (x3_5) (0)) (db_neighbour_71 kb x2 x3_5) (cond (db_le (8) (x3_5)) (db_neighbour_71 kb x2 x3_5) (db_neighbour_72 kb x2 x3_5 1)))))
theorem ds_neighbour_45 {post : Int32 → Prop} {kb : Int32 → Bool} {x2 : Int32} {z0 : Int32} {z1 : Int32} (h : db_neighbour_45 kb x2 z0 z1 = true) (hk : ∀ r, kb r = true → post r) : wX_neighbour_45 post x2 z0 z1 := by
  unfold db_neighbour_45 at h
  unfold wX_neighbour_45
  refine dc_let h (fun x3_5 h => ?_)
  refine dc_lt h (fun h => ?_) (fun h => ?_)
  · exact ds_neighbour_71 h hk
  · refine dc_le h (fun h => ?_) (fun h => ?_)
    · exact ds_neighbour_71 h hk
    · refine dc_lt h (fun h => ?_) (fun h => ?_)
      · exact ds_neighbour_71 h hk
      · refine dc_le h (fun h => ?_) (fun h => ?_)
        · exact ds_neighbour_71 h hk
        · exact ds_neighbour_72 h hk
def db_neighbour_33 (kb : Int32 → Bool) (x1 : Int32) (x2 : Int32) (z0 : Int32) (z1 : Int32) : Bool := cond (db_eq ((x1 &&& 1)) (0)) (db_z ((z1 + z0)) (fun t1 => db_neighbour_45 kb x2 (-1) t1)) (db_z ((z1 + z0)) (fun t2 => db_neighbour_45 kb x2 1 t2))
theorem ds_neighbour_33 {post : Int32 → Prop} {kb : Int32 → Bool} {x1 : Int32} {x2 : Int32} {z0 : Int32} {z1 : Int32} (h : db_neighbour_33 kb x1 x2 z0 z1 = true) (hk : ∀ r, kb r = true → post r) : wX_neighbour_33 post x1 x2 z0 z1 := by
  unfold db_neighbour_33 at h
  unfold wX_neighbour_33
  refine dc_eq h (fun h => ?_) (fun h => ?_)
  · have h := dz_ok h
    exact ds_neighbour_45 h hk
  · have h := dz_ok h
    exact ds_neighbour_45 h hk
def db_neighbour_13 (kb : Int32 → Bool) (x0 : Int32) (x1 : Int32) (z0 : Int32) (z1 : Int32) : Bool := db_z (z1 + z0) (fun x2_2 => cond (db_eq (((x0 >>> ((2 : Int32) &&& 31)) &&& 1)) (0)) (db_z ((2 * (x0 &&& 3))) (fun t1 => db_neighbour_33 kb x1 x2_2 1 t1)) (db_z ((2 * (x0 &&& 3))) (fun t2 => db_neighbour_33 kb x1 x2_2 0 t2)))
theorem ds_neighbour_13 {post : Int32 → Prop} {kb : Int32 → Bool} {x0 : Int32} {x1 : Int32} {z0 : Int32} {z1 : Int32} (h : db_neighbour_13 kb x0 x1 z0 z1 = true) (hk : ∀ r, kb r = true → post r) : wX_neighbour_13 post x0 x1 z0 z1 := by
  unfold db_neighbour_13 at h
  unfold wX_neighbour_13
  refine dc_let h (fun x2_2 h => ?_)
  refine dc_eq h (fun h => ?_) (fun h => ?_)
  · have h := dz_ok h
    exact ds_neighbour_33 h hk
  · have h := dz_ok h
    exact ds_neighbour_33 h hk
def db_neighbourG (kb : Int32 → Bool) (p0 : Int32) (p1 : Int32) : Bool := cond (db_le (2) (p1)) (db_z ((p0 >>> ((2 : Int32) &&& 31))) (fun t1 => db_neighbour_13 kb p0 p1 1 t1)) (db_z ((p0 >>> ((2 : Int32) &&& 31))) (fun t2 => db_neighbour_13 kb p0 p1 (-1) t2))
theorem ds_neighbourG {post : Int32 → Prop} {kb : Int32 → Bool} {p0 : Int32} {p1 : Int32} (h : db_neighbourG kb p0 p1 = true) (hk : ∀ r, kb r = true → post r) : wpX_neighbour post () p0 p1 := by
  unfold db_neighbourG at h
  unfold wpX_neighbour
  refine dc_le h (fun h => ?_) (fun h => ?_)
  · have h := dz_ok h
    exact ds_neighbour_13 h hk
  · have h := dz_ok h
    exact ds_neighbour_13 h hk
def db_ones_4 (kb : Int32 → Bool) (x0 : Int32) : Nat → Int32 → Int32 → Bool
  | 0 => fun _ _ => false
  | n + 1 => fun x1 x2 => cond (db_le (32) (x2)) (kb x1) (db_z (x1 + (((x0.toUInt32 >>> (x2.toUInt32 &&& Int32.toUInt32 31)).toInt32) &&& 1)) (fun x1_2 => db_z (x2 + 1) (fun x2_3 => db_ones_4 kb x0 n x1_2 x2_3)))
theorem ds_ones_4 {post : Int32 → Prop} {kb : Int32 → Bool} {x0 : Int32} (hk : ∀ r, kb r = true → post r) : ∀ (n : Nat) {x1 : Int32} {x2 : Int32} (h : db_ones_4 kb x0 n x1 x2 = true), wX_ones_4 post x0 n x1 x2 := by
  intro n
  induction n with
  | zero => intro x1 x2 h; exact absurd h Bool.false_ne_true
  | succ n ih =>
    intro x1 x2 h
    unfold db_ones_4 at h
    unfold wX_ones_4
    refine dc_le h (fun h => ?_) (fun h => ?_)
    · exact hk _ h
    · refine dc_let h (fun x1_2 h => ?_)
      refine dc_let h (fun x2_3 h => ?_)
      exact ih h
def db_onesG (kb : Int32 → Bool) (p0 : Int32) : Bool := db_ones_4 kb p0 40 0 0
theorem ds_onesG {post : Int32 → Prop} {kb : Int32 → Bool} {p0 : Int32} (h : db_onesG kb p0 = true) (hk : ∀ r, kb r = true → post r) : wpX_ones post () p0 := by
  unfold db_onesG at h
  unfold wpX_ones
  refine ⟨40, ?_⟩
  exact ds_ones_4 hk 40 h
end
section
theorem dh_tab : ∀ s, s < 32 → ∀ d, d < 4 → db_neighbourG (fun r => db_eq r (db_r (db_nbN s d))) (nI s) (nI d) = true := by decide +kernel
theorem dh_tabLe : ∀ s, s < 32 → ∀ d, d < 4 → db_nbN s d ≤ 32 := by decide +kernel
theorem dh_nb {post : Int32 → Prop} {u : St0} {s d : Nat} (hs : s < 32) (hd : d < 4) (hp : post (db_r (db_nbN s d))) : wpX_neighbour post u (nI s) (nI d) :=
  ds_neighbourG (dh_tab s hs d hd) (fun r h => by rw [db_eq_iff.mp h]; exact hp)
def db_neighbour (kb : Int32 → Bool) (p0 p1 : Int32) : Bool := cond (Nat.ble (db_v p0) 31) (cond (Nat.ble (db_v p1) 3) (match db_nbN (db_v p0) (db_v p1) with
  | 0 => kb (-1)
  | Nat.succ t => kb (Int32.ofNat t)) false) false
theorem ds_neighbour {post : Int32 → Prop} {kb : Int32 → Bool} {p0 p1 : Int32} (h : db_neighbour kb p0 p1 = true) (hk : ∀ r, kb r = true → post r) : wpX_neighbour post () p0 p1 := by
  unfold db_neighbour at h
  obtain ⟨e1, h⟩ := dh_false h
  obtain ⟨e2, h⟩ := dh_false h
  have e1 := Nat.le_of_ble_eq_true e1
  have e2 := Nat.le_of_ble_eq_true e2
  have H : wpX_neighbour post () (nI (db_v p0)) (nI (db_v p1)) := by
    refine dh_nb (by omega) (by omega) (hk _ ?_)
    cases e : db_nbN (db_v p0) (db_v p1) with
    | zero => rw [e] at h; exact h
    | succ t => rw [e] at h; exact h
  rw [show nI (db_v p0) = p0 from db_vI p0, show nI (db_v p1) = p1 from db_vI p1] at H
  exact H
/-- where a jump comes to: 0, or the square and one -/
def db_jt3 (fs b t : Nat) : Nat := cond (Nat.beq t b) (Nat.succ t) (cond (db_inN fs t) 0 (Nat.succ t))
def db_jt2 (fs b d o : Nat) : Nat := match db_nbN o d with
  | 0 => 0
  | Nat.succ t => db_jt3 fs b t
def db_jt1 (en fs b d o : Nat) : Nat := cond (db_inN en o) (db_jt2 fs b d o) 0
def db_jtN (fi se ki tm b f d g : Nat) : Nat :=
  cond (db_cgN ki tm b d)
    (match db_nbN f d with
      | 0 => 0
      | Nat.succ o => db_jt1 (Nat.land (cond (Nat.beq tm 0) se fi) (Nat.xor g 4294967295)) (Nat.lor fi se) b d o) 0
theorem dh_jt3 {post : Int32 → Prop} {f0_first : Int32} {f0_second : Int32} {f0_kings : Int32} {f0_toMove : Int32} {f0_pastTop : Int32} {f0_pastSize : Int32} {f0_squareCount : Int32} {f0_taken : Int32} {f0_wanted : Int32} {f0_seen : Int32} {f0_most : Int32} {f0_beginnings : Int32} {a1 : Nat → Int32} {a2 : Nat → Int32} {a3 : Nat → Int32} {a4 : Nat → Int32} {a5 : Nat → Int32} {a6 : Nat → Int32} {b t : Nat} (hb : b < 32) (ht : t < 32) (hp : post (db_r (db_jt3 (Nat.lor (db_v f0_first) (db_v f0_second)) b t))) : (((nI t = nI b → (wX_jumpTo_84 post (nI t) f0_first f0_second f0_kings f0_toMove f0_pastTop f0_pastSize f0_squareCount f0_taken f0_wanted f0_seen f0_most f0_beginnings a1 a2 a3 a4 a5 a6)) ∧ (¬ nI t = nI b → (wpX_in (fun r_12 => (((r_12 = 0 → (wX_jumpTo_84 post (nI t) f0_first f0_second f0_kings f0_toMove f0_pastTop f0_pastSize f0_squareCount f0_taken f0_wanted f0_seen f0_most f0_beginnings a1 a2 a3 a4 a5 a6)) ∧ (¬ r_12 = 0 → (wX_jumpTo_88 post (nI t) f0_first f0_second f0_kings f0_toMove f0_pastTop f0_pastSize f0_squareCount f0_taken f0_wanted f0_seen f0_most f0_beginnings a1 a2 a3 a4 a5 a6))))) () (f0_first ||| f0_second) (nI t))))) := by
  unfold db_jt3 at hp
  refine pk_eq t b (fun z => ?_) (fun z => ?_)
  · rw [show Nat.beq t b = true by rw [z]; exact Nat.beq_refl b] at hp
    exact br_f (by decide) hp
  · have e : Nat.beq t b = false := by
      cases q : Nat.beq t b with
      | true => exact absurd (Nat.eq_of_beq_eq_true q) z
      | false => rfl
    rw [e] at hp
    have vt : db_v (nI t) = t := db_v_nI (by omega)
    refine dh_in (fun g => br_f (by decide) (br_t rfl ?_)) (fun g => br_t rfl (br_f (by decide) ?_))
    · rw [vt] at g
      have g' : db_inN (Nat.lor (db_v f0_first) (db_v f0_second)) t = true := g
      rw [g'] at hp
      exact hp
    · rw [vt] at g
      have g' : db_inN (Nat.lor (db_v f0_first) (db_v f0_second)) t = false := g
      rw [g'] at hp
      exact hp
theorem dh_18m {post : Int32 → Prop} {x1 x3 x4 : Int32} {f0_first : Int32} {f0_second : Int32} {f0_kings : Int32} {f0_toMove : Int32} {f0_pastTop : Int32} {f0_pastSize : Int32} {f0_squareCount : Int32} {f0_taken : Int32} {f0_wanted : Int32} {f0_seen : Int32} {f0_most : Int32} {f0_beginnings : Int32} {a1 : Nat → Int32} {a2 : Nat → Int32} {a3 : Nat → Int32} {a4 : Nat → Int32} {a5 : Nat → Int32} {a6 : Nat → Int32} (hp : post (-1)) : wX_jumpTo_18 post x1 x3 x4 (-1) f0_first f0_second f0_kings f0_toMove f0_pastTop f0_pastSize f0_squareCount f0_taken f0_wanted f0_seen f0_most f0_beginnings a1 a2 a3 a4 a5 a6 :=
  br_c (fun _ => fun x hx => br_t (by decide) hp) (fun _ => fun x hx => br_t (by decide) hp)
theorem dh_18b {post : Int32 → Prop} {x6 : Int32} {b o d : Nat} {f0_first : Int32} {f0_second : Int32} {f0_kings : Int32} {f0_toMove : Int32} {f0_pastTop : Int32} {f0_pastSize : Int32} {f0_squareCount : Int32} {f0_taken : Int32} {f0_wanted : Int32} {f0_seen : Int32} {f0_most : Int32} {f0_beginnings : Int32} {a1 : Nat → Int32} {a2 : Nat → Int32} {a3 : Nat → Int32} {a4 : Nat → Int32} {a5 : Nat → Int32} {a6 : Nat → Int32} (hb : b < 32) (ho : o < 32) (hd : d < 4)
    (hp : post (db_r (db_jt1 (db_v x6) (Nat.lor (db_v f0_first) (db_v f0_second)) b d o))) :
    (((nI o < 0 → (post (-1))) ∧ (¬ nI o < 0 → (wpX_in (fun r_6 => (((r_6 = 0 → (post (-1))) ∧ (¬ r_6 = 0 → (wpX_neighbour (fun r_8 => (((r_8 < 0 → (wX_jumpTo_88 post r_8 f0_first f0_second f0_kings f0_toMove f0_pastTop f0_pastSize f0_squareCount f0_taken f0_wanted f0_seen f0_most f0_beginnings a1 a2 a3 a4 a5 a6)) ∧ (¬ r_8 < 0 → (((r_8 = nI b → (wX_jumpTo_84 post r_8 f0_first f0_second f0_kings f0_toMove f0_pastTop f0_pastSize f0_squareCount f0_taken f0_wanted f0_seen f0_most f0_beginnings a1 a2 a3 a4 a5 a6)) ∧ (¬ r_8 = nI b → (wpX_in (fun r_12 => (((r_12 = 0 → (wX_jumpTo_84 post r_8 f0_first f0_second f0_kings f0_toMove f0_pastTop f0_pastSize f0_squareCount f0_taken f0_wanted f0_seen f0_most f0_beginnings a1 a2 a3 a4 a5 a6)) ∧ (¬ r_12 = 0 → (wX_jumpTo_88 post r_8 f0_first f0_second f0_kings f0_toMove f0_pastTop f0_pastSize f0_squareCount f0_taken f0_wanted f0_seen f0_most f0_beginnings a1 a2 a3 a4 a5 a6))))) () (f0_first ||| f0_second) r_8)))))))) () (nI o) (nI d)))))) () x6 (nI o))))) := by
  have vo : db_v (nI o) = o := db_v_nI (by omega)
  unfold db_jt1 at hp
  refine br_f (nI_pos (by omega)) ?_
  refine dh_in (fun e => br_f (by decide) ?_) (fun e => br_t rfl ?_)
  · rw [vo] at e
    rw [e] at hp
    refine dh_nb ho hd ?_
    have hp : post (db_r (db_jt2 (Nat.lor (db_v f0_first) (db_v f0_second)) b d o)) := hp
    unfold db_jt2 at hp
    have hle := dh_tabLe o ho d hd
    cases en : db_nbN o d with
    | zero =>
      rw [en] at hp
      exact br_t (by decide) (br_t rfl hp)
    | succ t =>
      rw [en] at hp hle
      refine br_f (show ¬ nI t < 0 from nI_pos (by omega)) ?_
      exact dh_jt3 hb (by omega) hp
  · rw [vo] at e
    rw [e] at hp
    exact hp
theorem dh_18 {post : Int32 → Prop} {x4 : Int32} {b o d : Nat} {f0_first : Int32} {f0_second : Int32} {f0_kings : Int32} {f0_toMove : Int32} {f0_pastTop : Int32} {f0_pastSize : Int32} {f0_squareCount : Int32} {f0_taken : Int32} {f0_wanted : Int32} {f0_seen : Int32} {f0_most : Int32} {f0_beginnings : Int32} {a1 : Nat → Int32} {a2 : Nat → Int32} {a3 : Nat → Int32} {a4 : Nat → Int32} {a5 : Nat → Int32} {a6 : Nat → Int32} (hb : b < 32) (ho : o < 32) (hd : d < 4)
    (hp : post (db_r (db_jt1 (Nat.land (cond (Nat.beq (db_v f0_toMove) 0) (db_v f0_second) (db_v f0_first)) (Nat.xor (db_v x4) 4294967295)) (Nat.lor (db_v f0_first) (db_v f0_second)) b d o))) :
    wX_jumpTo_18 post (nI b) (nI d) x4 (nI o) f0_first f0_second f0_kings f0_toMove f0_pastTop f0_pastSize f0_squareCount f0_taken f0_wanted f0_seen f0_most f0_beginnings a1 a2 a3 a4 a5 a6 := by
  refine br_c (fun z => ?_) (fun z => ?_)
  · rw [show Nat.beq (db_v f0_toMove) 0 = true from dh_v0.mpr z] at hp
    intro x6 hx
    rw [hx]
    exact dh_18b hb ho hd hp
  · have e : Nat.beq (db_v f0_toMove) 0 = false := by
      cases q : Nat.beq (db_v f0_toMove) 0 with
      | true => exact absurd (dh_v0.mp q) z
      | false => rfl
    rw [e] at hp
    intro x6 hx
    rw [hx]
    exact dh_18b hb ho hd hp
theorem dh_jt {post : Int32 → Prop} {g : Int32} {b f d : Nat} {f0_first : Int32} {f0_second : Int32} {f0_kings : Int32} {f0_toMove : Int32} {f0_pastTop : Int32} {f0_pastSize : Int32} {f0_squareCount : Int32} {f0_taken : Int32} {f0_wanted : Int32} {f0_seen : Int32} {f0_most : Int32} {f0_beginnings : Int32} {a1 : Nat → Int32} {a2 : Nat → Int32} {a3 : Nat → Int32} {a4 : Nat → Int32} {a5 : Nat → Int32} {a6 : Nat → Int32} (hb : b < 32) (hf : f < 32) (hd : d < 4)
    (hp : post (db_r (db_jtN (db_v f0_first) (db_v f0_second) (db_v f0_kings) (db_v f0_toMove) b f d (db_v g)))) : wpX_jumpTo post (f0_first, f0_second, f0_kings, f0_toMove, f0_pastTop, f0_pastSize, f0_squareCount, f0_taken, f0_wanted, f0_seen, f0_most, f0_beginnings, a1, a2, a3, a4, a5, a6) (nI b) (nI f) (nI d) g := by
  have vb : db_v (nI b) = b := db_v_nI (by omega)
  unfold db_jtN at hp
  unfold wpX_jumpTo
  refine dh_cg hd (fun e => br_f (by decide) ?_) (fun e => br_t rfl ?_)
  · rw [vb] at e
    rw [e] at hp
    refine dh_nb hf hd ?_
    have hle := dh_tabLe f hf d hd
    cases en : db_nbN f d with
    | zero =>
      rw [en] at hp
      exact dh_18m hp
    | succ o =>
      rw [en] at hp hle
      exact dh_18 hb (by omega) hd hp
  · rw [vb] at e
    rw [e] at hp
    exact dh_18m hp
theorem dh_jtLe {fi se ki tm b f d g : Nat} (hf : f < 32) (hd : d < 4) : db_jtN fi se ki tm b f d g ≤ 32 := by
  unfold db_jtN
  cases db_cgN ki tm b d with
  | false => exact Nat.zero_le _
  | true =>
    show (match db_nbN f d with
      | 0 => 0
      | Nat.succ o => db_jt1 (Nat.land (cond (Nat.beq tm 0) se fi) (Nat.xor g 4294967295)) (Nat.lor fi se) b d o) ≤ 32
    have h1 := dh_tabLe f hf d hd
    cases e1 : db_nbN f d with
    | zero => exact Nat.zero_le _
    | succ o =>
      rw [e1] at h1
      show db_jt1 _ _ b d o ≤ 32
      unfold db_jt1
      cases db_inN (Nat.land (cond (Nat.beq tm 0) se fi) (Nat.xor g 4294967295)) o with
      | false => exact Nat.zero_le _
      | true =>
        show db_jt2 _ b d o ≤ 32
        unfold db_jt2
        have h2 := dh_tabLe o (by omega) d hd
        cases e2 : db_nbN o d with
        | zero => exact Nat.zero_le _
        | succ t =>
          rw [e2] at h2
          show db_jt3 _ b t ≤ 32
          unfold db_jt3
          cases Nat.beq t b with
          | true => exact h2
          | false =>
            cases db_inN (Nat.lor fi se) t with
            | true => exact Nat.zero_le _
            | false => exact h2
def db_jumpTo (kb : Int32 → Bool) (f0_first f0_second f0_kings f0_toMove : Int32) (p0 p1 p2 p3 : Int32) : Bool := cond (Nat.ble (db_v p0) 31) (cond (Nat.ble (db_v p1) 31) (cond (Nat.ble (db_v p2) 3)
  (match db_jtN (db_v f0_first) (db_v f0_second) (db_v f0_kings) (db_v f0_toMove) (db_v p0) (db_v p1) (db_v p2) (db_v p3) with
  | 0 => kb (-1)
  | Nat.succ t => kb (Int32.ofNat t)) false) false) false
theorem ds_jumpTo {post : Int32 → Prop} {kb : Int32 → Bool} {f0_first : Int32} {f0_second : Int32} {f0_kings : Int32} {f0_toMove : Int32} {f0_pastTop : Int32} {f0_pastSize : Int32} {f0_squareCount : Int32} {f0_taken : Int32} {f0_wanted : Int32} {f0_seen : Int32} {f0_most : Int32} {f0_beginnings : Int32} {a1 : List Int32} {a2 : List Int32} {a3 : List Int32} {a4 : List Int32} {a5 : List Int32} {a6 : List Int32} {p0 p1 p2 p3 : Int32} (h : db_jumpTo kb f0_first f0_second f0_kings f0_toMove p0 p1 p2 p3 = true) (hk : ∀ r, kb r = true → post r) :
    wpX_jumpTo post (f0_first, f0_second, f0_kings, f0_toMove, f0_pastTop, f0_pastSize, f0_squareCount, f0_taken, f0_wanted, f0_seen, f0_most, f0_beginnings, db_g a1, db_g a2, db_g a3, db_g a4, db_g a5, db_g a6) p0 p1 p2 p3 := by
  unfold db_jumpTo at h
  obtain ⟨e1, h⟩ := dh_false h
  obtain ⟨e2, h⟩ := dh_false h
  obtain ⟨e3, h⟩ := dh_false h
  have e1 := Nat.le_of_ble_eq_true e1
  have e2 := Nat.le_of_ble_eq_true e2
  have e3 := Nat.le_of_ble_eq_true e3
  have H : wpX_jumpTo post (f0_first, f0_second, f0_kings, f0_toMove, f0_pastTop, f0_pastSize, f0_squareCount, f0_taken, f0_wanted, f0_seen, f0_most, f0_beginnings, db_g a1, db_g a2, db_g a3, db_g a4, db_g a5, db_g a6) (nI (db_v p0)) (nI (db_v p1)) (nI (db_v p2)) p3 := by
    refine dh_jt (by omega) (by omega) (by omega) (hk _ ?_)
    cases e : db_jtN (db_v f0_first) (db_v f0_second) (db_v f0_kings) (db_v f0_toMove) (db_v p0) (db_v p1) (db_v p2) (db_v p3) with
    | zero => rw [e] at h; exact h
    | succ t => rw [e] at h; exact h
  rw [show nI (db_v p0) = p0 from db_vI p0, show nI (db_v p1) = p1 from db_vI p1, show nI (db_v p2) = p2 from db_vI p2] at H
  exact H
/-- some jump from s in one of the last k directions -/
def db_mjK (fi se ki tm s : Nat) : Nat → Bool
  | 0 => false
  | Nat.succ k => cond (Nat.beq (db_jtN fi se ki tm s s (Nat.sub 3 k) 0) 0) (db_mjK fi se ki tm s k) true
/-- some jump from one of the last k squares -/
def db_mj (fi se ki tm mine : Nat) : Nat → Bool
  | 0 => false
  | Nat.succ k => cond (cond (db_inN mine (Nat.sub 31 k)) (db_mjK fi se ki tm (Nat.sub 31 k) 4) false) true (db_mj fi se ki tm mine k)
theorem dh_mj15 {post : Int32 → Prop} {J7 : Int32 → Prop} {x1 : Int32} {s : Nat} {f0_first : Int32} {f0_second : Int32} {f0_kings : Int32} {f0_toMove : Int32} {f0_pastTop : Int32} {f0_pastSize : Int32} {f0_squareCount : Int32} {f0_taken : Int32} {f0_wanted : Int32} {f0_seen : Int32} {f0_most : Int32} {f0_beginnings : Int32} {a1 : Nat → Int32} {a2 : Nat → Int32} {a3 : Nat → Int32} {a4 : Nat → Int32} {a5 : Nat → Int32} {a6 : Nat → Int32} (hs : s < 32) (hin : db_inN (db_v x1) s = true) : ∀ k, k ≤ 4 →
    (db_mjK (db_v f0_first) (db_v f0_second) (db_v f0_kings) (db_v f0_toMove) s k = false → J7 (nI (s + 1))) → (db_mjK (db_v f0_first) (db_v f0_second) (db_v f0_kings) (db_v f0_toMove) s k = true → post 1) → wX_mustJump_15 post J7 x1 (nI s) f0_first f0_second f0_kings f0_toMove f0_pastTop f0_pastSize f0_squareCount f0_taken f0_wanted f0_seen f0_most f0_beginnings a1 a2 a3 a4 a5 a6 (k + 1) (nI (4 - k)) := by
  intro k
  have vs : db_v (nI s) = s := db_v_nI (by omega)
  induction k with
  | zero =>
    intro _ h0 h1
    exact pk_le 4 4 (fun _ => nm_r (nI_1 s) (h0 rfl)) (fun z => absurd z (by omega))
  | succ k ih =>
    intro hk h0 h1
    refine pk_le 4 (4 - (k + 1)) (fun z => absurd z (by omega)) (fun _ => ?_)
    refine dh_in (fun _ => br_f (by decide) ?_) (fun e => absurd (hin.symm.trans (vs ▸ e)) (by decide))
    refine dh_jt hs hs (show 4 - (k + 1) < 4 by omega) ?_
    have ed : 4 - (k + 1) = Nat.sub 3 k := by
      show 4 - (k + 1) = 3 - k
      omega
    rw [ed]
    have u0 : ∀ b, db_mjK (db_v f0_first) (db_v f0_second) (db_v f0_kings) (db_v f0_toMove) s (k + 1) = b ↔ cond (Nat.beq (db_jtN (db_v f0_first) (db_v f0_second) (db_v f0_kings) (db_v f0_toMove) s s (Nat.sub 3 k) 0) 0) (db_mjK (db_v f0_first) (db_v f0_second) (db_v f0_kings) (db_v f0_toMove) s k) true = b := fun b => Iff.rfl
    rw [u0] at h0 h1
    show (db_r (db_jtN (db_v f0_first) (db_v f0_second) (db_v f0_kings) (db_v f0_toMove) s s (Nat.sub 3 k) 0) < 0 → _) ∧ (¬ db_r (db_jtN (db_v f0_first) (db_v f0_second) (db_v f0_kings) (db_v f0_toMove) s s (Nat.sub 3 k) 0) < 0 → _)
    cases e : db_jtN (db_v f0_first) (db_v f0_second) (db_v f0_kings) (db_v f0_toMove) s s (Nat.sub 3 k) 0 with
    | zero =>
      rw [e] at h0 h1
      refine br_t (by decide) (nm_r (e' := nI (4 - k)) ?_ (ih (by omega) h0 h1))
      show nI (3 - k) + 1 = nI (4 - k)
      rw [nI_1, show 3 - k + 1 = 4 - k by omega]
    | succ t =>
      rw [e] at h0 h1
      refine br_c (fun z => absurd z ?_) (fun _ => h1 rfl)
      have hle := dh_jtLe (fi := db_v f0_first) (se := db_v f0_second) (ki := db_v f0_kings) (tm := db_v f0_toMove) (b := s) (g := 0) hs (show Nat.sub 3 k < 4 by rw [← ed]; omega)
      rw [e] at hle
      exact nI_pos (by omega)
theorem dh_mj7 {post : Int32 → Prop} {x1 : Int32} {f0_first : Int32} {f0_second : Int32} {f0_kings : Int32} {f0_toMove : Int32} {f0_pastTop : Int32} {f0_pastSize : Int32} {f0_squareCount : Int32} {f0_taken : Int32} {f0_wanted : Int32} {f0_seen : Int32} {f0_most : Int32} {f0_beginnings : Int32} {a1 : Nat → Int32} {a2 : Nat → Int32} {a3 : Nat → Int32} {a4 : Nat → Int32} {a5 : Nat → Int32} {a6 : Nat → Int32} : ∀ k, k ≤ 32 →
    (db_mj (db_v f0_first) (db_v f0_second) (db_v f0_kings) (db_v f0_toMove) (db_v x1) k = true → post 1) → (db_mj (db_v f0_first) (db_v f0_second) (db_v f0_kings) (db_v f0_toMove) (db_v x1) k = false → post 0) → wX_mustJump_7 post x1 f0_first f0_second f0_kings f0_toMove f0_pastTop f0_pastSize f0_squareCount f0_taken f0_wanted f0_seen f0_most f0_beginnings a1 a2 a3 a4 a5 a6 (k + 1) (nI (32 - k)) := by
  intro k
  induction k with
  | zero =>
    intro _ h1 h0
    exact pk_le 32 32 (fun _ => h0 rfl) (fun z => absurd z (by omega))
  | succ k ih =>
    intro hk h1 h0
    refine pk_le 32 (32 - (k + 1)) (fun z => absurd z (by omega)) (fun _ => ⟨5, ?_⟩)
    have u0 : ∀ b, db_mj (db_v f0_first) (db_v f0_second) (db_v f0_kings) (db_v f0_toMove) (db_v x1) (k + 1) = b ↔ cond (cond (db_inN (db_v x1) (Nat.sub 31 k)) (db_mjK (db_v f0_first) (db_v f0_second) (db_v f0_kings) (db_v f0_toMove) (Nat.sub 31 k) 4) false) true (db_mj (db_v f0_first) (db_v f0_second) (db_v f0_kings) (db_v f0_toMove) (db_v x1) k) = b := fun b => Iff.rfl
    rw [u0] at h0 h1
    have ed : Nat.sub 31 k = 32 - (k + 1) := by
      show 31 - k = 32 - (k + 1)
      omega
    rw [ed] at h0 h1
    have vs : db_v (nI (32 - (k + 1))) = 32 - (k + 1) := db_v_nI (by omega)
    have es : 32 - (k + 1) + 1 = 32 - k := by omega
    cases e : db_inN (db_v x1) (32 - (k + 1)) with
    | true =>
      rw [e] at h0 h1
      refine dh_mj15 (by omega) e 4 (by omega) (fun q => ?_) (fun q => ?_)
      · rw [q] at h0 h1
        rw [es]
        exact ih (by omega) h1 h0
      · rw [q] at h1
        exact h1 rfl
    | false =>
      rw [e] at h0 h1
      refine pk_le 4 0 (fun z => absurd z (by omega)) (fun _ => ?_)
      refine dh_in (fun q => absurd (e.symm.trans (vs ▸ q)) (by decide)) (fun _ => br_t rfl (nm_r (nI_1 _) ?_))
      rw [es]
      exact ih (by omega) h1 h0
def db_zn (n : Nat) (k : Nat → Bool) : Bool := match n with
  | 0 => k 0
  | Nat.succ m => k (Nat.succ m)
theorem db_zn_eq (n : Nat) (k : Nat → Bool) : db_zn n k = k n := by
  cases n with
  | zero => rfl
  | succ n => rfl
def db_mustJump (kb : Int32 → Bool) (f0_first f0_second f0_kings f0_toMove : Int32) : Bool :=
  db_zn (db_v f0_first) (fun a => db_zn (db_v f0_second) (fun b => db_zn (db_v f0_kings) (fun c => db_zn (db_v f0_toMove) (fun t =>
    cond (db_mj a b c t (cond (Nat.beq t 0) a b) 32) (kb 1) (kb 0)))))
theorem ds_mustJump {post : Int32 → Prop} {kb : Int32 → Bool} {f0_first : Int32} {f0_second : Int32} {f0_kings : Int32} {f0_toMove : Int32} {f0_pastTop : Int32} {f0_pastSize : Int32} {f0_squareCount : Int32} {f0_taken : Int32} {f0_wanted : Int32} {f0_seen : Int32} {f0_most : Int32} {f0_beginnings : Int32} {a1 : List Int32} {a2 : List Int32} {a3 : List Int32} {a4 : List Int32} {a5 : List Int32} {a6 : List Int32} (h : db_mustJump kb f0_first f0_second f0_kings f0_toMove = true) (hk : ∀ r, kb r = true → post r) :
    wpX_mustJump post (f0_first, f0_second, f0_kings, f0_toMove, f0_pastTop, f0_pastSize, f0_squareCount, f0_taken, f0_wanted, f0_seen, f0_most, f0_beginnings, db_g a1, db_g a2, db_g a3, db_g a4, db_g a5, db_g a6) := by
  unfold db_mustJump at h
  rw [db_zn_eq, db_zn_eq, db_zn_eq, db_zn_eq] at h
  have q := dh_cond h (hk 1) (hk 0)
  unfold wpX_mustJump
  refine br_c (fun z => ⟨33, ?_⟩) (fun z => ⟨33, ?_⟩)
  · rw [show Nat.beq (db_v f0_toMove) 0 = true from dh_v0.mpr z] at q
    exact dh_mj7 32 (by omega) q.1 q.2
  · have e : Nat.beq (db_v f0_toMove) 0 = false := by
      cases g : Nat.beq (db_v f0_toMove) 0 with
      | true => exact absurd (dh_v0.mp g) z
      | false => rfl
    rw [e] at q
    exact dh_mj7 32 (by omega) q.1 q.2
def db_ones (kb : Int32 → Bool) (p0 : Int32) : Bool := cond (Nat.beq (db_v p0) 0) (kb 0) (db_onesG kb p0)
theorem dh_ones0 : db_onesG (fun r => db_eq r 0) 0 = true := by decide +kernel
theorem ds_ones {post : Int32 → Prop} {kb : Int32 → Bool} {p0 : Int32} (h : db_ones kb p0 = true) (hk : ∀ r, kb r = true → post r) : wpX_ones post () p0 := by
  unfold db_ones at h
  cases e : Nat.beq (db_v p0) 0 with
  | true =>
    rw [e] at h
    rw [dh_v0.mp e]
    exact ds_onesG dh_ones0 (fun r q => by rw [db_eq_iff.mp q]; exact hk 0 h)
  | false =>
    rw [e, cond_false] at h
    exact ds_onesG h hk
end
section
def db_own (kb : Int32 → Bool) (f0_first : Int32) (f0_second : Int32) (f0_kings : Int32) (f0_toMove : Int32) : Bool := cond (db_eq (f0_toMove) (0)) (kb f0_first) (kb f0_second)
theorem ds_own {post : Int32 → Prop} {kb : Int32 → Bool} {f0_first : Int32} {f0_second : Int32} {f0_kings : Int32} {f0_toMove : Int32} {f0_pastTop : Int32} {f0_pastSize : Int32} {f0_squareCount : Int32} {f0_taken : Int32} {f0_wanted : Int32} {f0_seen : Int32} {f0_most : Int32} {f0_beginnings : Int32} {a1 : List Int32} {a2 : List Int32} {a3 : List Int32} {a4 : List Int32} {a5 : List Int32} {a6 : List Int32} (h : db_own kb f0_first f0_second f0_kings f0_toMove = true) (hk : ∀ r, kb r = true → post r) : wpX_own post (f0_first, f0_second, f0_kings, f0_toMove, f0_pastTop, f0_pastSize, f0_squareCount, f0_taken, f0_wanted, f0_seen, f0_most, f0_beginnings, db_g a1, db_g a2, db_g a3, db_g a4, db_g a5, db_g a6) := by
  unfold db_own at h
  unfold wpX_own
  refine dc_eq h (fun h => ?_) (fun h => ?_)
  · exact hk _ h
  · exact hk _ h
def db_meet_42 (kb : Int32 → db_K) (z0 : Int32) (f0_first : Int32) (f0_second : Int32) (f0_kings : Int32) (f0_toMove : Int32) (f0_pastTop : Int32) (f0_pastSize : Int32) (f0_squareCount : Int32) (f0_taken : Int32) (f0_wanted : Int32) (f0_seen : Int32) (f0_most : Int32) (f0_beginnings : Int32) (a1 : List Int32) (a2 : List Int32) (a3 : List Int32) (a4 : List Int32) (a5 : List Int32) (a6 : List Int32) : Bool := db_z (f0_seen + 1) (fun f_4 => cond (db_eq ((f_4 - 1)) (f0_wanted)) (kb 1 f0_first f0_second f0_kings f0_toMove f0_pastTop f0_pastSize f0_squareCount f0_taken f0_wanted f_4 z0 f0_beginnings a1 a2 a3 a4 a5 a6) (kb 0 f0_first f0_second f0_kings f0_toMove f0_pastTop f0_pastSize f0_squareCount f0_taken f0_wanted f_4 z0 f0_beginnings a1 a2 a3 a4 a5 a6))
theorem ds_meet_42 {post : Int32 → St2 → Prop} {kb : Int32 → db_K} {z0 : Int32} {f0_first : Int32} {f0_second : Int32} {f0_kings : Int32} {f0_toMove : Int32} {f0_pastTop : Int32} {f0_pastSize : Int32} {f0_squareCount : Int32} {f0_taken : Int32} {f0_wanted : Int32} {f0_seen : Int32} {f0_most : Int32} {f0_beginnings : Int32} {a1 : List Int32} {a2 : List Int32} {a3 : List Int32} {a4 : List Int32} {a5 : List Int32} {a6 : List Int32} (h : db_meet_42 kb z0 f0_first f0_second f0_kings f0_toMove f0_pastTop f0_pastSize f0_squareCount f0_taken f0_wanted f0_seen f0_most f0_beginnings a1 a2 a3 a4 a5 a6 = true) (hk : ∀ r f0_first f0_second f0_kings f0_toMove f0_pastTop f0_pastSize f0_squareCount f0_taken f0_wanted f0_seen f0_most f0_beginnings a1 a2 a3 a4 a5 a6, kb r f0_first f0_second f0_kings f0_toMove f0_pastTop f0_pastSize f0_squareCount f0_taken f0_wanted f0_seen f0_most f0_beginnings a1 a2 a3 a4 a5 a6 = true → post r (f0_first, f0_second, f0_kings, f0_toMove, f0_pastTop, f0_pastSize, f0_squareCount, f0_taken, f0_wanted, f0_seen, f0_most, f0_beginnings, db_g a1, db_g a2, db_g a3, db_g a4, db_g a5, db_g a6)) : wX_meet_42 post z0 f0_first f0_second f0_kings f0_toMove f0_pastTop f0_pastSize f0_squareCount f0_taken f0_wanted f0_seen f0_most f0_beginnings (db_g a1) (db_g a2) (db_g a3) (db_g a4) (db_g a5) (db_g a6) := by
  unfold db_meet_42 at h
  unfold wX_meet_42
  refine dc_let h (fun f_4 h => ?_)
  refine dc_eq h (fun h => ?_) (fun h => ?_)
  · exact hk _ _ _ _ _ _ _ _ _ _ _ _ _ _ _ _ _ _ _ h
  · exact hk _ _ _ _ _ _ _ _ _ _ _ _ _ _ _ _ _ _ _ h
def db_meet (kb : Int32 → db_K) (f0_first : Int32) (f0_second : Int32) (f0_kings : Int32) (f0_toMove : Int32) (f0_pastTop : Int32) (f0_pastSize : Int32) (f0_squareCount : Int32) (f0_taken : Int32) (f0_wanted : Int32) (f0_seen : Int32) (f0_most : Int32) (f0_beginnings : Int32) (a1 : List Int32) (a2 : List Int32) (a3 : List Int32) (a4 : List Int32) (a5 : List Int32) (a6 : List Int32) : Bool := db_z (f0_beginnings ||| ((1 : Int32) <<< (((db_g a2) 0) &&& 31))) (fun f_1 => db_ones (fun r_2 => cond (db_le (r_2) (f0_most)) (db_meet_42 kb f0_most f0_first f0_second f0_kings f0_toMove f0_pastTop f0_pastSize f0_squareCount f0_taken f0_wanted f0_seen f0_most f_1 a1 a2 a3 a4 a5 a6) (db_meet_42 kb r_2 f0_first f0_second f0_kings f0_toMove f0_pastTop f0_pastSize f0_squareCount f0_taken f0_wanted f0_seen f0_most f_1 a1 a2 a3 a4 a5 a6)) f0_taken)
theorem ds_meet {post : Int32 → St2 → Prop} {kb : Int32 → db_K} {f0_first : Int32} {f0_second : Int32} {f0_kings : Int32} {f0_toMove : Int32} {f0_pastTop : Int32} {f0_pastSize : Int32} {f0_squareCount : Int32} {f0_taken : Int32} {f0_wanted : Int32} {f0_seen : Int32} {f0_most : Int32} {f0_beginnings : Int32} {a1 : List Int32} {a2 : List Int32} {a3 : List Int32} {a4 : List Int32} {a5 : List Int32} {a6 : List Int32} (h : db_meet kb f0_first f0_second f0_kings f0_toMove f0_pastTop f0_pastSize f0_squareCount f0_taken f0_wanted f0_seen f0_most f0_beginnings a1 a2 a3 a4 a5 a6 = true) (hk : ∀ r f0_first f0_second f0_kings f0_toMove f0_pastTop f0_pastSize f0_squareCount f0_taken f0_wanted f0_seen f0_most f0_beginnings a1 a2 a3 a4 a5 a6, kb r f0_first f0_second f0_kings f0_toMove f0_pastTop f0_pastSize f0_squareCount f0_taken f0_wanted f0_seen f0_most f0_beginnings a1 a2 a3 a4 a5 a6 = true → post r (f0_first, f0_second, f0_kings, f0_toMove, f0_pastTop, f0_pastSize, f0_squareCount, f0_taken, f0_wanted, f0_seen, f0_most, f0_beginnings, db_g a1, db_g a2, db_g a3, db_g a4, db_g a5, db_g a6)) : wpX_meet post (f0_first, f0_second, f0_kings, f0_toMove, f0_pastTop, f0_pastSize, f0_squareCount, f0_taken, f0_wanted, f0_seen, f0_most, f0_beginnings, db_g a1, db_g a2, db_g a3, db_g a4, db_g a5, db_g a6) := by
  unfold db_meet at h
  unfold wpX_meet
  refine dc_let h (fun f_1 h => ?_)
  refine ds_ones h (fun r_2 h => ?_)
  refine dc_le h (fun h => ?_) (fun h => ?_)
  · exact ds_meet_42 h hk
  · exact ds_meet_42 h hk
def db_meetSteps_25 (kb : Int32 → db_K) (J2 : Int32 → Int32 → Int32 → Int32 → Int32 → Int32 → Int32 → Int32 → Int32 → Int32 → Int32 → Int32 → Int32 → List Int32 → List Int32 → List Int32 → List Int32 → List Int32 → List Int32 → Bool) (x1 : Int32) (x2 : Int32) (z0 : Int32) (f0_first : Int32) (f0_second : Int32) (f0_kings : Int32) (f0_toMove : Int32) (f0_pastTop : Int32) (f0_pastSize : Int32) (f0_squareCount : Int32) (f0_taken : Int32) (f0_wanted : Int32) (f0_seen : Int32) (f0_most : Int32) (f0_beginnings : Int32) (a1 : List Int32) (a2 : List Int32) (a3 : List Int32) (a4 : List Int32) (a5 : List Int32) (a6 : List Int32) : Bool := cond (db_lt (z0) (0)) (db_z (x2 + 1) (fun x2_5 => J2 x2_5 f0_first f0_second f0_kings f0_toMove f0_pastTop f0_pastSize f0_squareCount f0_taken f0_wanted f0_seen f0_most f0_beginnings a1 a2 a3 a4 a5 a6)) (db_z ((f0_first ||| f0_second)) (fun t1 => db_in (fun r_6 => cond (db_eq (r_6) (0)) (db_up a2 (1) (z0.toInt8.toInt32) (fun a2_10 => db_meet (fun r_11 f0_first_12 f0_second_13 f0_kings_14 f0_toMove_15 f0_pastTop_16 f0_pastSize_17 f0_squareCount_18 f0_taken_19 f0_wanted_20 f0_seen_21 f0_most_22 f0_beginnings_23 am651_26 am652_29 am653_32 am654_35 am655_38 am656_41 => cond (db_eq (r_11) (0)) (db_z (x2 + 1) (fun x2_43 => J2 x2_43 f0_first_12 f0_second_13 f0_kings_14 f0_toMove_15 f0_pastTop_16 f0_pastSize_17 f0_squareCount_18 f0_taken_19 f0_wanted_20 f0_seen_21 f0_most_22 f0_beginnings_23 am651_26 am652_29 am653_32 am654_35 am655_38 am656_41)) (kb 1 f0_first_12 f0_second_13 f0_kings_14 f0_toMove_15 f0_pastTop_16 f0_pastSize_17 f0_squareCount_18 f0_taken_19 f0_wanted_20 f0_seen_21 f0_most_22 f0_beginnings_23 am651_26 am652_29 am653_32 am654_35 am655_38 am656_41)) f0_first f0_second f0_kings f0_toMove f0_pastTop f0_pastSize 2 0 f0_wanted f0_seen f0_most f0_beginnings a1 a2_10 a3 a4 a5 a6)) (db_z (x2 + 1) (fun x2_8 => J2 x2_8 f0_first f0_second f0_kings f0_toMove f0_pastTop f0_pastSize f0_squareCount f0_taken f0_wanted f0_seen f0_most f0_beginnings a1 a2 a3 a4 a5 a6))) t1 z0))
theorem ds_meetSteps_25 {post : Int32 → St2 → Prop} {kb : Int32 → db_K} {WJ2 : Int32 → Int32 → Int32 → Int32 → Int32 → Int32 → Int32 → Int32 → Int32 → Int32 → Int32 → Int32 → Int32 → (Nat → Int32) → (Nat → Int32) → (Nat → Int32) → (Nat → Int32) → (Nat → Int32) → (Nat → Int32) → Prop} {J2 : Int32 → Int32 → Int32 → Int32 → Int32 → Int32 → Int32 → Int32 → Int32 → Int32 → Int32 → Int32 → Int32 → List Int32 → List Int32 → List Int32 → List Int32 → List Int32 → List Int32 → Bool} {x1 : Int32} {x2 : Int32} {z0 : Int32} {f0_first : Int32} {f0_second : Int32} {f0_kings : Int32} {f0_toMove : Int32} {f0_pastTop : Int32} {f0_pastSize : Int32} {f0_squareCount : Int32} {f0_taken : Int32} {f0_wanted : Int32} {f0_seen : Int32} {f0_most : Int32} {f0_beginnings : Int32} {a1 : List Int32} {a2 : List Int32} {a3 : List Int32} {a4 : List Int32} {a5 : List Int32} {a6 : List Int32} (h : db_meetSteps_25 kb J2 x1 x2 z0 f0_first f0_second f0_kings f0_toMove f0_pastTop f0_pastSize f0_squareCount f0_taken f0_wanted f0_seen f0_most f0_beginnings a1 a2 a3 a4 a5 a6 = true) (hk : ∀ r f0_first f0_second f0_kings f0_toMove f0_pastTop f0_pastSize f0_squareCount f0_taken f0_wanted f0_seen f0_most f0_beginnings a1 a2 a3 a4 a5 a6, kb r f0_first f0_second f0_kings f0_toMove f0_pastTop f0_pastSize f0_squareCount f0_taken f0_wanted f0_seen f0_most f0_beginnings a1 a2 a3 a4 a5 a6 = true → post r (f0_first, f0_second, f0_kings, f0_toMove, f0_pastTop, f0_pastSize, f0_squareCount, f0_taken, f0_wanted, f0_seen, f0_most, f0_beginnings, db_g a1, db_g a2, db_g a3, db_g a4, db_g a5, db_g a6)) (hJ2 : ∀ v0 v1 v2 v3 v4 v5 v6 v7 v8 v9 v10 v11 v12 v13 v14 v15 v16 v17 v18, J2 v0 v1 v2 v3 v4 v5 v6 v7 v8 v9 v10 v11 v12 v13 v14 v15 v16 v17 v18 = true → WJ2 v0 v1 v2 v3 v4 v5 v6 v7 v8 v9 v10 v11 v12 (db_g v13) (db_g v14) (db_g v15) (db_g v16) (db_g v17) (db_g v18)) : wX_meetSteps_25 post WJ2 x1 x2 z0 f0_first f0_second f0_kings f0_toMove f0_pastTop f0_pastSize f0_squareCount f0_taken f0_wanted f0_seen f0_most f0_beginnings (db_g a1) (db_g a2) (db_g a3) (db_g a4) (db_g a5) (db_g a6) := by
  unfold db_meetSteps_25 at h
  unfold wX_meetSteps_25
  refine dc_lt h (fun h => ?_) (fun h => ?_)
  · refine dc_let h (fun x2_5 h => ?_)
    exact hJ2 _ _ _ _ _ _ _ _ _ _ _ _ _ _ _ _ _ _ _ h
  · have h := dz_ok h
    refine ds_in h (fun r_6 h => ?_)
    refine dc_eq h (fun h => ?_) (fun h => ?_)
    · refine dc_st h (fun a2_10 h => ?_)
      refine ds_meet h (fun r_11 f0_first_12 f0_second_13 f0_kings_14 f0_toMove_15 f0_pastTop_16 f0_pastSize_17 f0_squareCount_18 f0_taken_19 f0_wanted_20 f0_seen_21 f0_most_22 f0_beginnings_23 am651_26 am652_29 am653_32 am654_35 am655_38 am656_41 h => ?_)
      refine dc_eq h (fun h => ?_) (fun h => ?_)
      · refine dc_let h (fun x2_43 h => ?_)
        exact hJ2 _ _ _ _ _ _ _ _ _ _ _ _ _ _ _ _ _ _ _ h
      · exact hk _ _ _ _ _ _ _ _ _ _ _ _ _ _ _ _ _ _ _ h
    · refine dc_let h (fun x2_8 h => ?_)
      exact hJ2 _ _ _ _ _ _ _ _ _ _ _ _ _ _ _ _ _ _ _ h
def db_meetSteps_2 (kb : Int32 → db_K) (x1 : Int32) : Nat → Int32 → Int32 → Int32 → Int32 → Int32 → Int32 → Int32 → Int32 → Int32 → Int32 → Int32 → Int32 → Int32 → List Int32 → List Int32 → List Int32 → List Int32 → List Int32 → List Int32 → Bool
  | 0 => fun _ _ _ _ _ _ _ _ _ _ _ _ _ _ _ _ _ _ _ => false
  | n + 1 => fun x2 f0_first f0_second f0_kings f0_toMove f0_pastTop f0_pastSize f0_squareCount f0_taken f0_wanted f0_seen f0_most f0_beginnings a1 a2 a3 a4 a5 a6 => cond (db_le (4) (x2)) (kb 0 f0_first f0_second f0_kings f0_toMove f0_pastTop f0_pastSize f0_squareCount f0_taken f0_wanted f0_seen f0_most f0_beginnings a1 a2 a3 a4 a5 a6) (db_canGo (fun r_2 => cond (db_eq (r_2) (0)) (db_meetSteps_25 kb (db_meetSteps_2 kb x1 n) x1 x2 (-1) f0_first f0_second f0_kings f0_toMove f0_pastTop f0_pastSize f0_squareCount f0_taken f0_wanted f0_seen f0_most f0_beginnings a1 a2 a3 a4 a5 a6) (db_neighbour (fun r_44 => db_meetSteps_25 kb (db_meetSteps_2 kb x1 n) x1 x2 r_44 f0_first f0_second f0_kings f0_toMove f0_pastTop f0_pastSize f0_squareCount f0_taken f0_wanted f0_seen f0_most f0_beginnings a1 a2 a3 a4 a5 a6) x1 x2)) f0_first f0_second f0_kings f0_toMove x1 x2)
theorem ds_meetSteps_2 {post : Int32 → St2 → Prop} {kb : Int32 → db_K} {x1 : Int32} (hk : ∀ r f0_first f0_second f0_kings f0_toMove f0_pastTop f0_pastSize f0_squareCount f0_taken f0_wanted f0_seen f0_most f0_beginnings a1 a2 a3 a4 a5 a6, kb r f0_first f0_second f0_kings f0_toMove f0_pastTop f0_pastSize f0_squareCount f0_taken f0_wanted f0_seen f0_most f0_beginnings a1 a2 a3 a4 a5 a6 = true → post r (f0_first, f0_second, f0_kings, f0_toMove, f0_pastTop, f0_pastSize, f0_squareCount, f0_taken, f0_wanted, f0_seen, f0_most, f0_beginnings, db_g a1, db_g a2, db_g a3, db_g a4, db_g a5, db_g a6)) : ∀ (n : Nat) {x2 : Int32} {f0_first : Int32} {f0_second : Int32} {f0_kings : Int32} {f0_toMove : Int32} {f0_pastTop : Int32} {f0_pastSize : Int32} {f0_squareCount : Int32} {f0_taken : Int32} {f0_wanted : Int32} {f0_seen : Int32} {f0_most : Int32} {f0_beginnings : Int32} {a1 : List Int32} {a2 : List Int32} {a3 : List Int32} {a4 : List Int32} {a5 : List Int32} {a6 : List Int32} (h : db_meetSteps_2 kb x1 n x2 f0_first f0_second f0_kings f0_toMove f0_pastTop f0_pastSize f0_squareCount f0_taken f0_wanted f0_seen f0_most f0_beginnings a1 a2 a3 a4 a5 a6 = true), wX_meetSteps_2 post x1 n x2 f0_first f0_second f0_kings f0_toMove f0_pastTop f0_pastSize f0_squareCount f0_taken f0_wanted f0_seen f0_most f0_beginnings (db_g a1) (db_g a2) (db_g a3) (db_g a4) (db_g a5) (db_g a6) := by
  intro n
  induction n with
  | zero => intro x2 f0_first f0_second f0_kings f0_toMove f0_pastTop f0_pastSize f0_squareCount f0_taken f0_wanted f0_seen f0_most f0_beginnings a1 a2 a3 a4 a5 a6 h; exact absurd h Bool.false_ne_true
  | succ n ih =>
    intro x2 f0_first f0_second f0_kings f0_toMove f0_pastTop f0_pastSize f0_squareCount f0_taken f0_wanted f0_seen f0_most f0_beginnings a1 a2 a3 a4 a5 a6 h
    unfold db_meetSteps_2 at h
    unfold wX_meetSteps_2
    refine dc_le h (fun h => ?_) (fun h => ?_)
    · exact hk _ _ _ _ _ _ _ _ _ _ _ _ _ _ _ _ _ _ _ h
    · refine ds_canGo h (fun r_2 h => ?_)
      refine dc_eq h (fun h => ?_) (fun h => ?_)
      · exact ds_meetSteps_25 h hk (fun _ _ _ _ _ _ _ _ _ _ _ _ _ _ _ _ _ _ _ h => ih h)
      · refine ds_neighbour h (fun r_44 h => ?_)
        exact ds_meetSteps_25 h hk (fun _ _ _ _ _ _ _ _ _ _ _ _ _ _ _ _ _ _ _ h => ih h)
def db_meetSteps (kb : Int32 → db_K) (f0_first : Int32) (f0_second : Int32) (f0_kings : Int32) (f0_toMove : Int32) (f0_pastTop : Int32) (f0_pastSize : Int32) (f0_squareCount : Int32) (f0_taken : Int32) (f0_wanted : Int32) (f0_seen : Int32) (f0_most : Int32) (f0_beginnings : Int32) (a1 : List Int32) (a2 : List Int32) (a3 : List Int32) (a4 : List Int32) (a5 : List Int32) (a6 : List Int32) (p0 : Int32) : Bool := db_meetSteps_2 kb p0 6 0 f0_first f0_second f0_kings f0_toMove f0_pastTop f0_pastSize f0_squareCount f0_taken f0_wanted f0_seen f0_most f0_beginnings a1 a2 a3 a4 a5 a6
theorem ds_meetSteps {post : Int32 → St2 → Prop} {kb : Int32 → db_K} {f0_first : Int32} {f0_second : Int32} {f0_kings : Int32} {f0_toMove : Int32} {f0_pastTop : Int32} {f0_pastSize : Int32} {f0_squareCount : Int32} {f0_taken : Int32} {f0_wanted : Int32} {f0_seen : Int32} {f0_most : Int32} {f0_beginnings : Int32} {a1 : List Int32} {a2 : List Int32} {a3 : List Int32} {a4 : List Int32} {a5 : List Int32} {a6 : List Int32} {p0 : Int32} (h : db_meetSteps kb f0_first f0_second f0_kings f0_toMove f0_pastTop f0_pastSize f0_squareCount f0_taken f0_wanted f0_seen f0_most f0_beginnings a1 a2 a3 a4 a5 a6 p0 = true) (hk : ∀ r f0_first f0_second f0_kings f0_toMove f0_pastTop f0_pastSize f0_squareCount f0_taken f0_wanted f0_seen f0_most f0_beginnings a1 a2 a3 a4 a5 a6, kb r f0_first f0_second f0_kings f0_toMove f0_pastTop f0_pastSize f0_squareCount f0_taken f0_wanted f0_seen f0_most f0_beginnings a1 a2 a3 a4 a5 a6 = true → post r (f0_first, f0_second, f0_kings, f0_toMove, f0_pastTop, f0_pastSize, f0_squareCount, f0_taken, f0_wanted, f0_seen, f0_most, f0_beginnings, db_g a1, db_g a2, db_g a3, db_g a4, db_g a5, db_g a6)) : wpX_meetSteps post (f0_first, f0_second, f0_kings, f0_toMove, f0_pastTop, f0_pastSize, f0_squareCount, f0_taken, f0_wanted, f0_seen, f0_most, f0_beginnings, db_g a1, db_g a2, db_g a3, db_g a4, db_g a5, db_g a6) p0 := by
  unfold db_meetSteps at h
  unfold wpX_meetSteps
  refine ⟨6, ?_⟩
  exact ds_meetSteps_2 hk 6 h
def db_stops_27 (kb : Int32 → Bool) (z0 : Int32) (z1 : Int32) (f0_first : Int32) (f0_second : Int32) (f0_kings : Int32) (f0_toMove : Int32) (f0_pastTop : Int32) (f0_pastSize : Int32) (f0_squareCount : Int32) (f0_taken : Int32) (f0_wanted : Int32) (f0_seen : Int32) (f0_most : Int32) (f0_beginnings : Int32) (a1 : List Int32) (a2 : List Int32) (a3 : List Int32) (a4 : List Int32) (a5 : List Int32) (a6 : List Int32) : Bool := cond (db_eq (z1) (z0)) (kb 1) (kb 0)
theorem ds_stops_27 {post : Int32 → Prop} {kb : Int32 → Bool} {z0 : Int32} {z1 : Int32} {f0_first : Int32} {f0_second : Int32} {f0_kings : Int32} {f0_toMove : Int32} {f0_pastTop : Int32} {f0_pastSize : Int32} {f0_squareCount : Int32} {f0_taken : Int32} {f0_wanted : Int32} {f0_seen : Int32} {f0_most : Int32} {f0_beginnings : Int32} {a1 : List Int32} {a2 : List Int32} {a3 : List Int32} {a4 : List Int32} {a5 : List Int32} {a6 : List Int32} (h : db_stops_27 kb z0 z1 f0_first f0_second f0_kings f0_toMove f0_pastTop f0_pastSize f0_squareCount f0_taken f0_wanted f0_seen f0_most f0_beginnings a1 a2 a3 a4 a5 a6 = true) (hk : ∀ r, kb r = true → post r) : wX_stops_27 post z0 z1 f0_first f0_second f0_kings f0_toMove f0_pastTop f0_pastSize f0_squareCount f0_taken f0_wanted f0_seen f0_most f0_beginnings (db_g a1) (db_g a2) (db_g a3) (db_g a4) (db_g a5) (db_g a6) := by
  unfold db_stops_27 at h
  unfold wX_stops_27
  refine dc_eq h (fun h => ?_) (fun h => ?_)
  · exact hk _ h
  · exact hk _ h
def db_stops (kb : Int32 → Bool) (f0_first : Int32) (f0_second : Int32) (f0_kings : Int32) (f0_toMove : Int32) (f0_pastTop : Int32) (f0_pastSize : Int32) (f0_squareCount : Int32) (f0_taken : Int32) (f0_wanted : Int32) (f0_seen : Int32) (f0_most : Int32) (f0_beginnings : Int32) (a1 : List Int32) (a2 : List Int32) (a3 : List Int32) (a4 : List Int32) (a5 : List Int32) (a6 : List Int32) (p0 : Int32) (p1 : Int32) : Bool := db_in (fun r_1 => cond (db_eq (r_1) (0)) (cond (db_eq (f0_toMove) (0)) (db_z ((p1 >>> ((2 : Int32) &&& 31))) (fun t1 => db_stops_27 kb 7 t1 f0_first f0_second f0_kings f0_toMove f0_pastTop f0_pastSize f0_squareCount f0_taken f0_wanted f0_seen f0_most f0_beginnings a1 a2 a3 a4 a5 a6)) (db_z ((p1 >>> ((2 : Int32) &&& 31))) (fun t2 => db_stops_27 kb 0 t2 f0_first f0_second f0_kings f0_toMove f0_pastTop f0_pastSize f0_squareCount f0_taken f0_wanted f0_seen f0_most f0_beginnings a1 a2 a3 a4 a5 a6))) (kb 0)) f0_kings p0
theorem ds_stops {post : Int32 → Prop} {kb : Int32 → Bool} {f0_first : Int32} {f0_second : Int32} {f0_kings : Int32} {f0_toMove : Int32} {f0_pastTop : Int32} {f0_pastSize : Int32} {f0_squareCount : Int32} {f0_taken : Int32} {f0_wanted : Int32} {f0_seen : Int32} {f0_most : Int32} {f0_beginnings : Int32} {a1 : List Int32} {a2 : List Int32} {a3 : List Int32} {a4 : List Int32} {a5 : List Int32} {a6 : List Int32} {p0 : Int32} {p1 : Int32} (h : db_stops kb f0_first f0_second f0_kings f0_toMove f0_pastTop f0_pastSize f0_squareCount f0_taken f0_wanted f0_seen f0_most f0_beginnings a1 a2 a3 a4 a5 a6 p0 p1 = true) (hk : ∀ r, kb r = true → post r) : wpX_stops post (f0_first, f0_second, f0_kings, f0_toMove, f0_pastTop, f0_pastSize, f0_squareCount, f0_taken, f0_wanted, f0_seen, f0_most, f0_beginnings, db_g a1, db_g a2, db_g a3, db_g a4, db_g a5, db_g a6) p0 p1 := by
  unfold db_stops at h
  unfold wpX_stops
  refine ds_in h (fun r_1 h => ?_)
  refine dc_eq h (fun h => ?_) (fun h => ?_)
  · refine dc_eq h (fun h => ?_) (fun h => ?_)
    · have h := dz_ok h
      exact ds_stops_27 h hk
    · have h := dz_ok h
      exact ds_stops_27 h hk
  · exact hk _ h
def db_meetJumps_110 (kb : Int32 → db_K) (J23 : Int32 → Int32 → Int32 → Int32 → Int32 → Int32 → Int32 → Int32 → Int32 → Int32 → Int32 → Int32 → Int32 → Int32 → List Int32 → List Int32 → List Int32 → List Int32 → List Int32 → List Int32 → Bool) (x1 : Int32) (x2 : Int32) (x3 : Int32) (f0_first : Int32) (f0_second : Int32) (f0_kings : Int32) (f0_toMove : Int32) (f0_pastTop : Int32) (f0_pastSize : Int32) (f0_squareCount : Int32) (f0_taken : Int32) (f0_wanted : Int32) (f0_seen : Int32) (f0_most : Int32) (f0_beginnings : Int32) (a1 : List Int32) (a2 : List Int32) (a3 : List Int32) (a4 : List Int32) (a5 : List Int32) (a6 : List Int32) : Bool := db_z (x2 + (-1)) (fun x2_33 => cond (db_lt (x2_33) (0)) (db_z (x3 + 1) (fun x3_35 => J23 x2_33 x3_35 f0_first f0_second f0_kings f0_toMove f0_pastTop f0_pastSize f0_squareCount f0_taken f0_wanted f0_seen f0_most f0_beginnings a1 a2 a3 a4 a5 a6)) (cond (db_ck (x2_33) 12) (cond (db_ck (x2_33) 12) (db_z (((db_g a2) x2_33.toNatClampNeg)) (fun t1 => db_z ((((db_g a3) x2_33.toNatClampNeg) - 1)) (fun t2 => db_neighbour (fun r_38 => db_z (f0_taken &&& (((1 : Int32) <<< (r_38 &&& 31)) ^^^ (-1))) (fun f_39 => db_z (x3 + 1) (fun x3_40 => J23 x2_33 x3_40 f0_first f0_second f0_kings f0_toMove f0_pastTop f0_pastSize f0_squareCount f_39 f0_wanted f0_seen f0_most f0_beginnings a1 a2 a3 a4 a5 a6))) t1 t2))) false) false))
theorem ds_meetJumps_110 {post : Int32 → St2 → Prop} {kb : Int32 → db_K} {WJ23 : Int32 → Int32 → Int32 → Int32 → Int32 → Int32 → Int32 → Int32 → Int32 → Int32 → Int32 → Int32 → Int32 → Int32 → (Nat → Int32) → (Nat → Int32) → (Nat → Int32) → (Nat → Int32) → (Nat → Int32) → (Nat → Int32) → Prop} {J23 : Int32 → Int32 → Int32 → Int32 → Int32 → Int32 → Int32 → Int32 → Int32 → Int32 → Int32 → Int32 → Int32 → Int32 → List Int32 → List Int32 → List Int32 → List Int32 → List Int32 → List Int32 → Bool} {x1 : Int32} {x2 : Int32} {x3 : Int32} {f0_first : Int32} {f0_second : Int32} {f0_kings : Int32} {f0_toMove : Int32} {f0_pastTop : Int32} {f0_pastSize : Int32} {f0_squareCount : Int32} {f0_taken : Int32} {f0_wanted : Int32} {f0_seen : Int32} {f0_most : Int32} {f0_beginnings : Int32} {a1 : List Int32} {a2 : List Int32} {a3 : List Int32} {a4 : List Int32} {a5 : List Int32} {a6 : List Int32} (h : db_meetJumps_110 kb J23 x1 x2 x3 f0_first f0_second f0_kings f0_toMove f0_pastTop f0_pastSize f0_squareCount f0_taken f0_wanted f0_seen f0_most f0_beginnings a1 a2 a3 a4 a5 a6 = true) (hk : ∀ r f0_first f0_second f0_kings f0_toMove f0_pastTop f0_pastSize f0_squareCount f0_taken f0_wanted f0_seen f0_most f0_beginnings a1 a2 a3 a4 a5 a6, kb r f0_first f0_second f0_kings f0_toMove f0_pastTop f0_pastSize f0_squareCount f0_taken f0_wanted f0_seen f0_most f0_beginnings a1 a2 a3 a4 a5 a6 = true → post r (f0_first, f0_second, f0_kings, f0_toMove, f0_pastTop, f0_pastSize, f0_squareCount, f0_taken, f0_wanted, f0_seen, f0_most, f0_beginnings, db_g a1, db_g a2, db_g a3, db_g a4, db_g a5, db_g a6)) (hJ23 : ∀ v0 v1 v2 v3 v4 v5 v6 v7 v8 v9 v10 v11 v12 v13 v14 v15 v16 v17 v18 v19, J23 v0 v1 v2 v3 v4 v5 v6 v7 v8 v9 v10 v11 v12 v13 v14 v15 v16 v17 v18 v19 = true → WJ23 v0 v1 v2 v3 v4 v5 v6 v7 v8 v9 v10 v11 v12 v13 (db_g v14) (db_g v15) (db_g v16) (db_g v17) (db_g v18) (db_g v19)) : wX_meetJumps_110 post WJ23 x1 x2 x3 f0_first f0_second f0_kings f0_toMove f0_pastTop f0_pastSize f0_squareCount f0_taken f0_wanted f0_seen f0_most f0_beginnings (db_g a1) (db_g a2) (db_g a3) (db_g a4) (db_g a5) (db_g a6) := by
  unfold db_meetJumps_110 at h
  unfold wX_meetJumps_110
  refine dc_let h (fun x2_33 h => ?_)
  refine dc_lt h (fun h => ?_) (fun h => ?_)
  · refine dc_let h (fun x3_35 h => ?_)
    exact hJ23 _ _ _ _ _ _ _ _ _ _ _ _ _ _ _ _ _ _ _ _ h
  · refine dc_in h (by decide) (fun h => ?_)
    refine dc_in h (by decide) (fun h => ?_)
    have h := dz_ok h
    have h := dz_ok h
    refine ds_neighbour h (fun r_38 h => ?_)
    refine dc_let h (fun f_39 h => ?_)
    refine dc_let h (fun x3_40 h => ?_)
    exact hJ23 _ _ _ _ _ _ _ _ _ _ _ _ _ _ _ _ _ _ _ _ h
def db_meetJumps_74 (kb : Int32 → db_K) (J23 : Int32 → Int32 → Int32 → Int32 → Int32 → Int32 → Int32 → Int32 → Int32 → Int32 → Int32 → Int32 → Int32 → Int32 → List Int32 → List Int32 → List Int32 → List Int32 → List Int32 → List Int32 → Bool) (x1 : Int32) (x2 : Int32) (x3 : Int32) (x4 : Int32) (x5 : Int32) (z0 : Int32) (f0_first : Int32) (f0_second : Int32) (f0_kings : Int32) (f0_toMove : Int32) (f0_pastTop : Int32) (f0_pastSize : Int32) (f0_squareCount : Int32) (f0_taken : Int32) (f0_wanted : Int32) (f0_seen : Int32) (f0_most : Int32) (f0_beginnings : Int32) (a1 : List Int32) (a2 : List Int32) (a3 : List Int32) (a4 : List Int32) (a5 : List Int32) (a6 : List Int32) : Bool := cond (db_eq (z0) (0)) (cond (db_ck (x2) 12) (cond (db_ck (x2) 12) (db_up a3 (x2.toNatClampNeg) (((((db_g a3) x2.toNatClampNeg) + 1).toInt8.toInt32)) (fun a3_15 => db_jumpTo (fun r_16 => cond (db_lt (r_16) (0)) (db_z (x3 + 1) (fun x3_18 => J23 x2 x3_18 f0_first f0_second f0_kings f0_toMove f0_pastTop f0_pastSize f0_squareCount f0_taken f0_wanted f0_seen f0_most f0_beginnings a1 a2 a3_15 a4 a5 a6)) (cond (db_ck (x2) 12) (db_up a4 (x2.toNatClampNeg) (1) (fun a4_20 => db_neighbour (fun r_21 => db_z (f0_taken ||| ((1 : Int32) <<< (r_21 &&& 31))) (fun f_22 => db_z (x2 + 1) (fun x2_23 => cond (db_ck (x2_23) 12) (db_up a2 (x2_23.toNatClampNeg) (r_16.toInt8.toInt32) (fun a2_25 => cond (db_ck (x2_23) 12) (db_up a3_15 (x2_23.toNatClampNeg) (0) (fun a3_27 => cond (db_ck (x2_23) 12) (db_up a4_20 (x2_23.toNatClampNeg) (0) (fun a4_29 => db_z (x3 + 1) (fun x3_30 => J23 x2_23 x3_30 f0_first f0_second f0_kings f0_toMove f0_pastTop f0_pastSize f0_squareCount f_22 f0_wanted f0_seen f0_most f0_beginnings a1 a2_25 a3_27 a4_29 a5 a6))) false)) false)) false))) x4 x5)) false)) f0_first f0_second f0_kings f0_toMove x1 x4 x5 f0_taken)) false) false) (db_z (x2 + 1) (fun f_31 => cond (db_le (x2) (0)) (db_meetJumps_110 kb J23 x1 x2 x3 f0_first f0_second f0_kings f0_toMove f0_pastTop f0_pastSize f_31 f0_taken f0_wanted f0_seen f0_most f0_beginnings a1 a2 a3 a4 a5 a6) (cond (db_ck (x2) 12) (cond (db_eq (((db_g a4) x2.toNatClampNeg)) (0)) (db_meet (fun r_43 f0_first_44 f0_second_45 f0_kings_46 f0_toMove_47 f0_pastTop_48 f0_pastSize_49 f0_squareCount_50 f0_taken_51 f0_wanted_52 f0_seen_53 f0_most_54 f0_beginnings_55 am1021_58 am1022_61 am1023_64 am1024_67 am1025_70 am1026_73 => cond (db_eq (r_43) (0)) (db_meetJumps_110 kb J23 x1 x2 x3 f0_first_44 f0_second_45 f0_kings_46 f0_toMove_47 f0_pastTop_48 f0_pastSize_49 f0_squareCount_50 f0_taken_51 f0_wanted_52 f0_seen_53 f0_most_54 f0_beginnings_55 am1021_58 am1022_61 am1023_64 am1024_67 am1025_70 am1026_73) (kb 1 f0_first_44 f0_second_45 f0_kings_46 f0_toMove_47 f0_pastTop_48 f0_pastSize_49 f0_squareCount_50 f0_taken_51 f0_wanted_52 f0_seen_53 f0_most_54 f0_beginnings_55 am1021_58 am1022_61 am1023_64 am1024_67 am1025_70 am1026_73)) f0_first f0_second f0_kings f0_toMove f0_pastTop f0_pastSize f_31 f0_taken f0_wanted f0_seen f0_most f0_beginnings a1 a2 a3 a4 a5 a6) (db_meetJumps_110 kb J23 x1 x2 x3 f0_first f0_second f0_kings f0_toMove f0_pastTop f0_pastSize f_31 f0_taken f0_wanted f0_seen f0_most f0_beginnings a1 a2 a3 a4 a5 a6)) false)))
theorem ds_meetJumps_74 {post : Int32 → St2 → Prop} {kb : Int32 → db_K} {WJ23 : Int32 → Int32 → Int32 → Int32 → Int32 → Int32 → Int32 → Int32 → Int32 → Int32 → Int32 → Int32 → Int32 → Int32 → (Nat → Int32) → (Nat → Int32) → (Nat → Int32) → (Nat → Int32) → (Nat → Int32) → (Nat → Int32) → Prop} {J23 : Int32 → Int32 → Int32 → Int32 → Int32 → Int32 → Int32 → Int32 → Int32 → Int32 → Int32 → Int32 → Int32 → Int32 → List Int32 → List Int32 → List Int32 → List Int32 → List Int32 → List Int32 → Bool} {x1 : Int32} {x2 : Int32} {x3 : Int32} {x4 : Int32} {x5 : Int32} {z0 : Int32} {f0_first : Int32} {f0_second : Int32} {f0_kings : Int32} {f0_toMove : Int32} {f0_pastTop : Int32} {f0_pastSize : Int32} {f0_squareCount : Int32} {f0_taken : Int32} {f0_wanted : Int32} {f0_seen : Int32} {f0_most : Int32} {f0_beginnings : Int32} {a1 : List Int32} {a2 : List Int32} {a3 : List Int32} {a4 : List Int32} {a5 : List Int32} {a6 : List Int32} (h : db_meetJumps_74 kb J23 x1 x2 x3 x4 x5 z0 f0_first f0_second f0_kings f0_toMove f0_pastTop f0_pastSize f0_squareCount f0_taken f0_wanted f0_seen f0_most f0_beginnings a1 a2 a3 a4 a5 a6 = true) (hk : ∀ r f0_first f0_second f0_kings f0_toMove f0_pastTop f0_pastSize f0_squareCount f0_taken f0_wanted f0_seen f0_most f0_beginnings a1 a2 a3 a4 a5 a6, kb r f0_first f0_second f0_kings f0_toMove f0_pastTop f0_pastSize f0_squareCount f0_taken f0_wanted f0_seen f0_most f0_beginnings a1 a2 a3 a4 a5 a6 = true → post r (f0_first, f0_second, f0_kings, f0_toMove, f0_pastTop, f0_pastSize, f0_squareCount, f0_taken, f0_wanted, f0_seen, f0_most, f0_beginnings, db_g a1, db_g a2, db_g a3, db_g a4, db_g a5, db_g a6)) (hJ23 : ∀ v0 v1 v2 v3 v4 v5 v6 v7 v8 v9 v10 v11 v12 v13 v14 v15 v16 v17 v18 v19, J23 v0 v1 v2 v3 v4 v5 v6 v7 v8 v9 v10 v11 v12 v13 v14 v15 v16 v17 v18 v19 = true → WJ23 v0 v1 v2 v3 v4 v5 v6 v7 v8 v9 v10 v11 v12 v13 (db_g v14) (db_g v15) (db_g v16) (db_g v17) (db_g v18) (db_g v19)) : wX_meetJumps_74 post WJ23 x1 x2 x3 x4 x5 z0 f0_first f0_second f0_kings f0_toMove f0_pastTop f0_pastSize f0_squareCount f0_taken f0_wanted f0_seen f0_most f0_beginnings (db_g a1) (db_g a2) (db_g a3) (db_g a4) (db_g a5) (db_g a6) := by
  unfold db_meetJumps_74 at h
  unfold wX_meetJumps_74
  refine dc_eq h (fun h => ?_) (fun h => ?_)
  · refine dc_in h (by decide) (fun h => ?_)
    refine dc_in h (by decide) (fun h => ?_)
    refine dc_st h (fun a3_15 h => ?_)
    refine ds_jumpTo h (fun r_16 h => ?_)
    refine dc_lt h (fun h => ?_) (fun h => ?_)
    · refine dc_let h (fun x3_18 h => ?_)
      exact hJ23 _ _ _ _ _ _ _ _ _ _ _ _ _ _ _ _ _ _ _ _ h
    · refine dc_in h (by decide) (fun h => ?_)
      refine dc_st h (fun a4_20 h => ?_)
      refine ds_neighbour h (fun r_21 h => ?_)
      refine dc_let h (fun f_22 h => ?_)
      refine dc_let h (fun x2_23 h => ?_)
      refine dc_in h (by decide) (fun h => ?_)
      refine dc_st h (fun a2_25 h => ?_)
      refine dc_in h (by decide) (fun h => ?_)
      refine dc_st h (fun a3_27 h => ?_)
      refine dc_in h (by decide) (fun h => ?_)
      refine dc_st h (fun a4_29 h => ?_)
      refine dc_let h (fun x3_30 h => ?_)
      exact hJ23 _ _ _ _ _ _ _ _ _ _ _ _ _ _ _ _ _ _ _ _ h
  · refine dc_let h (fun f_31 h => ?_)
    refine dc_le h (fun h => ?_) (fun h => ?_)
    · exact ds_meetJumps_110 h hk hJ23
    · refine dc_in h (by decide) (fun h => ?_)
      refine dc_eq h (fun h => ?_) (fun h => ?_)
      · refine ds_meet h (fun r_43 f0_first_44 f0_second_45 f0_kings_46 f0_toMove_47 f0_pastTop_48 f0_pastSize_49 f0_squareCount_50 f0_taken_51 f0_wanted_52 f0_seen_53 f0_most_54 f0_beginnings_55 am1021_58 am1022_61 am1023_64 am1024_67 am1025_70 am1026_73 h => ?_)
        refine dc_eq h (fun h => ?_) (fun h => ?_)
        · exact ds_meetJumps_110 h hk hJ23
        · exact hk _ _ _ _ _ _ _ _ _ _ _ _ _ _ _ _ _ _ _ h
      · exact ds_meetJumps_110 h hk hJ23
def db_meetJumps_69 (kb : Int32 → db_K) (J23 : Int32 → Int32 → Int32 → Int32 → Int32 → Int32 → Int32 → Int32 → Int32 → Int32 → Int32 → Int32 → Int32 → Int32 → List Int32 → List Int32 → List Int32 → List Int32 → List Int32 → List Int32 → Bool) (x1 : Int32) (x2 : Int32) (x3 : Int32) (x4 : Int32) (x5 : Int32) (f0_first : Int32) (f0_second : Int32) (f0_kings : Int32) (f0_toMove : Int32) (f0_pastTop : Int32) (f0_pastSize : Int32) (f0_squareCount : Int32) (f0_taken : Int32) (f0_wanted : Int32) (f0_seen : Int32) (f0_most : Int32) (f0_beginnings : Int32) (a1 : List Int32) (a2 : List Int32) (a3 : List Int32) (a4 : List Int32) (a5 : List Int32) (a6 : List Int32) : Bool := db_meetJumps_74 kb J23 x1 x2 x3 x4 x5 1 f0_first f0_second f0_kings f0_toMove f0_pastTop f0_pastSize f0_squareCount f0_taken f0_wanted f0_seen f0_most f0_beginnings a1 a2 a3 a4 a5 a6
theorem ds_meetJumps_69 {post : Int32 → St2 → Prop} {kb : Int32 → db_K} {WJ23 : Int32 → Int32 → Int32 → Int32 → Int32 → Int32 → Int32 → Int32 → Int32 → Int32 → Int32 → Int32 → Int32 → Int32 → (Nat → Int32) → (Nat → Int32) → (Nat → Int32) → (Nat → Int32) → (Nat → Int32) → (Nat → Int32) → Prop} {J23 : Int32 → Int32 → Int32 → Int32 → Int32 → Int32 → Int32 → Int32 → Int32 → Int32 → Int32 → Int32 → Int32 → Int32 → List Int32 → List Int32 → List Int32 → List Int32 → List Int32 → List Int32 → Bool} {x1 : Int32} {x2 : Int32} {x3 : Int32} {x4 : Int32} {x5 : Int32} {f0_first : Int32} {f0_second : Int32} {f0_kings : Int32} {f0_toMove : Int32} {f0_pastTop : Int32} {f0_pastSize : Int32} {f0_squareCount : Int32} {f0_taken : Int32} {f0_wanted : Int32} {f0_seen : Int32} {f0_most : Int32} {f0_beginnings : Int32} {a1 : List Int32} {a2 : List Int32} {a3 : List Int32} {a4 : List Int32} {a5 : List Int32} {a6 : List Int32} (h : db_meetJumps_69 kb J23 x1 x2 x3 x4 x5 f0_first f0_second f0_kings f0_toMove f0_pastTop f0_pastSize f0_squareCount f0_taken f0_wanted f0_seen f0_most f0_beginnings a1 a2 a3 a4 a5 a6 = true) (hk : ∀ r f0_first f0_second f0_kings f0_toMove f0_pastTop f0_pastSize f0_squareCount f0_taken f0_wanted f0_seen f0_most f0_beginnings a1 a2 a3 a4 a5 a6, kb r f0_first f0_second f0_kings f0_toMove f0_pastTop f0_pastSize f0_squareCount f0_taken f0_wanted f0_seen f0_most f0_beginnings a1 a2 a3 a4 a5 a6 = true → post r (f0_first, f0_second, f0_kings, f0_toMove, f0_pastTop, f0_pastSize, f0_squareCount, f0_taken, f0_wanted, f0_seen, f0_most, f0_beginnings, db_g a1, db_g a2, db_g a3, db_g a4, db_g a5, db_g a6)) (hJ23 : ∀ v0 v1 v2 v3 v4 v5 v6 v7 v8 v9 v10 v11 v12 v13 v14 v15 v16 v17 v18 v19, J23 v0 v1 v2 v3 v4 v5 v6 v7 v8 v9 v10 v11 v12 v13 v14 v15 v16 v17 v18 v19 = true → WJ23 v0 v1 v2 v3 v4 v5 v6 v7 v8 v9 v10 v11 v12 v13 (db_g v14) (db_g v15) (db_g v16) (db_g v17) (db_g v18) (db_g v19)) : wX_meetJumps_69 post WJ23 x1 x2 x3 x4 x5 f0_first f0_second f0_kings f0_toMove f0_pastTop f0_pastSize f0_squareCount f0_taken f0_wanted f0_seen f0_most f0_beginnings (db_g a1) (db_g a2) (db_g a3) (db_g a4) (db_g a5) (db_g a6) := by
  unfold db_meetJumps_69 at h
  unfold wX_meetJumps_69
  exact ds_meetJumps_74 h hk hJ23
def db_meetJumps_73 (kb : Int32 → db_K) (J23 : Int32 → Int32 → Int32 → Int32 → Int32 → Int32 → Int32 → Int32 → Int32 → Int32 → Int32 → Int32 → Int32 → Int32 → List Int32 → List Int32 → List Int32 → List Int32 → List Int32 → List Int32 → Bool) (x1 : Int32) (x2 : Int32) (x3 : Int32) (x4 : Int32) (x5 : Int32) (f0_first : Int32) (f0_second : Int32) (f0_kings : Int32) (f0_toMove : Int32) (f0_pastTop : Int32) (f0_pastSize : Int32) (f0_squareCount : Int32) (f0_taken : Int32) (f0_wanted : Int32) (f0_seen : Int32) (f0_most : Int32) (f0_beginnings : Int32) (a1 : List Int32) (a2 : List Int32) (a3 : List Int32) (a4 : List Int32) (a5 : List Int32) (a6 : List Int32) : Bool := db_meetJumps_74 kb J23 x1 x2 x3 x4 x5 0 f0_first f0_second f0_kings f0_toMove f0_pastTop f0_pastSize f0_squareCount f0_taken f0_wanted f0_seen f0_most f0_beginnings a1 a2 a3 a4 a5 a6
theorem ds_meetJumps_73 {post : Int32 → St2 → Prop} {kb : Int32 → db_K} {WJ23 : Int32 → Int32 → Int32 → Int32 → Int32 → Int32 → Int32 → Int32 → Int32 → Int32 → Int32 → Int32 → Int32 → Int32 → (Nat → Int32) → (Nat → Int32) → (Nat → Int32) → (Nat → Int32) → (Nat → Int32) → (Nat → Int32) → Prop} {J23 : Int32 → Int32 → Int32 → Int32 → Int32 → Int32 → Int32 → Int32 → Int32 → Int32 → Int32 → Int32 → Int32 → Int32 → List Int32 → List Int32 → List Int32 → List Int32 → List Int32 → List Int32 → Bool} {x1 : Int32} {x2 : Int32} {x3 : Int32} {x4 : Int32} {x5 : Int32} {f0_first : Int32} {f0_second : Int32} {f0_kings : Int32} {f0_toMove : Int32} {f0_pastTop : Int32} {f0_pastSize : Int32} {f0_squareCount : Int32} {f0_taken : Int32} {f0_wanted : Int32} {f0_seen : Int32} {f0_most : Int32} {f0_beginnings : Int32} {a1 : List Int32} {a2 : List Int32} {a3 : List Int32} {a4 : List Int32} {a5 : List Int32} {a6 : List Int32} (h : db_meetJumps_73 kb J23 x1 x2 x3 x4 x5 f0_first f0_second f0_kings f0_toMove f0_pastTop f0_pastSize f0_squareCount f0_taken f0_wanted f0_seen f0_most f0_beginnings a1 a2 a3 a4 a5 a6 = true) (hk : ∀ r f0_first f0_second f0_kings f0_toMove f0_pastTop f0_pastSize f0_squareCount f0_taken f0_wanted f0_seen f0_most f0_beginnings a1 a2 a3 a4 a5 a6, kb r f0_first f0_second f0_kings f0_toMove f0_pastTop f0_pastSize f0_squareCount f0_taken f0_wanted f0_seen f0_most f0_beginnings a1 a2 a3 a4 a5 a6 = true → post r (f0_first, f0_second, f0_kings, f0_toMove, f0_pastTop, f0_pastSize, f0_squareCount, f0_taken, f0_wanted, f0_seen, f0_most, f0_beginnings, db_g a1, db_g a2, db_g a3, db_g a4, db_g a5, db_g a6)) (hJ23 : ∀ v0 v1 v2 v3 v4 v5 v6 v7 v8 v9 v10 v11 v12 v13 v14 v15 v16 v17 v18 v19, J23 v0 v1 v2 v3 v4 v5 v6 v7 v8 v9 v10 v11 v12 v13 v14 v15 v16 v17 v18 v19 = true → WJ23 v0 v1 v2 v3 v4 v5 v6 v7 v8 v9 v10 v11 v12 v13 (db_g v14) (db_g v15) (db_g v16) (db_g v17) (db_g v18) (db_g v19)) : wX_meetJumps_73 post WJ23 x1 x2 x3 x4 x5 f0_first f0_second f0_kings f0_toMove f0_pastTop f0_pastSize f0_squareCount f0_taken f0_wanted f0_seen f0_most f0_beginnings (db_g a1) (db_g a2) (db_g a3) (db_g a4) (db_g a5) (db_g a6) := by
  unfold db_meetJumps_73 at h
  unfold wX_meetJumps_73
  exact ds_meetJumps_74 h hk hJ23
def db_meetJumps_23 (kb : Int32 → db_K) (x1 : Int32) : Nat → Int32 → Int32 → Int32 → Int32 → Int32 → Int32 → Int32 → Int32 → Int32 → Int32 → Int32 → Int32 → Int32 → Int32 → List Int32 → List Int32 → List Int32 → List Int32 → List Int32 → List Int32 → Bool
  | 0 => fun _ _ _ _ _ _ _ _ _ _ _ _ _ _ _ _ _ _ _ _ => false
  | n + 1 => fun x2 x3 f0_first f0_second f0_kings f0_toMove f0_pastTop f0_pastSize f0_squareCount f0_taken f0_wanted f0_seen f0_most f0_beginnings a1 a2 a3 a4 a5 a6 => cond (db_le (1048576) (x3)) (kb 0 f0_first f0_second f0_kings f0_toMove f0_pastTop f0_pastSize f0_squareCount f0_taken f0_wanted f0_seen f0_most f0_beginnings a1 a2 a3 a4 a5 a6) (cond (db_lt (x2) (0)) (kb 0 f0_first f0_second f0_kings f0_toMove f0_pastTop f0_pastSize f0_squareCount f0_taken f0_wanted f0_seen f0_most f0_beginnings a1 a2 a3 a4 a5 a6) (cond (db_ck (x2) 12) (db_z ((db_g a2) x2.toNatClampNeg) (fun x4_8 => cond (db_ck (x2) 12) (db_z ((db_g a3) x2.toNatClampNeg) (fun x5_10 => cond (db_eq (x5_10) (4)) (db_meetJumps_69 kb (db_meetJumps_23 kb x1 n) x1 x2 x3 x4_8 x5_10 f0_first f0_second f0_kings f0_toMove f0_pastTop f0_pastSize f0_squareCount f0_taken f0_wanted f0_seen f0_most f0_beginnings a1 a2 a3 a4 a5 a6) (cond (db_le (x2) (0)) (db_meetJumps_73 kb (db_meetJumps_23 kb x1 n) x1 x2 x3 x4_8 x5_10 f0_first f0_second f0_kings f0_toMove f0_pastTop f0_pastSize f0_squareCount f0_taken f0_wanted f0_seen f0_most f0_beginnings a1 a2 a3 a4 a5 a6) (db_stops (fun r_76 => cond (db_eq (r_76) (0)) (db_meetJumps_73 kb (db_meetJumps_23 kb x1 n) x1 x2 x3 x4_8 x5_10 f0_first f0_second f0_kings f0_toMove f0_pastTop f0_pastSize f0_squareCount f0_taken f0_wanted f0_seen f0_most f0_beginnings a1 a2 a3 a4 a5 a6) (db_meetJumps_69 kb (db_meetJumps_23 kb x1 n) x1 x2 x3 x4_8 x5_10 f0_first f0_second f0_kings f0_toMove f0_pastTop f0_pastSize f0_squareCount f0_taken f0_wanted f0_seen f0_most f0_beginnings a1 a2 a3 a4 a5 a6)) f0_first f0_second f0_kings f0_toMove f0_pastTop f0_pastSize f0_squareCount f0_taken f0_wanted f0_seen f0_most f0_beginnings a1 a2 a3 a4 a5 a6 x1 x4_8)))) false)) false))
theorem ds_meetJumps_23 {post : Int32 → St2 → Prop} {kb : Int32 → db_K} {x1 : Int32} (hk : ∀ r f0_first f0_second f0_kings f0_toMove f0_pastTop f0_pastSize f0_squareCount f0_taken f0_wanted f0_seen f0_most f0_beginnings a1 a2 a3 a4 a5 a6, kb r f0_first f0_second f0_kings f0_toMove f0_pastTop f0_pastSize f0_squareCount f0_taken f0_wanted f0_seen f0_most f0_beginnings a1 a2 a3 a4 a5 a6 = true → post r (f0_first, f0_second, f0_kings, f0_toMove, f0_pastTop, f0_pastSize, f0_squareCount, f0_taken, f0_wanted, f0_seen, f0_most, f0_beginnings, db_g a1, db_g a2, db_g a3, db_g a4, db_g a5, db_g a6)) : ∀ (n : Nat) {x2 : Int32} {x3 : Int32} {f0_first : Int32} {f0_second : Int32} {f0_kings : Int32} {f0_toMove : Int32} {f0_pastTop : Int32} {f0_pastSize : Int32} {f0_squareCount : Int32} {f0_taken : Int32} {f0_wanted : Int32} {f0_seen : Int32} {f0_most : Int32} {f0_beginnings : Int32} {a1 : List Int32} {a2 : List Int32} {a3 : List Int32} {a4 : List Int32} {a5 : List Int32} {a6 : List Int32} (h : db_meetJumps_23 kb x1 n x2 x3 f0_first f0_second f0_kings f0_toMove f0_pastTop f0_pastSize f0_squareCount f0_taken f0_wanted f0_seen f0_most f0_beginnings a1 a2 a3 a4 a5 a6 = true), wX_meetJumps_23 post x1 n x2 x3 f0_first f0_second f0_kings f0_toMove f0_pastTop f0_pastSize f0_squareCount f0_taken f0_wanted f0_seen f0_most f0_beginnings (db_g a1) (db_g a2) (db_g a3) (db_g a4) (db_g a5) (db_g a6) := by
  intro n
  induction n with
  | zero => intro x2 x3 f0_first f0_second f0_kings f0_toMove f0_pastTop f0_pastSize f0_squareCount f0_taken f0_wanted f0_seen f0_most f0_beginnings a1 a2 a3 a4 a5 a6 h; exact absurd h Bool.false_ne_true
  | succ n ih =>
    intro x2 x3 f0_first f0_second f0_kings f0_toMove f0_pastTop f0_pastSize f0_squareCount f0_taken f0_wanted f0_seen f0_most f0_beginnings a1 a2 a3 a4 a5 a6 h
    unfold db_meetJumps_23 at h
    unfold wX_meetJumps_23
    refine dc_le h (fun h => ?_) (fun h => ?_)
    · exact hk _ _ _ _ _ _ _ _ _ _ _ _ _ _ _ _ _ _ _ h
    · refine dc_lt h (fun h => ?_) (fun h => ?_)
      · exact hk _ _ _ _ _ _ _ _ _ _ _ _ _ _ _ _ _ _ _ h
      · refine dc_in h (by decide) (fun h => ?_)
        refine dc_let h (fun x4_8 h => ?_)
        refine dc_in h (by decide) (fun h => ?_)
        refine dc_let h (fun x5_10 h => ?_)
        refine dc_eq h (fun h => ?_) (fun h => ?_)
        · exact ds_meetJumps_69 h hk (fun _ _ _ _ _ _ _ _ _ _ _ _ _ _ _ _ _ _ _ _ h => ih h)
        · refine dc_le h (fun h => ?_) (fun h => ?_)
          · exact ds_meetJumps_73 h hk (fun _ _ _ _ _ _ _ _ _ _ _ _ _ _ _ _ _ _ _ _ h => ih h)
          · refine ds_stops h (fun r_76 h => ?_)
            refine dc_eq h (fun h => ?_) (fun h => ?_)
            · exact ds_meetJumps_73 h hk (fun _ _ _ _ _ _ _ _ _ _ _ _ _ _ _ _ _ _ _ _ h => ih h)
            · exact ds_meetJumps_69 h hk (fun _ _ _ _ _ _ _ _ _ _ _ _ _ _ _ _ _ _ _ _ h => ih h)
def db_meetJumps (kb : Int32 → db_K) (f0_first : Int32) (f0_second : Int32) (f0_kings : Int32) (f0_toMove : Int32) (f0_pastTop : Int32) (f0_pastSize : Int32) (f0_squareCount : Int32) (f0_taken : Int32) (f0_wanted : Int32) (f0_seen : Int32) (f0_most : Int32) (f0_beginnings : Int32) (a1 : List Int32) (a2 : List Int32) (a3 : List Int32) (a4 : List Int32) (a5 : List Int32) (a6 : List Int32) (p0 : Int32) : Bool := db_up a3 (0) (0) (fun a3_2 => db_up a4 (0) (0) (fun a4_4 => db_meetJumps_23 kb p0 500 0 0 f0_first f0_second f0_kings f0_toMove f0_pastTop f0_pastSize f0_squareCount 0 f0_wanted f0_seen f0_most f0_beginnings a1 a2 a3_2 a4_4 a5 a6))
theorem ds_meetJumps {post : Int32 → St2 → Prop} {kb : Int32 → db_K} {f0_first : Int32} {f0_second : Int32} {f0_kings : Int32} {f0_toMove : Int32} {f0_pastTop : Int32} {f0_pastSize : Int32} {f0_squareCount : Int32} {f0_taken : Int32} {f0_wanted : Int32} {f0_seen : Int32} {f0_most : Int32} {f0_beginnings : Int32} {a1 : List Int32} {a2 : List Int32} {a3 : List Int32} {a4 : List Int32} {a5 : List Int32} {a6 : List Int32} {p0 : Int32} (h : db_meetJumps kb f0_first f0_second f0_kings f0_toMove f0_pastTop f0_pastSize f0_squareCount f0_taken f0_wanted f0_seen f0_most f0_beginnings a1 a2 a3 a4 a5 a6 p0 = true) (hk : ∀ r f0_first f0_second f0_kings f0_toMove f0_pastTop f0_pastSize f0_squareCount f0_taken f0_wanted f0_seen f0_most f0_beginnings a1 a2 a3 a4 a5 a6, kb r f0_first f0_second f0_kings f0_toMove f0_pastTop f0_pastSize f0_squareCount f0_taken f0_wanted f0_seen f0_most f0_beginnings a1 a2 a3 a4 a5 a6 = true → post r (f0_first, f0_second, f0_kings, f0_toMove, f0_pastTop, f0_pastSize, f0_squareCount, f0_taken, f0_wanted, f0_seen, f0_most, f0_beginnings, db_g a1, db_g a2, db_g a3, db_g a4, db_g a5, db_g a6)) : wpX_meetJumps post (f0_first, f0_second, f0_kings, f0_toMove, f0_pastTop, f0_pastSize, f0_squareCount, f0_taken, f0_wanted, f0_seen, f0_most, f0_beginnings, db_g a1, db_g a2, db_g a3, db_g a4, db_g a5, db_g a6) p0 := by
  unfold db_meetJumps at h
  unfold wpX_meetJumps
  refine dc_st h (fun a3_2 h => ?_)
  refine dc_st h (fun a4_4 h => ?_)
  refine ⟨500, ?_⟩
  exact ds_meetJumps_23 hk 500 h
def db_seek_77 (kb : Int32 → db_K) (J33 : Int32 → Int32 → Int32 → Int32 → Int32 → Int32 → Int32 → Int32 → Int32 → Int32 → Int32 → Int32 → Int32 → List Int32 → List Int32 → List Int32 → List Int32 → List Int32 → List Int32 → Bool) (x2 : Int32) (x3 : Int32) (x4 : Int32) (z0 : Int32) (f0_first : Int32) (f0_second : Int32) (f0_kings : Int32) (f0_toMove : Int32) (f0_pastTop : Int32) (f0_pastSize : Int32) (f0_squareCount : Int32) (f0_taken : Int32) (f0_wanted : Int32) (f0_seen : Int32) (f0_most : Int32) (f0_beginnings : Int32) (am741 : List Int32) (am742 : List Int32) (am743 : List Int32) (am744 : List Int32) (am745 : List Int32) (am746 : List Int32) : Bool := cond (db_eq (z0) (0)) (db_z (x4 + 1) (fun x4_42 => J33 x4_42 f0_first f0_second f0_kings f0_toMove f0_pastTop f0_pastSize f0_squareCount f0_taken f0_wanted f0_seen f0_most f0_beginnings am741 am742 am743 am744 am745 am746)) (kb 1 f0_first f0_second f0_kings f0_toMove f0_pastTop f0_pastSize f0_squareCount f0_taken f0_wanted f0_seen f0_most f0_beginnings am741 am742 am743 am744 am745 am746)
theorem ds_seek_77 {post : Int32 → St2 → Prop} {kb : Int32 → db_K} {WJ33 : Int32 → Int32 → Int32 → Int32 → Int32 → Int32 → Int32 → Int32 → Int32 → Int32 → Int32 → Int32 → Int32 → (Nat → Int32) → (Nat → Int32) → (Nat → Int32) → (Nat → Int32) → (Nat → Int32) → (Nat → Int32) → Prop} {J33 : Int32 → Int32 → Int32 → Int32 → Int32 → Int32 → Int32 → Int32 → Int32 → Int32 → Int32 → Int32 → Int32 → List Int32 → List Int32 → List Int32 → List Int32 → List Int32 → List Int32 → Bool} {x2 : Int32} {x3 : Int32} {x4 : Int32} {z0 : Int32} {f0_first : Int32} {f0_second : Int32} {f0_kings : Int32} {f0_toMove : Int32} {f0_pastTop : Int32} {f0_pastSize : Int32} {f0_squareCount : Int32} {f0_taken : Int32} {f0_wanted : Int32} {f0_seen : Int32} {f0_most : Int32} {f0_beginnings : Int32} {am741 : List Int32} {am742 : List Int32} {am743 : List Int32} {am744 : List Int32} {am745 : List Int32} {am746 : List Int32} (h : db_seek_77 kb J33 x2 x3 x4 z0 f0_first f0_second f0_kings f0_toMove f0_pastTop f0_pastSize f0_squareCount f0_taken f0_wanted f0_seen f0_most f0_beginnings am741 am742 am743 am744 am745 am746 = true) (hk : ∀ r f0_first f0_second f0_kings f0_toMove f0_pastTop f0_pastSize f0_squareCount f0_taken f0_wanted f0_seen f0_most f0_beginnings a1 a2 a3 a4 a5 a6, kb r f0_first f0_second f0_kings f0_toMove f0_pastTop f0_pastSize f0_squareCount f0_taken f0_wanted f0_seen f0_most f0_beginnings a1 a2 a3 a4 a5 a6 = true → post r (f0_first, f0_second, f0_kings, f0_toMove, f0_pastTop, f0_pastSize, f0_squareCount, f0_taken, f0_wanted, f0_seen, f0_most, f0_beginnings, db_g a1, db_g a2, db_g a3, db_g a4, db_g a5, db_g a6)) (hJ33 : ∀ v0 v1 v2 v3 v4 v5 v6 v7 v8 v9 v10 v11 v12 v13 v14 v15 v16 v17 v18, J33 v0 v1 v2 v3 v4 v5 v6 v7 v8 v9 v10 v11 v12 v13 v14 v15 v16 v17 v18 = true → WJ33 v0 v1 v2 v3 v4 v5 v6 v7 v8 v9 v10 v11 v12 (db_g v13) (db_g v14) (db_g v15) (db_g v16) (db_g v17) (db_g v18)) : wX_seek_77 post WJ33 x2 x3 x4 z0 f0_first f0_second f0_kings f0_toMove f0_pastTop f0_pastSize f0_squareCount f0_taken f0_wanted f0_seen f0_most f0_beginnings (db_g am741) (db_g am742) (db_g am743) (db_g am744) (db_g am745) (db_g am746) := by
  unfold db_seek_77 at h
  unfold wX_seek_77
  refine dc_eq h (fun h => ?_) (fun h => ?_)
  · refine dc_let h (fun x4_42 h => ?_)
    exact hJ33 _ _ _ _ _ _ _ _ _ _ _ _ _ _ _ _ _ _ _ h
  · exact hk _ _ _ _ _ _ _ _ _ _ _ _ _ _ _ _ _ _ _ h
def db_seek_33 (kb : Int32 → db_K) (x2 : Int32) (x3 : Int32) : Nat → Int32 → Int32 → Int32 → Int32 → Int32 → Int32 → Int32 → Int32 → Int32 → Int32 → Int32 → Int32 → Int32 → List Int32 → List Int32 → List Int32 → List Int32 → List Int32 → List Int32 → Bool
  | 0 => fun _ _ _ _ _ _ _ _ _ _ _ _ _ _ _ _ _ _ _ => false
  | n + 1 => fun x4 f0_first f0_second f0_kings f0_toMove f0_pastTop f0_pastSize f0_squareCount f0_taken f0_wanted f0_seen f0_most f0_beginnings a1 a2 a3 a4 a5 a6 => cond (db_le (32) (x4)) (kb 0 f0_first f0_second f0_kings f0_toMove f0_pastTop f0_pastSize f0_squareCount f0_taken f0_wanted f0_seen f0_most f0_beginnings a1 a2 a3 a4 a5 a6) (db_in (fun r_4 => cond (db_eq (r_4) (0)) (db_z (x4 + 1) (fun x4_6 => db_seek_33 kb x2 x3 n x4_6 f0_first f0_second f0_kings f0_toMove f0_pastTop f0_pastSize f0_squareCount f0_taken f0_wanted f0_seen f0_most f0_beginnings a1 a2 a3 a4 a5 a6)) (db_up a2 (0) (x4.toInt8.toInt32) (fun a2_8 => cond (db_eq (x2) (0)) (db_meetSteps (fun r_10 f0_first_11 f0_second_12 f0_kings_13 f0_toMove_14 f0_pastTop_15 f0_pastSize_16 f0_squareCount_17 f0_taken_18 f0_wanted_19 f0_seen_20 f0_most_21 f0_beginnings_22 am741_25 am742_28 am743_31 am744_34 am745_37 am746_40 => db_seek_77 kb (db_seek_33 kb x2 x3 n) x2 x3 x4 r_10 f0_first_11 f0_second_12 f0_kings_13 f0_toMove_14 f0_pastTop_15 f0_pastSize_16 f0_squareCount_17 f0_taken_18 f0_wanted_19 f0_seen_20 f0_most_21 f0_beginnings_22 am741_25 am742_28 am743_31 am744_34 am745_37 am746_40) f0_first f0_second f0_kings f0_toMove f0_pastTop f0_pastSize f0_squareCount f0_taken f0_wanted f0_seen f0_most f0_beginnings a1 a2_8 a3 a4 a5 a6 x4) (db_meetJumps (fun r_43 f0_first_44 f0_second_45 f0_kings_46 f0_toMove_47 f0_pastTop_48 f0_pastSize_49 f0_squareCount_50 f0_taken_51 f0_wanted_52 f0_seen_53 f0_most_54 f0_beginnings_55 am651_58 am652_61 am653_64 am654_67 am655_70 am656_73 => db_seek_77 kb (db_seek_33 kb x2 x3 n) x2 x3 x4 r_43 f0_first_44 f0_second_45 f0_kings_46 f0_toMove_47 f0_pastTop_48 f0_pastSize_49 f0_squareCount_50 f0_taken_51 f0_wanted_52 f0_seen_53 f0_most_54 f0_beginnings_55 am651_58 am652_61 am653_64 am654_67 am655_70 am656_73) f0_first f0_second f0_kings f0_toMove f0_pastTop f0_pastSize f0_squareCount f0_taken f0_wanted f0_seen f0_most f0_beginnings a1 a2_8 a3 a4 a5 a6 x4)))) x3 x4)
theorem ds_seek_33 {post : Int32 → St2 → Prop} {kb : Int32 → db_K} {x2 : Int32} {x3 : Int32} (hk : ∀ r f0_first f0_second f0_kings f0_toMove f0_pastTop f0_pastSize f0_squareCount f0_taken f0_wanted f0_seen f0_most f0_beginnings a1 a2 a3 a4 a5 a6, kb r f0_first f0_second f0_kings f0_toMove f0_pastTop f0_pastSize f0_squareCount f0_taken f0_wanted f0_seen f0_most f0_beginnings a1 a2 a3 a4 a5 a6 = true → post r (f0_first, f0_second, f0_kings, f0_toMove, f0_pastTop, f0_pastSize, f0_squareCount, f0_taken, f0_wanted, f0_seen, f0_most, f0_beginnings, db_g a1, db_g a2, db_g a3, db_g a4, db_g a5, db_g a6)) : ∀ (n : Nat) {x4 : Int32} {f0_first : Int32} {f0_second : Int32} {f0_kings : Int32} {f0_toMove : Int32} {f0_pastTop : Int32} {f0_pastSize : Int32} {f0_squareCount : Int32} {f0_taken : Int32} {f0_wanted : Int32} {f0_seen : Int32} {f0_most : Int32} {f0_beginnings : Int32} {a1 : List Int32} {a2 : List Int32} {a3 : List Int32} {a4 : List Int32} {a5 : List Int32} {a6 : List Int32} (h : db_seek_33 kb x2 x3 n x4 f0_first f0_second f0_kings f0_toMove f0_pastTop f0_pastSize f0_squareCount f0_taken f0_wanted f0_seen f0_most f0_beginnings a1 a2 a3 a4 a5 a6 = true), wX_seek_33 post x2 x3 n x4 f0_first f0_second f0_kings f0_toMove f0_pastTop f0_pastSize f0_squareCount f0_taken f0_wanted f0_seen f0_most f0_beginnings (db_g a1) (db_g a2) (db_g a3) (db_g a4) (db_g a5) (db_g a6) := by
  intro n
  induction n with
  | zero => intro x4 f0_first f0_second f0_kings f0_toMove f0_pastTop f0_pastSize f0_squareCount f0_taken f0_wanted f0_seen f0_most f0_beginnings a1 a2 a3 a4 a5 a6 h; exact absurd h Bool.false_ne_true
  | succ n ih =>
    intro x4 f0_first f0_second f0_kings f0_toMove f0_pastTop f0_pastSize f0_squareCount f0_taken f0_wanted f0_seen f0_most f0_beginnings a1 a2 a3 a4 a5 a6 h
    unfold db_seek_33 at h
    unfold wX_seek_33
    refine dc_le h (fun h => ?_) (fun h => ?_)
    · exact hk _ _ _ _ _ _ _ _ _ _ _ _ _ _ _ _ _ _ _ h
    · refine ds_in h (fun r_4 h => ?_)
      refine dc_eq h (fun h => ?_) (fun h => ?_)
      · refine dc_let h (fun x4_6 h => ?_)
        exact ih h
      · refine dc_st h (fun a2_8 h => ?_)
        refine dc_eq h (fun h => ?_) (fun h => ?_)
        · refine ds_meetSteps h (fun r_10 f0_first_11 f0_second_12 f0_kings_13 f0_toMove_14 f0_pastTop_15 f0_pastSize_16 f0_squareCount_17 f0_taken_18 f0_wanted_19 f0_seen_20 f0_most_21 f0_beginnings_22 am741_25 am742_28 am743_31 am744_34 am745_37 am746_40 h => ?_)
          exact ds_seek_77 h hk (fun _ _ _ _ _ _ _ _ _ _ _ _ _ _ _ _ _ _ _ h => ih h)
        · refine ds_meetJumps h (fun r_43 f0_first_44 f0_second_45 f0_kings_46 f0_toMove_47 f0_pastTop_48 f0_pastSize_49 f0_squareCount_50 f0_taken_51 f0_wanted_52 f0_seen_53 f0_most_54 f0_beginnings_55 am651_58 am652_61 am653_64 am654_67 am655_70 am656_73 h => ?_)
          exact ds_seek_77 h hk (fun _ _ _ _ _ _ _ _ _ _ _ _ _ _ _ _ _ _ _ h => ih h)
def db_seek (kb : Int32 → db_K) (f0_first : Int32) (f0_second : Int32) (f0_kings : Int32) (f0_toMove : Int32) (f0_pastTop : Int32) (f0_pastSize : Int32) (f0_squareCount : Int32) (f0_taken : Int32) (f0_wanted : Int32) (f0_seen : Int32) (f0_most : Int32) (f0_beginnings : Int32) (a1 : List Int32) (a2 : List Int32) (a3 : List Int32) (a4 : List Int32) (a5 : List Int32) (a6 : List Int32) (p0 : Int32) : Bool := db_mustJump (fun r_1 => db_own (fun r_2 => db_seek_33 kb r_1 r_2 40 0 f0_first f0_second f0_kings f0_toMove f0_pastTop f0_pastSize f0_squareCount f0_taken p0 0 0 0 a1 a2 a3 a4 a5 a6) f0_first f0_second f0_kings f0_toMove) f0_first f0_second f0_kings f0_toMove
theorem ds_seek {post : Int32 → St2 → Prop} {kb : Int32 → db_K} {f0_first : Int32} {f0_second : Int32} {f0_kings : Int32} {f0_toMove : Int32} {f0_pastTop : Int32} {f0_pastSize : Int32} {f0_squareCount : Int32} {f0_taken : Int32} {f0_wanted : Int32} {f0_seen : Int32} {f0_most : Int32} {f0_beginnings : Int32} {a1 : List Int32} {a2 : List Int32} {a3 : List Int32} {a4 : List Int32} {a5 : List Int32} {a6 : List Int32} {p0 : Int32} (h : db_seek kb f0_first f0_second f0_kings f0_toMove f0_pastTop f0_pastSize f0_squareCount f0_taken f0_wanted f0_seen f0_most f0_beginnings a1 a2 a3 a4 a5 a6 p0 = true) (hk : ∀ r f0_first f0_second f0_kings f0_toMove f0_pastTop f0_pastSize f0_squareCount f0_taken f0_wanted f0_seen f0_most f0_beginnings a1 a2 a3 a4 a5 a6, kb r f0_first f0_second f0_kings f0_toMove f0_pastTop f0_pastSize f0_squareCount f0_taken f0_wanted f0_seen f0_most f0_beginnings a1 a2 a3 a4 a5 a6 = true → post r (f0_first, f0_second, f0_kings, f0_toMove, f0_pastTop, f0_pastSize, f0_squareCount, f0_taken, f0_wanted, f0_seen, f0_most, f0_beginnings, db_g a1, db_g a2, db_g a3, db_g a4, db_g a5, db_g a6)) : wpX_seek post (f0_first, f0_second, f0_kings, f0_toMove, f0_pastTop, f0_pastSize, f0_squareCount, f0_taken, f0_wanted, f0_seen, f0_most, f0_beginnings, db_g a1, db_g a2, db_g a3, db_g a4, db_g a5, db_g a6) p0 := by
  unfold db_seek at h
  unfold wpX_seek
  refine ds_mustJump h (fun r_1 h => ?_)
  refine ds_own h (fun r_2 h => ?_)
  refine ⟨40, ?_⟩
  exact ds_seek_33 hk 40 h
end
section
def db_forget (kb : db_K) (f0_first : Int32) (f0_second : Int32) (f0_kings : Int32) (f0_toMove : Int32) (f0_pastTop : Int32) (f0_pastSize : Int32) (f0_squareCount : Int32) (f0_taken : Int32) (f0_wanted : Int32) (f0_seen : Int32) (f0_most : Int32) (f0_beginnings : Int32) (a1 : List Int32) (a2 : List Int32) (a3 : List Int32) (a4 : List Int32) (a5 : List Int32) (a6 : List Int32) : Bool := kb f0_first f0_second f0_kings f0_toMove f0_pastTop 0 f0_squareCount f0_taken f0_wanted f0_seen f0_most f0_beginnings a1 a2 a3 a4 a5 a6
theorem ds_forget {post : St2 → Prop} {kb : db_K} {f0_first : Int32} {f0_second : Int32} {f0_kings : Int32} {f0_toMove : Int32} {f0_pastTop : Int32} {f0_pastSize : Int32} {f0_squareCount : Int32} {f0_taken : Int32} {f0_wanted : Int32} {f0_seen : Int32} {f0_most : Int32} {f0_beginnings : Int32} {a1 : List Int32} {a2 : List Int32} {a3 : List Int32} {a4 : List Int32} {a5 : List Int32} {a6 : List Int32} (h : db_forget kb f0_first f0_second f0_kings f0_toMove f0_pastTop f0_pastSize f0_squareCount f0_taken f0_wanted f0_seen f0_most f0_beginnings a1 a2 a3 a4 a5 a6 = true) (hk : ∀ f0_first f0_second f0_kings f0_toMove f0_pastTop f0_pastSize f0_squareCount f0_taken f0_wanted f0_seen f0_most f0_beginnings a1 a2 a3 a4 a5 a6, kb f0_first f0_second f0_kings f0_toMove f0_pastTop f0_pastSize f0_squareCount f0_taken f0_wanted f0_seen f0_most f0_beginnings a1 a2 a3 a4 a5 a6 = true → post (f0_first, f0_second, f0_kings, f0_toMove, f0_pastTop, f0_pastSize, f0_squareCount, f0_taken, f0_wanted, f0_seen, f0_most, f0_beginnings, db_g a1, db_g a2, db_g a3, db_g a4, db_g a5, db_g a6)) : wpX_forget post (f0_first, f0_second, f0_kings, f0_toMove, f0_pastTop, f0_pastSize, f0_squareCount, f0_taken, f0_wanted, f0_seen, f0_most, f0_beginnings, db_g a1, db_g a2, db_g a3, db_g a4, db_g a5, db_g a6) := by
  unfold db_forget at h
  unfold wpX_forget
  exact hk _ _ _ _ _ _ _ _ _ _ _ _ _ _ _ _ _ _ h
def db_start (kb : db_K) (f0_first : Int32) (f0_second : Int32) (f0_kings : Int32) (f0_toMove : Int32) (f0_pastTop : Int32) (f0_pastSize : Int32) (f0_squareCount : Int32) (f0_taken : Int32) (f0_wanted : Int32) (f0_seen : Int32) (f0_most : Int32) (f0_beginnings : Int32) (a1 : List Int32) (a2 : List Int32) (a3 : List Int32) (a4 : List Int32) (a5 : List Int32) (a6 : List Int32) : Bool := db_forget (fun f0_first_2 f0_second_3 f0_kings_4 f0_toMove_5 f0_pastTop_6 f0_pastSize_7 f0_squareCount_8 f0_taken_9 f0_wanted_10 f0_seen_11 f0_most_12 f0_beginnings_13 am241_16 am242_19 am243_22 am244_25 am245_28 am246_31 => kb f0_first_2 f0_second_3 f0_kings_4 f0_toMove_5 f0_pastTop_6 f0_pastSize_7 f0_squareCount_8 f0_taken_9 f0_wanted_10 f0_seen_11 f0_most_12 f0_beginnings_13 am241_16 am242_19 am243_22 am244_25 am245_28 am246_31) 4095 (-1048576) 0 0 f0_pastTop f0_pastSize f0_squareCount f0_taken f0_wanted f0_seen f0_most f0_beginnings a1 a2 a3 a4 a5 a6
theorem ds_start {post : St2 → Prop} {kb : db_K} {f0_first : Int32} {f0_second : Int32} {f0_kings : Int32} {f0_toMove : Int32} {f0_pastTop : Int32} {f0_pastSize : Int32} {f0_squareCount : Int32} {f0_taken : Int32} {f0_wanted : Int32} {f0_seen : Int32} {f0_most : Int32} {f0_beginnings : Int32} {a1 : List Int32} {a2 : List Int32} {a3 : List Int32} {a4 : List Int32} {a5 : List Int32} {a6 : List Int32} (h : db_start kb f0_first f0_second f0_kings f0_toMove f0_pastTop f0_pastSize f0_squareCount f0_taken f0_wanted f0_seen f0_most f0_beginnings a1 a2 a3 a4 a5 a6 = true) (hk : ∀ f0_first f0_second f0_kings f0_toMove f0_pastTop f0_pastSize f0_squareCount f0_taken f0_wanted f0_seen f0_most f0_beginnings a1 a2 a3 a4 a5 a6, kb f0_first f0_second f0_kings f0_toMove f0_pastTop f0_pastSize f0_squareCount f0_taken f0_wanted f0_seen f0_most f0_beginnings a1 a2 a3 a4 a5 a6 = true → post (f0_first, f0_second, f0_kings, f0_toMove, f0_pastTop, f0_pastSize, f0_squareCount, f0_taken, f0_wanted, f0_seen, f0_most, f0_beginnings, db_g a1, db_g a2, db_g a3, db_g a4, db_g a5, db_g a6)) : wpX_start post (f0_first, f0_second, f0_kings, f0_toMove, f0_pastTop, f0_pastSize, f0_squareCount, f0_taken, f0_wanted, f0_seen, f0_most, f0_beginnings, db_g a1, db_g a2, db_g a3, db_g a4, db_g a5, db_g a6) := by
  unfold db_start at h
  unfold wpX_start
  refine ds_forget h (fun f0_first_2 f0_second_3 f0_kings_4 f0_toMove_5 f0_pastTop_6 f0_pastSize_7 f0_squareCount_8 f0_taken_9 f0_wanted_10 f0_seen_11 f0_most_12 f0_beginnings_13 am241_16 am242_19 am243_22 am244_25 am245_28 am246_31 h => ?_)
  exact hk _ _ _ _ _ _ _ _ _ _ _ _ _ _ _ _ _ _ h
def db_moves (kb : Int32 → db_K) (f0_first : Int32) (f0_second : Int32) (f0_kings : Int32) (f0_toMove : Int32) (f0_pastTop : Int32) (f0_pastSize : Int32) (f0_squareCount : Int32) (f0_taken : Int32) (f0_wanted : Int32) (f0_seen : Int32) (f0_most : Int32) (f0_beginnings : Int32) (a1 : List Int32) (a2 : List Int32) (a3 : List Int32) (a4 : List Int32) (a5 : List Int32) (a6 : List Int32) : Bool := db_seek (fun r_1 f0_first_2 f0_second_3 f0_kings_4 f0_toMove_5 f0_pastTop_6 f0_pastSize_7 f0_squareCount_8 f0_taken_9 f0_wanted_10 f0_seen_11 f0_most_12 f0_beginnings_13 am21_16 am22_19 am23_22 am24_25 am25_28 am26_31 => kb f0_seen_11 f0_first_2 f0_second_3 f0_kings_4 f0_toMove_5 f0_pastTop_6 f0_pastSize_7 f0_squareCount_8 f0_taken_9 f0_wanted_10 f0_seen_11 f0_most_12 f0_beginnings_13 am21_16 am22_19 am23_22 am24_25 am25_28 am26_31) f0_first f0_second f0_kings f0_toMove f0_pastTop f0_pastSize f0_squareCount f0_taken f0_wanted f0_seen f0_most f0_beginnings a1 a2 a3 a4 a5 a6 (-1)
theorem ds_moves {post : Int32 → St2 → Prop} {kb : Int32 → db_K} {f0_first : Int32} {f0_second : Int32} {f0_kings : Int32} {f0_toMove : Int32} {f0_pastTop : Int32} {f0_pastSize : Int32} {f0_squareCount : Int32} {f0_taken : Int32} {f0_wanted : Int32} {f0_seen : Int32} {f0_most : Int32} {f0_beginnings : Int32} {a1 : List Int32} {a2 : List Int32} {a3 : List Int32} {a4 : List Int32} {a5 : List Int32} {a6 : List Int32} (h : db_moves kb f0_first f0_second f0_kings f0_toMove f0_pastTop f0_pastSize f0_squareCount f0_taken f0_wanted f0_seen f0_most f0_beginnings a1 a2 a3 a4 a5 a6 = true) (hk : ∀ r f0_first f0_second f0_kings f0_toMove f0_pastTop f0_pastSize f0_squareCount f0_taken f0_wanted f0_seen f0_most f0_beginnings a1 a2 a3 a4 a5 a6, kb r f0_first f0_second f0_kings f0_toMove f0_pastTop f0_pastSize f0_squareCount f0_taken f0_wanted f0_seen f0_most f0_beginnings a1 a2 a3 a4 a5 a6 = true → post r (f0_first, f0_second, f0_kings, f0_toMove, f0_pastTop, f0_pastSize, f0_squareCount, f0_taken, f0_wanted, f0_seen, f0_most, f0_beginnings, db_g a1, db_g a2, db_g a3, db_g a4, db_g a5, db_g a6)) : wpX_moves post (f0_first, f0_second, f0_kings, f0_toMove, f0_pastTop, f0_pastSize, f0_squareCount, f0_taken, f0_wanted, f0_seen, f0_most, f0_beginnings, db_g a1, db_g a2, db_g a3, db_g a4, db_g a5, db_g a6) := by
  unfold db_moves at h
  unfold wpX_moves
  refine ds_seek h (fun r_1 f0_first_2 f0_second_3 f0_kings_4 f0_toMove_5 f0_pastTop_6 f0_pastSize_7 f0_squareCount_8 f0_taken_9 f0_wanted_10 f0_seen_11 f0_most_12 f0_beginnings_13 am21_16 am22_19 am23_22 am24_25 am25_28 am26_31 h => ?_)
  exact hk _ _ _ _ _ _ _ _ _ _ _ _ _ _ _ _ _ _ _ h
def db_path (kb : Int32 → db_K) (f0_first : Int32) (f0_second : Int32) (f0_kings : Int32) (f0_toMove : Int32) (f0_pastTop : Int32) (f0_pastSize : Int32) (f0_squareCount : Int32) (f0_taken : Int32) (f0_wanted : Int32) (f0_seen : Int32) (f0_most : Int32) (f0_beginnings : Int32) (a1 : List Int32) (a2 : List Int32) (a3 : List Int32) (a4 : List Int32) (a5 : List Int32) (a6 : List Int32) (p0 : Int32) (p1 : Int32) : Bool := cond (db_lt (p0) (0)) (kb (-1) f0_first f0_second f0_kings f0_toMove f0_pastTop f0_pastSize f0_squareCount f0_taken f0_wanted f0_seen f0_most f0_beginnings a1 a2 a3 a4 a5 a6) (db_seek (fun r_2 f0_first_3 f0_second_4 f0_kings_5 f0_toMove_6 f0_pastTop_7 f0_pastSize_8 f0_squareCount_9 f0_taken_10 f0_wanted_11 f0_seen_12 f0_most_13 f0_beginnings_14 am61_17 am62_20 am63_23 am64_26 am65_29 am66_32 => cond (db_eq (r_2) (0)) (kb (-1) f0_first_3 f0_second_4 f0_kings_5 f0_toMove_6 f0_pastTop_7 f0_pastSize_8 f0_squareCount_9 f0_taken_10 f0_wanted_11 f0_seen_12 f0_most_13 f0_beginnings_14 am61_17 am62_20 am63_23 am64_26 am65_29 am66_32) (cond (db_lt (p1) (0)) (kb (-1) f0_first_3 f0_second_4 f0_kings_5 f0_toMove_6 f0_pastTop_7 f0_pastSize_8 f0_squareCount_9 f0_taken_10 f0_wanted_11 f0_seen_12 f0_most_13 f0_beginnings_14 am61_17 am62_20 am63_23 am64_26 am65_29 am66_32) (cond (db_le (f0_squareCount_9) (p1)) (kb (-1) f0_first_3 f0_second_4 f0_kings_5 f0_toMove_6 f0_pastTop_7 f0_pastSize_8 f0_squareCount_9 f0_taken_10 f0_wanted_11 f0_seen_12 f0_most_13 f0_beginnings_14 am61_17 am62_20 am63_23 am64_26 am65_29 am66_32) (cond (db_ck (p1) 12) (db_z (((db_g am62_20) p1.toNatClampNeg)) (fun t1 => kb t1 f0_first_3 f0_second_4 f0_kings_5 f0_toMove_6 f0_pastTop_7 f0_pastSize_8 f0_squareCount_9 f0_taken_10 f0_wanted_11 f0_seen_12 f0_most_13 f0_beginnings_14 am61_17 am62_20 am63_23 am64_26 am65_29 am66_32)) false)))) f0_first f0_second f0_kings f0_toMove f0_pastTop f0_pastSize f0_squareCount f0_taken f0_wanted f0_seen f0_most f0_beginnings a1 a2 a3 a4 a5 a6 p0)
theorem ds_path {post : Int32 → St2 → Prop} {kb : Int32 → db_K} {f0_first : Int32} {f0_second : Int32} {f0_kings : Int32} {f0_toMove : Int32} {f0_pastTop : Int32} {f0_pastSize : Int32} {f0_squareCount : Int32} {f0_taken : Int32} {f0_wanted : Int32} {f0_seen : Int32} {f0_most : Int32} {f0_beginnings : Int32} {a1 : List Int32} {a2 : List Int32} {a3 : List Int32} {a4 : List Int32} {a5 : List Int32} {a6 : List Int32} {p0 : Int32} {p1 : Int32} (h : db_path kb f0_first f0_second f0_kings f0_toMove f0_pastTop f0_pastSize f0_squareCount f0_taken f0_wanted f0_seen f0_most f0_beginnings a1 a2 a3 a4 a5 a6 p0 p1 = true) (hk : ∀ r f0_first f0_second f0_kings f0_toMove f0_pastTop f0_pastSize f0_squareCount f0_taken f0_wanted f0_seen f0_most f0_beginnings a1 a2 a3 a4 a5 a6, kb r f0_first f0_second f0_kings f0_toMove f0_pastTop f0_pastSize f0_squareCount f0_taken f0_wanted f0_seen f0_most f0_beginnings a1 a2 a3 a4 a5 a6 = true → post r (f0_first, f0_second, f0_kings, f0_toMove, f0_pastTop, f0_pastSize, f0_squareCount, f0_taken, f0_wanted, f0_seen, f0_most, f0_beginnings, db_g a1, db_g a2, db_g a3, db_g a4, db_g a5, db_g a6)) : wpX_path post (f0_first, f0_second, f0_kings, f0_toMove, f0_pastTop, f0_pastSize, f0_squareCount, f0_taken, f0_wanted, f0_seen, f0_most, f0_beginnings, db_g a1, db_g a2, db_g a3, db_g a4, db_g a5, db_g a6) p0 p1 := by
  unfold db_path at h
  unfold wpX_path
  refine dc_lt h (fun h => ?_) (fun h => ?_)
  · exact hk _ _ _ _ _ _ _ _ _ _ _ _ _ _ _ _ _ _ _ h
  · refine ds_seek h (fun r_2 f0_first_3 f0_second_4 f0_kings_5 f0_toMove_6 f0_pastTop_7 f0_pastSize_8 f0_squareCount_9 f0_taken_10 f0_wanted_11 f0_seen_12 f0_most_13 f0_beginnings_14 am61_17 am62_20 am63_23 am64_26 am65_29 am66_32 h => ?_)
    refine dc_eq h (fun h => ?_) (fun h => ?_)
    · exact hk _ _ _ _ _ _ _ _ _ _ _ _ _ _ _ _ _ _ _ h
    · refine dc_lt h (fun h => ?_) (fun h => ?_)
      · exact hk _ _ _ _ _ _ _ _ _ _ _ _ _ _ _ _ _ _ _ h
      · refine dc_le h (fun h => ?_) (fun h => ?_)
        · exact hk _ _ _ _ _ _ _ _ _ _ _ _ _ _ _ _ _ _ _ h
        · refine dc_in h (by decide) (fun h => ?_)
          have h := dz_ok h
          exact hk _ _ _ _ _ _ _ _ _ _ _ _ _ _ _ _ _ _ _ h
def db_remember (kb : db_K) (f0_first : Int32) (f0_second : Int32) (f0_kings : Int32) (f0_toMove : Int32) (f0_pastTop : Int32) (f0_pastSize : Int32) (f0_squareCount : Int32) (f0_taken : Int32) (f0_wanted : Int32) (f0_seen : Int32) (f0_most : Int32) (f0_beginnings : Int32) (a1 : List Int32) (a2 : List Int32) (a3 : List Int32) (a4 : List Int32) (a5 : List Int32) (a6 : List Int32) : Bool := cond (db_ck ((f0_pastTop * 4)) 80) (db_up a1 ((f0_pastTop * 4).toNatClampNeg) (f0_first) (fun a1_2 => cond (db_ck (((f0_pastTop * 4) + 1)) 80) (db_up a1_2 (((f0_pastTop * 4) + 1).toNatClampNeg) (f0_second) (fun a1_4 => cond (db_ck (((f0_pastTop * 4) + 2)) 80) (db_up a1_4 (((f0_pastTop * 4) + 2).toNatClampNeg) (f0_kings) (fun a1_6 => cond (db_ck (((f0_pastTop * 4) + 3)) 80) (db_up a1_6 (((f0_pastTop * 4) + 3).toNatClampNeg) (f0_toMove) (fun a1_8 => db_z ((f0_pastTop + 1) - (f0_pastTop + 1) / 20 * 20) (fun f_10 => cond (db_le (20) (f0_pastSize)) (kb f0_first f0_second f0_kings f0_toMove f_10 20 f0_squareCount f0_taken f0_wanted f0_seen f0_most f0_beginnings a1_8 a2 a3 a4 a5 a6) (db_z (f0_pastSize + 1) (fun f_12 => kb f0_first f0_second f0_kings f0_toMove f_10 f_12 f0_squareCount f0_taken f0_wanted f0_seen f0_most f0_beginnings a1_8 a2 a3 a4 a5 a6))))) false)) false)) false)) false
theorem ds_remember {post : St2 → Prop} {kb : db_K} {f0_first : Int32} {f0_second : Int32} {f0_kings : Int32} {f0_toMove : Int32} {f0_pastTop : Int32} {f0_pastSize : Int32} {f0_squareCount : Int32} {f0_taken : Int32} {f0_wanted : Int32} {f0_seen : Int32} {f0_most : Int32} {f0_beginnings : Int32} {a1 : List Int32} {a2 : List Int32} {a3 : List Int32} {a4 : List Int32} {a5 : List Int32} {a6 : List Int32} (h : db_remember kb f0_first f0_second f0_kings f0_toMove f0_pastTop f0_pastSize f0_squareCount f0_taken f0_wanted f0_seen f0_most f0_beginnings a1 a2 a3 a4 a5 a6 = true) (hk : ∀ f0_first f0_second f0_kings f0_toMove f0_pastTop f0_pastSize f0_squareCount f0_taken f0_wanted f0_seen f0_most f0_beginnings a1 a2 a3 a4 a5 a6, kb f0_first f0_second f0_kings f0_toMove f0_pastTop f0_pastSize f0_squareCount f0_taken f0_wanted f0_seen f0_most f0_beginnings a1 a2 a3 a4 a5 a6 = true → post (f0_first, f0_second, f0_kings, f0_toMove, f0_pastTop, f0_pastSize, f0_squareCount, f0_taken, f0_wanted, f0_seen, f0_most, f0_beginnings, db_g a1, db_g a2, db_g a3, db_g a4, db_g a5, db_g a6)) : wpX_remember post (f0_first, f0_second, f0_kings, f0_toMove, f0_pastTop, f0_pastSize, f0_squareCount, f0_taken, f0_wanted, f0_seen, f0_most, f0_beginnings, db_g a1, db_g a2, db_g a3, db_g a4, db_g a5, db_g a6) := by
  unfold db_remember at h
  unfold wpX_remember
  refine dc_in h (by decide) (fun h => ?_)
  refine dc_st h (fun a1_2 h => ?_)
  refine dc_in h (by decide) (fun h => ?_)
  refine dc_st h (fun a1_4 h => ?_)
  refine dc_in h (by decide) (fun h => ?_)
  refine dc_st h (fun a1_6 h => ?_)
  refine dc_in h (by decide) (fun h => ?_)
  refine dc_st h (fun a1_8 h => ?_)
  refine ⟨by decide, ?_⟩
  refine dc_let h (fun f_10 h => ?_)
  refine dc_le h (fun h => ?_) (fun h => ?_)
  · exact hk _ _ _ _ _ _ _ _ _ _ _ _ _ _ _ _ _ _ h
  · refine dc_let h (fun f_12 h => ?_)
    exact hk _ _ _ _ _ _ _ _ _ _ _ _ _ _ _ _ _ _ h
def db_carry_173 (kb : Int32 → db_K) (z0 : Int32) (z1 : Int32) (f0_first : Int32) (f0_second : Int32) (f0_kings : Int32) (f0_toMove : Int32) (f0_pastTop : Int32) (f0_pastSize : Int32) (f0_squareCount : Int32) (f0_taken : Int32) (f0_wanted : Int32) (f0_seen : Int32) (f0_most : Int32) (f0_beginnings : Int32) (a1 : List Int32) (a2 : List Int32) (a3 : List Int32) (a4 : List Int32) (a5 : List Int32) (a6 : List Int32) : Bool := db_z (z1 ||| z0) (fun f_15 => db_z (1 - f0_toMove) (fun f_16 => db_ones (fun r_17 => kb r_17 f0_first f0_second f_15 f_16 f0_pastTop f0_pastSize f0_squareCount f0_taken f0_wanted f0_seen f0_most f0_beginnings a1 a2 a3 a4 a5 a6) f0_taken))
theorem ds_carry_173 {post : Int32 → St2 → Prop} {kb : Int32 → db_K} {z0 : Int32} {z1 : Int32} {f0_first : Int32} {f0_second : Int32} {f0_kings : Int32} {f0_toMove : Int32} {f0_pastTop : Int32} {f0_pastSize : Int32} {f0_squareCount : Int32} {f0_taken : Int32} {f0_wanted : Int32} {f0_seen : Int32} {f0_most : Int32} {f0_beginnings : Int32} {a1 : List Int32} {a2 : List Int32} {a3 : List Int32} {a4 : List Int32} {a5 : List Int32} {a6 : List Int32} (h : db_carry_173 kb z0 z1 f0_first f0_second f0_kings f0_toMove f0_pastTop f0_pastSize f0_squareCount f0_taken f0_wanted f0_seen f0_most f0_beginnings a1 a2 a3 a4 a5 a6 = true) (hk : ∀ r f0_first f0_second f0_kings f0_toMove f0_pastTop f0_pastSize f0_squareCount f0_taken f0_wanted f0_seen f0_most f0_beginnings a1 a2 a3 a4 a5 a6, kb r f0_first f0_second f0_kings f0_toMove f0_pastTop f0_pastSize f0_squareCount f0_taken f0_wanted f0_seen f0_most f0_beginnings a1 a2 a3 a4 a5 a6 = true → post r (f0_first, f0_second, f0_kings, f0_toMove, f0_pastTop, f0_pastSize, f0_squareCount, f0_taken, f0_wanted, f0_seen, f0_most, f0_beginnings, db_g a1, db_g a2, db_g a3, db_g a4, db_g a5, db_g a6)) : wX_carry_173 post z0 z1 f0_first f0_second f0_kings f0_toMove f0_pastTop f0_pastSize f0_squareCount f0_taken f0_wanted f0_seen f0_most f0_beginnings (db_g a1) (db_g a2) (db_g a3) (db_g a4) (db_g a5) (db_g a6) := by
  unfold db_carry_173 at h
  unfold wX_carry_173
  refine dc_let h (fun f_15 h => ?_)
  refine dc_let h (fun f_16 h => ?_)
  refine ds_ones h (fun r_17 h => ?_)
  exact hk _ _ _ _ _ _ _ _ _ _ _ _ _ _ _ _ _ _ _ h
def db_carry_154 (kb : Int32 → db_K) (x3 : Int32) (x4 : Int32) (z0 : Int32) (z1 : Int32) (f0_first : Int32) (f0_second : Int32) (f0_kings : Int32) (f0_toMove : Int32) (f0_pastTop : Int32) (f0_pastSize : Int32) (f0_squareCount : Int32) (f0_taken : Int32) (f0_wanted : Int32) (f0_seen : Int32) (f0_most : Int32) (f0_beginnings : Int32) (a1 : List Int32) (a2 : List Int32) (a3 : List Int32) (a4 : List Int32) (a5 : List Int32) (a6 : List Int32) : Bool := db_z (z1 ||| z0) (fun f_13 => cond (db_eq (x3) (0)) (db_carry_173 kb 0 f0_kings f0_first f_13 f0_kings f0_toMove f0_pastTop f0_pastSize f0_squareCount f0_taken f0_wanted f0_seen f0_most f0_beginnings a1 a2 a3 a4 a5 a6) (db_carry_173 kb x4 f0_kings f0_first f_13 f0_kings f0_toMove f0_pastTop f0_pastSize f0_squareCount f0_taken f0_wanted f0_seen f0_most f0_beginnings a1 a2 a3 a4 a5 a6))
theorem ds_carry_154 {post : Int32 → St2 → Prop} {kb : Int32 → db_K} {x3 : Int32} {x4 : Int32} {z0 : Int32} {z1 : Int32} {f0_first : Int32} {f0_second : Int32} {f0_kings : Int32} {f0_toMove : Int32} {f0_pastTop : Int32} {f0_pastSize : Int32} {f0_squareCount : Int32} {f0_taken : Int32} {f0_wanted : Int32} {f0_seen : Int32} {f0_most : Int32} {f0_beginnings : Int32} {a1 : List Int32} {a2 : List Int32} {a3 : List Int32} {a4 : List Int32} {a5 : List Int32} {a6 : List Int32} (h : db_carry_154 kb x3 x4 z0 z1 f0_first f0_second f0_kings f0_toMove f0_pastTop f0_pastSize f0_squareCount f0_taken f0_wanted f0_seen f0_most f0_beginnings a1 a2 a3 a4 a5 a6 = true) (hk : ∀ r f0_first f0_second f0_kings f0_toMove f0_pastTop f0_pastSize f0_squareCount f0_taken f0_wanted f0_seen f0_most f0_beginnings a1 a2 a3 a4 a5 a6, kb r f0_first f0_second f0_kings f0_toMove f0_pastTop f0_pastSize f0_squareCount f0_taken f0_wanted f0_seen f0_most f0_beginnings a1 a2 a3 a4 a5 a6 = true → post r (f0_first, f0_second, f0_kings, f0_toMove, f0_pastTop, f0_pastSize, f0_squareCount, f0_taken, f0_wanted, f0_seen, f0_most, f0_beginnings, db_g a1, db_g a2, db_g a3, db_g a4, db_g a5, db_g a6)) : wX_carry_154 post x3 x4 z0 z1 f0_first f0_second f0_kings f0_toMove f0_pastTop f0_pastSize f0_squareCount f0_taken f0_wanted f0_seen f0_most f0_beginnings (db_g a1) (db_g a2) (db_g a3) (db_g a4) (db_g a5) (db_g a6) := by
  unfold db_carry_154 at h
  unfold wX_carry_154
  refine dc_let h (fun f_13 h => ?_)
  refine dc_eq h (fun h => ?_) (fun h => ?_)
  · exact ds_carry_173 h hk
  · exact ds_carry_173 h hk
def db_carry_131 (kb : Int32 → db_K) (x3 : Int32) (x4 : Int32) (z0 : Int32) (z1 : Int32) (f0_first : Int32) (f0_second : Int32) (f0_kings : Int32) (f0_toMove : Int32) (f0_pastTop : Int32) (f0_pastSize : Int32) (f0_squareCount : Int32) (f0_taken : Int32) (f0_wanted : Int32) (f0_seen : Int32) (f0_most : Int32) (f0_beginnings : Int32) (a1 : List Int32) (a2 : List Int32) (a3 : List Int32) (a4 : List Int32) (a5 : List Int32) (a6 : List Int32) : Bool := db_z (z1 ||| z0) (fun f_11 => cond (db_eq (f0_toMove) (1)) (db_carry_154 kb x3 x4 x4 f0_second f_11 f0_second f0_kings f0_toMove f0_pastTop f0_pastSize f0_squareCount f0_taken f0_wanted f0_seen f0_most f0_beginnings a1 a2 a3 a4 a5 a6) (db_carry_154 kb x3 x4 0 f0_second f_11 f0_second f0_kings f0_toMove f0_pastTop f0_pastSize f0_squareCount f0_taken f0_wanted f0_seen f0_most f0_beginnings a1 a2 a3 a4 a5 a6))
theorem ds_carry_131 {post : Int32 → St2 → Prop} {kb : Int32 → db_K} {x3 : Int32} {x4 : Int32} {z0 : Int32} {z1 : Int32} {f0_first : Int32} {f0_second : Int32} {f0_kings : Int32} {f0_toMove : Int32} {f0_pastTop : Int32} {f0_pastSize : Int32} {f0_squareCount : Int32} {f0_taken : Int32} {f0_wanted : Int32} {f0_seen : Int32} {f0_most : Int32} {f0_beginnings : Int32} {a1 : List Int32} {a2 : List Int32} {a3 : List Int32} {a4 : List Int32} {a5 : List Int32} {a6 : List Int32} (h : db_carry_131 kb x3 x4 z0 z1 f0_first f0_second f0_kings f0_toMove f0_pastTop f0_pastSize f0_squareCount f0_taken f0_wanted f0_seen f0_most f0_beginnings a1 a2 a3 a4 a5 a6 = true) (hk : ∀ r f0_first f0_second f0_kings f0_toMove f0_pastTop f0_pastSize f0_squareCount f0_taken f0_wanted f0_seen f0_most f0_beginnings a1 a2 a3 a4 a5 a6, kb r f0_first f0_second f0_kings f0_toMove f0_pastTop f0_pastSize f0_squareCount f0_taken f0_wanted f0_seen f0_most f0_beginnings a1 a2 a3 a4 a5 a6 = true → post r (f0_first, f0_second, f0_kings, f0_toMove, f0_pastTop, f0_pastSize, f0_squareCount, f0_taken, f0_wanted, f0_seen, f0_most, f0_beginnings, db_g a1, db_g a2, db_g a3, db_g a4, db_g a5, db_g a6)) : wX_carry_131 post x3 x4 z0 z1 f0_first f0_second f0_kings f0_toMove f0_pastTop f0_pastSize f0_squareCount f0_taken f0_wanted f0_seen f0_most f0_beginnings (db_g a1) (db_g a2) (db_g a3) (db_g a4) (db_g a5) (db_g a6) := by
  unfold db_carry_131 at h
  unfold wX_carry_131
  refine dc_let h (fun f_11 h => ?_)
  refine dc_eq h (fun h => ?_) (fun h => ?_)
  · exact ds_carry_154 h hk
  · exact ds_carry_154 h hk
def db_carry_56 (kb : Int32 → db_K) (x1 : Int32) (x2 : Int32) (z0 : Int32) (f0_first : Int32) (f0_second : Int32) (f0_kings : Int32) (f0_toMove : Int32) (f0_pastTop : Int32) (f0_pastSize : Int32) (f0_squareCount : Int32) (f0_taken : Int32) (f0_wanted : Int32) (f0_seen : Int32) (f0_most : Int32) (f0_beginnings : Int32) (a1 : List Int32) (a2 : List Int32) (a3 : List Int32) (a4 : List Int32) (a5 : List Int32) (a6 : List Int32) : Bool := db_z (f0_kings &&& ((f0_taken ||| x1) ^^^ (-1))) (fun f_6 => db_z (f0_first &&& ((f0_taken ||| x1) ^^^ (-1))) (fun f_7 => db_z (f0_second &&& ((f0_taken ||| x1) ^^^ (-1))) (fun f_8 => db_z ((1 : Int32) <<< (x2 &&& 31)) (fun x4_9 => cond (db_eq (f0_toMove) (0)) (db_carry_131 kb z0 x4_9 x4_9 f_7 f_7 f_8 f_6 f0_toMove f0_pastTop f0_pastSize f0_squareCount f0_taken f0_wanted f0_seen f0_most f0_beginnings a1 a2 a3 a4 a5 a6) (db_carry_131 kb z0 x4_9 0 f_7 f_7 f_8 f_6 f0_toMove f0_pastTop f0_pastSize f0_squareCount f0_taken f0_wanted f0_seen f0_most f0_beginnings a1 a2 a3 a4 a5 a6)))))
theorem ds_carry_56 {post : Int32 → St2 → Prop} {kb : Int32 → db_K} {x1 : Int32} {x2 : Int32} {z0 : Int32} {f0_first : Int32} {f0_second : Int32} {f0_kings : Int32} {f0_toMove : Int32} {f0_pastTop : Int32} {f0_pastSize : Int32} {f0_squareCount : Int32} {f0_taken : Int32} {f0_wanted : Int32} {f0_seen : Int32} {f0_most : Int32} {f0_beginnings : Int32} {a1 : List Int32} {a2 : List Int32} {a3 : List Int32} {a4 : List Int32} {a5 : List Int32} {a6 : List Int32} (h : db_carry_56 kb x1 x2 z0 f0_first f0_second f0_kings f0_toMove f0_pastTop f0_pastSize f0_squareCount f0_taken f0_wanted f0_seen f0_most f0_beginnings a1 a2 a3 a4 a5 a6 = true) (hk : ∀ r f0_first f0_second f0_kings f0_toMove f0_pastTop f0_pastSize f0_squareCount f0_taken f0_wanted f0_seen f0_most f0_beginnings a1 a2 a3 a4 a5 a6, kb r f0_first f0_second f0_kings f0_toMove f0_pastTop f0_pastSize f0_squareCount f0_taken f0_wanted f0_seen f0_most f0_beginnings a1 a2 a3 a4 a5 a6 = true → post r (f0_first, f0_second, f0_kings, f0_toMove, f0_pastTop, f0_pastSize, f0_squareCount, f0_taken, f0_wanted, f0_seen, f0_most, f0_beginnings, db_g a1, db_g a2, db_g a3, db_g a4, db_g a5, db_g a6)) : wX_carry_56 post x1 x2 z0 f0_first f0_second f0_kings f0_toMove f0_pastTop f0_pastSize f0_squareCount f0_taken f0_wanted f0_seen f0_most f0_beginnings (db_g a1) (db_g a2) (db_g a3) (db_g a4) (db_g a5) (db_g a6) := by
  unfold db_carry_56 at h
  unfold wX_carry_56
  refine dc_let h (fun f_6 h => ?_)
  refine dc_let h (fun f_7 h => ?_)
  refine dc_let h (fun f_8 h => ?_)
  refine dc_let h (fun x4_9 h => ?_)
  refine dc_eq h (fun h => ?_) (fun h => ?_)
  · exact ds_carry_131 h hk
  · exact ds_carry_131 h hk
def db_carry_51 (kb : Int32 → db_K) (x1 : Int32) (x2 : Int32) (f0_first : Int32) (f0_second : Int32) (f0_kings : Int32) (f0_toMove : Int32) (f0_pastTop : Int32) (f0_pastSize : Int32) (f0_squareCount : Int32) (f0_taken : Int32) (f0_wanted : Int32) (f0_seen : Int32) (f0_most : Int32) (f0_beginnings : Int32) (a1 : List Int32) (a2 : List Int32) (a3 : List Int32) (a4 : List Int32) (a5 : List Int32) (a6 : List Int32) : Bool := db_carry_56 kb x1 x2 1 f0_first f0_second f0_kings f0_toMove f0_pastTop f0_pastSize f0_squareCount f0_taken f0_wanted f0_seen f0_most f0_beginnings a1 a2 a3 a4 a5 a6
theorem ds_carry_51 {post : Int32 → St2 → Prop} {kb : Int32 → db_K} {x1 : Int32} {x2 : Int32} {f0_first : Int32} {f0_second : Int32} {f0_kings : Int32} {f0_toMove : Int32} {f0_pastTop : Int32} {f0_pastSize : Int32} {f0_squareCount : Int32} {f0_taken : Int32} {f0_wanted : Int32} {f0_seen : Int32} {f0_most : Int32} {f0_beginnings : Int32} {a1 : List Int32} {a2 : List Int32} {a3 : List Int32} {a4 : List Int32} {a5 : List Int32} {a6 : List Int32} (h : db_carry_51 kb x1 x2 f0_first f0_second f0_kings f0_toMove f0_pastTop f0_pastSize f0_squareCount f0_taken f0_wanted f0_seen f0_most f0_beginnings a1 a2 a3 a4 a5 a6 = true) (hk : ∀ r f0_first f0_second f0_kings f0_toMove f0_pastTop f0_pastSize f0_squareCount f0_taken f0_wanted f0_seen f0_most f0_beginnings a1 a2 a3 a4 a5 a6, kb r f0_first f0_second f0_kings f0_toMove f0_pastTop f0_pastSize f0_squareCount f0_taken f0_wanted f0_seen f0_most f0_beginnings a1 a2 a3 a4 a5 a6 = true → post r (f0_first, f0_second, f0_kings, f0_toMove, f0_pastTop, f0_pastSize, f0_squareCount, f0_taken, f0_wanted, f0_seen, f0_most, f0_beginnings, db_g a1, db_g a2, db_g a3, db_g a4, db_g a5, db_g a6)) : wX_carry_51 post x1 x2 f0_first f0_second f0_kings f0_toMove f0_pastTop f0_pastSize f0_squareCount f0_taken f0_wanted f0_seen f0_most f0_beginnings (db_g a1) (db_g a2) (db_g a3) (db_g a4) (db_g a5) (db_g a6) := by
  unfold db_carry_51 at h
  unfold wX_carry_51
  exact ds_carry_56 h hk
def db_carry (kb : Int32 → db_K) (f0_first : Int32) (f0_second : Int32) (f0_kings : Int32) (f0_toMove : Int32) (f0_pastTop : Int32) (f0_pastSize : Int32) (f0_squareCount : Int32) (f0_taken : Int32) (f0_wanted : Int32) (f0_seen : Int32) (f0_most : Int32) (f0_beginnings : Int32) (a1 : List Int32) (a2 : List Int32) (a3 : List Int32) (a4 : List Int32) (a5 : List Int32) (a6 : List Int32) : Bool := db_z ((1 : Int32) <<< (((db_g a2) 0) &&& 31)) (fun x1_1 => cond (db_ck ((f0_squareCount - 1)) 12) (db_z ((db_g a2) (f0_squareCount - 1).toNatClampNeg) (fun x2_3 => db_z (((db_g a2) 0)) (fun t1 => db_in (fun r_4 => cond (db_eq (r_4) (0)) (db_z (((db_g a2) 0)) (fun t2 => db_stops (fun r_18 => cond (db_eq (r_18) (0)) (db_carry_56 kb x1_1 x2_3 0 f0_first f0_second f0_kings f0_toMove f0_pastTop f0_pastSize f0_squareCount f0_taken f0_wanted f0_seen f0_most f0_beginnings a1 a2 a3 a4 a5 a6) (db_carry_51 kb x1_1 x2_3 f0_first f0_second f0_kings f0_toMove f0_pastTop f0_pastSize f0_squareCount f0_taken f0_wanted f0_seen f0_most f0_beginnings a1 a2 a3 a4 a5 a6)) f0_first f0_second f0_kings f0_toMove f0_pastTop f0_pastSize f0_squareCount f0_taken f0_wanted f0_seen f0_most f0_beginnings a1 a2 a3 a4 a5 a6 t2 x2_3)) (db_carry_51 kb x1_1 x2_3 f0_first f0_second f0_kings f0_toMove f0_pastTop f0_pastSize f0_squareCount f0_taken f0_wanted f0_seen f0_most f0_beginnings a1 a2 a3 a4 a5 a6)) f0_kings t1))) false)
theorem ds_carry {post : Int32 → St2 → Prop} {kb : Int32 → db_K} {f0_first : Int32} {f0_second : Int32} {f0_kings : Int32} {f0_toMove : Int32} {f0_pastTop : Int32} {f0_pastSize : Int32} {f0_squareCount : Int32} {f0_taken : Int32} {f0_wanted : Int32} {f0_seen : Int32} {f0_most : Int32} {f0_beginnings : Int32} {a1 : List Int32} {a2 : List Int32} {a3 : List Int32} {a4 : List Int32} {a5 : List Int32} {a6 : List Int32} (h : db_carry kb f0_first f0_second f0_kings f0_toMove f0_pastTop f0_pastSize f0_squareCount f0_taken f0_wanted f0_seen f0_most f0_beginnings a1 a2 a3 a4 a5 a6 = true) (hk : ∀ r f0_first f0_second f0_kings f0_toMove f0_pastTop f0_pastSize f0_squareCount f0_taken f0_wanted f0_seen f0_most f0_beginnings a1 a2 a3 a4 a5 a6, kb r f0_first f0_second f0_kings f0_toMove f0_pastTop f0_pastSize f0_squareCount f0_taken f0_wanted f0_seen f0_most f0_beginnings a1 a2 a3 a4 a5 a6 = true → post r (f0_first, f0_second, f0_kings, f0_toMove, f0_pastTop, f0_pastSize, f0_squareCount, f0_taken, f0_wanted, f0_seen, f0_most, f0_beginnings, db_g a1, db_g a2, db_g a3, db_g a4, db_g a5, db_g a6)) : wpX_carry post (f0_first, f0_second, f0_kings, f0_toMove, f0_pastTop, f0_pastSize, f0_squareCount, f0_taken, f0_wanted, f0_seen, f0_most, f0_beginnings, db_g a1, db_g a2, db_g a3, db_g a4, db_g a5, db_g a6) := by
  unfold db_carry at h
  unfold wpX_carry
  refine dc_let h (fun x1_1 h => ?_)
  refine dc_in h (by decide) (fun h => ?_)
  refine dc_let h (fun x2_3 h => ?_)
  have h := dz_ok h
  refine ds_in h (fun r_4 h => ?_)
  refine dc_eq h (fun h => ?_) (fun h => ?_)
  · have h := dz_ok h
    refine ds_stops h (fun r_18 h => ?_)
    refine dc_eq h (fun h => ?_) (fun h => ?_)
    · exact ds_carry_56 h hk
    · exact ds_carry_51 h hk
  · exact ds_carry_51 h hk
def db_play (kb : Int32 → db_K) (f0_first : Int32) (f0_second : Int32) (f0_kings : Int32) (f0_toMove : Int32) (f0_pastTop : Int32) (f0_pastSize : Int32) (f0_squareCount : Int32) (f0_taken : Int32) (f0_wanted : Int32) (f0_seen : Int32) (f0_most : Int32) (f0_beginnings : Int32) (a1 : List Int32) (a2 : List Int32) (a3 : List Int32) (a4 : List Int32) (a5 : List Int32) (a6 : List Int32) (p0 : Int32) : Bool := cond (db_lt (p0) (0)) (kb (-1) f0_first f0_second f0_kings f0_toMove f0_pastTop f0_pastSize f0_squareCount f0_taken f0_wanted f0_seen f0_most f0_beginnings a1 a2 a3 a4 a5 a6) (db_seek (fun r_2 f0_first_3 f0_second_4 f0_kings_5 f0_toMove_6 f0_pastTop_7 f0_pastSize_8 f0_squareCount_9 f0_taken_10 f0_wanted_11 f0_seen_12 f0_most_13 f0_beginnings_14 am61_17 am62_20 am63_23 am64_26 am65_29 am66_32 => cond (db_eq (r_2) (0)) (kb (-1) f0_first_3 f0_second_4 f0_kings_5 f0_toMove_6 f0_pastTop_7 f0_pastSize_8 f0_squareCount_9 f0_taken_10 f0_wanted_11 f0_seen_12 f0_most_13 f0_beginnings_14 am61_17 am62_20 am63_23 am64_26 am65_29 am66_32) (db_remember (fun f0_first_35 f0_second_36 f0_kings_37 f0_toMove_38 f0_pastTop_39 f0_pastSize_40 f0_squareCount_41 f0_taken_42 f0_wanted_43 f0_seen_44 f0_most_45 f0_beginnings_46 am151_49 am152_52 am153_55 am154_58 am155_61 am156_64 => db_carry (fun r_65 f0_first_66 f0_second_67 f0_kings_68 f0_toMove_69 f0_pastTop_70 f0_pastSize_71 f0_squareCount_72 f0_taken_73 f0_wanted_74 f0_seen_75 f0_most_76 f0_beginnings_77 am191_80 am192_83 am193_86 am194_89 am195_92 am196_95 => kb r_65 f0_first_66 f0_second_67 f0_kings_68 f0_toMove_69 f0_pastTop_70 f0_pastSize_71 f0_squareCount_72 f0_taken_73 f0_wanted_74 f0_seen_75 f0_most_76 f0_beginnings_77 am191_80 am192_83 am193_86 am194_89 am195_92 am196_95) f0_first_35 f0_second_36 f0_kings_37 f0_toMove_38 f0_pastTop_39 f0_pastSize_40 f0_squareCount_41 f0_taken_42 f0_wanted_43 f0_seen_44 f0_most_45 f0_beginnings_46 am151_49 am152_52 am153_55 am154_58 am155_61 am156_64) f0_first_3 f0_second_4 f0_kings_5 f0_toMove_6 f0_pastTop_7 f0_pastSize_8 f0_squareCount_9 f0_taken_10 f0_wanted_11 f0_seen_12 f0_most_13 f0_beginnings_14 am61_17 am62_20 am63_23 am64_26 am65_29 am66_32)) f0_first f0_second f0_kings f0_toMove f0_pastTop f0_pastSize f0_squareCount f0_taken f0_wanted f0_seen f0_most f0_beginnings a1 a2 a3 a4 a5 a6 p0)
theorem ds_play {post : Int32 → St2 → Prop} {kb : Int32 → db_K} {f0_first : Int32} {f0_second : Int32} {f0_kings : Int32} {f0_toMove : Int32} {f0_pastTop : Int32} {f0_pastSize : Int32} {f0_squareCount : Int32} {f0_taken : Int32} {f0_wanted : Int32} {f0_seen : Int32} {f0_most : Int32} {f0_beginnings : Int32} {a1 : List Int32} {a2 : List Int32} {a3 : List Int32} {a4 : List Int32} {a5 : List Int32} {a6 : List Int32} {p0 : Int32} (h : db_play kb f0_first f0_second f0_kings f0_toMove f0_pastTop f0_pastSize f0_squareCount f0_taken f0_wanted f0_seen f0_most f0_beginnings a1 a2 a3 a4 a5 a6 p0 = true) (hk : ∀ r f0_first f0_second f0_kings f0_toMove f0_pastTop f0_pastSize f0_squareCount f0_taken f0_wanted f0_seen f0_most f0_beginnings a1 a2 a3 a4 a5 a6, kb r f0_first f0_second f0_kings f0_toMove f0_pastTop f0_pastSize f0_squareCount f0_taken f0_wanted f0_seen f0_most f0_beginnings a1 a2 a3 a4 a5 a6 = true → post r (f0_first, f0_second, f0_kings, f0_toMove, f0_pastTop, f0_pastSize, f0_squareCount, f0_taken, f0_wanted, f0_seen, f0_most, f0_beginnings, db_g a1, db_g a2, db_g a3, db_g a4, db_g a5, db_g a6)) : wpX_play post (f0_first, f0_second, f0_kings, f0_toMove, f0_pastTop, f0_pastSize, f0_squareCount, f0_taken, f0_wanted, f0_seen, f0_most, f0_beginnings, db_g a1, db_g a2, db_g a3, db_g a4, db_g a5, db_g a6) p0 := by
  unfold db_play at h
  unfold wpX_play
  refine dc_lt h (fun h => ?_) (fun h => ?_)
  · exact hk _ _ _ _ _ _ _ _ _ _ _ _ _ _ _ _ _ _ _ h
  · refine ds_seek h (fun r_2 f0_first_3 f0_second_4 f0_kings_5 f0_toMove_6 f0_pastTop_7 f0_pastSize_8 f0_squareCount_9 f0_taken_10 f0_wanted_11 f0_seen_12 f0_most_13 f0_beginnings_14 am61_17 am62_20 am63_23 am64_26 am65_29 am66_32 h => ?_)
    refine dc_eq h (fun h => ?_) (fun h => ?_)
    · exact hk _ _ _ _ _ _ _ _ _ _ _ _ _ _ _ _ _ _ _ h
    · refine ds_remember h (fun f0_first_35 f0_second_36 f0_kings_37 f0_toMove_38 f0_pastTop_39 f0_pastSize_40 f0_squareCount_41 f0_taken_42 f0_wanted_43 f0_seen_44 f0_most_45 f0_beginnings_46 am151_49 am152_52 am153_55 am154_58 am155_61 am156_64 h => ?_)
      refine ds_carry h (fun r_65 f0_first_66 f0_second_67 f0_kings_68 f0_toMove_69 f0_pastTop_70 f0_pastSize_71 f0_squareCount_72 f0_taken_73 f0_wanted_74 f0_seen_75 f0_most_76 f0_beginnings_77 am191_80 am192_83 am193_86 am194_89 am195_92 am196_95 h => ?_)
      exact hk _ _ _ _ _ _ _ _ _ _ _ _ _ _ _ _ _ _ _ h
def db_isSquare (kb : Int32 → Bool) (p0 : Int32) : Bool := cond (db_lt (p0) (0)) (kb 0) (cond (db_le (32) (p0)) (kb 0) (kb 1))
theorem ds_isSquare {post : Int32 → Prop} {kb : Int32 → Bool} {p0 : Int32} (h : db_isSquare kb p0 = true) (hk : ∀ r, kb r = true → post r) : wpX_isSquare post () p0 := by
  unfold db_isSquare at h
  unfold wpX_isSquare
  refine dc_lt h (fun h => ?_) (fun h => ?_)
  · exact hk _ h
  · refine dc_le h (fun h => ?_) (fun h => ?_)
    · exact hk _ h
    · exact hk _ h
def db_place_145 (kb : Int32 → db_K) (z0 : Int32) (f0_first : Int32) (f0_second : Int32) (f0_kings : Int32) (f0_toMove : Int32) (f0_pastTop : Int32) (f0_pastSize : Int32) (f0_squareCount : Int32) (f0_taken : Int32) (f0_wanted : Int32) (f0_seen : Int32) (f0_most : Int32) (f0_beginnings : Int32) (a1 : List Int32) (a2 : List Int32) (a3 : List Int32) (a4 : List Int32) (a5 : List Int32) (a6 : List Int32) : Bool := db_forget (fun f0_first_13 f0_second_14 f0_kings_15 f0_toMove_16 f0_pastTop_17 f0_pastSize_18 f0_squareCount_19 f0_taken_20 f0_wanted_21 f0_seen_22 f0_most_23 f0_beginnings_24 am1491_27 am1492_30 am1493_33 am1494_36 am1495_39 am1496_42 => kb 1 f0_first_13 f0_second_14 f0_kings_15 f0_toMove_16 f0_pastTop_17 f0_pastSize_18 f0_squareCount_19 f0_taken_20 f0_wanted_21 f0_seen_22 f0_most_23 f0_beginnings_24 am1491_27 am1492_30 am1493_33 am1494_36 am1495_39 am1496_42) f0_first f0_second z0 f0_toMove f0_pastTop f0_pastSize f0_squareCount f0_taken f0_wanted f0_seen f0_most f0_beginnings a1 a2 a3 a4 a5 a6
theorem ds_place_145 {post : Int32 → St2 → Prop} {kb : Int32 → db_K} {z0 : Int32} {f0_first : Int32} {f0_second : Int32} {f0_kings : Int32} {f0_toMove : Int32} {f0_pastTop : Int32} {f0_pastSize : Int32} {f0_squareCount : Int32} {f0_taken : Int32} {f0_wanted : Int32} {f0_seen : Int32} {f0_most : Int32} {f0_beginnings : Int32} {a1 : List Int32} {a2 : List Int32} {a3 : List Int32} {a4 : List Int32} {a5 : List Int32} {a6 : List Int32} (h : db_place_145 kb z0 f0_first f0_second f0_kings f0_toMove f0_pastTop f0_pastSize f0_squareCount f0_taken f0_wanted f0_seen f0_most f0_beginnings a1 a2 a3 a4 a5 a6 = true) (hk : ∀ r f0_first f0_second f0_kings f0_toMove f0_pastTop f0_pastSize f0_squareCount f0_taken f0_wanted f0_seen f0_most f0_beginnings a1 a2 a3 a4 a5 a6, kb r f0_first f0_second f0_kings f0_toMove f0_pastTop f0_pastSize f0_squareCount f0_taken f0_wanted f0_seen f0_most f0_beginnings a1 a2 a3 a4 a5 a6 = true → post r (f0_first, f0_second, f0_kings, f0_toMove, f0_pastTop, f0_pastSize, f0_squareCount, f0_taken, f0_wanted, f0_seen, f0_most, f0_beginnings, db_g a1, db_g a2, db_g a3, db_g a4, db_g a5, db_g a6)) : wX_place_145 post z0 f0_first f0_second f0_kings f0_toMove f0_pastTop f0_pastSize f0_squareCount f0_taken f0_wanted f0_seen f0_most f0_beginnings (db_g a1) (db_g a2) (db_g a3) (db_g a4) (db_g a5) (db_g a6) := by
  unfold db_place_145 at h
  unfold wX_place_145
  refine ds_forget h (fun f0_first_13 f0_second_14 f0_kings_15 f0_toMove_16 f0_pastTop_17 f0_pastSize_18 f0_squareCount_19 f0_taken_20 f0_wanted_21 f0_seen_22 f0_most_23 f0_beginnings_24 am1491_27 am1492_30 am1493_33 am1494_36 am1495_39 am1496_42 h => ?_)
  exact hk _ _ _ _ _ _ _ _ _ _ _ _ _ _ _ _ _ _ _ h
def db_place_126 (kb : Int32 → db_K) (x4 : Int32) (f0_first : Int32) (f0_second : Int32) (f0_kings : Int32) (f0_toMove : Int32) (f0_pastTop : Int32) (f0_pastSize : Int32) (f0_squareCount : Int32) (f0_taken : Int32) (f0_wanted : Int32) (f0_seen : Int32) (f0_most : Int32) (f0_beginnings : Int32) (a1 : List Int32) (a2 : List Int32) (a3 : List Int32) (a4 : List Int32) (a5 : List Int32) (a6 : List Int32) : Bool := db_z ((f0_kings ||| x4)) (fun t1 => db_place_145 kb t1 f0_first f0_second f0_kings f0_toMove f0_pastTop f0_pastSize f0_squareCount f0_taken f0_wanted f0_seen f0_most f0_beginnings a1 a2 a3 a4 a5 a6)
theorem ds_place_126 {post : Int32 → St2 → Prop} {kb : Int32 → db_K} {x4 : Int32} {f0_first : Int32} {f0_second : Int32} {f0_kings : Int32} {f0_toMove : Int32} {f0_pastTop : Int32} {f0_pastSize : Int32} {f0_squareCount : Int32} {f0_taken : Int32} {f0_wanted : Int32} {f0_seen : Int32} {f0_most : Int32} {f0_beginnings : Int32} {a1 : List Int32} {a2 : List Int32} {a3 : List Int32} {a4 : List Int32} {a5 : List Int32} {a6 : List Int32} (h : db_place_126 kb x4 f0_first f0_second f0_kings f0_toMove f0_pastTop f0_pastSize f0_squareCount f0_taken f0_wanted f0_seen f0_most f0_beginnings a1 a2 a3 a4 a5 a6 = true) (hk : ∀ r f0_first f0_second f0_kings f0_toMove f0_pastTop f0_pastSize f0_squareCount f0_taken f0_wanted f0_seen f0_most f0_beginnings a1 a2 a3 a4 a5 a6, kb r f0_first f0_second f0_kings f0_toMove f0_pastTop f0_pastSize f0_squareCount f0_taken f0_wanted f0_seen f0_most f0_beginnings a1 a2 a3 a4 a5 a6 = true → post r (f0_first, f0_second, f0_kings, f0_toMove, f0_pastTop, f0_pastSize, f0_squareCount, f0_taken, f0_wanted, f0_seen, f0_most, f0_beginnings, db_g a1, db_g a2, db_g a3, db_g a4, db_g a5, db_g a6)) : wX_place_126 post x4 f0_first f0_second f0_kings f0_toMove f0_pastTop f0_pastSize f0_squareCount f0_taken f0_wanted f0_seen f0_most f0_beginnings (db_g a1) (db_g a2) (db_g a3) (db_g a4) (db_g a5) (db_g a6) := by
  unfold db_place_126 at h
  unfold wX_place_126
  have h := dz_ok h
  exact ds_place_145 h hk
def db_place_112 (kb : Int32 → db_K) (x2 : Int32) (x4 : Int32) (z0 : Int32) (f0_first : Int32) (f0_second : Int32) (f0_kings : Int32) (f0_toMove : Int32) (f0_pastTop : Int32) (f0_pastSize : Int32) (f0_squareCount : Int32) (f0_taken : Int32) (f0_wanted : Int32) (f0_seen : Int32) (f0_most : Int32) (f0_beginnings : Int32) (a1 : List Int32) (a2 : List Int32) (a3 : List Int32) (a4 : List Int32) (a5 : List Int32) (a6 : List Int32) : Bool := cond (db_eq (x2) (2)) (db_place_126 kb x4 f0_first z0 f0_kings f0_toMove f0_pastTop f0_pastSize f0_squareCount f0_taken f0_wanted f0_seen f0_most f0_beginnings a1 a2 a3 a4 a5 a6) (cond (db_eq (x2) (4)) (db_place_126 kb x4 f0_first z0 f0_kings f0_toMove f0_pastTop f0_pastSize f0_squareCount f0_taken f0_wanted f0_seen f0_most f0_beginnings a1 a2 a3 a4 a5 a6) (db_z ((f0_kings &&& (x4 ^^^ (-1)))) (fun t1 => db_place_145 kb t1 f0_first z0 f0_kings f0_toMove f0_pastTop f0_pastSize f0_squareCount f0_taken f0_wanted f0_seen f0_most f0_beginnings a1 a2 a3 a4 a5 a6)))
theorem ds_place_112 {post : Int32 → St2 → Prop} {kb : Int32 → db_K} {x2 : Int32} {x4 : Int32} {z0 : Int32} {f0_first : Int32} {f0_second : Int32} {f0_kings : Int32} {f0_toMove : Int32} {f0_pastTop : Int32} {f0_pastSize : Int32} {f0_squareCount : Int32} {f0_taken : Int32} {f0_wanted : Int32} {f0_seen : Int32} {f0_most : Int32} {f0_beginnings : Int32} {a1 : List Int32} {a2 : List Int32} {a3 : List Int32} {a4 : List Int32} {a5 : List Int32} {a6 : List Int32} (h : db_place_112 kb x2 x4 z0 f0_first f0_second f0_kings f0_toMove f0_pastTop f0_pastSize f0_squareCount f0_taken f0_wanted f0_seen f0_most f0_beginnings a1 a2 a3 a4 a5 a6 = true) (hk : ∀ r f0_first f0_second f0_kings f0_toMove f0_pastTop f0_pastSize f0_squareCount f0_taken f0_wanted f0_seen f0_most f0_beginnings a1 a2 a3 a4 a5 a6, kb r f0_first f0_second f0_kings f0_toMove f0_pastTop f0_pastSize f0_squareCount f0_taken f0_wanted f0_seen f0_most f0_beginnings a1 a2 a3 a4 a5 a6 = true → post r (f0_first, f0_second, f0_kings, f0_toMove, f0_pastTop, f0_pastSize, f0_squareCount, f0_taken, f0_wanted, f0_seen, f0_most, f0_beginnings, db_g a1, db_g a2, db_g a3, db_g a4, db_g a5, db_g a6)) : wX_place_112 post x2 x4 z0 f0_first f0_second f0_kings f0_toMove f0_pastTop f0_pastSize f0_squareCount f0_taken f0_wanted f0_seen f0_most f0_beginnings (db_g a1) (db_g a2) (db_g a3) (db_g a4) (db_g a5) (db_g a6) := by
  unfold db_place_112 at h
  unfold wX_place_112
  refine dc_eq h (fun h => ?_) (fun h => ?_)
  · exact ds_place_126 h hk
  · refine dc_eq h (fun h => ?_) (fun h => ?_)
    · exact ds_place_126 h hk
    · have h := dz_ok h
      exact ds_place_145 h hk
def db_place_93 (kb : Int32 → db_K) (x2 : Int32) (x4 : Int32) (f0_first : Int32) (f0_second : Int32) (f0_kings : Int32) (f0_toMove : Int32) (f0_pastTop : Int32) (f0_pastSize : Int32) (f0_squareCount : Int32) (f0_taken : Int32) (f0_wanted : Int32) (f0_seen : Int32) (f0_most : Int32) (f0_beginnings : Int32) (a1 : List Int32) (a2 : List Int32) (a3 : List Int32) (a4 : List Int32) (a5 : List Int32) (a6 : List Int32) : Bool := db_z ((f0_second ||| x4)) (fun t1 => db_place_112 kb x2 x4 t1 f0_first f0_second f0_kings f0_toMove f0_pastTop f0_pastSize f0_squareCount f0_taken f0_wanted f0_seen f0_most f0_beginnings a1 a2 a3 a4 a5 a6)
theorem ds_place_93 {post : Int32 → St2 → Prop} {kb : Int32 → db_K} {x2 : Int32} {x4 : Int32} {f0_first : Int32} {f0_second : Int32} {f0_kings : Int32} {f0_toMove : Int32} {f0_pastTop : Int32} {f0_pastSize : Int32} {f0_squareCount : Int32} {f0_taken : Int32} {f0_wanted : Int32} {f0_seen : Int32} {f0_most : Int32} {f0_beginnings : Int32} {a1 : List Int32} {a2 : List Int32} {a3 : List Int32} {a4 : List Int32} {a5 : List Int32} {a6 : List Int32} (h : db_place_93 kb x2 x4 f0_first f0_second f0_kings f0_toMove f0_pastTop f0_pastSize f0_squareCount f0_taken f0_wanted f0_seen f0_most f0_beginnings a1 a2 a3 a4 a5 a6 = true) (hk : ∀ r f0_first f0_second f0_kings f0_toMove f0_pastTop f0_pastSize f0_squareCount f0_taken f0_wanted f0_seen f0_most f0_beginnings a1 a2 a3 a4 a5 a6, kb r f0_first f0_second f0_kings f0_toMove f0_pastTop f0_pastSize f0_squareCount f0_taken f0_wanted f0_seen f0_most f0_beginnings a1 a2 a3 a4 a5 a6 = true → post r (f0_first, f0_second, f0_kings, f0_toMove, f0_pastTop, f0_pastSize, f0_squareCount, f0_taken, f0_wanted, f0_seen, f0_most, f0_beginnings, db_g a1, db_g a2, db_g a3, db_g a4, db_g a5, db_g a6)) : wX_place_93 post x2 x4 f0_first f0_second f0_kings f0_toMove f0_pastTop f0_pastSize f0_squareCount f0_taken f0_wanted f0_seen f0_most f0_beginnings (db_g a1) (db_g a2) (db_g a3) (db_g a4) (db_g a5) (db_g a6) := by
  unfold db_place_93 at h
  unfold wX_place_93
  have h := dz_ok h
  exact ds_place_112 h hk
def db_place_79 (kb : Int32 → db_K) (x2 : Int32) (x4 : Int32) (z0 : Int32) (f0_first : Int32) (f0_second : Int32) (f0_kings : Int32) (f0_toMove : Int32) (f0_pastTop : Int32) (f0_pastSize : Int32) (f0_squareCount : Int32) (f0_taken : Int32) (f0_wanted : Int32) (f0_seen : Int32) (f0_most : Int32) (f0_beginnings : Int32) (a1 : List Int32) (a2 : List Int32) (a3 : List Int32) (a4 : List Int32) (a5 : List Int32) (a6 : List Int32) : Bool := cond (db_eq (x2) (3)) (db_place_93 kb x2 x4 z0 f0_second f0_kings f0_toMove f0_pastTop f0_pastSize f0_squareCount f0_taken f0_wanted f0_seen f0_most f0_beginnings a1 a2 a3 a4 a5 a6) (cond (db_eq (x2) (4)) (db_place_93 kb x2 x4 z0 f0_second f0_kings f0_toMove f0_pastTop f0_pastSize f0_squareCount f0_taken f0_wanted f0_seen f0_most f0_beginnings a1 a2 a3 a4 a5 a6) (db_z ((f0_second &&& (x4 ^^^ (-1)))) (fun t1 => db_place_112 kb x2 x4 t1 z0 f0_second f0_kings f0_toMove f0_pastTop f0_pastSize f0_squareCount f0_taken f0_wanted f0_seen f0_most f0_beginnings a1 a2 a3 a4 a5 a6)))
theorem ds_place_79 {post : Int32 → St2 → Prop} {kb : Int32 → db_K} {x2 : Int32} {x4 : Int32} {z0 : Int32} {f0_first : Int32} {f0_second : Int32} {f0_kings : Int32} {f0_toMove : Int32} {f0_pastTop : Int32} {f0_pastSize : Int32} {f0_squareCount : Int32} {f0_taken : Int32} {f0_wanted : Int32} {f0_seen : Int32} {f0_most : Int32} {f0_beginnings : Int32} {a1 : List Int32} {a2 : List Int32} {a3 : List Int32} {a4 : List Int32} {a5 : List Int32} {a6 : List Int32} (h : db_place_79 kb x2 x4 z0 f0_first f0_second f0_kings f0_toMove f0_pastTop f0_pastSize f0_squareCount f0_taken f0_wanted f0_seen f0_most f0_beginnings a1 a2 a3 a4 a5 a6 = true) (hk : ∀ r f0_first f0_second f0_kings f0_toMove f0_pastTop f0_pastSize f0_squareCount f0_taken f0_wanted f0_seen f0_most f0_beginnings a1 a2 a3 a4 a5 a6, kb r f0_first f0_second f0_kings f0_toMove f0_pastTop f0_pastSize f0_squareCount f0_taken f0_wanted f0_seen f0_most f0_beginnings a1 a2 a3 a4 a5 a6 = true → post r (f0_first, f0_second, f0_kings, f0_toMove, f0_pastTop, f0_pastSize, f0_squareCount, f0_taken, f0_wanted, f0_seen, f0_most, f0_beginnings, db_g a1, db_g a2, db_g a3, db_g a4, db_g a5, db_g a6)) : wX_place_79 post x2 x4 z0 f0_first f0_second f0_kings f0_toMove f0_pastTop f0_pastSize f0_squareCount f0_taken f0_wanted f0_seen f0_most f0_beginnings (db_g a1) (db_g a2) (db_g a3) (db_g a4) (db_g a5) (db_g a6) := by
  unfold db_place_79 at h
  unfold wX_place_79
  refine dc_eq h (fun h => ?_) (fun h => ?_)
  · exact ds_place_93 h hk
  · refine dc_eq h (fun h => ?_) (fun h => ?_)
    · exact ds_place_93 h hk
    · have h := dz_ok h
      exact ds_place_112 h hk
def db_place_60 (kb : Int32 → db_K) (x2 : Int32) (x4 : Int32) (f0_first : Int32) (f0_second : Int32) (f0_kings : Int32) (f0_toMove : Int32) (f0_pastTop : Int32) (f0_pastSize : Int32) (f0_squareCount : Int32) (f0_taken : Int32) (f0_wanted : Int32) (f0_seen : Int32) (f0_most : Int32) (f0_beginnings : Int32) (a1 : List Int32) (a2 : List Int32) (a3 : List Int32) (a4 : List Int32) (a5 : List Int32) (a6 : List Int32) : Bool := db_z ((f0_first ||| x4)) (fun t1 => db_place_79 kb x2 x4 t1 f0_first f0_second f0_kings f0_toMove f0_pastTop f0_pastSize f0_squareCount f0_taken f0_wanted f0_seen f0_most f0_beginnings a1 a2 a3 a4 a5 a6)
theorem ds_place_60 {post : Int32 → St2 → Prop} {kb : Int32 → db_K} {x2 : Int32} {x4 : Int32} {f0_first : Int32} {f0_second : Int32} {f0_kings : Int32} {f0_toMove : Int32} {f0_pastTop : Int32} {f0_pastSize : Int32} {f0_squareCount : Int32} {f0_taken : Int32} {f0_wanted : Int32} {f0_seen : Int32} {f0_most : Int32} {f0_beginnings : Int32} {a1 : List Int32} {a2 : List Int32} {a3 : List Int32} {a4 : List Int32} {a5 : List Int32} {a6 : List Int32} (h : db_place_60 kb x2 x4 f0_first f0_second f0_kings f0_toMove f0_pastTop f0_pastSize f0_squareCount f0_taken f0_wanted f0_seen f0_most f0_beginnings a1 a2 a3 a4 a5 a6 = true) (hk : ∀ r f0_first f0_second f0_kings f0_toMove f0_pastTop f0_pastSize f0_squareCount f0_taken f0_wanted f0_seen f0_most f0_beginnings a1 a2 a3 a4 a5 a6, kb r f0_first f0_second f0_kings f0_toMove f0_pastTop f0_pastSize f0_squareCount f0_taken f0_wanted f0_seen f0_most f0_beginnings a1 a2 a3 a4 a5 a6 = true → post r (f0_first, f0_second, f0_kings, f0_toMove, f0_pastTop, f0_pastSize, f0_squareCount, f0_taken, f0_wanted, f0_seen, f0_most, f0_beginnings, db_g a1, db_g a2, db_g a3, db_g a4, db_g a5, db_g a6)) : wX_place_60 post x2 x4 f0_first f0_second f0_kings f0_toMove f0_pastTop f0_pastSize f0_squareCount f0_taken f0_wanted f0_seen f0_most f0_beginnings (db_g a1) (db_g a2) (db_g a3) (db_g a4) (db_g a5) (db_g a6) := by
  unfold db_place_60 at h
  unfold wX_place_60
  have h := dz_ok h
  exact ds_place_79 h hk
def db_place_44 (kb : Int32 → db_K) (x1 : Int32) (x2 : Int32) (f0_first : Int32) (f0_second : Int32) (f0_kings : Int32) (f0_toMove : Int32) (f0_pastTop : Int32) (f0_pastSize : Int32) (f0_squareCount : Int32) (f0_taken : Int32) (f0_wanted : Int32) (f0_seen : Int32) (f0_most : Int32) (f0_beginnings : Int32) (a1 : List Int32) (a2 : List Int32) (a3 : List Int32) (a4 : List Int32) (a5 : List Int32) (a6 : List Int32) : Bool := db_z ((1 : Int32) <<< (x1 &&& 31)) (fun x4_8 => cond (db_eq (x2) (1)) (db_place_60 kb x2 x4_8 f0_first f0_second f0_kings f0_toMove f0_pastTop f0_pastSize f0_squareCount f0_taken f0_wanted f0_seen f0_most f0_beginnings a1 a2 a3 a4 a5 a6) (cond (db_eq (x2) (2)) (db_place_60 kb x2 x4_8 f0_first f0_second f0_kings f0_toMove f0_pastTop f0_pastSize f0_squareCount f0_taken f0_wanted f0_seen f0_most f0_beginnings a1 a2 a3 a4 a5 a6) (db_z ((f0_first &&& (x4_8 ^^^ (-1)))) (fun t1 => db_place_79 kb x2 x4_8 t1 f0_first f0_second f0_kings f0_toMove f0_pastTop f0_pastSize f0_squareCount f0_taken f0_wanted f0_seen f0_most f0_beginnings a1 a2 a3 a4 a5 a6))))
theorem ds_place_44 {post : Int32 → St2 → Prop} {kb : Int32 → db_K} {x1 : Int32} {x2 : Int32} {f0_first : Int32} {f0_second : Int32} {f0_kings : Int32} {f0_toMove : Int32} {f0_pastTop : Int32} {f0_pastSize : Int32} {f0_squareCount : Int32} {f0_taken : Int32} {f0_wanted : Int32} {f0_seen : Int32} {f0_most : Int32} {f0_beginnings : Int32} {a1 : List Int32} {a2 : List Int32} {a3 : List Int32} {a4 : List Int32} {a5 : List Int32} {a6 : List Int32} (h : db_place_44 kb x1 x2 f0_first f0_second f0_kings f0_toMove f0_pastTop f0_pastSize f0_squareCount f0_taken f0_wanted f0_seen f0_most f0_beginnings a1 a2 a3 a4 a5 a6 = true) (hk : ∀ r f0_first f0_second f0_kings f0_toMove f0_pastTop f0_pastSize f0_squareCount f0_taken f0_wanted f0_seen f0_most f0_beginnings a1 a2 a3 a4 a5 a6, kb r f0_first f0_second f0_kings f0_toMove f0_pastTop f0_pastSize f0_squareCount f0_taken f0_wanted f0_seen f0_most f0_beginnings a1 a2 a3 a4 a5 a6 = true → post r (f0_first, f0_second, f0_kings, f0_toMove, f0_pastTop, f0_pastSize, f0_squareCount, f0_taken, f0_wanted, f0_seen, f0_most, f0_beginnings, db_g a1, db_g a2, db_g a3, db_g a4, db_g a5, db_g a6)) : wX_place_44 post x1 x2 f0_first f0_second f0_kings f0_toMove f0_pastTop f0_pastSize f0_squareCount f0_taken f0_wanted f0_seen f0_most f0_beginnings (db_g a1) (db_g a2) (db_g a3) (db_g a4) (db_g a5) (db_g a6) := by
  unfold db_place_44 at h
  unfold wX_place_44
  refine dc_let h (fun x4_8 h => ?_)
  refine dc_eq h (fun h => ?_) (fun h => ?_)
  · exact ds_place_60 h hk
  · refine dc_eq h (fun h => ?_) (fun h => ?_)
    · exact ds_place_60 h hk
    · have h := dz_ok h
      exact ds_place_79 h hk
def db_place_33 (kb : Int32 → db_K) (x1 : Int32) (x2 : Int32) (x3 : Int32) (f0_first : Int32) (f0_second : Int32) (f0_kings : Int32) (f0_toMove : Int32) (f0_pastTop : Int32) (f0_pastSize : Int32) (f0_squareCount : Int32) (f0_taken : Int32) (f0_wanted : Int32) (f0_seen : Int32) (f0_most : Int32) (f0_beginnings : Int32) (a1 : List Int32) (a2 : List Int32) (a3 : List Int32) (a4 : List Int32) (a5 : List Int32) (a6 : List Int32) : Bool := cond (db_eq (x2) (3)) (cond (db_eq (x3) (0)) (kb 0 f0_first f0_second f0_kings f0_toMove f0_pastTop f0_pastSize f0_squareCount f0_taken f0_wanted f0_seen f0_most f0_beginnings a1 a2 a3 a4 a5 a6) (db_place_44 kb x1 x2 f0_first f0_second f0_kings f0_toMove f0_pastTop f0_pastSize f0_squareCount f0_taken f0_wanted f0_seen f0_most f0_beginnings a1 a2 a3 a4 a5 a6)) (db_place_44 kb x1 x2 f0_first f0_second f0_kings f0_toMove f0_pastTop f0_pastSize f0_squareCount f0_taken f0_wanted f0_seen f0_most f0_beginnings a1 a2 a3 a4 a5 a6)
theorem ds_place_33 {post : Int32 → St2 → Prop} {kb : Int32 → db_K} {x1 : Int32} {x2 : Int32} {x3 : Int32} {f0_first : Int32} {f0_second : Int32} {f0_kings : Int32} {f0_toMove : Int32} {f0_pastTop : Int32} {f0_pastSize : Int32} {f0_squareCount : Int32} {f0_taken : Int32} {f0_wanted : Int32} {f0_seen : Int32} {f0_most : Int32} {f0_beginnings : Int32} {a1 : List Int32} {a2 : List Int32} {a3 : List Int32} {a4 : List Int32} {a5 : List Int32} {a6 : List Int32} (h : db_place_33 kb x1 x2 x3 f0_first f0_second f0_kings f0_toMove f0_pastTop f0_pastSize f0_squareCount f0_taken f0_wanted f0_seen f0_most f0_beginnings a1 a2 a3 a4 a5 a6 = true) (hk : ∀ r f0_first f0_second f0_kings f0_toMove f0_pastTop f0_pastSize f0_squareCount f0_taken f0_wanted f0_seen f0_most f0_beginnings a1 a2 a3 a4 a5 a6, kb r f0_first f0_second f0_kings f0_toMove f0_pastTop f0_pastSize f0_squareCount f0_taken f0_wanted f0_seen f0_most f0_beginnings a1 a2 a3 a4 a5 a6 = true → post r (f0_first, f0_second, f0_kings, f0_toMove, f0_pastTop, f0_pastSize, f0_squareCount, f0_taken, f0_wanted, f0_seen, f0_most, f0_beginnings, db_g a1, db_g a2, db_g a3, db_g a4, db_g a5, db_g a6)) : wX_place_33 post x1 x2 x3 f0_first f0_second f0_kings f0_toMove f0_pastTop f0_pastSize f0_squareCount f0_taken f0_wanted f0_seen f0_most f0_beginnings (db_g a1) (db_g a2) (db_g a3) (db_g a4) (db_g a5) (db_g a6) := by
  unfold db_place_33 at h
  unfold wX_place_33
  refine dc_eq h (fun h => ?_) (fun h => ?_)
  · refine dc_eq h (fun h => ?_) (fun h => ?_)
    · exact hk _ _ _ _ _ _ _ _ _ _ _ _ _ _ _ _ _ _ _ h
    · exact ds_place_44 h hk
  · exact ds_place_44 h hk
def db_place (kb : Int32 → db_K) (f0_first : Int32) (f0_second : Int32) (f0_kings : Int32) (f0_toMove : Int32) (f0_pastTop : Int32) (f0_pastSize : Int32) (f0_squareCount : Int32) (f0_taken : Int32) (f0_wanted : Int32) (f0_seen : Int32) (f0_most : Int32) (f0_beginnings : Int32) (a1 : List Int32) (a2 : List Int32) (a3 : List Int32) (a4 : List Int32) (a5 : List Int32) (a6 : List Int32) (p0 : Int32) (p1 : Int32) : Bool := db_isSquare (fun r_1 => cond (db_eq (r_1) (0)) (kb 0 f0_first f0_second f0_kings f0_toMove f0_pastTop f0_pastSize f0_squareCount f0_taken f0_wanted f0_seen f0_most f0_beginnings a1 a2 a3 a4 a5 a6) (cond (db_lt (p1) (0)) (kb 0 f0_first f0_second f0_kings f0_toMove f0_pastTop f0_pastSize f0_squareCount f0_taken f0_wanted f0_seen f0_most f0_beginnings a1 a2 a3 a4 a5 a6) (cond (db_le (p1) (4)) (db_z (p0 >>> ((2 : Int32) &&& 31)) (fun x3_5 => cond (db_eq (p1) (1)) (cond (db_eq (x3_5) (7)) (kb 0 f0_first f0_second f0_kings f0_toMove f0_pastTop f0_pastSize f0_squareCount f0_taken f0_wanted f0_seen f0_most f0_beginnings a1 a2 a3 a4 a5 a6) (db_place_33 kb p0 p1 x3_5 f0_first f0_second f0_kings f0_toMove f0_pastTop f0_pastSize f0_squareCount f0_taken f0_wanted f0_seen f0_most f0_beginnings a1 a2 a3 a4 a5 a6)) (db_place_33 kb p0 p1 x3_5 f0_first f0_second f0_kings f0_toMove f0_pastTop f0_pastSize f0_squareCount f0_taken f0_wanted f0_seen f0_most f0_beginnings a1 a2 a3 a4 a5 a6))) (kb 0 f0_first f0_second f0_kings f0_toMove f0_pastTop f0_pastSize f0_squareCount f0_taken f0_wanted f0_seen f0_most f0_beginnings a1 a2 a3 a4 a5 a6)))) p0
theorem ds_place {post : Int32 → St2 → Prop} {kb : Int32 → db_K} {f0_first : Int32} {f0_second : Int32} {f0_kings : Int32} {f0_toMove : Int32} {f0_pastTop : Int32} {f0_pastSize : Int32} {f0_squareCount : Int32} {f0_taken : Int32} {f0_wanted : Int32} {f0_seen : Int32} {f0_most : Int32} {f0_beginnings : Int32} {a1 : List Int32} {a2 : List Int32} {a3 : List Int32} {a4 : List Int32} {a5 : List Int32} {a6 : List Int32} {p0 : Int32} {p1 : Int32} (h : db_place kb f0_first f0_second f0_kings f0_toMove f0_pastTop f0_pastSize f0_squareCount f0_taken f0_wanted f0_seen f0_most f0_beginnings a1 a2 a3 a4 a5 a6 p0 p1 = true) (hk : ∀ r f0_first f0_second f0_kings f0_toMove f0_pastTop f0_pastSize f0_squareCount f0_taken f0_wanted f0_seen f0_most f0_beginnings a1 a2 a3 a4 a5 a6, kb r f0_first f0_second f0_kings f0_toMove f0_pastTop f0_pastSize f0_squareCount f0_taken f0_wanted f0_seen f0_most f0_beginnings a1 a2 a3 a4 a5 a6 = true → post r (f0_first, f0_second, f0_kings, f0_toMove, f0_pastTop, f0_pastSize, f0_squareCount, f0_taken, f0_wanted, f0_seen, f0_most, f0_beginnings, db_g a1, db_g a2, db_g a3, db_g a4, db_g a5, db_g a6)) : wpX_place post (f0_first, f0_second, f0_kings, f0_toMove, f0_pastTop, f0_pastSize, f0_squareCount, f0_taken, f0_wanted, f0_seen, f0_most, f0_beginnings, db_g a1, db_g a2, db_g a3, db_g a4, db_g a5, db_g a6) p0 p1 := by
  unfold db_place at h
  unfold wpX_place
  refine ds_isSquare h (fun r_1 h => ?_)
  refine dc_eq h (fun h => ?_) (fun h => ?_)
  · exact hk _ _ _ _ _ _ _ _ _ _ _ _ _ _ _ _ _ _ _ h
  · refine dc_lt h (fun h => ?_) (fun h => ?_)
    · exact hk _ _ _ _ _ _ _ _ _ _ _ _ _ _ _ _ _ _ _ h
    · refine dc_le h (fun h => ?_) (fun h => ?_)
      · refine dc_let h (fun x3_5 h => ?_)
        refine dc_eq h (fun h => ?_) (fun h => ?_)
        · refine dc_eq h (fun h => ?_) (fun h => ?_)
          · exact hk _ _ _ _ _ _ _ _ _ _ _ _ _ _ _ _ _ _ _ h
          · exact ds_place_33 h hk
        · exact ds_place_33 h hk
      · exact hk _ _ _ _ _ _ _ _ _ _ _ _ _ _ _ _ _ _ _ h
def db_at_25 (kb : Int32 → Bool) (x1 : Int32) (z0 : Int32) (f0_first : Int32) (f0_second : Int32) (f0_kings : Int32) (f0_toMove : Int32) (f0_pastTop : Int32) (f0_pastSize : Int32) (f0_squareCount : Int32) (f0_taken : Int32) (f0_wanted : Int32) (f0_seen : Int32) (f0_most : Int32) (f0_beginnings : Int32) (a1 : List Int32) (a2 : List Int32) (a3 : List Int32) (a4 : List Int32) (a5 : List Int32) (a6 : List Int32) : Bool := db_in (fun r_5 => cond (db_eq (r_5) (0)) (db_in (fun r_7 => cond (db_eq (r_7) (0)) (kb 0) (db_z ((3 + z0)) (fun t1 => kb t1))) f0_second x1) (db_z ((1 + z0)) (fun t2 => kb t2))) f0_first x1
theorem ds_at_25 {post : Int32 → Prop} {kb : Int32 → Bool} {x1 : Int32} {z0 : Int32} {f0_first : Int32} {f0_second : Int32} {f0_kings : Int32} {f0_toMove : Int32} {f0_pastTop : Int32} {f0_pastSize : Int32} {f0_squareCount : Int32} {f0_taken : Int32} {f0_wanted : Int32} {f0_seen : Int32} {f0_most : Int32} {f0_beginnings : Int32} {a1 : List Int32} {a2 : List Int32} {a3 : List Int32} {a4 : List Int32} {a5 : List Int32} {a6 : List Int32} (h : db_at_25 kb x1 z0 f0_first f0_second f0_kings f0_toMove f0_pastTop f0_pastSize f0_squareCount f0_taken f0_wanted f0_seen f0_most f0_beginnings a1 a2 a3 a4 a5 a6 = true) (hk : ∀ r, kb r = true → post r) : wX_at_25 post x1 z0 f0_first f0_second f0_kings f0_toMove f0_pastTop f0_pastSize f0_squareCount f0_taken f0_wanted f0_seen f0_most f0_beginnings (db_g a1) (db_g a2) (db_g a3) (db_g a4) (db_g a5) (db_g a6) := by
  unfold db_at_25 at h
  unfold wX_at_25
  refine ds_in h (fun r_5 h => ?_)
  refine dc_eq h (fun h => ?_) (fun h => ?_)
  · refine ds_in h (fun r_7 h => ?_)
    refine dc_eq h (fun h => ?_) (fun h => ?_)
    · exact hk _ h
    · have h := dz_ok h
      exact hk _ h
  · have h := dz_ok h
    exact hk _ h
def db_at (kb : Int32 → Bool) (f0_first : Int32) (f0_second : Int32) (f0_kings : Int32) (f0_toMove : Int32) (f0_pastTop : Int32) (f0_pastSize : Int32) (f0_squareCount : Int32) (f0_taken : Int32) (f0_wanted : Int32) (f0_seen : Int32) (f0_most : Int32) (f0_beginnings : Int32) (a1 : List Int32) (a2 : List Int32) (a3 : List Int32) (a4 : List Int32) (a5 : List Int32) (a6 : List Int32) (p0 : Int32) : Bool := db_isSquare (fun r_1 => cond (db_eq (r_1) (0)) (kb (-1)) (db_in (fun r_3 => cond (db_eq (r_3) (0)) (db_at_25 kb p0 0 f0_first f0_second f0_kings f0_toMove f0_pastTop f0_pastSize f0_squareCount f0_taken f0_wanted f0_seen f0_most f0_beginnings a1 a2 a3 a4 a5 a6) (db_at_25 kb p0 1 f0_first f0_second f0_kings f0_toMove f0_pastTop f0_pastSize f0_squareCount f0_taken f0_wanted f0_seen f0_most f0_beginnings a1 a2 a3 a4 a5 a6)) f0_kings p0)) p0
theorem ds_at {post : Int32 → Prop} {kb : Int32 → Bool} {f0_first : Int32} {f0_second : Int32} {f0_kings : Int32} {f0_toMove : Int32} {f0_pastTop : Int32} {f0_pastSize : Int32} {f0_squareCount : Int32} {f0_taken : Int32} {f0_wanted : Int32} {f0_seen : Int32} {f0_most : Int32} {f0_beginnings : Int32} {a1 : List Int32} {a2 : List Int32} {a3 : List Int32} {a4 : List Int32} {a5 : List Int32} {a6 : List Int32} {p0 : Int32} (h : db_at kb f0_first f0_second f0_kings f0_toMove f0_pastTop f0_pastSize f0_squareCount f0_taken f0_wanted f0_seen f0_most f0_beginnings a1 a2 a3 a4 a5 a6 p0 = true) (hk : ∀ r, kb r = true → post r) : wpX_at post (f0_first, f0_second, f0_kings, f0_toMove, f0_pastTop, f0_pastSize, f0_squareCount, f0_taken, f0_wanted, f0_seen, f0_most, f0_beginnings, db_g a1, db_g a2, db_g a3, db_g a4, db_g a5, db_g a6) p0 := by
  unfold db_at at h
  unfold wpX_at
  refine ds_isSquare h (fun r_1 h => ?_)
  refine dc_eq h (fun h => ?_) (fun h => ?_)
  · exact hk _ h
  · refine ds_in h (fun r_3 h => ?_)
    refine dc_eq h (fun h => ?_) (fun h => ?_)
    · exact ds_at_25 h hk
    · exact ds_at_25 h hk
def db_count_52 (kb : Int32 → Bool) (z0 : Int32) (f0_first : Int32) (f0_second : Int32) (f0_kings : Int32) (f0_toMove : Int32) (f0_pastTop : Int32) (f0_pastSize : Int32) (f0_squareCount : Int32) (f0_taken : Int32) (f0_wanted : Int32) (f0_seen : Int32) (f0_most : Int32) (f0_beginnings : Int32) (a1 : List Int32) (a2 : List Int32) (a3 : List Int32) (a4 : List Int32) (a5 : List Int32) (a6 : List Int32) : Bool := db_ones (fun r_5 => kb r_5) z0
theorem ds_count_52 {post : Int32 → Prop} {kb : Int32 → Bool} {z0 : Int32} {f0_first : Int32} {f0_second : Int32} {f0_kings : Int32} {f0_toMove : Int32} {f0_pastTop : Int32} {f0_pastSize : Int32} {f0_squareCount : Int32} {f0_taken : Int32} {f0_wanted : Int32} {f0_seen : Int32} {f0_most : Int32} {f0_beginnings : Int32} {a1 : List Int32} {a2 : List Int32} {a3 : List Int32} {a4 : List Int32} {a5 : List Int32} {a6 : List Int32} (h : db_count_52 kb z0 f0_first f0_second f0_kings f0_toMove f0_pastTop f0_pastSize f0_squareCount f0_taken f0_wanted f0_seen f0_most f0_beginnings a1 a2 a3 a4 a5 a6 = true) (hk : ∀ r, kb r = true → post r) : wX_count_52 post z0 f0_first f0_second f0_kings f0_toMove f0_pastTop f0_pastSize f0_squareCount f0_taken f0_wanted f0_seen f0_most f0_beginnings (db_g a1) (db_g a2) (db_g a3) (db_g a4) (db_g a5) (db_g a6) := by
  unfold db_count_52 at h
  unfold wX_count_52
  refine ds_ones h (fun r_5 h => ?_)
  exact hk _ h
def db_count_28 (kb : Int32 → Bool) (x1 : Int32) (z0 : Int32) (f0_first : Int32) (f0_second : Int32) (f0_kings : Int32) (f0_toMove : Int32) (f0_pastTop : Int32) (f0_pastSize : Int32) (f0_squareCount : Int32) (f0_taken : Int32) (f0_wanted : Int32) (f0_seen : Int32) (f0_most : Int32) (f0_beginnings : Int32) (a1 : List Int32) (a2 : List Int32) (a3 : List Int32) (a4 : List Int32) (a5 : List Int32) (a6 : List Int32) : Bool := cond (db_eq ((x1 &&& 1)) (0)) (db_z ((z0 &&& f0_kings)) (fun t1 => db_count_52 kb t1 f0_first f0_second f0_kings f0_toMove f0_pastTop f0_pastSize f0_squareCount f0_taken f0_wanted f0_seen f0_most f0_beginnings a1 a2 a3 a4 a5 a6)) (db_z ((z0 &&& (f0_kings ^^^ (-1)))) (fun t2 => db_count_52 kb t2 f0_first f0_second f0_kings f0_toMove f0_pastTop f0_pastSize f0_squareCount f0_taken f0_wanted f0_seen f0_most f0_beginnings a1 a2 a3 a4 a5 a6))
theorem ds_count_28 {post : Int32 → Prop} {kb : Int32 → Bool} {x1 : Int32} {z0 : Int32} {f0_first : Int32} {f0_second : Int32} {f0_kings : Int32} {f0_toMove : Int32} {f0_pastTop : Int32} {f0_pastSize : Int32} {f0_squareCount : Int32} {f0_taken : Int32} {f0_wanted : Int32} {f0_seen : Int32} {f0_most : Int32} {f0_beginnings : Int32} {a1 : List Int32} {a2 : List Int32} {a3 : List Int32} {a4 : List Int32} {a5 : List Int32} {a6 : List Int32} (h : db_count_28 kb x1 z0 f0_first f0_second f0_kings f0_toMove f0_pastTop f0_pastSize f0_squareCount f0_taken f0_wanted f0_seen f0_most f0_beginnings a1 a2 a3 a4 a5 a6 = true) (hk : ∀ r, kb r = true → post r) : wX_count_28 post x1 z0 f0_first f0_second f0_kings f0_toMove f0_pastTop f0_pastSize f0_squareCount f0_taken f0_wanted f0_seen f0_most f0_beginnings (db_g a1) (db_g a2) (db_g a3) (db_g a4) (db_g a5) (db_g a6) := by
  unfold db_count_28 at h
  unfold wX_count_28
  refine dc_eq h (fun h => ?_) (fun h => ?_)
  · have h := dz_ok h
    exact ds_count_52 h hk
  · have h := dz_ok h
    exact ds_count_52 h hk
def db_count (kb : Int32 → Bool) (f0_first : Int32) (f0_second : Int32) (f0_kings : Int32) (f0_toMove : Int32) (f0_pastTop : Int32) (f0_pastSize : Int32) (f0_squareCount : Int32) (f0_taken : Int32) (f0_wanted : Int32) (f0_seen : Int32) (f0_most : Int32) (f0_beginnings : Int32) (a1 : List Int32) (a2 : List Int32) (a3 : List Int32) (a4 : List Int32) (a5 : List Int32) (a6 : List Int32) (p0 : Int32) : Bool := cond (db_lt (p0) (1)) (kb (-1)) (cond (db_le (p0) (4)) (cond (db_le (3) (p0)) (db_count_28 kb p0 f0_second f0_first f0_second f0_kings f0_toMove f0_pastTop f0_pastSize f0_squareCount f0_taken f0_wanted f0_seen f0_most f0_beginnings a1 a2 a3 a4 a5 a6) (db_count_28 kb p0 f0_first f0_first f0_second f0_kings f0_toMove f0_pastTop f0_pastSize f0_squareCount f0_taken f0_wanted f0_seen f0_most f0_beginnings a1 a2 a3 a4 a5 a6)) (kb (-1)))
theorem ds_count {post : Int32 → Prop} {kb : Int32 → Bool} {f0_first : Int32} {f0_second : Int32} {f0_kings : Int32} {f0_toMove : Int32} {f0_pastTop : Int32} {f0_pastSize : Int32} {f0_squareCount : Int32} {f0_taken : Int32} {f0_wanted : Int32} {f0_seen : Int32} {f0_most : Int32} {f0_beginnings : Int32} {a1 : List Int32} {a2 : List Int32} {a3 : List Int32} {a4 : List Int32} {a5 : List Int32} {a6 : List Int32} {p0 : Int32} (h : db_count kb f0_first f0_second f0_kings f0_toMove f0_pastTop f0_pastSize f0_squareCount f0_taken f0_wanted f0_seen f0_most f0_beginnings a1 a2 a3 a4 a5 a6 p0 = true) (hk : ∀ r, kb r = true → post r) : wpX_count post (f0_first, f0_second, f0_kings, f0_toMove, f0_pastTop, f0_pastSize, f0_squareCount, f0_taken, f0_wanted, f0_seen, f0_most, f0_beginnings, db_g a1, db_g a2, db_g a3, db_g a4, db_g a5, db_g a6) p0 := by
  unfold db_count at h
  unfold wpX_count
  refine dc_lt h (fun h => ?_) (fun h => ?_)
  · exact hk _ h
  · refine dc_le h (fun h => ?_) (fun h => ?_)
    · refine dc_le h (fun h => ?_) (fun h => ?_)
      · exact ds_count_28 h hk
      · exact ds_count_28 h hk
    · exact hk _ h
def db_movable (kb : Int32 → db_K) (f0_first : Int32) (f0_second : Int32) (f0_kings : Int32) (f0_toMove : Int32) (f0_pastTop : Int32) (f0_pastSize : Int32) (f0_squareCount : Int32) (f0_taken : Int32) (f0_wanted : Int32) (f0_seen : Int32) (f0_most : Int32) (f0_beginnings : Int32) (a1 : List Int32) (a2 : List Int32) (a3 : List Int32) (a4 : List Int32) (a5 : List Int32) (a6 : List Int32) : Bool := db_seek (fun r_1 f0_first_2 f0_second_3 f0_kings_4 f0_toMove_5 f0_pastTop_6 f0_pastSize_7 f0_squareCount_8 f0_taken_9 f0_wanted_10 f0_seen_11 f0_most_12 f0_beginnings_13 am21_16 am22_19 am23_22 am24_25 am25_28 am26_31 => kb f0_beginnings_13 f0_first_2 f0_second_3 f0_kings_4 f0_toMove_5 f0_pastTop_6 f0_pastSize_7 f0_squareCount_8 f0_taken_9 f0_wanted_10 f0_seen_11 f0_most_12 f0_beginnings_13 am21_16 am22_19 am23_22 am24_25 am25_28 am26_31) f0_first f0_second f0_kings f0_toMove f0_pastTop f0_pastSize f0_squareCount f0_taken f0_wanted f0_seen f0_most f0_beginnings a1 a2 a3 a4 a5 a6 (-1)
theorem ds_movable {post : Int32 → St2 → Prop} {kb : Int32 → db_K} {f0_first : Int32} {f0_second : Int32} {f0_kings : Int32} {f0_toMove : Int32} {f0_pastTop : Int32} {f0_pastSize : Int32} {f0_squareCount : Int32} {f0_taken : Int32} {f0_wanted : Int32} {f0_seen : Int32} {f0_most : Int32} {f0_beginnings : Int32} {a1 : List Int32} {a2 : List Int32} {a3 : List Int32} {a4 : List Int32} {a5 : List Int32} {a6 : List Int32} (h : db_movable kb f0_first f0_second f0_kings f0_toMove f0_pastTop f0_pastSize f0_squareCount f0_taken f0_wanted f0_seen f0_most f0_beginnings a1 a2 a3 a4 a5 a6 = true) (hk : ∀ r f0_first f0_second f0_kings f0_toMove f0_pastTop f0_pastSize f0_squareCount f0_taken f0_wanted f0_seen f0_most f0_beginnings a1 a2 a3 a4 a5 a6, kb r f0_first f0_second f0_kings f0_toMove f0_pastTop f0_pastSize f0_squareCount f0_taken f0_wanted f0_seen f0_most f0_beginnings a1 a2 a3 a4 a5 a6 = true → post r (f0_first, f0_second, f0_kings, f0_toMove, f0_pastTop, f0_pastSize, f0_squareCount, f0_taken, f0_wanted, f0_seen, f0_most, f0_beginnings, db_g a1, db_g a2, db_g a3, db_g a4, db_g a5, db_g a6)) : wpX_movable post (f0_first, f0_second, f0_kings, f0_toMove, f0_pastTop, f0_pastSize, f0_squareCount, f0_taken, f0_wanted, f0_seen, f0_most, f0_beginnings, db_g a1, db_g a2, db_g a3, db_g a4, db_g a5, db_g a6) := by
  unfold db_movable at h
  unfold wpX_movable
  refine ds_seek h (fun r_1 f0_first_2 f0_second_3 f0_kings_4 f0_toMove_5 f0_pastTop_6 f0_pastSize_7 f0_squareCount_8 f0_taken_9 f0_wanted_10 f0_seen_11 f0_most_12 f0_beginnings_13 am21_16 am22_19 am23_22 am24_25 am25_28 am26_31 h => ?_)
  exact hk _ _ _ _ _ _ _ _ _ _ _ _ _ _ _ _ _ _ _ h
def db_length (kb : Int32 → db_K) (f0_first : Int32) (f0_second : Int32) (f0_kings : Int32) (f0_toMove : Int32) (f0_pastTop : Int32) (f0_pastSize : Int32) (f0_squareCount : Int32) (f0_taken : Int32) (f0_wanted : Int32) (f0_seen : Int32) (f0_most : Int32) (f0_beginnings : Int32) (a1 : List Int32) (a2 : List Int32) (a3 : List Int32) (a4 : List Int32) (a5 : List Int32) (a6 : List Int32) (p0 : Int32) : Bool := cond (db_lt (p0) (0)) (kb (-1) f0_first f0_second f0_kings f0_toMove f0_pastTop f0_pastSize f0_squareCount f0_taken f0_wanted f0_seen f0_most f0_beginnings a1 a2 a3 a4 a5 a6) (db_seek (fun r_2 f0_first_3 f0_second_4 f0_kings_5 f0_toMove_6 f0_pastTop_7 f0_pastSize_8 f0_squareCount_9 f0_taken_10 f0_wanted_11 f0_seen_12 f0_most_13 f0_beginnings_14 am61_17 am62_20 am63_23 am64_26 am65_29 am66_32 => cond (db_eq (r_2) (0)) (kb (-1) f0_first_3 f0_second_4 f0_kings_5 f0_toMove_6 f0_pastTop_7 f0_pastSize_8 f0_squareCount_9 f0_taken_10 f0_wanted_11 f0_seen_12 f0_most_13 f0_beginnings_14 am61_17 am62_20 am63_23 am64_26 am65_29 am66_32) (kb f0_squareCount_9 f0_first_3 f0_second_4 f0_kings_5 f0_toMove_6 f0_pastTop_7 f0_pastSize_8 f0_squareCount_9 f0_taken_10 f0_wanted_11 f0_seen_12 f0_most_13 f0_beginnings_14 am61_17 am62_20 am63_23 am64_26 am65_29 am66_32)) f0_first f0_second f0_kings f0_toMove f0_pastTop f0_pastSize f0_squareCount f0_taken f0_wanted f0_seen f0_most f0_beginnings a1 a2 a3 a4 a5 a6 p0)
theorem ds_length {post : Int32 → St2 → Prop} {kb : Int32 → db_K} {f0_first : Int32} {f0_second : Int32} {f0_kings : Int32} {f0_toMove : Int32} {f0_pastTop : Int32} {f0_pastSize : Int32} {f0_squareCount : Int32} {f0_taken : Int32} {f0_wanted : Int32} {f0_seen : Int32} {f0_most : Int32} {f0_beginnings : Int32} {a1 : List Int32} {a2 : List Int32} {a3 : List Int32} {a4 : List Int32} {a5 : List Int32} {a6 : List Int32} {p0 : Int32} (h : db_length kb f0_first f0_second f0_kings f0_toMove f0_pastTop f0_pastSize f0_squareCount f0_taken f0_wanted f0_seen f0_most f0_beginnings a1 a2 a3 a4 a5 a6 p0 = true) (hk : ∀ r f0_first f0_second f0_kings f0_toMove f0_pastTop f0_pastSize f0_squareCount f0_taken f0_wanted f0_seen f0_most f0_beginnings a1 a2 a3 a4 a5 a6, kb r f0_first f0_second f0_kings f0_toMove f0_pastTop f0_pastSize f0_squareCount f0_taken f0_wanted f0_seen f0_most f0_beginnings a1 a2 a3 a4 a5 a6 = true → post r (f0_first, f0_second, f0_kings, f0_toMove, f0_pastTop, f0_pastSize, f0_squareCount, f0_taken, f0_wanted, f0_seen, f0_most, f0_beginnings, db_g a1, db_g a2, db_g a3, db_g a4, db_g a5, db_g a6)) : wpX_length post (f0_first, f0_second, f0_kings, f0_toMove, f0_pastTop, f0_pastSize, f0_squareCount, f0_taken, f0_wanted, f0_seen, f0_most, f0_beginnings, db_g a1, db_g a2, db_g a3, db_g a4, db_g a5, db_g a6) p0 := by
  unfold db_length at h
  unfold wpX_length
  refine dc_lt h (fun h => ?_) (fun h => ?_)
  · exact hk _ _ _ _ _ _ _ _ _ _ _ _ _ _ _ _ _ _ _ h
  · refine ds_seek h (fun r_2 f0_first_3 f0_second_4 f0_kings_5 f0_toMove_6 f0_pastTop_7 f0_pastSize_8 f0_squareCount_9 f0_taken_10 f0_wanted_11 f0_seen_12 f0_most_13 f0_beginnings_14 am61_17 am62_20 am63_23 am64_26 am65_29 am66_32 h => ?_)
    refine dc_eq h (fun h => ?_) (fun h => ?_)
    · exact hk _ _ _ _ _ _ _ _ _ _ _ _ _ _ _ _ _ _ _ h
    · exact hk _ _ _ _ _ _ _ _ _ _ _ _ _ _ _ _ _ _ _ h
def db_mostTaken (kb : Int32 → db_K) (f0_first : Int32) (f0_second : Int32) (f0_kings : Int32) (f0_toMove : Int32) (f0_pastTop : Int32) (f0_pastSize : Int32) (f0_squareCount : Int32) (f0_taken : Int32) (f0_wanted : Int32) (f0_seen : Int32) (f0_most : Int32) (f0_beginnings : Int32) (a1 : List Int32) (a2 : List Int32) (a3 : List Int32) (a4 : List Int32) (a5 : List Int32) (a6 : List Int32) : Bool := db_seek (fun r_1 f0_first_2 f0_second_3 f0_kings_4 f0_toMove_5 f0_pastTop_6 f0_pastSize_7 f0_squareCount_8 f0_taken_9 f0_wanted_10 f0_seen_11 f0_most_12 f0_beginnings_13 am21_16 am22_19 am23_22 am24_25 am25_28 am26_31 => kb f0_most_12 f0_first_2 f0_second_3 f0_kings_4 f0_toMove_5 f0_pastTop_6 f0_pastSize_7 f0_squareCount_8 f0_taken_9 f0_wanted_10 f0_seen_11 f0_most_12 f0_beginnings_13 am21_16 am22_19 am23_22 am24_25 am25_28 am26_31) f0_first f0_second f0_kings f0_toMove f0_pastTop f0_pastSize f0_squareCount f0_taken f0_wanted f0_seen f0_most f0_beginnings a1 a2 a3 a4 a5 a6 (-1)
theorem ds_mostTaken {post : Int32 → St2 → Prop} {kb : Int32 → db_K} {f0_first : Int32} {f0_second : Int32} {f0_kings : Int32} {f0_toMove : Int32} {f0_pastTop : Int32} {f0_pastSize : Int32} {f0_squareCount : Int32} {f0_taken : Int32} {f0_wanted : Int32} {f0_seen : Int32} {f0_most : Int32} {f0_beginnings : Int32} {a1 : List Int32} {a2 : List Int32} {a3 : List Int32} {a4 : List Int32} {a5 : List Int32} {a6 : List Int32} (h : db_mostTaken kb f0_first f0_second f0_kings f0_toMove f0_pastTop f0_pastSize f0_squareCount f0_taken f0_wanted f0_seen f0_most f0_beginnings a1 a2 a3 a4 a5 a6 = true) (hk : ∀ r f0_first f0_second f0_kings f0_toMove f0_pastTop f0_pastSize f0_squareCount f0_taken f0_wanted f0_seen f0_most f0_beginnings a1 a2 a3 a4 a5 a6, kb r f0_first f0_second f0_kings f0_toMove f0_pastTop f0_pastSize f0_squareCount f0_taken f0_wanted f0_seen f0_most f0_beginnings a1 a2 a3 a4 a5 a6 = true → post r (f0_first, f0_second, f0_kings, f0_toMove, f0_pastTop, f0_pastSize, f0_squareCount, f0_taken, f0_wanted, f0_seen, f0_most, f0_beginnings, db_g a1, db_g a2, db_g a3, db_g a4, db_g a5, db_g a6)) : wpX_mostTaken post (f0_first, f0_second, f0_kings, f0_toMove, f0_pastTop, f0_pastSize, f0_squareCount, f0_taken, f0_wanted, f0_seen, f0_most, f0_beginnings, db_g a1, db_g a2, db_g a3, db_g a4, db_g a5, db_g a6) := by
  unfold db_mostTaken at h
  unfold wpX_mostTaken
  refine ds_seek h (fun r_1 f0_first_2 f0_second_3 f0_kings_4 f0_toMove_5 f0_pastTop_6 f0_pastSize_7 f0_squareCount_8 f0_taken_9 f0_wanted_10 f0_seen_11 f0_most_12 f0_beginnings_13 am21_16 am22_19 am23_22 am24_25 am25_28 am26_31 h => ?_)
  exact hk _ _ _ _ _ _ _ _ _ _ _ _ _ _ _ _ _ _ _ h
def db_side (kb : Int32 → Bool) (f0_first : Int32) (f0_second : Int32) (f0_kings : Int32) (f0_toMove : Int32) (f0_pastTop : Int32) (f0_pastSize : Int32) (f0_squareCount : Int32) (f0_taken : Int32) (f0_wanted : Int32) (f0_seen : Int32) (f0_most : Int32) (f0_beginnings : Int32) (a1 : List Int32) (a2 : List Int32) (a3 : List Int32) (a4 : List Int32) (a5 : List Int32) (a6 : List Int32) : Bool := kb f0_toMove
theorem ds_side {post : Int32 → Prop} {kb : Int32 → Bool} {f0_first : Int32} {f0_second : Int32} {f0_kings : Int32} {f0_toMove : Int32} {f0_pastTop : Int32} {f0_pastSize : Int32} {f0_squareCount : Int32} {f0_taken : Int32} {f0_wanted : Int32} {f0_seen : Int32} {f0_most : Int32} {f0_beginnings : Int32} {a1 : List Int32} {a2 : List Int32} {a3 : List Int32} {a4 : List Int32} {a5 : List Int32} {a6 : List Int32} (h : db_side kb f0_first f0_second f0_kings f0_toMove f0_pastTop f0_pastSize f0_squareCount f0_taken f0_wanted f0_seen f0_most f0_beginnings a1 a2 a3 a4 a5 a6 = true) (hk : ∀ r, kb r = true → post r) : wpX_side post (f0_first, f0_second, f0_kings, f0_toMove, f0_pastTop, f0_pastSize, f0_squareCount, f0_taken, f0_wanted, f0_seen, f0_most, f0_beginnings, db_g a1, db_g a2, db_g a3, db_g a4, db_g a5, db_g a6) := by
  unfold db_side at h
  unfold wpX_side
  exact hk _ h
def db_back (kb : Int32 → db_K) (f0_first : Int32) (f0_second : Int32) (f0_kings : Int32) (f0_toMove : Int32) (f0_pastTop : Int32) (f0_pastSize : Int32) (f0_squareCount : Int32) (f0_taken : Int32) (f0_wanted : Int32) (f0_seen : Int32) (f0_most : Int32) (f0_beginnings : Int32) (a1 : List Int32) (a2 : List Int32) (a3 : List Int32) (a4 : List Int32) (a5 : List Int32) (a6 : List Int32) : Bool := cond (db_eq (f0_pastSize) (0)) (kb 0 f0_first f0_second f0_kings f0_toMove f0_pastTop f0_pastSize f0_squareCount f0_taken f0_wanted f0_seen f0_most f0_beginnings a1 a2 a3 a4 a5 a6) (db_z (f0_pastSize - 1) (fun f_2 => db_z (((f0_pastTop + 20) - 1) - ((f0_pastTop + 20) - 1) / 20 * 20) (fun f_4 => cond (db_ck ((f_4 * 4)) 80) (db_z ((db_g a1) (f_4 * 4).toNatClampNeg) (fun f_6 => cond (db_ck (((f_4 * 4) + 1)) 80) (db_z ((db_g a1) ((f_4 * 4) + 1).toNatClampNeg) (fun f_8 => cond (db_ck (((f_4 * 4) + 2)) 80) (db_z ((db_g a1) ((f_4 * 4) + 2).toNatClampNeg) (fun f_10 => cond (db_ck (((f_4 * 4) + 3)) 80) (db_z ((db_g a1) ((f_4 * 4) + 3).toNatClampNeg) (fun f_12 => kb 1 f_6 f_8 f_10 f_12 f_4 f_2 f0_squareCount f0_taken f0_wanted f0_seen f0_most f0_beginnings a1 a2 a3 a4 a5 a6)) false)) false)) false)) false)))
theorem ds_back {post : Int32 → St2 → Prop} {kb : Int32 → db_K} {f0_first : Int32} {f0_second : Int32} {f0_kings : Int32} {f0_toMove : Int32} {f0_pastTop : Int32} {f0_pastSize : Int32} {f0_squareCount : Int32} {f0_taken : Int32} {f0_wanted : Int32} {f0_seen : Int32} {f0_most : Int32} {f0_beginnings : Int32} {a1 : List Int32} {a2 : List Int32} {a3 : List Int32} {a4 : List Int32} {a5 : List Int32} {a6 : List Int32} (h : db_back kb f0_first f0_second f0_kings f0_toMove f0_pastTop f0_pastSize f0_squareCount f0_taken f0_wanted f0_seen f0_most f0_beginnings a1 a2 a3 a4 a5 a6 = true) (hk : ∀ r f0_first f0_second f0_kings f0_toMove f0_pastTop f0_pastSize f0_squareCount f0_taken f0_wanted f0_seen f0_most f0_beginnings a1 a2 a3 a4 a5 a6, kb r f0_first f0_second f0_kings f0_toMove f0_pastTop f0_pastSize f0_squareCount f0_taken f0_wanted f0_seen f0_most f0_beginnings a1 a2 a3 a4 a5 a6 = true → post r (f0_first, f0_second, f0_kings, f0_toMove, f0_pastTop, f0_pastSize, f0_squareCount, f0_taken, f0_wanted, f0_seen, f0_most, f0_beginnings, db_g a1, db_g a2, db_g a3, db_g a4, db_g a5, db_g a6)) : wpX_back post (f0_first, f0_second, f0_kings, f0_toMove, f0_pastTop, f0_pastSize, f0_squareCount, f0_taken, f0_wanted, f0_seen, f0_most, f0_beginnings, db_g a1, db_g a2, db_g a3, db_g a4, db_g a5, db_g a6) := by
  unfold db_back at h
  unfold wpX_back
  refine dc_eq h (fun h => ?_) (fun h => ?_)
  · exact hk _ _ _ _ _ _ _ _ _ _ _ _ _ _ _ _ _ _ _ h
  · refine dc_let h (fun f_2 h => ?_)
    refine ⟨by decide, ?_⟩
    refine dc_let h (fun f_4 h => ?_)
    refine dc_in h (by decide) (fun h => ?_)
    refine dc_let h (fun f_6 h => ?_)
    refine dc_in h (by decide) (fun h => ?_)
    refine dc_let h (fun f_8 h => ?_)
    refine dc_in h (by decide) (fun h => ?_)
    refine dc_let h (fun f_10 h => ?_)
    refine dc_in h (by decide) (fun h => ?_)
    refine dc_let h (fun f_12 h => ?_)
    exact hk _ _ _ _ _ _ _ _ _ _ _ _ _ _ _ _ _ _ _ h
def db_save (kb : db_K) (f0_first : Int32) (f0_second : Int32) (f0_kings : Int32) (f0_toMove : Int32) (f0_pastTop : Int32) (f0_pastSize : Int32) (f0_squareCount : Int32) (f0_taken : Int32) (f0_wanted : Int32) (f0_seen : Int32) (f0_most : Int32) (f0_beginnings : Int32) (a1 : List Int32) (a2 : List Int32) (a3 : List Int32) (a4 : List Int32) (a5 : List Int32) (a6 : List Int32) (p0 : Int32) : Bool := cond (db_ck ((p0 * 4)) 16) (db_up a5 ((p0 * 4).toNatClampNeg) (f0_first) (fun a5_2 => cond (db_ck (((p0 * 4) + 1)) 16) (db_up a5_2 (((p0 * 4) + 1).toNatClampNeg) (f0_second) (fun a5_4 => cond (db_ck (((p0 * 4) + 2)) 16) (db_up a5_4 (((p0 * 4) + 2).toNatClampNeg) (f0_kings) (fun a5_6 => cond (db_ck (((p0 * 4) + 3)) 16) (db_up a5_6 (((p0 * 4) + 3).toNatClampNeg) (f0_toMove) (fun a5_8 => kb f0_first f0_second f0_kings f0_toMove f0_pastTop f0_pastSize f0_squareCount f0_taken f0_wanted f0_seen f0_most f0_beginnings a1 a2 a3 a4 a5_8 a6)) false)) false)) false)) false
theorem ds_save {post : St2 → Prop} {kb : db_K} {f0_first : Int32} {f0_second : Int32} {f0_kings : Int32} {f0_toMove : Int32} {f0_pastTop : Int32} {f0_pastSize : Int32} {f0_squareCount : Int32} {f0_taken : Int32} {f0_wanted : Int32} {f0_seen : Int32} {f0_most : Int32} {f0_beginnings : Int32} {a1 : List Int32} {a2 : List Int32} {a3 : List Int32} {a4 : List Int32} {a5 : List Int32} {a6 : List Int32} {p0 : Int32} (h : db_save kb f0_first f0_second f0_kings f0_toMove f0_pastTop f0_pastSize f0_squareCount f0_taken f0_wanted f0_seen f0_most f0_beginnings a1 a2 a3 a4 a5 a6 p0 = true) (hk : ∀ f0_first f0_second f0_kings f0_toMove f0_pastTop f0_pastSize f0_squareCount f0_taken f0_wanted f0_seen f0_most f0_beginnings a1 a2 a3 a4 a5 a6, kb f0_first f0_second f0_kings f0_toMove f0_pastTop f0_pastSize f0_squareCount f0_taken f0_wanted f0_seen f0_most f0_beginnings a1 a2 a3 a4 a5 a6 = true → post (f0_first, f0_second, f0_kings, f0_toMove, f0_pastTop, f0_pastSize, f0_squareCount, f0_taken, f0_wanted, f0_seen, f0_most, f0_beginnings, db_g a1, db_g a2, db_g a3, db_g a4, db_g a5, db_g a6)) : wpX_save post (f0_first, f0_second, f0_kings, f0_toMove, f0_pastTop, f0_pastSize, f0_squareCount, f0_taken, f0_wanted, f0_seen, f0_most, f0_beginnings, db_g a1, db_g a2, db_g a3, db_g a4, db_g a5, db_g a6) p0 := by
  unfold db_save at h
  unfold wpX_save
  refine dc_in h (by decide) (fun h => ?_)
  refine dc_st h (fun a5_2 h => ?_)
  refine dc_in h (by decide) (fun h => ?_)
  refine dc_st h (fun a5_4 h => ?_)
  refine dc_in h (by decide) (fun h => ?_)
  refine dc_st h (fun a5_6 h => ?_)
  refine dc_in h (by decide) (fun h => ?_)
  refine dc_st h (fun a5_8 h => ?_)
  exact hk _ _ _ _ _ _ _ _ _ _ _ _ _ _ _ _ _ _ h
def db_restore (kb : db_K) (f0_first : Int32) (f0_second : Int32) (f0_kings : Int32) (f0_toMove : Int32) (f0_pastTop : Int32) (f0_pastSize : Int32) (f0_squareCount : Int32) (f0_taken : Int32) (f0_wanted : Int32) (f0_seen : Int32) (f0_most : Int32) (f0_beginnings : Int32) (a1 : List Int32) (a2 : List Int32) (a3 : List Int32) (a4 : List Int32) (a5 : List Int32) (a6 : List Int32) (p0 : Int32) : Bool := cond (db_ck ((p0 * 4)) 16) (db_z ((db_g a5) (p0 * 4).toNatClampNeg) (fun f_2 => cond (db_ck (((p0 * 4) + 1)) 16) (db_z ((db_g a5) ((p0 * 4) + 1).toNatClampNeg) (fun f_4 => cond (db_ck (((p0 * 4) + 2)) 16) (db_z ((db_g a5) ((p0 * 4) + 2).toNatClampNeg) (fun f_6 => cond (db_ck (((p0 * 4) + 3)) 16) (db_z ((db_g a5) ((p0 * 4) + 3).toNatClampNeg) (fun f_8 => kb f_2 f_4 f_6 f_8 f0_pastTop f0_pastSize f0_squareCount f0_taken f0_wanted f0_seen f0_most f0_beginnings a1 a2 a3 a4 a5 a6)) false)) false)) false)) false
theorem ds_restore {post : St2 → Prop} {kb : db_K} {f0_first : Int32} {f0_second : Int32} {f0_kings : Int32} {f0_toMove : Int32} {f0_pastTop : Int32} {f0_pastSize : Int32} {f0_squareCount : Int32} {f0_taken : Int32} {f0_wanted : Int32} {f0_seen : Int32} {f0_most : Int32} {f0_beginnings : Int32} {a1 : List Int32} {a2 : List Int32} {a3 : List Int32} {a4 : List Int32} {a5 : List Int32} {a6 : List Int32} {p0 : Int32} (h : db_restore kb f0_first f0_second f0_kings f0_toMove f0_pastTop f0_pastSize f0_squareCount f0_taken f0_wanted f0_seen f0_most f0_beginnings a1 a2 a3 a4 a5 a6 p0 = true) (hk : ∀ f0_first f0_second f0_kings f0_toMove f0_pastTop f0_pastSize f0_squareCount f0_taken f0_wanted f0_seen f0_most f0_beginnings a1 a2 a3 a4 a5 a6, kb f0_first f0_second f0_kings f0_toMove f0_pastTop f0_pastSize f0_squareCount f0_taken f0_wanted f0_seen f0_most f0_beginnings a1 a2 a3 a4 a5 a6 = true → post (f0_first, f0_second, f0_kings, f0_toMove, f0_pastTop, f0_pastSize, f0_squareCount, f0_taken, f0_wanted, f0_seen, f0_most, f0_beginnings, db_g a1, db_g a2, db_g a3, db_g a4, db_g a5, db_g a6)) : wpX_restore post (f0_first, f0_second, f0_kings, f0_toMove, f0_pastTop, f0_pastSize, f0_squareCount, f0_taken, f0_wanted, f0_seen, f0_most, f0_beginnings, db_g a1, db_g a2, db_g a3, db_g a4, db_g a5, db_g a6) p0 := by
  unfold db_restore at h
  unfold wpX_restore
  refine dc_in h (by decide) (fun h => ?_)
  refine dc_let h (fun f_2 h => ?_)
  refine dc_in h (by decide) (fun h => ?_)
  refine dc_let h (fun f_4 h => ?_)
  refine dc_in h (by decide) (fun h => ?_)
  refine dc_let h (fun f_6 h => ?_)
  refine dc_in h (by decide) (fun h => ?_)
  refine dc_let h (fun f_8 h => ?_)
  exact hk _ _ _ _ _ _ _ _ _ _ _ _ _ _ _ _ _ _ h
def db_plays_142 (kb : Int32 → db_K) (x2 : Int32) (f0_first : Int32) (f0_second : Int32) (f0_kings : Int32) (f0_toMove : Int32) (f0_pastTop : Int32) (f0_pastSize : Int32) (f0_squareCount : Int32) (f0_taken : Int32) (f0_wanted : Int32) (f0_seen : Int32) (f0_most : Int32) (f0_beginnings : Int32) (am301 : List Int32) (am302 : List Int32) (am303 : List Int32) (am304 : List Int32) (am305 : List Int32) (am306 : List Int32) : Bool := db_restore (fun f0_first_39 f0_second_40 f0_kings_41 f0_toMove_42 f0_pastTop_43 f0_pastSize_44 f0_squareCount_45 f0_taken_46 f0_wanted_47 f0_seen_48 f0_most_49 f0_beginnings_50 am1441_53 am1442_56 am1443_59 am1444_62 am1445_65 am1446_68 => kb x2 f0_first_39 f0_second_40 f0_kings_41 f0_toMove_42 f0_pastTop_43 f0_pastSize_44 f0_squareCount_45 f0_taken_46 f0_wanted_47 f0_seen_48 f0_most_49 f0_beginnings_50 am1441_53 am1442_56 am1443_59 am1444_62 am1445_65 am1446_68) f0_first f0_second f0_kings f0_toMove f0_pastTop f0_pastSize f0_squareCount f0_taken f0_wanted f0_seen f0_most f0_beginnings am301 am302 am303 am304 am305 am306 0
theorem ds_plays_142 {post : Int32 → St2 → Prop} {kb : Int32 → db_K} {x2 : Int32} {f0_first : Int32} {f0_second : Int32} {f0_kings : Int32} {f0_toMove : Int32} {f0_pastTop : Int32} {f0_pastSize : Int32} {f0_squareCount : Int32} {f0_taken : Int32} {f0_wanted : Int32} {f0_seen : Int32} {f0_most : Int32} {f0_beginnings : Int32} {am301 : List Int32} {am302 : List Int32} {am303 : List Int32} {am304 : List Int32} {am305 : List Int32} {am306 : List Int32} (h : db_plays_142 kb x2 f0_first f0_second f0_kings f0_toMove f0_pastTop f0_pastSize f0_squareCount f0_taken f0_wanted f0_seen f0_most f0_beginnings am301 am302 am303 am304 am305 am306 = true) (hk : ∀ r f0_first f0_second f0_kings f0_toMove f0_pastTop f0_pastSize f0_squareCount f0_taken f0_wanted f0_seen f0_most f0_beginnings a1 a2 a3 a4 a5 a6, kb r f0_first f0_second f0_kings f0_toMove f0_pastTop f0_pastSize f0_squareCount f0_taken f0_wanted f0_seen f0_most f0_beginnings a1 a2 a3 a4 a5 a6 = true → post r (f0_first, f0_second, f0_kings, f0_toMove, f0_pastTop, f0_pastSize, f0_squareCount, f0_taken, f0_wanted, f0_seen, f0_most, f0_beginnings, db_g a1, db_g a2, db_g a3, db_g a4, db_g a5, db_g a6)) : wX_plays_142 post x2 f0_first f0_second f0_kings f0_toMove f0_pastTop f0_pastSize f0_squareCount f0_taken f0_wanted f0_seen f0_most f0_beginnings (db_g am301) (db_g am302) (db_g am303) (db_g am304) (db_g am305) (db_g am306) := by
  unfold db_plays_142 at h
  unfold wX_plays_142
  refine ds_restore h (fun f0_first_39 f0_second_40 f0_kings_41 f0_toMove_42 f0_pastTop_43 f0_pastSize_44 f0_squareCount_45 f0_taken_46 f0_wanted_47 f0_seen_48 f0_most_49 f0_beginnings_50 am1441_53 am1442_56 am1443_59 am1444_62 am1445_65 am1446_68 h => ?_)
  exact hk _ _ _ _ _ _ _ _ _ _ _ _ _ _ _ _ _ _ _ h
def db_plays_80 (kb : Int32 → db_K) (J36 : Int32 → Int32 → Int32 → Int32 → Int32 → Int32 → Int32 → Int32 → Int32 → Int32 → Int32 → Int32 → Int32 → Int32 → Int32 → List Int32 → List Int32 → List Int32 → List Int32 → List Int32 → List Int32 → Bool) (x1 : Int32) (x3 : Int32) (x4 : Int32) (x5 : Int32) (z0 : Int32) (z1 : Int32) (f0_first : Int32) (f0_second : Int32) (f0_kings : Int32) (f0_toMove : Int32) (f0_pastTop : Int32) (f0_pastSize : Int32) (f0_squareCount : Int32) (f0_taken : Int32) (f0_wanted : Int32) (f0_seen : Int32) (f0_most : Int32) (f0_beginnings : Int32) (am491 : List Int32) (am492 : List Int32) (am493 : List Int32) (am494 : List Int32) (am495 : List Int32) (am496 : List Int32) : Bool := db_z (z1 + z0) (fun x2_103 => cond (db_eq (x5) (0)) (cond (db_ck (x3) 4) (db_z (((db_g am496) x3.toNatClampNeg)) (fun t1 => db_seek (fun r_108 f0_first_109 f0_second_110 f0_kings_111 f0_toMove_112 f0_pastTop_113 f0_pastSize_114 f0_squareCount_115 f0_taken_116 f0_wanted_117 f0_seen_118 f0_most_119 f0_beginnings_120 am941_123 am942_126 am943_129 am944_132 am945_135 am946_138 => cond (db_eq (r_108) (0)) (db_z (x3 + (-1)) (fun x3_209 => db_z (x4 + 1) (fun x4_210 => J36 x2_103 x3_209 x4_210 f0_first_109 f0_second_110 f0_kings_111 f0_toMove_112 f0_pastTop_113 f0_pastSize_114 f0_squareCount_115 f0_taken_116 f0_wanted_117 f0_seen_118 f0_most_119 f0_beginnings_120 am941_123 am942_126 am943_129 am944_132 am945_135 am946_138))) (cond (db_ck (x3) 4) (cond (db_ck (x3) 4) (db_up am946_138 (x3.toNatClampNeg) ((((db_g am946_138) x3.toNatClampNeg) + 1)) (fun am946_142 => db_carry (fun r_143 f0_first_144 f0_second_145 f0_kings_146 f0_toMove_147 f0_pastTop_148 f0_pastSize_149 f0_squareCount_150 f0_taken_151 f0_wanted_152 f0_seen_153 f0_most_154 f0_beginnings_155 am1171_158 am1172_161 am1173_164 am1174_167 am1175_170 am1176_173 => db_z (x3 + 1) (fun x3_174 => db_save (fun f0_first_176 f0_second_177 f0_kings_178 f0_toMove_179 f0_pastTop_180 f0_pastSize_181 f0_squareCount_182 f0_taken_183 f0_wanted_184 f0_seen_185 f0_most_186 f0_beginnings_187 am1261_190 am1262_193 am1263_196 am1264_199 am1265_202 am1266_205 => cond (db_ck (x3_174) 4) (db_up am1266_205 (x3_174.toNatClampNeg) (0) (fun am1266_207 => db_z (x4 + 1) (fun x4_208 => J36 x2_103 x3_174 x4_208 f0_first_176 f0_second_177 f0_kings_178 f0_toMove_179 f0_pastTop_180 f0_pastSize_181 f0_squareCount_182 f0_taken_183 f0_wanted_184 f0_seen_185 f0_most_186 f0_beginnings_187 am1261_190 am1262_193 am1263_196 am1264_199 am1265_202 am1266_207))) false) f0_first_144 f0_second_145 f0_kings_146 f0_toMove_147 f0_pastTop_148 f0_pastSize_149 f0_squareCount_150 f0_taken_151 f0_wanted_152 f0_seen_153 f0_most_154 f0_beginnings_155 am1171_158 am1172_161 am1173_164 am1174_167 am1175_170 am1176_173 x3_174)) f0_first_109 f0_second_110 f0_kings_111 f0_toMove_112 f0_pastTop_113 f0_pastSize_114 f0_squareCount_115 f0_taken_116 f0_wanted_117 f0_seen_118 f0_most_119 f0_beginnings_120 am941_123 am942_126 am943_129 am944_132 am945_135 am946_142)) false) false)) f0_first f0_second f0_kings f0_toMove f0_pastTop f0_pastSize f0_squareCount f0_taken f0_wanted f0_seen f0_most f0_beginnings am491 am492 am493 am494 am495 am496 t1)) false) (db_z (x3 + (-1)) (fun x3_105 => db_z (x4 + 1) (fun x4_106 => J36 x2_103 x3_105 x4_106 f0_first f0_second f0_kings f0_toMove f0_pastTop f0_pastSize f0_squareCount f0_taken f0_wanted f0_seen f0_most f0_beginnings am491 am492 am493 am494 am495 am496))))
theorem ds_plays_80 {post : Int32 → St2 → Prop} {kb : Int32 → db_K} {WJ36 : Int32 → Int32 → Int32 → Int32 → Int32 → Int32 → Int32 → Int32 → Int32 → Int32 → Int32 → Int32 → Int32 → Int32 → Int32 → (Nat → Int32) → (Nat → Int32) → (Nat → Int32) → (Nat → Int32) → (Nat → Int32) → (Nat → Int32) → Prop} {J36 : Int32 → Int32 → Int32 → Int32 → Int32 → Int32 → Int32 → Int32 → Int32 → Int32 → Int32 → Int32 → Int32 → Int32 → Int32 → List Int32 → List Int32 → List Int32 → List Int32 → List Int32 → List Int32 → Bool} {x1 : Int32} {x3 : Int32} {x4 : Int32} {x5 : Int32} {z0 : Int32} {z1 : Int32} {f0_first : Int32} {f0_second : Int32} {f0_kings : Int32} {f0_toMove : Int32} {f0_pastTop : Int32} {f0_pastSize : Int32} {f0_squareCount : Int32} {f0_taken : Int32} {f0_wanted : Int32} {f0_seen : Int32} {f0_most : Int32} {f0_beginnings : Int32} {am491 : List Int32} {am492 : List Int32} {am493 : List Int32} {am494 : List Int32} {am495 : List Int32} {am496 : List Int32} (h : db_plays_80 kb J36 x1 x3 x4 x5 z0 z1 f0_first f0_second f0_kings f0_toMove f0_pastTop f0_pastSize f0_squareCount f0_taken f0_wanted f0_seen f0_most f0_beginnings am491 am492 am493 am494 am495 am496 = true) (hk : ∀ r f0_first f0_second f0_kings f0_toMove f0_pastTop f0_pastSize f0_squareCount f0_taken f0_wanted f0_seen f0_most f0_beginnings a1 a2 a3 a4 a5 a6, kb r f0_first f0_second f0_kings f0_toMove f0_pastTop f0_pastSize f0_squareCount f0_taken f0_wanted f0_seen f0_most f0_beginnings a1 a2 a3 a4 a5 a6 = true → post r (f0_first, f0_second, f0_kings, f0_toMove, f0_pastTop, f0_pastSize, f0_squareCount, f0_taken, f0_wanted, f0_seen, f0_most, f0_beginnings, db_g a1, db_g a2, db_g a3, db_g a4, db_g a5, db_g a6)) (hJ36 : ∀ v0 v1 v2 v3 v4 v5 v6 v7 v8 v9 v10 v11 v12 v13 v14 v15 v16 v17 v18 v19 v20, J36 v0 v1 v2 v3 v4 v5 v6 v7 v8 v9 v10 v11 v12 v13 v14 v15 v16 v17 v18 v19 v20 = true → WJ36 v0 v1 v2 v3 v4 v5 v6 v7 v8 v9 v10 v11 v12 v13 v14 (db_g v15) (db_g v16) (db_g v17) (db_g v18) (db_g v19) (db_g v20)) : wX_plays_80 post WJ36 x1 x3 x4 x5 z0 z1 f0_first f0_second f0_kings f0_toMove f0_pastTop f0_pastSize f0_squareCount f0_taken f0_wanted f0_seen f0_most f0_beginnings (db_g am491) (db_g am492) (db_g am493) (db_g am494) (db_g am495) (db_g am496) := by
  unfold db_plays_80 at h
  unfold wX_plays_80
  refine dc_let h (fun x2_103 h => ?_)
  refine dc_eq h (fun h => ?_) (fun h => ?_)
  · refine dc_in h (by decide) (fun h => ?_)
    have h := dz_ok h
    refine ds_seek h (fun r_108 f0_first_109 f0_second_110 f0_kings_111 f0_toMove_112 f0_pastTop_113 f0_pastSize_114 f0_squareCount_115 f0_taken_116 f0_wanted_117 f0_seen_118 f0_most_119 f0_beginnings_120 am941_123 am942_126 am943_129 am944_132 am945_135 am946_138 h => ?_)
    refine dc_eq h (fun h => ?_) (fun h => ?_)
    · refine dc_let h (fun x3_209 h => ?_)
      refine dc_let h (fun x4_210 h => ?_)
      exact hJ36 _ _ _ _ _ _ _ _ _ _ _ _ _ _ _ _ _ _ _ _ _ h
    · refine dc_in h (by decide) (fun h => ?_)
      refine dc_in h (by decide) (fun h => ?_)
      refine dc_st h (fun am946_142 h => ?_)
      refine ds_carry h (fun r_143 f0_first_144 f0_second_145 f0_kings_146 f0_toMove_147 f0_pastTop_148 f0_pastSize_149 f0_squareCount_150 f0_taken_151 f0_wanted_152 f0_seen_153 f0_most_154 f0_beginnings_155 am1171_158 am1172_161 am1173_164 am1174_167 am1175_170 am1176_173 h => ?_)
      refine dc_let h (fun x3_174 h => ?_)
      refine ds_save h (fun f0_first_176 f0_second_177 f0_kings_178 f0_toMove_179 f0_pastTop_180 f0_pastSize_181 f0_squareCount_182 f0_taken_183 f0_wanted_184 f0_seen_185 f0_most_186 f0_beginnings_187 am1261_190 am1262_193 am1263_196 am1264_199 am1265_202 am1266_205 h => ?_)
      refine dc_in h (by decide) (fun h => ?_)
      refine dc_st h (fun am1266_207 h => ?_)
      refine dc_let h (fun x4_208 h => ?_)
      exact hJ36 _ _ _ _ _ _ _ _ _ _ _ _ _ _ _ _ _ _ _ _ _ h
  · refine dc_let h (fun x3_105 h => ?_)
    refine dc_let h (fun x4_106 h => ?_)
    exact hJ36 _ _ _ _ _ _ _ _ _ _ _ _ _ _ _ _ _ _ _ _ _ h
def db_plays_64 (kb : Int32 → db_K) (J36 : Int32 → Int32 → Int32 → Int32 → Int32 → Int32 → Int32 → Int32 → Int32 → Int32 → Int32 → Int32 → Int32 → Int32 → Int32 → List Int32 → List Int32 → List Int32 → List Int32 → List Int32 → List Int32 → Bool) (x1 : Int32) (x2 : Int32) (x3 : Int32) (x4 : Int32) (z0 : Int32) (f0_first : Int32) (f0_second : Int32) (f0_kings : Int32) (f0_toMove : Int32) (f0_pastTop : Int32) (f0_pastSize : Int32) (f0_squareCount : Int32) (f0_taken : Int32) (f0_wanted : Int32) (f0_seen : Int32) (f0_most : Int32) (f0_beginnings : Int32) (am491 : List Int32) (am492 : List Int32) (am493 : List Int32) (am494 : List Int32) (am495 : List Int32) (am496 : List Int32) : Bool := cond (db_eq (z0) (0)) (db_plays_80 kb J36 x1 x3 x4 z0 0 x2 f0_first f0_second f0_kings f0_toMove f0_pastTop f0_pastSize f0_squareCount f0_taken f0_wanted f0_seen f0_most f0_beginnings am491 am492 am493 am494 am495 am496) (db_moves (fun r_211 f0_first_212 f0_second_213 f0_kings_214 f0_toMove_215 f0_pastTop_216 f0_pastSize_217 f0_squareCount_218 f0_taken_219 f0_wanted_220 f0_seen_221 f0_most_222 f0_beginnings_223 am731_226 am732_229 am733_232 am734_235 am735_238 am736_241 => db_plays_80 kb J36 x1 x3 x4 z0 r_211 x2 f0_first_212 f0_second_213 f0_kings_214 f0_toMove_215 f0_pastTop_216 f0_pastSize_217 f0_squareCount_218 f0_taken_219 f0_wanted_220 f0_seen_221 f0_most_222 f0_beginnings_223 am731_226 am732_229 am733_232 am734_235 am735_238 am736_241) f0_first f0_second f0_kings f0_toMove f0_pastTop f0_pastSize f0_squareCount f0_taken f0_wanted f0_seen f0_most f0_beginnings am491 am492 am493 am494 am495 am496)
theorem ds_plays_64 {post : Int32 → St2 → Prop} {kb : Int32 → db_K} {WJ36 : Int32 → Int32 → Int32 → Int32 → Int32 → Int32 → Int32 → Int32 → Int32 → Int32 → Int32 → Int32 → Int32 → Int32 → Int32 → (Nat → Int32) → (Nat → Int32) → (Nat → Int32) → (Nat → Int32) → (Nat → Int32) → (Nat → Int32) → Prop} {J36 : Int32 → Int32 → Int32 → Int32 → Int32 → Int32 → Int32 → Int32 → Int32 → Int32 → Int32 → Int32 → Int32 → Int32 → Int32 → List Int32 → List Int32 → List Int32 → List Int32 → List Int32 → List Int32 → Bool} {x1 : Int32} {x2 : Int32} {x3 : Int32} {x4 : Int32} {z0 : Int32} {f0_first : Int32} {f0_second : Int32} {f0_kings : Int32} {f0_toMove : Int32} {f0_pastTop : Int32} {f0_pastSize : Int32} {f0_squareCount : Int32} {f0_taken : Int32} {f0_wanted : Int32} {f0_seen : Int32} {f0_most : Int32} {f0_beginnings : Int32} {am491 : List Int32} {am492 : List Int32} {am493 : List Int32} {am494 : List Int32} {am495 : List Int32} {am496 : List Int32} (h : db_plays_64 kb J36 x1 x2 x3 x4 z0 f0_first f0_second f0_kings f0_toMove f0_pastTop f0_pastSize f0_squareCount f0_taken f0_wanted f0_seen f0_most f0_beginnings am491 am492 am493 am494 am495 am496 = true) (hk : ∀ r f0_first f0_second f0_kings f0_toMove f0_pastTop f0_pastSize f0_squareCount f0_taken f0_wanted f0_seen f0_most f0_beginnings a1 a2 a3 a4 a5 a6, kb r f0_first f0_second f0_kings f0_toMove f0_pastTop f0_pastSize f0_squareCount f0_taken f0_wanted f0_seen f0_most f0_beginnings a1 a2 a3 a4 a5 a6 = true → post r (f0_first, f0_second, f0_kings, f0_toMove, f0_pastTop, f0_pastSize, f0_squareCount, f0_taken, f0_wanted, f0_seen, f0_most, f0_beginnings, db_g a1, db_g a2, db_g a3, db_g a4, db_g a5, db_g a6)) (hJ36 : ∀ v0 v1 v2 v3 v4 v5 v6 v7 v8 v9 v10 v11 v12 v13 v14 v15 v16 v17 v18 v19 v20, J36 v0 v1 v2 v3 v4 v5 v6 v7 v8 v9 v10 v11 v12 v13 v14 v15 v16 v17 v18 v19 v20 = true → WJ36 v0 v1 v2 v3 v4 v5 v6 v7 v8 v9 v10 v11 v12 v13 v14 (db_g v15) (db_g v16) (db_g v17) (db_g v18) (db_g v19) (db_g v20)) : wX_plays_64 post WJ36 x1 x2 x3 x4 z0 f0_first f0_second f0_kings f0_toMove f0_pastTop f0_pastSize f0_squareCount f0_taken f0_wanted f0_seen f0_most f0_beginnings (db_g am491) (db_g am492) (db_g am493) (db_g am494) (db_g am495) (db_g am496) := by
  unfold db_plays_64 at h
  unfold wX_plays_64
  refine dc_eq h (fun h => ?_) (fun h => ?_)
  · exact ds_plays_80 h hk hJ36
  · refine ds_moves h (fun r_211 f0_first_212 f0_second_213 f0_kings_214 f0_toMove_215 f0_pastTop_216 f0_pastSize_217 f0_squareCount_218 f0_taken_219 f0_wanted_220 f0_seen_221 f0_most_222 f0_beginnings_223 am731_226 am732_229 am733_232 am734_235 am735_238 am736_241 h => ?_)
    exact ds_plays_80 h hk hJ36
def db_plays_36 (kb : Int32 → db_K) (x1 : Int32) : Nat → Int32 → Int32 → Int32 → Int32 → Int32 → Int32 → Int32 → Int32 → Int32 → Int32 → Int32 → Int32 → Int32 → Int32 → Int32 → List Int32 → List Int32 → List Int32 → List Int32 → List Int32 → List Int32 → Bool
  | 0 => fun _ _ _ _ _ _ _ _ _ _ _ _ _ _ _ _ _ _ _ _ _ => false
  | n + 1 => fun x2 x3 x4 f0_first f0_second f0_kings f0_toMove f0_pastTop f0_pastSize f0_squareCount f0_taken f0_wanted f0_seen f0_most f0_beginnings am301 am302 am303 am304 am305 am306 => cond (db_le (1048576) (x4)) (db_plays_142 kb x2 f0_first f0_second f0_kings f0_toMove f0_pastTop f0_pastSize f0_squareCount f0_taken f0_wanted f0_seen f0_most f0_beginnings am301 am302 am303 am304 am305 am306) (cond (db_lt (x3) (0)) (db_plays_142 kb x2 f0_first f0_second f0_kings f0_toMove f0_pastTop f0_pastSize f0_squareCount f0_taken f0_wanted f0_seen f0_most f0_beginnings am301 am302 am303 am304 am305 am306) (db_restore (fun f0_first_71 f0_second_72 f0_kings_73 f0_toMove_74 f0_pastTop_75 f0_pastSize_76 f0_squareCount_77 f0_taken_78 f0_wanted_79 f0_seen_80 f0_most_81 f0_beginnings_82 am491_85 am492_88 am493_91 am494_94 am495_97 am496_100 => cond (db_eq (x3) ((x1 - 1))) (db_plays_64 kb (db_plays_36 kb x1 n) x1 x2 x3 x4 1 f0_first_71 f0_second_72 f0_kings_73 f0_toMove_74 f0_pastTop_75 f0_pastSize_76 f0_squareCount_77 f0_taken_78 f0_wanted_79 f0_seen_80 f0_most_81 f0_beginnings_82 am491_85 am492_88 am493_91 am494_94 am495_97 am496_100) (db_plays_64 kb (db_plays_36 kb x1 n) x1 x2 x3 x4 0 f0_first_71 f0_second_72 f0_kings_73 f0_toMove_74 f0_pastTop_75 f0_pastSize_76 f0_squareCount_77 f0_taken_78 f0_wanted_79 f0_seen_80 f0_most_81 f0_beginnings_82 am491_85 am492_88 am493_91 am494_94 am495_97 am496_100)) f0_first f0_second f0_kings f0_toMove f0_pastTop f0_pastSize f0_squareCount f0_taken f0_wanted f0_seen f0_most f0_beginnings am301 am302 am303 am304 am305 am306 x3))
theorem ds_plays_36 {post : Int32 → St2 → Prop} {kb : Int32 → db_K} {x1 : Int32} (hk : ∀ r f0_first f0_second f0_kings f0_toMove f0_pastTop f0_pastSize f0_squareCount f0_taken f0_wanted f0_seen f0_most f0_beginnings a1 a2 a3 a4 a5 a6, kb r f0_first f0_second f0_kings f0_toMove f0_pastTop f0_pastSize f0_squareCount f0_taken f0_wanted f0_seen f0_most f0_beginnings a1 a2 a3 a4 a5 a6 = true → post r (f0_first, f0_second, f0_kings, f0_toMove, f0_pastTop, f0_pastSize, f0_squareCount, f0_taken, f0_wanted, f0_seen, f0_most, f0_beginnings, db_g a1, db_g a2, db_g a3, db_g a4, db_g a5, db_g a6)) : ∀ (n : Nat) {x2 : Int32} {x3 : Int32} {x4 : Int32} {f0_first : Int32} {f0_second : Int32} {f0_kings : Int32} {f0_toMove : Int32} {f0_pastTop : Int32} {f0_pastSize : Int32} {f0_squareCount : Int32} {f0_taken : Int32} {f0_wanted : Int32} {f0_seen : Int32} {f0_most : Int32} {f0_beginnings : Int32} {am301 : List Int32} {am302 : List Int32} {am303 : List Int32} {am304 : List Int32} {am305 : List Int32} {am306 : List Int32} (h : db_plays_36 kb x1 n x2 x3 x4 f0_first f0_second f0_kings f0_toMove f0_pastTop f0_pastSize f0_squareCount f0_taken f0_wanted f0_seen f0_most f0_beginnings am301 am302 am303 am304 am305 am306 = true), wX_plays_36 post x1 n x2 x3 x4 f0_first f0_second f0_kings f0_toMove f0_pastTop f0_pastSize f0_squareCount f0_taken f0_wanted f0_seen f0_most f0_beginnings (db_g am301) (db_g am302) (db_g am303) (db_g am304) (db_g am305) (db_g am306) := by
  intro n
  induction n with
  | zero => intro x2 x3 x4 f0_first f0_second f0_kings f0_toMove f0_pastTop f0_pastSize f0_squareCount f0_taken f0_wanted f0_seen f0_most f0_beginnings am301 am302 am303 am304 am305 am306 h; exact absurd h Bool.false_ne_true
  | succ n ih =>
    intro x2 x3 x4 f0_first f0_second f0_kings f0_toMove f0_pastTop f0_pastSize f0_squareCount f0_taken f0_wanted f0_seen f0_most f0_beginnings am301 am302 am303 am304 am305 am306 h
    unfold db_plays_36 at h
    unfold wX_plays_36
    refine dc_le h (fun h => ?_) (fun h => ?_)
    · exact ds_plays_142 h hk
    · refine dc_lt h (fun h => ?_) (fun h => ?_)
      · exact ds_plays_142 h hk
      · refine ds_restore h (fun f0_first_71 f0_second_72 f0_kings_73 f0_toMove_74 f0_pastTop_75 f0_pastSize_76 f0_squareCount_77 f0_taken_78 f0_wanted_79 f0_seen_80 f0_most_81 f0_beginnings_82 am491_85 am492_88 am493_91 am494_94 am495_97 am496_100 h => ?_)
        refine dc_eq h (fun h => ?_) (fun h => ?_)
        · exact ds_plays_64 h hk (fun _ _ _ _ _ _ _ _ _ _ _ _ _ _ _ _ _ _ _ _ _ h => ih h)
        · exact ds_plays_64 h hk (fun _ _ _ _ _ _ _ _ _ _ _ _ _ _ _ _ _ _ _ _ _ h => ih h)
def db_plays (kb : Int32 → db_K) (f0_first : Int32) (f0_second : Int32) (f0_kings : Int32) (f0_toMove : Int32) (f0_pastTop : Int32) (f0_pastSize : Int32) (f0_squareCount : Int32) (f0_taken : Int32) (f0_wanted : Int32) (f0_seen : Int32) (f0_most : Int32) (f0_beginnings : Int32) (a1 : List Int32) (a2 : List Int32) (a3 : List Int32) (a4 : List Int32) (a5 : List Int32) (a6 : List Int32) (p0 : Int32) : Bool := cond (db_lt (p0) (0)) (kb (-1) f0_first f0_second f0_kings f0_toMove f0_pastTop f0_pastSize f0_squareCount f0_taken f0_wanted f0_seen f0_most f0_beginnings a1 a2 a3 a4 a5 a6) (cond (db_le (p0) (3)) (cond (db_eq (p0) (0)) (kb 1 f0_first f0_second f0_kings f0_toMove f0_pastTop f0_pastSize f0_squareCount f0_taken f0_wanted f0_seen f0_most f0_beginnings a1 a2 a3 a4 a5 a6) (db_up a6 (0) (0) (fun a6_5 => db_save (fun f0_first_7 f0_second_8 f0_kings_9 f0_toMove_10 f0_pastTop_11 f0_pastSize_12 f0_squareCount_13 f0_taken_14 f0_wanted_15 f0_seen_16 f0_most_17 f0_beginnings_18 am301_21 am302_24 am303_27 am304_30 am305_33 am306_36 => db_plays_36 kb p0 1000 0 0 0 f0_first_7 f0_second_8 f0_kings_9 f0_toMove_10 f0_pastTop_11 f0_pastSize_12 f0_squareCount_13 f0_taken_14 f0_wanted_15 f0_seen_16 f0_most_17 f0_beginnings_18 am301_21 am302_24 am303_27 am304_30 am305_33 am306_36) f0_first f0_second f0_kings f0_toMove f0_pastTop f0_pastSize f0_squareCount f0_taken f0_wanted f0_seen f0_most f0_beginnings a1 a2 a3 a4 a5 a6_5 0))) (kb (-1) f0_first f0_second f0_kings f0_toMove f0_pastTop f0_pastSize f0_squareCount f0_taken f0_wanted f0_seen f0_most f0_beginnings a1 a2 a3 a4 a5 a6))
theorem ds_plays {post : Int32 → St2 → Prop} {kb : Int32 → db_K} {f0_first : Int32} {f0_second : Int32} {f0_kings : Int32} {f0_toMove : Int32} {f0_pastTop : Int32} {f0_pastSize : Int32} {f0_squareCount : Int32} {f0_taken : Int32} {f0_wanted : Int32} {f0_seen : Int32} {f0_most : Int32} {f0_beginnings : Int32} {a1 : List Int32} {a2 : List Int32} {a3 : List Int32} {a4 : List Int32} {a5 : List Int32} {a6 : List Int32} {p0 : Int32} (h : db_plays kb f0_first f0_second f0_kings f0_toMove f0_pastTop f0_pastSize f0_squareCount f0_taken f0_wanted f0_seen f0_most f0_beginnings a1 a2 a3 a4 a5 a6 p0 = true) (hk : ∀ r f0_first f0_second f0_kings f0_toMove f0_pastTop f0_pastSize f0_squareCount f0_taken f0_wanted f0_seen f0_most f0_beginnings a1 a2 a3 a4 a5 a6, kb r f0_first f0_second f0_kings f0_toMove f0_pastTop f0_pastSize f0_squareCount f0_taken f0_wanted f0_seen f0_most f0_beginnings a1 a2 a3 a4 a5 a6 = true → post r (f0_first, f0_second, f0_kings, f0_toMove, f0_pastTop, f0_pastSize, f0_squareCount, f0_taken, f0_wanted, f0_seen, f0_most, f0_beginnings, db_g a1, db_g a2, db_g a3, db_g a4, db_g a5, db_g a6)) : wpX_plays post (f0_first, f0_second, f0_kings, f0_toMove, f0_pastTop, f0_pastSize, f0_squareCount, f0_taken, f0_wanted, f0_seen, f0_most, f0_beginnings, db_g a1, db_g a2, db_g a3, db_g a4, db_g a5, db_g a6) p0 := by
  unfold db_plays at h
  unfold wpX_plays
  refine dc_lt h (fun h => ?_) (fun h => ?_)
  · exact hk _ _ _ _ _ _ _ _ _ _ _ _ _ _ _ _ _ _ _ h
  · refine dc_le h (fun h => ?_) (fun h => ?_)
    · refine dc_eq h (fun h => ?_) (fun h => ?_)
      · exact hk _ _ _ _ _ _ _ _ _ _ _ _ _ _ _ _ _ _ _ h
      · refine dc_st h (fun a6_5 h => ?_)
        refine ds_save h (fun f0_first_7 f0_second_8 f0_kings_9 f0_toMove_10 f0_pastTop_11 f0_pastSize_12 f0_squareCount_13 f0_taken_14 f0_wanted_15 f0_seen_16 f0_most_17 f0_beginnings_18 am301_21 am302_24 am303_27 am304_30 am305_33 am306_36 h => ?_)
        refine ⟨1000, ?_⟩
        exact ds_plays_36 hk 1000 h
    · exact hk _ _ _ _ _ _ _ _ _ _ _ _ _ _ _ _ _ _ _ h
end
section
def db_zs : Nat → List Int32
  | 0 => []
  | Nat.succ n => 0 :: db_zs n
theorem db_zs_g (n : Nat) : db_g (db_zs n) = fun _ => 0 := by
  induction n with
  | zero => funext j; rfl
  | succ n ih =>
    funext j
    cases j with
    | zero => rfl
    | succ j => exact congrFun ih j
theorem da_init {post : St2 → Prop} (h : post (0, 0, 0, 0, 0, 0, 0, 0, 0, 0, 0, 0, db_g (db_zs 80), db_g (db_zs 12), db_g (db_zs 12), db_g (db_zs 12), db_g (db_zs 16), db_g (db_zs 4))) : wpX_init post 6 136 (0, 0, 0, 0, 0, 0, 0, 0, 0, 0, 0, 0) := by
  rw [db_zs_g, db_zs_g, db_zs_g, db_zs_g] at h
  exact ⟨by decide, by decide, by decide, by decide, by decide, by decide, by decide, by decide, by decide, by decide, by decide, by decide, h⟩
def db_all7 (f : Int32 → Bool) : Bool := cond (f 0) (cond (f 1) (cond (f 2) (cond (f 3) (cond (f 4) (cond (f 5) (f 6) false) false) false) false) false) false
theorem da_seven {x p0 : Int32} (e : x = (p0 &&& 65535) - (p0 &&& 65535) / 7 * 7) : ∃ k : Nat, k < 7 ∧ x = nI k := by
  obtain ⟨j, hj, hx⟩ := pk_andE p0 (m := 65535) 16 (by decide)
  refine ⟨j % 7, Nat.mod_lt _ (by decide), ?_⟩
  rw [e, hx]
  exact pk_rem (d := 7) (by omega) (by decide) (by decide)
theorem da_and {A B : Bool} (h : cond A B false = true) : A = true ∧ B = true := by
  cases A with
  | true => exact ⟨rfl, h⟩
  | false => exact absurd h Bool.false_ne_true
theorem da_all7 {x p0 : Int32} {f : Int32 → Bool} {P : Int32 → Prop} (e : x = (p0 &&& 65535) - (p0 &&& 65535) / 7 * 7) (h : db_all7 f = true) (hk : ∀ k, f k = true → P k) : P x := by
  obtain ⟨k, hk7, hx⟩ := da_seven e
  obtain ⟨h0, h⟩ := da_and h
  obtain ⟨h1, h⟩ := da_and h
  obtain ⟨h2, h⟩ := da_and h
  obtain ⟨h3, h⟩ := da_and h
  obtain ⟨h4, h⟩ := da_and h
  obtain ⟨h5, h6⟩ := da_and h
  rw [hx]
  match k, hk7 with
  | 0, _ => exact hk 0 h0
  | 1, _ => exact hk 1 h1
  | 2, _ => exact hk 2 h2
  | 3, _ => exact hk 3 h3
  | 4, _ => exact hk 4 h4
  | 5, _ => exact hk 5 h5
  | 6, _ => exact hk 6 h6
def db_L693 (kb : Int32 → Bool) (x4 : Int32) (x16 : Int32) (x18 : Int32) (x19 : Int32) (x20 : Int32) (z0 : Int32) (fm0_first : Int32) (fm0_second : Int32) (fm0_kings : Int32) (fm0_toMove : Int32) (fm0_pastTop : Int32) (fm0_pastSize : Int32) (fm0_squareCount : Int32) (fm0_taken : Int32) (fm0_wanted : Int32) (fm0_seen : Int32) (fm0_most : Int32) (fm0_beginnings : Int32) (am6351 : List Int32) (am6352 : List Int32) (am6353 : List Int32) (am6354 : List Int32) (am6355 : List Int32) (am6356 : List Int32) : Bool := cond (db_eq (x4) (0)) (kb 0) (cond (db_eq (x19) ((x16 - 1))) (db_at (fun r_404 => cond (db_eq (r_404) (2)) (db_at (fun r_406 => cond (db_eq (r_406) (0)) (db_count (fun r_408 => cond (db_eq (r_408) ((x20 - z0))) (db_count (fun r_410 => cond (db_eq (r_410) (0)) (kb 1) (kb 0)) fm0_first fm0_second fm0_kings fm0_toMove fm0_pastTop fm0_pastSize fm0_squareCount fm0_taken fm0_wanted fm0_seen fm0_most fm0_beginnings am6351 am6352 am6353 am6354 am6355 am6356 4) (kb 0)) fm0_first fm0_second fm0_kings fm0_toMove fm0_pastTop fm0_pastSize fm0_squareCount fm0_taken fm0_wanted fm0_seen fm0_most fm0_beginnings am6351 am6352 am6353 am6354 am6355 am6356 3) (kb 0)) fm0_first fm0_second fm0_kings fm0_toMove fm0_pastTop fm0_pastSize fm0_squareCount fm0_taken fm0_wanted fm0_seen fm0_most fm0_beginnings am6351 am6352 am6353 am6354 am6355 am6356 0) (kb 0)) fm0_first fm0_second fm0_kings fm0_toMove fm0_pastTop fm0_pastSize fm0_squareCount fm0_taken fm0_wanted fm0_seen fm0_most fm0_beginnings am6351 am6352 am6353 am6354 am6355 am6356 x18) (kb 0))
theorem ds_L693 {post : Int32 → St0 → Prop} {kb : Int32 → Bool} {mc : Nat} {ms : Nat} {x4 : Int32} {x16 : Int32} {x18 : Int32} {x19 : Int32} {x20 : Int32} {z0 : Int32} {kc : Nat} {ks : Nat} {fm0_first : Int32} {fm0_second : Int32} {fm0_kings : Int32} {fm0_toMove : Int32} {fm0_pastTop : Int32} {fm0_pastSize : Int32} {fm0_squareCount : Int32} {fm0_taken : Int32} {fm0_wanted : Int32} {fm0_seen : Int32} {fm0_most : Int32} {fm0_beginnings : Int32} {am6351 : List Int32} {am6352 : List Int32} {am6353 : List Int32} {am6354 : List Int32} {am6355 : List Int32} {am6356 : List Int32} (h : db_L693 kb x4 x16 x18 x19 x20 z0 fm0_first fm0_second fm0_kings fm0_toMove fm0_pastTop fm0_pastSize fm0_squareCount fm0_taken fm0_wanted fm0_seen fm0_most fm0_beginnings am6351 am6352 am6353 am6354 am6355 am6356 = true) (hk : ∀ r, kb r = true → post r ()) : wL_lawOf_693 post mc ms x4 x16 x18 x19 x20 z0 kc ks fm0_first fm0_second fm0_kings fm0_toMove fm0_pastTop fm0_pastSize fm0_squareCount fm0_taken fm0_wanted fm0_seen fm0_most fm0_beginnings (db_g am6351) (db_g am6352) (db_g am6353) (db_g am6354) (db_g am6355) (db_g am6356) := by
  unfold db_L693 at h
  unfold wL_lawOf_693
  refine dc_eq h (fun h => ?_) (fun h => ?_)
  · exact hk _ h
  · refine dc_eq h (fun h => ?_) (fun h => ?_)
    · refine ds_at h (fun r_404 h => ?_)
      refine dc_eq h (fun h => ?_) (fun h => ?_)
      · refine ds_at h (fun r_406 h => ?_)
        refine dc_eq h (fun h => ?_) (fun h => ?_)
        · refine ds_count h (fun r_408 h => ?_)
          refine dc_eq h (fun h => ?_) (fun h => ?_)
          · refine ds_count h (fun r_410 h => ?_)
            refine dc_eq h (fun h => ?_) (fun h => ?_)
            · exact hk _ h
            · exact hk _ h
          · exact hk _ h
        · exact hk _ h
      · exact hk _ h
    · exact hk _ h
def db_L662 (kb : Int32 → Bool) (x4 : Int32) (x8 : Int32) (x9 : Int32) (x10 : Int32) (x16 : Int32) (x18 : Int32) (x19 : Int32) (z0 : Int32) (z1 : Int32) (fm0_first : Int32) (fm0_second : Int32) (fm0_kings : Int32) (fm0_toMove : Int32) (fm0_pastTop : Int32) (fm0_pastSize : Int32) (fm0_squareCount : Int32) (fm0_taken : Int32) (fm0_wanted : Int32) (fm0_seen : Int32) (fm0_most : Int32) (fm0_beginnings : Int32) (am6351 : List Int32) (am6352 : List Int32) (am6353 : List Int32) (am6354 : List Int32) (am6355 : List Int32) (am6356 : List Int32) : Bool := db_z (z1 + z0) (fun x20_399 => cond (db_eq (x9) (0)) (cond (db_eq (x8) (0)) (db_L693 kb x4 x16 x18 x19 x20_399 1 fm0_first fm0_second fm0_kings fm0_toMove fm0_pastTop fm0_pastSize fm0_squareCount fm0_taken fm0_wanted fm0_seen fm0_most fm0_beginnings am6351 am6352 am6353 am6354 am6355 am6356) (db_L693 kb x4 x16 x18 x19 x20_399 2 fm0_first fm0_second fm0_kings fm0_toMove fm0_pastTop fm0_pastSize fm0_squareCount fm0_taken fm0_wanted fm0_seen fm0_most fm0_beginnings am6351 am6352 am6353 am6354 am6355 am6356)) (cond (db_eq (x10) (0)) (db_L693 kb x4 x16 x18 x19 x20_399 1 fm0_first fm0_second fm0_kings fm0_toMove fm0_pastTop fm0_pastSize fm0_squareCount fm0_taken fm0_wanted fm0_seen fm0_most fm0_beginnings am6351 am6352 am6353 am6354 am6355 am6356) (db_L693 kb x4 x16 x18 x19 x20_399 2 fm0_first fm0_second fm0_kings fm0_toMove fm0_pastTop fm0_pastSize fm0_squareCount fm0_taken fm0_wanted fm0_seen fm0_most fm0_beginnings am6351 am6352 am6353 am6354 am6355 am6356)))
theorem ds_L662 {post : Int32 → St0 → Prop} {kb : Int32 → Bool} {mc : Nat} {ms : Nat} {x4 : Int32} {x8 : Int32} {x9 : Int32} {x10 : Int32} {x16 : Int32} {x18 : Int32} {x19 : Int32} {z0 : Int32} {z1 : Int32} {kc : Nat} {ks : Nat} {fm0_first : Int32} {fm0_second : Int32} {fm0_kings : Int32} {fm0_toMove : Int32} {fm0_pastTop : Int32} {fm0_pastSize : Int32} {fm0_squareCount : Int32} {fm0_taken : Int32} {fm0_wanted : Int32} {fm0_seen : Int32} {fm0_most : Int32} {fm0_beginnings : Int32} {am6351 : List Int32} {am6352 : List Int32} {am6353 : List Int32} {am6354 : List Int32} {am6355 : List Int32} {am6356 : List Int32} (h : db_L662 kb x4 x8 x9 x10 x16 x18 x19 z0 z1 fm0_first fm0_second fm0_kings fm0_toMove fm0_pastTop fm0_pastSize fm0_squareCount fm0_taken fm0_wanted fm0_seen fm0_most fm0_beginnings am6351 am6352 am6353 am6354 am6355 am6356 = true) (hk : ∀ r, kb r = true → post r ()) : wL_lawOf_662 post mc ms x4 x8 x9 x10 x16 x18 x19 z0 z1 kc ks fm0_first fm0_second fm0_kings fm0_toMove fm0_pastTop fm0_pastSize fm0_squareCount fm0_taken fm0_wanted fm0_seen fm0_most fm0_beginnings (db_g am6351) (db_g am6352) (db_g am6353) (db_g am6354) (db_g am6355) (db_g am6356) := by
  unfold db_L662 at h
  unfold wL_lawOf_662
  refine dc_let h (fun x20_399 h => ?_)
  refine dc_eq h (fun h => ?_) (fun h => ?_)
  · refine dc_eq h (fun h => ?_) (fun h => ?_)
    · exact ds_L693 h hk
    · exact ds_L693 h hk
  · refine dc_eq h (fun h => ?_) (fun h => ?_)
    · exact ds_L693 h hk
    · exact ds_L693 h hk
def db_L651 (kb : Int32 → Bool) (x4 : Int32) (x8 : Int32) (x9 : Int32) (x10 : Int32) (x16 : Int32) (x18 : Int32) (x19 : Int32) (z0 : Int32) (z1 : Int32) (fm0_first : Int32) (fm0_second : Int32) (fm0_kings : Int32) (fm0_toMove : Int32) (fm0_pastTop : Int32) (fm0_pastSize : Int32) (fm0_squareCount : Int32) (fm0_taken : Int32) (fm0_wanted : Int32) (fm0_seen : Int32) (fm0_most : Int32) (fm0_beginnings : Int32) (am6351 : List Int32) (am6352 : List Int32) (am6353 : List Int32) (am6354 : List Int32) (am6355 : List Int32) (am6356 : List Int32) : Bool := cond (db_eq (x10) (0)) (db_z ((z1 + z0)) (fun t1 => db_L662 kb x4 x8 x9 x10 x16 x18 x19 0 t1 fm0_first fm0_second fm0_kings fm0_toMove fm0_pastTop fm0_pastSize fm0_squareCount fm0_taken fm0_wanted fm0_seen fm0_most fm0_beginnings am6351 am6352 am6353 am6354 am6355 am6356)) (db_z ((z1 + z0)) (fun t2 => db_L662 kb x4 x8 x9 x10 x16 x18 x19 1 t2 fm0_first fm0_second fm0_kings fm0_toMove fm0_pastTop fm0_pastSize fm0_squareCount fm0_taken fm0_wanted fm0_seen fm0_most fm0_beginnings am6351 am6352 am6353 am6354 am6355 am6356))
theorem ds_L651 {post : Int32 → St0 → Prop} {kb : Int32 → Bool} {mc : Nat} {ms : Nat} {x4 : Int32} {x8 : Int32} {x9 : Int32} {x10 : Int32} {x16 : Int32} {x18 : Int32} {x19 : Int32} {z0 : Int32} {z1 : Int32} {kc : Nat} {ks : Nat} {fm0_first : Int32} {fm0_second : Int32} {fm0_kings : Int32} {fm0_toMove : Int32} {fm0_pastTop : Int32} {fm0_pastSize : Int32} {fm0_squareCount : Int32} {fm0_taken : Int32} {fm0_wanted : Int32} {fm0_seen : Int32} {fm0_most : Int32} {fm0_beginnings : Int32} {am6351 : List Int32} {am6352 : List Int32} {am6353 : List Int32} {am6354 : List Int32} {am6355 : List Int32} {am6356 : List Int32} (h : db_L651 kb x4 x8 x9 x10 x16 x18 x19 z0 z1 fm0_first fm0_second fm0_kings fm0_toMove fm0_pastTop fm0_pastSize fm0_squareCount fm0_taken fm0_wanted fm0_seen fm0_most fm0_beginnings am6351 am6352 am6353 am6354 am6355 am6356 = true) (hk : ∀ r, kb r = true → post r ()) : wL_lawOf_651 post mc ms x4 x8 x9 x10 x16 x18 x19 z0 z1 kc ks fm0_first fm0_second fm0_kings fm0_toMove fm0_pastTop fm0_pastSize fm0_squareCount fm0_taken fm0_wanted fm0_seen fm0_most fm0_beginnings (db_g am6351) (db_g am6352) (db_g am6353) (db_g am6354) (db_g am6355) (db_g am6356) := by
  unfold db_L651 at h
  unfold wL_lawOf_651
  refine dc_eq h (fun h => ?_) (fun h => ?_)
  · have h := dz_ok h
    exact ds_L662 h hk
  · have h := dz_ok h
    exact ds_L662 h hk
def db_L631 (kb : Int32 → Bool) (x8 : Int32) (x9 : Int32) (x10 : Int32) (x16 : Int32) (x18 : Int32) (z0 : Int32) (fm0_first : Int32) (fm0_second : Int32) (fm0_kings : Int32) (fm0_toMove : Int32) (fm0_pastTop : Int32) (fm0_pastSize : Int32) (fm0_squareCount : Int32) (fm0_taken : Int32) (fm0_wanted : Int32) (fm0_seen : Int32) (fm0_most : Int32) (fm0_beginnings : Int32) (am4231 : List Int32) (am4232 : List Int32) (am4233 : List Int32) (am4234 : List Int32) (am4235 : List Int32) (am4236 : List Int32) : Bool := db_play (fun r_366 fm0_first_367 fm0_second_368 fm0_kings_369 fm0_toMove_370 fm0_pastTop_371 fm0_pastSize_372 fm0_squareCount_373 fm0_taken_374 fm0_wanted_375 fm0_seen_376 fm0_most_377 fm0_beginnings_378 am6351_381 am6352_384 am6353_387 am6354_390 am6355_393 am6356_396 => cond (db_eq (x8) (0)) (db_L651 kb z0 x8 x9 x10 x16 x18 r_366 0 1 fm0_first_367 fm0_second_368 fm0_kings_369 fm0_toMove_370 fm0_pastTop_371 fm0_pastSize_372 fm0_squareCount_373 fm0_taken_374 fm0_wanted_375 fm0_seen_376 fm0_most_377 fm0_beginnings_378 am6351_381 am6352_384 am6353_387 am6354_390 am6355_393 am6356_396) (db_L651 kb z0 x8 x9 x10 x16 x18 r_366 1 1 fm0_first_367 fm0_second_368 fm0_kings_369 fm0_toMove_370 fm0_pastTop_371 fm0_pastSize_372 fm0_squareCount_373 fm0_taken_374 fm0_wanted_375 fm0_seen_376 fm0_most_377 fm0_beginnings_378 am6351_381 am6352_384 am6353_387 am6354_390 am6355_393 am6356_396)) fm0_first fm0_second fm0_kings fm0_toMove fm0_pastTop fm0_pastSize fm0_squareCount fm0_taken fm0_wanted fm0_seen fm0_most fm0_beginnings am4231 am4232 am4233 am4234 am4235 am4236 0
theorem ds_L631 {post : Int32 → St0 → Prop} {kb : Int32 → Bool} {mc : Nat} {ms : Nat} {x8 : Int32} {x9 : Int32} {x10 : Int32} {x16 : Int32} {x18 : Int32} {z0 : Int32} {kc : Nat} {ks : Nat} {fm0_first : Int32} {fm0_second : Int32} {fm0_kings : Int32} {fm0_toMove : Int32} {fm0_pastTop : Int32} {fm0_pastSize : Int32} {fm0_squareCount : Int32} {fm0_taken : Int32} {fm0_wanted : Int32} {fm0_seen : Int32} {fm0_most : Int32} {fm0_beginnings : Int32} {am4231 : List Int32} {am4232 : List Int32} {am4233 : List Int32} {am4234 : List Int32} {am4235 : List Int32} {am4236 : List Int32} (h : db_L631 kb x8 x9 x10 x16 x18 z0 fm0_first fm0_second fm0_kings fm0_toMove fm0_pastTop fm0_pastSize fm0_squareCount fm0_taken fm0_wanted fm0_seen fm0_most fm0_beginnings am4231 am4232 am4233 am4234 am4235 am4236 = true) (hk : ∀ r, kb r = true → post r ()) : wL_lawOf_631 post mc ms x8 x9 x10 x16 x18 z0 kc ks fm0_first fm0_second fm0_kings fm0_toMove fm0_pastTop fm0_pastSize fm0_squareCount fm0_taken fm0_wanted fm0_seen fm0_most fm0_beginnings (db_g am4231) (db_g am4232) (db_g am4233) (db_g am4234) (db_g am4235) (db_g am4236) := by
  unfold db_L631 at h
  unfold wL_lawOf_631
  refine ds_play h (fun r_366 fm0_first_367 fm0_second_368 fm0_kings_369 fm0_toMove_370 fm0_pastTop_371 fm0_pastSize_372 fm0_squareCount_373 fm0_taken_374 fm0_wanted_375 fm0_seen_376 fm0_most_377 fm0_beginnings_378 am6351_381 am6352_384 am6353_387 am6354_390 am6355_393 am6356_396 h => ?_)
  refine dc_eq h (fun h => ?_) (fun h => ?_)
  · exact ds_L651 h hk
  · exact ds_L651 h hk
def db_L612 (kb : Int32 → Bool) (x8 : Int32) (x9 : Int32) (x10 : Int32) (x16 : Int32) (x18 : Int32) (z0 : Int32) (z1 : Int32) (fm0_first : Int32) (fm0_second : Int32) (fm0_kings : Int32) (fm0_toMove : Int32) (fm0_pastTop : Int32) (fm0_pastSize : Int32) (fm0_squareCount : Int32) (fm0_taken : Int32) (fm0_wanted : Int32) (fm0_seen : Int32) (fm0_most : Int32) (fm0_beginnings : Int32) (am5881 : List Int32) (am5882 : List Int32) (am5883 : List Int32) (am5884 : List Int32) (am5885 : List Int32) (am5886 : List Int32) : Bool := cond (db_eq (z1) (z0)) (db_mostTaken (fun r_581 fm0_first_582 fm0_second_583 fm0_kings_584 fm0_toMove_585 fm0_pastTop_586 fm0_pastSize_587 fm0_squareCount_588 fm0_taken_589 fm0_wanted_590 fm0_seen_591 fm0_most_592 fm0_beginnings_593 am6161_596 am6162_599 am6163_602 am6164_605 am6165_608 am6166_611 => cond (db_eq (r_581) ((x16 - 1))) (db_L631 kb x8 x9 x10 x16 x18 1 fm0_first_582 fm0_second_583 fm0_kings_584 fm0_toMove_585 fm0_pastTop_586 fm0_pastSize_587 fm0_squareCount_588 fm0_taken_589 fm0_wanted_590 fm0_seen_591 fm0_most_592 fm0_beginnings_593 am6161_596 am6162_599 am6163_602 am6164_605 am6165_608 am6166_611) (false)) fm0_first fm0_second fm0_kings fm0_toMove fm0_pastTop fm0_pastSize fm0_squareCount fm0_taken fm0_wanted fm0_seen fm0_most fm0_beginnings am5881 am5882 am5883 am5884 am5885 am5886) (false)
theorem ds_L612 {post : Int32 → St0 → Prop} {kb : Int32 → Bool} {mc : Nat} {ms : Nat} {x8 : Int32} {x9 : Int32} {x10 : Int32} {x16 : Int32} {x18 : Int32} {z0 : Int32} {z1 : Int32} {kc : Nat} {ks : Nat} {fm0_first : Int32} {fm0_second : Int32} {fm0_kings : Int32} {fm0_toMove : Int32} {fm0_pastTop : Int32} {fm0_pastSize : Int32} {fm0_squareCount : Int32} {fm0_taken : Int32} {fm0_wanted : Int32} {fm0_seen : Int32} {fm0_most : Int32} {fm0_beginnings : Int32} {am5881 : List Int32} {am5882 : List Int32} {am5883 : List Int32} {am5884 : List Int32} {am5885 : List Int32} {am5886 : List Int32} (h : db_L612 kb x8 x9 x10 x16 x18 z0 z1 fm0_first fm0_second fm0_kings fm0_toMove fm0_pastTop fm0_pastSize fm0_squareCount fm0_taken fm0_wanted fm0_seen fm0_most fm0_beginnings am5881 am5882 am5883 am5884 am5885 am5886 = true) (hk : ∀ r, kb r = true → post r ()) : wL_lawOf_612 post mc ms x8 x9 x10 x16 x18 z0 z1 kc ks fm0_first fm0_second fm0_kings fm0_toMove fm0_pastTop fm0_pastSize fm0_squareCount fm0_taken fm0_wanted fm0_seen fm0_most fm0_beginnings (db_g am5881) (db_g am5882) (db_g am5883) (db_g am5884) (db_g am5885) (db_g am5886) := by
  unfold db_L612 at h
  unfold wL_lawOf_612
  refine dc_eq h (fun h => ?_) (fun h => ?_)
  · refine ds_mostTaken h (fun r_581 fm0_first_582 fm0_second_583 fm0_kings_584 fm0_toMove_585 fm0_pastTop_586 fm0_pastSize_587 fm0_squareCount_588 fm0_taken_589 fm0_wanted_590 fm0_seen_591 fm0_most_592 fm0_beginnings_593 am6161_596 am6162_599 am6163_602 am6164_605 am6165_608 am6166_611 h => ?_)
    refine dc_eq h (fun h => ?_) (fun h => ?_)
    · exact ds_L631 h hk
    · exact absurd h Bool.false_ne_true
  · exact absurd h Bool.false_ne_true
def db_L582 (kb : Int32 → Bool) (x8 : Int32) (x9 : Int32) (x10 : Int32) (x16 : Int32) (x18 : Int32) (z0 : Int32) (z1 : Int32) (fm0_first : Int32) (fm0_second : Int32) (fm0_kings : Int32) (fm0_toMove : Int32) (fm0_pastTop : Int32) (fm0_pastSize : Int32) (fm0_squareCount : Int32) (fm0_taken : Int32) (fm0_wanted : Int32) (fm0_seen : Int32) (fm0_most : Int32) (fm0_beginnings : Int32) (am5681 : List Int32) (am5682 : List Int32) (am5683 : List Int32) (am5684 : List Int32) (am5685 : List Int32) (am5686 : List Int32) : Bool := cond (db_eq (z1) (z0)) (db_path (fun r_547 fm0_first_548 fm0_second_549 fm0_kings_550 fm0_toMove_551 fm0_pastTop_552 fm0_pastSize_553 fm0_squareCount_554 fm0_taken_555 fm0_wanted_556 fm0_seen_557 fm0_most_558 fm0_beginnings_559 am5881_562 am5882_565 am5883_568 am5884_571 am5885_574 am5886_577 => cond (db_eq (x9) (0)) (cond (db_eq (x8) (0)) (db_L612 kb x8 x9 x10 x16 x18 (-1) r_547 fm0_first_548 fm0_second_549 fm0_kings_550 fm0_toMove_551 fm0_pastTop_552 fm0_pastSize_553 fm0_squareCount_554 fm0_taken_555 fm0_wanted_556 fm0_seen_557 fm0_most_558 fm0_beginnings_559 am5881_562 am5882_565 am5883_568 am5884_571 am5885_574 am5886_577) (db_L612 kb x8 x9 x10 x16 x18 18 r_547 fm0_first_548 fm0_second_549 fm0_kings_550 fm0_toMove_551 fm0_pastTop_552 fm0_pastSize_553 fm0_squareCount_554 fm0_taken_555 fm0_wanted_556 fm0_seen_557 fm0_most_558 fm0_beginnings_559 am5881_562 am5882_565 am5883_568 am5884_571 am5885_574 am5886_577)) (db_L612 kb x8 x9 x10 x16 x18 16 r_547 fm0_first_548 fm0_second_549 fm0_kings_550 fm0_toMove_551 fm0_pastTop_552 fm0_pastSize_553 fm0_squareCount_554 fm0_taken_555 fm0_wanted_556 fm0_seen_557 fm0_most_558 fm0_beginnings_559 am5881_562 am5882_565 am5883_568 am5884_571 am5885_574 am5886_577)) fm0_first fm0_second fm0_kings fm0_toMove fm0_pastTop fm0_pastSize fm0_squareCount fm0_taken fm0_wanted fm0_seen fm0_most fm0_beginnings am5681 am5682 am5683 am5684 am5685 am5686 0 2) (false)
theorem ds_L582 {post : Int32 → St0 → Prop} {kb : Int32 → Bool} {mc : Nat} {ms : Nat} {x8 : Int32} {x9 : Int32} {x10 : Int32} {x16 : Int32} {x18 : Int32} {z0 : Int32} {z1 : Int32} {kc : Nat} {ks : Nat} {fm0_first : Int32} {fm0_second : Int32} {fm0_kings : Int32} {fm0_toMove : Int32} {fm0_pastTop : Int32} {fm0_pastSize : Int32} {fm0_squareCount : Int32} {fm0_taken : Int32} {fm0_wanted : Int32} {fm0_seen : Int32} {fm0_most : Int32} {fm0_beginnings : Int32} {am5681 : List Int32} {am5682 : List Int32} {am5683 : List Int32} {am5684 : List Int32} {am5685 : List Int32} {am5686 : List Int32} (h : db_L582 kb x8 x9 x10 x16 x18 z0 z1 fm0_first fm0_second fm0_kings fm0_toMove fm0_pastTop fm0_pastSize fm0_squareCount fm0_taken fm0_wanted fm0_seen fm0_most fm0_beginnings am5681 am5682 am5683 am5684 am5685 am5686 = true) (hk : ∀ r, kb r = true → post r ()) : wL_lawOf_582 post mc ms x8 x9 x10 x16 x18 z0 z1 kc ks fm0_first fm0_second fm0_kings fm0_toMove fm0_pastTop fm0_pastSize fm0_squareCount fm0_taken fm0_wanted fm0_seen fm0_most fm0_beginnings (db_g am5681) (db_g am5682) (db_g am5683) (db_g am5684) (db_g am5685) (db_g am5686) := by
  unfold db_L582 at h
  unfold wL_lawOf_582
  refine dc_eq h (fun h => ?_) (fun h => ?_)
  · refine ds_path h (fun r_547 fm0_first_548 fm0_second_549 fm0_kings_550 fm0_toMove_551 fm0_pastTop_552 fm0_pastSize_553 fm0_squareCount_554 fm0_taken_555 fm0_wanted_556 fm0_seen_557 fm0_most_558 fm0_beginnings_559 am5881_562 am5882_565 am5883_568 am5884_571 am5885_574 am5886_577 h => ?_)
    refine dc_eq h (fun h => ?_) (fun h => ?_)
    · refine dc_eq h (fun h => ?_) (fun h => ?_)
      · exact ds_L612 h hk
      · exact ds_L612 h hk
    · exact ds_L612 h hk
  · exact absurd h Bool.false_ne_true
def db_L507 (kb : Int32 → Bool) (x4 : Int32) (x8 : Int32) (x9 : Int32) (x10 : Int32) (x11 : Int32) (x12 : Int32) (x13 : Int32) (x14 : Int32) (x15 : Int32) (x16 : Int32) (x17 : Int32) (z0 : Int32) (fm0_first : Int32) (fm0_second : Int32) (fm0_kings : Int32) (fm0_toMove : Int32) (fm0_pastTop : Int32) (fm0_pastSize : Int32) (fm0_squareCount : Int32) (fm0_taken : Int32) (fm0_wanted : Int32) (fm0_seen : Int32) (fm0_most : Int32) (fm0_beginnings : Int32) (am4231 : List Int32) (am4232 : List Int32) (am4233 : List Int32) (am4234 : List Int32) (am4235 : List Int32) (am4236 : List Int32) : Bool := cond (db_eq (x4) (0)) (false) (cond (db_eq (x11) (0)) (false) (cond (db_eq (x12) (0)) (false) (cond (db_eq (x13) (0)) (false) (cond (db_eq (x14) (0)) (false) (cond (db_eq (x15) (0)) (false) (db_movable (fun r_418 fm0_first_419 fm0_second_420 fm0_kings_421 fm0_toMove_422 fm0_pastTop_423 fm0_pastSize_424 fm0_squareCount_425 fm0_taken_426 fm0_wanted_427 fm0_seen_428 fm0_most_429 fm0_beginnings_430 am5401_433 am5402_436 am5403_439 am5404_442 am5405_445 am5406_448 => cond (db_eq (r_418) (1)) (db_moves (fun r_450 fm0_first_451 fm0_second_452 fm0_kings_453 fm0_toMove_454 fm0_pastTop_455 fm0_pastSize_456 fm0_squareCount_457 fm0_taken_458 fm0_wanted_459 fm0_seen_460 fm0_most_461 fm0_beginnings_462 am5481_465 am5482_468 am5483_471 am5484_474 am5485_477 am5486_480 => cond (db_eq (r_450) (x17)) (db_length (fun r_482 fm0_first_483 fm0_second_484 fm0_kings_485 fm0_toMove_486 fm0_pastTop_487 fm0_pastSize_488 fm0_squareCount_489 fm0_taken_490 fm0_wanted_491 fm0_seen_492 fm0_most_493 fm0_beginnings_494 am5581_497 am5582_500 am5583_503 am5584_506 am5585_509 am5586_512 => cond (db_eq (r_482) (x16)) (db_length (fun r_514 fm0_first_515 fm0_second_516 fm0_kings_517 fm0_toMove_518 fm0_pastTop_519 fm0_pastSize_520 fm0_squareCount_521 fm0_taken_522 fm0_wanted_523 fm0_seen_524 fm0_most_525 fm0_beginnings_526 am5681_529 am5682_532 am5683_535 am5684_538 am5685_541 am5686_544 => cond (db_eq (x17) (2)) (db_L582 kb x8 x9 x10 x16 z0 3 r_514 fm0_first_515 fm0_second_516 fm0_kings_517 fm0_toMove_518 fm0_pastTop_519 fm0_pastSize_520 fm0_squareCount_521 fm0_taken_522 fm0_wanted_523 fm0_seen_524 fm0_most_525 fm0_beginnings_526 am5681_529 am5682_532 am5683_535 am5684_538 am5685_541 am5686_544) (db_L582 kb x8 x9 x10 x16 z0 (-1) r_514 fm0_first_515 fm0_second_516 fm0_kings_517 fm0_toMove_518 fm0_pastTop_519 fm0_pastSize_520 fm0_squareCount_521 fm0_taken_522 fm0_wanted_523 fm0_seen_524 fm0_most_525 fm0_beginnings_526 am5681_529 am5682_532 am5683_535 am5684_538 am5685_541 am5686_544)) fm0_first_483 fm0_second_484 fm0_kings_485 fm0_toMove_486 fm0_pastTop_487 fm0_pastSize_488 fm0_squareCount_489 fm0_taken_490 fm0_wanted_491 fm0_seen_492 fm0_most_493 fm0_beginnings_494 am5581_497 am5582_500 am5583_503 am5584_506 am5585_509 am5586_512 1) (false)) fm0_first_451 fm0_second_452 fm0_kings_453 fm0_toMove_454 fm0_pastTop_455 fm0_pastSize_456 fm0_squareCount_457 fm0_taken_458 fm0_wanted_459 fm0_seen_460 fm0_most_461 fm0_beginnings_462 am5481_465 am5482_468 am5483_471 am5484_474 am5485_477 am5486_480 0) (false)) fm0_first_419 fm0_second_420 fm0_kings_421 fm0_toMove_422 fm0_pastTop_423 fm0_pastSize_424 fm0_squareCount_425 fm0_taken_426 fm0_wanted_427 fm0_seen_428 fm0_most_429 fm0_beginnings_430 am5401_433 am5402_436 am5403_439 am5404_442 am5405_445 am5406_448) (false)) fm0_first fm0_second fm0_kings fm0_toMove fm0_pastTop fm0_pastSize fm0_squareCount fm0_taken fm0_wanted fm0_seen fm0_most fm0_beginnings am4231 am4232 am4233 am4234 am4235 am4236))))))
theorem ds_L507 {post : Int32 → St0 → Prop} {kb : Int32 → Bool} {mc : Nat} {ms : Nat} {x4 : Int32} {x8 : Int32} {x9 : Int32} {x10 : Int32} {x11 : Int32} {x12 : Int32} {x13 : Int32} {x14 : Int32} {x15 : Int32} {x16 : Int32} {x17 : Int32} {z0 : Int32} {kc : Nat} {ks : Nat} {fm0_first : Int32} {fm0_second : Int32} {fm0_kings : Int32} {fm0_toMove : Int32} {fm0_pastTop : Int32} {fm0_pastSize : Int32} {fm0_squareCount : Int32} {fm0_taken : Int32} {fm0_wanted : Int32} {fm0_seen : Int32} {fm0_most : Int32} {fm0_beginnings : Int32} {am4231 : List Int32} {am4232 : List Int32} {am4233 : List Int32} {am4234 : List Int32} {am4235 : List Int32} {am4236 : List Int32} (h : db_L507 kb x4 x8 x9 x10 x11 x12 x13 x14 x15 x16 x17 z0 fm0_first fm0_second fm0_kings fm0_toMove fm0_pastTop fm0_pastSize fm0_squareCount fm0_taken fm0_wanted fm0_seen fm0_most fm0_beginnings am4231 am4232 am4233 am4234 am4235 am4236 = true) (hk : ∀ r, kb r = true → post r ()) : wL_lawOf_507 post mc ms x4 x8 x9 x10 x11 x12 x13 x14 x15 x16 x17 z0 kc ks fm0_first fm0_second fm0_kings fm0_toMove fm0_pastTop fm0_pastSize fm0_squareCount fm0_taken fm0_wanted fm0_seen fm0_most fm0_beginnings (db_g am4231) (db_g am4232) (db_g am4233) (db_g am4234) (db_g am4235) (db_g am4236) := by
  unfold db_L507 at h
  unfold wL_lawOf_507
  refine dc_eq h (fun h => ?_) (fun h => ?_)
  · exact absurd h Bool.false_ne_true
  · refine dc_eq h (fun h => ?_) (fun h => ?_)
    · exact absurd h Bool.false_ne_true
    · refine dc_eq h (fun h => ?_) (fun h => ?_)
      · exact absurd h Bool.false_ne_true
      · refine dc_eq h (fun h => ?_) (fun h => ?_)
        · exact absurd h Bool.false_ne_true
        · refine dc_eq h (fun h => ?_) (fun h => ?_)
          · exact absurd h Bool.false_ne_true
          · refine dc_eq h (fun h => ?_) (fun h => ?_)
            · exact absurd h Bool.false_ne_true
            · refine ds_movable h (fun r_418 fm0_first_419 fm0_second_420 fm0_kings_421 fm0_toMove_422 fm0_pastTop_423 fm0_pastSize_424 fm0_squareCount_425 fm0_taken_426 fm0_wanted_427 fm0_seen_428 fm0_most_429 fm0_beginnings_430 am5401_433 am5402_436 am5403_439 am5404_442 am5405_445 am5406_448 h => ?_)
              refine dc_eq h (fun h => ?_) (fun h => ?_)
              · refine ds_moves h (fun r_450 fm0_first_451 fm0_second_452 fm0_kings_453 fm0_toMove_454 fm0_pastTop_455 fm0_pastSize_456 fm0_squareCount_457 fm0_taken_458 fm0_wanted_459 fm0_seen_460 fm0_most_461 fm0_beginnings_462 am5481_465 am5482_468 am5483_471 am5484_474 am5485_477 am5486_480 h => ?_)
                refine dc_eq h (fun h => ?_) (fun h => ?_)
                · refine ds_length h (fun r_482 fm0_first_483 fm0_second_484 fm0_kings_485 fm0_toMove_486 fm0_pastTop_487 fm0_pastSize_488 fm0_squareCount_489 fm0_taken_490 fm0_wanted_491 fm0_seen_492 fm0_most_493 fm0_beginnings_494 am5581_497 am5582_500 am5583_503 am5584_506 am5585_509 am5586_512 h => ?_)
                  refine dc_eq h (fun h => ?_) (fun h => ?_)
                  · refine ds_length h (fun r_514 fm0_first_515 fm0_second_516 fm0_kings_517 fm0_toMove_518 fm0_pastTop_519 fm0_pastSize_520 fm0_squareCount_521 fm0_taken_522 fm0_wanted_523 fm0_seen_524 fm0_most_525 fm0_beginnings_526 am5681_529 am5682_532 am5683_535 am5684_538 am5685_541 am5686_544 h => ?_)
                    refine dc_eq h (fun h => ?_) (fun h => ?_)
                    · exact ds_L582 h hk
                    · exact ds_L582 h hk
                  · exact absurd h Bool.false_ne_true
                · exact absurd h Bool.false_ne_true
              · exact absurd h Bool.false_ne_true
def db_L473 (kb : Int32 → Bool) (x4 : Int32) (x8 : Int32) (x9 : Int32) (x10 : Int32) (x11 : Int32) (x12 : Int32) (x13 : Int32) (x14 : Int32) (x15 : Int32) (x16 : Int32) (z0 : Int32) (fm0_first : Int32) (fm0_second : Int32) (fm0_kings : Int32) (fm0_toMove : Int32) (fm0_pastTop : Int32) (fm0_pastSize : Int32) (fm0_squareCount : Int32) (fm0_taken : Int32) (fm0_wanted : Int32) (fm0_seen : Int32) (fm0_most : Int32) (fm0_beginnings : Int32) (am4231 : List Int32) (am4232 : List Int32) (am4233 : List Int32) (am4234 : List Int32) (am4235 : List Int32) (am4236 : List Int32) : Bool := cond (db_eq (x9) (0)) (cond (db_eq (x8) (0)) (db_L507 kb x4 x8 x9 x10 x11 x12 x13 x14 x15 x16 z0 9 fm0_first fm0_second fm0_kings fm0_toMove fm0_pastTop fm0_pastSize fm0_squareCount fm0_taken fm0_wanted fm0_seen fm0_most fm0_beginnings am4231 am4232 am4233 am4234 am4235 am4236) (db_L507 kb x4 x8 x9 x10 x11 x12 x13 x14 x15 x16 z0 18 fm0_first fm0_second fm0_kings fm0_toMove fm0_pastTop fm0_pastSize fm0_squareCount fm0_taken fm0_wanted fm0_seen fm0_most fm0_beginnings am4231 am4232 am4233 am4234 am4235 am4236)) (cond (db_eq (x10) (0)) (db_L507 kb x4 x8 x9 x10 x11 x12 x13 x14 x15 x16 z0 16 fm0_first fm0_second fm0_kings fm0_toMove fm0_pastTop fm0_pastSize fm0_squareCount fm0_taken fm0_wanted fm0_seen fm0_most fm0_beginnings am4231 am4232 am4233 am4234 am4235 am4236) (db_L507 kb x4 x8 x9 x10 x11 x12 x13 x14 x15 x16 z0 25 fm0_first fm0_second fm0_kings fm0_toMove fm0_pastTop fm0_pastSize fm0_squareCount fm0_taken fm0_wanted fm0_seen fm0_most fm0_beginnings am4231 am4232 am4233 am4234 am4235 am4236))
theorem ds_L473 {post : Int32 → St0 → Prop} {kb : Int32 → Bool} {mc : Nat} {ms : Nat} {x4 : Int32} {x8 : Int32} {x9 : Int32} {x10 : Int32} {x11 : Int32} {x12 : Int32} {x13 : Int32} {x14 : Int32} {x15 : Int32} {x16 : Int32} {z0 : Int32} {kc : Nat} {ks : Nat} {fm0_first : Int32} {fm0_second : Int32} {fm0_kings : Int32} {fm0_toMove : Int32} {fm0_pastTop : Int32} {fm0_pastSize : Int32} {fm0_squareCount : Int32} {fm0_taken : Int32} {fm0_wanted : Int32} {fm0_seen : Int32} {fm0_most : Int32} {fm0_beginnings : Int32} {am4231 : List Int32} {am4232 : List Int32} {am4233 : List Int32} {am4234 : List Int32} {am4235 : List Int32} {am4236 : List Int32} (h : db_L473 kb x4 x8 x9 x10 x11 x12 x13 x14 x15 x16 z0 fm0_first fm0_second fm0_kings fm0_toMove fm0_pastTop fm0_pastSize fm0_squareCount fm0_taken fm0_wanted fm0_seen fm0_most fm0_beginnings am4231 am4232 am4233 am4234 am4235 am4236 = true) (hk : ∀ r, kb r = true → post r ()) : wL_lawOf_473 post mc ms x4 x8 x9 x10 x11 x12 x13 x14 x15 x16 z0 kc ks fm0_first fm0_second fm0_kings fm0_toMove fm0_pastTop fm0_pastSize fm0_squareCount fm0_taken fm0_wanted fm0_seen fm0_most fm0_beginnings (db_g am4231) (db_g am4232) (db_g am4233) (db_g am4234) (db_g am4235) (db_g am4236) := by
  unfold db_L473 at h
  unfold wL_lawOf_473
  refine dc_eq h (fun h => ?_) (fun h => ?_)
  · refine dc_eq h (fun h => ?_) (fun h => ?_)
    · exact ds_L507 h hk
    · exact ds_L507 h hk
  · refine dc_eq h (fun h => ?_) (fun h => ?_)
    · exact ds_L507 h hk
    · exact ds_L507 h hk
def db_L472 (kb : Int32 → Bool) (x4 : Int32) (x8 : Int32) (x9 : Int32) (x10 : Int32) (x11 : Int32) (x12 : Int32) (x13 : Int32) (x14 : Int32) (x15 : Int32) (x16 : Int32) (fm0_first : Int32) (fm0_second : Int32) (fm0_kings : Int32) (fm0_toMove : Int32) (fm0_pastTop : Int32) (fm0_pastSize : Int32) (fm0_squareCount : Int32) (fm0_taken : Int32) (fm0_wanted : Int32) (fm0_seen : Int32) (fm0_most : Int32) (fm0_beginnings : Int32) (am4231 : List Int32) (am4232 : List Int32) (am4233 : List Int32) (am4234 : List Int32) (am4235 : List Int32) (am4236 : List Int32) : Bool := db_L473 kb x4 x8 x9 x10 x11 x12 x13 x14 x15 x16 1 fm0_first fm0_second fm0_kings fm0_toMove fm0_pastTop fm0_pastSize fm0_squareCount fm0_taken fm0_wanted fm0_seen fm0_most fm0_beginnings am4231 am4232 am4233 am4234 am4235 am4236
theorem ds_L472 {post : Int32 → St0 → Prop} {kb : Int32 → Bool} {mc : Nat} {ms : Nat} {x4 : Int32} {x8 : Int32} {x9 : Int32} {x10 : Int32} {x11 : Int32} {x12 : Int32} {x13 : Int32} {x14 : Int32} {x15 : Int32} {x16 : Int32} {kc : Nat} {ks : Nat} {fm0_first : Int32} {fm0_second : Int32} {fm0_kings : Int32} {fm0_toMove : Int32} {fm0_pastTop : Int32} {fm0_pastSize : Int32} {fm0_squareCount : Int32} {fm0_taken : Int32} {fm0_wanted : Int32} {fm0_seen : Int32} {fm0_most : Int32} {fm0_beginnings : Int32} {am4231 : List Int32} {am4232 : List Int32} {am4233 : List Int32} {am4234 : List Int32} {am4235 : List Int32} {am4236 : List Int32} (h : db_L472 kb x4 x8 x9 x10 x11 x12 x13 x14 x15 x16 fm0_first fm0_second fm0_kings fm0_toMove fm0_pastTop fm0_pastSize fm0_squareCount fm0_taken fm0_wanted fm0_seen fm0_most fm0_beginnings am4231 am4232 am4233 am4234 am4235 am4236 = true) (hk : ∀ r, kb r = true → post r ()) : wL_lawOf_472 post mc ms x4 x8 x9 x10 x11 x12 x13 x14 x15 x16 kc ks fm0_first fm0_second fm0_kings fm0_toMove fm0_pastTop fm0_pastSize fm0_squareCount fm0_taken fm0_wanted fm0_seen fm0_most fm0_beginnings (db_g am4231) (db_g am4232) (db_g am4233) (db_g am4234) (db_g am4235) (db_g am4236) := by
  unfold db_L472 at h
  unfold wL_lawOf_472
  exact ds_L473 h hk
def db_L456 (kb : Int32 → Bool) (x4 : Int32) (x8 : Int32) (x9 : Int32) (x10 : Int32) (x11 : Int32) (x12 : Int32) (x13 : Int32) (x14 : Int32) (x15 : Int32) (z0 : Int32) (fm0_first : Int32) (fm0_second : Int32) (fm0_kings : Int32) (fm0_toMove : Int32) (fm0_pastTop : Int32) (fm0_pastSize : Int32) (fm0_squareCount : Int32) (fm0_taken : Int32) (fm0_wanted : Int32) (fm0_seen : Int32) (fm0_most : Int32) (fm0_beginnings : Int32) (am4231 : List Int32) (am4232 : List Int32) (am4233 : List Int32) (am4234 : List Int32) (am4235 : List Int32) (am4236 : List Int32) : Bool := cond (db_eq (x8) (0)) (db_L472 kb x4 x8 x9 x10 x11 x12 x13 x14 x15 z0 fm0_first fm0_second fm0_kings fm0_toMove fm0_pastTop fm0_pastSize fm0_squareCount fm0_taken fm0_wanted fm0_seen fm0_most fm0_beginnings am4231 am4232 am4233 am4234 am4235 am4236) (cond (db_eq (x9) (0)) (db_L472 kb x4 x8 x9 x10 x11 x12 x13 x14 x15 z0 fm0_first fm0_second fm0_kings fm0_toMove fm0_pastTop fm0_pastSize fm0_squareCount fm0_taken fm0_wanted fm0_seen fm0_most fm0_beginnings am4231 am4232 am4233 am4234 am4235 am4236) (db_L473 kb x4 x8 x9 x10 x11 x12 x13 x14 x15 z0 2 fm0_first fm0_second fm0_kings fm0_toMove fm0_pastTop fm0_pastSize fm0_squareCount fm0_taken fm0_wanted fm0_seen fm0_most fm0_beginnings am4231 am4232 am4233 am4234 am4235 am4236))
theorem ds_L456 {post : Int32 → St0 → Prop} {kb : Int32 → Bool} {mc : Nat} {ms : Nat} {x4 : Int32} {x8 : Int32} {x9 : Int32} {x10 : Int32} {x11 : Int32} {x12 : Int32} {x13 : Int32} {x14 : Int32} {x15 : Int32} {z0 : Int32} {kc : Nat} {ks : Nat} {fm0_first : Int32} {fm0_second : Int32} {fm0_kings : Int32} {fm0_toMove : Int32} {fm0_pastTop : Int32} {fm0_pastSize : Int32} {fm0_squareCount : Int32} {fm0_taken : Int32} {fm0_wanted : Int32} {fm0_seen : Int32} {fm0_most : Int32} {fm0_beginnings : Int32} {am4231 : List Int32} {am4232 : List Int32} {am4233 : List Int32} {am4234 : List Int32} {am4235 : List Int32} {am4236 : List Int32} (h : db_L456 kb x4 x8 x9 x10 x11 x12 x13 x14 x15 z0 fm0_first fm0_second fm0_kings fm0_toMove fm0_pastTop fm0_pastSize fm0_squareCount fm0_taken fm0_wanted fm0_seen fm0_most fm0_beginnings am4231 am4232 am4233 am4234 am4235 am4236 = true) (hk : ∀ r, kb r = true → post r ()) : wL_lawOf_456 post mc ms x4 x8 x9 x10 x11 x12 x13 x14 x15 z0 kc ks fm0_first fm0_second fm0_kings fm0_toMove fm0_pastTop fm0_pastSize fm0_squareCount fm0_taken fm0_wanted fm0_seen fm0_most fm0_beginnings (db_g am4231) (db_g am4232) (db_g am4233) (db_g am4234) (db_g am4235) (db_g am4236) := by
  unfold db_L456 at h
  unfold wL_lawOf_456
  refine dc_eq h (fun h => ?_) (fun h => ?_)
  · exact ds_L472 h hk
  · refine dc_eq h (fun h => ?_) (fun h => ?_)
    · exact ds_L472 h hk
    · exact ds_L473 h hk
def db_L423 (kb : Int32 → Bool) (x4 : Int32) (x8 : Int32) (x9 : Int32) (x10 : Int32) (x11 : Int32) (x12 : Int32) (x13 : Int32) (x14 : Int32) (z0 : Int32) (z1 : Int32) (fm0_first : Int32) (fm0_second : Int32) (fm0_kings : Int32) (fm0_toMove : Int32) (fm0_pastTop : Int32) (fm0_pastSize : Int32) (fm0_squareCount : Int32) (fm0_taken : Int32) (fm0_wanted : Int32) (fm0_seen : Int32) (fm0_most : Int32) (fm0_beginnings : Int32) (am4051 : List Int32) (am4052 : List Int32) (am4053 : List Int32) (am4054 : List Int32) (am4055 : List Int32) (am4056 : List Int32) : Bool := db_place (fun r_329 fm0_first_330 fm0_second_331 fm0_kings_332 fm0_toMove_333 fm0_pastTop_334 fm0_pastSize_335 fm0_squareCount_336 fm0_taken_337 fm0_wanted_338 fm0_seen_339 fm0_most_340 fm0_beginnings_341 am4231_344 am4232_347 am4233_350 am4234_353 am4235_356 am4236_359 => cond (db_eq (x9) (0)) (cond (db_eq (x8) (0)) (db_L456 kb x4 x8 x9 x10 x11 x12 x13 x14 r_329 2 fm0_first_330 fm0_second_331 fm0_kings_332 fm0_toMove_333 fm0_pastTop_334 fm0_pastSize_335 fm0_squareCount_336 fm0_taken_337 fm0_wanted_338 fm0_seen_339 fm0_most_340 fm0_beginnings_341 am4231_344 am4232_347 am4233_350 am4234_353 am4235_356 am4236_359) (db_L456 kb x4 x8 x9 x10 x11 x12 x13 x14 r_329 3 fm0_first_330 fm0_second_331 fm0_kings_332 fm0_toMove_333 fm0_pastTop_334 fm0_pastSize_335 fm0_squareCount_336 fm0_taken_337 fm0_wanted_338 fm0_seen_339 fm0_most_340 fm0_beginnings_341 am4231_344 am4232_347 am4233_350 am4234_353 am4235_356 am4236_359)) (cond (db_eq (x10) (0)) (db_L456 kb x4 x8 x9 x10 x11 x12 x13 x14 r_329 3 fm0_first_330 fm0_second_331 fm0_kings_332 fm0_toMove_333 fm0_pastTop_334 fm0_pastSize_335 fm0_squareCount_336 fm0_taken_337 fm0_wanted_338 fm0_seen_339 fm0_most_340 fm0_beginnings_341 am4231_344 am4232_347 am4233_350 am4234_353 am4235_356 am4236_359) (db_L456 kb x4 x8 x9 x10 x11 x12 x13 x14 r_329 4 fm0_first_330 fm0_second_331 fm0_kings_332 fm0_toMove_333 fm0_pastTop_334 fm0_pastSize_335 fm0_squareCount_336 fm0_taken_337 fm0_wanted_338 fm0_seen_339 fm0_most_340 fm0_beginnings_341 am4231_344 am4232_347 am4233_350 am4234_353 am4235_356 am4236_359))) fm0_first fm0_second fm0_kings fm0_toMove fm0_pastTop fm0_pastSize fm0_squareCount fm0_taken fm0_wanted fm0_seen fm0_most fm0_beginnings am4051 am4052 am4053 am4054 am4055 am4056 z1 z0
theorem ds_L423 {post : Int32 → St0 → Prop} {kb : Int32 → Bool} {mc : Nat} {ms : Nat} {x4 : Int32} {x8 : Int32} {x9 : Int32} {x10 : Int32} {x11 : Int32} {x12 : Int32} {x13 : Int32} {x14 : Int32} {z0 : Int32} {z1 : Int32} {kc : Nat} {ks : Nat} {fm0_first : Int32} {fm0_second : Int32} {fm0_kings : Int32} {fm0_toMove : Int32} {fm0_pastTop : Int32} {fm0_pastSize : Int32} {fm0_squareCount : Int32} {fm0_taken : Int32} {fm0_wanted : Int32} {fm0_seen : Int32} {fm0_most : Int32} {fm0_beginnings : Int32} {am4051 : List Int32} {am4052 : List Int32} {am4053 : List Int32} {am4054 : List Int32} {am4055 : List Int32} {am4056 : List Int32} (h : db_L423 kb x4 x8 x9 x10 x11 x12 x13 x14 z0 z1 fm0_first fm0_second fm0_kings fm0_toMove fm0_pastTop fm0_pastSize fm0_squareCount fm0_taken fm0_wanted fm0_seen fm0_most fm0_beginnings am4051 am4052 am4053 am4054 am4055 am4056 = true) (hk : ∀ r, kb r = true → post r ()) : wL_lawOf_423 post mc ms x4 x8 x9 x10 x11 x12 x13 x14 z0 z1 kc ks fm0_first fm0_second fm0_kings fm0_toMove fm0_pastTop fm0_pastSize fm0_squareCount fm0_taken fm0_wanted fm0_seen fm0_most fm0_beginnings (db_g am4051) (db_g am4052) (db_g am4053) (db_g am4054) (db_g am4055) (db_g am4056) := by
  unfold db_L423 at h
  unfold wL_lawOf_423
  refine ds_place h (fun r_329 fm0_first_330 fm0_second_331 fm0_kings_332 fm0_toMove_333 fm0_pastTop_334 fm0_pastSize_335 fm0_squareCount_336 fm0_taken_337 fm0_wanted_338 fm0_seen_339 fm0_most_340 fm0_beginnings_341 am4231_344 am4232_347 am4233_350 am4234_353 am4235_356 am4236_359 h => ?_)
  refine dc_eq h (fun h => ?_) (fun h => ?_)
  · refine dc_eq h (fun h => ?_) (fun h => ?_)
    · exact ds_L456 h hk
    · exact ds_L456 h hk
  · refine dc_eq h (fun h => ?_) (fun h => ?_)
    · exact ds_L456 h hk
    · exact ds_L456 h hk
def db_L405 (kb : Int32 → Bool) (x4 : Int32) (x8 : Int32) (x9 : Int32) (x10 : Int32) (x11 : Int32) (x12 : Int32) (x13 : Int32) (z0 : Int32) (z1 : Int32) (fm0_first : Int32) (fm0_second : Int32) (fm0_kings : Int32) (fm0_toMove : Int32) (fm0_pastTop : Int32) (fm0_pastSize : Int32) (fm0_squareCount : Int32) (fm0_taken : Int32) (fm0_wanted : Int32) (fm0_seen : Int32) (fm0_most : Int32) (fm0_beginnings : Int32) (am3871 : List Int32) (am3872 : List Int32) (am3873 : List Int32) (am3874 : List Int32) (am3875 : List Int32) (am3876 : List Int32) : Bool := db_place (fun r_297 fm0_first_298 fm0_second_299 fm0_kings_300 fm0_toMove_301 fm0_pastTop_302 fm0_pastSize_303 fm0_squareCount_304 fm0_taken_305 fm0_wanted_306 fm0_seen_307 fm0_most_308 fm0_beginnings_309 am4051_312 am4052_315 am4053_318 am4054_321 am4055_324 am4056_327 => cond (db_eq (x10) (0)) (db_L423 kb x4 x8 x9 x10 x11 x12 x13 r_297 0 21 fm0_first_298 fm0_second_299 fm0_kings_300 fm0_toMove_301 fm0_pastTop_302 fm0_pastSize_303 fm0_squareCount_304 fm0_taken_305 fm0_wanted_306 fm0_seen_307 fm0_most_308 fm0_beginnings_309 am4051_312 am4052_315 am4053_318 am4054_321 am4055_324 am4056_327) (db_L423 kb x4 x8 x9 x10 x11 x12 x13 r_297 3 21 fm0_first_298 fm0_second_299 fm0_kings_300 fm0_toMove_301 fm0_pastTop_302 fm0_pastSize_303 fm0_squareCount_304 fm0_taken_305 fm0_wanted_306 fm0_seen_307 fm0_most_308 fm0_beginnings_309 am4051_312 am4052_315 am4053_318 am4054_321 am4055_324 am4056_327)) fm0_first fm0_second fm0_kings fm0_toMove fm0_pastTop fm0_pastSize fm0_squareCount fm0_taken fm0_wanted fm0_seen fm0_most fm0_beginnings am3871 am3872 am3873 am3874 am3875 am3876 z1 z0
theorem ds_L405 {post : Int32 → St0 → Prop} {kb : Int32 → Bool} {mc : Nat} {ms : Nat} {x4 : Int32} {x8 : Int32} {x9 : Int32} {x10 : Int32} {x11 : Int32} {x12 : Int32} {x13 : Int32} {z0 : Int32} {z1 : Int32} {kc : Nat} {ks : Nat} {fm0_first : Int32} {fm0_second : Int32} {fm0_kings : Int32} {fm0_toMove : Int32} {fm0_pastTop : Int32} {fm0_pastSize : Int32} {fm0_squareCount : Int32} {fm0_taken : Int32} {fm0_wanted : Int32} {fm0_seen : Int32} {fm0_most : Int32} {fm0_beginnings : Int32} {am3871 : List Int32} {am3872 : List Int32} {am3873 : List Int32} {am3874 : List Int32} {am3875 : List Int32} {am3876 : List Int32} (h : db_L405 kb x4 x8 x9 x10 x11 x12 x13 z0 z1 fm0_first fm0_second fm0_kings fm0_toMove fm0_pastTop fm0_pastSize fm0_squareCount fm0_taken fm0_wanted fm0_seen fm0_most fm0_beginnings am3871 am3872 am3873 am3874 am3875 am3876 = true) (hk : ∀ r, kb r = true → post r ()) : wL_lawOf_405 post mc ms x4 x8 x9 x10 x11 x12 x13 z0 z1 kc ks fm0_first fm0_second fm0_kings fm0_toMove fm0_pastTop fm0_pastSize fm0_squareCount fm0_taken fm0_wanted fm0_seen fm0_most fm0_beginnings (db_g am3871) (db_g am3872) (db_g am3873) (db_g am3874) (db_g am3875) (db_g am3876) := by
  unfold db_L405 at h
  unfold wL_lawOf_405
  refine ds_place h (fun r_297 fm0_first_298 fm0_second_299 fm0_kings_300 fm0_toMove_301 fm0_pastTop_302 fm0_pastSize_303 fm0_squareCount_304 fm0_taken_305 fm0_wanted_306 fm0_seen_307 fm0_most_308 fm0_beginnings_309 am4051_312 am4052_315 am4053_318 am4054_321 am4055_324 am4056_327 h => ?_)
  refine dc_eq h (fun h => ?_) (fun h => ?_)
  · exact ds_L423 h hk
  · exact ds_L423 h hk
def db_L387 (kb : Int32 → Bool) (x4 : Int32) (x8 : Int32) (x9 : Int32) (x10 : Int32) (x11 : Int32) (x12 : Int32) (z0 : Int32) (z1 : Int32) (fm0_first : Int32) (fm0_second : Int32) (fm0_kings : Int32) (fm0_toMove : Int32) (fm0_pastTop : Int32) (fm0_pastSize : Int32) (fm0_squareCount : Int32) (fm0_taken : Int32) (fm0_wanted : Int32) (fm0_seen : Int32) (fm0_most : Int32) (fm0_beginnings : Int32) (am3691 : List Int32) (am3692 : List Int32) (am3693 : List Int32) (am3694 : List Int32) (am3695 : List Int32) (am3696 : List Int32) : Bool := db_place (fun r_265 fm0_first_266 fm0_second_267 fm0_kings_268 fm0_toMove_269 fm0_pastTop_270 fm0_pastSize_271 fm0_squareCount_272 fm0_taken_273 fm0_wanted_274 fm0_seen_275 fm0_most_276 fm0_beginnings_277 am3871_280 am3872_283 am3873_286 am3874_289 am3875_292 am3876_295 => cond (db_eq (x9) (0)) (db_L405 kb x4 x8 x9 x10 x11 x12 r_265 0 13 fm0_first_266 fm0_second_267 fm0_kings_268 fm0_toMove_269 fm0_pastTop_270 fm0_pastSize_271 fm0_squareCount_272 fm0_taken_273 fm0_wanted_274 fm0_seen_275 fm0_most_276 fm0_beginnings_277 am3871_280 am3872_283 am3873_286 am3874_289 am3875_292 am3876_295) (db_L405 kb x4 x8 x9 x10 x11 x12 r_265 4 13 fm0_first_266 fm0_second_267 fm0_kings_268 fm0_toMove_269 fm0_pastTop_270 fm0_pastSize_271 fm0_squareCount_272 fm0_taken_273 fm0_wanted_274 fm0_seen_275 fm0_most_276 fm0_beginnings_277 am3871_280 am3872_283 am3873_286 am3874_289 am3875_292 am3876_295)) fm0_first fm0_second fm0_kings fm0_toMove fm0_pastTop fm0_pastSize fm0_squareCount fm0_taken fm0_wanted fm0_seen fm0_most fm0_beginnings am3691 am3692 am3693 am3694 am3695 am3696 z1 z0
theorem ds_L387 {post : Int32 → St0 → Prop} {kb : Int32 → Bool} {mc : Nat} {ms : Nat} {x4 : Int32} {x8 : Int32} {x9 : Int32} {x10 : Int32} {x11 : Int32} {x12 : Int32} {z0 : Int32} {z1 : Int32} {kc : Nat} {ks : Nat} {fm0_first : Int32} {fm0_second : Int32} {fm0_kings : Int32} {fm0_toMove : Int32} {fm0_pastTop : Int32} {fm0_pastSize : Int32} {fm0_squareCount : Int32} {fm0_taken : Int32} {fm0_wanted : Int32} {fm0_seen : Int32} {fm0_most : Int32} {fm0_beginnings : Int32} {am3691 : List Int32} {am3692 : List Int32} {am3693 : List Int32} {am3694 : List Int32} {am3695 : List Int32} {am3696 : List Int32} (h : db_L387 kb x4 x8 x9 x10 x11 x12 z0 z1 fm0_first fm0_second fm0_kings fm0_toMove fm0_pastTop fm0_pastSize fm0_squareCount fm0_taken fm0_wanted fm0_seen fm0_most fm0_beginnings am3691 am3692 am3693 am3694 am3695 am3696 = true) (hk : ∀ r, kb r = true → post r ()) : wL_lawOf_387 post mc ms x4 x8 x9 x10 x11 x12 z0 z1 kc ks fm0_first fm0_second fm0_kings fm0_toMove fm0_pastTop fm0_pastSize fm0_squareCount fm0_taken fm0_wanted fm0_seen fm0_most fm0_beginnings (db_g am3691) (db_g am3692) (db_g am3693) (db_g am3694) (db_g am3695) (db_g am3696) := by
  unfold db_L387 at h
  unfold wL_lawOf_387
  refine ds_place h (fun r_265 fm0_first_266 fm0_second_267 fm0_kings_268 fm0_toMove_269 fm0_pastTop_270 fm0_pastSize_271 fm0_squareCount_272 fm0_taken_273 fm0_wanted_274 fm0_seen_275 fm0_most_276 fm0_beginnings_277 am3871_280 am3872_283 am3873_286 am3874_289 am3875_292 am3876_295 h => ?_)
  refine dc_eq h (fun h => ?_) (fun h => ?_)
  · exact ds_L405 h hk
  · exact ds_L405 h hk
def db_L356 (kb : Int32 → Bool) (x4 : Int32) (x8 : Int32) (x9 : Int32) (z0 : Int32) (fm0_first : Int32) (fm0_second : Int32) (fm0_kings : Int32) (fm0_toMove : Int32) (fm0_pastTop : Int32) (fm0_pastSize : Int32) (fm0_squareCount : Int32) (fm0_taken : Int32) (fm0_wanted : Int32) (fm0_seen : Int32) (fm0_most : Int32) (fm0_beginnings : Int32) (am1561 : List Int32) (am1562 : List Int32) (am1563 : List Int32) (am1564 : List Int32) (am1565 : List Int32) (am1566 : List Int32) : Bool := db_place (fun r_202 fm0_first_203 fm0_second_204 fm0_kings_205 fm0_toMove_206 fm0_pastTop_207 fm0_pastSize_208 fm0_squareCount_209 fm0_taken_210 fm0_wanted_211 fm0_seen_212 fm0_most_213 fm0_beginnings_214 am3611_217 am3612_220 am3613_223 am3614_226 am3615_229 am3616_232 => db_place (fun r_233 fm0_first_234 fm0_second_235 fm0_kings_236 fm0_toMove_237 fm0_pastTop_238 fm0_pastSize_239 fm0_squareCount_240 fm0_taken_241 fm0_wanted_242 fm0_seen_243 fm0_most_244 fm0_beginnings_245 am3691_248 am3692_251 am3693_254 am3694_257 am3695_260 am3696_263 => cond (db_eq (x8) (0)) (db_L387 kb x4 x8 x9 z0 r_202 r_233 0 14 fm0_first_234 fm0_second_235 fm0_kings_236 fm0_toMove_237 fm0_pastTop_238 fm0_pastSize_239 fm0_squareCount_240 fm0_taken_241 fm0_wanted_242 fm0_seen_243 fm0_most_244 fm0_beginnings_245 am3691_248 am3692_251 am3693_254 am3694_257 am3695_260 am3696_263) (db_L387 kb x4 x8 x9 z0 r_202 r_233 3 14 fm0_first_234 fm0_second_235 fm0_kings_236 fm0_toMove_237 fm0_pastTop_238 fm0_pastSize_239 fm0_squareCount_240 fm0_taken_241 fm0_wanted_242 fm0_seen_243 fm0_most_244 fm0_beginnings_245 am3691_248 am3692_251 am3693_254 am3694_257 am3695_260 am3696_263)) fm0_first_203 fm0_second_204 fm0_kings_205 fm0_toMove_206 fm0_pastTop_207 fm0_pastSize_208 fm0_squareCount_209 fm0_taken_210 fm0_wanted_211 fm0_seen_212 fm0_most_213 fm0_beginnings_214 am3611_217 am3612_220 am3613_223 am3614_226 am3615_229 am3616_232 5 3) fm0_first fm0_second fm0_kings fm0_toMove fm0_pastTop fm0_pastSize fm0_squareCount fm0_taken fm0_wanted fm0_seen fm0_most fm0_beginnings am1561 am1562 am1563 am1564 am1565 am1566 0 2
theorem ds_L356 {post : Int32 → St0 → Prop} {kb : Int32 → Bool} {mc : Nat} {ms : Nat} {x4 : Int32} {x8 : Int32} {x9 : Int32} {z0 : Int32} {kc : Nat} {ks : Nat} {fm0_first : Int32} {fm0_second : Int32} {fm0_kings : Int32} {fm0_toMove : Int32} {fm0_pastTop : Int32} {fm0_pastSize : Int32} {fm0_squareCount : Int32} {fm0_taken : Int32} {fm0_wanted : Int32} {fm0_seen : Int32} {fm0_most : Int32} {fm0_beginnings : Int32} {am1561 : List Int32} {am1562 : List Int32} {am1563 : List Int32} {am1564 : List Int32} {am1565 : List Int32} {am1566 : List Int32} (h : db_L356 kb x4 x8 x9 z0 fm0_first fm0_second fm0_kings fm0_toMove fm0_pastTop fm0_pastSize fm0_squareCount fm0_taken fm0_wanted fm0_seen fm0_most fm0_beginnings am1561 am1562 am1563 am1564 am1565 am1566 = true) (hk : ∀ r, kb r = true → post r ()) : wL_lawOf_356 post mc ms x4 x8 x9 z0 kc ks fm0_first fm0_second fm0_kings fm0_toMove fm0_pastTop fm0_pastSize fm0_squareCount fm0_taken fm0_wanted fm0_seen fm0_most fm0_beginnings (db_g am1561) (db_g am1562) (db_g am1563) (db_g am1564) (db_g am1565) (db_g am1566) := by
  unfold db_L356 at h
  unfold wL_lawOf_356
  refine ds_place h (fun r_202 fm0_first_203 fm0_second_204 fm0_kings_205 fm0_toMove_206 fm0_pastTop_207 fm0_pastSize_208 fm0_squareCount_209 fm0_taken_210 fm0_wanted_211 fm0_seen_212 fm0_most_213 fm0_beginnings_214 am3611_217 am3612_220 am3613_223 am3614_226 am3615_229 am3616_232 h => ?_)
  refine ds_place h (fun r_233 fm0_first_234 fm0_second_235 fm0_kings_236 fm0_toMove_237 fm0_pastTop_238 fm0_pastSize_239 fm0_squareCount_240 fm0_taken_241 fm0_wanted_242 fm0_seen_243 fm0_most_244 fm0_beginnings_245 am3691_248 am3692_251 am3693_254 am3694_257 am3695_260 am3696_263 h => ?_)
  refine dc_eq h (fun h => ?_) (fun h => ?_)
  · exact ds_L387 h hk
  · exact ds_L387 h hk
def db_L342 (kb : Int32 → Bool) (x4 : Int32) (x8 : Int32) (z0 : Int32) (fm0_first : Int32) (fm0_second : Int32) (fm0_kings : Int32) (fm0_toMove : Int32) (fm0_pastTop : Int32) (fm0_pastSize : Int32) (fm0_squareCount : Int32) (fm0_taken : Int32) (fm0_wanted : Int32) (fm0_seen : Int32) (fm0_most : Int32) (fm0_beginnings : Int32) (am1561 : List Int32) (am1562 : List Int32) (am1563 : List Int32) (am1564 : List Int32) (am1565 : List Int32) (am1566 : List Int32) : Bool := cond (db_L356 kb x4 x8 z0 1 fm0_first fm0_second fm0_kings fm0_toMove fm0_pastTop fm0_pastSize fm0_squareCount fm0_taken fm0_wanted fm0_seen fm0_most fm0_beginnings am1561 am1562 am1563 am1564 am1565 am1566) (db_L356 kb x4 x8 z0 0 fm0_first fm0_second fm0_kings fm0_toMove fm0_pastTop fm0_pastSize fm0_squareCount fm0_taken fm0_wanted fm0_seen fm0_most fm0_beginnings am1561 am1562 am1563 am1564 am1565 am1566) false
theorem ds_L342 {post : Int32 → St0 → Prop} {kb : Int32 → Bool} {mc : Nat} {ms : Nat} {x1 : Int32} {x4 : Int32} {x8 : Int32} {z0 : Int32} {kc : Nat} {ks : Nat} {fm0_first : Int32} {fm0_second : Int32} {fm0_kings : Int32} {fm0_toMove : Int32} {fm0_pastTop : Int32} {fm0_pastSize : Int32} {fm0_squareCount : Int32} {fm0_taken : Int32} {fm0_wanted : Int32} {fm0_seen : Int32} {fm0_most : Int32} {fm0_beginnings : Int32} {am1561 : List Int32} {am1562 : List Int32} {am1563 : List Int32} {am1564 : List Int32} {am1565 : List Int32} {am1566 : List Int32} (h : db_L342 kb x4 x8 z0 fm0_first fm0_second fm0_kings fm0_toMove fm0_pastTop fm0_pastSize fm0_squareCount fm0_taken fm0_wanted fm0_seen fm0_most fm0_beginnings am1561 am1562 am1563 am1564 am1565 am1566 = true) (hk : ∀ r, kb r = true → post r ()) : wL_lawOf_342 post mc ms x1 x4 x8 z0 kc ks fm0_first fm0_second fm0_kings fm0_toMove fm0_pastTop fm0_pastSize fm0_squareCount fm0_taken fm0_wanted fm0_seen fm0_most fm0_beginnings (db_g am1561) (db_g am1562) (db_g am1563) (db_g am1564) (db_g am1565) (db_g am1566) := by
  unfold db_L342 at h
  unfold wL_lawOf_342
  refine dc_both h (fun h => ?_) (fun h => ?_)
  · exact ds_L356 h hk
  · exact ds_L356 h hk
def db_L328 (kb : Int32 → Bool) (x4 : Int32) (z0 : Int32) (fm0_first : Int32) (fm0_second : Int32) (fm0_kings : Int32) (fm0_toMove : Int32) (fm0_pastTop : Int32) (fm0_pastSize : Int32) (fm0_squareCount : Int32) (fm0_taken : Int32) (fm0_wanted : Int32) (fm0_seen : Int32) (fm0_most : Int32) (fm0_beginnings : Int32) (am1561 : List Int32) (am1562 : List Int32) (am1563 : List Int32) (am1564 : List Int32) (am1565 : List Int32) (am1566 : List Int32) : Bool := cond (db_L342 kb x4 z0 1 fm0_first fm0_second fm0_kings fm0_toMove fm0_pastTop fm0_pastSize fm0_squareCount fm0_taken fm0_wanted fm0_seen fm0_most fm0_beginnings am1561 am1562 am1563 am1564 am1565 am1566) (db_L342 kb x4 z0 0 fm0_first fm0_second fm0_kings fm0_toMove fm0_pastTop fm0_pastSize fm0_squareCount fm0_taken fm0_wanted fm0_seen fm0_most fm0_beginnings am1561 am1562 am1563 am1564 am1565 am1566) false
theorem ds_L328 {post : Int32 → St0 → Prop} {kb : Int32 → Bool} {mc : Nat} {ms : Nat} {x1 : Int32} {x4 : Int32} {z0 : Int32} {kc : Nat} {ks : Nat} {fm0_first : Int32} {fm0_second : Int32} {fm0_kings : Int32} {fm0_toMove : Int32} {fm0_pastTop : Int32} {fm0_pastSize : Int32} {fm0_squareCount : Int32} {fm0_taken : Int32} {fm0_wanted : Int32} {fm0_seen : Int32} {fm0_most : Int32} {fm0_beginnings : Int32} {am1561 : List Int32} {am1562 : List Int32} {am1563 : List Int32} {am1564 : List Int32} {am1565 : List Int32} {am1566 : List Int32} (h : db_L328 kb x4 z0 fm0_first fm0_second fm0_kings fm0_toMove fm0_pastTop fm0_pastSize fm0_squareCount fm0_taken fm0_wanted fm0_seen fm0_most fm0_beginnings am1561 am1562 am1563 am1564 am1565 am1566 = true) (hk : ∀ r, kb r = true → post r ()) : wL_lawOf_328 post mc ms x1 x4 z0 kc ks fm0_first fm0_second fm0_kings fm0_toMove fm0_pastTop fm0_pastSize fm0_squareCount fm0_taken fm0_wanted fm0_seen fm0_most fm0_beginnings (db_g am1561) (db_g am1562) (db_g am1563) (db_g am1564) (db_g am1565) (db_g am1566) := by
  unfold db_L328 at h
  unfold wL_lawOf_328
  refine dc_both h (fun h => ?_) (fun h => ?_)
  · exact ds_L342 h hk
  · exact ds_L342 h hk
def db_L267 (kb : Int32 → Bool) (J257 : Int32 → Int32 → Int32 → Int32 → Int32 → Int32 → Int32 → Int32 → Int32 → Int32 → Int32 → Int32 → Int32 → Int32 → List Int32 → List Int32 → List Int32 → List Int32 → List Int32 → List Int32 → Bool) (x8 : Int32) : Nat → Int32 → Int32 → Int32 → Int32 → Int32 → Int32 → Int32 → Int32 → Int32 → Int32 → Int32 → Int32 → Int32 → Int32 → List Int32 → List Int32 → List Int32 → List Int32 → List Int32 → List Int32 → Bool
  | 0 => fun _ _ _ _ _ _ _ _ _ _ _ _ _ _ _ _ _ _ _ _ => false
  | n + 1 => fun x4 x9 fm0_first fm0_second fm0_kings fm0_toMove fm0_pastTop fm0_pastSize fm0_squareCount fm0_taken fm0_wanted fm0_seen fm0_most fm0_beginnings am1561 am1562 am1563 am1564 am1565 am1566 => cond (db_le (4) (x9)) (db_z (x8 + 1) (fun x8_617 => J257 x4 x8_617 fm0_first fm0_second fm0_kings fm0_toMove fm0_pastTop fm0_pastSize fm0_squareCount fm0_taken fm0_wanted fm0_seen fm0_most fm0_beginnings am1561 am1562 am1563 am1564 am1565 am1566)) (db_z (((4 * x8) + x9)) (fun t1 => db_place (fun r_618 fm0_first_619 fm0_second_620 fm0_kings_621 fm0_toMove_622 fm0_pastTop_623 fm0_pastSize_624 fm0_squareCount_625 fm0_taken_626 fm0_wanted_627 fm0_seen_628 fm0_most_629 fm0_beginnings_630 am2821_633 am2822_636 am2823_639 am2824_642 am2825_645 am2826_648 => cond (db_eq (x4) (0)) (db_z (x9 + 1) (fun x9_650 => db_L267 kb J257 x8 n 0 x9_650 fm0_first_619 fm0_second_620 fm0_kings_621 fm0_toMove_622 fm0_pastTop_623 fm0_pastSize_624 fm0_squareCount_625 fm0_taken_626 fm0_wanted_627 fm0_seen_628 fm0_most_629 fm0_beginnings_630 am2821_633 am2822_636 am2823_639 am2824_642 am2825_645 am2826_648)) (cond (db_eq (r_618) (0)) (db_z (x9 + 1) (fun x9_652 => db_L267 kb J257 x8 n 0 x9_652 fm0_first_619 fm0_second_620 fm0_kings_621 fm0_toMove_622 fm0_pastTop_623 fm0_pastSize_624 fm0_squareCount_625 fm0_taken_626 fm0_wanted_627 fm0_seen_628 fm0_most_629 fm0_beginnings_630 am2821_633 am2822_636 am2823_639 am2824_642 am2825_645 am2826_648)) (db_z (x9 + 1) (fun x9_653 => db_L267 kb J257 x8 n 1 x9_653 fm0_first_619 fm0_second_620 fm0_kings_621 fm0_toMove_622 fm0_pastTop_623 fm0_pastSize_624 fm0_squareCount_625 fm0_taken_626 fm0_wanted_627 fm0_seen_628 fm0_most_629 fm0_beginnings_630 am2821_633 am2822_636 am2823_639 am2824_642 am2825_645 am2826_648)))) fm0_first fm0_second fm0_kings fm0_toMove fm0_pastTop fm0_pastSize fm0_squareCount fm0_taken fm0_wanted fm0_seen fm0_most fm0_beginnings am1561 am1562 am1563 am1564 am1565 am1566 t1 0))
theorem ds_L267 {post : Int32 → St0 → Prop} {kb : Int32 → Bool} {mc : Nat} {ms : Nat} {WJ257 : Int32 → Int32 → Int32 → Int32 → Int32 → Int32 → Int32 → Int32 → Int32 → Int32 → Int32 → Int32 → Int32 → Int32 → (Nat → Int32) → (Nat → Int32) → (Nat → Int32) → (Nat → Int32) → (Nat → Int32) → (Nat → Int32) → Prop} {J257 : Int32 → Int32 → Int32 → Int32 → Int32 → Int32 → Int32 → Int32 → Int32 → Int32 → Int32 → Int32 → Int32 → Int32 → List Int32 → List Int32 → List Int32 → List Int32 → List Int32 → List Int32 → Bool} {x1 : Int32} {x8 : Int32} {kc : Nat} {ks : Nat} (hk : ∀ r, kb r = true → post r ()) (hJ257 : ∀ v0 v1 v2 v3 v4 v5 v6 v7 v8 v9 v10 v11 v12 v13 v14 v15 v16 v17 v18 v19, J257 v0 v1 v2 v3 v4 v5 v6 v7 v8 v9 v10 v11 v12 v13 v14 v15 v16 v17 v18 v19 = true → WJ257 v0 v1 v2 v3 v4 v5 v6 v7 v8 v9 v10 v11 v12 v13 (db_g v14) (db_g v15) (db_g v16) (db_g v17) (db_g v18) (db_g v19)) : ∀ (n : Nat) {x4 : Int32} {x9 : Int32} {fm0_first : Int32} {fm0_second : Int32} {fm0_kings : Int32} {fm0_toMove : Int32} {fm0_pastTop : Int32} {fm0_pastSize : Int32} {fm0_squareCount : Int32} {fm0_taken : Int32} {fm0_wanted : Int32} {fm0_seen : Int32} {fm0_most : Int32} {fm0_beginnings : Int32} {am1561 : List Int32} {am1562 : List Int32} {am1563 : List Int32} {am1564 : List Int32} {am1565 : List Int32} {am1566 : List Int32} (h : db_L267 kb J257 x8 n x4 x9 fm0_first fm0_second fm0_kings fm0_toMove fm0_pastTop fm0_pastSize fm0_squareCount fm0_taken fm0_wanted fm0_seen fm0_most fm0_beginnings am1561 am1562 am1563 am1564 am1565 am1566 = true), wL_lawOf_267 post mc ms WJ257 x1 x8 kc ks n x4 x9 fm0_first fm0_second fm0_kings fm0_toMove fm0_pastTop fm0_pastSize fm0_squareCount fm0_taken fm0_wanted fm0_seen fm0_most fm0_beginnings (db_g am1561) (db_g am1562) (db_g am1563) (db_g am1564) (db_g am1565) (db_g am1566) := by
  intro n
  induction n with
  | zero => intro x4 x9 fm0_first fm0_second fm0_kings fm0_toMove fm0_pastTop fm0_pastSize fm0_squareCount fm0_taken fm0_wanted fm0_seen fm0_most fm0_beginnings am1561 am1562 am1563 am1564 am1565 am1566 h; exact absurd h Bool.false_ne_true
  | succ n ih =>
    intro x4 x9 fm0_first fm0_second fm0_kings fm0_toMove fm0_pastTop fm0_pastSize fm0_squareCount fm0_taken fm0_wanted fm0_seen fm0_most fm0_beginnings am1561 am1562 am1563 am1564 am1565 am1566 h
    unfold db_L267 at h
    unfold wL_lawOf_267
    refine dc_le h (fun h => ?_) (fun h => ?_)
    · refine dc_let h (fun x8_617 h => ?_)
      exact hJ257 _ _ _ _ _ _ _ _ _ _ _ _ _ _ _ _ _ _ _ _ h
    · have h := dz_ok h
      refine ds_place h (fun r_618 fm0_first_619 fm0_second_620 fm0_kings_621 fm0_toMove_622 fm0_pastTop_623 fm0_pastSize_624 fm0_squareCount_625 fm0_taken_626 fm0_wanted_627 fm0_seen_628 fm0_most_629 fm0_beginnings_630 am2821_633 am2822_636 am2823_639 am2824_642 am2825_645 am2826_648 h => ?_)
      refine dc_eq h (fun h => ?_) (fun h => ?_)
      · refine dc_let h (fun x9_650 h => ?_)
        exact ih h
      · refine dc_eq h (fun h => ?_) (fun h => ?_)
        · refine dc_let h (fun x9_652 h => ?_)
          exact ih h
        · refine dc_let h (fun x9_653 h => ?_)
          exact ih h
def db_L257 (kb : Int32 → Bool) : Nat → Int32 → Int32 → Int32 → Int32 → Int32 → Int32 → Int32 → Int32 → Int32 → Int32 → Int32 → Int32 → Int32 → Int32 → List Int32 → List Int32 → List Int32 → List Int32 → List Int32 → List Int32 → Bool
  | 0 => fun _ _ _ _ _ _ _ _ _ _ _ _ _ _ _ _ _ _ _ _ => false
  | n + 1 => fun x4 x8 fm0_first fm0_second fm0_kings fm0_toMove fm0_pastTop fm0_pastSize fm0_squareCount fm0_taken fm0_wanted fm0_seen fm0_most fm0_beginnings am1561 am1562 am1563 am1564 am1565 am1566 => cond (db_le (8) (x8)) (cond (db_L328 kb x4 1 fm0_first fm0_second fm0_kings fm0_toMove fm0_pastTop fm0_pastSize fm0_squareCount fm0_taken fm0_wanted fm0_seen fm0_most fm0_beginnings am1561 am1562 am1563 am1564 am1565 am1566) (db_L328 kb x4 0 fm0_first fm0_second fm0_kings fm0_toMove fm0_pastTop fm0_pastSize fm0_squareCount fm0_taken fm0_wanted fm0_seen fm0_most fm0_beginnings am1561 am1562 am1563 am1564 am1565 am1566) false) (db_L267 kb (db_L257 kb n) x8 6 x4 0 fm0_first fm0_second fm0_kings fm0_toMove fm0_pastTop fm0_pastSize fm0_squareCount fm0_taken fm0_wanted fm0_seen fm0_most fm0_beginnings am1561 am1562 am1563 am1564 am1565 am1566)
theorem ds_L257 {post : Int32 → St0 → Prop} {kb : Int32 → Bool} {mc : Nat} {ms : Nat} {x1 : Int32} {kc : Nat} {ks : Nat} (hk : ∀ r, kb r = true → post r ()) : ∀ (n : Nat) {x4 : Int32} {x8 : Int32} {fm0_first : Int32} {fm0_second : Int32} {fm0_kings : Int32} {fm0_toMove : Int32} {fm0_pastTop : Int32} {fm0_pastSize : Int32} {fm0_squareCount : Int32} {fm0_taken : Int32} {fm0_wanted : Int32} {fm0_seen : Int32} {fm0_most : Int32} {fm0_beginnings : Int32} {am1561 : List Int32} {am1562 : List Int32} {am1563 : List Int32} {am1564 : List Int32} {am1565 : List Int32} {am1566 : List Int32} (h : db_L257 kb n x4 x8 fm0_first fm0_second fm0_kings fm0_toMove fm0_pastTop fm0_pastSize fm0_squareCount fm0_taken fm0_wanted fm0_seen fm0_most fm0_beginnings am1561 am1562 am1563 am1564 am1565 am1566 = true), wL_lawOf_257 post mc ms x1 kc ks n x4 x8 fm0_first fm0_second fm0_kings fm0_toMove fm0_pastTop fm0_pastSize fm0_squareCount fm0_taken fm0_wanted fm0_seen fm0_most fm0_beginnings (db_g am1561) (db_g am1562) (db_g am1563) (db_g am1564) (db_g am1565) (db_g am1566) := by
  intro n
  induction n with
  | zero => intro x4 x8 fm0_first fm0_second fm0_kings fm0_toMove fm0_pastTop fm0_pastSize fm0_squareCount fm0_taken fm0_wanted fm0_seen fm0_most fm0_beginnings am1561 am1562 am1563 am1564 am1565 am1566 h; exact absurd h Bool.false_ne_true
  | succ n ih =>
    intro x4 x8 fm0_first fm0_second fm0_kings fm0_toMove fm0_pastTop fm0_pastSize fm0_squareCount fm0_taken fm0_wanted fm0_seen fm0_most fm0_beginnings am1561 am1562 am1563 am1564 am1565 am1566 h
    unfold db_L257 at h
    unfold wL_lawOf_257
    refine dc_le h (fun h => ?_) (fun h => ?_)
    · refine dc_both h (fun h => ?_) (fun h => ?_)
      · exact ds_L328 h hk
      · exact ds_L328 h hk
    · refine ⟨6, ?_⟩
      exact ds_L267 hk (fun _ _ _ _ _ _ _ _ _ _ _ _ _ _ _ _ _ _ _ _ h => ih h) 6 h
def db_L136 (kb : Int32 → Bool) (x3 : Int32) (z0 : Int32) (fm0_first : Int32) (fm0_second : Int32) (fm0_kings : Int32) (fm0_toMove : Int32) (fm0_pastTop : Int32) (fm0_pastSize : Int32) (fm0_squareCount : Int32) (fm0_taken : Int32) (fm0_wanted : Int32) (fm0_seen : Int32) (fm0_most : Int32) (fm0_beginnings : Int32) (am211 : List Int32) (am212 : List Int32) (am213 : List Int32) (am214 : List Int32) (am215 : List Int32) (am216 : List Int32) : Bool := db_path (fun r_104 fm0_first_105 fm0_second_106 fm0_kings_107 fm0_toMove_108 fm0_pastTop_109 fm0_pastSize_110 fm0_squareCount_111 fm0_taken_112 fm0_wanted_113 fm0_seen_114 fm0_most_115 fm0_beginnings_116 am1411_119 am1412_122 am1413_125 am1414_128 am1415_131 am1416_134 => db_path (fun r_135 fm0_first_136 fm0_second_137 fm0_kings_138 fm0_toMove_139 fm0_pastTop_140 fm0_pastSize_141 fm0_squareCount_142 fm0_taken_143 fm0_wanted_144 fm0_seen_145 fm0_most_146 fm0_beginnings_147 am1491_150 am1492_153 am1493_156 am1494_159 am1495_162 am1496_165 => db_play (fun r_166 fm0_first_167 fm0_second_168 fm0_kings_169 fm0_toMove_170 fm0_pastTop_171 fm0_pastSize_172 fm0_squareCount_173 fm0_taken_174 fm0_wanted_175 fm0_seen_176 fm0_most_177 fm0_beginnings_178 am1561_181 am1562_184 am1563_187 am1564_190 am1565_193 am1566_196 => cond (db_eq (z0) (0)) (false) (cond (db_eq (r_166) (0)) (db_at (fun r_655 => cond (db_eq (r_655) (0)) (db_at (fun r_657 => cond (db_eq (r_657) (1)) (db_side (fun r_659 => cond (db_eq (r_659) (1)) (db_moves (fun r_661 fm0_first_662 fm0_second_663 fm0_kings_664 fm0_toMove_665 fm0_pastTop_666 fm0_pastSize_667 fm0_squareCount_668 fm0_taken_669 fm0_wanted_670 fm0_seen_671 fm0_most_672 fm0_beginnings_673 am1991_676 am1992_679 am1993_682 am1994_685 am1995_688 am1996_691 => cond (db_eq (r_661) (7)) (db_back (fun r_693 fm0_first_694 fm0_second_695 fm0_kings_696 fm0_toMove_697 fm0_pastTop_698 fm0_pastSize_699 fm0_squareCount_700 fm0_taken_701 fm0_wanted_702 fm0_seen_703 fm0_most_704 fm0_beginnings_705 am2081_708 am2082_711 am2083_714 am2084_717 am2085_720 am2086_723 => cond (db_eq (r_693) (0)) (false) (db_at (fun r_725 => cond (db_eq (r_725) (1)) (db_at (fun r_727 => cond (db_eq (r_727) (0)) (db_side (fun r_729 => cond (db_eq (r_729) (0)) (db_back (fun r_731 fm0_first_732 fm0_second_733 fm0_kings_734 fm0_toMove_735 fm0_pastTop_736 fm0_pastSize_737 fm0_squareCount_738 fm0_taken_739 fm0_wanted_740 fm0_seen_741 fm0_most_742 fm0_beginnings_743 am2411_746 am2412_749 am2413_752 am2414_755 am2415_758 am2416_761 => cond (db_eq (r_731) (0)) (db_L257 kb 10 1 0 fm0_first_732 fm0_second_733 fm0_kings_734 fm0_toMove_735 fm0_pastTop_736 fm0_pastSize_737 fm0_squareCount_738 fm0_taken_739 fm0_wanted_740 fm0_seen_741 fm0_most_742 fm0_beginnings_743 am2411_746 am2412_749 am2413_752 am2414_755 am2415_758 am2416_761) (false)) fm0_first_694 fm0_second_695 fm0_kings_696 fm0_toMove_697 fm0_pastTop_698 fm0_pastSize_699 fm0_squareCount_700 fm0_taken_701 fm0_wanted_702 fm0_seen_703 fm0_most_704 fm0_beginnings_705 am2081_708 am2082_711 am2083_714 am2084_717 am2085_720 am2086_723) (false)) fm0_first_694 fm0_second_695 fm0_kings_696 fm0_toMove_697 fm0_pastTop_698 fm0_pastSize_699 fm0_squareCount_700 fm0_taken_701 fm0_wanted_702 fm0_seen_703 fm0_most_704 fm0_beginnings_705 am2081_708 am2082_711 am2083_714 am2084_717 am2085_720 am2086_723) (false)) fm0_first_694 fm0_second_695 fm0_kings_696 fm0_toMove_697 fm0_pastTop_698 fm0_pastSize_699 fm0_squareCount_700 fm0_taken_701 fm0_wanted_702 fm0_seen_703 fm0_most_704 fm0_beginnings_705 am2081_708 am2082_711 am2083_714 am2084_717 am2085_720 am2086_723 r_135) (false)) fm0_first_694 fm0_second_695 fm0_kings_696 fm0_toMove_697 fm0_pastTop_698 fm0_pastSize_699 fm0_squareCount_700 fm0_taken_701 fm0_wanted_702 fm0_seen_703 fm0_most_704 fm0_beginnings_705 am2081_708 am2082_711 am2083_714 am2084_717 am2085_720 am2086_723 r_104)) fm0_first_662 fm0_second_663 fm0_kings_664 fm0_toMove_665 fm0_pastTop_666 fm0_pastSize_667 fm0_squareCount_668 fm0_taken_669 fm0_wanted_670 fm0_seen_671 fm0_most_672 fm0_beginnings_673 am1991_676 am1992_679 am1993_682 am1994_685 am1995_688 am1996_691) (false)) fm0_first_167 fm0_second_168 fm0_kings_169 fm0_toMove_170 fm0_pastTop_171 fm0_pastSize_172 fm0_squareCount_173 fm0_taken_174 fm0_wanted_175 fm0_seen_176 fm0_most_177 fm0_beginnings_178 am1561_181 am1562_184 am1563_187 am1564_190 am1565_193 am1566_196) (false)) fm0_first_167 fm0_second_168 fm0_kings_169 fm0_toMove_170 fm0_pastTop_171 fm0_pastSize_172 fm0_squareCount_173 fm0_taken_174 fm0_wanted_175 fm0_seen_176 fm0_most_177 fm0_beginnings_178 am1561_181 am1562_184 am1563_187 am1564_190 am1565_193 am1566_196) (false)) fm0_first_167 fm0_second_168 fm0_kings_169 fm0_toMove_170 fm0_pastTop_171 fm0_pastSize_172 fm0_squareCount_173 fm0_taken_174 fm0_wanted_175 fm0_seen_176 fm0_most_177 fm0_beginnings_178 am1561_181 am1562_184 am1563_187 am1564_190 am1565_193 am1566_196 r_135) (false)) fm0_first_167 fm0_second_168 fm0_kings_169 fm0_toMove_170 fm0_pastTop_171 fm0_pastSize_172 fm0_squareCount_173 fm0_taken_174 fm0_wanted_175 fm0_seen_176 fm0_most_177 fm0_beginnings_178 am1561_181 am1562_184 am1563_187 am1564_190 am1565_193 am1566_196 r_104) (false))) fm0_first_136 fm0_second_137 fm0_kings_138 fm0_toMove_139 fm0_pastTop_140 fm0_pastSize_141 fm0_squareCount_142 fm0_taken_143 fm0_wanted_144 fm0_seen_145 fm0_most_146 fm0_beginnings_147 am1491_150 am1492_153 am1493_156 am1494_159 am1495_162 am1496_165 x3) fm0_first_105 fm0_second_106 fm0_kings_107 fm0_toMove_108 fm0_pastTop_109 fm0_pastSize_110 fm0_squareCount_111 fm0_taken_112 fm0_wanted_113 fm0_seen_114 fm0_most_115 fm0_beginnings_116 am1411_119 am1412_122 am1413_125 am1414_128 am1415_131 am1416_134 x3 1) fm0_first fm0_second fm0_kings fm0_toMove fm0_pastTop fm0_pastSize fm0_squareCount fm0_taken fm0_wanted fm0_seen fm0_most fm0_beginnings am211 am212 am213 am214 am215 am216 x3 0
theorem ds_L136 {post : Int32 → St0 → Prop} {kb : Int32 → Bool} {mc : Nat} {ms : Nat} {x1 : Int32} {x3 : Int32} {z0 : Int32} {kc : Nat} {ks : Nat} {fm0_first : Int32} {fm0_second : Int32} {fm0_kings : Int32} {fm0_toMove : Int32} {fm0_pastTop : Int32} {fm0_pastSize : Int32} {fm0_squareCount : Int32} {fm0_taken : Int32} {fm0_wanted : Int32} {fm0_seen : Int32} {fm0_most : Int32} {fm0_beginnings : Int32} {am211 : List Int32} {am212 : List Int32} {am213 : List Int32} {am214 : List Int32} {am215 : List Int32} {am216 : List Int32} (h : db_L136 kb x3 z0 fm0_first fm0_second fm0_kings fm0_toMove fm0_pastTop fm0_pastSize fm0_squareCount fm0_taken fm0_wanted fm0_seen fm0_most fm0_beginnings am211 am212 am213 am214 am215 am216 = true) (hk : ∀ r, kb r = true → post r ()) : wL_lawOf_136 post mc ms x1 x3 z0 kc ks fm0_first fm0_second fm0_kings fm0_toMove fm0_pastTop fm0_pastSize fm0_squareCount fm0_taken fm0_wanted fm0_seen fm0_most fm0_beginnings (db_g am211) (db_g am212) (db_g am213) (db_g am214) (db_g am215) (db_g am216) := by
  unfold db_L136 at h
  unfold wL_lawOf_136
  refine ds_path h (fun r_104 fm0_first_105 fm0_second_106 fm0_kings_107 fm0_toMove_108 fm0_pastTop_109 fm0_pastSize_110 fm0_squareCount_111 fm0_taken_112 fm0_wanted_113 fm0_seen_114 fm0_most_115 fm0_beginnings_116 am1411_119 am1412_122 am1413_125 am1414_128 am1415_131 am1416_134 h => ?_)
  refine ds_path h (fun r_135 fm0_first_136 fm0_second_137 fm0_kings_138 fm0_toMove_139 fm0_pastTop_140 fm0_pastSize_141 fm0_squareCount_142 fm0_taken_143 fm0_wanted_144 fm0_seen_145 fm0_most_146 fm0_beginnings_147 am1491_150 am1492_153 am1493_156 am1494_159 am1495_162 am1496_165 h => ?_)
  refine ds_play h (fun r_166 fm0_first_167 fm0_second_168 fm0_kings_169 fm0_toMove_170 fm0_pastTop_171 fm0_pastSize_172 fm0_squareCount_173 fm0_taken_174 fm0_wanted_175 fm0_seen_176 fm0_most_177 fm0_beginnings_178 am1561_181 am1562_184 am1563_187 am1564_190 am1565_193 am1566_196 h => ?_)
  refine dc_eq h (fun h => ?_) (fun h => ?_)
  · exact absurd h Bool.false_ne_true
  · refine dc_eq h (fun h => ?_) (fun h => ?_)
    · refine ds_at h (fun r_655 h => ?_)
      refine dc_eq h (fun h => ?_) (fun h => ?_)
      · refine ds_at h (fun r_657 h => ?_)
        refine dc_eq h (fun h => ?_) (fun h => ?_)
        · refine ds_side h (fun r_659 h => ?_)
          refine dc_eq h (fun h => ?_) (fun h => ?_)
          · refine ds_moves h (fun r_661 fm0_first_662 fm0_second_663 fm0_kings_664 fm0_toMove_665 fm0_pastTop_666 fm0_pastSize_667 fm0_squareCount_668 fm0_taken_669 fm0_wanted_670 fm0_seen_671 fm0_most_672 fm0_beginnings_673 am1991_676 am1992_679 am1993_682 am1994_685 am1995_688 am1996_691 h => ?_)
            refine dc_eq h (fun h => ?_) (fun h => ?_)
            · refine ds_back h (fun r_693 fm0_first_694 fm0_second_695 fm0_kings_696 fm0_toMove_697 fm0_pastTop_698 fm0_pastSize_699 fm0_squareCount_700 fm0_taken_701 fm0_wanted_702 fm0_seen_703 fm0_most_704 fm0_beginnings_705 am2081_708 am2082_711 am2083_714 am2084_717 am2085_720 am2086_723 h => ?_)
              refine dc_eq h (fun h => ?_) (fun h => ?_)
              · exact absurd h Bool.false_ne_true
              · refine ds_at h (fun r_725 h => ?_)
                refine dc_eq h (fun h => ?_) (fun h => ?_)
                · refine ds_at h (fun r_727 h => ?_)
                  refine dc_eq h (fun h => ?_) (fun h => ?_)
                  · refine ds_side h (fun r_729 h => ?_)
                    refine dc_eq h (fun h => ?_) (fun h => ?_)
                    · refine ds_back h (fun r_731 fm0_first_732 fm0_second_733 fm0_kings_734 fm0_toMove_735 fm0_pastTop_736 fm0_pastSize_737 fm0_squareCount_738 fm0_taken_739 fm0_wanted_740 fm0_seen_741 fm0_most_742 fm0_beginnings_743 am2411_746 am2412_749 am2413_752 am2414_755 am2415_758 am2416_761 h => ?_)
                      refine dc_eq h (fun h => ?_) (fun h => ?_)
                      · refine ⟨10, ?_⟩
                        exact ds_L257 hk 10 h
                      · exact absurd h Bool.false_ne_true
                    · exact absurd h Bool.false_ne_true
                  · exact absurd h Bool.false_ne_true
                · exact absurd h Bool.false_ne_true
            · exact absurd h Bool.false_ne_true
          · exact absurd h Bool.false_ne_true
        · exact absurd h Bool.false_ne_true
      · exact absurd h Bool.false_ne_true
    · exact absurd h Bool.false_ne_true
def db_law (kb : Int32 → Bool) (fm0_first_5 fm0_second_6 fm0_kings_7 fm0_toMove_8 fm0_pastTop_9 fm0_pastSize_10 fm0_squareCount_11 fm0_taken_12 fm0_wanted_13 fm0_seen_14 fm0_most_15 fm0_beginnings_16 : Int32) (am41_19 am42_22 am43_25 am44_28 am45_31 am46_34 : List Int32) : Bool := db_start (fun fm0_first_40 fm0_second_41 fm0_kings_42 fm0_toMove_43 fm0_pastTop_44 fm0_pastSize_45 fm0_squareCount_46 fm0_taken_47 fm0_wanted_48 fm0_seen_49 fm0_most_50 fm0_beginnings_51 am91_54 am92_57 am93_60 am94_63 am95_66 am96_69 => db_moves (fun r_72 fm0_first_73 fm0_second_74 fm0_kings_75 fm0_toMove_76 fm0_pastTop_77 fm0_pastSize_78 fm0_squareCount_79 fm0_taken_80 fm0_wanted_81 fm0_seen_82 fm0_most_83 fm0_beginnings_84 am211_87 am212_90 am213_93 am214_96 am215_99 am216_102 => cond (db_eq (r_72) (7)) (db_mustJump (fun r_763 => cond (db_eq (r_763) (0)) (db_count (fun r_765 => cond (db_eq (r_765) (12)) (db_count (fun r_767 => cond (db_eq (r_767) (12)) (db_side (fun r_769 => cond (db_eq (r_769) (0)) (db_plays (fun r_771 fm0_first_772 fm0_second_773 fm0_kings_774 fm0_toMove_775 fm0_pastTop_776 fm0_pastSize_777 fm0_squareCount_778 fm0_taken_779 fm0_wanted_780 fm0_seen_781 fm0_most_782 fm0_beginnings_783 am651_786 am652_789 am653_792 am654_795 am655_798 am656_801 => cond (db_eq (r_771) (49)) (db_plays (fun r_803 fm0_first_804 fm0_second_805 fm0_kings_806 fm0_toMove_807 fm0_pastTop_808 fm0_pastSize_809 fm0_squareCount_810 fm0_taken_811 fm0_wanted_812 fm0_seen_813 fm0_most_814 fm0_beginnings_815 am751_818 am752_821 am753_824 am754_827 am755_830 am756_833 => cond (db_eq (r_803) (302)) (db_movable (fun r_835 fm0_first_836 fm0_second_837 fm0_kings_838 fm0_toMove_839 fm0_pastTop_840 fm0_pastSize_841 fm0_squareCount_842 fm0_taken_843 fm0_wanted_844 fm0_seen_845 fm0_most_846 fm0_beginnings_847 am851_850 am852_853 am853_856 am854_859 am855_862 am856_865 => cond (db_eq (r_835) (3840)) (db_back (fun r_867 fm0_first_868 fm0_second_869 fm0_kings_870 fm0_toMove_871 fm0_pastTop_872 fm0_pastSize_873 fm0_squareCount_874 fm0_taken_875 fm0_wanted_876 fm0_seen_877 fm0_most_878 fm0_beginnings_879 am951_882 am952_885 am953_888 am954_891 am955_894 am956_897 => cond (db_eq (r_867) (0)) (db_path (fun r_899 fm0_first_900 fm0_second_901 fm0_kings_902 fm0_toMove_903 fm0_pastTop_904 fm0_pastSize_905 fm0_squareCount_906 fm0_taken_907 fm0_wanted_908 fm0_seen_909 fm0_most_910 fm0_beginnings_911 am1041_914 am1042_917 am1043_920 am1044_923 am1045_926 am1046_929 => cond (db_eq (r_899) (8)) (db_path (fun r_931 fm0_first_932 fm0_second_933 fm0_kings_934 fm0_toMove_935 fm0_pastTop_936 fm0_pastSize_937 fm0_squareCount_938 fm0_taken_939 fm0_wanted_940 fm0_seen_941 fm0_most_942 fm0_beginnings_943 am1161_946 am1162_949 am1163_952 am1164_955 am1165_958 am1166_961 => cond (db_eq (r_931) (11)) (db_mostTaken (fun r_963 fm0_first_964 fm0_second_965 fm0_kings_966 fm0_toMove_967 fm0_pastTop_968 fm0_pastSize_969 fm0_squareCount_970 fm0_taken_971 fm0_wanted_972 fm0_seen_973 fm0_most_974 fm0_beginnings_975 am1251_978 am1252_981 am1253_984 am1254_987 am1255_990 am1256_993 => cond (db_eq (r_963) (0)) (db_all7 (fun k7 => db_L136 kb k7 1 fm0_first_964 fm0_second_965 fm0_kings_966 fm0_toMove_967 fm0_pastTop_968 fm0_pastSize_969 fm0_squareCount_970 fm0_taken_971 fm0_wanted_972 fm0_seen_973 fm0_most_974 fm0_beginnings_975 am1251_978 am1252_981 am1253_984 am1254_987 am1255_990 am1256_993)) (false)) fm0_first_932 fm0_second_933 fm0_kings_934 fm0_toMove_935 fm0_pastTop_936 fm0_pastSize_937 fm0_squareCount_938 fm0_taken_939 fm0_wanted_940 fm0_seen_941 fm0_most_942 fm0_beginnings_943 am1161_946 am1162_949 am1163_952 am1164_955 am1165_958 am1166_961) (false)) fm0_first_900 fm0_second_901 fm0_kings_902 fm0_toMove_903 fm0_pastTop_904 fm0_pastSize_905 fm0_squareCount_906 fm0_taken_907 fm0_wanted_908 fm0_seen_909 fm0_most_910 fm0_beginnings_911 am1041_914 am1042_917 am1043_920 am1044_923 am1045_926 am1046_929 6 0) (false)) fm0_first_868 fm0_second_869 fm0_kings_870 fm0_toMove_871 fm0_pastTop_872 fm0_pastSize_873 fm0_squareCount_874 fm0_taken_875 fm0_wanted_876 fm0_seen_877 fm0_most_878 fm0_beginnings_879 am951_882 am952_885 am953_888 am954_891 am955_894 am956_897 0 0) (false)) fm0_first_836 fm0_second_837 fm0_kings_838 fm0_toMove_839 fm0_pastTop_840 fm0_pastSize_841 fm0_squareCount_842 fm0_taken_843 fm0_wanted_844 fm0_seen_845 fm0_most_846 fm0_beginnings_847 am851_850 am852_853 am853_856 am854_859 am855_862 am856_865) (false)) fm0_first_804 fm0_second_805 fm0_kings_806 fm0_toMove_807 fm0_pastTop_808 fm0_pastSize_809 fm0_squareCount_810 fm0_taken_811 fm0_wanted_812 fm0_seen_813 fm0_most_814 fm0_beginnings_815 am751_818 am752_821 am753_824 am754_827 am755_830 am756_833) (false)) fm0_first_772 fm0_second_773 fm0_kings_774 fm0_toMove_775 fm0_pastTop_776 fm0_pastSize_777 fm0_squareCount_778 fm0_taken_779 fm0_wanted_780 fm0_seen_781 fm0_most_782 fm0_beginnings_783 am651_786 am652_789 am653_792 am654_795 am655_798 am656_801 3) (false)) fm0_first_73 fm0_second_74 fm0_kings_75 fm0_toMove_76 fm0_pastTop_77 fm0_pastSize_78 fm0_squareCount_79 fm0_taken_80 fm0_wanted_81 fm0_seen_82 fm0_most_83 fm0_beginnings_84 am211_87 am212_90 am213_93 am214_96 am215_99 am216_102 2) (false)) fm0_first_73 fm0_second_74 fm0_kings_75 fm0_toMove_76 fm0_pastTop_77 fm0_pastSize_78 fm0_squareCount_79 fm0_taken_80 fm0_wanted_81 fm0_seen_82 fm0_most_83 fm0_beginnings_84 am211_87 am212_90 am213_93 am214_96 am215_99 am216_102) (false)) fm0_first_73 fm0_second_74 fm0_kings_75 fm0_toMove_76 fm0_pastTop_77 fm0_pastSize_78 fm0_squareCount_79 fm0_taken_80 fm0_wanted_81 fm0_seen_82 fm0_most_83 fm0_beginnings_84 am211_87 am212_90 am213_93 am214_96 am215_99 am216_102 3) (false)) fm0_first_73 fm0_second_74 fm0_kings_75 fm0_toMove_76 fm0_pastTop_77 fm0_pastSize_78 fm0_squareCount_79 fm0_taken_80 fm0_wanted_81 fm0_seen_82 fm0_most_83 fm0_beginnings_84 am211_87 am212_90 am213_93 am214_96 am215_99 am216_102 1) (false)) fm0_first_73 fm0_second_74 fm0_kings_75 fm0_toMove_76) (false)) fm0_first_40 fm0_second_41 fm0_kings_42 fm0_toMove_43 fm0_pastTop_44 fm0_pastSize_45 fm0_squareCount_46 fm0_taken_47 fm0_wanted_48 fm0_seen_49 fm0_most_50 fm0_beginnings_51 am91_54 am92_57 am93_60 am94_63 am95_66 am96_69) fm0_first_5 fm0_second_6 fm0_kings_7 fm0_toMove_8 fm0_pastTop_9 fm0_pastSize_10 fm0_squareCount_11 fm0_taken_12 fm0_wanted_13 fm0_seen_14 fm0_most_15 fm0_beginnings_16 am41_19 am42_22 am43_25 am44_28 am45_31 am46_34
theorem ds_law {post : Int32 → St0 → Prop} {kb : Int32 → Bool} {p0 p1 : Int32} (h : db_law kb 0 0 0 0 0 0 0 0 0 0 0 0 (db_zs 80) (db_zs 12) (db_zs 12) (db_zs 12) (db_zs 16) (db_zs 4) = true) (hk : ∀ r, kb r = true → post r ()) : wpL_lawOf post 80 1264 () p0 p1 := by
  refine ⟨by decide, by decide, 6, 136, by decide, by decide, ?_⟩
  refine da_init ?_
  refine ds_start h (fun fm0_first_40 fm0_second_41 fm0_kings_42 fm0_toMove_43 fm0_pastTop_44 fm0_pastSize_45 fm0_squareCount_46 fm0_taken_47 fm0_wanted_48 fm0_seen_49 fm0_most_50 fm0_beginnings_51 am91_54 am92_57 am93_60 am94_63 am95_66 am96_69 h => ?_)
  refine ⟨by decide, ?_⟩
  refine dc_sy (fun x3_71 e_x3_71 => ?_)
  refine ds_moves h (fun r_72 fm0_first_73 fm0_second_74 fm0_kings_75 fm0_toMove_76 fm0_pastTop_77 fm0_pastSize_78 fm0_squareCount_79 fm0_taken_80 fm0_wanted_81 fm0_seen_82 fm0_most_83 fm0_beginnings_84 am211_87 am212_90 am213_93 am214_96 am215_99 am216_102 h => ?_)
  refine dc_eq h (fun h => ?_) (fun h => ?_)
  · refine ds_mustJump h (fun r_763 h => ?_)
    refine dc_eq h (fun h => ?_) (fun h => ?_)
    · refine ds_count h (fun r_765 h => ?_)
      refine dc_eq h (fun h => ?_) (fun h => ?_)
      · refine ds_count h (fun r_767 h => ?_)
        refine dc_eq h (fun h => ?_) (fun h => ?_)
        · refine ds_side h (fun r_769 h => ?_)
          refine dc_eq h (fun h => ?_) (fun h => ?_)
          · refine ds_plays h (fun r_771 fm0_first_772 fm0_second_773 fm0_kings_774 fm0_toMove_775 fm0_pastTop_776 fm0_pastSize_777 fm0_squareCount_778 fm0_taken_779 fm0_wanted_780 fm0_seen_781 fm0_most_782 fm0_beginnings_783 am651_786 am652_789 am653_792 am654_795 am655_798 am656_801 h => ?_)
            refine dc_eq h (fun h => ?_) (fun h => ?_)
            · refine ds_plays h (fun r_803 fm0_first_804 fm0_second_805 fm0_kings_806 fm0_toMove_807 fm0_pastTop_808 fm0_pastSize_809 fm0_squareCount_810 fm0_taken_811 fm0_wanted_812 fm0_seen_813 fm0_most_814 fm0_beginnings_815 am751_818 am752_821 am753_824 am754_827 am755_830 am756_833 h => ?_)
              refine dc_eq h (fun h => ?_) (fun h => ?_)
              · refine ds_movable h (fun r_835 fm0_first_836 fm0_second_837 fm0_kings_838 fm0_toMove_839 fm0_pastTop_840 fm0_pastSize_841 fm0_squareCount_842 fm0_taken_843 fm0_wanted_844 fm0_seen_845 fm0_most_846 fm0_beginnings_847 am851_850 am852_853 am853_856 am854_859 am855_862 am856_865 h => ?_)
                refine dc_eq h (fun h => ?_) (fun h => ?_)
                · refine ds_back h (fun r_867 fm0_first_868 fm0_second_869 fm0_kings_870 fm0_toMove_871 fm0_pastTop_872 fm0_pastSize_873 fm0_squareCount_874 fm0_taken_875 fm0_wanted_876 fm0_seen_877 fm0_most_878 fm0_beginnings_879 am951_882 am952_885 am953_888 am954_891 am955_894 am956_897 h => ?_)
                  refine dc_eq h (fun h => ?_) (fun h => ?_)
                  · refine ds_path h (fun r_899 fm0_first_900 fm0_second_901 fm0_kings_902 fm0_toMove_903 fm0_pastTop_904 fm0_pastSize_905 fm0_squareCount_906 fm0_taken_907 fm0_wanted_908 fm0_seen_909 fm0_most_910 fm0_beginnings_911 am1041_914 am1042_917 am1043_920 am1044_923 am1045_926 am1046_929 h => ?_)
                    refine dc_eq h (fun h => ?_) (fun h => ?_)
                    · refine ds_path h (fun r_931 fm0_first_932 fm0_second_933 fm0_kings_934 fm0_toMove_935 fm0_pastTop_936 fm0_pastSize_937 fm0_squareCount_938 fm0_taken_939 fm0_wanted_940 fm0_seen_941 fm0_most_942 fm0_beginnings_943 am1161_946 am1162_949 am1163_952 am1164_955 am1165_958 am1166_961 h => ?_)
                      refine dc_eq h (fun h => ?_) (fun h => ?_)
                      · refine ds_mostTaken h (fun r_963 fm0_first_964 fm0_second_965 fm0_kings_966 fm0_toMove_967 fm0_pastTop_968 fm0_pastSize_969 fm0_squareCount_970 fm0_taken_971 fm0_wanted_972 fm0_seen_973 fm0_most_974 fm0_beginnings_975 am1251_978 am1252_981 am1253_984 am1254_987 am1255_990 am1256_993 h => ?_)
                        refine dc_eq h (fun h => ?_) (fun h => ?_)
                        · exact da_all7 (P := fun x7 => wL_lawOf_136 post _ _ _ x7 1 _ _ fm0_first_964 fm0_second_965 fm0_kings_966 fm0_toMove_967 fm0_pastTop_968 fm0_pastSize_969 fm0_squareCount_970 fm0_taken_971 fm0_wanted_972 fm0_seen_973 fm0_most_974 fm0_beginnings_975 (db_g am1251_978) (db_g am1252_981) (db_g am1253_984) (db_g am1254_987) (db_g am1255_990) (db_g am1256_993)) e_x3_71 h (fun k7 h => ds_L136 h hk)
                        · exact absurd h Bool.false_ne_true
                      · exact absurd h Bool.false_ne_true
                    · exact absurd h Bool.false_ne_true
                  · exact absurd h Bool.false_ne_true
                · exact absurd h Bool.false_ne_true
              · exact absurd h Bool.false_ne_true
            · exact absurd h Bool.false_ne_true
          · exact absurd h Bool.false_ne_true
        · exact absurd h Bool.false_ne_true
      · exact absurd h Bool.false_ne_true
    · exact absurd h Bool.false_ne_true
  · exact absurd h Bool.false_ne_true
end
section
theorem db_run : db_law (fun r => db_eq r 1) 0 0 0 0 0 0 0 0 0 0 0 0 (db_zs 80) (db_zs 12) (db_zs 12) (db_zs 12) (db_zs 16) (db_zs 4) = true := by decide +kernel
end
section
theorem da_cell {post : Int32 → Prop} {L : Nat} {xs : Nat → Int32} {u : St0} (hL : L ≤ 2) (i : Nat) (hi : i < 2) (H : ∀ r, post r) : wpL_cellAt post L xs u (nI i) :=
  pk_le L i (fun _ => H _) (fun z => ⟨pk_in i L z, H _⟩)
theorem i_vc (xs : Nat → Int32) (L : Nat) (hL : L ≤ 2) : wpL_law (fun r => r = 1) L xs := by
  unfold wpL_law
  refine da_cell hL 0 (by decide) (fun r_1 => ?_)
  refine da_cell hL 1 (by decide) (fun r_2 => ?_)
  exact ⟨80, 1264, by decide, by decide, ds_law db_run (fun r h => db_eq_iff.mp h)⟩
end
