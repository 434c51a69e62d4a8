section
/-! rows of kit/laws/BITS.to-paste (starting text): lN n to 2^64 -/
theorem wb_tb (n : Nat) : (lN n).toBitVec = BitVec.ofNat 64 n := rfl
theorem wb_inj {a b : Int64} (h : a.toBitVec = b.toBitVec) : a = b := Int64.toBitVec_inj.mp h
theorem wb_c : ∀ k, k < 64 → ((nI k).toInt64 &&& 63) = lN k := by decide +kernel
theorem wb_sm : ∀ k, k < 64 → (BitVec.ofNat 64 k).smod 64 = BitVec.ofNat 64 k := by decide +kernel
theorem wb_lt2 {a b : Nat} (h : a < b) : 2 ^ a < 2 ^ b := Nat.pow_lt_pow_right (by decide) h
theorem wb_shl (n : Nat) {k : Nat} (hk : k < 64) : lN n <<< ((nI k).toInt64 &&& 63) = lN (n * 2 ^ k) := by
  rw [wb_c k hk]
  apply wb_inj
  rw [Int64.toBitVec_shiftLeft, wb_tb, wb_tb, wb_tb, wb_sm k hk]
  apply BitVec.eq_of_toNat_eq
  rw [BitVec.shiftLeft_eq', BitVec.toNat_shiftLeft, BitVec.toNat_ofNat, BitVec.toNat_ofNat, BitVec.toNat_ofNat, Nat.mod_eq_of_lt (show k < 2 ^ 64 by omega), Nat.shiftLeft_eq, Nat.mul_mod, Nat.mod_mod, ← Nat.mul_mod]
theorem wb_and {a b : Nat} (ha : a < 2 ^ 64) (hb : b < 2 ^ 64) : lN a &&& lN b = lN (a &&& b) := by
  apply wb_inj
  rw [Int64.toBitVec_and, wb_tb, wb_tb, wb_tb]
  apply BitVec.eq_of_toNat_eq
  rw [BitVec.toNat_and, BitVec.toNat_ofNat, BitVec.toNat_ofNat, BitVec.toNat_ofNat, Nat.mod_eq_of_lt ha, Nat.mod_eq_of_lt hb, Nat.mod_eq_of_lt (Nat.and_lt_two_pow _ hb)]
theorem wb_mask {n k : Nat} (hn : n < 2 ^ 64) (hk : k < 64) : lN n &&& lN (2 ^ k - 1) = lN (n % 2 ^ k) := by
  rw [wb_and hn (by have := wb_lt2 hk; omega), Nat.and_two_pow_sub_one_eq_mod]
/-! ===== places: a key and a value in one long ===== -/
/-- placeOf, as printed -/
def gq_pl (k v : Int32) : Int64 := ((k.toInt64 <<< ((32 : Int32).toInt64 &&& 63)) + v.toInt64) + 2147483648
/-- placeOfEnd, as printed -/
def gq_pe (k : Int32) : Int64 := ((k + 1).toInt64) <<< ((32 : Int32).toInt64 &&& 63)
/-- valueOf, as printed -/
def gq_val (p : Int64) : Int32 := ((p &&& 4294967295) - 2147483648).toInt32
/-- a value moved up to 0 .. 2^32 - 1 -/
def gq_u (v : Int32) : Nat := (v.toInt + 2147483648).toNat
theorem gq_u_int (v : Int32) : (gq_u v : Int) = v.toInt + 2147483648 := by
  have h := v.le_toInt
  unfold gq_u
  omega
theorem gq_u_lt (v : Int32) : gq_u v < 4294967296 := by
  have h := v.toInt_lt
  have h2 := gq_u_int v
  omega
theorem gq_plN {k : Nat} (hk : k < 8) (v : Int32) : gq_pl (nI k) v = lN (k * 4294967296 + gq_u v) := by
  have hu := gq_u_lt v
  have hi := gq_u_int v
  unfold gq_pl
  rw [nI_l (by omega), show (32 : Int32) = nI 32 from rfl, wb_shl k (by decide)]
  apply Int64.toInt_inj.mp
  rw [Int64.toInt_add, Int64.toInt_add, Int32.toInt_toInt64, pk_lT (by omega), pk_lT (by omega), show (2147483648 : Int64).toInt = 2147483648 from rfl]
  rw [Int.bmod_eq_of_le (n := ((k * 2 ^ 32 : Nat) : Int) + v.toInt) (by omega) (by omega)]
  rw [Int.bmod_eq_of_le (by omega) (by omega)]
  omega
theorem gq_peN {k : Nat} (hk : k < 8) : gq_pe (nI k) = lN ((k + 1) * 4294967296) := by
  unfold gq_pe
  rw [nI_1, nI_l (by omega), show (32 : Int32) = nI 32 from rfl, wb_shl (k + 1) (by decide)]
theorem gq_plS {k : Nat} (hk : k < 8) : gq_pl (nI k) (-2147483648) = lN (k * 4294967296) := by
  rw [gq_plN hk, show gq_u (-2147483648) = 0 from by decide, Nat.add_zero]
theorem gq_val_pl {k : Nat} (hk : k < 8) (v : Int32) : gq_val (gq_pl (nI k) v) = v := by
  have hu := gq_u_lt v
  have hi := gq_u_int v
  have h1 := v.le_toInt
  have h2 := v.toInt_lt
  rw [gq_plN hk]
  unfold gq_val
  rw [show (4294967295 : Int64) = lN (2 ^ 32 - 1) from rfl, wb_mask (by omega) (by decide)]
  rw [show (k * 4294967296 + gq_u v) % 2 ^ 32 = gq_u v from by omega]
  apply Int32.toInt_inj.mp
  rw [Int64.toInt_toInt32, Int64.toInt_sub, pk_lT (by omega), show (2147483648 : Int64).toInt = 2147483648 from rfl]
  rw [Int.bmod_eq_of_le (n := ((gq_u v : Nat) : Int) - 2147483648) (by omega) (by omega)]
  rw [Int.bmod_eq_of_le (by omega) (by omega)]
  omega
theorem gq_pl_le {k : Nat} (hk : k < 8) (u v : Int32) : gq_pl (nI k) u ≤ gq_pl (nI k) v ↔ u ≤ v := by
  have hu := gq_u_lt u
  have hv := gq_u_lt v
  have iu := gq_u_int u
  have iv := gq_u_int v
  rw [gq_plN hk, gq_plN hk, pk_lLE (by omega) (by omega), Int32.le_iff_toInt_le]
  omega
theorem gq_pl_lt {k : Nat} (hk : k < 8) (u v : Int32) : gq_pl (nI k) u < gq_pl (nI k) v ↔ u < v := by
  rw [← Int64.not_le, ← Int32.not_le, gq_pl_le hk]
theorem gq_pl_eq {k : Nat} (hk : k < 8) (u v : Int32) : gq_pl (nI k) u = gq_pl (nI k) v ↔ u = v := by
  constructor
  · intro h
    rw [← gq_val_pl hk u, h, gq_val_pl hk v]
  · intro h
    rw [h]
/-- a place of key k lies at or above the start of key j just when j ≤ k -/
theorem gq_st_le {j k : Nat} (hj : j < 8) (hk : k < 8) (v : Int32) : gq_pl (nI j) (-2147483648) ≤ gq_pl (nI k) v ↔ j ≤ k := by
  have hu := gq_u_lt v
  rw [gq_plS hj, gq_plN hk, pk_lLE (by omega) (by omega)]
  omega
theorem gq_en_le {j k : Nat} (hj : j < 8) (hk : k < 8) (v : Int32) : gq_pe (nI j) ≤ gq_pl (nI k) v ↔ j + 1 ≤ k := by
  have hu := gq_u_lt v
  rw [gq_peN hj, gq_plN hk, pk_lLE (by omega) (by omega)]
  omega
theorem gq_pl_25 (u v : Int32) : gq_pl (nI 2) u < gq_pl (nI 5) v := by
  have hu := gq_u_lt u
  have hv := gq_u_lt v
  rw [gq_plN (by decide), gq_plN (by decide), pk_lLT (by omega) (by omega)]
  omega
end
section
/-! ===== the rows as a sorted list of (place, times) ===== -/
def gq_rw : List (Int64 × Int32) → Int32
  | [] => 0
  | x :: L => x.2 + gq_rw L
def gq_sm : List (Int64 × Int32) → Int32
  | [] => 0
  | x :: L => x.2 * gq_val x.1 + gq_sm L
def gq_kd : List (Int64 × Int32) → Int32
  | [] => 0
  | _ :: L => 1 + gq_kd L
def gq_tt : List (Int64 × Int32) → Nat
  | [] => 0
  | x :: L => x.2.toNatClampNeg + gq_tt L
def gq_at : Nat → List (Int64 × Int32) → Int64
  | _, [] => 0
  | i, x :: L => if i < x.2.toNatClampNeg then x.1 else gq_at (i - x.2.toNatClampNeg) L
def gq_bl (p : Int64) (L : List (Int64 × Int32)) : List (Int64 × Int32) := L.filter (fun x => !decide (p ≤ x.1))
def gq_so (L : List (Int64 × Int32)) : Prop := L.Pairwise (fun x y => x.1 < y.1)
def gq_ok (L : List (Int64 × Int32)) : Prop := ∀ x, x ∈ L → ∃ t : Nat, 0 < t ∧ t < 100 ∧ x.2 = nI t
def gq_ins (p : Int64) : List (Int64 × Int32) → List (Int64 × Int32)
  | [] => [(p, 1)]
  | x :: L => if x.1 = p then (x.1, x.2 + 1) :: L else if x.1 ≤ p then x :: gq_ins p L else (p, 1) :: x :: L
def gq_del (p : Int64) : List (Int64 × Int32) → List (Int64 × Int32)
  | [] => []
  | x :: L => if x.1 = p then (if x.2 ≤ 1 then L else (x.1, x.2 - 1) :: L) else x :: gq_del p L
theorem gq_rw_app (A B : List (Int64 × Int32)) : gq_rw (A ++ B) = gq_rw A + gq_rw B := by
  induction A with
  | nil => show gq_rw B = 0 + gq_rw B; rw [Int32.zero_add]
  | cons x A ih => show x.2 + gq_rw (A ++ B) = x.2 + gq_rw A + gq_rw B; rw [ih, Int32.add_assoc]
theorem gq_sm_app (A B : List (Int64 × Int32)) : gq_sm (A ++ B) = gq_sm A + gq_sm B := by
  induction A with
  | nil => show gq_sm B = 0 + gq_sm B; rw [Int32.zero_add]
  | cons x A ih => show x.2 * gq_val x.1 + gq_sm (A ++ B) = x.2 * gq_val x.1 + gq_sm A + gq_sm B; rw [ih, Int32.add_assoc]
theorem gq_kd_app (A B : List (Int64 × Int32)) : gq_kd (A ++ B) = gq_kd A + gq_kd B := by
  induction A with
  | nil => show gq_kd B = 0 + gq_kd B; rw [Int32.zero_add]
  | cons x A ih => show 1 + gq_kd (A ++ B) = 1 + gq_kd A + gq_kd B; rw [ih, Int32.add_assoc]
theorem gq_tt_app (A B : List (Int64 × Int32)) : gq_tt (A ++ B) = gq_tt A + gq_tt B := by
  induction A with
  | nil => show gq_tt B = 0 + gq_tt B; omega
  | cons x A ih => show x.2.toNatClampNeg + gq_tt (A ++ B) = x.2.toNatClampNeg + gq_tt A + gq_tt B; omega
theorem gq_kd_len (A : List (Int64 × Int32)) : gq_kd A = nI A.length := by
  induction A with
  | nil => rfl
  | cons x A ih => show 1 + gq_kd A = nI (A.length + 1); rw [ih, nI_succ, Int32.add_comm]
theorem gq_at_app (A B : List (Int64 × Int32)) : ∀ i, gq_at i (A ++ B) = if i < gq_tt A then gq_at i A else gq_at (i - gq_tt A) B := by
  induction A with
  | nil => intro i; show gq_at i B = if i < 0 then (0 : Int64) else gq_at (i - 0) B; simp
  | cons x A ih =>
    intro i
    show (if i < x.2.toNatClampNeg then x.1 else gq_at (i - x.2.toNatClampNeg) (A ++ B)) = if i < x.2.toNatClampNeg + gq_tt A then (if i < x.2.toNatClampNeg then x.1 else gq_at (i - x.2.toNatClampNeg) A) else gq_at (i - (x.2.toNatClampNeg + gq_tt A)) B
    by_cases h : i < x.2.toNatClampNeg
    · rw [if_pos h, if_pos h, if_pos (by omega)]
    · rw [if_neg h, if_neg h, ih]
      by_cases h2 : i - x.2.toNatClampNeg < gq_tt A
      · rw [if_pos h2, if_pos (by omega)]
      · rw [if_neg h2, if_neg (by omega)]
        congr 1
        omega
theorem gq_ok_app {A B : List (Int64 × Int32)} (h : gq_ok (A ++ B)) : gq_ok A ∧ gq_ok B :=
  ⟨fun x hx => h x (List.mem_append_left _ hx), fun x hx => h x (List.mem_append_right _ hx)⟩
theorem gq_ok_cons {x : Int64 × Int32} {B : List (Int64 × Int32)} (h : gq_ok (x :: B)) : (∃ t : Nat, 0 < t ∧ t < 100 ∧ x.2 = nI t) ∧ gq_ok B :=
  ⟨h x List.mem_cons_self, fun y hy => h y (List.mem_cons_of_mem _ hy)⟩
theorem gq_rw_tt {L : List (Int64 × Int32)} (h : gq_ok L) : gq_rw L = nI (gq_tt L) := by
  induction L with
  | nil => rfl
  | cons x L ih =>
    obtain ⟨⟨t, h0, h1, e⟩, h'⟩ := gq_ok_cons h
    show x.2 + gq_rw L = nI (x.2.toNatClampNeg + gq_tt L)
    rw [ih h', e, nI_clamp (by omega), nI_add]
theorem gq_so_app {A B : List (Int64 × Int32)} (h : gq_so (A ++ B)) : gq_so A ∧ gq_so B ∧ ∀ x, x ∈ A → ∀ y, y ∈ B → x.1 < y.1 := by
  unfold gq_so at *
  exact List.pairwise_append.mp h
theorem gq_so_cons {x : Int64 × Int32} {B : List (Int64 × Int32)} (h : gq_so (x :: B)) : (∀ y, y ∈ B → x.1 < y.1) ∧ gq_so B := by
  unfold gq_so at *
  exact List.pairwise_cons.mp h
theorem gq_so_mid {A B : List (Int64 × Int32)} {x : Int64 × Int32} (h : gq_so (A ++ x :: B)) :
    gq_so A ∧ gq_so B ∧ (∀ y, y ∈ A → y.1 < x.1) ∧ (∀ y, y ∈ B → x.1 < y.1) := by
  obtain ⟨h1, h2, h3⟩ := gq_so_app h
  obtain ⟨h4, h5⟩ := gq_so_cons h2
  exact ⟨h1, h5, fun y hy => h3 y hy x List.mem_cons_self, h4⟩
theorem gq_bl_app (p : Int64) (A B : List (Int64 × Int32)) : gq_bl p (A ++ B) = gq_bl p A ++ gq_bl p B := by
  unfold gq_bl
  exact List.filter_append _ _
theorem gq_bl_all {p : Int64} {A : List (Int64 × Int32)} (h : ∀ y, y ∈ A → ¬ p ≤ y.1) : gq_bl p A = A := by
  unfold gq_bl
  apply List.filter_eq_self.mpr
  intro y hy
  simp [h y hy]
theorem gq_bl_none {p : Int64} {A : List (Int64 × Int32)} (h : ∀ y, y ∈ A → p ≤ y.1) : gq_bl p A = [] := by
  unfold gq_bl
  apply List.filter_eq_nil_iff.mpr
  intro y hy
  simp [h y hy]
theorem gq_bl_L {A B : List (Int64 × Int32)} {x : Int64 × Int32} {p : Int64} (h : gq_so (A ++ x :: B)) (hp : p ≤ x.1) : gq_bl p (A ++ x :: B) = gq_bl p A := by
  obtain ⟨_, _, _, h4⟩ := gq_so_mid h
  rw [gq_bl_app, gq_bl_none (A := x :: B), List.append_nil]
  intro y hy
  rcases List.mem_cons.mp hy with e | e
  · rw [e]; exact hp
  · exact Int64.le_of_lt (Int64.lt_of_le_of_lt hp (h4 y e))
theorem gq_bl_R {A B : List (Int64 × Int32)} {x : Int64 × Int32} {p : Int64} (h : gq_so (A ++ x :: B)) (hp : ¬ p ≤ x.1) : gq_bl p (A ++ x :: B) = A ++ x :: gq_bl p B := by
  obtain ⟨_, _, h3, _⟩ := gq_so_mid h
  rw [gq_bl_app, gq_bl_all (A := A), show x :: B = [x] ++ B from rfl, gq_bl_app, gq_bl_all (A := [x])]
  · rfl
  · intro y hy
    rw [List.mem_singleton.mp hy]
    exact hp
  · intro y hy z
    exact hp (Int64.le_of_lt (Int64.lt_of_le_of_lt z (h3 y hy)))
theorem gq_ins_L {p : Int64} {x : Int64 × Int32} (B : List (Int64 × Int32)) (h : ¬ x.1 = p) (h2 : ¬ x.1 ≤ p) (A : List (Int64 × Int32)) : gq_ins p (A ++ x :: B) = gq_ins p A ++ x :: B := by
  induction A with
  | nil => show (if x.1 = p then (x.1, x.2 + 1) :: B else if x.1 ≤ p then x :: gq_ins p B else (p, 1) :: x :: B) = [(p, 1)] ++ x :: B; rw [if_neg h, if_neg h2]; rfl
  | cons y A ih =>
    show (if y.1 = p then (y.1, y.2 + 1) :: (A ++ x :: B) else if y.1 ≤ p then y :: gq_ins p (A ++ x :: B) else (p, 1) :: y :: (A ++ x :: B)) = (if y.1 = p then (y.1, y.2 + 1) :: A else if y.1 ≤ p then y :: gq_ins p A else (p, 1) :: y :: A) ++ x :: B
    rw [ih]
    split
    · rfl
    · split <;> rfl
theorem gq_ins_R {p : Int64} {x : Int64 × Int32} (B : List (Int64 × Int32)) (h : ¬ x.1 = p) (h2 : x.1 ≤ p) (A : List (Int64 × Int32)) (hA : ∀ y, y ∈ A → y.1 < x.1) : gq_ins p (A ++ x :: B) = A ++ x :: gq_ins p B := by
  induction A with
  | nil => show (if x.1 = p then (x.1, x.2 + 1) :: B else if x.1 ≤ p then x :: gq_ins p B else (p, 1) :: x :: B) = x :: gq_ins p B; rw [if_neg h, if_pos h2]
  | cons y A ih =>
    have hy := hA y List.mem_cons_self
    have hy2 := Int64.lt_of_lt_of_le hy h2
    show (if y.1 = p then (y.1, y.2 + 1) :: (A ++ x :: B) else if y.1 ≤ p then y :: gq_ins p (A ++ x :: B) else (p, 1) :: y :: (A ++ x :: B)) = y :: (A ++ x :: gq_ins p B)
    rw [ih (fun z hz => hA z (List.mem_cons_of_mem _ hz)), if_neg (Int64.ne_of_lt hy2), if_pos (Int64.le_of_lt hy2)]
theorem gq_ins_E {p : Int64} {x : Int64 × Int32} (B : List (Int64 × Int32)) (h : x.1 = p) (A : List (Int64 × Int32)) (hA : ∀ y, y ∈ A → y.1 < x.1) : gq_ins p (A ++ x :: B) = A ++ (x.1, x.2 + 1) :: B := by
  induction A with
  | nil => show (if x.1 = p then (x.1, x.2 + 1) :: B else if x.1 ≤ p then x :: gq_ins p B else (p, 1) :: x :: B) = (x.1, x.2 + 1) :: B; rw [if_pos h]
  | cons y A ih =>
    have hy := hA y List.mem_cons_self
    have hy2 : y.1 < p := by rw [← h]; exact hy
    show (if y.1 = p then (y.1, y.2 + 1) :: (A ++ x :: B) else if y.1 ≤ p then y :: gq_ins p (A ++ x :: B) else (p, 1) :: y :: (A ++ x :: B)) = y :: (A ++ (x.1, x.2 + 1) :: B)
    rw [ih (fun z hz => hA z (List.mem_cons_of_mem _ hz)), if_neg (Int64.ne_of_lt hy2), if_pos (Int64.le_of_lt hy2)]
theorem gq_del_not {p : Int64} (B : List (Int64 × Int32)) (h : ∀ y, y ∈ B → ¬ y.1 = p) : gq_del p B = B := by
  induction B with
  | nil => rfl
  | cons y B ih =>
    show (if y.1 = p then (if y.2 ≤ 1 then B else (y.1, y.2 - 1) :: B) else y :: gq_del p B) = y :: B
    rw [if_neg (h y List.mem_cons_self), ih (fun z hz => h z (List.mem_cons_of_mem _ hz))]
theorem gq_del_L {p : Int64} {x : Int64 × Int32} (B : List (Int64 × Int32)) (h2 : ¬ x.1 ≤ p) (A : List (Int64 × Int32)) (hB : ∀ y, y ∈ B → x.1 < y.1) : gq_del p (A ++ x :: B) = gq_del p A ++ x :: B := by
  have hx : p < x.1 := Int64.not_le.mp h2
  induction A with
  | nil =>
    apply gq_del_not
    intro y hy e
    rcases List.mem_cons.mp hy with z | z
    · rw [z] at e
      rw [e] at hx
      exact Int64.lt_irrefl hx
    · have := Int64.lt_trans hx (hB y z)
      rw [e] at this
      exact Int64.lt_irrefl this
  | cons y A ih =>
    show (if y.1 = p then (if y.2 ≤ 1 then A ++ x :: B else (y.1, y.2 - 1) :: (A ++ x :: B)) else y :: gq_del p (A ++ x :: B)) = (if y.1 = p then (if y.2 ≤ 1 then A else (y.1, y.2 - 1) :: A) else y :: gq_del p A) ++ x :: B
    rw [ih]
    split
    · split <;> rfl
    · rfl
theorem gq_del_R {p : Int64} {x : Int64 × Int32} (B : List (Int64 × Int32)) (h : ¬ x.1 = p) (h2 : x.1 ≤ p) (A : List (Int64 × Int32)) (hA : ∀ y, y ∈ A → y.1 < x.1) : gq_del p (A ++ x :: B) = A ++ x :: gq_del p B := by
  induction A with
  | nil => show (if x.1 = p then (if x.2 ≤ 1 then B else (x.1, x.2 - 1) :: B) else x :: gq_del p B) = x :: gq_del p B; rw [if_neg h]
  | cons y A ih =>
    have hy2 := Int64.lt_of_lt_of_le (hA y List.mem_cons_self) h2
    show (if y.1 = p then (if y.2 ≤ 1 then A ++ x :: B else (y.1, y.2 - 1) :: (A ++ x :: B)) else y :: gq_del p (A ++ x :: B)) = y :: (A ++ x :: gq_del p B)
    rw [ih (fun z hz => hA z (List.mem_cons_of_mem _ hz)), if_neg (Int64.ne_of_lt hy2)]
theorem gq_del_E {p : Int64} {x : Int64 × Int32} (B : List (Int64 × Int32)) (h : x.1 = p) (A : List (Int64 × Int32)) (hA : ∀ y, y ∈ A → y.1 < x.1) : gq_del p (A ++ x :: B) = A ++ (if x.2 ≤ 1 then B else (x.1, x.2 - 1) :: B) := by
  induction A with
  | nil => show (if x.1 = p then (if x.2 ≤ 1 then B else (x.1, x.2 - 1) :: B) else x :: gq_del p B) = _; rw [if_pos h]; rfl
  | cons y A ih =>
    have hy2 : y.1 < p := by rw [← h]; exact hA y List.mem_cons_self
    show (if y.1 = p then (if y.2 ≤ 1 then A ++ x :: B else (y.1, y.2 - 1) :: (A ++ x :: B)) else y :: gq_del p (A ++ x :: B)) = y :: (A ++ _)
    rw [ih (fun z hz => hA z (List.mem_cons_of_mem _ hz)), if_neg (Int64.ne_of_lt hy2)]
theorem gq_del_ins {p : Int64} {L : List (Int64 × Int32)} (h : gq_ok L) : gq_del p (gq_ins p L) = L := by
  induction L with
  | nil => show (if p = p then (if (1 : Int32) ≤ 1 then [] else [(p, (1 : Int32) - 1)]) else [(p, 1)]) = []; rw [if_pos rfl, if_pos (by decide)]
  | cons x L ih =>
    obtain ⟨⟨t, h0, h1, e⟩, h'⟩ := gq_ok_cons h
    show gq_del p (if x.1 = p then (x.1, x.2 + 1) :: L else if x.1 ≤ p then x :: gq_ins p L else (p, 1) :: x :: L) = x :: L
    by_cases c : x.1 = p
    · rw [if_pos c]
      show (if x.1 = p then (if x.2 + 1 ≤ 1 then L else (x.1, x.2 + 1 - 1) :: L) else (x.1, x.2 + 1) :: gq_del p L) = x :: L
      rw [if_pos c, if_neg (by rw [e, nI_1]; exact nI_ge (b := t + 1) (a := 1) (by omega) (by omega)), show x.2 + 1 - 1 = x.2 from by rw [e, nI_1, nI_pred]]
    · rw [if_neg c]
      by_cases c2 : x.1 ≤ p
      · rw [if_pos c2]
        show (if x.1 = p then (if x.2 ≤ 1 then gq_ins p L else (x.1, x.2 - 1) :: gq_ins p L) else x :: gq_del p (gq_ins p L)) = x :: L
        rw [if_neg c, ih h']
      · rw [if_neg c2]
        show (if p = p then (if (1 : Int32) ≤ 1 then x :: L else (p, (1 : Int32) - 1) :: x :: L) else (p, 1) :: gq_del p (x :: L)) = x :: L
        rw [if_pos rfl, if_pos (by decide)]
end
section
/-! ===== the tree in its arrays: place, times, left, right, height, rows, kinds, sums ===== -/
abbrev gq_H : Type := (Nat → Int64) × (Nat → Int32) × (Nat → Int32) × (Nat → Int32) × (Nat → Int32) × (Nat → Int32) × (Nat → Int32) × (Nat → Int32)
abbrev gq_A1 (H : gq_H) : Nat → Int64 := H.1
abbrev gq_A2 (H : gq_H) : Nat → Int32 := H.2.1
abbrev gq_A3 (H : gq_H) : Nat → Int32 := H.2.2.1
abbrev gq_A4 (H : gq_H) : Nat → Int32 := H.2.2.2.1
abbrev gq_A5 (H : gq_H) : Nat → Int32 := H.2.2.2.2.1
abbrev gq_A6 (H : gq_H) : Nat → Int32 := H.2.2.2.2.2.1
abbrev gq_A7 (H : gq_H) : Nat → Int32 := H.2.2.2.2.2.2.1
abbrev gq_A8 (H : gq_H) : Nat → Int32 := H.2.2.2.2.2.2.2
/-- the two heaps agree at node j -/
def gq_E (H G : gq_H) (j : Nat) : Prop := gq_A1 G j = gq_A1 H j ∧ gq_A2 G j = gq_A2 H j ∧ gq_A3 G j = gq_A3 H j ∧ gq_A4 G j = gq_A4 H j ∧ gq_A5 G j = gq_A5 H j ∧ gq_A6 G j = gq_A6 H j ∧ gq_A7 G j = gq_A7 H j ∧ gq_A8 G j = gq_A8 H j
/-- the books of node m are what update writes -/
def gq_loc (H : gq_H) (m : Nat) : Prop :=
  gq_A5 H m = 1 + (if gq_A5 H (gq_A3 H m).toNatClampNeg ≤ gq_A5 H (gq_A4 H m).toNatClampNeg then gq_A5 H (gq_A4 H m).toNatClampNeg else gq_A5 H (gq_A3 H m).toNatClampNeg) ∧
  gq_A6 H m = (gq_A6 H (gq_A3 H m).toNatClampNeg + gq_A6 H (gq_A4 H m).toNatClampNeg) + gq_A2 H m ∧
  gq_A7 H m = (gq_A7 H (gq_A3 H m).toNatClampNeg + gq_A7 H (gq_A4 H m).toNatClampNeg) + 1 ∧
  gq_A8 H m = (gq_A8 H (gq_A3 H m).toNatClampNeg + gq_A8 H (gq_A4 H m).toNatClampNeg) + gq_A2 H m * gq_val (gq_A1 H m)
/-- n is the root of a tree with the nodes ns, in order; depth at most k -/
def gq_T (H : gq_H) : Nat → Int32 → List Nat → Prop
  | 0 => fun n ns => n = 0 ∧ ns = []
  | k + 1 => fun n ns => (n = 0 ∧ ns = []) ∨ ∃ (m : Nat) (nl nr : List Nat), 0 < m ∧ m < 41 ∧ n = nI m ∧ ns = nl ++ m :: nr ∧ gq_T H k (gq_A3 H m) nl ∧ gq_T H k (gq_A4 H m) nr ∧ gq_loc H m
def gq_Z (H : gq_H) : Prop := gq_A5 H 0 = 0 ∧ gq_A6 H 0 = 0 ∧ gq_A7 H 0 = 0 ∧ gq_A8 H 0 = 0
def gq_pr (H : gq_H) (ns : List Nat) : List (Int64 × Int32) := ns.map (fun m => (gq_A1 H m, gq_A2 H m))
theorem gq_pr_app (H : gq_H) (A B : List Nat) : gq_pr H (A ++ B) = gq_pr H A ++ gq_pr H B := List.map_append
theorem gq_pr_mid (H : gq_H) (A B : List Nat) (m : Nat) : gq_pr H (A ++ m :: B) = gq_pr H A ++ (gq_A1 H m, gq_A2 H m) :: gq_pr H B := List.map_append
theorem gq_pr_len (H : gq_H) (A : List Nat) : (gq_pr H A).length = A.length := List.length_map _
theorem gq_pr_eq {H G : gq_H} {ns : List Nat} (h : ∀ j, j ∈ ns → gq_A1 G j = gq_A1 H j ∧ gq_A2 G j = gq_A2 H j) : gq_pr G ns = gq_pr H ns := by
  unfold gq_pr
  apply List.map_congr_left
  intro j hj
  rw [(h j hj).1, (h j hj).2]
theorem gq_E_refl (H : gq_H) (j : Nat) : gq_E H H j := ⟨rfl, rfl, rfl, rfl, rfl, rfl, rfl, rfl⟩
theorem gq_E_trans {H G F : gq_H} {j : Nat} (h : gq_E H G j) (g : gq_E G F j) : gq_E H F j := by
  obtain ⟨h1, h2, h3, h4, h5, h6, h7, h8⟩ := h
  obtain ⟨g1, g2, g3, g4, g5, g6, g7, g8⟩ := g
  exact ⟨g1.trans h1, g2.trans h2, g3.trans h3, g4.trans h4, g5.trans h5, g6.trans h6, g7.trans h7, g8.trans h8⟩
theorem gq_T_0 (H : gq_H) (k : Nat) : gq_T H k 0 [] := by
  cases k with
  | zero => exact ⟨rfl, rfl⟩
  | succ k => exact Or.inl ⟨rfl, rfl⟩
theorem gq_T_node {H : gq_H} {k m : Nat} {nl nr : List Nat} (h0 : 0 < m) (h1 : m < 41) (hl : gq_T H k (gq_A3 H m) nl) (hr : gq_T H k (gq_A4 H m) nr) (hc : gq_loc H m) : gq_T H (k + 1) (nI m) (nl ++ m :: nr) :=
  Or.inr ⟨m, nl, nr, h0, h1, rfl, rfl, hl, hr, hc⟩
theorem gq_T_inv {H : gq_H} {k : Nat} {n : Int32} {ns : List Nat} (h : gq_T H k n ns) :
    (n = 0 ∧ ns = []) ∨ ∃ (k' m : Nat) (nl nr : List Nat), k = k' + 1 ∧ 0 < m ∧ m < 41 ∧ n = nI m ∧ ns = nl ++ m :: nr ∧ gq_T H k' (gq_A3 H m) nl ∧ gq_T H k' (gq_A4 H m) nr ∧ gq_loc H m := by
  cases k with
  | zero => exact Or.inl h
  | succ k =>
    rcases h with h | ⟨m, nl, nr, h⟩
    · exact Or.inl h
    · exact Or.inr ⟨k, m, nl, nr, rfl, h⟩
theorem gq_T_root {H : gq_H} {k : Nat} {n : Int32} {ns : List Nat} (h : gq_T H k n ns) : (n = 0 ∧ ns = []) ∨ ∃ m, m ∈ ns ∧ 0 < m ∧ m < 41 ∧ n = nI m := by
  rcases gq_T_inv h with h | ⟨k', m, nl, nr, _, h0, h1, e, es, _⟩
  · exact Or.inl h
  · exact Or.inr ⟨m, by rw [es]; simp, h0, h1, e⟩
theorem gq_T_ne {H : gq_H} {k m : Nat} {ns : List Nat} (h0 : 0 < m) (h1 : m < 41) (h : gq_T H k (nI m) ns) :
    ∃ (k' : Nat) (nl nr : List Nat), k = k' + 1 ∧ ns = nl ++ m :: nr ∧ gq_T H k' (gq_A3 H m) nl ∧ gq_T H k' (gq_A4 H m) nr ∧ gq_loc H m := by
  rcases gq_T_inv h with ⟨h, _⟩ | ⟨k', m', nl, nr, ek, h0', h1', e, es, hl, hr, hc⟩
  · exact absurd h (nI_ne0 h0 (by omega))
  · have em : m = m' := (nI_eq (by omega) (by omega)).mp e
    subst em
    exact ⟨k', nl, nr, ek, es, hl, hr, hc⟩
theorem gq_T_z {H : gq_H} {k : Nat} {ns : List Nat} (h : gq_T H k 0 ns) : ns = [] := by
  rcases gq_T_root h with ⟨_, e⟩ | ⟨m, _, h0, h1, e⟩
  · exact e
  · exact absurd e.symm (nI_ne0 h0 (by omega))
theorem gq_T_in {H : gq_H} {k : Nat} {n : Int32} {ns : List Nat} (h : gq_T H k n ns) : vp_in n 41 := by
  rcases gq_T_root h with ⟨e, _⟩ | ⟨m, _, _, h1, e⟩
  · exact pk_in 0 41 (by omega) e
  · exact pk_in m 41 h1 e
theorem gq_T_cl {H : gq_H} {k : Nat} {n : Int32} {ns : List Nat} (h : gq_T H k n ns) : n.toNatClampNeg ∈ ns ∨ n.toNatClampNeg = 0 := by
  rcases gq_T_root h with ⟨e, _⟩ | ⟨m, hm, _, h1, e⟩
  · rw [e]; exact Or.inr rfl
  · rw [e, nI_clamp (by omega)]; exact Or.inl hm
theorem gq_T_mem {H : gq_H} {k : Nat} : ∀ {n : Int32} {ns : List Nat}, gq_T H k n ns → ∀ m, m ∈ ns → 0 < m ∧ m < 41 := by
  induction k with
  | zero => intro n ns h m hm; rw [h.2] at hm; exact absurd hm List.not_mem_nil
  | succ k ih =>
    intro n ns h m hm
    rcases h with h | ⟨q, nl, nr, h0, h1, _, es, hl, hr, _⟩
    · rw [h.2] at hm; exact absurd hm List.not_mem_nil
    · rw [es] at hm
      rcases List.mem_append.mp hm with z | z
      · exact ih hl m z
      · rcases List.mem_cons.mp z with z | z
        · rw [z]; exact ⟨h0, h1⟩
        · exact ih hr m z
theorem gq_T_mono1 {H : gq_H} {k : Nat} : ∀ {n : Int32} {ns : List Nat}, gq_T H k n ns → gq_T H (k + 1) n ns := by
  induction k with
  | zero => intro n ns h; exact Or.inl h
  | succ k ih =>
    intro n ns h
    rcases h with h | ⟨q, nl, nr, h0, h1, e, es, hl, hr, hc⟩
    · exact Or.inl h
    · exact Or.inr ⟨q, nl, nr, h0, h1, e, es, ih hl, ih hr, hc⟩
theorem gq_T_mono {H : gq_H} {k k' : Nat} {n : Int32} {ns : List Nat} (hk : k ≤ k') (h : gq_T H k n ns) : gq_T H k' n ns := by
  obtain ⟨d, rfl⟩ : ∃ d, k' = k + d := ⟨k' - k, by omega⟩
  clear hk
  induction d with
  | zero => exact h
  | succ d ih => exact gq_T_mono1 ih
theorem gq_T_tight {H : gq_H} {k : Nat} : ∀ {n : Int32} {ns : List Nat}, gq_T H k n ns → gq_T H ns.length n ns := by
  induction k with
  | zero => intro n ns h; rw [h.1, h.2]; exact gq_T_0 H _
  | succ k ih =>
    intro n ns h
    rcases h with h | ⟨q, nl, nr, h0, h1, e, es, hl, hr, hc⟩
    · rw [h.1, h.2]; exact gq_T_0 H _
    · have hlen : ns.length = nl.length + nr.length + 1 := by rw [es, List.length_append, List.length_cons]; omega
      rw [hlen, e, es]
      exact gq_T_node h0 h1 (gq_T_mono (by omega) (ih hl)) (gq_T_mono (by omega) (ih hr)) hc
theorem gq_loc_frame {H G : gq_H} {m : Nat} (h : gq_loc H m) (e : gq_E H G m) (el : gq_E H G (gq_A3 H m).toNatClampNeg) (er : gq_E H G (gq_A4 H m).toNatClampNeg) : gq_loc G m := by
  obtain ⟨e1, e2, e3, e4, e5, e6, e7, e8⟩ := e
  obtain ⟨_, _, _, _, l5, l6, l7, l8⟩ := el
  obtain ⟨_, _, _, _, r5, r6, r7, r8⟩ := er
  unfold gq_loc at *
  rw [e3, e4, e5, e6, e7, e8, e1, e2, l5, l6, l7, l8, r5, r6, r7, r8]
  exact h
theorem gq_T_frame {H G : gq_H} {k : Nat} : ∀ {n : Int32} {ns : List Nat}, gq_T H k n ns → (∀ j, j ∈ ns ∨ j = 0 → gq_E H G j) → gq_T G k n ns := by
  induction k with
  | zero => intro n ns h _; exact h
  | succ k ih =>
    intro n ns h hE
    rcases h with h | ⟨q, nl, nr, h0, h1, e, es, hl, hr, hc⟩
    · exact Or.inl h
    · have El : ∀ j, j ∈ nl ∨ j = 0 → gq_E H G j := fun j hj => hE j (by rw [es]; rcases hj with z | z; exact Or.inl (List.mem_append_left _ z); exact Or.inr z)
      have Er : ∀ j, j ∈ nr ∨ j = 0 → gq_E H G j := fun j hj => hE j (by rw [es]; rcases hj with z | z; exact Or.inl (List.mem_append_right _ (List.mem_cons_of_mem _ z)); exact Or.inr z)
      have Eq : gq_E H G q := hE q (by rw [es]; exact Or.inl (by simp))
      refine Or.inr ⟨q, nl, nr, h0, h1, e, es, ?_, ?_, gq_loc_frame hc Eq (El _ (gq_T_cl hl)) (Er _ (gq_T_cl hr))⟩
      · rw [show gq_A3 G q = gq_A3 H q from Eq.2.2.1]; exact ih hl El
      · rw [show gq_A4 G q = gq_A4 H q from Eq.2.2.2.1]; exact ih hr Er
theorem gq_T_h {H : gq_H} (hZ : gq_Z H) {k : Nat} : ∀ {n : Int32} {ns : List Nat}, gq_T H k n ns → ns.length < 1000 → ∃ h : Nat, gq_A5 H n.toNatClampNeg = nI h ∧ h ≤ ns.length ∧ (n = 0 ∨ 0 < h) := by
  induction k with
  | zero => intro n ns h _; exact ⟨0, by rw [h.1]; exact hZ.1, by omega, Or.inl h.1⟩
  | succ k ih =>
    intro n ns h hn
    rcases h with h | ⟨q, nl, nr, h0, h1, e, es, hl, hr, hc⟩
    · exact ⟨0, by rw [h.1]; exact hZ.1, by omega, Or.inl h.1⟩
    · have hlen : ns.length = nl.length + nr.length + 1 := by rw [es, List.length_append, List.length_cons]; omega
      obtain ⟨x, ex, lx, _⟩ := ih hl (by omega)
      obtain ⟨y, ey, ly, _⟩ := ih hr (by omega)
      rw [e, nI_clamp (by omega), hc.1, ex, ey]
      by_cases c : x ≤ y
      · rw [if_pos ((nI_leI (by omega) (by omega)).mpr c)]
        exact ⟨1 + y, nI_add 1 y, by omega, Or.inr (by omega)⟩
      · rw [if_neg (fun z => c ((nI_leI (by omega) (by omega)).mp z))]
        exact ⟨1 + x, nI_add 1 x, by omega, Or.inr (by omega)⟩
theorem gq_T_sum {H : gq_H} (hZ : gq_Z H) {k : Nat} : ∀ {n : Int32} {ns : List Nat}, gq_T H k n ns →
    gq_A6 H n.toNatClampNeg = gq_rw (gq_pr H ns) ∧ gq_A7 H n.toNatClampNeg = gq_kd (gq_pr H ns) ∧ gq_A8 H n.toNatClampNeg = gq_sm (gq_pr H ns) := by
  have hz : ∀ {n : Int32} {ns : List Nat}, n = 0 ∧ ns = [] → gq_A6 H n.toNatClampNeg = gq_rw (gq_pr H ns) ∧ gq_A7 H n.toNatClampNeg = gq_kd (gq_pr H ns) ∧ gq_A8 H n.toNatClampNeg = gq_sm (gq_pr H ns) := by
    intro n ns h
    rw [h.1, h.2]
    exact ⟨hZ.2.1, hZ.2.2.1, hZ.2.2.2⟩
  induction k with
  | zero => intro n ns h; exact hz h
  | succ k ih =>
    intro n ns h
    rcases h with h | ⟨q, nl, nr, h0, h1, e, es, hl, hr, hc⟩
    · exact hz h
    · obtain ⟨l6, l7, l8⟩ := ih hl
      obtain ⟨r6, r7, r8⟩ := ih hr
      obtain ⟨_, c6, c7, c8⟩ := hc
      rw [e, nI_clamp (by omega), es, gq_pr_mid, gq_rw_app, gq_kd_app, gq_sm_app, c6, c7, c8, l6, l7, l8, r6, r7, r8]
      refine ⟨?_, ?_, ?_⟩
      · show gq_rw (gq_pr H nl) + gq_rw (gq_pr H nr) + gq_A2 H q = gq_rw (gq_pr H nl) + (gq_A2 H q + gq_rw (gq_pr H nr))
        rw [Int32.add_assoc, Int32.add_comm (gq_rw (gq_pr H nr))]
      · show gq_kd (gq_pr H nl) + gq_kd (gq_pr H nr) + 1 = gq_kd (gq_pr H nl) + (1 + gq_kd (gq_pr H nr))
        rw [Int32.add_assoc, Int32.add_comm (gq_kd (gq_pr H nr))]
      · show gq_sm (gq_pr H nl) + gq_sm (gq_pr H nr) + gq_A2 H q * gq_val (gq_A1 H q) = gq_sm (gq_pr H nl) + (gq_A2 H q * gq_val (gq_A1 H q) + gq_sm (gq_pr H nr))
        rw [Int32.add_assoc, Int32.add_comm (gq_sm (gq_pr H nr))]
end
section
theorem gq_rb_l {post : Int32 → Prop} {p : Int64} {rt fr dp fl ce sb sa en : Int32} {a1 : Nat → Int64} {a2 a3 a4 a5 a6 a7 a8 a9 a10 a11 a12 a13 a14 : Nat → Int32} (hZ : gq_Z (a1, a2, a3, a4, a5, a6, a7, a8)) {k : Nat} : ∀ {n : Int32} {ns : List Nat} {acc : Int32} {d : Nat}, gq_T (a1, a2, a3, a4, a5, a6, a7, a8) k n ns → gq_so (gq_pr (a1, a2, a3, a4, a5, a6, a7, a8) ns) → d + k ≤ 16 → post (acc + gq_rw (gq_bl p (gq_pr (a1, a2, a3, a4, a5, a6, a7, a8) ns))) → ∃ fu, wX_rowsBelow_11 post p rt fr dp fl ce sb sa en a1 a2 a3 a4 a5 a6 a7 a8 a9 a10 a11 a12 a13 a14 fu acc n (nI d) := by
  induction k with
  | zero =>
    intro n ns acc d h hs hd hp
    have hp' : post acc := by
      rw [h.2, show acc + gq_rw (gq_bl p (gq_pr (a1, a2, a3, a4, a5, a6, a7, a8) [])) = acc from Int32.add_zero acc] at hp
      exact hp
    exact ⟨1, br_c (fun _ => hp') (fun _ => br_t h.1 hp')⟩
  | succ k ih =>
    intro n ns acc d h hs hd hp
    rcases h with h | ⟨q, nl, nr, h0, h1, e, es, hl, hr, hc⟩
    · have hp' : post acc := by
        rw [h.2, show acc + gq_rw (gq_bl p (gq_pr (a1, a2, a3, a4, a5, a6, a7, a8) [])) = acc from Int32.add_zero acc] at hp
        exact hp
      exact ⟨1, br_c (fun _ => hp') (fun _ => br_t h.1 hp')⟩
    · subst e es
      have cq : (nI q).toNatClampNeg = q := nI_clamp (by omega)
      rw [gq_pr_mid] at hs hp
      obtain ⟨so1, so2, _, _⟩ := gq_so_mid hs
      have el : a6 (a3 q).toNatClampNeg = gq_rw (gq_pr (a1, a2, a3, a4, a5, a6, a7, a8) nl) := (gq_T_sum hZ hl).1
      by_cases c : p ≤ a1 q
      · rw [gq_bl_L hs c] at hp
        obtain ⟨fu, hw⟩ := ih (d := d + 1) hl so1 (by omega) hp
        refine ⟨fu + 1, pk_le 16 d (fun z => absurd z (by omega)) (fun _ => br_f (nI_ne0 h0 (by omega)) ⟨pk_in q 41 h1, ?_⟩)⟩
        rw [cq]
        exact br_t c ⟨pk_in q 41 h1, nm_e (nm_r (nI_1 d) hw)⟩
      · rw [gq_bl_R hs c, gq_rw_app] at hp
        have hp2 : post ((acc + (gq_rw (gq_pr (a1, a2, a3, a4, a5, a6, a7, a8) nl) + a2 q)) + gq_rw (gq_bl p (gq_pr (a1, a2, a3, a4, a5, a6, a7, a8) nr))) := by
          rw [Int32.add_assoc, Int32.add_assoc]
          exact hp
        obtain ⟨fu, hw⟩ := ih (d := d + 1) hr so2 (by omega) hp2
        refine ⟨fu + 1, pk_le 16 d (fun z => absurd z (by omega)) (fun _ => br_f (nI_ne0 h0 (by omega)) ⟨pk_in q 41 h1, ?_⟩)⟩
        rw [cq]
        refine br_f c ⟨pk_in q 41 h1, gq_T_in hl, pk_in q 41 h1, nm_r (show acc + (a6 (a3 q).toNatClampNeg + a2 q) = acc + (gq_rw (gq_pr (a1, a2, a3, a4, a5, a6, a7, a8) nl) + a2 q) from by rw [el]) ⟨pk_in q 41 h1, nm_e (nm_r (nI_1 d) hw)⟩⟩
theorem gq_rb {post : Int32 → Prop} {p : Int64} {rt fr dp fl ce sb sa en : Int32} {a1 : Nat → Int64} {a2 a3 a4 a5 a6 a7 a8 a9 a10 a11 a12 a13 a14 : Nat → Int32} (hZ : gq_Z (a1, a2, a3, a4, a5, a6, a7, a8)) {ns : List Nat} (hT : gq_T (a1, a2, a3, a4, a5, a6, a7, a8) ns.length rt ns) (hs : gq_so (gq_pr (a1, a2, a3, a4, a5, a6, a7, a8) ns)) (hd : ns.length ≤ 16) (hp : post (gq_rw (gq_bl p (gq_pr (a1, a2, a3, a4, a5, a6, a7, a8) ns)))) : wpX_rowsBelow post (rt, fr, dp, fl, ce, sb, sa, en, a1, a2, a3, a4, a5, a6, a7, a8, a9, a10, a11, a12, a13, a14) p := by
  refine gq_rb_l (d := 0) hZ hT hs (by omega) ?_
  rw [Int32.zero_add]
  exact hp
theorem gq_kb_l {post : Int32 → Prop} {p : Int64} {rt fr dp fl ce sb sa en : Int32} {a1 : Nat → Int64} {a2 a3 a4 a5 a6 a7 a8 a9 a10 a11 a12 a13 a14 : Nat → Int32} (hZ : gq_Z (a1, a2, a3, a4, a5, a6, a7, a8)) {k : Nat} : ∀ {n : Int32} {ns : List Nat} {acc : Int32} {d : Nat}, gq_T (a1, a2, a3, a4, a5, a6, a7, a8) k n ns → gq_so (gq_pr (a1, a2, a3, a4, a5, a6, a7, a8) ns) → d + k ≤ 16 → post (acc + gq_kd (gq_bl p (gq_pr (a1, a2, a3, a4, a5, a6, a7, a8) ns))) → ∃ fu, wX_kindsBelow_11 post p rt fr dp fl ce sb sa en a1 a2 a3 a4 a5 a6 a7 a8 a9 a10 a11 a12 a13 a14 fu acc n (nI d) := by
  induction k with
  | zero =>
    intro n ns acc d h hs hd hp
    have hp' : post acc := by
      rw [h.2, show acc + gq_kd (gq_bl p (gq_pr (a1, a2, a3, a4, a5, a6, a7, a8) [])) = acc from Int32.add_zero acc] at hp
      exact hp
    exact ⟨1, br_c (fun _ => hp') (fun _ => br_t h.1 hp')⟩
  | succ k ih =>
    intro n ns acc d h hs hd hp
    rcases h with h | ⟨q, nl, nr, h0, h1, e, es, hl, hr, hc⟩
    · have hp' : post acc := by
        rw [h.2, show acc + gq_kd (gq_bl p (gq_pr (a1, a2, a3, a4, a5, a6, a7, a8) [])) = acc from Int32.add_zero acc] at hp
        exact hp
      exact ⟨1, br_c (fun _ => hp') (fun _ => br_t h.1 hp')⟩
    · subst e es
      have cq : (nI q).toNatClampNeg = q := nI_clamp (by omega)
      rw [gq_pr_mid] at hs hp
      obtain ⟨so1, so2, _, _⟩ := gq_so_mid hs
      have el : a7 (a3 q).toNatClampNeg = gq_kd (gq_pr (a1, a2, a3, a4, a5, a6, a7, a8) nl) := (gq_T_sum hZ hl).2.1
      by_cases c : p ≤ a1 q
      · rw [gq_bl_L hs c] at hp
        obtain ⟨fu, hw⟩ := ih (d := d + 1) hl so1 (by omega) hp
        refine ⟨fu + 1, pk_le 16 d (fun z => absurd z (by omega)) (fun _ => br_f (nI_ne0 h0 (by omega)) ⟨pk_in q 41 h1, ?_⟩)⟩
        rw [cq]
        exact br_t c ⟨pk_in q 41 h1, nm_e (nm_r (nI_1 d) hw)⟩
      · rw [gq_bl_R hs c, gq_kd_app] at hp
        have hp2 : post ((acc + (gq_kd (gq_pr (a1, a2, a3, a4, a5, a6, a7, a8) nl) + 1)) + gq_kd (gq_bl p (gq_pr (a1, a2, a3, a4, a5, a6, a7, a8) nr))) := by
          rw [Int32.add_assoc, Int32.add_assoc]
          exact hp
        obtain ⟨fu, hw⟩ := ih (d := d + 1) hr so2 (by omega) hp2
        refine ⟨fu + 1, pk_le 16 d (fun z => absurd z (by omega)) (fun _ => br_f (nI_ne0 h0 (by omega)) ⟨pk_in q 41 h1, ?_⟩)⟩
        rw [cq]
        refine br_f c ⟨pk_in q 41 h1, gq_T_in hl, nm_r (show acc + (a7 (a3 q).toNatClampNeg + 1) = acc + (gq_kd (gq_pr (a1, a2, a3, a4, a5, a6, a7, a8) nl) + 1) from by rw [el]) ⟨pk_in q 41 h1, nm_e (nm_r (nI_1 d) hw)⟩⟩
theorem gq_kb {post : Int32 → Prop} {p : Int64} {rt fr dp fl ce sb sa en : Int32} {a1 : Nat → Int64} {a2 a3 a4 a5 a6 a7 a8 a9 a10 a11 a12 a13 a14 : Nat → Int32} (hZ : gq_Z (a1, a2, a3, a4, a5, a6, a7, a8)) {ns : List Nat} (hT : gq_T (a1, a2, a3, a4, a5, a6, a7, a8) ns.length rt ns) (hs : gq_so (gq_pr (a1, a2, a3, a4, a5, a6, a7, a8) ns)) (hd : ns.length ≤ 16) (hp : post (gq_kd (gq_bl p (gq_pr (a1, a2, a3, a4, a5, a6, a7, a8) ns)))) : wpX_kindsBelow post (rt, fr, dp, fl, ce, sb, sa, en, a1, a2, a3, a4, a5, a6, a7, a8, a9, a10, a11, a12, a13, a14) p := by
  refine gq_kb_l (d := 0) hZ hT hs (by omega) ?_
  rw [Int32.zero_add]
  exact hp
theorem gq_sb_l {post : Int32 → Prop} {p : Int64} {rt fr dp fl ce sb sa en : Int32} {a1 : Nat → Int64} {a2 a3 a4 a5 a6 a7 a8 a9 a10 a11 a12 a13 a14 : Nat → Int32} (hZ : gq_Z (a1, a2, a3, a4, a5, a6, a7, a8)) {k : Nat} : ∀ {n : Int32} {ns : List Nat} {acc : Int32} {d : Nat}, gq_T (a1, a2, a3, a4, a5, a6, a7, a8) k n ns → gq_so (gq_pr (a1, a2, a3, a4, a5, a6, a7, a8) ns) → d + k ≤ 16 → post (acc + gq_sm (gq_bl p (gq_pr (a1, a2, a3, a4, a5, a6, a7, a8) ns))) → ∃ fu, wX_sumBelow_11 post p rt fr dp fl ce sb sa en a1 a2 a3 a4 a5 a6 a7 a8 a9 a10 a11 a12 a13 a14 fu acc n (nI d) := by
  induction k with
  | zero =>
    intro n ns acc d h hs hd hp
    have hp' : post acc := by
      rw [h.2, show acc + gq_sm (gq_bl p (gq_pr (a1, a2, a3, a4, a5, a6, a7, a8) [])) = acc from Int32.add_zero acc] at hp
      exact hp
    exact ⟨1, br_c (fun _ => hp') (fun _ => br_t h.1 hp')⟩
  | succ k ih =>
    intro n ns acc d h hs hd hp
    rcases h with h | ⟨q, nl, nr, h0, h1, e, es, hl, hr, hc⟩
    · have hp' : post acc := by
        rw [h.2, show acc + gq_sm (gq_bl p (gq_pr (a1, a2, a3, a4, a5, a6, a7, a8) [])) = acc from Int32.add_zero acc] at hp
        exact hp
      exact ⟨1, br_c (fun _ => hp') (fun _ => br_t h.1 hp')⟩
    · subst e es
      have cq : (nI q).toNatClampNeg = q := nI_clamp (by omega)
      rw [gq_pr_mid] at hs hp
      obtain ⟨so1, so2, _, _⟩ := gq_so_mid hs
      have el : a8 (a3 q).toNatClampNeg = gq_sm (gq_pr (a1, a2, a3, a4, a5, a6, a7, a8) nl) := (gq_T_sum hZ hl).2.2
      by_cases c : p ≤ a1 q
      · rw [gq_bl_L hs c] at hp
        obtain ⟨fu, hw⟩ := ih (d := d + 1) hl so1 (by omega) hp
        refine ⟨fu + 1, pk_le 16 d (fun z => absurd z (by omega)) (fun _ => br_f (nI_ne0 h0 (by omega)) ⟨pk_in q 41 h1, ?_⟩)⟩
        rw [cq]
        exact br_t c ⟨pk_in q 41 h1, nm_e (nm_r (nI_1 d) hw)⟩
      · rw [gq_bl_R hs c, gq_sm_app] at hp
        have hp2 : post ((acc + (gq_sm (gq_pr (a1, a2, a3, a4, a5, a6, a7, a8) nl) + a2 q * gq_val (a1 q))) + gq_sm (gq_bl p (gq_pr (a1, a2, a3, a4, a5, a6, a7, a8) nr))) := by
          rw [Int32.add_assoc, Int32.add_assoc]
          exact hp
        obtain ⟨fu, hw⟩ := ih (d := d + 1) hr so2 (by omega) hp2
        refine ⟨fu + 1, pk_le 16 d (fun z => absurd z (by omega)) (fun _ => br_f (nI_ne0 h0 (by omega)) ⟨pk_in q 41 h1, ?_⟩)⟩
        rw [cq]
        refine br_f c ⟨pk_in q 41 h1, gq_T_in hl, pk_in q 41 h1, pk_in q 41 h1, nm_r (show acc + (a8 (a3 q).toNatClampNeg + a2 q * gq_val (a1 q)) = acc + (gq_sm (gq_pr (a1, a2, a3, a4, a5, a6, a7, a8) nl) + a2 q * gq_val (a1 q)) from by rw [el]) ⟨pk_in q 41 h1, nm_e (nm_r (nI_1 d) hw)⟩⟩
theorem gq_sb {post : Int32 → Prop} {p : Int64} {rt fr dp fl ce sb sa en : Int32} {a1 : Nat → Int64} {a2 a3 a4 a5 a6 a7 a8 a9 a10 a11 a12 a13 a14 : Nat → Int32} (hZ : gq_Z (a1, a2, a3, a4, a5, a6, a7, a8)) {ns : List Nat} (hT : gq_T (a1, a2, a3, a4, a5, a6, a7, a8) ns.length rt ns) (hs : gq_so (gq_pr (a1, a2, a3, a4, a5, a6, a7, a8) ns)) (hd : ns.length ≤ 16) (hp : post (gq_sm (gq_bl p (gq_pr (a1, a2, a3, a4, a5, a6, a7, a8) ns)))) : wpX_sumBelow post (rt, fr, dp, fl, ce, sb, sa, en, a1, a2, a3, a4, a5, a6, a7, a8, a9, a10, a11, a12, a13, a14) p := by
  refine gq_sb_l (d := 0) hZ hT hs (by omega) ?_
  rw [Int32.zero_add]
  exact hp
theorem gq_ra_l {post : Int64 → Prop} {rt fr dp fl ce sb sa en : Int32} {a1 : Nat → Int64} {a2 a3 a4 a5 a6 a7 a8 a9 a10 a11 a12 a13 a14 : Nat → Int32} (hZ : gq_Z (a1, a2, a3, a4, a5, a6, a7, a8)) {k : Nat} : ∀ {n : Int32} {ns : List Nat} {i d : Nat}, gq_T (a1, a2, a3, a4, a5, a6, a7, a8) k n ns → gq_ok (gq_pr (a1, a2, a3, a4, a5, a6, a7, a8) ns) → gq_tt (gq_pr (a1, a2, a3, a4, a5, a6, a7, a8) ns) < 10000 → i < 10000 → d + k ≤ 16 → post (gq_at i (gq_pr (a1, a2, a3, a4, a5, a6, a7, a8) ns)) → ∃ fu, wX_rowAt_10 post rt fr dp fl ce sb sa en a1 a2 a3 a4 a5 a6 a7 a8 a9 a10 a11 a12 a13 a14 fu (nI i) n (nI d) := by
  induction k with
  | zero =>
    intro n ns i d h ho ht hi hd hp
    rw [h.2] at hp
    have hp' : post 0 := hp
    exact ⟨1, br_c (fun _ => hp') (fun _ => br_t h.1 hp')⟩
  | succ k ih =>
    intro n ns i d h ho ht hi hd hp
    rcases h with h | ⟨q, nl, nr, h0, h1, e, es, hl, hr, hc⟩
    · rw [h.2] at hp
      have hp' : post 0 := hp
      exact ⟨1, br_c (fun _ => hp') (fun _ => br_t h.1 hp')⟩
    · subst e es
      have cq : (nI q).toNatClampNeg = q := nI_clamp (by omega)
      rw [gq_pr_mid] at ho ht hp
      obtain ⟨ol, o2⟩ := gq_ok_app ho
      obtain ⟨⟨t, t0, t1, et⟩, or⟩ := gq_ok_cons o2
      have et' : a2 q = nI t := et
      have el : a6 (a3 q).toNatClampNeg = nI (gq_tt (gq_pr (a1, a2, a3, a4, a5, a6, a7, a8) nl)) := by
        rw [← gq_rw_tt ol]
        exact (gq_T_sum hZ hl).1
      rw [gq_tt_app] at ht
      have ht' : gq_tt (gq_pr (a1, a2, a3, a4, a5, a6, a7, a8) nl) + (t + gq_tt (gq_pr (a1, a2, a3, a4, a5, a6, a7, a8) nr)) < 10000 := by
        have e : gq_tt ((gq_A1 (a1, a2, a3, a4, a5, a6, a7, a8) q, gq_A2 (a1, a2, a3, a4, a5, a6, a7, a8) q) :: gq_pr (a1, a2, a3, a4, a5, a6, a7, a8) nr) = t + gq_tt (gq_pr (a1, a2, a3, a4, a5, a6, a7, a8) nr) := by
          show (a2 q).toNatClampNeg + gq_tt (gq_pr (a1, a2, a3, a4, a5, a6, a7, a8) nr) = t + gq_tt (gq_pr (a1, a2, a3, a4, a5, a6, a7, a8) nr)
          rw [et', nI_clamp (by omega)]
        omega
      have hp2 : post (if i < gq_tt (gq_pr (a1, a2, a3, a4, a5, a6, a7, a8) nl) then gq_at i (gq_pr (a1, a2, a3, a4, a5, a6, a7, a8) nl) else if i - gq_tt (gq_pr (a1, a2, a3, a4, a5, a6, a7, a8) nl) < t then a1 q else gq_at (i - gq_tt (gq_pr (a1, a2, a3, a4, a5, a6, a7, a8) nl) - t) (gq_pr (a1, a2, a3, a4, a5, a6, a7, a8) nr)) := by
        rw [gq_at_app] at hp
        have e : ∀ j, gq_at j ((gq_A1 (a1, a2, a3, a4, a5, a6, a7, a8) q, gq_A2 (a1, a2, a3, a4, a5, a6, a7, a8) q) :: gq_pr (a1, a2, a3, a4, a5, a6, a7, a8) nr) = if j < t then a1 q else gq_at (j - t) (gq_pr (a1, a2, a3, a4, a5, a6, a7, a8) nr) := by
          intro j
          show (if j < (a2 q).toNatClampNeg then a1 q else gq_at (j - (a2 q).toNatClampNeg) (gq_pr (a1, a2, a3, a4, a5, a6, a7, a8) nr)) = _
          rw [et', nI_clamp (by omega)]
        rw [e] at hp
        exact hp
      by_cases c : i < gq_tt (gq_pr (a1, a2, a3, a4, a5, a6, a7, a8) nl)
      · rw [if_pos c] at hp2
        obtain ⟨fu, hw⟩ := ih (d := d + 1) hl ol (by omega) hi (by omega) hp2
        refine ⟨fu + 1, pk_le 16 d (fun z => absurd z (by omega)) (fun _ => br_f (nI_ne0 h0 (by omega)) ⟨pk_in q 41 h1, ?_⟩)⟩
        rw [cq]
        refine ⟨gq_T_in hl, nm_r el ?_⟩
        exact br_f (nI_ge c (by omega)) ⟨pk_in q 41 h1, nm_e (nm_r (nI_1 d) hw)⟩
      · rw [if_neg c] at hp2
        by_cases c2 : i - gq_tt (gq_pr (a1, a2, a3, a4, a5, a6, a7, a8) nl) < t
        · rw [if_pos c2] at hp2
          refine ⟨1, pk_le 16 d (fun z => absurd z (by omega)) (fun _ => br_f (nI_ne0 h0 (by omega)) ⟨pk_in q 41 h1, ?_⟩)⟩
          rw [cq]
          refine ⟨gq_T_in hl, nm_r el ?_⟩
          rw [et', nI_add]
          exact br_t (nI_le (by omega) (by omega)) ⟨pk_in q 41 h1, br_f (nI_ge (by omega) (by omega)) ⟨pk_in q 41 h1, hp2⟩⟩
        · rw [if_neg c2] at hp2
          obtain ⟨fu, hw⟩ := ih (d := d + 1) hr or (by omega) (by omega) (by omega) hp2
          refine ⟨fu + 1, pk_le 16 d (fun z => absurd z (by omega)) (fun _ => br_f (nI_ne0 h0 (by omega)) ⟨pk_in q 41 h1, ?_⟩)⟩
          rw [cq]
          refine ⟨gq_T_in hl, nm_r el ?_⟩
          rw [et', nI_add]
          refine br_t (nI_le (by omega) (by omega)) ⟨pk_in q 41 h1, br_t (nI_le (by omega) (by omega)) ⟨pk_in q 41 h1, nm_r (e' := nI (i - gq_tt (gq_pr (a1, a2, a3, a4, a5, a6, a7, a8) nl) - t)) ?_ ⟨pk_in q 41 h1, nm_e (nm_r (nI_1 d) hw)⟩⟩⟩
          rw [pk_sub (by omega)]
          congr 1
          omega
theorem gq_ra {post : Int64 → Prop} {i : Nat} {rt fr dp fl ce sb sa en : Int32} {a1 : Nat → Int64} {a2 a3 a4 a5 a6 a7 a8 a9 a10 a11 a12 a13 a14 : Nat → Int32} (hZ : gq_Z (a1, a2, a3, a4, a5, a6, a7, a8)) {ns : List Nat} (hT : gq_T (a1, a2, a3, a4, a5, a6, a7, a8) ns.length rt ns) (ho : gq_ok (gq_pr (a1, a2, a3, a4, a5, a6, a7, a8) ns)) (ht : gq_tt (gq_pr (a1, a2, a3, a4, a5, a6, a7, a8) ns) < 10000) (hi : i < 10000) (hd : ns.length ≤ 16) (hp : post (gq_at i (gq_pr (a1, a2, a3, a4, a5, a6, a7, a8) ns))) : wpX_rowAt post (rt, fr, dp, fl, ce, sb, sa, en, a1, a2, a3, a4, a5, a6, a7, a8, a9, a10, a11, a12, a13, a14) (nI i) :=
  gq_ra_l (d := 0) hZ hT ho ht hi (by omega) hp
def gq_tm (p : Int64) : List (Int64 × Int32) → Int32
  | [] => 0
  | x :: L => if x.1 = p then x.2 else gq_tm p L
theorem gq_tm_R {p : Int64} (B : List (Int64 × Int32)) (A : List (Int64 × Int32)) (hA : ∀ y, y ∈ A → ¬ y.1 = p) : gq_tm p (A ++ B) = gq_tm p B := by
  induction A with
  | nil => rfl
  | cons y A ih =>
    show (if y.1 = p then y.2 else gq_tm p (A ++ B)) = gq_tm p B
    rw [if_neg (hA y List.mem_cons_self), ih (fun z hz => hA z (List.mem_cons_of_mem _ hz))]
theorem gq_tm_L {p : Int64} (B : List (Int64 × Int32)) (A : List (Int64 × Int32)) (hB : ∀ y, y ∈ B → ¬ y.1 = p) : gq_tm p (A ++ B) = gq_tm p A := by
  induction A with
  | nil =>
    show gq_tm p B = 0
    have h := gq_tm_R (p := p) [] B hB
    rw [List.append_nil] at h
    exact h
  | cons y A ih =>
    show (if y.1 = p then y.2 else gq_tm p (A ++ B)) = if y.1 = p then y.2 else gq_tm p A
    rw [ih]
theorem gq_tm_ins {p : Int64} {L : List (Int64 × Int32)} (h : gq_ok L) : ¬ gq_tm p (gq_ins p L) = 0 := by
  induction L with
  | nil =>
    show ¬ (if p = p then (1 : Int32) else 0) = 0
    rw [if_pos rfl]
    decide
  | cons x L ih =>
    obtain ⟨⟨t, h0, h1, e⟩, h'⟩ := gq_ok_cons h
    show ¬ gq_tm p (if x.1 = p then (x.1, x.2 + 1) :: L else if x.1 ≤ p then x :: gq_ins p L else (p, 1) :: x :: L) = 0
    by_cases c : x.1 = p
    · rw [if_pos c]
      show ¬ (if x.1 = p then x.2 + 1 else gq_tm p L) = 0
      rw [if_pos c, e, nI_1]
      exact nI_ne0 (by omega) (by omega)
    · rw [if_neg c]
      by_cases c2 : x.1 ≤ p
      · rw [if_pos c2]
        show ¬ (if x.1 = p then x.2 else gq_tm p (gq_ins p L)) = 0
        rw [if_neg c]
        exact ih h'
      · rw [if_neg c2]
        show ¬ (if p = p then (1 : Int32) else gq_tm p (x :: L)) = 0
        rw [if_pos rfl]
        decide
theorem gq_to_l {post : Int32 → Prop} {p : Int64} {rt fr dp fl ce sb sa en : Int32} {a1 : Nat → Int64} {a2 a3 a4 a5 a6 a7 a8 a9 a10 a11 a12 a13 a14 : Nat → Int32} {k : Nat} : ∀ {n : Int32} {ns : List Nat} {d : Nat}, gq_T (a1, a2, a3, a4, a5, a6, a7, a8) k n ns → gq_so (gq_pr (a1, a2, a3, a4, a5, a6, a7, a8) ns) → d + k ≤ 16 → post (gq_tm p (gq_pr (a1, a2, a3, a4, a5, a6, a7, a8) ns)) → ∃ fu, wX_timesOf_8 post p rt fr dp fl ce sb sa en a1 a2 a3 a4 a5 a6 a7 a8 a9 a10 a11 a12 a13 a14 fu n (nI d) := by
  induction k with
  | zero =>
    intro n ns d h hs hd hp
    rw [h.2] at hp
    have hp' : post 0 := hp
    exact ⟨1, br_c (fun _ => hp') (fun _ => br_t h.1 hp')⟩
  | succ k ih =>
    intro n ns d h hs hd hp
    rcases h with h | ⟨q, nl, nr, h0, h1, e, es, hl, hr, hc⟩
    · rw [h.2] at hp
      have hp' : post 0 := hp
      exact ⟨1, br_c (fun _ => hp') (fun _ => br_t h.1 hp')⟩
    · subst e es
      have cq : (nI q).toNatClampNeg = q := nI_clamp (by omega)
      rw [gq_pr_mid] at hs hp
      obtain ⟨so1, so2, sl, sr⟩ := gq_so_mid hs
      by_cases c0 : a1 q = p
      · refine ⟨1, pk_le 16 d (fun z => absurd z (by omega)) (fun _ => br_f (nI_ne0 h0 (by omega)) ⟨pk_in q 41 h1, ?_⟩)⟩
        rw [cq]
        refine br_t c0 ⟨pk_in q 41 h1, ?_⟩
        rw [gq_tm_R] at hp
        · have e : gq_tm p ((gq_A1 (a1, a2, a3, a4, a5, a6, a7, a8) q, gq_A2 (a1, a2, a3, a4, a5, a6, a7, a8) q) :: gq_pr (a1, a2, a3, a4, a5, a6, a7, a8) nr) = a2 q := if_pos c0
          rw [e] at hp
          exact hp
        · intro y hy
          have z : y.1 < a1 q := sl y hy
          rw [c0] at z
          exact Int64.ne_of_lt z
      · by_cases c : a1 q ≤ p
        · have hlt : a1 q < p := Int64.lt_of_le_of_ne c c0
          rw [gq_tm_R] at hp
          · have e : gq_tm p ((gq_A1 (a1, a2, a3, a4, a5, a6, a7, a8) q, gq_A2 (a1, a2, a3, a4, a5, a6, a7, a8) q) :: gq_pr (a1, a2, a3, a4, a5, a6, a7, a8) nr) = gq_tm p (gq_pr (a1, a2, a3, a4, a5, a6, a7, a8) nr) := if_neg c0
            rw [e] at hp
            obtain ⟨fu, hw⟩ := ih (d := d + 1) hr so2 (by omega) hp
            refine ⟨fu + 1, pk_le 16 d (fun z => absurd z (by omega)) (fun _ => br_f (nI_ne0 h0 (by omega)) ⟨pk_in q 41 h1, ?_⟩)⟩
            rw [cq]
            exact br_f c0 ⟨pk_in q 41 h1, br_t c ⟨pk_in q 41 h1, nm_e (nm_r (nI_1 d) hw)⟩⟩
          · intro y hy
            have z : y.1 < a1 q := sl y hy
            exact Int64.ne_of_lt (Int64.lt_trans z hlt)
        · have hlt : p < a1 q := Int64.not_le.mp c
          rw [gq_tm_L] at hp
          · obtain ⟨fu, hw⟩ := ih (d := d + 1) hl so1 (by omega) hp
            refine ⟨fu + 1, pk_le 16 d (fun z => absurd z (by omega)) (fun _ => br_f (nI_ne0 h0 (by omega)) ⟨pk_in q 41 h1, ?_⟩)⟩
            rw [cq]
            exact br_f c0 ⟨pk_in q 41 h1, br_f c ⟨pk_in q 41 h1, nm_e (nm_r (nI_1 d) hw)⟩⟩
          · intro y hy e
            rcases List.mem_cons.mp hy with z | z
            · rw [z] at e
              exact c0 e
            · have z : a1 q < y.1 := sr y z
              rw [e] at z
              exact Int64.lt_irrefl (Int64.lt_trans z hlt)
theorem gq_to {post : Int32 → Prop} {p : Int64} {rt fr dp fl ce sb sa en : Int32} {a1 : Nat → Int64} {a2 a3 a4 a5 a6 a7 a8 a9 a10 a11 a12 a13 a14 : Nat → Int32} {ns : List Nat} (hT : gq_T (a1, a2, a3, a4, a5, a6, a7, a8) ns.length rt ns) (hs : gq_so (gq_pr (a1, a2, a3, a4, a5, a6, a7, a8) ns)) (hd : ns.length ≤ 16) (hp : post (gq_tm p (gq_pr (a1, a2, a3, a4, a5, a6, a7, a8) ns))) : wpX_timesOf post (rt, fr, dp, fl, ce, sb, sa, en, a1, a2, a3, a4, a5, a6, a7, a8, a9, a10, a11, a12, a13, a14) p :=
  gq_to_l (d := 0) hT hs (by omega) hp
end
section
/-! ===== update, turnLeft, turnRight ===== -/
theorem gq_nd_mid {A B : List Nat} {x : Nat} (h : (A ++ x :: B).Nodup) : A.Nodup ∧ B.Nodup ∧ x ∉ A ∧ x ∉ B ∧ ∀ y, y ∈ A → y ∉ B := by
  obtain ⟨h1, h2, h3⟩ := List.nodup_append.mp h
  obtain ⟨h4, h5⟩ := List.nodup_cons.mp h2
  exact ⟨h1, h5, fun z => h3 x z x List.mem_cons_self rfl, h4, fun y hy z => h3 y hy y (List.mem_cons_of_mem _ z) rfl⟩
theorem gq_T_cne {H : gq_H} {k m : Nat} {n : Int32} {ns : List Nat} (h : gq_T H k n ns) (h0 : 0 < m) (hm : m ∉ ns) : n.toNatClampNeg ≠ m := by
  rcases gq_T_cl h with z | z
  · intro e; rw [e] at z; exact hm z
  · omega
theorem gq_up50 {post : St2 → Prop} {rt fr dp fl ce sb sa en : Int32} {a1 : Nat → Int64} {a2 a3 a4 a5 a6 a7 a8 a9 a10 a11 a12 a13 a14 : Nat → Int32} {m : Nat} {z : Int32} (h1 : m < 41) (hl : vp_in (a3 m) 41) (hr : vp_in (a4 m) 41)
    (h : post (rt, fr, dp, fl, ce, sb, sa, en, a1, a2, a3, a4, upd a5 m (1 + z), upd a6 m ((a6 (a3 m).toNatClampNeg + a6 (a4 m).toNatClampNeg) + a2 m), upd a7 m ((a7 (a3 m).toNatClampNeg + a7 (a4 m).toNatClampNeg) + 1), upd a8 m ((a8 (a3 m).toNatClampNeg + a8 (a4 m).toNatClampNeg) + a2 m * gq_val (a1 m)), a9, a10, a11, a12, a13, a14)) :
    wX_update_50 post (nI m) (a3 m) (a4 m) z 1 (nI m) rt fr dp fl ce sb sa en a1 a2 a3 a4 a5 a6 a7 a8 a9 a10 a11 a12 a13 a14 := by
  have cm : (nI m).toNatClampNeg = m := nI_clamp (by omega)
  have P : vp_in (nI m) 41 := pk_in m 41 h1
  unfold wX_update_50
  rw [cm]
  exact And.intro P (nm_e (And.intro hl (And.intro hr (And.intro P (And.intro P (nm_e (And.intro hl (And.intro hr (And.intro P (nm_e (And.intro hl (And.intro hr (And.intro P (And.intro P (And.intro P (nm_e h))))))))))))))))
theorem gq_up {post : St2 → Prop} {rt fr dp fl ce sb sa en : Int32} {a1 : Nat → Int64} {a2 a3 a4 a5 a6 a7 a8 a9 a10 a11 a12 a13 a14 : Nat → Int32} {m : Nat} (h1 : m < 41) (hl : vp_in (a3 m) 41) (hr : vp_in (a4 m) 41) (nl : (a3 m).toNatClampNeg ≠ m) (nr : (a4 m).toNatClampNeg ≠ m)
    (h : ∀ b5 b6 b7 b8 : Nat → Int32, (∀ j, j ≠ m → gq_E (a1, a2, a3, a4, a5, a6, a7, a8) (a1, a2, a3, a4, b5, b6, b7, b8) j) → gq_loc (a1, a2, a3, a4, b5, b6, b7, b8) m → post (rt, fr, dp, fl, ce, sb, sa, en, a1, a2, a3, a4, b5, b6, b7, b8, a9, a10, a11, a12, a13, a14)) :
    wpX_update post (rt, fr, dp, fl, ce, sb, sa, en, a1, a2, a3, a4, a5, a6, a7, a8, a9, a10, a11, a12, a13, a14) (nI m) := by
  have cm : (nI m).toNatClampNeg = m := nI_clamp (by omega)
  have P : vp_in (nI m) 41 := pk_in m 41 h1
  have hh := h (upd a5 m (1 + (if a5 (a3 m).toNatClampNeg ≤ a5 (a4 m).toNatClampNeg then a5 (a4 m).toNatClampNeg else a5 (a3 m).toNatClampNeg))) (upd a6 m ((a6 (a3 m).toNatClampNeg + a6 (a4 m).toNatClampNeg) + a2 m)) (upd a7 m ((a7 (a3 m).toNatClampNeg + a7 (a4 m).toNatClampNeg) + 1)) (upd a8 m ((a8 (a3 m).toNatClampNeg + a8 (a4 m).toNatClampNeg) + a2 m * gq_val (a1 m)))
    (fun j hj => ⟨rfl, rfl, rfl, rfl, pk_un hj, pk_un hj, pk_un hj, pk_un hj⟩)
    (by
      unfold gq_loc
      dsimp only [gq_A1, gq_A2, gq_A3, gq_A4, gq_A5, gq_A6, gq_A7, gq_A8]
      simp only [pk_us, pk_un nl, pk_un nr, and_self])
  unfold wpX_update
  rw [cm]
  refine And.intro P (nm_e (And.intro P (nm_e (And.intro hl (And.intro hr ?_)))))
  by_cases c : a5 (a3 m).toNatClampNeg ≤ a5 (a4 m).toNatClampNeg
  · rw [if_pos c] at hh
    exact br_t c (And.intro hr (gq_up50 h1 hl hr hh))
  · rw [if_neg c] at hh
    exact br_f c (And.intro hl (gq_up50 h1 hl hr hh))
theorem gq_same_u2 : @wpX_update_2 = @wpX_update := rfl
theorem gq_same_u3 : @wpX_update_3 = @wpX_update := rfl
theorem gq_same_tr : @wpX_turnRight = @wpX_turnRight_2 := rfl
theorem gq_same_tl : @wpX_turnLeft_2 = @wpX_turnLeft := rfl
theorem gq_tl {post : Int32 → St2 → Prop} {rt fr dp fl ce sb sa en : Int32} {a1 : Nat → Int64} {a2 a3 a4 a5 a6 a7 a8 a9 a10 a11 a12 a13 a14 : Nat → Int32} {k m q : Nat} {nl nr : List Nat} (m0 : 0 < m) (m1 : m < 41) (q0 : 0 < q) (q1 : q < 41) (hq : a4 m = nI q)
    (hl : gq_T (a1, a2, a3, a4, a5, a6, a7, a8) k (a3 m) nl) (hr : gq_T (a1, a2, a3, a4, a5, a6, a7, a8) k (nI q) nr) (hN : (nl ++ m :: nr).Nodup)
    (h : ∀ b3 b4 b5 b6 b7 b8 : Nat → Int32, gq_T (a1, a2, b3, b4, b5, b6, b7, b8) (k + 2) (nI q) (nl ++ m :: nr) → (∀ j, j ∉ nl ++ m :: nr → gq_E (a1, a2, a3, a4, a5, a6, a7, a8) (a1, a2, b3, b4, b5, b6, b7, b8) j) → post (nI q) (rt, fr, dp, fl, ce, sb, sa, en, a1, a2, b3, b4, b5, b6, b7, b8, a9, a10, a11, a12, a13, a14)) :
    wpX_turnLeft post (rt, fr, dp, fl, ce, sb, sa, en, a1, a2, a3, a4, a5, a6, a7, a8, a9, a10, a11, a12, a13, a14) (nI m) := by
  have cm : (nI m).toNatClampNeg = m := nI_clamp (by omega)
  have cq : (nI q).toNatClampNeg = q := nI_clamp (by omega)
  obtain ⟨k', nm, nx, ek, es, hm, hx, _⟩ := gq_T_ne q0 q1 hr
  subst es
  obtain ⟨_, N2, ml, mr, dis⟩ := gq_nd_mid hN
  obtain ⟨_, _, qm, qx, _⟩ := gq_nd_mid N2
  have mq : m ≠ q := fun e => mr (by rw [e]; simp)
  have ql : q ∉ nl := fun z => dis q z (by simp)
  have mm : m ∉ nm := fun z => mr (by simp [z])
  have mx : m ∉ nx := fun z => mr (by simp [z])
  have hm : gq_T (a1, a2, a3, a4, a5, a6, a7, a8) k (a3 q) nm := gq_T_mono (by omega) hm
  have hx : gq_T (a1, a2, a3, a4, a5, a6, a7, a8) k (a4 q) nx := gq_T_mono (by omega) hx
  refine And.intro (pk_in m 41 m1) (nm_r (show a4 (nI m).toNatClampNeg = nI q from by rw [cm]; exact hq) (And.intro (pk_in q 41 q1) (And.intro (pk_in m 41 m1) (fun c4 e4 => And.intro (pk_in q 41 q1) (fun c3 e3 => ?_)))))
  rw [cq] at e3
  rw [cq, cm] at e4
  have h4m : c4 m = a3 q := by rw [e4, pk_us]
  have h4 : ∀ j, j ≠ m → c4 j = a4 j := fun j hj => by rw [e4, pk_un hj]
  have h3q : c3 q = nI m := by rw [e3, pk_us]
  have h3 : ∀ j, j ≠ q → c3 j = a3 j := fun j hj => by rw [e3, pk_un hj]
  clear e3 e4
  refine gq_up m1 (by rw [h3 m mq]; exact gq_T_in hl) (by rw [h4m]; exact gq_T_in hm) (by rw [h3 m mq]; exact gq_T_cne hl m0 ml) (by rw [h4m]; exact gq_T_cne hm m0 mm) (fun b5 b6 b7 b8 E1 L1 => ?_)
  refine gq_up q1 (by rw [h3q]; exact pk_in m 41 m1) (by rw [h4 q (Ne.symm mq)]; exact gq_T_in hx) (by rw [h3q, cm]; exact mq) (by rw [h4 q (Ne.symm mq)]; exact gq_T_cne hx q0 qx) (fun d5 d6 d7 d8 E2 L2 => ?_)
  have F : ∀ j, j ≠ m → j ≠ q → gq_E (a1, a2, a3, a4, a5, a6, a7, a8) (a1, a2, c3, c4, d5, d6, d7, d8) j := fun j jm jq =>
    gq_E_trans (show gq_E (a1, a2, a3, a4, a5, a6, a7, a8) (a1, a2, c3, c4, a5, a6, a7, a8) j from ⟨rfl, rfl, h3 j jq, h4 j jm, rfl, rfl, rfl, rfl⟩) (gq_E_trans (E1 j jm) (E2 j jq))
  have Fl : ∀ {ns : List Nat}, m ∉ ns → q ∉ ns → ∀ j, j ∈ ns ∨ j = 0 → gq_E (a1, a2, a3, a4, a5, a6, a7, a8) (a1, a2, c3, c4, d5, d6, d7, d8) j := by
    intro ns n1 n2 j hj
    rcases hj with z | z
    · exact F j (fun e => n1 (by rw [← e]; exact z)) (fun e => n2 (by rw [← e]; exact z))
    · exact F j (by omega) (by omega)
  have Lm : gq_loc (a1, a2, c3, c4, d5, d6, d7, d8) m := gq_loc_frame L1 (E2 m mq)
    (E2 _ (by show (c3 m).toNatClampNeg ≠ q; rw [h3 m mq]; exact gq_T_cne hl q0 ql))
    (E2 _ (by show (c4 m).toNatClampNeg ≠ q; rw [h4m]; exact gq_T_cne hm q0 qm))
  have Tm : gq_T (a1, a2, c3, c4, d5, d6, d7, d8) (k + 1) (nI m) (nl ++ m :: nm) := gq_T_node m0 m1
    (by show gq_T _ k (c3 m) nl; rw [h3 m mq]; exact gq_T_frame hl (Fl ml ql))
    (by show gq_T _ k (c4 m) nm; rw [h4m]; exact gq_T_frame hm (Fl mm qm)) Lm
  have Tq : gq_T (a1, a2, c3, c4, d5, d6, d7, d8) (k + 2) (nI q) ((nl ++ m :: nm) ++ q :: nx) := gq_T_node q0 q1
    (by show gq_T _ (k + 1) (c3 q) _; rw [h3q]; exact Tm)
    (by show gq_T _ (k + 1) (c4 q) _; rw [h4 q (Ne.symm mq)]; exact gq_T_mono1 (gq_T_frame hx (Fl mx qx))) L2
  rw [show (nl ++ m :: nm) ++ q :: nx = nl ++ m :: (nm ++ q :: nx) from by simp] at Tq
  exact h c3 c4 d5 d6 d7 d8 Tq (fun j hj => F j (fun e => hj (by rw [e]; simp)) (fun e => hj (by rw [e]; simp)))
theorem gq_tr {post : Int32 → St2 → Prop} {rt fr dp fl ce sb sa en : Int32} {a1 : Nat → Int64} {a2 a3 a4 a5 a6 a7 a8 a9 a10 a11 a12 a13 a14 : Nat → Int32} {k m q : Nat} {nl nr : List Nat} (m0 : 0 < m) (m1 : m < 41) (q0 : 0 < q) (q1 : q < 41) (hq : a3 m = nI q)
    (hl : gq_T (a1, a2, a3, a4, a5, a6, a7, a8) k (nI q) nl) (hr : gq_T (a1, a2, a3, a4, a5, a6, a7, a8) k (a4 m) nr) (hN : (nl ++ m :: nr).Nodup)
    (h : ∀ b3 b4 b5 b6 b7 b8 : Nat → Int32, gq_T (a1, a2, b3, b4, b5, b6, b7, b8) (k + 2) (nI q) (nl ++ m :: nr) → (∀ j, j ∉ nl ++ m :: nr → gq_E (a1, a2, a3, a4, a5, a6, a7, a8) (a1, a2, b3, b4, b5, b6, b7, b8) j) → post (nI q) (rt, fr, dp, fl, ce, sb, sa, en, a1, a2, b3, b4, b5, b6, b7, b8, a9, a10, a11, a12, a13, a14)) :
    wpX_turnRight_2 post (rt, fr, dp, fl, ce, sb, sa, en, a1, a2, a3, a4, a5, a6, a7, a8, a9, a10, a11, a12, a13, a14) (nI m) := by
  have cm : (nI m).toNatClampNeg = m := nI_clamp (by omega)
  have cq : (nI q).toNatClampNeg = q := nI_clamp (by omega)
  obtain ⟨k', nx, nm, ek, es, hx, hm, _⟩ := gq_T_ne q0 q1 hl
  subst es
  obtain ⟨N1, _, ml, mr, dis⟩ := gq_nd_mid hN
  obtain ⟨_, _, qx, qm, _⟩ := gq_nd_mid N1
  have mq : m ≠ q := fun e => ml (by rw [e]; simp)
  have qr : q ∉ nr := dis q (by simp)
  have mm : m ∉ nm := fun z => ml (by simp [z])
  have mx : m ∉ nx := fun z => ml (by simp [z])
  have hm : gq_T (a1, a2, a3, a4, a5, a6, a7, a8) k (a4 q) nm := gq_T_mono (by omega) hm
  have hx : gq_T (a1, a2, a3, a4, a5, a6, a7, a8) k (a3 q) nx := gq_T_mono (by omega) hx
  refine And.intro (pk_in m 41 m1) (nm_r (show a3 (nI m).toNatClampNeg = nI q from by rw [cm]; exact hq) (And.intro (pk_in q 41 q1) (And.intro (pk_in m 41 m1) (fun c3 e3 => And.intro (pk_in q 41 q1) (fun c4 e4 => ?_)))))
  rw [cq] at e4
  rw [cq, cm] at e3
  have h3m : c3 m = a4 q := by rw [e3, pk_us]
  have h3 : ∀ j, j ≠ m → c3 j = a3 j := fun j hj => by rw [e3, pk_un hj]
  have h4q : c4 q = nI m := by rw [e4, pk_us]
  have h4 : ∀ j, j ≠ q → c4 j = a4 j := fun j hj => by rw [e4, pk_un hj]
  clear e3 e4
  refine gq_up m1 (by rw [h3m]; exact gq_T_in hm) (by rw [h4 m mq]; exact gq_T_in hr) (by rw [h3m]; exact gq_T_cne hm m0 mm) (by rw [h4 m mq]; exact gq_T_cne hr m0 mr) (fun b5 b6 b7 b8 E1 L1 => ?_)
  refine gq_up q1 (by rw [h3 q (Ne.symm mq)]; exact gq_T_in hx) (by rw [h4q]; exact pk_in m 41 m1) (by rw [h3 q (Ne.symm mq)]; exact gq_T_cne hx q0 qx) (by rw [h4q, cm]; exact mq) (fun d5 d6 d7 d8 E2 L2 => ?_)
  have F : ∀ j, j ≠ m → j ≠ q → gq_E (a1, a2, a3, a4, a5, a6, a7, a8) (a1, a2, c3, c4, d5, d6, d7, d8) j := fun j jm jq =>
    gq_E_trans (show gq_E (a1, a2, a3, a4, a5, a6, a7, a8) (a1, a2, c3, c4, a5, a6, a7, a8) j from ⟨rfl, rfl, h3 j jm, h4 j jq, rfl, rfl, rfl, rfl⟩) (gq_E_trans (E1 j jm) (E2 j jq))
  have Fl : ∀ {ns : List Nat}, m ∉ ns → q ∉ ns → ∀ j, j ∈ ns ∨ j = 0 → gq_E (a1, a2, a3, a4, a5, a6, a7, a8) (a1, a2, c3, c4, d5, d6, d7, d8) j := by
    intro ns n1 n2 j hj
    rcases hj with z | z
    · exact F j (fun e => n1 (by rw [← e]; exact z)) (fun e => n2 (by rw [← e]; exact z))
    · exact F j (by omega) (by omega)
  have Lm : gq_loc (a1, a2, c3, c4, d5, d6, d7, d8) m := gq_loc_frame L1 (E2 m mq)
    (E2 _ (by show (c3 m).toNatClampNeg ≠ q; rw [h3m]; exact gq_T_cne hm q0 qm))
    (E2 _ (by show (c4 m).toNatClampNeg ≠ q; rw [h4 m mq]; exact gq_T_cne hr q0 qr))
  have Tm : gq_T (a1, a2, c3, c4, d5, d6, d7, d8) (k + 1) (nI m) (nm ++ m :: nr) := gq_T_node m0 m1
    (by show gq_T _ k (c3 m) nm; rw [h3m]; exact gq_T_frame hm (Fl mm qm))
    (by show gq_T _ k (c4 m) nr; rw [h4 m mq]; exact gq_T_frame hr (Fl mr qr)) Lm
  have Tq : gq_T (a1, a2, c3, c4, d5, d6, d7, d8) (k + 2) (nI q) (nx ++ q :: (nm ++ m :: nr)) := gq_T_node q0 q1
    (by show gq_T _ (k + 1) (c3 q) _; rw [h3 q (Ne.symm mq)]; exact gq_T_mono1 (gq_T_frame hx (Fl mx qx)))
    (by show gq_T _ (k + 1) (c4 q) _; rw [h4q]; exact Tm) L2
  rw [show nx ++ q :: (nm ++ m :: nr) = (nx ++ q :: nm) ++ m :: nr from by simp] at Tq
  exact h c3 c4 d5 d6 d7 d8 Tq (fun j hj => F j (fun e => hj (by rw [e]; simp)) (fun e => hj (by rw [e]; simp)))
end
section
/-! ===== balance: the same nodes in the same order, the books in order ===== -/
theorem gq_ba {post : Int32 → St2 → Prop} {rt fr dp fl ce sb sa en : Int32} {a1 : Nat → Int64} {a2 a3 a4 a5 a6 a7 a8 a9 a10 a11 a12 a13 a14 : Nat → Int32} {k m : Nat} {nl nr : List Nat} (m0 : 0 < m) (m1 : m < 41)
    (hl : gq_T (a1, a2, a3, a4, a5, a6, a7, a8) k (a3 m) nl) (hr : gq_T (a1, a2, a3, a4, a5, a6, a7, a8) k (a4 m) nr) (hZ : gq_Z (a1, a2, a3, a4, a5, a6, a7, a8)) (hN : (nl ++ m :: nr).Nodup) (hn : (nl ++ m :: nr).length < 500)
    (h : ∀ (t : Int32) (b3 b4 b5 b6 b7 b8 : Nat → Int32) (k' : Nat), gq_T (a1, a2, b3, b4, b5, b6, b7, b8) k' t (nl ++ m :: nr) → (∀ j, j ∉ nl ++ m :: nr → gq_E (a1, a2, a3, a4, a5, a6, a7, a8) (a1, a2, b3, b4, b5, b6, b7, b8) j) → post t (rt, fr, dp, fl, ce, sb, sa, en, a1, a2, b3, b4, b5, b6, b7, b8, a9, a10, a11, a12, a13, a14)) :
    wpX_balance post (rt, fr, dp, fl, ce, sb, sa, en, a1, a2, a3, a4, a5, a6, a7, a8, a9, a10, a11, a12, a13, a14) (nI m) := by
  have cm : (nI m).toNatClampNeg = m := nI_clamp (by omega)
  have P : vp_in (nI m) 41 := pk_in m 41 m1
  obtain ⟨_, _, ml, mr, dis⟩ := gq_nd_mid hN
  rw [List.length_append, List.length_cons] at hn
  refine gq_up m1 (gq_T_in hl) (gq_T_in hr) (gq_T_cne hl m0 ml) (gq_T_cne hr m0 mr) (fun b5 b6 b7 b8 E1 L1 => ?_)
  have Fl : ∀ {ns : List Nat}, m ∉ ns → ∀ j, j ∈ ns ∨ j = 0 → gq_E (a1, a2, a3, a4, a5, a6, a7, a8) (a1, a2, a3, a4, b5, b6, b7, b8) j := by
    intro ns n1 j hj
    rcases hj with z | z
    · exact E1 j (fun e => n1 (by rw [← e]; exact z))
    · exact E1 j (by omega)
  have hl' : gq_T (a1, a2, a3, a4, b5, b6, b7, b8) k (a3 m) nl := gq_T_frame hl (Fl ml)
  have hr' : gq_T (a1, a2, a3, a4, b5, b6, b7, b8) k (a4 m) nr := gq_T_frame hr (Fl mr)
  have hZ' : gq_Z (a1, a2, a3, a4, b5, b6, b7, b8) := by
    obtain ⟨_, _, _, _, e5, e6, e7, e8⟩ := E1 0 (by omega)
    exact ⟨e5.trans hZ.1, e6.trans hZ.2.1, e7.trans hZ.2.2.1, e8.trans hZ.2.2.2⟩
  have Fo : ∀ j, j ∉ nl ++ m :: nr → gq_E (a1, a2, a3, a4, a5, a6, a7, a8) (a1, a2, a3, a4, b5, b6, b7, b8) j := fun j hj => E1 j (fun e => hj (by rw [e]; simp))
  obtain ⟨x, ex, lx, px⟩ := gq_T_h hZ' hl' (by omega)
  obtain ⟨y, ey, ly, py⟩ := gq_T_h hZ' hr' (by omega)
  have ex' : b5 (a3 m).toNatClampNeg = nI x := ex
  have ey' : b5 (a4 m).toNatClampNeg = nI y := ey
  have L3 : a3 (nI m).toNatClampNeg = a3 m := by rw [cm]
  have L4 : a4 (nI m).toNatClampNeg = a4 m := by rw [cm]
  by_cases c : x ≤ y + 1
  · have C1 : b5 (a3 m).toNatClampNeg ≤ b5 (a4 m).toNatClampNeg + 1 := by rw [ex', ey', nI_1]; exact nI_le c (by omega)
    by_cases c2 : y ≤ x + 1
    · have C2 : b5 (a4 m).toNatClampNeg ≤ b5 (a3 m).toNatClampNeg + 1 := by rw [ex', ey', nI_1]; exact nI_le c2 (by omega)
      exact And.intro P (nm_r L3 (And.intro P (nm_r L4 (And.intro (gq_T_in hl) (And.intro (gq_T_in hr) (br_t C1 (And.intro (gq_T_in hr) (And.intro (gq_T_in hl) (br_t C2 (h (nI m) a3 a4 b5 b6 b7 b8 (k + 1) (gq_T_node m0 m1 hl' hr' L1) Fo))))))))))
    · have C2 : ¬ b5 (a4 m).toNatClampNeg ≤ b5 (a3 m).toNatClampNeg + 1 := by rw [ex', ey', nI_1]; exact nI_ge (by omega) (by omega)
      rcases gq_T_inv hr' with ⟨z, _⟩ | ⟨k1, q, n1, n2, ek, q0, q1, eq, es, t1, t2, lq⟩
      · rcases py with w | w
        · rw [z] at ey'
          have : b5 (0 : Int32).toNatClampNeg = 0 := hZ'.1
          rw [this, ← nI_0] at ey'
          have := (nI_eq (by omega) (by omega)).mp ey'
          omega
        · rw [z] at ey'
          have : b5 (0 : Int32).toNatClampNeg = 0 := hZ'.1
          rw [this, ← nI_0] at ey'
          have := (nI_eq (by omega) (by omega)).mp ey'
          omega
      · have eq' : a4 m = nI q := eq
        have cq : (nI q).toNatClampNeg = q := nI_clamp (by omega)
        have Q : vp_in (nI q) 41 := pk_in q 41 q1
        have L4' : a4 (nI m).toNatClampNeg = nI q := by rw [cm]; exact eq'
        rw [eq'] at C1 C2 hr'
        have len : nr.length = n1.length + n2.length + 1 := by rw [es, List.length_append, List.length_cons]; omega
        obtain ⟨w, ew, lw, pw⟩ := gq_T_h hZ' t1 (by omega)
        obtain ⟨v, ev, lv, pv⟩ := gq_T_h hZ' t2 (by omega)
        have ew' : b5 (a3 q).toNatClampNeg = nI w := ew
        have ev' : b5 (a4 q).toNatClampNeg = nI v := ev
        have V1 : vp_in (a4 (nI q).toNatClampNeg) 41 := by rw [cq]; exact gq_T_in t2
        have V2 : vp_in (a3 (nI q).toNatClampNeg) 41 := by rw [cq]; exact gq_T_in t1
        by_cases c3 : w ≤ v
        · have C3 : b5 (a3 (nI q).toNatClampNeg).toNatClampNeg ≤ b5 (a4 (nI q).toNatClampNeg).toNatClampNeg := by rw [cq, ew', ev']; exact nI_le c3 (by omega)
          refine And.intro P (nm_r L3 (And.intro P (nm_r L4' (And.intro (gq_T_in hl) (And.intro Q (br_t C1 (And.intro Q (And.intro (gq_T_in hl) (br_f C2 (And.intro Q (And.intro V1 (And.intro Q (And.intro V2 (br_t C3 ?_))))))))))))))
          exact gq_tl m0 m1 q0 q1 eq' hl' hr' hN (fun c3 c4 c5 c6 c7 c8 hT hF => h (nI q) c3 c4 c5 c6 c7 c8 (k + 2) hT (fun j hj => gq_E_trans (Fo j hj) (hF j hj)))
        · have C3 : ¬ b5 (a3 (nI q).toNatClampNeg).toNatClampNeg ≤ b5 (a4 (nI q).toNatClampNeg).toNatClampNeg := by rw [cq, ew', ev']; exact nI_ge (by omega) (by omega)
          refine And.intro P (nm_r L3 (And.intro P (nm_r L4' (And.intro (gq_T_in hl) (And.intro Q (br_t C1 (And.intro Q (And.intro (gq_T_in hl) (br_f C2 (And.intro Q (And.intro V1 (And.intro Q (And.intro V2 (br_f C3 ?_))))))))))))))
          rcases gq_T_root t1 with ⟨z, _⟩ | ⟨s, hs, s0, s1, es1⟩
          · have z' : a3 q = 0 := z
            rw [z'] at ew'
            have : b5 (0 : Int32).toNatClampNeg = 0 := hZ'.1
            rw [this, ← nI_0] at ew'
            have := (nI_eq (by omega) (by omega)).mp ew'
            omega
          · have es2 : a3 q = nI s := es1
            rw [gq_same_tr]
            have hN2 : (n1 ++ q :: n2).Nodup := by rw [← es]; exact (gq_nd_mid hN).2.1
            refine gq_tr q0 q1 s0 s1 es2 (by rw [← es2]; exact t1) t2 hN2 (fun c3 c4 c5 c6 c7 c8 hT hF => ?_)
            rw [← es] at hT hF
            refine And.intro P (fun d4 e4 => ?_)
            rw [cm] at e4
            have h4m : d4 m = nI s := by rw [e4, pk_us]
            have h4 : ∀ j, j ≠ m → gq_E (a1, a2, c3, c4, c5, c6, c7, c8) (a1, a2, c3, d4, c5, c6, c7, c8) j := fun j hj => ⟨rfl, rfl, rfl, by show d4 j = c4 j; rw [e4, pk_un hj], rfl, rfl, rfl, rfl⟩
            clear e4
            have hs' : gq_T (a1, a2, c3, d4, c5, c6, c7, c8) (k + 2) (nI s) nr := gq_T_mono (by omega) (gq_T_frame hT (fun j hj => h4 j (by rcases hj with z | z; exact fun e => mr (by rw [← e]; exact z); omega)))
            have FF : ∀ j, j ∉ nr → j ≠ m → gq_E (a1, a2, a3, a4, b5, b6, b7, b8) (a1, a2, c3, d4, c5, c6, c7, c8) j := fun j hj hm => gq_E_trans (hF j hj) (h4 j hm)
            have zr : (0 : Nat) ∉ nr := fun z => absurd (gq_T_mem hr' 0 z).1 (by omega)
            have e3m : c3 m = a3 m := (hF m mr).2.2.1
            have hl2 : gq_T (a1, a2, c3, d4, c5, c6, c7, c8) (k + 2) (c3 m) nl := by
              rw [e3m]
              refine gq_T_mono (k := k) (by omega) (gq_T_frame hl' (fun j hj => ?_))
              rcases hj with z | z
              · exact FF j (dis j z) (fun e => ml (by rw [← e]; exact z))
              · rw [z]; exact FF 0 zr (by omega)
            exact gq_tl m0 m1 s0 s1 h4m hl2 hs' hN (fun f3 f4 f5 f6 f7 f8 gT gF => h (nI s) f3 f4 f5 f6 f7 f8 _ gT (fun j hj => gq_E_trans (Fo j hj) (gq_E_trans (FF j (fun z => hj (by simp [z])) (fun e => hj (by rw [e]; simp))) (gF j hj))))
  · have C1 : ¬ b5 (a3 m).toNatClampNeg ≤ b5 (a4 m).toNatClampNeg + 1 := by rw [ex', ey', nI_1]; exact nI_ge (by omega) (by omega)
    rcases gq_T_inv hl' with ⟨z, _⟩ | ⟨k1, q, n1, n2, ek, q0, q1, eq, es, t1, t2, lq⟩
    · rw [z] at ex'
      have : b5 (0 : Int32).toNatClampNeg = 0 := hZ'.1
      rw [this, ← nI_0] at ex'
      have := (nI_eq (by omega) (by omega)).mp ex'
      omega
    · have eq' : a3 m = nI q := eq
      have cq : (nI q).toNatClampNeg = q := nI_clamp (by omega)
      have Q : vp_in (nI q) 41 := pk_in q 41 q1
      have L3' : a3 (nI m).toNatClampNeg = nI q := by rw [cm]; exact eq'
      rw [eq'] at C1 hl'
      have len : nl.length = n1.length + n2.length + 1 := by rw [es, List.length_append, List.length_cons]; omega
      obtain ⟨w, ew, lw, pw⟩ := gq_T_h hZ' t1 (by omega)
      obtain ⟨v, ev, lv, pv⟩ := gq_T_h hZ' t2 (by omega)
      have ew' : b5 (a3 q).toNatClampNeg = nI w := ew
      have ev' : b5 (a4 q).toNatClampNeg = nI v := ev
      have V1 : vp_in (a4 (nI q).toNatClampNeg) 41 := by rw [cq]; exact gq_T_in t2
      have V2 : vp_in (a3 (nI q).toNatClampNeg) 41 := by rw [cq]; exact gq_T_in t1
      by_cases c3 : v ≤ w
      · have C3 : b5 (a4 (nI q).toNatClampNeg).toNatClampNeg ≤ b5 (a3 (nI q).toNatClampNeg).toNatClampNeg := by rw [cq, ew', ev']; exact nI_le c3 (by omega)
        refine And.intro P (nm_r L3' (And.intro P (nm_r L4 (And.intro Q (And.intro (gq_T_in hr) (br_f C1 (And.intro Q (And.intro V2 (And.intro Q (And.intro V1 (br_t C3 ?_)))))))))))
        exact gq_tr m0 m1 q0 q1 eq' hl' hr' hN (fun c3 c4 c5 c6 c7 c8 hT hF => h (nI q) c3 c4 c5 c6 c7 c8 (k + 2) hT (fun j hj => gq_E_trans (Fo j hj) (hF j hj)))
      · have C3 : ¬ b5 (a4 (nI q).toNatClampNeg).toNatClampNeg ≤ b5 (a3 (nI q).toNatClampNeg).toNatClampNeg := by rw [cq, ew', ev']; exact nI_ge (by omega) (by omega)
        refine And.intro P (nm_r L3' (And.intro P (nm_r L4 (And.intro Q (And.intro (gq_T_in hr) (br_f C1 (And.intro Q (And.intro V2 (And.intro Q (And.intro V1 (br_f C3 ?_)))))))))))
        rcases gq_T_root t2 with ⟨z, _⟩ | ⟨s, hs, s0, s1, es1⟩
        · have z' : a4 q = 0 := z
          rw [z'] at ev'
          have : b5 (0 : Int32).toNatClampNeg = 0 := hZ'.1
          rw [this, ← nI_0] at ev'
          have := (nI_eq (by omega) (by omega)).mp ev'
          omega
        · have es2 : a4 q = nI s := es1
          rw [gq_same_tl]
          have hN2 : (n1 ++ q :: n2).Nodup := by rw [← es]; exact (gq_nd_mid hN).1
          refine gq_tl q0 q1 s0 s1 es2 t1 (by rw [← es2]; exact t2) hN2 (fun c3 c4 c5 c6 c7 c8 hT hF => ?_)
          rw [← es] at hT hF
          refine And.intro P (fun d3 e3 => ?_)
          rw [cm] at e3
          have h3m : d3 m = nI s := by rw [e3, pk_us]
          have h3 : ∀ j, j ≠ m → gq_E (a1, a2, c3, c4, c5, c6, c7, c8) (a1, a2, d3, c4, c5, c6, c7, c8) j := fun j hj => ⟨rfl, rfl, by show d3 j = c3 j; rw [e3, pk_un hj], rfl, rfl, rfl, rfl, rfl⟩
          clear e3
          have hs' : gq_T (a1, a2, d3, c4, c5, c6, c7, c8) (k + 2) (nI s) nl := gq_T_mono (by omega) (gq_T_frame hT (fun j hj => h3 j (by rcases hj with z | z; exact fun e => ml (by rw [← e]; exact z); omega)))
          have FF : ∀ j, j ∉ nl → j ≠ m → gq_E (a1, a2, a3, a4, b5, b6, b7, b8) (a1, a2, d3, c4, c5, c6, c7, c8) j := fun j hj hm => gq_E_trans (hF j hj) (h3 j hm)
          have zl : (0 : Nat) ∉ nl := fun z => absurd (gq_T_mem hl' 0 z).1 (by omega)
          have e4m : c4 m = a4 m := (hF m ml).2.2.2.1
          have hr2 : gq_T (a1, a2, d3, c4, c5, c6, c7, c8) (k + 2) (c4 m) nr := by
            rw [e4m]
            refine gq_T_mono (k := k) (by omega) (gq_T_frame hr' (fun j hj => ?_))
            rcases hj with z | z
            · exact FF j (fun w => dis j w z) (fun e => mr (by rw [← e]; exact z))
            · rw [z]; exact FF 0 zl (by omega)
          exact gq_tr m0 m1 s0 s1 h3m hs' hr2 hN (fun f3 f4 f5 f6 f7 f8 gT gF => h (nI s) f3 f4 f5 f6 f7 f8 _ gT (fun j hj => gq_E_trans (Fo j hj) (gq_E_trans (FF j (fun z => hj (by simp [z])) (fun e => hj (by rw [e]; simp))) (gF j hj))))
end
section
/-! ===== one step of mendPath: the subtree at level d of the path, and the slot that holds it ===== -/
def gq_E3 (H G : gq_H) (j : Nat) : Prop := gq_A1 G j = gq_A1 H j ∧ gq_A2 G j = gq_A2 H j ∧ gq_A4 G j = gq_A4 H j ∧ gq_A5 G j = gq_A5 H j ∧ gq_A6 G j = gq_A6 H j ∧ gq_A7 G j = gq_A7 H j ∧ gq_A8 G j = gq_A8 H j
def gq_E4 (H G : gq_H) (j : Nat) : Prop := gq_A1 G j = gq_A1 H j ∧ gq_A2 G j = gq_A2 H j ∧ gq_A3 G j = gq_A3 H j ∧ gq_A5 G j = gq_A5 H j ∧ gq_A6 G j = gq_A6 H j ∧ gq_A7 G j = gq_A7 H j ∧ gq_A8 G j = gq_A8 H j
theorem gq_E3_of {H G F : gq_H} {j : Nat} (h : gq_E H G j) (g : gq_E3 G F j) : gq_E3 H F j := by
  obtain ⟨h1, h2, h3, h4, h5, h6, h7, h8⟩ := h
  obtain ⟨g1, g2, g4, g5, g6, g7, g8⟩ := g
  exact ⟨g1.trans h1, g2.trans h2, g4.trans h4, g5.trans h5, g6.trans h6, g7.trans h7, g8.trans h8⟩
theorem gq_E4_of {H G F : gq_H} {j : Nat} (h : gq_E H G j) (g : gq_E4 G F j) : gq_E4 H F j := by
  obtain ⟨h1, h2, h3, h4, h5, h6, h7, h8⟩ := h
  obtain ⟨g1, g2, g3, g5, g6, g7, g8⟩ := g
  exact ⟨g1.trans h1, g2.trans h2, g3.trans h3, g5.trans h5, g6.trans h6, g7.trans h7, g8.trans h8⟩
/-- the slot of level d: the root, or the left or right child of the node at level d - 1 -/
def gq_par (d : Nat) (par : Option (Nat × Bool)) (H : gq_H) (a9 : Nat → Int32) (n : Int32) : Prop := match par with
  | none => d = 0
  | some (q, true) => ∃ e, d = e + 1 ∧ a9 e = nI q ∧ 0 < q ∧ q < 41 ∧ gq_A3 H q = n
  | some (q, false) => ∃ e, d = e + 1 ∧ a9 e = nI q ∧ 0 < q ∧ q < 41 ∧ gq_A4 H q = n ∧ (n ≠ 0 → gq_A3 H q ≠ n)
def gq_pq (par : Option (Nat × Bool)) (j : Nat) : Prop := match par with
  | none => False
  | some (q, _) => q = j
/-- the slot holds t now; apart from it and from the nodes S nothing has changed -/
def gq_R (par : Option (Nat × Bool)) (S : Nat → Prop) (t rt : Int32) (H : gq_H) (rx : Int32) (G : gq_H) : Prop := match par with
  | none => rx = t ∧ ∀ j, ¬ S j → gq_E H G j
  | some (q, true) => rx = rt ∧ (∀ j, ¬ S j → j ≠ q → gq_E H G j) ∧ gq_A3 G q = t ∧ gq_E3 H G q
  | some (q, false) => rx = rt ∧ (∀ j, ¬ S j → j ≠ q → gq_E H G j) ∧ gq_A4 G q = t ∧ gq_E4 H G q
theorem gq_R_comp {par : Option (Nat × Bool)} {S S' : Nat → Prop} {t rt rx : Int32} {H G F : gq_H} (hS : ∀ j, S' j → S j) (hE : ∀ j, ¬ S j → gq_E H G j) (hq : ∀ j, gq_pq par j → ¬ S j) (h : gq_R par S' t rt G rx F) : gq_R par S t rt H rx F := by
  match par, hq, h with
  | none, hq, h => exact ⟨h.1, fun j hj => gq_E_trans (hE j hj) (h.2 j (fun z => hj (hS j z)))⟩
  | some (q, true), hq, h => exact ⟨h.1, fun j hj jq => gq_E_trans (hE j hj) (h.2.1 j (fun z => hj (hS j z)) jq), h.2.2.1, gq_E3_of (hE q (hq q rfl)) h.2.2.2⟩
  | some (q, false), hq, h => exact ⟨h.1, fun j hj jq => gq_E_trans (hE j hj) (h.2.1 j (fun z => hj (hS j z)) jq), h.2.2.1, gq_E4_of (hE q (hq q rfl)) h.2.2.2⟩
theorem gq_par_to {par : Option (Nat × Bool)} {d : Nat} {H G : gq_H} {a9 b9 : Nat → Int32} {n : Int32} (h : gq_par d par H a9 n) (hE : ∀ j, gq_pq par j → gq_E H G j) (h9 : ∀ e, e < d → b9 e = a9 e) : gq_par d par G b9 n := by
  match par, hE, h with
  | none, hE, h => exact h
  | some (q, true), hE, ⟨e, h1, h2, h3, h4, h5⟩ => exact ⟨e, h1, (h9 e (by omega)).trans h2, h3, h4, (hE q rfl).2.2.1.trans h5⟩
  | some (q, false), hE, ⟨e, h1, h2, h3, h4, h5, h6⟩ => exact ⟨e, h1, (h9 e (by omega)).trans h2, h3, h4, (hE q rfl).2.2.2.1.trans h5, fun z w => h6 z ((hE q rfl).2.2.1.symm.trans w)⟩
theorem gq_ms {post : St2 → Prop} {rt fr dp fl ce sb sa en : Int32} {a1 : Nat → Int64} {a2 a3 a4 a5 a6 a7 a8 a9 a10 a11 a12 a13 a14 : Nat → Int32} {k d m : Nat} {par : Option (Nat × Bool)} {nl nr : List Nat} (m0 : 0 < m) (m1 : m < 41) (hd : d < 16) (h9 : a9 d = nI m)
    (hl : gq_T (a1, a2, a3, a4, a5, a6, a7, a8) k (a3 m) nl) (hr : gq_T (a1, a2, a3, a4, a5, a6, a7, a8) k (a4 m) nr) (hZ : gq_Z (a1, a2, a3, a4, a5, a6, a7, a8)) (hN : (nl ++ m :: nr).Nodup) (hn : (nl ++ m :: nr).length < 500)
    (hp : gq_par d par (a1, a2, a3, a4, a5, a6, a7, a8) a9 (nI m)) (hq : ∀ j, gq_pq par j → j ∉ nl ++ m :: nr)
    (hK : ∀ (t rx : Int32) (b3 b4 b5 b6 b7 b8 : Nat → Int32) (k' : Nat), gq_T (a1, a2, b3, b4, b5, b6, b7, b8) k' t (nl ++ m :: nr) → gq_R par (fun j => j ∈ nl ++ m :: nr) t rt (a1, a2, a3, a4, a5, a6, a7, a8) rx (a1, a2, b3, b4, b5, b6, b7, b8) → wX_mendPath_7 post (d + 1) (nI d + (-1)) rx fr dp fl ce sb sa en a1 a2 b3 b4 b5 b6 b7 b8 a9 a10 a11 a12 a13 a14) :
    wX_mendPath_7 post (d + 2) (nI d) rt fr dp fl ce sb sa en a1 a2 a3 a4 a5 a6 a7 a8 a9 a10 a11 a12 a13 a14 := by
  have cd : (nI d).toNatClampNeg = d := nI_clamp (by omega)
  have L9 : a9 (nI d).toNatClampNeg = nI m := by rw [cd]; exact h9
  refine pk_lt d 0 (fun z => absurd z (by omega)) (fun _ => And.intro (pk_in d 16 hd) (nm_r L9 (gq_ba m0 m1 hl hr hZ hN hn (fun t b3 b4 b5 b6 b7 b8 k' hT hF => ?_))))
  match par, hp, hq, hK with
  | none, hp, hq, hK =>
    have hp' : d = 0 := hp
    exact br_t (show nI d = 0 from by rw [hp']; rfl) (nm_e (hK t t b3 b4 b5 b6 b7 b8 k' hT ⟨rfl, hF⟩))
  | some (q, true), ⟨e, he, e9, q0, q1, e3⟩, hq, hK =>
    have e3' : a3 q = nI m := e3
    have qn : q ∉ nl ++ m :: nr := hq q rfl
    have hEq := hF q qn
    refine br_f (nI_ne0 (by omega) (by omega)) ?_
    by_cases ct : t = nI m
    · exact br_t ct (nm_e (hK t rt b3 b4 b5 b6 b7 b8 k' hT ⟨rfl, fun j hj _ => hF j hj, by rw [ct]; exact hEq.2.2.1.trans e3, ⟨hEq.1, hEq.2.1, hEq.2.2.2.1, hEq.2.2.2.2⟩⟩))
    · have s1 : nI d - 1 = nI e := by rw [he, nI_pred]
      have cq : (nI q).toNatClampNeg = q := nI_clamp (by omega)
      refine br_f ct (And.intro (by rw [s1]; exact pk_in e 16 (by omega)) (nm_r (show a9 (nI d - 1).toNatClampNeg = nI q from by rw [s1, nI_clamp (by omega)]; exact e9) (And.intro (pk_in q 41 q1) (br_t (show b3 (nI q).toNatClampNeg = nI m from by rw [cq]; exact hEq.2.2.1.trans e3) ?_))))
      refine br_f (by decide) (And.intro (pk_in q 41 q1) (fun c3 f3 => ?_))
      rw [cq] at f3
      refine nm_e (hK t rt c3 b4 b5 b6 b7 b8 k' (gq_T_frame hT (fun j hj => ⟨rfl, rfl, ?_, rfl, rfl, rfl, rfl, rfl⟩)) ⟨rfl, fun j hj jq => ?_, ?_, ⟨hEq.1, hEq.2.1, hEq.2.2.2.1, hEq.2.2.2.2⟩⟩)
      · show c3 j = b3 j
        rw [f3, pk_un]
        rcases hj with z | z
        · exact fun w => qn (by rw [← w]; exact z)
        · omega
      · obtain ⟨g1, g2, g3, g4⟩ := hF j hj
        refine ⟨g1, g2, ?_, g4⟩
        show c3 j = a3 j
        rw [f3, pk_un jq]
        exact g3
      · show c3 q = t
        rw [f3, pk_us]
  | some (q, false), ⟨e, he, e9, q0, q1, e4, e3⟩, hq, hK =>
    have e4' : a4 q = nI m := e4
    have e3' : a3 q ≠ nI m := e3 (nI_ne0 m0 (by omega))
    have qn : q ∉ nl ++ m :: nr := hq q rfl
    have hEq := hF q qn
    refine br_f (nI_ne0 (by omega) (by omega)) ?_
    by_cases ct : t = nI m
    · exact br_t ct (nm_e (hK t rt b3 b4 b5 b6 b7 b8 k' hT ⟨rfl, fun j hj _ => hF j hj, by rw [ct]; exact hEq.2.2.2.1.trans e4, ⟨hEq.1, hEq.2.1, hEq.2.2.1, hEq.2.2.2.2⟩⟩))
    · have s1 : nI d - 1 = nI e := by rw [he, nI_pred]
      have cq : (nI q).toNatClampNeg = q := nI_clamp (by omega)
      refine br_f ct (And.intro (by rw [s1]; exact pk_in e 16 (by omega)) (nm_r (show a9 (nI d - 1).toNatClampNeg = nI q from by rw [s1, nI_clamp (by omega)]; exact e9) (And.intro (pk_in q 41 q1) (br_f (show ¬ b3 (nI q).toNatClampNeg = nI m from by rw [cq]; exact fun w => e3' (hEq.2.2.1.symm.trans w)) ?_))))
      refine br_t rfl (And.intro (pk_in q 41 q1) (fun c4 f4 => ?_))
      rw [cq] at f4
      refine nm_e (hK t rt b3 c4 b5 b6 b7 b8 k' (gq_T_frame hT (fun j hj => ⟨rfl, rfl, rfl, ?_, rfl, rfl, rfl, rfl⟩)) ⟨rfl, fun j hj jq => ?_, ?_, ⟨hEq.1, hEq.2.1, hEq.2.2.1, hEq.2.2.2.2⟩⟩)
      · show c4 j = b4 j
        rw [f4, pk_un]
        rcases hj with z | z
        · exact fun w => qn (by rw [← w]; exact z)
        · omega
      · obtain ⟨g1, g2, g3, g4, g5⟩ := hF j hj
        refine ⟨g1, g2, g3, ?_, g5⟩
        show c4 j = a4 j
        rw [f4, pk_un jq]
        exact g4
      · show c4 q = t
        rw [f4, pk_us]
end
section
/-! ===== add: a row more, the same node or a fresh one ===== -/
theorem gq_ins_mem {p : Int64} {L : List (Int64 × Int32)} : ∀ y, y ∈ gq_ins p L → y.1 = p ∨ y ∈ L := by
  induction L with
  | nil => intro y hy; exact Or.inl (by rw [List.mem_singleton.mp hy])
  | cons x L ih =>
    intro y hy
    have hy' : y ∈ (if x.1 = p then (x.1, x.2 + 1) :: L else if x.1 ≤ p then x :: gq_ins p L else (p, 1) :: x :: L) := hy
    by_cases c : x.1 = p
    · rw [if_pos c] at hy'
      rcases List.mem_cons.mp hy' with z | z
      · exact Or.inl (by rw [z]; exact c)
      · exact Or.inr (List.mem_cons_of_mem _ z)
    · rw [if_neg c] at hy'
      by_cases c2 : x.1 ≤ p
      · rw [if_pos c2] at hy'
        rcases List.mem_cons.mp hy' with z | z
        · exact Or.inr (by rw [z]; exact List.mem_cons_self)
        · rcases ih y z with w | w
          · exact Or.inl w
          · exact Or.inr (List.mem_cons_of_mem _ w)
      · rw [if_neg c2] at hy'
        rcases List.mem_cons.mp hy' with z | z
        · exact Or.inl (by rw [z])
        · exact Or.inr z
theorem gq_so_ins {p : Int64} {L : List (Int64 × Int32)} (h : gq_so L) : gq_so (gq_ins p L) := by
  induction L with
  | nil => exact List.pairwise_singleton _ _
  | cons x L ih =>
    obtain ⟨h1, h2⟩ := gq_so_cons h
    show gq_so (if x.1 = p then (x.1, x.2 + 1) :: L else if x.1 ≤ p then x :: gq_ins p L else (p, 1) :: x :: L)
    by_cases c : x.1 = p
    · rw [if_pos c]
      exact List.pairwise_cons.mpr ⟨h1, h2⟩
    · rw [if_neg c]
      by_cases c2 : x.1 ≤ p
      · rw [if_pos c2]
        refine List.pairwise_cons.mpr ⟨fun y hy => ?_, ih h2⟩
        rcases gq_ins_mem y hy with z | z
        · rw [z]; exact Int64.lt_of_le_of_ne c2 c
        · exact h1 y z
      · rw [if_neg c2]
        refine List.pairwise_cons.mpr ⟨fun y hy => ?_, h⟩
        rcases List.mem_cons.mp hy with z | z
        · rw [z]; exact Int64.not_le.mp c2
        · exact Int64.lt_trans (Int64.not_le.mp c2) (h1 y z)
theorem gq_ins_len {p : Int64} {L : List (Int64 × Int32)} : (gq_ins p L).length ≤ L.length + 1 := by
  induction L with
  | nil => exact Nat.le_refl 1
  | cons x L ih =>
    show (if x.1 = p then (x.1, x.2 + 1) :: L else if x.1 ≤ p then x :: gq_ins p L else (p, 1) :: x :: L).length ≤ L.length + 1 + 1
    split
    · simp
    · split
      · simp; omega
      · simp
theorem gq_so_nd {H : gq_H} {ns : List Nat} (h : gq_so (gq_pr H ns)) : ns.Nodup := by
  induction ns with
  | nil => exact List.nodup_nil
  | cons m ns ih =>
    obtain ⟨h1, h2⟩ := gq_so_cons (x := (gq_A1 H m, gq_A2 H m)) (B := gq_pr H ns) h
    refine List.nodup_cons.mpr ⟨fun z => ?_, ih h2⟩
    have := h1 (gq_A1 H m, gq_A2 H m) (List.mem_map.mpr ⟨m, z, rfl⟩)
    exact Int64.lt_irrefl this
def gq_cmp (par : Option (Nat × Bool)) (p : Int64) (H : gq_H) : Prop := match par with
  | none => True
  | some (q, true) => ¬ gq_A1 H q ≤ p
  | some (q, false) => gq_A1 H q ≤ p
theorem gq_nn {post : Int32 → St2 → Prop} {p : Int64} {rt dp fl ce sb sa en : Int32} {a1 : Nat → Int64} {a2 a3 a4 a5 a6 a7 a8 a9 a10 a11 a12 a13 a14 : Nat → Int32} {f : Nat} (f0 : 0 < f) (f1 : f < 41)
    (h : ∀ (b1 : Nat → Int64) (b2 b3 b4 b5 b6 b7 b8 : Nat → Int32), gq_T (b1, b2, b3, b4, b5, b6, b7, b8) 1 (nI f) [f] → b1 f = p → b2 f = 1 → (∀ j, j ≠ f → gq_E (a1, a2, a3, a4, a5, a6, a7, a8) (b1, b2, b3, b4, b5, b6, b7, b8) j) → post (nI f) (rt, a3 f, dp, fl, ce, sb, sa, en, b1, b2, b3, b4, b5, b6, b7, b8, a9, a10, a11, a12, a13, a14)) :
    wpX_newNode post (rt, nI f, dp, fl, ce, sb, sa, en, a1, a2, a3, a4, a5, a6, a7, a8, a9, a10, a11, a12, a13, a14) p := by
  have cf : (nI f).toNatClampNeg = f := nI_clamp (by omega)
  have P : vp_in (nI f) 41 := pk_in f 41 f1
  refine And.intro P (nm_r (show a3 (nI f).toNatClampNeg = a3 f from by rw [cf]) (And.intro P (fun b1 e1 => And.intro P (fun b2 e2 => And.intro P (fun b3 e3 => And.intro P (fun b4 e4 => ?_))))))
  rw [cf] at e1 e2 e3 e4
  have g3 : b3 f = 0 := by rw [e3, pk_us]
  have g4 : b4 f = 0 := by rw [e4, pk_us]
  refine gq_up f1 (by rw [g3]; exact pk_in 0 41 (by omega)) (by rw [g4]; exact pk_in 0 41 (by omega)) (by rw [g3]; show (0 : Nat) ≠ f; omega) (by rw [g4]; show (0 : Nat) ≠ f; omega) (fun b5 b6 b7 b8 E1 L1 => ?_)
  refine h b1 b2 b3 b4 b5 b6 b7 b8 (gq_T_node (nl := []) (nr := []) f0 f1 ⟨g3, rfl⟩ ⟨g4, rfl⟩ L1) (by rw [e1, pk_uLs]) (by rw [e2, pk_us]) (fun j hj => ?_)
  exact gq_E_trans (show gq_E (a1, a2, a3, a4, a5, a6, a7, a8) (b1, b2, b3, b4, a5, a6, a7, a8) j from ⟨by show b1 j = a1 j; rw [e1, pk_uLn hj], by show b2 j = a2 j; rw [e2, pk_un hj], by show b3 j = a3 j; rw [e3, pk_un hj], by show b4 j = a4 j; rw [e4, pk_un hj], rfl, rfl, rfl, rfl⟩) (E1 j hj)
theorem gq_a177 {post : St2 → Prop} {rt fr fl ce sb sa en : Int32} {a1 : Nat → Int64} {a2 a3 a4 a5 a6 a7 a8 a9 a10 a11 a12 a13 a14 : Nat → Int32} {d : Nat} (h : wX_mendPath_7 post (d + 1) (nI d + (-1)) rt fr (nI d) fl ce sb sa en a1 a2 a3 a4 a5 a6 a7 a8 a9 a10 a11 a12 a13 a14) : wX_add_177 post rt fr (nI d) fl ce sb sa en a1 a2 a3 a4 a5 a6 a7 a8 a9 a10 a11 a12 a13 a14 :=
  nm_r (e' := nI d + (-1)) (Int32.sub_eq_add_neg (nI d) 1) ⟨d + 1, h⟩
theorem gq_add_l {post : St2 → Prop} {p : Int64} {f : Nat} {rt fl ce sb sa en : Int32} {a1 : Nat → Int64} {a2 a3 a4 a5 a6 a7 a8 a10 a11 a12 a13 a14 : Nat → Int32} (hZ : gq_Z (a1, a2, a3, a4, a5, a6, a7, a8)) (f0 : 0 < f) (f1 : f < 41) {k : Nat} : ∀ {n : Int32} {ns : List Nat} {d : Nat} {par : Option (Nat × Bool)} {a9 : Nat → Int32}, gq_T (a1, a2, a3, a4, a5, a6, a7, a8) k n ns → gq_so (gq_pr (a1, a2, a3, a4, a5, a6, a7, a8) ns) → f ∉ ns → ns.length < 400 → d + k < 15 →
    gq_par d par (a1, a2, a3, a4, a5, a6, a7, a8) a9 n → (∀ j, gq_pq par j → j ∉ ns ∧ j ≠ f) → gq_cmp par p (a1, a2, a3, a4, a5, a6, a7, a8) →
    (∀ (t rx fx dx : Int32) (b1 : Nat → Int64) (b2 b3 b4 b5 b6 b7 b8 b9 : Nat → Int32) (ns' : List Nat) (k' : Nat), gq_T (b1, b2, b3, b4, b5, b6, b7, b8) k' t ns' → gq_pr (b1, b2, b3, b4, b5, b6, b7, b8) ns' = gq_ins p (gq_pr (a1, a2, a3, a4, a5, a6, a7, a8) ns) →
      ((fx = nI f ∧ ∀ j, j ∈ ns' ↔ j ∈ ns) ∨ (fx = a3 f ∧ ∀ j, j ∈ ns' ↔ (j ∈ ns ∨ j = f))) → gq_R par (fun j => j ∈ ns') t rt (a1, a2, a3, a4, a5, a6, a7, a8) rx (b1, b2, b3, b4, b5, b6, b7, b8) → (∀ e, e < d → b9 e = a9 e) →
      wX_mendPath_7 post (d + 1) (nI d + (-1)) rx fx dx fl ce sb sa en b1 b2 b3 b4 b5 b6 b7 b8 b9 a10 a11 a12 a13 a14) →
    ∃ fu, wX_add_16 post p fu n 0 (nI d) rt (nI f) (nI d) fl ce sb sa en a1 a2 a3 a4 a5 a6 a7 a8 a9 a10 a11 a12 a13 a14 := by
  have empty : ∀ {n : Int32} {ns : List Nat} {d : Nat} {par : Option (Nat × Bool)} {a9 : Nat → Int32}, n = 0 ∧ ns = [] → d < 15 →
      gq_par d par (a1, a2, a3, a4, a5, a6, a7, a8) a9 n → (∀ j, gq_pq par j → j ∉ ns ∧ j ≠ f) → gq_cmp par p (a1, a2, a3, a4, a5, a6, a7, a8) →
      (∀ (t rx fx dx : Int32) (b1 : Nat → Int64) (b2 b3 b4 b5 b6 b7 b8 b9 : Nat → Int32) (ns' : List Nat) (k' : Nat), gq_T (b1, b2, b3, b4, b5, b6, b7, b8) k' t ns' → gq_pr (b1, b2, b3, b4, b5, b6, b7, b8) ns' = gq_ins p (gq_pr (a1, a2, a3, a4, a5, a6, a7, a8) ns) →
        ((fx = nI f ∧ ∀ j, j ∈ ns' ↔ j ∈ ns) ∨ (fx = a3 f ∧ ∀ j, j ∈ ns' ↔ (j ∈ ns ∨ j = f))) → gq_R par (fun j => j ∈ ns') t rt (a1, a2, a3, a4, a5, a6, a7, a8) rx (b1, b2, b3, b4, b5, b6, b7, b8) → (∀ e, e < d → b9 e = a9 e) →
        wX_mendPath_7 post (d + 1) (nI d + (-1)) rx fx dx fl ce sb sa en b1 b2 b3 b4 b5 b6 b7 b8 b9 a10 a11 a12 a13 a14) →
      wX_add_93 post p n 0 rt (nI f) (nI d) fl ce sb sa en a1 a2 a3 a4 a5 a6 a7 a8 a9 a10 a11 a12 a13 a14 := by
    intro n ns d par a9 hn hd hp hq hc hK
    obtain ⟨hn0, hns⟩ := hn
    subst hns
    refine br_t rfl (gq_nn f0 f1 (fun b1 b2 b3 b4 b5 b6 b7 b8 hT e1 e2 hE => ?_))
    have hpr : gq_pr (b1, b2, b3, b4, b5, b6, b7, b8) [f] = gq_ins p (gq_pr (a1, a2, a3, a4, a5, a6, a7, a8) []) := by
      show [(b1 f, b2 f)] = [(p, 1)]
      rw [e1, e2]
    have hmem : ∀ j, j ∈ [f] ↔ (j ∈ ([] : List Nat) ∨ j = f) := fun j => by simp
    match par, hp, hq, hc, hK with
    | none, hp, hq, hc, hK =>
      have hp' : d = 0 := hp
      exact br_t (show nI d = 0 from by rw [hp']; rfl) (gq_a177 (hK (nI f) (nI f) (a3 f) (nI d) b1 b2 b3 b4 b5 b6 b7 b8 a9 [f] 1 hT hpr (Or.inr ⟨rfl, hmem⟩) ⟨rfl, fun j hj => hE j (fun w => hj (by rw [w]; simp))⟩ (fun _ _ => rfl)))
    | some (q, true), ⟨e, he, e9, q0, q1, e3⟩, hq, hc, hK =>
      have qf : q ≠ f := (hq q rfl).2
      have hEq := hE q qf
      have cq : (nI q).toNatClampNeg = q := nI_clamp (by omega)
      have s1 : nI d - 1 = nI e := by rw [he, nI_pred]
      have s2 : a9 (nI d - 1).toNatClampNeg = nI q := by rw [s1, nI_clamp (by omega)]; exact e9
      have V : vp_in (nI d - 1) 16 := by rw [s1]; exact pk_in e 16 (by omega)
      refine br_f (nI_ne0 (by omega) (by omega)) (And.intro V (And.intro V (And.intro ?_ ?_)))
      · rw [s2]; exact pk_in q 41 q1
      · rw [s2]
        refine br_f (show ¬ b1 (nI q).toNatClampNeg ≤ p from by rw [cq]; exact fun w => hc (by rw [show gq_A1 (a1, a2, a3, a4, a5, a6, a7, a8) q = b1 q from hEq.1.symm]; exact w)) ?_
        refine br_f (by decide) (And.intro (pk_in q 41 q1) (fun c3 f3 => ?_))
        rw [cq] at f3
        refine gq_a177 (hK (nI f) rt (a3 f) (nI d) b1 b2 c3 b4 b5 b6 b7 b8 a9 [f] 1 (gq_T_frame hT (fun j hj => ⟨rfl, rfl, ?_, rfl, rfl, rfl, rfl, rfl⟩)) hpr (Or.inr ⟨rfl, hmem⟩) ⟨rfl, fun j hj jq => ?_, ?_, ⟨hEq.1, hEq.2.1, hEq.2.2.2.1, hEq.2.2.2.2⟩⟩ (fun _ _ => rfl))
        · show c3 j = b3 j
          rw [f3, pk_un]
          rcases hj with z | z
          · rw [List.mem_singleton.mp z]; exact Ne.symm qf
          · omega
        · obtain ⟨g1, g2, g3, g4⟩ := hE j (fun w => hj (by rw [w]; simp))
          refine ⟨g1, g2, ?_, g4⟩
          show c3 j = a3 j
          rw [f3, pk_un jq]
          exact g3
        · show c3 q = nI f
          rw [f3, pk_us]
    | some (q, false), ⟨e, he, e9, q0, q1, e4, e3⟩, hq, hc, hK =>
      have qf : q ≠ f := (hq q rfl).2
      have hEq := hE q qf
      have cq : (nI q).toNatClampNeg = q := nI_clamp (by omega)
      have s1 : nI d - 1 = nI e := by rw [he, nI_pred]
      have s2 : a9 (nI d - 1).toNatClampNeg = nI q := by rw [s1, nI_clamp (by omega)]; exact e9
      have V : vp_in (nI d - 1) 16 := by rw [s1]; exact pk_in e 16 (by omega)
      refine br_f (nI_ne0 (by omega) (by omega)) (And.intro V (And.intro V (And.intro ?_ ?_)))
      · rw [s2]; exact pk_in q 41 q1
      · rw [s2]
        refine br_t (show b1 (nI q).toNatClampNeg ≤ p from by rw [cq, show b1 q = gq_A1 (a1, a2, a3, a4, a5, a6, a7, a8) q from hEq.1]; exact hc) ?_
        refine br_t rfl (And.intro (pk_in q 41 q1) (fun c4 f4 => ?_))
        rw [cq] at f4
        refine gq_a177 (hK (nI f) rt (a3 f) (nI d) b1 b2 b3 c4 b5 b6 b7 b8 a9 [f] 1 (gq_T_frame hT (fun j hj => ⟨rfl, rfl, rfl, ?_, rfl, rfl, rfl, rfl⟩)) hpr (Or.inr ⟨rfl, hmem⟩) ⟨rfl, fun j hj jq => ?_, ?_, ⟨hEq.1, hEq.2.1, hEq.2.2.1, hEq.2.2.2.2⟩⟩ (fun _ _ => rfl))
        · show c4 j = b4 j
          rw [f4, pk_un]
          rcases hj with z | z
          · rw [List.mem_singleton.mp z]; exact Ne.symm qf
          · omega
        · obtain ⟨g1, g2, g3, g4, g5⟩ := hE j (fun w => hj (by rw [w]; simp))
          refine ⟨g1, g2, g3, ?_, g5⟩
          show c4 j = a4 j
          rw [f4, pk_un jq]
          exact g4
        · show c4 q = nI f
          rw [f4, pk_us]
  induction k with
  | zero =>
    intro n ns d par a9 hT hs hf hlen hd hp hq hc hK
    have E := empty hT (by omega) hp hq hc hK
    exact ⟨1, pk_le 16 d (fun z => absurd z (by omega)) (fun _ => br_t hT.1 E)⟩
  | succ k ih =>
    intro n ns d par a9 hT hs hf hlen hd hp hq hc hK
    rcases hT with hT | ⟨m, nl, nr, m0, m1, e, es, hl, hr, hc1⟩
    · have E := empty hT (by omega) hp hq hc hK
      exact ⟨1, pk_le 16 d (fun z => absurd z (by omega)) (fun _ => br_t hT.1 E)⟩
    · subst e es
      have cm : (nI m).toNatClampNeg = m := nI_clamp (by omega)
      have cd : (nI d).toNatClampNeg = d := nI_clamp (by omega)
      have P : vp_in (nI m) 41 := pk_in m 41 m1
      have hN := gq_so_nd hs
      rw [gq_pr_mid] at hs
      obtain ⟨so1, so2, sl, sr⟩ := gq_so_mid hs
      obtain ⟨_, _, ml, mr, dis⟩ := gq_nd_mid hN
      have fm : f ≠ m := fun w => hf (by rw [w]; simp)
      have fl' : f ∉ nl := fun w => hf (by simp [w])
      have fr' : f ∉ nr := fun w => hf (by simp [w])
      have zl : (0 : Nat) ∉ nl := fun z => absurd (gq_T_mem hl 0 z).1 (by omega)
      have zr : (0 : Nat) ∉ nr := fun z => absurd (gq_T_mem hr 0 z).1 (by omega)
      rw [List.length_append, List.length_cons] at hlen
      have hlen1 : (gq_pr (a1, a2, a3, a4, a5, a6, a7, a8) nl).length = nl.length := gq_pr_len _ _
      have hlen2 : (gq_pr (a1, a2, a3, a4, a5, a6, a7, a8) nr).length = nr.length := gq_pr_len _ _
      have S9 : upd a9 (nI d).toNatClampNeg (nI m) = upd a9 d (nI m) := by rw [cd]
      by_cases c0 : a1 m = p
      · refine ⟨2, pk_le 16 d (fun z => absurd z (by omega)) (fun _ => br_f (nI_ne0 m0 (by omega)) (br_t rfl (And.intro (pk_in d 16 (by omega)) (nm_r S9 (nm_r (nI_1 d) (And.intro P (br_t (show a1 (nI m).toNatClampNeg = p from by rw [cm]; exact c0) ?_)))))))⟩
        refine br_f (by decide) (nm_r (nI_1 d) (pk_le 16 (d + 1) (fun z => absurd z (by omega)) (fun _ => br_f (nI_ne0 m0 (by omega)) (br_f (by decide) ?_))))
        refine br_f (by decide) (And.intro P (And.intro P (fun c2 e2 => gq_a177 ?_)))
        rw [cm] at e2
        rw [pk_m1]
        have F : ∀ j, j ≠ m → gq_E (a1, a2, a3, a4, a5, a6, a7, a8) (a1, c2, a3, a4, a5, a6, a7, a8) j := fun j hj => ⟨rfl, by show c2 j = a2 j; rw [e2, pk_un hj], rfl, rfl, rfl, rfl, rfl, rfl⟩
        refine gq_ms m0 m1 (by omega) (by rw [pk_us]) (gq_T_frame hl (fun j hj => F j (by rcases hj with z | z; exact fun w => ml (by rw [← w]; exact z); omega))) (gq_T_frame hr (fun j hj => F j (by rcases hj with z | z; exact fun w => mr (by rw [← w]; exact z); omega))) hZ hN (by rw [List.length_append, List.length_cons]; omega)
          (gq_par_to hp (fun j hj => F j (fun w => (hq j hj).1 (by rw [w]; simp))) (fun e he => by rw [pk_un (by omega)])) (fun j hj => (hq j hj).1) (fun t rx b3 b4 b5 b6 b7 b8 k' gT gR => ?_)
        refine hK t rx (nI f) (nI (d + 1)) a1 c2 b3 b4 b5 b6 b7 b8 (upd a9 d (nI m)) (nl ++ m :: nr) k' gT ?_ (Or.inl ⟨rfl, fun j => Iff.rfl⟩) (gq_R_comp (fun j z => z) (fun j hj => F j (fun w => hj (by rw [w]; simp))) (fun j hj => (hq j hj).1) gR) (fun e he => by rw [pk_un (by omega)])
        rw [gq_pr_mid, gq_pr_mid, gq_ins_E (x := (gq_A1 (a1, a2, a3, a4, a5, a6, a7, a8) m, gq_A2 (a1, a2, a3, a4, a5, a6, a7, a8) m)) _ c0 _ sl]
        rw [gq_pr_eq (H := (a1, a2, a3, a4, a5, a6, a7, a8)) (G := (a1, c2, b3, b4, b5, b6, b7, b8)) (ns := nl) (fun j hj => ⟨rfl, (F j (fun w => ml (by rw [← w]; exact hj))).2.1⟩), gq_pr_eq (H := (a1, a2, a3, a4, a5, a6, a7, a8)) (G := (a1, c2, b3, b4, b5, b6, b7, b8)) (ns := nr) (fun j hj => ⟨rfl, (F j (fun w => mr (by rw [← w]; exact hj))).2.1⟩)]
        show gq_pr (a1, a2, a3, a4, a5, a6, a7, a8) nl ++ (a1 m, c2 m) :: gq_pr (a1, a2, a3, a4, a5, a6, a7, a8) nr = gq_pr (a1, a2, a3, a4, a5, a6, a7, a8) nl ++ (a1 m, a2 m + 1) :: gq_pr (a1, a2, a3, a4, a5, a6, a7, a8) nr
        rw [e2, pk_us]
      · by_cases c : a1 m ≤ p
        · -- to the right
          have step := ih (n := a4 m) (ns := nr) (d := d + 1) (par := some (m, false)) (a9 := upd a9 d (nI m)) hr so2 fr' (by omega) (by omega)
            ⟨d, rfl, pk_us, m0, m1, rfl, fun w1 w2 => by
              rcases gq_T_root hr with ⟨z, _⟩ | ⟨s, hs1, s0, s1, es⟩
              · exact w1 z
              · rcases gq_T_root hl with ⟨z, _⟩ | ⟨s', hs1', s0', s1', es'⟩
                · rw [z] at w2
                  exact w1 w2.symm
                · rw [show a4 m = nI s from es, show gq_A3 (a1, a2, a3, a4, a5, a6, a7, a8) m = nI s' from es'] at w2
                  have := (nI_eq (by omega) (by omega)).mp w2
                  rw [this] at hs1'
                  exact dis s hs1' hs1⟩
            (fun j hj => by
              have hj' : m = j := hj
              rw [← hj']
              exact ⟨mr, Ne.symm fm⟩)
            c
            (fun t rx fx dx b1 b2 b3 b4 b5 b6 b7 b8 b9 ns' k' gT gpr gfx gR g9 => by
              obtain ⟨erx, gE, g4, gE4⟩ := gR
              rw [pk_m1]
              have nin : ∀ j, j ∈ ns' → j ∈ nr ∨ j = f := by
                rcases gfx with ⟨_, w⟩ | ⟨_, w⟩
                · exact fun j hj => Or.inl ((w j).mp hj)
                · exact fun j hj => (w j).mp hj
              have lin : ∀ j, j ∈ nl → j ∉ ns' := fun j hj w => by
                rcases nin j w with z | z
                · exact dis j hj z
                · rw [z] at hj; exact fl' hj
              have zin : (0 : Nat) ∉ ns' := fun z => absurd (gq_T_mem gT 0 z).1 (by omega)
              have gE0 := gE 0 zin (by omega)
              have Gl : ∀ j, j ∈ nl ∨ j = 0 → gq_E (a1, a2, a3, a4, a5, a6, a7, a8) (b1, b2, b3, b4, b5, b6, b7, b8) j := fun j hj => by
                rcases hj with z | z
                · exact gE j (lin j z) (fun w => ml (by rw [← w]; exact z))
                · rw [z]; exact gE0
              have e3m : b3 m = a3 m := gE4.2.2.1
              have e4m : b4 m = t := g4
              have prL : gq_pr (b1, b2, b3, b4, b5, b6, b7, b8) nl = gq_pr (a1, a2, a3, a4, a5, a6, a7, a8) nl := gq_pr_eq (fun j hj => ⟨(Gl j (Or.inl hj)).1, (Gl j (Or.inl hj)).2.1⟩)
              have prW : gq_pr (b1, b2, b3, b4, b5, b6, b7, b8) (nl ++ m :: ns') = gq_ins p (gq_pr (a1, a2, a3, a4, a5, a6, a7, a8) (nl ++ m :: nr)) := by
                rw [gq_pr_mid, gq_pr_mid, gq_ins_R (x := (gq_A1 (a1, a2, a3, a4, a5, a6, a7, a8) m, gq_A2 (a1, a2, a3, a4, a5, a6, a7, a8) m)) _ c0 c _ sl, gpr, prL]
                rw [show gq_A1 (b1, b2, b3, b4, b5, b6, b7, b8) m = gq_A1 (a1, a2, a3, a4, a5, a6, a7, a8) m from gE4.1, show gq_A2 (b1, b2, b3, b4, b5, b6, b7, b8) m = gq_A2 (a1, a2, a3, a4, a5, a6, a7, a8) m from gE4.2.1]
              have so' : gq_so (gq_pr (b1, b2, b3, b4, b5, b6, b7, b8) (nl ++ m :: ns')) := by
                rw [prW, gq_pr_mid]
                exact gq_so_ins hs
              have len' : ns'.length ≤ nr.length + 1 := by
                have h1 := gq_pr_len (b1, b2, b3, b4, b5, b6, b7, b8) ns'
                rw [gpr] at h1
                have h2 := gq_ins_len (p := p) (L := gq_pr (a1, a2, a3, a4, a5, a6, a7, a8) nr)
                omega
              have hqE : ∀ j, gq_pq par j → gq_E (a1, a2, a3, a4, a5, a6, a7, a8) (b1, b2, b3, b4, b5, b6, b7, b8) j := fun j hj => gE j (fun w => by
                rcases nin j w with z | z
                · exact (hq j hj).1 (by simp [z])
                · exact (hq j hj).2 z) (fun w => (hq j hj).1 (by rw [w]; simp))
              have hqn : ∀ j, gq_pq par j → j ∉ nl ++ m :: ns' := fun j hj w => by
                rcases List.mem_append.mp w with z | z
                · exact (hq j hj).1 (by simp [z])
                · rcases List.mem_cons.mp z with z | z
                  · exact (hq j hj).1 (by simp [z])
                  · rcases nin j z with z | z
                    · exact (hq j hj).1 (by simp [z])
                    · exact (hq j hj).2 z
              have hE' : ∀ j, j ∉ nl ++ m :: ns' → gq_E (a1, a2, a3, a4, a5, a6, a7, a8) (b1, b2, b3, b4, b5, b6, b7, b8) j := fun j hj => gE j (fun w => hj (by simp [w])) (fun w => hj (by rw [w]; simp))
              refine gq_ms (k := k + k') m0 m1 (by omega) (by rw [g9 d (by omega), pk_us]) (by rw [e3m]; exact gq_T_mono (by omega) (gq_T_frame hl Gl)) (by rw [e4m]; exact gq_T_mono (by omega) gT)
                ⟨gE0.2.2.2.2.1.trans hZ.1, gE0.2.2.2.2.2.1.trans hZ.2.1, gE0.2.2.2.2.2.2.1.trans hZ.2.2.1, gE0.2.2.2.2.2.2.2.trans hZ.2.2.2⟩
                (gq_so_nd so') (by rw [List.length_append, List.length_cons]; omega)
                (gq_par_to hp hqE (fun e he => by rw [g9 e (by omega), pk_un (by omega)])) hqn (fun t2 rx2 c3 c4 c5 c6 c7 c8 k2 hT2 hR2 => ?_)
              refine hK t2 rx2 fx dx b1 b2 c3 c4 c5 c6 c7 c8 b9 (nl ++ m :: ns') k2 hT2 prW ?_ (gq_R_comp (fun j z => z) hE' hqn (by rw [← erx]; exact hR2)) (fun e he => by rw [g9 e (by omega), pk_un (by omega)])
              rcases gfx with ⟨w1, w2⟩ | ⟨w1, w2⟩
              · exact Or.inl ⟨w1, fun j => by simp only [List.mem_append, List.mem_cons, w2]⟩
              · exact Or.inr ⟨w1, fun j => by simp only [List.mem_append, List.mem_cons, w2]; grind⟩)
          obtain ⟨fu, hw⟩ := step
          refine ⟨fu + 1, pk_le 16 d (fun z => absurd z (by omega)) (fun _ => br_f (nI_ne0 m0 (by omega)) (br_t rfl (And.intro (pk_in d 16 (by omega)) (nm_r S9 (nm_r (nI_1 d) (And.intro P (br_f (show ¬ a1 (nI m).toNatClampNeg = p from by rw [cm]; exact c0) ?_)))))))⟩
          refine br_t rfl (And.intro P (br_t (show a1 (nI m).toNatClampNeg ≤ p from by rw [cm]; exact c) (And.intro P (nm_r (show a4 (nI m).toNatClampNeg = a4 m from by rw [cm]) (nm_r (nI_1 d) hw)))))
        · -- to the left
          have step := ih (n := a3 m) (ns := nl) (d := d + 1) (par := some (m, true)) (a9 := upd a9 d (nI m)) hl so1 fl' (by omega) (by omega)
            ⟨d, rfl, pk_us, m0, m1, rfl⟩
            (fun j hj => by
              have hj' : m = j := hj
              rw [← hj']
              exact ⟨ml, Ne.symm fm⟩)
            c
            (fun t rx fx dx b1 b2 b3 b4 b5 b6 b7 b8 b9 ns' k' gT gpr gfx gR g9 => by
              obtain ⟨erx, gE, g3, gE3⟩ := gR
              rw [pk_m1]
              have nin : ∀ j, j ∈ ns' → j ∈ nl ∨ j = f := by
                rcases gfx with ⟨_, w⟩ | ⟨_, w⟩
                · exact fun j hj => Or.inl ((w j).mp hj)
                · exact fun j hj => (w j).mp hj
              have rin : ∀ j, j ∈ nr → j ∉ ns' := fun j hj w => by
                rcases nin j w with z | z
                · exact dis j z hj
                · rw [z] at hj; exact fr' hj
              have zin : (0 : Nat) ∉ ns' := fun z => absurd (gq_T_mem gT 0 z).1 (by omega)
              have gE0 := gE 0 zin (by omega)
              have Gr : ∀ j, j ∈ nr ∨ j = 0 → gq_E (a1, a2, a3, a4, a5, a6, a7, a8) (b1, b2, b3, b4, b5, b6, b7, b8) j := fun j hj => by
                rcases hj with z | z
                · exact gE j (rin j z) (fun w => mr (by rw [← w]; exact z))
                · rw [z]; exact gE0
              have e4m : b4 m = a4 m := gE3.2.2.1
              have e3m : b3 m = t := g3
              have prR : gq_pr (b1, b2, b3, b4, b5, b6, b7, b8) nr = gq_pr (a1, a2, a3, a4, a5, a6, a7, a8) nr := gq_pr_eq (fun j hj => ⟨(Gr j (Or.inl hj)).1, (Gr j (Or.inl hj)).2.1⟩)
              have prW : gq_pr (b1, b2, b3, b4, b5, b6, b7, b8) (ns' ++ m :: nr) = gq_ins p (gq_pr (a1, a2, a3, a4, a5, a6, a7, a8) (nl ++ m :: nr)) := by
                rw [gq_pr_mid, gq_pr_mid, gq_ins_L (x := (gq_A1 (a1, a2, a3, a4, a5, a6, a7, a8) m, gq_A2 (a1, a2, a3, a4, a5, a6, a7, a8) m)) _ c0 c _, gpr, prR]
                rw [show gq_A1 (b1, b2, b3, b4, b5, b6, b7, b8) m = gq_A1 (a1, a2, a3, a4, a5, a6, a7, a8) m from gE3.1, show gq_A2 (b1, b2, b3, b4, b5, b6, b7, b8) m = gq_A2 (a1, a2, a3, a4, a5, a6, a7, a8) m from gE3.2.1]
              have so' : gq_so (gq_pr (b1, b2, b3, b4, b5, b6, b7, b8) (ns' ++ m :: nr)) := by
                rw [prW, gq_pr_mid]
                exact gq_so_ins hs
              have len' : ns'.length ≤ nl.length + 1 := by
                have h1 := gq_pr_len (b1, b2, b3, b4, b5, b6, b7, b8) ns'
                rw [gpr] at h1
                have h2 := gq_ins_len (p := p) (L := gq_pr (a1, a2, a3, a4, a5, a6, a7, a8) nl)
                omega
              have hqE : ∀ j, gq_pq par j → gq_E (a1, a2, a3, a4, a5, a6, a7, a8) (b1, b2, b3, b4, b5, b6, b7, b8) j := fun j hj => gE j (fun w => by
                rcases nin j w with z | z
                · exact (hq j hj).1 (by simp [z])
                · exact (hq j hj).2 z) (fun w => (hq j hj).1 (by rw [w]; simp))
              have hqn : ∀ j, gq_pq par j → j ∉ ns' ++ m :: nr := fun j hj w => by
                rcases List.mem_append.mp w with z | z
                · rcases nin j z with z | z
                  · exact (hq j hj).1 (by simp [z])
                  · exact (hq j hj).2 z
                · rcases List.mem_cons.mp z with z | z
                  · exact (hq j hj).1 (by simp [z])
                  · exact (hq j hj).1 (by simp [z])
              have hE' : ∀ j, j ∉ ns' ++ m :: nr → gq_E (a1, a2, a3, a4, a5, a6, a7, a8) (b1, b2, b3, b4, b5, b6, b7, b8) j := fun j hj => gE j (fun w => hj (by simp [w])) (fun w => hj (by rw [w]; simp))
              refine gq_ms (k := k + k') m0 m1 (by omega) (by rw [g9 d (by omega), pk_us]) (by rw [e3m]; exact gq_T_mono (by omega) gT) (by rw [e4m]; exact gq_T_mono (by omega) (gq_T_frame hr Gr))
                ⟨gE0.2.2.2.2.1.trans hZ.1, gE0.2.2.2.2.2.1.trans hZ.2.1, gE0.2.2.2.2.2.2.1.trans hZ.2.2.1, gE0.2.2.2.2.2.2.2.trans hZ.2.2.2⟩
                (gq_so_nd so') (by rw [List.length_append, List.length_cons]; omega)
                (gq_par_to hp hqE (fun e he => by rw [g9 e (by omega), pk_un (by omega)])) hqn (fun t2 rx2 c3 c4 c5 c6 c7 c8 k2 hT2 hR2 => ?_)
              refine hK t2 rx2 fx dx b1 b2 c3 c4 c5 c6 c7 c8 b9 (ns' ++ m :: nr) k2 hT2 prW ?_ (gq_R_comp (fun j z => z) hE' hqn (by rw [← erx]; exact hR2)) (fun e he => by rw [g9 e (by omega), pk_un (by omega)])
              rcases gfx with ⟨w1, w2⟩ | ⟨w1, w2⟩
              · exact Or.inl ⟨w1, fun j => by simp only [List.mem_append, List.mem_cons, w2]⟩
              · exact Or.inr ⟨w1, fun j => by simp only [List.mem_append, List.mem_cons, w2]; grind⟩)
          obtain ⟨fu, hw⟩ := step
          refine ⟨fu + 1, pk_le 16 d (fun z => absurd z (by omega)) (fun _ => br_f (nI_ne0 m0 (by omega)) (br_t rfl (And.intro (pk_in d 16 (by omega)) (nm_r S9 (nm_r (nI_1 d) (And.intro P (br_f (show ¬ a1 (nI m).toNatClampNeg = p from by rw [cm]; exact c0) ?_)))))))⟩
          refine br_t rfl (And.intro P (br_f (show ¬ a1 (nI m).toNatClampNeg ≤ p from by rw [cm]; exact c) (And.intro P (nm_r (show a3 (nI m).toNatClampNeg = a3 m from by rw [cm]) (nm_r (nI_1 d) hw)))))
/-- add on the whole tree -/
theorem gq_add {post : St2 → Prop} {p : Int64} {f : Nat} {rt dp fl ce sb sa en : Int32} {a1 : Nat → Int64} {a2 a3 a4 a5 a6 a7 a8 a9 a10 a11 a12 a13 a14 : Nat → Int32} {ns : List Nat} (hZ : gq_Z (a1, a2, a3, a4, a5, a6, a7, a8)) (f0 : 0 < f) (f1 : f < 41) (hT : gq_T (a1, a2, a3, a4, a5, a6, a7, a8) ns.length rt ns) (hs : gq_so (gq_pr (a1, a2, a3, a4, a5, a6, a7, a8) ns)) (hf : f ∉ ns) (hlen : ns.length < 15)
    (h : ∀ (rx fx dx : Int32) (b1 : Nat → Int64) (b2 b3 b4 b5 b6 b7 b8 b9 : Nat → Int32) (ns' : List Nat), gq_T (b1, b2, b3, b4, b5, b6, b7, b8) ns'.length rx ns' → gq_pr (b1, b2, b3, b4, b5, b6, b7, b8) ns' = gq_ins p (gq_pr (a1, a2, a3, a4, a5, a6, a7, a8) ns) →
      ((fx = nI f ∧ ∀ j, j ∈ ns' ↔ j ∈ ns) ∨ (fx = a3 f ∧ ∀ j, j ∈ ns' ↔ (j ∈ ns ∨ j = f))) → (∀ j, j ∉ ns' → gq_E (a1, a2, a3, a4, a5, a6, a7, a8) (b1, b2, b3, b4, b5, b6, b7, b8) j) →
      post (rx, fx, dx, fl, ce, sb, sa, en, b1, b2, b3, b4, b5, b6, b7, b8, b9, a10, a11, a12, a13, a14)) :
    wpX_add post (rt, nI f, dp, fl, ce, sb, sa, en, a1, a2, a3, a4, a5, a6, a7, a8, a9, a10, a11, a12, a13, a14) p :=
  gq_add_l (d := 0) (par := none) hZ f0 f1 hT hs hf (by omega) (by omega) rfl (fun j hj => absurd hj id) trivial
    (fun t rx fx dx b1 b2 b3 b4 b5 b6 b7 b8 b9 ns' k' gT gpr gfx gR g9 => br_t (by decide) (h rx fx dx b1 b2 b3 b4 b5 b6 b7 b8 b9 ns' (by rw [gR.1]; exact gq_T_tight gT) gpr gfx gR.2))
end
section
/-! ===== drop: a row less ===== -/
theorem gq_R_E {par : Option (Nat × Bool)} {S : Nat → Prop} {t rt rx : Int32} {H G : gq_H} {j : Nat} (h : gq_R par S t rt H rx G) (hj : ¬ S j) (hq : ¬ gq_pq par j) : gq_E H G j := by
  match par, hq, h with
  | none, hq, h => exact h.2 j hj
  | some (q, true), hq, h => exact h.2.1 j hj (fun w => hq w.symm)
  | some (q, false), hq, h => exact h.2.1 j hj (fun w => hq w.symm)
theorem gq_par_0 {par : Option (Nat × Bool)} {d : Nat} {H : gq_H} {a9 : Nat → Int32} {n : Int32} (h : gq_par d par H a9 n) : ¬ gq_pq par 0 := by
  match par, h with
  | none, h => exact fun w => w
  | some (q, true), ⟨e, h1, h2, h3, h4⟩ => exact fun (w : q = 0) => absurd h3 (by omega)
  | some (q, false), ⟨e, h1, h2, h3, h4⟩ => exact fun (w : q = 0) => absurd h3 (by omega)
theorem gq_t24 {post : St2 → Prop} {rt fr fl ce sb sa en : Int32} {a1 : Nat → Int64} {a2 a3 a4 a5 a6 a7 a8 a9 a10 a11 a12 a13 a14 : Nat → Int32} {d m : Nat} {par : Option (Nat × Bool)} {c : Int32} (m0 : 0 < m) (m1 : m < 41) (hd : d < 16) (hp : gq_par d par (a1, a2, a3, a4, a5, a6, a7, a8) a9 (nI m)) (hq : ∀ j, gq_pq par j → j ≠ m)
    (h : ∀ (rx : Int32) (b3 b4 : Nat → Int32), gq_R par (fun j => j = m) c rt (a1, a2, a3, a4, a5, a6, a7, a8) rx (a1, a2, b3, b4, a5, a6, a7, a8) → post (rx, nI m, nI d, fl, ce, sb, sa, en, a1, a2, b3, b4, a5, a6, a7, a8, a9, a10, a11, a12, a13, a14)) :
    wX_takeOut_24 post (nI m) c rt fr (nI (d + 1)) fl ce sb sa en a1 a2 a3 a4 a5 a6 a7 a8 a9 a10 a11 a12 a13 a14 := by
  have cm : (nI m).toNatClampNeg = m := nI_clamp (by omega)
  have P : vp_in (nI m) 41 := pk_in m 41 m1
  refine nm_r (nI_pred d) ?_
  match par, hp, hq, h with
  | none, hp, hq, h =>
    have hp' : d = 0 := hp
    refine br_t (show nI d = 0 from by rw [hp']; rfl) (And.intro P (fun b3 e3 => h c b3 a4 ⟨rfl, fun j hj => ⟨rfl, rfl, ?_, rfl, rfl, rfl, rfl, rfl⟩⟩))
    show b3 j = a3 j
    rw [e3, cm, pk_un hj]
  | some (q, true), ⟨e, he, e9, q0, q1, e3⟩, hq, h =>
    have cq : (nI q).toNatClampNeg = q := nI_clamp (by omega)
    have qm : q ≠ m := hq q rfl
    have s1 : nI d - 1 = nI e := by rw [he, nI_pred]
    refine br_f (nI_ne0 (by omega) (by omega)) (And.intro (by rw [s1]; exact pk_in e 16 (by omega)) (nm_r (show a9 (nI d - 1).toNatClampNeg = nI q from by rw [s1, nI_clamp (by omega)]; exact e9) (And.intro (pk_in q 41 q1) (br_t (show a3 (nI q).toNatClampNeg = nI m from by rw [cq]; exact e3) ?_))))
    refine br_f (by decide) (And.intro (pk_in q 41 q1) (fun c3 f3 => And.intro P (fun b3 g3 => h rt b3 a4 ⟨rfl, fun j hj jq => ⟨rfl, rfl, ?_, rfl, rfl, rfl, rfl, rfl⟩, ?_, ⟨rfl, rfl, rfl, rfl, rfl, rfl, rfl⟩⟩)))
    · show b3 j = a3 j
      rw [g3, cm, pk_un hj, f3, cq, pk_un jq]
    · show b3 q = c
      rw [g3, cm, pk_un qm, f3, cq, pk_us]
  | some (q, false), ⟨e, he, e9, q0, q1, e4, e3⟩, hq, h =>
    have cq : (nI q).toNatClampNeg = q := nI_clamp (by omega)
    have qm : q ≠ m := hq q rfl
    have s1 : nI d - 1 = nI e := by rw [he, nI_pred]
    have e3' : a3 q ≠ nI m := e3 (nI_ne0 m0 (by omega))
    refine br_f (nI_ne0 (by omega) (by omega)) (And.intro (by rw [s1]; exact pk_in e 16 (by omega)) (nm_r (show a9 (nI d - 1).toNatClampNeg = nI q from by rw [s1, nI_clamp (by omega)]; exact e9) (And.intro (pk_in q 41 q1) (br_f (show ¬ a3 (nI q).toNatClampNeg = nI m from by rw [cq]; exact e3') ?_))))
    refine br_t rfl (And.intro (pk_in q 41 q1) (fun c4 f4 => And.intro P (fun b3 g3 => h rt b3 c4 ⟨rfl, fun j hj jq => ⟨rfl, rfl, ?_, ?_, rfl, rfl, rfl, rfl⟩, ?_, ⟨rfl, rfl, ?_, rfl, rfl, rfl, rfl⟩⟩)))
    · show b3 j = a3 j
      rw [g3, cm, pk_un hj]
    · show c4 j = a4 j
      rw [f4, cq, pk_un jq]
    · show c4 q = c
      rw [f4, cq, pk_us]
    · show b3 q = a3 q
      rw [g3, cm, pk_un qm]
theorem gq_tk {post : St2 → Prop} {rt fr fl ce sb sa en : Int32} {a1 : Nat → Int64} {a2 a3 a4 a5 a6 a7 a8 a9 a10 a11 a12 a13 a14 : Nat → Int32} {d m : Nat} {par : Option (Nat × Bool)} (m0 : 0 < m) (m1 : m < 41) (hd : d < 16) (hp : gq_par d par (a1, a2, a3, a4, a5, a6, a7, a8) a9 (nI m)) (hq : ∀ j, gq_pq par j → j ≠ m)
    (h : ∀ (rx : Int32) (b3 b4 : Nat → Int32), gq_R par (fun j => j = m) (if a3 m = 0 then a4 m else a3 m) rt (a1, a2, a3, a4, a5, a6, a7, a8) rx (a1, a2, b3, b4, a5, a6, a7, a8) → post (rx, nI m, nI d, fl, ce, sb, sa, en, a1, a2, b3, b4, a5, a6, a7, a8, a9, a10, a11, a12, a13, a14)) :
    wpX_takeOut post (rt, fr, nI (d + 1), fl, ce, sb, sa, en, a1, a2, a3, a4, a5, a6, a7, a8, a9, a10, a11, a12, a13, a14) (nI m) := by
  have cm : (nI m).toNatClampNeg = m := nI_clamp (by omega)
  have P : vp_in (nI m) 41 := pk_in m 41 m1
  refine And.intro P ?_
  by_cases c : a3 m = 0
  · rw [if_pos c] at h
    refine br_t (show a3 (nI m).toNatClampNeg = 0 from by rw [cm]; exact c) (And.intro P ?_)
    rw [cm]
    exact gq_t24 m0 m1 hd hp hq h
  · rw [if_neg c] at h
    refine br_f (show ¬ a3 (nI m).toNatClampNeg = 0 from by rw [cm]; exact c) (And.intro P ?_)
    rw [cm]
    exact gq_t24 m0 m1 hd hp hq h
/-- drop_162: node s at level d, with at most one child, goes out -/
theorem gq_d162 {post : St2 → Prop} {rt fr fl ce sb sa en : Int32} {a1 : Nat → Int64} {a2 a3 a4 a5 a6 a7 a8 a9 a10 a11 a12 a13 a14 : Nat → Int32} {d s : Nat} {par : Option (Nat × Bool)} (s0 : 0 < s) (s1 : s < 41) (hd : d < 16) (hp : gq_par d par (a1, a2, a3, a4, a5, a6, a7, a8) a9 (nI s)) (hq : ∀ j, gq_pq par j → j ≠ s)
    (h : ∀ (rx : Int32) (b3 b4 : Nat → Int32), gq_R par (fun j => j = s) (if a3 s = 0 then a4 s else a3 s) rt (a1, a2, a3, a4, a5, a6, a7, a8) rx (a1, a2, b3, b4, a5, a6, a7, a8) → wX_mendPath_7 post (d + 1) (nI d + (-1)) rx (nI s) (nI d) fl ce sb sa en a1 a2 b3 b4 a5 a6 a7 a8 a9 a10 a11 a12 a13 a14) :
    wX_drop_162 post (nI s) rt fr (nI (d + 1)) fl ce sb sa en a1 a2 a3 a4 a5 a6 a7 a8 a9 a10 a11 a12 a13 a14 :=
  gq_tk s0 s1 hd hp hq (fun rx b3 b4 hR => nm_r (e' := nI d + (-1)) (Int32.sub_eq_add_neg (nI d) 1) ⟨d + 1, h rx b3 b4 hR⟩)
/-- from node s at level d down to the least node o, which goes out -/
theorem gq_gn_l {post : St2 → Prop} {POST : Int32 → St2 → Prop} {rt fr fl ce sb sa en : Int32} {a1 : Nat → Int64} {a2 a3 a4 a5 a6 a7 a8 a10 a11 a12 a13 a14 : Nat → Int32} {c1 : Nat → Int64} {c2 : Nat → Int32} {o : Nat}
    (hPOST : ∀ (a9 : Nat → Int32) (dx : Int32), wX_drop_162 post (nI o) rt fr dx fl ce sb sa en c1 c2 a3 a4 a5 a6 a7 a8 a9 a10 a11 a12 a13 a14 → POST (nI o) (rt, fr, dx, fl, ce, sb, sa, en, a1, a2, a3, a4, a5, a6, a7, a8, a9, a10, a11, a12, a13, a14)) (hZ : gq_Z (c1, c2, a3, a4, a5, a6, a7, a8)) {k : Nat} :
    ∀ {s : Nat} {ns : List Nat} {d x : Nat} {par : Option (Nat × Bool)} {a9 : Nat → Int32}, 0 < s → s < 41 → gq_T (c1, c2, a3, a4, a5, a6, a7, a8) k (nI s) (o :: ns) → (o :: ns).Nodup → (o :: ns).length < 400 → d + k < 15 → x ≤ d → a9 d = nI s →
    gq_par d par (c1, c2, a3, a4, a5, a6, a7, a8) a9 (nI s) → (∀ j, gq_pq par j → j ∉ o :: ns) →
    (∀ (t rx fx dx : Int32) (b3 b4 b5 b6 b7 b8 b9 : Nat → Int32) (k' : Nat), gq_T (c1, c2, b3, b4, b5, b6, b7, b8) k' t ns → gq_R par (fun j => j ∈ o :: ns) t rt (c1, c2, a3, a4, a5, a6, a7, a8) rx (c1, c2, b3, b4, b5, b6, b7, b8) → (∀ e, e < d → b9 e = a9 e) →
      wX_mendPath_7 post (d + 1) (nI d + (-1)) rx fx dx fl ce sb sa en c1 c2 b3 b4 b5 b6 b7 b8 b9 a10 a11 a12 a13 a14) →
    ∃ fu, wX_goToNext_14 POST fu (nI s) (nI x) rt fr (nI (d + 1)) fl ce sb sa en a1 a2 a3 a4 a5 a6 a7 a8 a9 a10 a11 a12 a13 a14 := by
  induction k with
  | zero =>
    intro s ns d x par a9 s0 s1 hT hN hlen hd hx h9 hp hq hK
    exact absurd hT.1 (nI_ne0 s0 (by omega))
  | succ k ih =>
    intro s ns d x par a9 s0 s1 hT hN hlen hd hx h9 hp hq hK
    have cs : (nI s).toNatClampNeg = s := nI_clamp (by omega)
    have P : vp_in (nI s) 41 := pk_in s 41 s1
    obtain ⟨k0, nl, nr, ek, es, hl, hr, hc⟩ := gq_T_ne s0 s1 hT
    have ek' : k0 = k := by omega
    subst ek'
    rcases gq_T_root hl with ⟨z3, znl⟩ | ⟨s', hs', s0', s1', es'⟩
    · have z3' : a3 s = 0 := z3
      rw [znl] at es
      obtain ⟨eo, en'⟩ := List.cons.inj (show o :: ns = s :: nr from es)
      subst eo en'
      refine ⟨1, pk_le 16 x (fun z => absurd z (by omega)) (fun _ => And.intro P (br_t (show a3 (nI o).toNatClampNeg = 0 from by rw [cs]; exact z3') (hPOST a9 _ ?_)))⟩
      obtain ⟨on, _⟩ := List.nodup_cons.mp hN
      refine gq_d162 s0 s1 (by omega) hp (fun j hj w => hq j hj (by rw [w]; exact List.mem_cons_self)) (fun rx b3 b4 hR => ?_)
      rw [if_pos z3'] at hR
      refine hK (a4 o) rx (nI o) (nI d) b3 b4 a5 a6 a7 a8 a9 k0 (gq_T_frame hr (fun j hj => ?_)) (gq_R_comp (fun j z => by rw [z]; exact List.mem_cons_self) (fun j _ => gq_E_refl _ j) hq hR) (fun _ _ => rfl)
      rcases hj with z | z
      · exact gq_R_E hR (fun w => on (by rw [← w]; exact z)) (fun w => hq j w (List.mem_cons_of_mem _ z))
      · rw [z]
        exact gq_R_E hR (show ¬ (0 = o) by omega) (gq_par_0 hp)
    · have es3 : a3 s = nI s' := es'
      have cs' : (nI s').toNatClampNeg = s' := nI_clamp (by omega)
      cases nl with
      | nil => exact absurd hs' List.not_mem_nil
      | cons o' nl' =>
        obtain ⟨eo, en'⟩ := List.cons.inj (show o :: ns = o' :: (nl' ++ s :: nr) from es)
        subst eo en'
        rw [show o :: (nl' ++ s :: nr) = (o :: nl') ++ s :: nr from rfl] at hN hlen
        obtain ⟨N1, N2, sl, sr, dis⟩ := gq_nd_mid hN
        have hlen2 : nl'.length + nr.length + 2 < 400 := by
          rw [List.length_append, List.length_cons, List.length_cons] at hlen
          omega
        have hN3 : (nl' ++ s :: nr).Nodup := (List.nodup_cons.mp (show (o :: (nl' ++ s :: nr)).Nodup from hN)).2
        have step := ih (s := s') (ns := nl') (d := d + 1) (x := x + 1) (par := some (s, true)) (a9 := upd a9 (d + 1) (nI s')) s0' s1' (by rw [← es3]; exact hl) N1 (by rw [List.length_cons]; omega) (by omega) (by omega) pk_us
          ⟨d, rfl, by rw [pk_un (by omega)]; exact h9, s0, s1, es3⟩ (fun j hj => by
            have hj' : s = j := hj
            rw [← hj']
            exact sl)
          (fun t rx fx dx b3 b4 b5 b6 b7 b8 b9 k' gT gR g9 => by
            obtain ⟨erx, gE, g3, gE3⟩ := gR
            rw [pk_m1]
            have e3s : b3 s = t := g3
            have e4s : b4 s = a4 s := gE3.2.2.1
            have Gr : ∀ j, j ∈ nr ∨ j = 0 → gq_E (c1, c2, a3, a4, a5, a6, a7, a8) (c1, c2, b3, b4, b5, b6, b7, b8) j := fun j hj => by
              rcases hj with z | z
              · exact gE j (fun w => dis j w z) (fun w => sr (by rw [← w]; exact z))
              · rw [z]
                exact gE 0 (fun w => absurd (gq_T_mem hl 0 w).1 (by omega)) (by omega)
            have gE0 := Gr 0 (Or.inr rfl)
            have sub : ∀ j, j ∈ nl' ++ s :: nr → j ∈ o :: (nl' ++ s :: nr) := fun j hj => List.mem_cons_of_mem _ hj
            refine gq_ms (k := k0 + k') s0 s1 (by omega) (by rw [g9 d (by omega), pk_un (by omega)]; exact h9) (by rw [e3s]; exact gq_T_mono (by omega) gT) (by rw [e4s]; exact gq_T_mono (by omega) (gq_T_frame hr Gr))
              ⟨gE0.2.2.2.2.1.trans hZ.1, gE0.2.2.2.2.2.1.trans hZ.2.1, gE0.2.2.2.2.2.2.1.trans hZ.2.2.1, gE0.2.2.2.2.2.2.2.trans hZ.2.2.2⟩
              hN3 (by rw [List.length_append, List.length_cons]; omega)
              (gq_par_to hp (fun j hj => gE j (fun w => hq j hj (by rcases List.mem_cons.mp w with z | z; rw [z]; exact List.mem_cons_self; simp [z])) (fun w => hq j hj (by rw [w]; simp))) (fun e he => by rw [g9 e (by omega), pk_un (by omega)])) (fun j hj w => hq j hj (sub j w)) (fun t2 rx2 f3 f4 f5 f6 f7 f8 k2 hT2 hR2 => ?_)
            refine hK t2 rx2 fx dx f3 f4 f5 f6 f7 f8 b9 k2 hT2 (gq_R_comp (fun j z => sub j z) (fun j hj => gE j (fun w => hj (by rcases List.mem_cons.mp w with z | z; rw [z]; exact List.mem_cons_self; simp [z])) (fun w => hj (by rw [w]; simp))) hq (by rw [← erx]; exact hR2)) (fun e he => by rw [g9 e (by omega), pk_un (by omega)]))
        obtain ⟨fu, hw⟩ := step
        refine ⟨fu + 1, pk_le 16 x (fun z => absurd z (by omega)) (fun _ => And.intro P (br_f (show ¬ a3 (nI s).toNatClampNeg = 0 from by rw [cs, es3]; exact nI_ne0 s0' (by omega)) (And.intro P (nm_r (show a3 (nI s).toNatClampNeg = nI s' from by rw [cs]; exact es3) (And.intro (pk_in (d + 1) 16 (by omega)) (nm_r (show upd a9 (nI (d + 1)).toNatClampNeg (nI s') = upd a9 (d + 1) (nI s') from by rw [nI_clamp (by omega)]) (nm_r (nI_1 (d + 1)) (nm_r (nI_1 x) hw))))))))⟩
/-- the loop of drop, from the slot of level d -/
theorem gq_dr_l {post : St2 → Prop} {p : Int64} {rt fr fl ce sb sa en : Int32} {a1 : Nat → Int64} {a2 a3 a4 a5 a6 a7 a8 a10 a11 a12 a13 a14 : Nat → Int32} (hZ : gq_Z (a1, a2, a3, a4, a5, a6, a7, a8)) {k : Nat} : ∀ {n : Int32} {ns : List Nat} {d : Nat} {par : Option (Nat × Bool)} {a9 : Nat → Int32}, gq_T (a1, a2, a3, a4, a5, a6, a7, a8) k n ns → gq_so (gq_pr (a1, a2, a3, a4, a5, a6, a7, a8) ns) → (∃ j, j ∈ ns ∧ a1 j = p) → ns.length < 400 → d + k < 14 →
    gq_par d par (a1, a2, a3, a4, a5, a6, a7, a8) a9 n → (∀ j, gq_pq par j → j ∉ ns) →
    (∀ (t rx fx dx : Int32) (b1 : Nat → Int64) (b2 b3 b4 b5 b6 b7 b8 b9 : Nat → Int32) (ns' : List Nat) (k' : Nat), gq_T (b1, b2, b3, b4, b5, b6, b7, b8) k' t ns' → gq_pr (b1, b2, b3, b4, b5, b6, b7, b8) ns' = gq_del p (gq_pr (a1, a2, a3, a4, a5, a6, a7, a8) ns) →
      (∀ j, j ∈ ns' → j ∈ ns) → ns'.Nodup → ns'.length ≤ ns.length → gq_R par (fun j => j ∈ ns) t rt (a1, a2, a3, a4, a5, a6, a7, a8) rx (b1, b2, b3, b4, b5, b6, b7, b8) → (∀ e, e < d → b9 e = a9 e) →
      wX_mendPath_7 post (d + 1) (nI d + (-1)) rx fx dx fl ce sb sa en b1 b2 b3 b4 b5 b6 b7 b8 b9 a10 a11 a12 a13 a14) →
    ∃ fu, wX_drop_13 post p fu n (nI d) rt fr (nI d) fl ce sb sa en a1 a2 a3 a4 a5 a6 a7 a8 a9 a10 a11 a12 a13 a14 := by
  induction k with
  | zero =>
    intro n ns d par a9 hT hs hj hlen hd hp hq hK
    obtain ⟨j, hj, _⟩ := hj
    rw [hT.2] at hj
    exact absurd hj List.not_mem_nil
  | succ k ih =>
    intro n ns d par a9 hT hs hj hlen hd hp hq hK
    obtain ⟨j, hj, ej⟩ := hj
    rcases hT with hT | ⟨m, nl, nr, m0, m1, e, es, hl, hr, hc1⟩
    · rw [hT.2] at hj
      exact absurd hj List.not_mem_nil
    · subst e es
      have cm : (nI m).toNatClampNeg = m := nI_clamp (by omega)
      have cd : (nI d).toNatClampNeg = d := nI_clamp (by omega)
      have P : vp_in (nI m) 41 := pk_in m 41 m1
      have hN := gq_so_nd hs
      rw [gq_pr_mid] at hs
      obtain ⟨so1, so2, sl, sr⟩ := gq_so_mid hs
      obtain ⟨nd1, nd2, ml, mr, dis⟩ := gq_nd_mid hN
      have zl : (0 : Nat) ∉ nl := fun z => absurd (gq_T_mem hl 0 z).1 (by omega)
      have zr : (0 : Nat) ∉ nr := fun z => absurd (gq_T_mem hr 0 z).1 (by omega)
      rw [List.length_append, List.length_cons] at hlen
      have S9 : upd a9 (nI d).toNatClampNeg (nI m) = upd a9 d (nI m) := by rw [cd]
      have SL : ∀ y, y ∈ nl → a1 y < a1 m := fun y hy => sl (a1 y, a2 y) (List.mem_map.mpr ⟨y, hy, rfl⟩)
      have SR : ∀ y, y ∈ nr → a1 m < a1 y := fun y hy => sr (a1 y, a2 y) (List.mem_map.mpr ⟨y, hy, rfl⟩)
      have hp9 : gq_par d par (a1, a2, a3, a4, a5, a6, a7, a8) (upd a9 d (nI m)) (nI m) := gq_par_to hp (fun j _ => gq_E_refl _ j) (fun e he => by rw [pk_un (by omega)])
      have hqm : ∀ j, gq_pq par j → j ≠ m := fun j hj w => hq j hj (by rw [w]; simp)
      by_cases c0 : a1 m = p
      · have main : wX_drop_73 post (nI m) rt fr (nI d) fl ce sb sa en a1 a2 a3 a4 a5 a6 a7 a8 a9 a10 a11 a12 a13 a14 := by
          refine br_f (nI_ne0 m0 (by omega)) (And.intro (pk_in d 16 (by omega)) (nm_r S9 (nm_r (nI_1 d) (And.intro P ?_))))
          have delE := gq_del_E (x := (gq_A1 (a1, a2, a3, a4, a5, a6, a7, a8) m, gq_A2 (a1, a2, a3, a4, a5, a6, a7, a8) m)) (gq_pr (a1, a2, a3, a4, a5, a6, a7, a8) nr) c0 (gq_pr (a1, a2, a3, a4, a5, a6, a7, a8) nl) sl
          by_cases c2 : a2 m ≤ 1
          · rw [if_pos (show (gq_A1 (a1, a2, a3, a4, a5, a6, a7, a8) m, gq_A2 (a1, a2, a3, a4, a5, a6, a7, a8) m).2 ≤ 1 from c2)] at delE
            refine br_t (show a2 (nI m).toNatClampNeg ≤ 1 from by rw [cm]; exact c2) (And.intro P ?_)
            by_cases c3 : a3 m = 0
            · have enl : nl = [] := gq_T_z (by rw [← show a3 m = 0 from c3]; exact hl)
              refine br_t (show a3 (nI m).toNatClampNeg = 0 from by rw [cm]; exact c3) (gq_d162 m0 m1 (by omega) hp9 hqm (fun rx b3 b4 hR => ?_))
              rw [if_pos c3] at hR
              refine hK (a4 m) rx (nI m) (nI d) a1 a2 b3 b4 a5 a6 a7 a8 (upd a9 d (nI m)) nr k (gq_T_frame hr (fun j hj => ?_)) ?_ (fun j hj => by simp [hj]) nd2 (by rw [List.length_append, List.length_cons]; omega) (gq_R_comp (fun j z => by rw [z]; simp) (fun j _ => gq_E_refl _ j) hq hR) (fun e he => by rw [pk_un (by omega)])
              · rcases hj with z | z
                · exact gq_R_E hR (fun w => mr (by rw [← w]; exact z)) (fun w => hq j w (by simp [z]))
                · rw [z]
                  exact gq_R_E hR (show ¬ (0 = m) by omega) (gq_par_0 hp)
              · rw [gq_pr_mid, delE, enl]
                rfl
            · refine br_f (show ¬ a3 (nI m).toNatClampNeg = 0 from by rw [cm]; exact c3) (And.intro P ?_)
              by_cases c4 : a4 m = 0
              · have enr : nr = [] := gq_T_z (by rw [← show a4 m = 0 from c4]; exact hr)
                refine br_t (show a4 (nI m).toNatClampNeg = 0 from by rw [cm]; exact c4) (gq_d162 m0 m1 (by omega) hp9 hqm (fun rx b3 b4 hR => ?_))
                rw [if_neg c3] at hR
                refine hK (a3 m) rx (nI m) (nI d) a1 a2 b3 b4 a5 a6 a7 a8 (upd a9 d (nI m)) nl k (gq_T_frame hl (fun j hj => ?_)) ?_ (fun j hj => by simp [hj]) nd1 (by rw [List.length_append, List.length_cons]; omega) (gq_R_comp (fun j z => by rw [z]; simp) (fun j _ => gq_E_refl _ j) hq hR) (fun e he => by rw [pk_un (by omega)])
                · rcases hj with z | z
                  · exact gq_R_E hR (fun w => ml (by rw [← w]; exact z)) (fun w => hq j w (by simp [z]))
                  · rw [z]
                    exact gq_R_E hR (show ¬ (0 = m) by omega) (gq_par_0 hp)
                · rw [gq_pr_mid, delE, enr]
                  show gq_pr (a1, a2, a3, a4, a5, a6, a7, a8) nl = gq_pr (a1, a2, a3, a4, a5, a6, a7, a8) nl ++ []
                  rw [List.append_nil]
              · -- two children
                refine br_f (show ¬ a4 (nI m).toNatClampNeg = 0 from by rw [cm]; exact c4) ?_
                rcases gq_T_root hr with ⟨z, _⟩ | ⟨s, hs1, s0, s1, es⟩
                · exact absurd z c4
                · have es4 : a4 m = nI s := es
                  cases nr with
                  | nil => exact absurd hs1 List.not_mem_nil
                  | cons o nr1 =>
                    have o1 := gq_T_mem hr o List.mem_cons_self
                    have co : (nI o).toNatClampNeg = o := nI_clamp (by omega)
                    have om : o ≠ m := fun w => mr (by rw [w]; exact List.mem_cons_self)
                    have mr1 : m ∉ nr1 := fun w => mr (List.mem_cons_of_mem _ w)
                    rw [List.length_cons] at hlen
                    have F : ∀ j, j ≠ m → gq_E (a1, a2, a3, a4, a5, a6, a7, a8) (vp_updL a1 m (a1 o), upd a2 m (a2 o), a3, a4, a5, a6, a7, a8) j := fun j hj => ⟨pk_uLn hj, pk_un hj, rfl, rfl, rfl, rfl, rfl, rfl⟩
                    refine And.intro P (nm_r (show a4 (nI m).toNatClampNeg = nI s from by rw [cm]; exact es4) (And.intro (pk_in (d + 1) 16 (by omega)) (nm_r (show upd (upd a9 d (nI m)) (nI (d + 1)).toNatClampNeg (nI s) = upd (upd a9 d (nI m)) (d + 1) (nI s) from by rw [nI_clamp (by omega)]) (nm_r (nI_1 (d + 1)) ?_))))
                    refine gq_gn_l (post := post) (o := o) (c1 := vp_updL a1 m (a1 o)) (c2 := upd a2 m (a2 o)) (k := k) (x := 0) (d := d + 1) (s := s) (ns := nr1) (par := some (m, false)) ?_ hZ s0 s1 (by rw [← es4]; exact gq_T_frame hr (fun j hj => F j (by rcases hj with z | z; exact fun w => mr (by rw [← w]; exact z); omega))) nd2 (by rw [List.length_cons]; omega) (by omega) (by omega) pk_us ?_ ?_ ?_
                    · intro b9 dx hw
                      refine And.intro (pk_in o 41 o1.2) (And.intro P (nm_r (show vp_updL a1 (nI m).toNatClampNeg (a1 (nI o).toNatClampNeg) = vp_updL a1 m (a1 o) from by rw [cm, co]) (And.intro (pk_in o 41 o1.2) (And.intro P (nm_r (show upd a2 (nI m).toNatClampNeg (a2 (nI o).toNatClampNeg) = upd a2 m (a2 o) from by rw [cm, co]) hw)))))
                    · refine ⟨d, rfl, by rw [pk_un (by omega), pk_us], m0, m1, es4, fun _ w2 => ?_⟩
                      have w3 : a3 m = nI s := w2
                      rcases gq_T_root hl with ⟨z, _⟩ | ⟨s', hs1', s0', s1', es'⟩
                      · exact c3 z
                      · rw [show a3 m = nI s' from es'] at w3
                        have := (nI_eq (by omega) (by omega)).mp w3
                        rw [this] at hs1'
                        exact dis s hs1' hs1
                    · intro j hj
                      have hj' : m = j := hj
                      rw [← hj']
                      exact mr
                    · intro t rx fx dx b3 b4 b5 b6 b7 b8 b9 k' gT gR g9
                      obtain ⟨erx, gE, g4, gE4⟩ := gR
                      rw [pk_m1]
                      have e4m : b4 m = t := g4
                      have e3m : b3 m = a3 m := gE4.2.2.1
                      have Gl : ∀ j, j ∈ nl ∨ j = 0 → gq_E (a1, a2, a3, a4, a5, a6, a7, a8) (vp_updL a1 m (a1 o), upd a2 m (a2 o), b3, b4, b5, b6, b7, b8) j := fun j hj => by
                        rcases hj with z | z
                        · have jm : j ≠ m := fun w => ml (by rw [← w]; exact z)
                          exact gq_E_trans (F j jm) (gE j (dis j z) jm)
                        · rw [z]
                          exact gq_E_trans (F 0 (by omega)) (gE 0 zr (by omega))
                      have gE0 := Gl 0 (Or.inr rfl)
                      have sub : ∀ j, j ∈ nl ++ m :: nr1 → j ∈ nl ++ m :: o :: nr1 := fun j hj => by
                        rcases List.mem_append.mp hj with z | z
                        · simp [z]
                        · rcases List.mem_cons.mp z with z | z
                          · simp [z]
                          · simp [z]
                      have hE' : ∀ j, j ∉ nl ++ m :: o :: nr1 → gq_E (a1, a2, a3, a4, a5, a6, a7, a8) (vp_updL a1 m (a1 o), upd a2 m (a2 o), b3, b4, b5, b6, b7, b8) j := fun j hj => by
                        have jm : j ≠ m := fun w => hj (by rw [w]; simp)
                        exact gq_E_trans (F j jm) (gE j (fun w => hj (List.mem_append_right _ (List.mem_cons_of_mem _ w))) jm)
                      have hN3 : (nl ++ m :: nr1).Nodup := hN.sublist ((List.append_sublist_append_left nl).mpr ((List.sublist_cons_self o nr1).cons_cons m))
                      have h9e : ∀ e, e < d → b9 e = a9 e := fun e he => by rw [g9 e (by omega), pk_un (by omega), pk_un (by omega)]
                      refine gq_ms (k := k + k') m0 m1 (by omega) (by rw [g9 d (by omega), pk_un (by omega), pk_us]) (by rw [e3m]; exact gq_T_mono (by omega) (gq_T_frame hl Gl)) (by rw [e4m]; exact gq_T_mono (by omega) gT)
                        ⟨gE0.2.2.2.2.1.trans hZ.1, gE0.2.2.2.2.2.1.trans hZ.2.1, gE0.2.2.2.2.2.2.1.trans hZ.2.2.1, gE0.2.2.2.2.2.2.2.trans hZ.2.2.2⟩
                        hN3 (by rw [List.length_append, List.length_cons]; omega)
                        (gq_par_to hp (fun j hj => hE' j (hq j hj)) h9e) (fun j hj w => hq j hj (sub j w)) (fun t2 rx2 f3 f4 f5 f6 f7 f8 k2 hT2 hR2 => ?_)
                      refine hK t2 rx2 fx dx _ _ f3 f4 f5 f6 f7 f8 b9 (nl ++ m :: nr1) k2 hT2 ?_ sub hN3 (by simp) (gq_R_comp sub hE' hq (by rw [← erx]; exact hR2)) h9e
                      rw [gq_pr_mid, gq_pr_mid, delE]
                      rw [gq_pr_eq (H := (a1, a2, a3, a4, a5, a6, a7, a8)) (G := (vp_updL a1 m (a1 o), upd a2 m (a2 o), f3, f4, f5, f6, f7, f8)) (ns := nl) (fun j hj => ⟨(F j (fun w => ml (by rw [← w]; exact hj))).1, (F j (fun w => ml (by rw [← w]; exact hj))).2.1⟩)]
                      rw [gq_pr_eq (H := (a1, a2, a3, a4, a5, a6, a7, a8)) (G := (vp_updL a1 m (a1 o), upd a2 m (a2 o), f3, f4, f5, f6, f7, f8)) (ns := nr1) (fun j hj => ⟨(F j (fun w => mr1 (by rw [← w]; exact hj))).1, (F j (fun w => mr1 (by rw [← w]; exact hj))).2.1⟩)]
                      show gq_pr (a1, a2, a3, a4, a5, a6, a7, a8) nl ++ (vp_updL a1 m (a1 o) m, upd a2 m (a2 o) m) :: gq_pr (a1, a2, a3, a4, a5, a6, a7, a8) nr1 = gq_pr (a1, a2, a3, a4, a5, a6, a7, a8) nl ++ (a1 o, a2 o) :: gq_pr (a1, a2, a3, a4, a5, a6, a7, a8) nr1
                      rw [pk_uLs, pk_us]
          · rw [if_neg (show ¬ (gq_A1 (a1, a2, a3, a4, a5, a6, a7, a8) m, gq_A2 (a1, a2, a3, a4, a5, a6, a7, a8) m).2 ≤ 1 from c2)] at delE
            refine br_f (show ¬ a2 (nI m).toNatClampNeg ≤ 1 from by rw [cm]; exact c2) (And.intro P (And.intro P (fun x2 e2 => nm_r (nI_pred d) ⟨d + 2, ?_⟩)))
            rw [cm] at e2
            have F : ∀ j, j ≠ m → gq_E (a1, a2, a3, a4, a5, a6, a7, a8) (a1, x2, a3, a4, a5, a6, a7, a8) j := fun j hj => ⟨rfl, by show x2 j = a2 j; rw [e2, pk_un hj], rfl, rfl, rfl, rfl, rfl, rfl⟩
            refine gq_ms m0 m1 (by omega) (by rw [pk_us]) (gq_T_frame hl (fun j hj => F j (by rcases hj with z | z; exact fun w => ml (by rw [← w]; exact z); omega))) (gq_T_frame hr (fun j hj => F j (by rcases hj with z | z; exact fun w => mr (by rw [← w]; exact z); omega))) hZ hN (by rw [List.length_append, List.length_cons]; omega)
              (gq_par_to hp (fun j hj => F j (hqm j hj)) (fun e he => by rw [pk_un (by omega)])) hq (fun t rx b3 b4 b5 b6 b7 b8 k' gT gR => ?_)
            refine hK t rx fr (nI (d + 1)) a1 x2 b3 b4 b5 b6 b7 b8 (upd a9 d (nI m)) (nl ++ m :: nr) k' gT ?_ (fun j hj => hj) hN (Nat.le_refl _) (gq_R_comp (fun j z => z) (fun j hj => F j (fun w => hj (by rw [w]; simp))) hq gR) (fun e he => by rw [pk_un (by omega)])
            rw [gq_pr_mid, gq_pr_mid, delE]
            rw [gq_pr_eq (H := (a1, a2, a3, a4, a5, a6, a7, a8)) (G := (a1, x2, b3, b4, b5, b6, b7, b8)) (ns := nl) (fun j hj => ⟨rfl, (F j (fun w => ml (by rw [← w]; exact hj))).2.1⟩), gq_pr_eq (H := (a1, a2, a3, a4, a5, a6, a7, a8)) (G := (a1, x2, b3, b4, b5, b6, b7, b8)) (ns := nr) (fun j hj => ⟨rfl, (F j (fun w => mr (by rw [← w]; exact hj))).2.1⟩)]
            show gq_pr (a1, a2, a3, a4, a5, a6, a7, a8) nl ++ (a1 m, x2 m) :: gq_pr (a1, a2, a3, a4, a5, a6, a7, a8) nr = gq_pr (a1, a2, a3, a4, a5, a6, a7, a8) nl ++ (a1 m, a2 m - 1) :: gq_pr (a1, a2, a3, a4, a5, a6, a7, a8) nr
            rw [e2, pk_us]
        exact ⟨1, pk_le 16 d (fun z => absurd z (by omega)) (fun _ => br_f (nI_ne0 m0 (by omega)) (And.intro P (br_t (show a1 (nI m).toNatClampNeg = p from by rw [cm]; exact c0) main)))⟩
      · have A0 : ¬ a1 (nI m).toNatClampNeg = p := by rw [cm]; exact c0
        by_cases c : a1 m ≤ p
        · -- to the right
          have hlt : a1 m < p := Int64.lt_of_le_of_ne c c0
          have hjr : j ∈ nr := by
            rcases List.mem_append.mp hj with z | z
            · have w := SL j z
              rw [ej] at w
              exact absurd (Int64.lt_trans w hlt) Int64.lt_irrefl
            · rcases List.mem_cons.mp z with z | z
              · rw [z] at ej
                exact absurd ej c0
              · exact z
          have step := ih (n := a4 m) (ns := nr) (d := d + 1) (par := some (m, false)) (a9 := upd a9 d (nI m)) hr so2 ⟨j, hjr, ej⟩ (by omega) (by omega)
            ⟨d, rfl, pk_us, m0, m1, rfl, fun w1 w2 => by
              rcases gq_T_root hr with ⟨z, _⟩ | ⟨s, hs1, s0, s1, es⟩
              · exact w1 z
              · rcases gq_T_root hl with ⟨z, _⟩ | ⟨s', hs1', s0', s1', es'⟩
                · rw [z] at w2
                  exact w1 w2.symm
                · rw [show a4 m = nI s from es, show gq_A3 (a1, a2, a3, a4, a5, a6, a7, a8) m = nI s' from es'] at w2
                  have := (nI_eq (by omega) (by omega)).mp w2
                  rw [this] at hs1'
                  exact dis s hs1' hs1⟩
            (fun j hj => by
              have hj' : m = j := hj
              rw [← hj']
              exact mr)
            (fun t rx fx dx b1 b2 b3 b4 b5 b6 b7 b8 b9 ns' k' gT gpr gsub gnd glen gR g9 => by
              obtain ⟨erx, gE, g4, gE4⟩ := gR
              rw [pk_m1]
              have Gl : ∀ j, j ∈ nl ∨ j = 0 → gq_E (a1, a2, a3, a4, a5, a6, a7, a8) (b1, b2, b3, b4, b5, b6, b7, b8) j := fun j hj => by
                rcases hj with z | z
                · exact gE j (dis j z) (fun w => ml (by rw [← w]; exact z))
                · rw [z]; exact gE 0 zr (by omega)
              have gE0 := Gl 0 (Or.inr rfl)
              have e3m : b3 m = a3 m := gE4.2.2.1
              have e4m : b4 m = t := g4
              have prL : gq_pr (b1, b2, b3, b4, b5, b6, b7, b8) nl = gq_pr (a1, a2, a3, a4, a5, a6, a7, a8) nl := gq_pr_eq (fun j hj => ⟨(Gl j (Or.inl hj)).1, (Gl j (Or.inl hj)).2.1⟩)
              have prW : gq_pr (b1, b2, b3, b4, b5, b6, b7, b8) (nl ++ m :: ns') = gq_del p (gq_pr (a1, a2, a3, a4, a5, a6, a7, a8) (nl ++ m :: nr)) := by
                rw [gq_pr_mid, gq_pr_mid, gq_del_R (x := (gq_A1 (a1, a2, a3, a4, a5, a6, a7, a8) m, gq_A2 (a1, a2, a3, a4, a5, a6, a7, a8) m)) _ c0 c _ sl, gpr, prL]
                rw [show gq_A1 (b1, b2, b3, b4, b5, b6, b7, b8) m = gq_A1 (a1, a2, a3, a4, a5, a6, a7, a8) m from gE4.1, show gq_A2 (b1, b2, b3, b4, b5, b6, b7, b8) m = gq_A2 (a1, a2, a3, a4, a5, a6, a7, a8) m from gE4.2.1]
              have sub : ∀ j, j ∈ nl ++ m :: ns' → j ∈ nl ++ m :: nr := fun j hj => by
                rcases List.mem_append.mp hj with z | z
                · simp [z]
                · rcases List.mem_cons.mp z with z | z
                  · simp [z]
                  · simp [gsub j z]
              have hN3 : (nl ++ m :: ns').Nodup := List.nodup_append.mpr ⟨nd1, List.nodup_cons.mpr ⟨fun z => mr (gsub m z), gnd⟩, fun a ha b hb w => by
                rw [← w] at hb
                rcases List.mem_cons.mp hb with z | z
                · rw [z] at ha; exact ml ha
                · exact dis a ha (gsub a z)⟩
              have hE' : ∀ j, j ∉ nl ++ m :: nr → gq_E (a1, a2, a3, a4, a5, a6, a7, a8) (b1, b2, b3, b4, b5, b6, b7, b8) j := fun j hj => gE j (fun w => hj (by simp [w])) (fun w => hj (by rw [w]; simp))
              have h9e : ∀ e, e < d → b9 e = a9 e := fun e he => by rw [g9 e (by omega), pk_un (by omega)]
              refine gq_ms (k := k + k') m0 m1 (by omega) (by rw [g9 d (by omega), pk_us]) (by rw [e3m]; exact gq_T_mono (by omega) (gq_T_frame hl Gl)) (by rw [e4m]; exact gq_T_mono (by omega) gT)
                ⟨gE0.2.2.2.2.1.trans hZ.1, gE0.2.2.2.2.2.1.trans hZ.2.1, gE0.2.2.2.2.2.2.1.trans hZ.2.2.1, gE0.2.2.2.2.2.2.2.trans hZ.2.2.2⟩
                hN3 (by rw [List.length_append, List.length_cons]; omega)
                (gq_par_to hp (fun j hj => hE' j (hq j hj)) h9e) (fun j hj w => hq j hj (sub j w)) (fun t2 rx2 c3 c4 c5 c6 c7 c8 k2 hT2 hR2 => ?_)
              exact hK t2 rx2 fx dx b1 b2 c3 c4 c5 c6 c7 c8 b9 (nl ++ m :: ns') k2 hT2 prW sub hN3 (by rw [List.length_append, List.length_append, List.length_cons, List.length_cons]; omega) (gq_R_comp sub hE' hq (by rw [← erx]; exact hR2)) h9e)
          obtain ⟨fu, hw⟩ := step
          exact ⟨fu + 1, pk_le 16 d (fun z => absurd z (by omega)) (fun _ => br_f (nI_ne0 m0 (by omega)) (And.intro P (br_f A0 (And.intro (pk_in d 16 (by omega)) (nm_r S9 (nm_r (nI_1 d) (And.intro P (br_t (show a1 (nI m).toNatClampNeg ≤ p from by rw [cm]; exact c) (And.intro P (nm_r (show a4 (nI m).toNatClampNeg = a4 m from by rw [cm]) (nm_r (nI_1 d) hw)))))))))))⟩
        · -- to the left
          have hlt : p < a1 m := Int64.not_le.mp c
          have hjl : j ∈ nl := by
            rcases List.mem_append.mp hj with z | z
            · exact z
            · rcases List.mem_cons.mp z with z | z
              · rw [z] at ej
                exact absurd ej c0
              · have w := SR j z
                rw [ej] at w
                exact absurd (Int64.lt_trans w hlt) Int64.lt_irrefl
          have step := ih (n := a3 m) (ns := nl) (d := d + 1) (par := some (m, true)) (a9 := upd a9 d (nI m)) hl so1 ⟨j, hjl, ej⟩ (by omega) (by omega)
            ⟨d, rfl, pk_us, m0, m1, rfl⟩
            (fun j hj => by
              have hj' : m = j := hj
              rw [← hj']
              exact ml)
            (fun t rx fx dx b1 b2 b3 b4 b5 b6 b7 b8 b9 ns' k' gT gpr gsub gnd glen gR g9 => by
              obtain ⟨erx, gE, g3, gE3⟩ := gR
              rw [pk_m1]
              have Gr : ∀ j, j ∈ nr ∨ j = 0 → gq_E (a1, a2, a3, a4, a5, a6, a7, a8) (b1, b2, b3, b4, b5, b6, b7, b8) j := fun j hj => by
                rcases hj with z | z
                · exact gE j (fun w => dis j w z) (fun w => mr (by rw [← w]; exact z))
                · rw [z]; exact gE 0 zl (by omega)
              have gE0 := Gr 0 (Or.inr rfl)
              have e4m : b4 m = a4 m := gE3.2.2.1
              have e3m : b3 m = t := g3
              have prR : gq_pr (b1, b2, b3, b4, b5, b6, b7, b8) nr = gq_pr (a1, a2, a3, a4, a5, a6, a7, a8) nr := gq_pr_eq (fun j hj => ⟨(Gr j (Or.inl hj)).1, (Gr j (Or.inl hj)).2.1⟩)
              have prW : gq_pr (b1, b2, b3, b4, b5, b6, b7, b8) (ns' ++ m :: nr) = gq_del p (gq_pr (a1, a2, a3, a4, a5, a6, a7, a8) (nl ++ m :: nr)) := by
                rw [gq_pr_mid, gq_pr_mid, gq_del_L (x := (gq_A1 (a1, a2, a3, a4, a5, a6, a7, a8) m, gq_A2 (a1, a2, a3, a4, a5, a6, a7, a8) m)) _ c _ sr, gpr, prR]
                rw [show gq_A1 (b1, b2, b3, b4, b5, b6, b7, b8) m = gq_A1 (a1, a2, a3, a4, a5, a6, a7, a8) m from gE3.1, show gq_A2 (b1, b2, b3, b4, b5, b6, b7, b8) m = gq_A2 (a1, a2, a3, a4, a5, a6, a7, a8) m from gE3.2.1]
              have sub : ∀ j, j ∈ ns' ++ m :: nr → j ∈ nl ++ m :: nr := fun j hj => by
                rcases List.mem_append.mp hj with z | z
                · simp [gsub j z]
                · rcases List.mem_cons.mp z with z | z
                  · simp [z]
                  · simp [z]
              have hN3 : (ns' ++ m :: nr).Nodup := List.nodup_append.mpr ⟨gnd, List.nodup_cons.mpr ⟨mr, nd2⟩, fun a ha b hb w => by
                rw [← w] at hb
                rcases List.mem_cons.mp hb with z | z
                · rw [z] at ha; exact ml (gsub m ha)
                · exact dis a (gsub a ha) z⟩
              have hE' : ∀ j, j ∉ nl ++ m :: nr → gq_E (a1, a2, a3, a4, a5, a6, a7, a8) (b1, b2, b3, b4, b5, b6, b7, b8) j := fun j hj => gE j (fun w => hj (by simp [w])) (fun w => hj (by rw [w]; simp))
              have h9e : ∀ e, e < d → b9 e = a9 e := fun e he => by rw [g9 e (by omega), pk_un (by omega)]
              refine gq_ms (k := k + k') m0 m1 (by omega) (by rw [g9 d (by omega), pk_us]) (by rw [e3m]; exact gq_T_mono (by omega) gT) (by rw [e4m]; exact gq_T_mono (by omega) (gq_T_frame hr Gr))
                ⟨gE0.2.2.2.2.1.trans hZ.1, gE0.2.2.2.2.2.1.trans hZ.2.1, gE0.2.2.2.2.2.2.1.trans hZ.2.2.1, gE0.2.2.2.2.2.2.2.trans hZ.2.2.2⟩
                hN3 (by rw [List.length_append, List.length_cons]; omega)
                (gq_par_to hp (fun j hj => hE' j (hq j hj)) h9e) (fun j hj w => hq j hj (sub j w)) (fun t2 rx2 c3 c4 c5 c6 c7 c8 k2 hT2 hR2 => ?_)
              exact hK t2 rx2 fx dx b1 b2 c3 c4 c5 c6 c7 c8 b9 (ns' ++ m :: nr) k2 hT2 prW sub hN3 (by rw [List.length_append, List.length_append, List.length_cons]; omega) (gq_R_comp sub hE' hq (by rw [← erx]; exact hR2)) h9e)
          obtain ⟨fu, hw⟩ := step
          exact ⟨fu + 1, pk_le 16 d (fun z => absurd z (by omega)) (fun _ => br_f (nI_ne0 m0 (by omega)) (And.intro P (br_f A0 (And.intro (pk_in d 16 (by omega)) (nm_r S9 (nm_r (nI_1 d) (And.intro P (br_f (show ¬ a1 (nI m).toNatClampNeg ≤ p from by rw [cm]; exact c) (And.intro P (nm_r (show a3 (nI m).toNatClampNeg = a3 m from by rw [cm]) (nm_r (nI_1 d) hw)))))))))))⟩
/-- drop on the whole tree, of a row that is there -/
theorem gq_dr {post : St2 → Prop} {p : Int64} {rt fr dp fl ce sb sa en : Int32} {a1 : Nat → Int64} {a2 a3 a4 a5 a6 a7 a8 a9 a10 a11 a12 a13 a14 : Nat → Int32} {ns : List Nat} (hZ : gq_Z (a1, a2, a3, a4, a5, a6, a7, a8)) (hT : gq_T (a1, a2, a3, a4, a5, a6, a7, a8) ns.length rt ns) (hs : gq_so (gq_pr (a1, a2, a3, a4, a5, a6, a7, a8) ns)) (hj : ∃ j, j ∈ ns ∧ a1 j = p) (hlen : ns.length < 14)
    (h : ∀ (rx fx dx : Int32) (b1 : Nat → Int64) (b2 b3 b4 b5 b6 b7 b8 b9 : Nat → Int32) (ns' : List Nat), gq_T (b1, b2, b3, b4, b5, b6, b7, b8) ns'.length rx ns' → gq_pr (b1, b2, b3, b4, b5, b6, b7, b8) ns' = gq_del p (gq_pr (a1, a2, a3, a4, a5, a6, a7, a8) ns) →
      ns'.length ≤ ns.length → gq_Z (b1, b2, b3, b4, b5, b6, b7, b8) →
      post (rx, fx, dx, fl, ce, sb, sa, en, b1, b2, b3, b4, b5, b6, b7, b8, b9, a10, a11, a12, a13, a14)) :
    wpX_drop post (rt, fr, dp, fl, ce, sb, sa, en, a1, a2, a3, a4, a5, a6, a7, a8, a9, a10, a11, a12, a13, a14) p :=
  gq_dr_l (d := 0) (par := none) hZ hT hs hj (by omega) (by omega) rfl (fun j hj => absurd hj id)
    (fun t rx fx dx b1 b2 b3 b4 b5 b6 b7 b8 b9 ns' k' gT gpr gsub gnd glen gR g9 => br_t (by decide) (h rx fx dx b1 b2 b3 b4 b5 b6 b7 b8 b9 ns' (by rw [gR.1]; exact gq_T_tight gT) gpr glen (by
      have gE0 := gR.2 0 (fun z => absurd (gq_T_mem hT 0 z).1 (by omega))
      exact ⟨gE0.2.2.2.2.1.trans hZ.1, gE0.2.2.2.2.2.1.trans hZ.2.1, gE0.2.2.2.2.2.2.1.trans hZ.2.2.1, gE0.2.2.2.2.2.2.2.trans hZ.2.2.2⟩)))
end
section
/-! ===== describe ===== -/
/-- the tree at rt holds the rows L -/
def gq_tree (rt : Int32) (H : gq_H) (L : List (Int64 × Int32)) : Prop := ∃ ns : List Nat, gq_T H ns.length rt ns ∧ gq_pr H ns = L ∧ gq_Z H ∧ gq_so L ∧ gq_ok L ∧ ns.length ≤ 10 ∧ gq_tt L ≤ 100
theorem gq_tree_rb {post : Int32 → Prop} {p : Int64} {rt fr dp fl ce sb sa en : Int32} {a1 : Nat → Int64} {a2 a3 a4 a5 a6 a7 a8 a9 a10 a11 a12 a13 a14 : Nat → Int32} {L : List (Int64 × Int32)} (hT : gq_tree rt (a1, a2, a3, a4, a5, a6, a7, a8) L) (hp : post (gq_rw (gq_bl p L))) : wpX_rowsBelow post (rt, fr, dp, fl, ce, sb, sa, en, a1, a2, a3, a4, a5, a6, a7, a8, a9, a10, a11, a12, a13, a14) p := by
  obtain ⟨ns, h1, h2, h3, h4, h5, h6, h7⟩ := hT
  subst h2
  exact gq_rb h3 h1 h4 (by omega) hp
theorem gq_tree_kb {post : Int32 → Prop} {p : Int64} {rt fr dp fl ce sb sa en : Int32} {a1 : Nat → Int64} {a2 a3 a4 a5 a6 a7 a8 a9 a10 a11 a12 a13 a14 : Nat → Int32} {L : List (Int64 × Int32)} (hT : gq_tree rt (a1, a2, a3, a4, a5, a6, a7, a8) L) (hp : post (gq_kd (gq_bl p L))) : wpX_kindsBelow post (rt, fr, dp, fl, ce, sb, sa, en, a1, a2, a3, a4, a5, a6, a7, a8, a9, a10, a11, a12, a13, a14) p := by
  obtain ⟨ns, h1, h2, h3, h4, h5, h6, h7⟩ := hT
  subst h2
  exact gq_kb h3 h1 h4 (by omega) hp
theorem gq_tree_sb {post : Int32 → Prop} {p : Int64} {rt fr dp fl ce sb sa en : Int32} {a1 : Nat → Int64} {a2 a3 a4 a5 a6 a7 a8 a9 a10 a11 a12 a13 a14 : Nat → Int32} {L : List (Int64 × Int32)} (hT : gq_tree rt (a1, a2, a3, a4, a5, a6, a7, a8) L) (hp : post (gq_sm (gq_bl p L))) : wpX_sumBelow post (rt, fr, dp, fl, ce, sb, sa, en, a1, a2, a3, a4, a5, a6, a7, a8, a9, a10, a11, a12, a13, a14) p := by
  obtain ⟨ns, h1, h2, h3, h4, h5, h6, h7⟩ := hT
  subst h2
  exact gq_sb h3 h1 h4 (by omega) hp
theorem gq_tree_ra {post : Int64 → Prop} {x : Int32} {rt fr dp fl ce sb sa en : Int32} {a1 : Nat → Int64} {a2 a3 a4 a5 a6 a7 a8 a9 a10 a11 a12 a13 a14 : Nat → Int32} {L : List (Int64 × Int32)} (hT : gq_tree rt (a1, a2, a3, a4, a5, a6, a7, a8) L) (i : Nat) (hx : x = nI i) (hi : i < 10000) (hp : post (gq_at i L)) : wpX_rowAt post (rt, fr, dp, fl, ce, sb, sa, en, a1, a2, a3, a4, a5, a6, a7, a8, a9, a10, a11, a12, a13, a14) x := by
  obtain ⟨ns, h1, h2, h3, h4, h5, h6, h7⟩ := hT
  subst h2 hx
  exact gq_ra h3 h1 h5 (by omega) hi (by omega) hp
theorem gq_tree_to {post : Int32 → Prop} {p : Int64} {rt fr dp fl ce sb sa en : Int32} {a1 : Nat → Int64} {a2 a3 a4 a5 a6 a7 a8 a9 a10 a11 a12 a13 a14 : Nat → Int32} {L : List (Int64 × Int32)} (hT : gq_tree rt (a1, a2, a3, a4, a5, a6, a7, a8) L) (hp : post (gq_tm p L)) : wpX_timesOf post (rt, fr, dp, fl, ce, sb, sa, en, a1, a2, a3, a4, a5, a6, a7, a8, a9, a10, a11, a12, a13, a14) p := by
  obtain ⟨ns, h1, h2, h3, h4, h5, h6, h7⟩ := hT
  subst h2
  exact gq_to h1 h4 (by omega) hp
/-- the six fields of a group -/
def gq_fs (G : List (Int64 × Int32)) (f : Nat) : Int32 :=
  if G.length = 0 then 0 else
  if f = 0 then nI (gq_tt G) else if f = 1 then gq_sm G else if f = 2 then gq_val (gq_at 0 G) else if f = 3 then gq_val (gq_at (gq_tt G - 1) G) else if f = 4 then gq_kd G else gq_val (gq_at ((gq_tt G - 1) / 2) G)
/-- whether it is shown -/
def gq_sh (fl ce : Int32) (G : List (Int64 × Int32)) : Int32 := if G.length = 0 then 0 else if nI (gq_tt G) < fl then 0 else if ce < gq_kd G then 0 else 1
theorem gq_tt_pos {G : List (Int64 × Int32)} (h : gq_ok G) (hG : G.length ≠ 0) : 0 < gq_tt G := by
  cases G with
  | nil => exact absurd rfl hG
  | cons x G =>
    obtain ⟨⟨t, t0, t1, et⟩, _⟩ := gq_ok_cons h
    show 0 < x.2.toNatClampNeg + gq_tt G
    rw [et, nI_clamp (by omega)]
    omega
theorem gq_at_mid (A G B : List (Int64 × Int32)) {i : Nat} (hi : i < gq_tt G) : gq_at (gq_tt A + i) (A ++ G ++ B) = gq_at i G := by
  rw [List.append_assoc, gq_at_app, if_neg (by omega), gq_at_app, if_pos (by omega), Nat.add_sub_cancel_left]
theorem gq_de_fin {post : St2 → Prop} {rt fr dp fl ce sb en : Int32} {a1 : Nat → Int64} {a2 a3 a4 a5 a6 a7 a8 a9 a10 a11 a12 a13 a14 : Nat → Int32} {st ed : Int64} {n : Nat} {A G B : List (Int64 × Int32)} (hT : gq_tree rt (a1, a2, a3, a4, a5, a6, a7, a8) (A ++ G ++ B)) (b1 : gq_bl st (A ++ G ++ B) = A) (b2 : gq_bl ed (A ++ G ++ B) = A ++ G) (okG : gq_ok G) (tt : gq_tt A + gq_tt G ≤ 100) (hs : ∀ j, j < 6 → a11 j = 0)
    (h : ∀ b11 : Nat → Int32, (∀ f, f < 6 → b11 f = gq_fs G f) → post (rt, fr, dp, fl, ce, sb, gq_sh fl ce G, en, a1, a2, a3, a4, a5, a6, a7, a8, a9, a10, b11, a12, a13, a14)) : wX_describe_39 post st ed (nI (gq_tt A)) (nI (gq_tt G)) rt fr dp fl ce sb 0 en (n + 1) (nI 6) a1 a2 a3 a4 a5 a6 a7 a8 a9 a10 a11 a12 a13 a14 := by
  refine pk_le 6 6 (fun _ => ?_) (fun z => absurd z (by omega))
  by_cases cG : G.length = 0
  · have eG : G = [] := List.eq_nil_of_length_eq_zero cG
    refine br_t (show nI (gq_tt G) = 0 from by rw [eG]; rfl) ?_
    have hh := h a11 (fun f hf => by rw [hs f hf]; unfold gq_fs; rw [if_pos cG])
    rw [show gq_sh fl ce G = 0 from if_pos cG] at hh
    exact hh
  · have tp := gq_tt_pos okG cG
    refine br_f (nI_ne0 tp (by omega)) (fun c0 e0 => ?_)
    refine gq_tree_sb (p := ed) hT ?_
    rw [b2]
    refine gq_tree_sb (p := st) hT ?_
    rw [b1]
    refine fun c1 e1 => ?_
    rw [gq_sm_app, Int32.add_comm, Int32.add_sub_cancel] at e1
    refine gq_tree_ra hT (gq_tt A + 0) rfl (by omega) ?_
    rw [gq_at_mid A G B tp]
    refine gq_tree_ra hT (gq_tt A + (gq_tt G - 1)) (by rw [nI_add, show (1 : Int32) = nI 1 from rfl, pk_sub (by omega), show gq_tt A + gq_tt G - 1 = gq_tt A + (gq_tt G - 1) from by omega]) (by omega) ?_
    rw [gq_at_mid A G B (by omega)]
    refine And.intro (by decide) ?_
    refine gq_tree_ra hT (gq_tt A + ((gq_tt G - 1) / 2)) (by rw [show (1 : Int32) = nI 1 from rfl, pk_sub (by omega), show (2 : Int32) = nI 2 from rfl, pk_div (by omega) (by omega) (by omega), nI_add]) (by omega) ?_
    rw [gq_at_mid A G B (by omega)]
    refine fun c2 e2 => fun c3 e3 => ?_
    refine gq_tree_kb (p := ed) hT ?_
    rw [b2]
    refine gq_tree_kb (p := st) hT ?_
    rw [b1]
    refine fun c4 e4 => ?_
    rw [gq_kd_app, Int32.add_comm, Int32.add_sub_cancel] at e4
    refine fun c5 e5 => ?_
    have k4 : c5 4 = gq_kd G := by rw [e5, pk_un (by decide), e4, pk_us]
    have F : ∀ f, f < 6 → c5 f = gq_fs G f := by
      intro f hf
      unfold gq_fs
      rw [if_neg cG, e5, e4, e3, e2, e1, e0]
      clear e5 e4 e3 e2 e1 e0 k4 h
      rcases (by omega : f = 0 ∨ f = 1 ∨ f = 2 ∨ f = 3 ∨ f = 4 ∨ f = 5) with z | z | z | z | z | z
      · subst z
        rw [pk_un (by decide), pk_un (by decide), pk_un (by decide), pk_un (by decide), pk_un (by decide), pk_us, if_pos rfl]
      · subst z
        rw [pk_un (by decide), pk_un (by decide), pk_un (by decide), pk_un (by decide), pk_us, if_neg (by decide), if_pos rfl]
      · subst z
        rw [pk_un (by decide), pk_un (by decide), pk_un (by decide), pk_us, if_neg (by decide), if_neg (by decide), if_pos rfl]
        rfl
      · subst z
        rw [pk_un (by decide), pk_un (by decide), pk_us, if_neg (by decide), if_neg (by decide), if_neg (by decide), if_pos rfl]
        rfl
      · subst z
        rw [pk_un (by decide), pk_us, if_neg (by decide), if_neg (by decide), if_neg (by decide), if_neg (by decide), if_pos rfl]
      · subst z
        rw [pk_us, if_neg (by decide), if_neg (by decide), if_neg (by decide), if_neg (by decide), if_neg (by decide)]
        rfl
    have hh := h c5 F
    unfold gq_sh at hh
    rw [if_neg cG] at hh
    by_cases d1 : nI (gq_tt G) < fl
    · rw [if_pos d1] at hh
      exact br_t d1 hh
    · rw [if_neg d1] at hh
      by_cases d2 : ce < gq_kd G
      · rw [if_pos d2] at hh
        exact br_f d1 (br_t (by rw [k4]; exact d2) hh)
      · rw [if_neg d2] at hh
        exact br_f d1 (br_f (by rw [k4]; exact d2) hh)
theorem gq_de_l {post : St2 → Prop} {rt fr dp fl ce sb en : Int32} {a1 : Nat → Int64} {a2 a3 a4 a5 a6 a7 a8 a9 a10 a11 a12 a13 a14 : Nat → Int32} {st ed : Int64} {A G B : List (Int64 × Int32)} (hT : gq_tree rt (a1, a2, a3, a4, a5, a6, a7, a8) (A ++ G ++ B)) (b1 : gq_bl st (A ++ G ++ B) = A) (b2 : gq_bl ed (A ++ G ++ B) = A ++ G) (okG : gq_ok G) (tt : gq_tt A + gq_tt G ≤ 100)
    (h : ∀ b11 : Nat → Int32, (∀ f, f < 6 → b11 f = gq_fs G f) → post (rt, fr, dp, fl, ce, sb, gq_sh fl ce G, en, a1, a2, a3, a4, a5, a6, a7, a8, a9, a10, b11, a12, a13, a14)) : ∃ fu, wX_describe_39 post st ed (nI (gq_tt A)) (nI (gq_tt G)) rt fr dp fl ce sb 0 en fu 0 a1 a2 a3 a4 a5 a6 a7 a8 a9 a10 a11 a12 a13 a14 :=
  pk_loop (fun n i s => wX_describe_39 post st ed (nI (gq_tt A)) (nI (gq_tt G)) rt fr dp fl ce sb 0 en n (nI i) a1 a2 a3 a4 a5 a6 a7 a8 a9 a10 s a12 a13 a14) (fun i s => ∀ j, j < i → s j = 0) 6 0 a11 (by omega) (fun j hj => absurd hj (by omega))
    (fun n s hs => gq_de_fin hT b1 b2 okG tt hs h)
    (fun n i s hi hs hw => pk_le 6 i (fun z => absurd z (by omega)) (fun _ => And.intro (pk_in i 6 hi) (fun c e => nm_r (nI_1 i) (hw c (by
      intro j hj
      rw [nI_clamp (by omega)] at e
      by_cases w : j = i
      · rw [e, w, pk_us]
      · rw [e, pk_un w]
        exact hs j (by omega))))))
theorem gq_de_u {post : St2 → Prop} {rt fr dp fl ce sb sa en : Int32} {a1 : Nat → Int64} {a2 a3 a4 a5 a6 a7 a8 a9 a10 a11 a12 a13 a14 : Nat → Int32} {k : Int32} {st ed : Int64} (e1 : gq_pl k (-2147483648) = st) (e2 : gq_pe k = ed)
    (h : wpX_rowsBelow (fun r3 => wpX_rowsBelow (fun r4 => ∀ x : Int32, x = r4 - r3 → ∃ fu : Nat, wX_describe_39 post st ed r3 x rt fr dp fl ce sb 0 en fu 0 a1 a2 a3 a4 a5 a6 a7 a8 a9 a10 a11 a12 a13 a14) (rt, fr, dp, fl, ce, sb, sa, en, a1, a2, a3, a4, a5, a6, a7, a8, a9, a10, a11, a12, a13, a14) ed) (rt, fr, dp, fl, ce, sb, sa, en, a1, a2, a3, a4, a5, a6, a7, a8, a9, a10, a11, a12, a13, a14) st) : wpX_describe post (rt, fr, dp, fl, ce, sb, sa, en, a1, a2, a3, a4, a5, a6, a7, a8, a9, a10, a11, a12, a13, a14) k := by
  subst e1 e2
  exact h
theorem gq_de {post : St2 → Prop} {rt fr dp fl ce sb sa en : Int32} {a1 : Nat → Int64} {a2 a3 a4 a5 a6 a7 a8 a9 a10 a11 a12 a13 a14 : Nat → Int32} {kk : Nat} {A G B : List (Int64 × Int32)} (hk : kk < 8) (hT : gq_tree rt (a1, a2, a3, a4, a5, a6, a7, a8) (A ++ G ++ B)) (hA : ∀ y, y ∈ A → ¬ gq_pl (nI kk) (-2147483648) ≤ y.1) (hG : ∀ y, y ∈ G → gq_pl (nI kk) (-2147483648) ≤ y.1 ∧ ¬ gq_pe (nI kk) ≤ y.1) (hB : ∀ y, y ∈ B → gq_pe (nI kk) ≤ y.1)
    (h : ∀ b11 : Nat → Int32, (∀ f, f < 6 → b11 f = gq_fs G f) → post (rt, fr, dp, fl, ce, sb, gq_sh fl ce G, en, a1, a2, a3, a4, a5, a6, a7, a8, a9, a10, b11, a12, a13, a14)) : wpX_describe post (rt, fr, dp, fl, ce, sb, sa, en, a1, a2, a3, a4, a5, a6, a7, a8, a9, a10, a11, a12, a13, a14) (nI kk) := by
  have hse : gq_pl (nI kk) (-2147483648) ≤ gq_pe (nI kk) := by
    rw [gq_plS hk, gq_peN hk, pk_lLE (by omega) (by omega)]
    omega
  generalize e1 : gq_pl (nI kk) (-2147483648) = st at *
  generalize e2 : gq_pe (nI kk) = ed at *
  have b1 : gq_bl st (A ++ G ++ B) = A := by
    rw [List.append_assoc, gq_bl_app, gq_bl_all hA, gq_bl_none, List.append_nil]
    intro y hy
    rcases List.mem_append.mp hy with z | z
    · exact (hG y z).1
    · exact Int64.le_trans hse (hB y z)
  have b2 : gq_bl ed (A ++ G ++ B) = A ++ G := by
    rw [gq_bl_app, gq_bl_all, gq_bl_none hB, List.append_nil]
    intro y hy
    rcases List.mem_append.mp hy with z | z
    · exact fun w => hA y z (Int64.le_trans hse w)
    · exact (hG y z).2
  obtain ⟨ok, tt⟩ : gq_ok (A ++ G ++ B) ∧ gq_tt (A ++ G ++ B) ≤ 100 := by
    obtain ⟨ns, h1, h2, h3, h4, h5, h6, h7⟩ := hT
    exact ⟨h5, h7⟩
  obtain ⟨okAG, okB⟩ := gq_ok_app ok
  obtain ⟨okA, okG⟩ := gq_ok_app okAG
  rw [gq_tt_app, gq_tt_app] at tt
  have r1 : gq_rw A = nI (gq_tt A) := gq_rw_tt okA
  have r2 : gq_rw (A ++ G) = nI (gq_tt A + gq_tt G) := by rw [gq_rw_tt okAG, gq_tt_app]
  refine gq_de_u e1 e2 (gq_tree_rb hT ?_)
  rw [b1, r1]
  refine gq_tree_rb hT ?_
  rw [b2, r2]
  exact nm_r (e' := nI (gq_tt G)) (by rw [pk_sub (by omega), Nat.add_sub_cancel_left]) (gq_de_l hT b1 b2 okG (by omega) h)
end
section
/-! ===== the two groups of the law: D holds key 2, G holds key 5 ===== -/
def gq_Kk (k : Nat) (D : List (Int64 × Int32)) : Prop := ∀ y, y ∈ D → ∃ v : Int32, y.1 = gq_pl (nI k) v
def gq_gp (D G : List (Int64 × Int32)) (kk : Nat) : List (Int64 × Int32) := if kk = 2 then D else if kk = 5 then G else []
theorem gq_Kk_st {k j : Nat} {D : List (Int64 × Int32)} (h : gq_Kk k D) (hk : k < 8) (hj : j < 8) {y : Int64 × Int32} (hy : y ∈ D) : gq_pl (nI j) (-2147483648) ≤ y.1 ↔ j ≤ k := by
  obtain ⟨v, e⟩ := h y hy
  rw [e]
  exact gq_st_le hj hk v
theorem gq_Kk_en {k j : Nat} {D : List (Int64 × Int32)} (h : gq_Kk k D) (hk : k < 8) (hj : j < 8) {y : Int64 × Int32} (hy : y ∈ D) : gq_pe (nI j) ≤ y.1 ↔ j + 1 ≤ k := by
  obtain ⟨v, e⟩ := h y hy
  rw [e]
  exact gq_en_le hj hk v
theorem gq_split {D G : List (Int64 × Int32)} {kk : Nat} (hD : gq_Kk 2 D) (hG : gq_Kk 5 G) (hk : kk < 8) : ∃ A B, D ++ G = A ++ gq_gp D G kk ++ B ∧ (∀ y, y ∈ A → ¬ gq_pl (nI kk) (-2147483648) ≤ y.1) ∧ (∀ y, y ∈ gq_gp D G kk → gq_pl (nI kk) (-2147483648) ≤ y.1 ∧ ¬ gq_pe (nI kk) ≤ y.1) ∧ (∀ y, y ∈ B → gq_pe (nI kk) ≤ y.1) := by
  have dst : ∀ y, y ∈ D → (gq_pl (nI kk) (-2147483648) ≤ y.1 ↔ kk ≤ 2) := fun y hy => gq_Kk_st hD (by omega) hk hy
  have den : ∀ y, y ∈ D → (gq_pe (nI kk) ≤ y.1 ↔ kk + 1 ≤ 2) := fun y hy => gq_Kk_en hD (by omega) hk hy
  have gst : ∀ y, y ∈ G → (gq_pl (nI kk) (-2147483648) ≤ y.1 ↔ kk ≤ 5) := fun y hy => gq_Kk_st hG (by omega) hk hy
  have gen : ∀ y, y ∈ G → (gq_pe (nI kk) ≤ y.1 ↔ kk + 1 ≤ 5) := fun y hy => gq_Kk_en hG (by omega) hk hy
  generalize gq_pl (nI kk) (-2147483648) = st at *
  generalize gq_pe (nI kk) = ed at *
  unfold gq_gp
  rcases (by omega : kk < 2 ∨ kk = 2 ∨ (2 < kk ∧ kk < 5) ∨ kk = 5 ∨ 5 < kk) with z | z | z | z | z
  · rw [if_neg (by omega), if_neg (by omega)]
    refine ⟨[], D ++ G, rfl, fun y hy => absurd hy List.not_mem_nil, fun y hy => absurd hy List.not_mem_nil, fun y hy => ?_⟩
    rcases List.mem_append.mp hy with w | w
    · rw [den y w]; omega
    · rw [gen y w]; omega
  · rw [if_pos z]
    refine ⟨[], G, rfl, fun y hy => absurd hy List.not_mem_nil, fun y hy => ?_, fun y hy => ?_⟩
    · rw [dst y hy, den y hy]; omega
    · rw [gen y hy]; omega
  · rw [if_neg (by omega), if_neg (by omega)]
    refine ⟨D, G, by rw [List.append_nil], fun y hy => ?_, fun y hy => absurd hy List.not_mem_nil, fun y hy => ?_⟩
    · rw [dst y hy]; omega
    · rw [gen y hy]; omega
  · rw [if_neg (by omega), if_pos z]
    refine ⟨D, [], by rw [List.append_nil], fun y hy => ?_, fun y hy => ?_, fun y hy => absurd hy List.not_mem_nil⟩
    · rw [dst y hy]; omega
    · rw [gst y hy, gen y hy]; omega
  · rw [if_neg (by omega), if_neg (by omega)]
    refine ⟨D ++ G, [], by rw [List.append_nil, List.append_nil], fun y hy => ?_, fun y hy => absurd hy List.not_mem_nil, fun y hy => absurd hy List.not_mem_nil⟩
    rcases List.mem_append.mp hy with w | w
    · rw [dst y w]; omega
    · rw [gst y w]; omega
theorem gq_de2 {post : St2 → Prop} {rt fr dp fl ce sb sa en : Int32} {a1 : Nat → Int64} {a2 a3 a4 a5 a6 a7 a8 a9 a10 a11 a12 a13 a14 : Nat → Int32} {kk : Nat} {D G : List (Int64 × Int32)} (hk : kk < 8) (hT : gq_tree rt (a1, a2, a3, a4, a5, a6, a7, a8) (D ++ G)) (hD : gq_Kk 2 D) (hG : gq_Kk 5 G)
    (h : ∀ b11 : Nat → Int32, (∀ f, f < 6 → b11 f = gq_fs (gq_gp D G kk) f) → post (rt, fr, dp, fl, ce, sb, gq_sh fl ce (gq_gp D G kk), en, a1, a2, a3, a4, a5, a6, a7, a8, a9, a10, b11, a12, a13, a14)) : wpX_describe post (rt, fr, dp, fl, ce, sb, sa, en, a1, a2, a3, a4, a5, a6, a7, a8, a9, a10, a11, a12, a13, a14) (nI kk) := by
  obtain ⟨A, B, e, hA, hM, hB⟩ := gq_split hD hG hk
  rw [e] at hT
  exact gq_de hk hT hA hM hB h
theorem gq_sh_01 (fl ce : Int32) (G : List (Int64 × Int32)) : gq_sh fl ce G = 0 ∨ gq_sh fl ce G = 1 := by
  unfold gq_sh
  split
  · exact Or.inl rfl
  · split
    · exact Or.inl rfl
    · split
      · exact Or.inl rfl
      · exact Or.inr rfl
theorem gq_nb {post : St2 → Prop} {rt fr dp fl ce sb sa en : Int32} {a1 : Nat → Int64} {a2 a3 a4 a5 a6 a7 a8 a9 a10 a11 a12 a13 a14 : Nat → Int32} {kk : Nat} {D G : List (Int64 × Int32)} (hk : kk < 8) (hT : gq_tree rt (a1, a2, a3, a4, a5, a6, a7, a8) (D ++ G)) (hD : gq_Kk 2 D) (hG : gq_Kk 5 G)
    (h : ∀ b10 b11 : Nat → Int32, (∀ f, f < 6 → b10 f = gq_fs (gq_gp D G kk) f) → post (rt, fr, dp, fl, ce, gq_sh fl ce (gq_gp D G kk), gq_sh fl ce (gq_gp D G kk), en, a1, a2, a3, a4, a5, a6, a7, a8, a9, b10, b11, a12, a13, a14)) : wpX_noteBefore post (rt, fr, dp, fl, ce, sb, sa, en, a1, a2, a3, a4, a5, a6, a7, a8, a9, a10, a11, a12, a13, a14) (nI kk) := by
  refine gq_de2 hk hT hD hG (fun b11 h11 => ?_)
  refine And.intro ?_ (And.intro ?_ ?_)
  · rcases gq_sh_01 fl ce (gq_gp D G kk) with e | e <;> rw [e] <;> rfl
  · rcases gq_sh_01 fl ce (gq_gp D G kk) with e | e <;> rw [e] <;> rfl
  · exact pk_loop (fun n i s => wX_noteBefore_15 post rt fr dp fl ce (gq_sh fl ce (gq_gp D G kk)) (gq_sh fl ce (gq_gp D G kk)) en n (nI i) a1 a2 a3 a4 a5 a6 a7 a8 a9 s b11 a12 a13 a14) (fun i s => ∀ j, j < i → s j = b11 j) 6 0 a10 (by omega) (fun j hj => absurd hj (by omega))
      (fun n s hs => pk_le 6 6 (fun _ => h s b11 (fun f hf => by rw [hs f hf, h11 f hf])) (fun z => absurd z (by omega)))
      (fun n i s hi hs hw => pk_le 6 i (fun z => absurd z (by omega)) (fun _ => And.intro (pk_in i 6 hi) (And.intro (pk_in i 6 hi) (fun c e => nm_r (nI_1 i) (hw c (by
        intro j hj
        rw [nI_clamp (by omega)] at e
        by_cases w : j = i
        · rw [e, w, pk_us]
        · rw [e, pk_un w]
          exact hs j (by omega)))))))
/-! ===== the log: a list of (sort, key, fields) ===== -/
def gq_lg (en : Int32) (a12 a13 a14 : Nat → Int32) (es : List (Int32 × Int32 × (Nat → Int32))) : Prop :=
  en = nI es.length ∧ ∀ (i : Nat) (e : Int32 × Int32 × (Nat → Int32)), es[i]? = some e → a12 i = e.1 ∧ a13 i = e.2.1 ∧ ∀ f, f < 6 → a14 (6 * i + f) = e.2.2 f
theorem gq_lg_add {en x y : Int32} {a12 a13 a14 b14 : Nat → Int32} {F : Nat → Int32} {es : List (Int32 × Int32 × (Nat → Int32))} (h : gq_lg en a12 a13 a14 es) (h1 : ∀ f, f < 6 → b14 (6 * es.length + f) = F f) (h2 : ∀ j, j < 6 * es.length → b14 j = a14 j) :
    gq_lg (nI (es.length + 1)) (upd a12 es.length x) (upd a13 es.length y) b14 (es ++ [(x, y, F)]) := by
  refine ⟨by rw [List.length_append]; rfl, fun i e he => ?_⟩
  by_cases c : i < es.length
  · rw [List.getElem?_append_left c] at he
    obtain ⟨g1, g2, g3⟩ := h.2 i e he
    refine ⟨by rw [pk_un (by omega)]; exact g1, by rw [pk_un (by omega)]; exact g2, fun f hf => ?_⟩
    rw [h2 _ (by omega)]
    exact g3 f hf
  · rw [List.getElem?_append_right (by omega)] at he
    by_cases c2 : i = es.length
    · subst c2
      rw [Nat.sub_self] at he
      have he' : (x, y, F) = e := Option.some.inj he
      subst he'
      exact ⟨pk_us, pk_us, h1⟩
    · rw [show i - es.length = (i - es.length - 1) + 1 from by omega] at he
      exact absurd he (by simp)
theorem gq_133 {post : St2 → Prop} {rt fr dp fl ce sb sa : Int32} {a1 : Nat → Int64} {a2 a3 a4 a5 a6 a7 a8 a9 a10 a11 a12 a13 a14 : Nat → Int32} {e : Nat} (he : e < 23) (h : ∀ b14 : Nat → Int32, (∀ f, f < 6 → b14 (6 * e + f) = a11 f) → (∀ j, j < 6 * e → b14 j = a14 j) → post (rt, fr, dp, fl, ce, sb, sa, nI (e + 1), a1, a2, a3, a4, a5, a6, a7, a8, a9, a10, a11, a12, a13, b14)) : ∃ fu, wX_logChange_133 post rt fr dp fl ce sb sa (nI (e + 1)) fu 0 a1 a2 a3 a4 a5 a6 a7 a8 a9 a10 a11 a12 a13 a14 := by
  have ix : ∀ i, i < 6 → (6 * (nI (e + 1) - 1)) + nI i = nI (6 * e + i) := fun i hi => by rw [nI_pred, show (6 : Int32) = nI 6 from rfl, pk_mul, nI_add]
  exact pk_loop (fun n i s => wX_logChange_133 post rt fr dp fl ce sb sa (nI (e + 1)) n (nI i) a1 a2 a3 a4 a5 a6 a7 a8 a9 a10 a11 a12 a13 s) (fun i s => (∀ f, f < i → s (6 * e + f) = a11 f) ∧ ∀ j, j < 6 * e → s j = a14 j) 6 0 a14 (by omega) ⟨fun j hj => absurd hj (by omega), fun _ _ => rfl⟩
    (fun n s hs => pk_le 6 6 (fun _ => h s hs.1 hs.2) (fun z => absurd z (by omega)))
    (fun n i s hi hs hw => pk_le 6 i (fun z => absurd z (by omega)) (fun _ => And.intro (pk_in i 6 hi) (And.intro (by rw [ix i hi]; exact pk_in (6 * e + i) 144 (by omega)) (fun c ec => nm_r (nI_1 i) (hw c (by
      rw [ix i hi, nI_clamp (by omega), nI_clamp (by omega)] at ec
      refine ⟨fun f hf => ?_, fun j hj => ?_⟩
      · by_cases w : f = i
        · rw [ec, w, pk_us]
        · rw [ec, pk_un (by omega)]
          exact hs.1 f (by omega)
      · rw [ec, pk_un (by omega)]
        exact hs.2 j hj))))))
theorem gq_84 {post : St2 → Prop} {x1 : Int32} {rt fr dp fl ce sb sa : Int32} {a1 : Nat → Int64} {a2 a3 a4 a5 a6 a7 a8 a9 a10 a11 a12 a13 a14 : Nat → Int32} {e : Nat} (he : e < 23) (h : ∀ b14 : Nat → Int32, (∀ f, f < 6 → b14 (6 * e + f) = a10 f) → (∀ j, j < 6 * e → b14 j = a14 j) → wX_logChange_118 post x1 rt fr dp fl ce sb sa (nI (e + 1)) a1 a2 a3 a4 a5 a6 a7 a8 a9 a10 a11 a12 a13 b14) : ∃ fu, wX_logChange_84 post x1 rt fr dp fl ce sb sa (nI (e + 1)) fu 0 a1 a2 a3 a4 a5 a6 a7 a8 a9 a10 a11 a12 a13 a14 := by
  have ix : ∀ i, i < 6 → (6 * (nI (e + 1) - 1)) + nI i = nI (6 * e + i) := fun i hi => by rw [nI_pred, show (6 : Int32) = nI 6 from rfl, pk_mul, nI_add]
  exact pk_loop (fun n i s => wX_logChange_84 post x1 rt fr dp fl ce sb sa (nI (e + 1)) n (nI i) a1 a2 a3 a4 a5 a6 a7 a8 a9 a10 a11 a12 a13 s) (fun i s => (∀ f, f < i → s (6 * e + f) = a10 f) ∧ ∀ j, j < 6 * e → s j = a14 j) 6 0 a14 (by omega) ⟨fun j hj => absurd hj (by omega), fun _ _ => rfl⟩
    (fun n s hs => pk_le 6 6 (fun _ => h s hs.1 hs.2) (fun z => absurd z (by omega)))
    (fun n i s hi hs hw => pk_le 6 i (fun z => absurd z (by omega)) (fun _ => And.intro (pk_in i 6 hi) (And.intro (by rw [ix i hi]; exact pk_in (6 * e + i) 144 (by omega)) (fun c ec => nm_r (nI_1 i) (hw c (by
      rw [ix i hi, nI_clamp (by omega), nI_clamp (by omega)] at ec
      refine ⟨fun f hf => ?_, fun j hj => ?_⟩
      · by_cases w : f = i
        · rw [ec, w, pk_us]
        · rw [ec, pk_un (by omega)]
          exact hs.1 f (by omega)
      · rw [ec, pk_un (by omega)]
        exact hs.2 j hj))))))
theorem gq_118 {post : St2 → Prop} {x1 : Int32} {F : Nat → Int32} {rt fr dp fl ce sb sa en : Int32} {a1 : Nat → Int64} {a2 a3 a4 a5 a6 a7 a8 a9 a10 a11 a12 a13 a14 : Nat → Int32} {es : List (Int32 × Int32 × (Nat → Int32))} (hl : gq_lg en a12 a13 a14 es) (hn : es.length < 23) (hF : ∀ f, f < 6 → a11 f = F f)
    (h : ∀ (ex : Int32) (b12 b13 b14 : Nat → Int32), gq_lg ex b12 b13 b14 (es ++ (if sa = 0 then [] else [(2, x1, F)])) → post (rt, fr, dp, fl, ce, sb, sa, ex, a1, a2, a3, a4, a5, a6, a7, a8, a9, a10, a11, b12, b13, b14)) : wX_logChange_118 post x1 rt fr dp fl ce sb sa en a1 a2 a3 a4 a5 a6 a7 a8 a9 a10 a11 a12 a13 a14 := by
  by_cases c : sa = 0
  · rw [if_pos c, List.append_nil] at h
    exact br_t c (h en a12 a13 a14 hl)
  · rw [if_neg c] at h
    have ee := hl.1
    have ce' : (nI es.length).toNatClampNeg = es.length := nI_clamp (by omega)
    subst ee
    refine br_f c (And.intro (pk_in es.length 24 (by omega)) (fun b12 e12 => And.intro (pk_in es.length 24 (by omega)) (fun b13 e13 => nm_r (nI_1 es.length) ?_)))
    rw [ce'] at e12 e13
    subst e12 e13
    refine gq_133 (by omega) (fun b14 g1 g2 => h _ _ _ b14 (gq_lg_add hl (fun f hf => ?_) g2))
    rw [g1 f hf, hF f hf]
/-- what logChange appends -/
def gq_NW (sb sa key : Int32) (F0 F1 : Nat → Int32) (nw : List (Int32 × Int32 × (Nat → Int32))) : Prop :=
  (¬ sb = 0 ∧ ¬ sa = 0 ∧ (∀ f, f < 6 → F0 f = F1 f) ∧ nw = []) ∨
  (¬ (¬ sb = 0 ∧ ¬ sa = 0 ∧ ∀ f, f < 6 → F0 f = F1 f) ∧ nw = (if sb = 0 then [] else [(1, key, F0)]) ++ (if sa = 0 then [] else [(2, key, F1)]))
/-- the end of the comparing loop: not the same -/
theorem gq_27e {post : St2 → Prop} {x1 : Int32} {F0 F1 : Nat → Int32} {rt fr dp fl ce sb sa en : Int32} {a1 : Nat → Int64} {a2 a3 a4 a5 a6 a7 a8 a9 a10 a11 a12 a13 a14 : Nat → Int32} {es : List (Int32 × Int32 × (Nat → Int32))} (hl : gq_lg en a12 a13 a14 es) (hn : es.length < 22) (h0 : ∀ f, f < 6 → a10 f = F0 f) (h1 : ∀ f, f < 6 → a11 f = F1 f) {n : Nat}
    (h : ∀ (ex : Int32) (b12 b13 b14 : Nat → Int32), gq_lg ex b12 b13 b14 (es ++ ((if sb = 0 then [] else [(1, x1, F0)]) ++ (if sa = 0 then [] else [(2, x1, F1)]))) → post (rt, fr, dp, fl, ce, sb, sa, ex, a1, a2, a3, a4, a5, a6, a7, a8, a9, a10, a11, b12, b13, b14)) : wX_logChange_27 post x1 rt fr dp fl ce sb sa en a1 a2 a3 a4 a5 a6 a7 a8 a9 a10 a11 a12 a13 a14 (n + 1) 0 (nI 6) := by
  refine pk_le 6 6 (fun _ => br_t rfl ?_) (fun z => absurd z (by omega))
  by_cases c : sb = 0
  · rw [if_pos c, List.nil_append] at h
    exact br_t c (gq_118 hl (by omega) h1 h)
  · rw [if_neg c] at h
    have ee := hl.1
    have ce' : (nI es.length).toNatClampNeg = es.length := nI_clamp (by omega)
    subst ee
    refine br_f c (And.intro (pk_in es.length 24 (by omega)) (fun b12 e12 => And.intro (pk_in es.length 24 (by omega)) (fun b13 e13 => nm_r (nI_1 es.length) ?_)))
    rw [ce'] at e12 e13
    subst e12 e13
    refine gq_84 (by omega) (fun b14 g1 g2 => gq_118 (gq_lg_add (F := F0) hl (fun f hf => ?_) g2) (by rw [List.length_append]; show es.length + 1 < 23; omega) h1 (fun ex b12 b13 b14 hh => h ex b12 b13 b14 ?_))
    · rw [g1 f hf, h0 f hf]
    · rw [List.append_assoc] at hh
      exact hh
theorem gq_lc {post : St2 → Prop} {F0 : Nat → Int32} {rt fr dp fl ce sb sa en : Int32} {a1 : Nat → Int64} {a2 a3 a4 a5 a6 a7 a8 a9 a10 a11 a12 a13 a14 : Nat → Int32} {kk : Nat} {D G : List (Int64 × Int32)} {es : List (Int32 × Int32 × (Nat → Int32))} (hk : kk < 8) (hT : gq_tree rt (a1, a2, a3, a4, a5, a6, a7, a8) (D ++ G)) (hD : gq_Kk 2 D) (hG : gq_Kk 5 G) (hl : gq_lg en a12 a13 a14 es) (hn : es.length < 22) (h0 : ∀ f, f < 6 → a10 f = F0 f)
    (h : ∀ (ex : Int32) (b11 b12 b13 b14 : Nat → Int32) (nw : List (Int32 × Int32 × (Nat → Int32))), gq_NW sb (gq_sh fl ce (gq_gp D G kk)) (nI kk) F0 (gq_fs (gq_gp D G kk)) nw → gq_lg ex b12 b13 b14 (es ++ nw) → post (rt, fr, dp, fl, ce, sb, gq_sh fl ce (gq_gp D G kk), ex, a1, a2, a3, a4, a5, a6, a7, a8, a9, a10, b11, b12, b13, b14)) : wpX_logChange post (rt, fr, dp, fl, ce, sb, sa, en, a1, a2, a3, a4, a5, a6, a7, a8, a9, a10, a11, a12, a13, a14) (nI kk) := by
  refine gq_de2 hk hT hD hG (fun b11 h11 => ?_)
  generalize gq_sh fl ce (gq_gp D G kk) = sx at *
  generalize gq_fs (gq_gp D G kk) = F1 at *
  have Z : (¬ (¬ sb = 0 ∧ ¬ sx = 0 ∧ ∀ f, f < 6 → F0 f = F1 f)) → ∀ n, wX_logChange_27 post (nI kk) rt fr dp fl ce sb sx en a1 a2 a3 a4 a5 a6 a7 a8 a9 a10 b11 a12 a13 a14 (n + 1) 0 (nI 6) := fun hc n =>
    gq_27e hl hn h0 h11 (fun ex b12 b13 b14 hh => h ex b11 b12 b13 b14 _ (Or.inr ⟨hc, rfl⟩) hh)
  have zero : (¬ (¬ sb = 0 ∧ ¬ sx = 0 ∧ ∀ f, f < 6 → F0 f = F1 f)) → ∃ fu, wX_logChange_27 post (nI kk) rt fr dp fl ce sb sx en a1 a2 a3 a4 a5 a6 a7 a8 a9 a10 b11 a12 a13 a14 fu 0 0 := fun hc =>
    pk_loop (σ := Unit) (fun n i _ => wX_logChange_27 post (nI kk) rt fr dp fl ce sb sx en a1 a2 a3 a4 a5 a6 a7 a8 a9 a10 b11 a12 a13 a14 n 0 (nI i)) (fun _ _ => True) 6 0 () (by omega) trivial (fun n _ _ => Z hc n)
      (fun n i _ hi _ hw => pk_le 6 i (fun z => absurd z (by omega)) (fun _ => br_t rfl (nm_r (nI_1 i) (hw () trivial))))
  by_cases c1 : sb = 0
  · exact br_t c1 (zero (fun w => w.1 c1))
  · refine br_f c1 ?_
    by_cases c2 : sx = 0
    · exact br_t c2 (zero (fun w => w.2.1 c2))
    · refine br_f c2 ?_
      refine pk_loop (fun n i s => wX_logChange_27 post (nI kk) rt fr dp fl ce sb sx en a1 a2 a3 a4 a5 a6 a7 a8 a9 a10 b11 a12 a13 a14 n s (nI i)) (fun i s => (s = 1 ∧ ∀ f, f < i → F0 f = F1 f) ∨ (s = 0 ∧ ∃ f, f < 6 ∧ F0 f ≠ F1 f)) 6 0 (1 : Int32) (by omega) (Or.inl ⟨rfl, fun f hf => absurd hf (by omega)⟩) (fun n s hs => ?_) (fun n i s hi hs hw => ?_)
      · rcases hs with ⟨es1, hs⟩ | ⟨es0, f, hf, hne⟩
        · subst es1
          refine pk_le 6 6 (fun _ => br_f (by decide) (h en b11 a12 a13 a14 [] (Or.inl ⟨c1, c2, hs, rfl⟩) ?_)) (fun z => absurd z (by omega))
          rw [List.append_nil]
          exact hl
        · subst es0
          exact Z (fun w => hne (w.2.2 f hf)) n
      · rcases hs with ⟨es1, hs⟩ | ⟨es0, hf⟩
        · subst es1
          have ci : (nI i).toNatClampNeg = i := nI_clamp (by omega)
          refine pk_le 6 i (fun z => absurd z (by omega)) (fun _ => br_f (by decide) (And.intro (pk_in i 6 hi) (And.intro (pk_in i 6 hi) ?_)))
          rw [ci]
          by_cases c3 : a10 i = b11 i
          · refine br_t c3 (nm_r (nI_1 i) (hw 1 (Or.inl ⟨rfl, fun f hf => ?_⟩)))
            by_cases w : f = i
            · rw [w, ← h0 i hi, ← h11 i hi, c3]
            · exact hs f (by omega)
          · refine br_f c3 (nm_r (nI_1 i) (hw 0 (Or.inr ⟨rfl, i, hi, fun w => c3 ?_⟩)))
            rw [h0 i hi, h11 i hi, w]
        · subst es0
          exact pk_le 6 i (fun z => absurd z (by omega)) (fun _ => br_t rfl (nm_r (nI_1 i) (hw 0 (Or.inr ⟨rfl, hf⟩))))
end
section
/-! ===== the class's own methods over the picture ===== -/
theorem gq_tt_mem {L : List (Int64 × Int32)} {x : Int64 × Int32} (h : x ∈ L) : x.2.toNatClampNeg ≤ gq_tt L := by
  induction L with
  | nil => exact absurd h List.not_mem_nil
  | cons y L ih =>
    show x.2.toNatClampNeg ≤ y.2.toNatClampNeg + gq_tt L
    rcases List.mem_cons.mp h with z | z
    · rw [z]; omega
    · have := ih z; omega
theorem gq_ok_ins {p : Int64} {L : List (Int64 × Int32)} (h : gq_ok L) (ht : gq_tt L < 50) : gq_ok (gq_ins p L) ∧ gq_tt (gq_ins p L) = gq_tt L + 1 := by
  induction L with
  | nil =>
    refine ⟨fun x hx => ⟨1, by omega, by omega, ?_⟩, rfl⟩
    rw [List.mem_singleton.mp hx]
    rfl
  | cons y L ih =>
    obtain ⟨⟨t, t0, t1, et⟩, h'⟩ := gq_ok_cons h
    have ct : y.2.toNatClampNeg = t := by rw [et, nI_clamp (by omega)]
    have ht' : t + gq_tt L < 50 := by
      have : gq_tt (y :: L) = y.2.toNatClampNeg + gq_tt L := rfl
      omega
    show gq_ok (if y.1 = p then (y.1, y.2 + 1) :: L else if y.1 ≤ p then y :: gq_ins p L else (p, 1) :: y :: L) ∧ gq_tt (if y.1 = p then (y.1, y.2 + 1) :: L else if y.1 ≤ p then y :: gq_ins p L else (p, 1) :: y :: L) = y.2.toNatClampNeg + gq_tt L + 1
    by_cases c : y.1 = p
    · rw [if_pos c]
      refine ⟨fun x hx => ?_, ?_⟩
      · rcases List.mem_cons.mp hx with z | z
        · refine ⟨t + 1, by omega, by omega, ?_⟩
          rw [z]
          show y.2 + 1 = nI (t + 1)
          rw [et, nI_1]
        · exact h' x z
      · show (y.2 + 1).toNatClampNeg + gq_tt L = y.2.toNatClampNeg + gq_tt L + 1
        rw [et, nI_1, nI_clamp (by omega), nI_clamp (by omega)]
        omega
    · rw [if_neg c]
      by_cases c2 : y.1 ≤ p
      · rw [if_pos c2]
        obtain ⟨i1, i2⟩ := ih h' (by omega)
        refine ⟨fun x hx => ?_, ?_⟩
        · rcases List.mem_cons.mp hx with z | z
          · rw [z]; exact ⟨t, t0, t1, et⟩
          · exact i1 x z
        · show y.2.toNatClampNeg + gq_tt (gq_ins p L) = y.2.toNatClampNeg + gq_tt L + 1
          omega
      · rw [if_neg c2]
        refine ⟨fun x hx => ?_, ?_⟩
        · rcases List.mem_cons.mp hx with z | z
          · rw [z]; exact ⟨1, by omega, by omega, rfl⟩
          · exact h x z
        · show 1 + (y.2.toNatClampNeg + gq_tt L) = y.2.toNatClampNeg + gq_tt L + 1
          omega
/-- the tree with its free nodes f, f + 1, .. -/
def gq_pic (rt fr : Int32) (H : gq_H) (L : List (Int64 × Int32)) (f : Nat) : Prop := ∃ ns : List Nat, gq_T H ns.length rt ns ∧ gq_pr H ns = L ∧ gq_Z H ∧ gq_so L ∧ gq_ok L ∧ ns.length ≤ 10 ∧ gq_tt L ≤ 100 ∧ (∀ j, j ∈ ns → j < f) ∧ fr = nI f ∧ 0 < f ∧ ∀ j, f ≤ j → j < 40 → gq_A3 H j = nI (j + 1)
theorem gq_pic_tree {rt fr : Int32} {H : gq_H} {L : List (Int64 × Int32)} {f : Nat} (h : gq_pic rt fr H L f) : gq_tree rt H L := by
  obtain ⟨ns, h1, h2, h3, h4, h5, h6, h7, _⟩ := h
  exact ⟨ns, h1, h2, h3, h4, h5, h6, h7⟩
theorem gq_tree_root {rt : Int32} {H : gq_H} {L : List (Int64 × Int32)} (h : gq_tree rt H L) : vp_in rt 41 ∧ gq_A6 H rt.toNatClampNeg = nI (gq_tt L) := by
  obtain ⟨ns, h1, h2, h3, h4, h5, h6, h7⟩ := h
  refine ⟨gq_T_in h1, ?_⟩
  rw [← gq_rw_tt h5, ← h2]
  exact (gq_T_sum h3 h1).1
theorem gq_pic_add {post : St2 → Prop} {p : Int64} {f : Nat} {rt fr dp fl ce sb sa en : Int32} {a1 : Nat → Int64} {a2 a3 a4 a5 a6 a7 a8 a9 a10 a11 a12 a13 a14 : Nat → Int32} {L : List (Int64 × Int32)} (hP : gq_pic rt fr (a1, a2, a3, a4, a5, a6, a7, a8) L f) (hf : f < 20) (hlen : L.length < 9) (ht : gq_tt L < 40)
    (h : ∀ (rx fx dx : Int32) (b1 : Nat → Int64) (b2 b3 b4 b5 b6 b7 b8 b9 : Nat → Int32) (f' : Nat), gq_pic rx fx (b1, b2, b3, b4, b5, b6, b7, b8) (gq_ins p L) f' → f' ≤ f + 1 → post (rx, fx, dx, fl, ce, sb, sa, en, b1, b2, b3, b4, b5, b6, b7, b8, b9, a10, a11, a12, a13, a14)) : wpX_add post (rt, fr, dp, fl, ce, sb, sa, en, a1, a2, a3, a4, a5, a6, a7, a8, a9, a10, a11, a12, a13, a14) p := by
  obtain ⟨ns, h1, h2, h3, h4, h5, h6, h7, h8, h9, h10, h11⟩ := hP
  subst h2 h9
  have hl := gq_pr_len (a1, a2, a3, a4, a5, a6, a7, a8) ns
  obtain ⟨o1, o2⟩ := gq_ok_ins (p := p) h5 (by omega)
  refine gq_add h3 h10 (by omega) h1 h4 (fun z => absurd (h8 f z) (by omega)) (by omega) (fun rx fx dx b1 b2 b3 b4 b5 b6 b7 b8 b9 ns' gT gpr gfx gE => ?_)
  have hl' := gq_pr_len (b1, b2, b3, b4, b5, b6, b7, b8) ns'
  have hl2 := gq_ins_len (p := p) (L := gq_pr (a1, a2, a3, a4, a5, a6, a7, a8) ns)
  rw [gpr] at hl'
  have gE0 := gE 0 (fun z => absurd (gq_T_mem gT 0 z).1 (by omega))
  have hZ : gq_Z (b1, b2, b3, b4, b5, b6, b7, b8) := ⟨gE0.2.2.2.2.1.trans h3.1, gE0.2.2.2.2.2.1.trans h3.2.1, gE0.2.2.2.2.2.2.1.trans h3.2.2.1, gE0.2.2.2.2.2.2.2.trans h3.2.2.2⟩
  rcases gfx with ⟨w1, w2⟩ | ⟨w1, w2⟩
  · refine h rx fx dx b1 b2 b3 b4 b5 b6 b7 b8 b9 f ⟨ns', gT, gpr, hZ, gq_so_ins h4, o1, by omega, by omega, fun j hj => h8 j ((w2 j).mp hj), w1, h10, fun j hj hj2 => ?_⟩ (by omega)
    exact (gE j (fun z => absurd (h8 j ((w2 j).mp z)) (by omega))).2.2.1.trans (h11 j hj hj2)
  · have bnd : ∀ j, j ∈ ns' → j < f + 1 := fun j hj => by
      rcases (w2 j).mp hj with z | z
      · have := h8 j z; omega
      · omega
    refine h rx fx dx b1 b2 b3 b4 b5 b6 b7 b8 b9 (f + 1) ⟨ns', gT, gpr, hZ, gq_so_ins h4, o1, by omega, by omega, bnd, w1.trans (h11 f (by omega) (by omega)), by omega, fun j hj hj2 => ?_⟩ (by omega)
    exact (gE j (fun z => absurd (bnd j z) (by omega))).2.2.1.trans (h11 j (by omega) hj2)
theorem gq_pO {post : Int64 → Prop} {u : St0} {k v : Int32} (h : post (gq_pl k v)) : wpX_placeOf post u k v := h
theorem gq_in {post : Int32 → St2 → Prop} {rt fr dp fl ce sb sa en : Int32} {a1 : Nat → Int64} {a2 a3 a4 a5 a6 a7 a8 a9 a10 a11 a12 a13 a14 : Nat → Int32} {kk f : Nat} {v : Int32} {D G D' G' : List (Int64 × Int32)} {es : List (Int32 × Int32 × (Nat → Int32))} (hk : kk < 8) (hP : gq_pic rt fr (a1, a2, a3, a4, a5, a6, a7, a8) (D ++ G) f) (hf : f < 20) (hD : gq_Kk 2 D) (hG : gq_Kk 5 G) (hl : gq_lg en a12 a13 a14 es) (hn : es.length < 20) (hlen : (D ++ G).length < 9) (ht : gq_tt (D ++ G) < 40)
    (hL : gq_ins (gq_pl (nI kk) v) (D ++ G) = D' ++ G') (hD' : gq_Kk 2 D') (hG' : gq_Kk 5 G')
    (h : ∀ (rx fx dx sx sy ex : Int32) (b1 : Nat → Int64) (b2 b3 b4 b5 b6 b7 b8 b9 b10 b11 b12 b13 b14 : Nat → Int32) (f' : Nat) (nw : List (Int32 × Int32 × (Nat → Int32))), gq_pic rx fx (b1, b2, b3, b4, b5, b6, b7, b8) (D' ++ G') f' → f' ≤ f + 1 →
      gq_NW (gq_sh fl ce (gq_gp D G kk)) (gq_sh fl ce (gq_gp D' G' kk)) (nI kk) (gq_fs (gq_gp D G kk)) (gq_fs (gq_gp D' G' kk)) nw → gq_lg ex b12 b13 b14 (es ++ nw) →
      post (nI (gq_tt (D' ++ G'))) (rx, fx, dx, fl, ce, sx, sy, ex, b1, b2, b3, b4, b5, b6, b7, b8, b9, b10, b11, b12, b13, b14)) : wpX_insert post (rt, fr, dp, fl, ce, sb, sa, en, a1, a2, a3, a4, a5, a6, a7, a8, a9, a10, a11, a12, a13, a14) (nI kk) v := by
  have hT := gq_pic_tree hP
  obtain ⟨v1, v2⟩ := gq_tree_root hT
  have v3 : a6 rt.toNatClampNeg = nI (gq_tt (D ++ G)) := v2
  refine pk_lt kk 0 (fun z => absurd z (by omega)) (fun _ => pk_lt 7 kk (fun z => absurd z (by omega)) (fun _ => And.intro v1 (br_f (by rw [v3]; exact nI_ge (b := 40) ht (by decide)) (br_t (by rw [hl.1]; exact nI_le (b := 22) (by omega) (by decide)) ?_))))
  refine gq_nb hk hT hD hG (fun b10 b11 h10 => ?_)
  refine gq_pO ?_
  refine gq_pic_add (p := gq_pl (nI kk) v) hP hf hlen ht (fun rx fx dx b1 b2 b3 b4 b5 b6 b7 b8 b9 f' hP' hf' => ?_)
  rw [hL] at hP'
  obtain ⟨u1, u2⟩ := gq_tree_root (gq_pic_tree hP')
  refine gq_lc hk (gq_pic_tree hP') hD' hG' hl (by omega) h10 (fun ex b11 b12 b13 b14 nw hNW hlg => And.intro u1 ?_)
  have hh := h rx fx dx (gq_sh fl ce (gq_gp D G kk)) (gq_sh fl ce (gq_gp D' G' kk)) ex b1 b2 b3 b4 b5 b6 b7 b8 b9 b10 b11 b12 b13 b14 f' nw hP' hf' hNW hlg
  rw [← u2] at hh
  exact hh
theorem gq_now {post : Int32 → St2 → Prop} {rt fr dp fl ce sb sa en : Int32} {a1 : Nat → Int64} {a2 a3 a4 a5 a6 a7 a8 a9 a10 a11 a12 a13 a14 : Nat → Int32} {kk f : Nat} {D G : List (Int64 × Int32)} (hk : kk < 8) (hf : f < 6) (hT : gq_tree rt (a1, a2, a3, a4, a5, a6, a7, a8) (D ++ G)) (hD : gq_Kk 2 D) (hG : gq_Kk 5 G)
    (h : ∀ (sx : Int32) (b11 : Nat → Int32), post (gq_fs (gq_gp D G kk) f) (rt, fr, dp, fl, ce, sb, sx, en, a1, a2, a3, a4, a5, a6, a7, a8, a9, a10, b11, a12, a13, a14)) : wpX_now post (rt, fr, dp, fl, ce, sb, sa, en, a1, a2, a3, a4, a5, a6, a7, a8, a9, a10, a11, a12, a13, a14) (nI kk) (nI f) := by
  refine pk_lt kk 0 (fun z => absurd z (by omega)) (fun _ => pk_lt 7 kk (fun z => absurd z (by omega)) (fun _ => pk_lt f 0 (fun z => absurd z (by omega)) (fun _ => pk_le f 5 (fun _ => ?_) (fun z => absurd z (by omega)))))
  refine gq_de2 hk hT hD hG (fun b11 h11 => And.intro (pk_in f 6 hf) ?_)
  rw [nI_clamp (by omega), h11 f hf]
  exact h _ b11
theorem gq_now6 {post : Int32 → St2 → Prop} {rt fr dp fl ce sb sa en : Int32} {a1 : Nat → Int64} {a2 a3 a4 a5 a6 a7 a8 a9 a10 a11 a12 a13 a14 : Nat → Int32} (h : post 0 (rt, fr, dp, fl, ce, sb, sa, en, a1, a2, a3, a4, a5, a6, a7, a8, a9, a10, a11, a12, a13, a14)) : wpX_now post (rt, fr, dp, fl, ce, sb, sa, en, a1, a2, a3, a4, a5, a6, a7, a8, a9, a10, a11, a12, a13, a14) 5 6 :=
  pk_lt 5 0 (fun z => absurd z (by omega)) (fun _ => pk_lt 7 5 (fun z => absurd z (by omega)) (fun _ => pk_lt 6 0 (fun z => absurd z (by omega)) (fun _ => pk_le 6 5 (fun z => absurd z (by omega)) (fun _ => h))))
theorem gq_below {post : Int32 → Prop} {v : Int32} {rt fr dp fl ce sb sa en : Int32} {a1 : Nat → Int64} {a2 a3 a4 a5 a6 a7 a8 a9 a10 a11 a12 a13 a14 : Nat → Int32} {L : List (Int64 × Int32)} (hT : gq_tree rt (a1, a2, a3, a4, a5, a6, a7, a8) L) (h : post (gq_rw (gq_bl (gq_pl (nI 5) v) L) - gq_rw (gq_bl (gq_pl (nI 5) (-2147483648)) L))) : wpX_below post (rt, fr, dp, fl, ce, sb, sa, en, a1, a2, a3, a4, a5, a6, a7, a8, a9, a10, a11, a12, a13, a14) 5 v :=
  pk_lt 5 0 (fun z => absurd z (by omega)) (fun _ => pk_le 5 7 (fun _ => gq_tree_rb (p := gq_pl (nI 5) v) hT (gq_tree_rb (p := gq_pl (nI 5) (-2147483648)) hT h)) (fun z => absurd z (by omega)))
theorem gq_isE {post : Int32 → Prop} {rt fr dp fl ce sb sa en : Int32} {a1 : Nat → Int64} {a2 a3 a4 a5 a6 a7 a8 a9 a10 a11 a12 a13 a14 : Nat → Int32} {i n : Nat} (hi : i < n) (hn : n < 100) (he : en = nI n) (h : post 1) : wpX_isEntry post (rt, fr, dp, fl, ce, sb, sa, en, a1, a2, a3, a4, a5, a6, a7, a8, a9, a10, a11, a12, a13, a14) (nI i) := by
  subst he
  exact pk_lt i 0 (fun z => absurd z (by omega)) (fun _ => pk_le n i (fun z => absurd z (by omega)) (fun _ => h))
theorem gq_sort {post : Int32 → Prop} {rt fr dp fl ce sb sa en : Int32} {a1 : Nat → Int64} {a2 a3 a4 a5 a6 a7 a8 a9 a10 a11 a12 a13 a14 : Nat → Int32} {i : Nat} {es : List (Int32 × Int32 × (Nat → Int32))} {e : Int32 × Int32 × (Nat → Int32)} (hl : gq_lg en a12 a13 a14 es) (he : es[i]? = some e) (hn : es.length < 24) (h : post e.1) : wpX_sort post (rt, fr, dp, fl, ce, sb, sa, en, a1, a2, a3, a4, a5, a6, a7, a8, a9, a10, a11, a12, a13, a14) (nI i) := by
  obtain ⟨hi, _⟩ := List.getElem?_eq_some_iff.mp he
  unfold wpX_sort
  refine gq_isE hi (by omega) hl.1 ?_
  refine br_f (by decide) (And.intro (pk_in i 24 (by omega)) ?_)
  rw [nI_clamp (by omega), (hl.2 i e he).1]
  exact h
theorem gq_key {post : Int32 → Prop} {rt fr dp fl ce sb sa en : Int32} {a1 : Nat → Int64} {a2 a3 a4 a5 a6 a7 a8 a9 a10 a11 a12 a13 a14 : Nat → Int32} {i : Nat} {es : List (Int32 × Int32 × (Nat → Int32))} {e : Int32 × Int32 × (Nat → Int32)} (hl : gq_lg en a12 a13 a14 es) (he : es[i]? = some e) (hn : es.length < 24) (h : post e.2.1) : wpX_key post (rt, fr, dp, fl, ce, sb, sa, en, a1, a2, a3, a4, a5, a6, a7, a8, a9, a10, a11, a12, a13, a14) (nI i) := by
  obtain ⟨hi, _⟩ := List.getElem?_eq_some_iff.mp he
  unfold wpX_key
  refine gq_isE hi (by omega) hl.1 ?_
  refine br_f (by decide) (And.intro (pk_in i 24 (by omega)) ?_)
  rw [nI_clamp (by omega), (hl.2 i e he).2.1]
  exact h
theorem gq_field {post : Int32 → Prop} {rt fr dp fl ce sb sa en : Int32} {a1 : Nat → Int64} {a2 a3 a4 a5 a6 a7 a8 a9 a10 a11 a12 a13 a14 : Nat → Int32} {i f : Nat} {es : List (Int32 × Int32 × (Nat → Int32))} {e : Int32 × Int32 × (Nat → Int32)} (hl : gq_lg en a12 a13 a14 es) (he : es[i]? = some e) (hn : es.length < 24) (hf : f < 6) (h : post (e.2.2 f)) : wpX_field post (rt, fr, dp, fl, ce, sb, sa, en, a1, a2, a3, a4, a5, a6, a7, a8, a9, a10, a11, a12, a13, a14) (nI i) (nI f) := by
  obtain ⟨hi, _⟩ := List.getElem?_eq_some_iff.mp he
  have ix : 6 * nI i + nI f = nI (6 * i + f) := by rw [show (6 : Int32) = nI 6 from rfl, pk_mul, nI_add]
  unfold wpX_field
  refine gq_isE hi (by omega) hl.1 ?_
  refine br_f (by decide) (pk_lt f 0 (fun z => absurd z (by omega)) (fun _ => pk_lt 5 f (fun z => absurd z (by omega)) (fun _ => ?_)))
  rw [ix]
  refine And.intro (pk_in (6 * i + f) 144 (by omega)) ?_
  rw [nI_clamp (by omega), (hl.2 i e he).2.2 f hf]
  exact h
theorem gq_take {post : Int32 → St2 → Prop} {rt fr dp fl ce sb sa en : Int32} {a1 : Nat → Int64} {a2 a3 a4 a5 a6 a7 a8 a9 a10 a11 a12 a13 a14 : Nat → Int32} {c m : Nat} (hc : c < 1000) (hm : m ≤ c) (he : en = nI m) (h : post (nI m) (rt, fr, dp, fl, ce, sb, sa, 0, a1, a2, a3, a4, a5, a6, a7, a8, a9, a10, a11, a12, a13, a14)) : wpX_take post (rt, fr, dp, fl, ce, sb, sa, en, a1, a2, a3, a4, a5, a6, a7, a8, a9, a10, a11, a12, a13, a14) (nI c) := by
  subst he
  refine pk_le 0 c (fun _ => pk_le c m (fun z => ?_) (fun z => ?_)) (fun z => absurd z (by omega))
  · have e : c = m := by omega
    subst e
    exact ⟨1, pk_le c c (fun _ => nm_r (Int32.sub_self (nI c)) h) (fun z => absurd z (by omega))⟩
  · exact ⟨1, pk_le m m (fun _ => nm_r (Int32.sub_self (nI m)) h) (fun z => absurd z (by omega))⟩
theorem gq_rm {post : Int32 → St2 → Prop} {rt fr dp fl ce sb sa en : Int32} {a1 : Nat → Int64} {a2 a3 a4 a5 a6 a7 a8 a9 a10 a11 a12 a13 a14 : Nat → Int32} {kk : Nat} {v : Int32} {D G D' G' : List (Int64 × Int32)} {es : List (Int32 × Int32 × (Nat → Int32))} (hk : kk < 8) (hT : gq_tree rt (a1, a2, a3, a4, a5, a6, a7, a8) (D ++ G)) (hD : gq_Kk 2 D) (hG : gq_Kk 5 G) (hl : gq_lg en a12 a13 a14 es) (hn : es.length < 20) (ht : ¬ gq_tm (gq_pl (nI kk) v) (D ++ G) = 0)
    (hL : gq_del (gq_pl (nI kk) v) (D ++ G) = D' ++ G') (hD' : gq_Kk 2 D') (hG' : gq_Kk 5 G') (hs' : gq_so (D' ++ G')) (ho' : gq_ok (D' ++ G')) (ht' : gq_tt (D' ++ G') ≤ 100)
    (h : ∀ (rx fx dx sx sy ex : Int32) (b1 : Nat → Int64) (b2 b3 b4 b5 b6 b7 b8 b9 b10 b11 b12 b13 b14 : Nat → Int32) (nw : List (Int32 × Int32 × (Nat → Int32))),
      gq_NW (gq_sh fl ce (gq_gp D G kk)) (gq_sh fl ce (gq_gp D' G' kk)) (nI kk) (gq_fs (gq_gp D G kk)) (gq_fs (gq_gp D' G' kk)) nw → gq_lg ex b12 b13 b14 (es ++ nw) →
      post (nI (gq_tt (D' ++ G'))) (rx, fx, dx, fl, ce, sx, sy, ex, b1, b2, b3, b4, b5, b6, b7, b8, b9, b10, b11, b12, b13, b14)) : wpX_remove post (rt, fr, dp, fl, ce, sb, sa, en, a1, a2, a3, a4, a5, a6, a7, a8, a9, a10, a11, a12, a13, a14) (nI kk) v := by
  refine pk_lt kk 0 (fun z => absurd z (by omega)) (fun _ => pk_lt 7 kk (fun z => absurd z (by omega)) (fun _ => br_t (by rw [hl.1]; exact nI_le (b := 22) (by omega) (by decide)) ?_))
  refine gq_pO ?_
  refine gq_tree_to (p := gq_pl (nI kk) v) hT ?_
  refine br_f ht ?_
  refine gq_nb hk hT hD hG (fun b10 b11 h10 => ?_)
  obtain ⟨ns, h1, h2, h3, h4, h5, h6, h7⟩ := hT
  have pres : ∃ j, j ∈ ns ∧ a1 j = gq_pl (nI kk) v := by
    rw [← h2] at ht
    clear h1 h2 h3 h4 h5 h6 h7 hL
    induction ns with
    | nil => exact absurd rfl ht
    | cons m ns ih =>
      by_cases c : a1 m = gq_pl (nI kk) v
      · exact ⟨m, List.mem_cons_self, c⟩
      · have e : gq_tm (gq_pl (nI kk) v) (gq_pr (a1, a2, a3, a4, a5, a6, a7, a8) (m :: ns)) = gq_tm (gq_pl (nI kk) v) (gq_pr (a1, a2, a3, a4, a5, a6, a7, a8) ns) := if_neg c
        rw [e] at ht
        obtain ⟨j, hj, ej⟩ := ih ht
        exact ⟨j, List.mem_cons_of_mem _ hj, ej⟩
  refine gq_dr (p := gq_pl (nI kk) v) h3 h1 (by rw [h2]; exact h4) pres (by omega) (fun rx fx dx b1 b2 b3 b4 b5 b6 b7 b8 b9 ns' gT gpr glen gZ => ?_)
  rw [h2, hL] at gpr
  have hT' : gq_tree rx (b1, b2, b3, b4, b5, b6, b7, b8) (D' ++ G') := ⟨ns', gT, gpr, gZ, hs', ho', by omega, ht'⟩
  obtain ⟨u1, u2⟩ := gq_tree_root hT'
  refine gq_lc hk hT' hD' hG' hl (by omega) h10 (fun ex b11 b12 b13 b14 nw hNW hlg => And.intro u1 ?_)
  have hh := h rx fx dx (gq_sh fl ce (gq_gp D G kk)) (gq_sh fl ce (gq_gp D' G' kk)) ex b1 b2 b3 b4 b5 b6 b7 b8 b9 b10 b11 b12 b13 b14 nw hNW hlg
  rw [← u2] at hh
  exact hh
end
section
/-! ===== the constructor, and limits ===== -/
theorem gq_init {post : St2 → Prop} {mc ms : Nat} (h1 : 14 ≤ mc) (h2 : 548 ≤ ms) (h : ∀ b3 : Nat → Int32, (∀ j, 1 ≤ j → j < 40 → b3 j = nI (j + 1)) → post (0, 1, 0, 1, 40, 0, 0, 0, (fun _ => 0), (fun _ => 0), b3, (fun _ => 0), (fun _ => 0), (fun _ => 0), (fun _ => 0), (fun _ => 0), (fun _ => 0), (fun _ => 0), (fun _ => 0), (fun _ => 0), (fun _ => 0), (fun _ => 0))) : wpX_init post mc ms (0, 0, 0, 0, 0, 0, 0, 0) := by
  unfold wpX_init
  refine ⟨by omega, by omega, by omega, by omega, by omega, by omega, by omega, by omega, by omega, by omega, by omega, by omega, by omega, by omega, by omega, by omega, by omega, by omega, by omega, by omega, by omega, by omega, by omega, by omega, by omega, by omega, by omega, by omega, ?_⟩
  exact pk_loop (fun n i s => wX_init_130 post mc ms 14 548 0 0 0 1 40 0 0 0 n (nI i) (fun _ => 0) (fun _ => 0) s (fun _ => 0) (fun _ => 0) (fun _ => 0) (fun _ => 0) (fun _ => 0) (fun _ => 0) (fun _ => 0) (fun _ => 0) (fun _ => 0) (fun _ => 0) (fun _ => 0)) (fun i s => ∀ j, 1 ≤ j → j < i → j < 40 → s j = nI (j + 1)) 41 1 (fun _ => 0) (by omega) (fun j hj1 hj => absurd hj (by omega))
    (fun n s hs => pk_le 41 41 (fun _ => h s (fun j hj1 hj2 => hs j hj1 (by omega) hj2)) (fun z => absurd z (by omega)))
    (fun n i s hi hs hw => pk_le 41 i (fun z => absurd z (by omega)) (fun _ => pk_eq i 40
      (fun z => And.intro (pk_in i 41 (by omega)) (fun c e => nm_r (nI_1 i) (hw c (fun j hj1 hj2 hj3 => by
        rw [nI_clamp (by omega)] at e
        rw [e, pk_un (by omega)]
        exact hs j hj1 (by omega) hj3))))
      (fun z => And.intro (pk_in i 41 (by omega)) (fun c e => nm_r (nI_1 i) (hw c (fun j hj1 hj2 hj3 => by
        rw [nI_clamp (by omega), nI_1] at e
        by_cases w : j = i
        · rw [e, w, pk_us]
        · rw [e, pk_un w]
          exact hs j hj1 (by omega) hj3))))))
/-- what limits appends for the keys below i: retracted where shown before and not after -/
def gq_le (fo co fn cn : Int32) (D G : List (Int64 × Int32)) : Nat → List (Int32 × Int32 × (Nat → Int32))
  | 0 => []
  | i + 1 => gq_le fo co fn cn D G i ++ (if gq_sh fo co (gq_gp D G i) = 0 then [] else if gq_sh fn cn (gq_gp D G i) = 0 then [(1, nI i, gq_fs (gq_gp D G i))] else [])
theorem gq_le_len (fo co fn cn : Int32) (D G : List (Int64 × Int32)) (i : Nat) : (gq_le fo co fn cn D G i).length ≤ i := by
  induction i with
  | zero => exact Nat.le_refl 0
  | succ i ih =>
    show (gq_le fo co fn cn D G i ++ _).length ≤ i + 1
    rw [List.length_append]
    split
    · simp; omega
    · split
      · simp; omega
      · simp; omega
theorem gq_lim_l {post : Int32 → St2 → Prop} {fo co fn cn rt fr dp : Int32} {a1 : Nat → Int64} {a2 a3 a4 a5 a6 a7 a8 a9 : Nat → Int32} {D G : List (Int64 × Int32)} (hT : gq_tree rt (a1, a2, a3, a4, a5, a6, a7, a8) (D ++ G)) (hD : gq_Kk 2 D) (hG : gq_Kk 5 G)
    (hsh : ∀ kk, kk < 8 → gq_sh fo co (gq_gp D G kk) = 0 → gq_sh fn cn (gq_gp D G kk) = 0)
    (h : ∀ (sx sy ex : Int32) (b10 b11 b12 b13 b14 : Nat → Int32), gq_lg ex b12 b13 b14 (gq_le fo co fn cn D G 8) → post ex (rt, fr, dp, fn, cn, sx, sy, ex, a1, a2, a3, a4, a5, a6, a7, a8, a9, b10, b11, b12, b13, b14)) :
    ∀ (m kk : Nat) (fl ce sb sa en : Int32) (a10 a11 a12 a13 a14 : Nat → Int32), kk + m = 8 → (kk = 0 ∨ (fl = fn ∧ ce = cn)) → gq_lg en a12 a13 a14 (gq_le fo co fn cn D G kk) → wX_limits_67 post fn cn fo co (m + 1) (nI kk) rt fr dp fl ce sb sa en a1 a2 a3 a4 a5 a6 a7 a8 a9 a10 a11 a12 a13 a14 := by
  intro m
  induction m with
  | zero =>
    intro kk fl ce sb sa en a10 a11 a12 a13 a14 hk hfc hl
    have ek : kk = 8 := by omega
    subst ek
    obtain ⟨e1, e2⟩ : fl = fn ∧ ce = cn := by
      rcases hfc with z | z
      · exact absurd z (by omega)
      · exact z
    subst e1 e2
    exact pk_le 8 8 (fun _ => h sb sa en a10 a11 a12 a13 a14 hl) (fun z => absurd z (by omega))
  | succ m ih =>
    intro kk fl ce sb sa en a10 a11 a12 a13 a14 hk hfc hl
    have hlen := gq_le_len fo co fn cn D G kk
    refine pk_le 8 kk (fun z => absurd z (by omega)) (fun _ => ?_)
    refine gq_nb (by omega) hT hD hG (fun b10 b11 h10 => ?_)
    refine gq_lc (by omega) hT hD hG hl (by omega) h10 (fun ex b11 b12 b13 b14 nw hNW hlg => ?_)
    refine nm_r (nI_1 kk) (ih (kk + 1) _ _ _ _ _ _ _ _ _ _ (by omega) (Or.inr ⟨rfl, rfl⟩) ?_)
    have enw : nw = if gq_sh fo co (gq_gp D G kk) = 0 then [] else if gq_sh fn cn (gq_gp D G kk) = 0 then [(1, nI kk, gq_fs (gq_gp D G kk))] else [] := by
      rcases hNW with ⟨c1, c2, c3, c4⟩ | ⟨c1, c4⟩
      · rw [c4, if_neg c1, if_neg c2]
      · by_cases d1 : gq_sh fo co (gq_gp D G kk) = 0
        · have d2 := hsh kk (by omega) d1
          rw [c4, if_pos d1, if_pos d1, if_pos d2]
          rfl
        · by_cases d2 : gq_sh fn cn (gq_gp D G kk) = 0
          · rw [c4, if_neg d1, if_neg d1, if_pos d2, if_pos d2]
            rfl
          · exact absurd ⟨d1, d2, fun f hf => rfl⟩ c1
    rw [enw] at hlg
    exact hlg
/-- the new ceiling -/
def gq_cl (c : Int32) : Int32 := if 0 ≤ c then (if c ≤ 40 then c else 40) else 0
theorem gq_lim {post : Int32 → St2 → Prop} {c : Int32} {rt fr dp fl ce sb sa en : Int32} {a1 : Nat → Int64} {a2 a3 a4 a5 a6 a7 a8 a9 a10 a11 a12 a13 a14 : Nat → Int32} {D G : List (Int64 × Int32)} (hT : gq_tree rt (a1, a2, a3, a4, a5, a6, a7, a8) (D ++ G)) (hD : gq_Kk 2 D) (hG : gq_Kk 5 G) (he : en = 0)
    (hsh : ∀ kk, kk < 8 → gq_sh fl ce (gq_gp D G kk) = 0 → gq_sh 1 (gq_cl c) (gq_gp D G kk) = 0)
    (h : ∀ (sx sy ex : Int32) (b10 b11 b12 b13 b14 : Nat → Int32), gq_lg ex b12 b13 b14 (gq_le fl ce 1 (gq_cl c) D G 8) → post ex (rt, fr, dp, 1, gq_cl c, sx, sy, ex, a1, a2, a3, a4, a5, a6, a7, a8, a9, b10, b11, b12, b13, b14)) : wpX_limits post (rt, fr, dp, fl, ce, sb, sa, en, a1, a2, a3, a4, a5, a6, a7, a8, a9, a10, a11, a12, a13, a14) 1 c := by
  subst he
  have key : wX_limits_50 post 1 (gq_cl c) rt fr dp fl ce sb sa 0 a1 a2 a3 a4 a5 a6 a7 a8 a9 a10 a11 a12 a13 a14 := ⟨9, gq_lim_l hT hD hG hsh h 8 0 _ _ _ _ _ _ _ _ _ _ rfl (Or.inl rfl) ⟨rfl, fun i e hi => by simp [gq_le] at hi⟩⟩
  unfold gq_cl at key
  refine pk_le 0 0 (fun _ => pk_le 0 1 (fun _ => pk_le 1 40 (fun _ => ?_) (fun z => absurd z (by omega))) (fun z => absurd z (by omega))) (fun z => absurd z (by omega))
  by_cases c1 : 0 ≤ c
  · rw [if_pos c1] at key
    refine br_t c1 ?_
    by_cases c2 : c ≤ 40
    · rw [if_pos c2] at key
      exact br_t c2 key
    · rw [if_neg c2] at key
      exact br_f c2 key
  · rw [if_neg c1] at key
    exact br_f c1 key
end
section
/-! ===== the law's rows: d under key 2, a b c under key 5 ===== -/
def gq_D (d : Int32) : List (Int64 × Int32) := [(gq_pl (nI 2) d, 1)]
def gq_G1 (a : Int32) : List (Int64 × Int32) := [(gq_pl (nI 5) a, 1)]
def gq_G3 (a b : Int32) : List (Int64 × Int32) := gq_ins (gq_pl (nI 5) b) (gq_G1 a)
def gq_G4 (a b c : Int32) : List (Int64 × Int32) := gq_ins (gq_pl (nI 5) c) (gq_G3 a b)
def gq_mn (x y : Int32) : Int32 := if y ≤ x then y else x
def gq_mx (x y : Int32) : Int32 := if x ≤ y then y else x
theorem gq_Kk_D (d : Int32) : gq_Kk 2 (gq_D d) := fun y hy => ⟨d, by rw [List.mem_singleton.mp hy]⟩
theorem gq_Kk_G1 (a : Int32) : gq_Kk 5 (gq_G1 a) := fun y hy => ⟨a, by rw [List.mem_singleton.mp hy]⟩
theorem gq_Kk_nil (k : Nat) : gq_Kk k [] := fun y hy => absurd hy List.not_mem_nil
theorem gq_Kk_ins {L : List (Int64 × Int32)} (v : Int32) (h : gq_Kk 5 L) : gq_Kk 5 (gq_ins (gq_pl (nI 5) v) L) := fun y hy => by
  rcases gq_ins_mem y hy with z | z
  · exact ⟨v, z⟩
  · exact h y z
theorem gq_Kk_G3 (a b : Int32) : gq_Kk 5 (gq_G3 a b) := gq_Kk_ins b (gq_Kk_G1 a)
theorem gq_Kk_G4 (a b c : Int32) : gq_Kk 5 (gq_G4 a b c) := gq_Kk_ins c (gq_Kk_G3 a b)
theorem gq_ins_D (d v : Int32) (L : List (Int64 × Int32)) : gq_ins (gq_pl (nI 5) v) (gq_D d ++ L) = gq_D d ++ gq_ins (gq_pl (nI 5) v) L := by
  have h := gq_pl_25 d v
  show (if gq_pl (nI 2) d = gq_pl (nI 5) v then (gq_pl (nI 2) d, (1 : Int32) + 1) :: L else if gq_pl (nI 2) d ≤ gq_pl (nI 5) v then (gq_pl (nI 2) d, 1) :: gq_ins (gq_pl (nI 5) v) L else (gq_pl (nI 5) v, 1) :: (gq_pl (nI 2) d, 1) :: L) = (gq_pl (nI 2) d, 1) :: gq_ins (gq_pl (nI 5) v) L
  rw [if_neg (Int64.ne_of_lt h), if_pos (Int64.le_of_lt h)]
theorem gq_ins_2 (a d : Int32) : gq_ins (gq_pl (nI 2) d) ([] ++ gq_G1 a) = gq_D d ++ gq_G1 a := by
  have h := gq_pl_25 d a
  show (if gq_pl (nI 5) a = gq_pl (nI 2) d then [(gq_pl (nI 5) a, (1 : Int32) + 1)] else if gq_pl (nI 5) a ≤ gq_pl (nI 2) d then (gq_pl (nI 5) a, 1) :: [(gq_pl (nI 2) d, 1)] else (gq_pl (nI 2) d, 1) :: [(gq_pl (nI 5) a, 1)]) = [(gq_pl (nI 2) d, 1), (gq_pl (nI 5) a, 1)]
  rw [if_neg (fun w => Int64.ne_of_lt h w.symm), if_neg (Int64.not_le.mpr h)]
theorem gq_ok_G1 (a : Int32) : gq_ok (gq_G1 a) := fun y hy => ⟨1, by omega, by omega, by rw [List.mem_singleton.mp hy]; rfl⟩
theorem gq_ok_D {d : Int32} {L : List (Int64 × Int32)} (h : gq_ok L) : gq_ok (gq_D d ++ L) := fun y hy => by
  rcases List.mem_cons.mp (show y ∈ (gq_pl (nI 2) d, 1) :: L from hy) with z | z
  · rw [z]; exact ⟨1, by omega, by omega, rfl⟩
  · exact h y z
theorem gq_ok_G3 (a b : Int32) : gq_ok (gq_G3 a b) ∧ gq_tt (gq_G3 a b) = 2 := gq_ok_ins (gq_ok_G1 a) (show (1 : Nat) < 50 by omega)
theorem gq_ok_G4 (a b c : Int32) : gq_ok (gq_G4 a b c) ∧ gq_tt (gq_G4 a b c) = 3 := by
  obtain ⟨h1, h2⟩ := gq_ok_G3 a b
  have h := gq_ok_ins (p := gq_pl (nI 5) c) h1 (by omega)
  exact ⟨h.1, h.2.trans (by rw [h2])⟩
theorem gq_tt_D (d : Int32) (L : List (Int64 × Int32)) : gq_tt (gq_D d ++ L) = 1 + gq_tt L := rfl
theorem gq_len_ins {p : Int64} {L : List (Int64 × Int32)} : L.length ≤ (gq_ins p L).length := by
  induction L with
  | nil => exact Nat.zero_le _
  | cons x L ih =>
    show L.length + 1 ≤ (if x.1 = p then (x.1, x.2 + 1) :: L else if x.1 ≤ p then x :: gq_ins p L else (p, 1) :: x :: L).length
    split
    · simp
    · split
      · simp; omega
      · simp
theorem gq_len_G3 (a b : Int32) : 1 ≤ (gq_G3 a b).length ∧ (gq_G3 a b).length ≤ 2 := ⟨gq_len_ins (L := gq_G1 a), gq_ins_len (L := gq_G1 a)⟩
theorem gq_len_G4 (a b c : Int32) : 1 ≤ (gq_G4 a b c).length ∧ (gq_G4 a b c).length ≤ 3 := by
  obtain ⟨h1, h2⟩ := gq_len_G3 a b
  have h3 := gq_len_ins (p := gq_pl (nI 5) c) (L := gq_G3 a b)
  have h4 := gq_ins_len (p := gq_pl (nI 5) c) (L := gq_G3 a b)
  exact ⟨Nat.le_trans h1 h3, Nat.le_trans h4 (by omega)⟩
theorem gq_so_D {d : Int32} {L : List (Int64 × Int32)} (hK : gq_Kk 5 L) (h : gq_so L) : gq_so (gq_D d ++ L) :=
  List.pairwise_cons.mpr ⟨fun y hy => by
    obtain ⟨v, e⟩ := hK y hy
    rw [e]
    exact gq_pl_25 d v, h⟩
theorem gq_so_G3 (a b : Int32) : gq_so (gq_G3 a b) := gq_so_ins (List.pairwise_singleton _ _)
theorem gq_so_G4 (a b c : Int32) : gq_so (gq_G4 a b c) := gq_so_ins (gq_so_G3 a b)
theorem gq_sm_ins (p : Int64) (L : List (Int64 × Int32)) : gq_sm (gq_ins p L) = gq_sm L + gq_val p := by
  induction L with
  | nil =>
    show 1 * gq_val p + 0 = 0 + gq_val p
    rw [Int32.one_mul, Int32.add_comm]
  | cons x L ih =>
    show gq_sm (if x.1 = p then (x.1, x.2 + 1) :: L else if x.1 ≤ p then x :: gq_ins p L else (p, 1) :: x :: L) = x.2 * gq_val x.1 + gq_sm L + gq_val p
    by_cases c : x.1 = p
    · rw [if_pos c]
      show (x.2 + 1) * gq_val x.1 + gq_sm L = x.2 * gq_val x.1 + gq_sm L + gq_val p
      rw [c]
      generalize gq_val p = v
      generalize gq_sm L = s
      generalize x.2 = t
      grind
    · rw [if_neg c]
      by_cases c2 : x.1 ≤ p
      · rw [if_pos c2]
        show x.2 * gq_val x.1 + gq_sm (gq_ins p L) = x.2 * gq_val x.1 + gq_sm L + gq_val p
        rw [ih, Int32.add_assoc]
      · rw [if_neg c2]
        show 1 * gq_val p + (x.2 * gq_val x.1 + gq_sm L) = x.2 * gq_val x.1 + gq_sm L + gq_val p
        rw [Int32.one_mul, Int32.add_comm]
theorem gq_bl_ins (p q : Int64) (L : List (Int64 × Int32)) : gq_rw (gq_bl p (gq_ins q L)) = gq_rw (gq_bl p L) + (if p ≤ q then 0 else 1) := by
  have cons : ∀ (x : Int64 × Int32) (M : List (Int64 × Int32)), gq_rw (gq_bl p (x :: M)) = (if p ≤ x.1 then 0 else x.2) + gq_rw (gq_bl p M) := by
    intro x M
    by_cases c : p ≤ x.1
    · rw [show x :: M = [x] ++ M from rfl, gq_bl_app, gq_bl_none (A := [x]) (fun y hy => by rw [List.mem_singleton.mp hy]; exact c), if_pos c, Int32.zero_add]
      rfl
    · rw [show x :: M = [x] ++ M from rfl, gq_bl_app, gq_bl_all (A := [x]) (fun y hy => by rw [List.mem_singleton.mp hy]; exact c), if_neg c]
      rfl
  induction L with
  | nil =>
    show gq_rw (gq_bl p [(q, 1)]) = gq_rw (gq_bl p []) + _
    rw [cons, Int32.add_comm]
  | cons x L ih =>
    show gq_rw (gq_bl p (if x.1 = q then (x.1, x.2 + 1) :: L else if x.1 ≤ q then x :: gq_ins q L else (q, 1) :: x :: L)) = _
    rw [cons x L]
    by_cases c : x.1 = q
    · rw [if_pos c, cons]
      show (if p ≤ x.1 then 0 else x.2 + 1) + gq_rw (gq_bl p L) = _
      rw [c]
      generalize gq_rw (gq_bl p L) = s
      generalize x.2 = t
      split
      · rw [Int32.add_zero]
      · grind
    · rw [if_neg c]
      by_cases c2 : x.1 ≤ q
      · rw [if_pos c2, cons, ih, Int32.add_assoc]
      · rw [if_neg c2, cons, cons]
        show (if p ≤ q then (0 : Int32) else 1) + _ = _
        rw [Int32.add_comm]
theorem gq_tri (x y : Int32) : x < y ∨ x = y ∨ y < x := by
  rcases Int32.le_total x y with h | h
  · rcases Int32.lt_or_eq_of_le h with z | z
    · exact Or.inl z
    · exact Or.inr (Or.inl z)
  · rcases Int32.lt_or_eq_of_le h with z | z
    · exact Or.inr (Or.inr z)
    · exact Or.inr (Or.inl z.symm)
theorem gq_lt_f {x y : Int32} (h : x < y) : x ≤ y ∧ ¬ x = y ∧ ¬ y ≤ x ∧ ¬ y = x :=
  ⟨Int32.le_of_lt h, Int32.ne_of_lt h, Int32.not_le.mpr h, fun w => Int32.ne_of_lt h w.symm⟩
theorem gq_ins_c (v u t : Int32) (L : List (Int64 × Int32)) : gq_ins (gq_pl (nI 5) v) ((gq_pl (nI 5) u, t) :: L) = if u = v then (gq_pl (nI 5) u, t + 1) :: L else if u ≤ v then (gq_pl (nI 5) u, t) :: gq_ins (gq_pl (nI 5) v) L else (gq_pl (nI 5) v, 1) :: (gq_pl (nI 5) u, t) :: L := by
  show (if gq_pl (nI 5) u = gq_pl (nI 5) v then (gq_pl (nI 5) u, t + 1) :: L else if gq_pl (nI 5) u ≤ gq_pl (nI 5) v then (gq_pl (nI 5) u, t) :: gq_ins (gq_pl (nI 5) v) L else (gq_pl (nI 5) v, 1) :: (gq_pl (nI 5) u, t) :: L) = _
  simp only [gq_pl_eq (show 5 < 8 by decide), gq_pl_le (show 5 < 8 by decide)]
theorem gq_ins_n (v : Int32) : gq_ins (gq_pl (nI 5) v) [] = [(gq_pl (nI 5) v, 1)] := rfl
theorem gq_v5 (v : Int32) : gq_val (gq_pl (nI 5) v) = v := gq_val_pl (by decide) v
theorem gq_fs_0 {G : List (Int64 × Int32)} (h : G.length ≠ 0) : gq_fs G 0 = nI (gq_tt G) := by
  unfold gq_fs
  rw [if_neg h, if_pos rfl]
theorem gq_fs_1 {G : List (Int64 × Int32)} (h : G.length ≠ 0) : gq_fs G 1 = gq_sm G := by
  unfold gq_fs
  rw [if_neg h, if_neg (by decide), if_pos rfl]
theorem gq_fs_2 {G : List (Int64 × Int32)} (h : G.length ≠ 0) : gq_fs G 2 = gq_val (gq_at 0 G) := by
  unfold gq_fs
  rw [if_neg h, if_neg (by decide), if_neg (by decide), if_pos rfl]
theorem gq_fs_3 {G : List (Int64 × Int32)} (h : G.length ≠ 0) : gq_fs G 3 = gq_val (gq_at (gq_tt G - 1) G) := by
  unfold gq_fs
  rw [if_neg h, if_neg (by decide), if_neg (by decide), if_neg (by decide), if_pos rfl]
theorem gq_fs_4 {G : List (Int64 × Int32)} (h : G.length ≠ 0) : gq_fs G 4 = gq_kd G := by
  unfold gq_fs
  rw [if_neg h, if_neg (by decide), if_neg (by decide), if_neg (by decide), if_neg (by decide), if_pos rfl]
theorem gq_fs_5 {G : List (Int64 × Int32)} (h : G.length ≠ 0) : gq_fs G 5 = gq_val (gq_at ((gq_tt G - 1) / 2) G) := by
  unfold gq_fs
  rw [if_neg h, if_neg (by decide), if_neg (by decide), if_neg (by decide), if_neg (by decide), if_neg (by decide)]
theorem gq_fs_D (d : Int32) : gq_fs (gq_D d) 1 = d ∧ gq_fs (gq_D d) 5 = d := by
  have l : (gq_D d).length ≠ 0 := by
    show (1 : Nat) ≠ 0
    omega
  have t : gq_tt (gq_D d) = 1 := rfl
  refine ⟨?_, ?_⟩
  · rw [gq_fs_1 l]
    show 1 * gq_val (gq_pl (nI 2) d) + 0 = d
    rw [gq_val_pl (by decide), Int32.one_mul, Int32.add_zero]
  · rw [gq_fs_5 l, t]
    have e : gq_at ((1 - 1) / 2) (gq_D d) = gq_pl (nI 2) d := rfl
    rw [e]
    exact gq_val_pl (by decide) d
theorem gq_G3_at (a b : Int32) : gq_val (gq_at 0 (gq_G3 a b)) = gq_mn a b ∧ gq_val (gq_at 1 (gq_G3 a b)) = gq_mx a b ∧ gq_kd (gq_G3 a b) = if a = b then 1 else 2 := by
  unfold gq_G3 gq_G1 gq_mn gq_mx
  rcases gq_tri a b with h | h | h
  · obtain ⟨h1, h2, h3, h4⟩ := gq_lt_f h
    rw [gq_ins_c, if_neg h2, if_pos h1, gq_ins_n, if_neg h3, if_pos h1, if_neg h2]
    exact ⟨gq_v5 a, gq_v5 b, rfl⟩
  · subst h
    rw [gq_ins_c, if_pos rfl, if_pos rfl, ite_self]
    exact ⟨gq_v5 a, gq_v5 a, rfl⟩
  · obtain ⟨h1, h2, h3, h4⟩ := gq_lt_f h
    rw [gq_ins_c, if_neg h4, if_neg h3, if_pos h1, if_neg h3, if_neg h4]
    exact ⟨gq_v5 b, gq_v5 a, rfl⟩
end
section
/-! ===== the thirteen orders of a, b, c (printed by mk14.py) ===== -/
theorem gq_lt_tr {x y z : Int32} (h : x < y) (g : y < z) : x < z := Int32.lt_trans h g
/-- the number of different values among a, b, c, as the law adds it up -/
def gq_df (a b c : Int32) : Int32 := (1 + (if b = a then 0 else 1)) + (if c = a then 0 else if c = b then 0 else 1)
def gq_ok4 (a b c : Int32) : Prop := gq_val (gq_at 0 (gq_G4 a b c)) = gq_mn (gq_mn a b) c ∧ gq_val (gq_at 1 (gq_G4 a b c)) = gq_mx (gq_mn a b) (gq_mn (gq_mx a b) c) ∧ gq_val (gq_at 2 (gq_G4 a b c)) = gq_mx (gq_mx a b) c ∧ gq_kd (gq_G4 a b c) = gq_df a b c
theorem gq_mn_s (x : Int32) : gq_mn x x = x := ite_self _
theorem gq_mx_s (x : Int32) : gq_mx x x = x := ite_self _
theorem gq_o_abc {a : Int32}  : gq_ok4 a a a := by
  have e : gq_G4 a a a = [(gq_pl (nI 5) a, 1 + 1 + 1)] := by
    unfold gq_G4 gq_G3 gq_G1
    rw [gq_ins_c a a, if_pos rfl, gq_ins_c a a, if_pos rfl]
  have v0 : gq_mn a a = a := gq_mn_s a
  have v1 : gq_mx a a = a := gq_mx_s a
  have w : gq_df a a a = (1 + 0) + 0 := by
    unfold gq_df
    rw [if_pos rfl, if_pos rfl]
  unfold gq_ok4
  rw [e, w]
  refine ⟨?_, ?_, ?_, rfl⟩
  · have g : gq_at 0 [(gq_pl (nI 5) a, 1 + 1 + 1)] = gq_pl (nI 5) a := rfl
    rw [g, gq_v5]
    simp only [v0, v1]
  · have g : gq_at 1 [(gq_pl (nI 5) a, 1 + 1 + 1)] = gq_pl (nI 5) a := rfl
    rw [g, gq_v5]
    simp only [v0, v1]
  · have g : gq_at 2 [(gq_pl (nI 5) a, 1 + 1 + 1)] = gq_pl (nI 5) a := rfl
    rw [g, gq_v5]
    simp only [v0, v1]
theorem gq_o_ab_c {a c : Int32} (hac : a < c) : gq_ok4 a a c := by
  obtain ⟨ac1, ac2, ac3, ac4⟩ := gq_lt_f hac
  have e : gq_G4 a a c = [(gq_pl (nI 5) a, 1 + 1), (gq_pl (nI 5) c, 1)] := by
    unfold gq_G4 gq_G3 gq_G1
    rw [gq_ins_c a a, if_pos rfl, gq_ins_c c a, if_neg ac2, if_pos ac1, gq_ins_n]
  have v0 : gq_mn a a = a := gq_mn_s a
  have v1 : gq_mx a a = a := gq_mx_s a
  have v2 : gq_mn a c = a := if_neg ac3
  have v3 : gq_mx a c = c := if_pos ac1
  have w : gq_df a a c = (1 + 0) + 1 := by
    unfold gq_df
    rw [if_pos rfl, if_neg ac4, if_neg ac4]
  unfold gq_ok4
  rw [e, w]
  refine ⟨?_, ?_, ?_, rfl⟩
  · have g : gq_at 0 [(gq_pl (nI 5) a, 1 + 1), (gq_pl (nI 5) c, 1)] = gq_pl (nI 5) a := rfl
    rw [g, gq_v5]
    simp only [v0, v1, v2, v3]
  · have g : gq_at 1 [(gq_pl (nI 5) a, 1 + 1), (gq_pl (nI 5) c, 1)] = gq_pl (nI 5) a := rfl
    rw [g, gq_v5]
    simp only [v0, v1, v2, v3]
  · have g : gq_at 2 [(gq_pl (nI 5) a, 1 + 1), (gq_pl (nI 5) c, 1)] = gq_pl (nI 5) c := rfl
    rw [g, gq_v5]
    simp only [v0, v1, v2, v3]
theorem gq_o_c_ab {a c : Int32} (hca : c < a) : gq_ok4 a a c := by
  obtain ⟨ca1, ca2, ca3, ca4⟩ := gq_lt_f hca
  have e : gq_G4 a a c = [(gq_pl (nI 5) c, 1), (gq_pl (nI 5) a, 1 + 1)] := by
    unfold gq_G4 gq_G3 gq_G1
    rw [gq_ins_c a a, if_pos rfl, gq_ins_c c a, if_neg ca4, if_neg ca3]
  have v0 : gq_mn a a = a := gq_mn_s a
  have v1 : gq_mx a a = a := gq_mx_s a
  have v2 : gq_mn a c = c := if_pos ca1
  have v3 : gq_mx a c = a := if_neg ca3
  have w : gq_df a a c = (1 + 0) + 1 := by
    unfold gq_df
    rw [if_pos rfl, if_neg ca2, if_neg ca2]
  unfold gq_ok4
  rw [e, w]
  refine ⟨?_, ?_, ?_, rfl⟩
  · have g : gq_at 0 [(gq_pl (nI 5) c, 1), (gq_pl (nI 5) a, 1 + 1)] = gq_pl (nI 5) c := rfl
    rw [g, gq_v5]
    simp only [v0, v1, v2, v3]
  · have g : gq_at 1 [(gq_pl (nI 5) c, 1), (gq_pl (nI 5) a, 1 + 1)] = gq_pl (nI 5) a := rfl
    rw [g, gq_v5]
    simp only [v0, v1, v2, v3]
  · have g : gq_at 2 [(gq_pl (nI 5) c, 1), (gq_pl (nI 5) a, 1 + 1)] = gq_pl (nI 5) a := rfl
    rw [g, gq_v5]
    simp only [v0, v1, v2, v3]
theorem gq_o_ac_b {a b : Int32} (hab : a < b) : gq_ok4 a b a := by
  obtain ⟨ab1, ab2, ab3, ab4⟩ := gq_lt_f hab
  have e : gq_G4 a b a = [(gq_pl (nI 5) a, 1 + 1), (gq_pl (nI 5) b, 1)] := by
    unfold gq_G4 gq_G3 gq_G1
    rw [gq_ins_c b a, if_neg ab2, if_pos ab1, gq_ins_n, gq_ins_c a a, if_pos rfl]
  have v0 : gq_mn a b = a := if_neg ab3
  have v1 : gq_mx a b = b := if_pos ab1
  have v2 : gq_mn a a = a := gq_mn_s a
  have v3 : gq_mx b a = b := if_neg ab3
  have v4 : gq_mn b a = a := if_pos ab1
  have v5 : gq_mx a a = a := gq_mx_s a
  have w : gq_df a b a = (1 + 1) + 0 := by
    unfold gq_df
    rw [if_neg ab4, if_pos rfl]
  unfold gq_ok4
  rw [e, w]
  refine ⟨?_, ?_, ?_, rfl⟩
  · have g : gq_at 0 [(gq_pl (nI 5) a, 1 + 1), (gq_pl (nI 5) b, 1)] = gq_pl (nI 5) a := rfl
    rw [g, gq_v5]
    simp only [v0, v1, v2, v3, v4, v5]
  · have g : gq_at 1 [(gq_pl (nI 5) a, 1 + 1), (gq_pl (nI 5) b, 1)] = gq_pl (nI 5) a := rfl
    rw [g, gq_v5]
    simp only [v0, v1, v2, v3, v4, v5]
  · have g : gq_at 2 [(gq_pl (nI 5) a, 1 + 1), (gq_pl (nI 5) b, 1)] = gq_pl (nI 5) b := rfl
    rw [g, gq_v5]
    simp only [v0, v1, v2, v3, v4, v5]
theorem gq_o_b_ac {a b : Int32} (hba : b < a) : gq_ok4 a b a := by
  obtain ⟨ba1, ba2, ba3, ba4⟩ := gq_lt_f hba
  have e : gq_G4 a b a = [(gq_pl (nI 5) b, 1), (gq_pl (nI 5) a, 1 + 1)] := by
    unfold gq_G4 gq_G3 gq_G1
    rw [gq_ins_c b a, if_neg ba4, if_neg ba3, gq_ins_c a b, if_neg ba2, if_pos ba1, gq_ins_c a a, if_pos rfl]
  have v0 : gq_mn a b = b := if_pos ba1
  have v1 : gq_mx a b = a := if_neg ba3
  have v2 : gq_mn b a = b := if_neg ba3
  have v3 : gq_mx a a = a := gq_mx_s a
  have v4 : gq_mn a a = a := gq_mn_s a
  have v5 : gq_mx b a = a := if_pos ba1
  have w : gq_df a b a = (1 + 1) + 0 := by
    unfold gq_df
    rw [if_neg ba2, if_pos rfl]
  unfold gq_ok4
  rw [e, w]
  refine ⟨?_, ?_, ?_, rfl⟩
  · have g : gq_at 0 [(gq_pl (nI 5) b, 1), (gq_pl (nI 5) a, 1 + 1)] = gq_pl (nI 5) b := rfl
    rw [g, gq_v5]
    simp only [v0, v1, v2, v3, v4, v5]
  · have g : gq_at 1 [(gq_pl (nI 5) b, 1), (gq_pl (nI 5) a, 1 + 1)] = gq_pl (nI 5) a := rfl
    rw [g, gq_v5]
    simp only [v0, v1, v2, v3, v4, v5]
  · have g : gq_at 2 [(gq_pl (nI 5) b, 1), (gq_pl (nI 5) a, 1 + 1)] = gq_pl (nI 5) a := rfl
    rw [g, gq_v5]
    simp only [v0, v1, v2, v3, v4, v5]
theorem gq_o_bc_a {a b : Int32} (hba : b < a) : gq_ok4 a b b := by
  obtain ⟨ba1, ba2, ba3, ba4⟩ := gq_lt_f hba
  have e : gq_G4 a b b = [(gq_pl (nI 5) b, 1 + 1), (gq_pl (nI 5) a, 1)] := by
    unfold gq_G4 gq_G3 gq_G1
    rw [gq_ins_c b a, if_neg ba4, if_neg ba3, gq_ins_c b b, if_pos rfl]
  have v0 : gq_mn a b = b := if_pos ba1
  have v1 : gq_mx a b = a := if_neg ba3
  have v2 : gq_mn b b = b := gq_mn_s b
  have v3 : gq_mx b b = b := gq_mx_s b
  have w : gq_df a b b = (1 + 1) + 0 := by
    unfold gq_df
    rw [if_neg ba2, if_neg ba2, if_pos rfl]
  unfold gq_ok4
  rw [e, w]
  refine ⟨?_, ?_, ?_, rfl⟩
  · have g : gq_at 0 [(gq_pl (nI 5) b, 1 + 1), (gq_pl (nI 5) a, 1)] = gq_pl (nI 5) b := rfl
    rw [g, gq_v5]
    simp only [v0, v1, v2, v3]
  · have g : gq_at 1 [(gq_pl (nI 5) b, 1 + 1), (gq_pl (nI 5) a, 1)] = gq_pl (nI 5) b := rfl
    rw [g, gq_v5]
    simp only [v0, v1, v2, v3]
  · have g : gq_at 2 [(gq_pl (nI 5) b, 1 + 1), (gq_pl (nI 5) a, 1)] = gq_pl (nI 5) a := rfl
    rw [g, gq_v5]
    simp only [v0, v1, v2, v3]
theorem gq_o_a_bc {a b : Int32} (hab : a < b) : gq_ok4 a b b := by
  obtain ⟨ab1, ab2, ab3, ab4⟩ := gq_lt_f hab
  have e : gq_G4 a b b = [(gq_pl (nI 5) a, 1), (gq_pl (nI 5) b, 1 + 1)] := by
    unfold gq_G4 gq_G3 gq_G1
    rw [gq_ins_c b a, if_neg ab2, if_pos ab1, gq_ins_n, gq_ins_c b a, if_neg ab2, if_pos ab1, gq_ins_c b b, if_pos rfl]
  have v0 : gq_mn a b = a := if_neg ab3
  have v1 : gq_mx a b = b := if_pos ab1
  have v2 : gq_mx b b = b := gq_mx_s b
  have v3 : gq_mn b b = b := gq_mn_s b
  have w : gq_df a b b = (1 + 1) + 0 := by
    unfold gq_df
    rw [if_neg ab4, if_neg ab4, if_pos rfl]
  unfold gq_ok4
  rw [e, w]
  refine ⟨?_, ?_, ?_, rfl⟩
  · have g : gq_at 0 [(gq_pl (nI 5) a, 1), (gq_pl (nI 5) b, 1 + 1)] = gq_pl (nI 5) a := rfl
    rw [g, gq_v5]
    simp only [v0, v1, v2, v3]
  · have g : gq_at 1 [(gq_pl (nI 5) a, 1), (gq_pl (nI 5) b, 1 + 1)] = gq_pl (nI 5) b := rfl
    rw [g, gq_v5]
    simp only [v0, v1, v2, v3]
  · have g : gq_at 2 [(gq_pl (nI 5) a, 1), (gq_pl (nI 5) b, 1 + 1)] = gq_pl (nI 5) b := rfl
    rw [g, gq_v5]
    simp only [v0, v1, v2, v3]
theorem gq_o_a_b_c {a b c : Int32} (hab : a < b) (hac : a < c) (hbc : b < c) : gq_ok4 a b c := by
  obtain ⟨ab1, ab2, ab3, ab4⟩ := gq_lt_f hab
  obtain ⟨ac1, ac2, ac3, ac4⟩ := gq_lt_f hac
  obtain ⟨bc1, bc2, bc3, bc4⟩ := gq_lt_f hbc
  have e : gq_G4 a b c = [(gq_pl (nI 5) a, 1), (gq_pl (nI 5) b, 1), (gq_pl (nI 5) c, 1)] := by
    unfold gq_G4 gq_G3 gq_G1
    rw [gq_ins_c b a, if_neg ab2, if_pos ab1, gq_ins_n, gq_ins_c c a, if_neg ac2, if_pos ac1, gq_ins_c c b, if_neg bc2, if_pos bc1, gq_ins_n]
  have v0 : gq_mn a b = a := if_neg ab3
  have v1 : gq_mx a b = b := if_pos ab1
  have v2 : gq_mn a c = a := if_neg ac3
  have v3 : gq_mx b c = c := if_pos bc1
  have v4 : gq_mn b c = b := if_neg bc3
  have w : gq_df a b c = (1 + 1) + 1 := by
    unfold gq_df
    rw [if_neg ab4, if_neg ac4, if_neg bc4]
  unfold gq_ok4
  rw [e, w]
  refine ⟨?_, ?_, ?_, rfl⟩
  · have g : gq_at 0 [(gq_pl (nI 5) a, 1), (gq_pl (nI 5) b, 1), (gq_pl (nI 5) c, 1)] = gq_pl (nI 5) a := rfl
    rw [g, gq_v5]
    simp only [v0, v1, v2, v3, v4]
  · have g : gq_at 1 [(gq_pl (nI 5) a, 1), (gq_pl (nI 5) b, 1), (gq_pl (nI 5) c, 1)] = gq_pl (nI 5) b := rfl
    rw [g, gq_v5]
    simp only [v0, v1, v2, v3, v4]
  · have g : gq_at 2 [(gq_pl (nI 5) a, 1), (gq_pl (nI 5) b, 1), (gq_pl (nI 5) c, 1)] = gq_pl (nI 5) c := rfl
    rw [g, gq_v5]
    simp only [v0, v1, v2, v3, v4]
theorem gq_o_a_c_b {a b c : Int32} (hac : a < c) (hab : a < b) (hcb : c < b) : gq_ok4 a b c := by
  obtain ⟨ac1, ac2, ac3, ac4⟩ := gq_lt_f hac
  obtain ⟨ab1, ab2, ab3, ab4⟩ := gq_lt_f hab
  obtain ⟨cb1, cb2, cb3, cb4⟩ := gq_lt_f hcb
  have e : gq_G4 a b c = [(gq_pl (nI 5) a, 1), (gq_pl (nI 5) c, 1), (gq_pl (nI 5) b, 1)] := by
    unfold gq_G4 gq_G3 gq_G1
    rw [gq_ins_c b a, if_neg ab2, if_pos ab1, gq_ins_n, gq_ins_c c a, if_neg ac2, if_pos ac1, gq_ins_c c b, if_neg cb4, if_neg cb3]
  have v0 : gq_mn a b = a := if_neg ab3
  have v1 : gq_mx a b = b := if_pos ab1
  have v2 : gq_mn a c = a := if_neg ac3
  have v3 : gq_mx b c = b := if_neg cb3
  have v4 : gq_mn b c = c := if_pos cb1
  have v5 : gq_mx a c = c := if_pos ac1
  have w : gq_df a b c = (1 + 1) + 1 := by
    unfold gq_df
    rw [if_neg ab4, if_neg ac4, if_neg cb2]
  unfold gq_ok4
  rw [e, w]
  refine ⟨?_, ?_, ?_, rfl⟩
  · have g : gq_at 0 [(gq_pl (nI 5) a, 1), (gq_pl (nI 5) c, 1), (gq_pl (nI 5) b, 1)] = gq_pl (nI 5) a := rfl
    rw [g, gq_v5]
    simp only [v0, v1, v2, v3, v4, v5]
  · have g : gq_at 1 [(gq_pl (nI 5) a, 1), (gq_pl (nI 5) c, 1), (gq_pl (nI 5) b, 1)] = gq_pl (nI 5) c := rfl
    rw [g, gq_v5]
    simp only [v0, v1, v2, v3, v4, v5]
  · have g : gq_at 2 [(gq_pl (nI 5) a, 1), (gq_pl (nI 5) c, 1), (gq_pl (nI 5) b, 1)] = gq_pl (nI 5) b := rfl
    rw [g, gq_v5]
    simp only [v0, v1, v2, v3, v4, v5]
theorem gq_o_b_a_c {a b c : Int32} (hba : b < a) (hbc : b < c) (hac : a < c) : gq_ok4 a b c := by
  obtain ⟨ba1, ba2, ba3, ba4⟩ := gq_lt_f hba
  obtain ⟨bc1, bc2, bc3, bc4⟩ := gq_lt_f hbc
  obtain ⟨ac1, ac2, ac3, ac4⟩ := gq_lt_f hac
  have e : gq_G4 a b c = [(gq_pl (nI 5) b, 1), (gq_pl (nI 5) a, 1), (gq_pl (nI 5) c, 1)] := by
    unfold gq_G4 gq_G3 gq_G1
    rw [gq_ins_c b a, if_neg ba4, if_neg ba3, gq_ins_c c b, if_neg bc2, if_pos bc1, gq_ins_c c a, if_neg ac2, if_pos ac1, gq_ins_n]
  have v0 : gq_mn a b = b := if_pos ba1
  have v1 : gq_mx a b = a := if_neg ba3
  have v2 : gq_mn b c = b := if_neg bc3
  have v3 : gq_mx a c = c := if_pos ac1
  have v4 : gq_mn a c = a := if_neg ac3
  have v5 : gq_mx b a = a := if_pos ba1
  have w : gq_df a b c = (1 + 1) + 1 := by
    unfold gq_df
    rw [if_neg ba2, if_neg ac4, if_neg bc4]
  unfold gq_ok4
  rw [e, w]
  refine ⟨?_, ?_, ?_, rfl⟩
  · have g : gq_at 0 [(gq_pl (nI 5) b, 1), (gq_pl (nI 5) a, 1), (gq_pl (nI 5) c, 1)] = gq_pl (nI 5) b := rfl
    rw [g, gq_v5]
    simp only [v0, v1, v2, v3, v4, v5]
  · have g : gq_at 1 [(gq_pl (nI 5) b, 1), (gq_pl (nI 5) a, 1), (gq_pl (nI 5) c, 1)] = gq_pl (nI 5) a := rfl
    rw [g, gq_v5]
    simp only [v0, v1, v2, v3, v4, v5]
  · have g : gq_at 2 [(gq_pl (nI 5) b, 1), (gq_pl (nI 5) a, 1), (gq_pl (nI 5) c, 1)] = gq_pl (nI 5) c := rfl
    rw [g, gq_v5]
    simp only [v0, v1, v2, v3, v4, v5]
theorem gq_o_b_c_a {a b c : Int32} (hbc : b < c) (hba : b < a) (hca : c < a) : gq_ok4 a b c := by
  obtain ⟨bc1, bc2, bc3, bc4⟩ := gq_lt_f hbc
  obtain ⟨ba1, ba2, ba3, ba4⟩ := gq_lt_f hba
  obtain ⟨ca1, ca2, ca3, ca4⟩ := gq_lt_f hca
  have e : gq_G4 a b c = [(gq_pl (nI 5) b, 1), (gq_pl (nI 5) c, 1), (gq_pl (nI 5) a, 1)] := by
    unfold gq_G4 gq_G3 gq_G1
    rw [gq_ins_c b a, if_neg ba4, if_neg ba3, gq_ins_c c b, if_neg bc2, if_pos bc1, gq_ins_c c a, if_neg ca4, if_neg ca3]
  have v0 : gq_mn a b = b := if_pos ba1
  have v1 : gq_mx a b = a := if_neg ba3
  have v2 : gq_mn b c = b := if_neg bc3
  have v3 : gq_mx a c = a := if_neg ca3
  have v4 : gq_mn a c = c := if_pos ca1
  have v5 : gq_mx b c = c := if_pos bc1
  have w : gq_df a b c = (1 + 1) + 1 := by
    unfold gq_df
    rw [if_neg ba2, if_neg ca2, if_neg bc4]
  unfold gq_ok4
  rw [e, w]
  refine ⟨?_, ?_, ?_, rfl⟩
  · have g : gq_at 0 [(gq_pl (nI 5) b, 1), (gq_pl (nI 5) c, 1), (gq_pl (nI 5) a, 1)] = gq_pl (nI 5) b := rfl
    rw [g, gq_v5]
    simp only [v0, v1, v2, v3, v4, v5]
  · have g : gq_at 1 [(gq_pl (nI 5) b, 1), (gq_pl (nI 5) c, 1), (gq_pl (nI 5) a, 1)] = gq_pl (nI 5) c := rfl
    rw [g, gq_v5]
    simp only [v0, v1, v2, v3, v4, v5]
  · have g : gq_at 2 [(gq_pl (nI 5) b, 1), (gq_pl (nI 5) c, 1), (gq_pl (nI 5) a, 1)] = gq_pl (nI 5) a := rfl
    rw [g, gq_v5]
    simp only [v0, v1, v2, v3, v4, v5]
theorem gq_o_c_a_b {a b c : Int32} (hca : c < a) (hcb : c < b) (hab : a < b) : gq_ok4 a b c := by
  obtain ⟨ca1, ca2, ca3, ca4⟩ := gq_lt_f hca
  obtain ⟨cb1, cb2, cb3, cb4⟩ := gq_lt_f hcb
  obtain ⟨ab1, ab2, ab3, ab4⟩ := gq_lt_f hab
  have e : gq_G4 a b c = [(gq_pl (nI 5) c, 1), (gq_pl (nI 5) a, 1), (gq_pl (nI 5) b, 1)] := by
    unfold gq_G4 gq_G3 gq_G1
    rw [gq_ins_c b a, if_neg ab2, if_pos ab1, gq_ins_n, gq_ins_c c a, if_neg ca4, if_neg ca3]
  have v0 : gq_mn a b = a := if_neg ab3
  have v1 : gq_mx a b = b := if_pos ab1
  have v2 : gq_mn a c = c := if_pos ca1
  have v3 : gq_mx b c = b := if_neg cb3
  have v4 : gq_mn b c = c := if_pos cb1
  have v5 : gq_mx a c = a := if_neg ca3
  have w : gq_df a b c = (1 + 1) + 1 := by
    unfold gq_df
    rw [if_neg ab4, if_neg ca2, if_neg cb2]
  unfold gq_ok4
  rw [e, w]
  refine ⟨?_, ?_, ?_, rfl⟩
  · have g : gq_at 0 [(gq_pl (nI 5) c, 1), (gq_pl (nI 5) a, 1), (gq_pl (nI 5) b, 1)] = gq_pl (nI 5) c := rfl
    rw [g, gq_v5]
    simp only [v0, v1, v2, v3, v4, v5]
  · have g : gq_at 1 [(gq_pl (nI 5) c, 1), (gq_pl (nI 5) a, 1), (gq_pl (nI 5) b, 1)] = gq_pl (nI 5) a := rfl
    rw [g, gq_v5]
    simp only [v0, v1, v2, v3, v4, v5]
  · have g : gq_at 2 [(gq_pl (nI 5) c, 1), (gq_pl (nI 5) a, 1), (gq_pl (nI 5) b, 1)] = gq_pl (nI 5) b := rfl
    rw [g, gq_v5]
    simp only [v0, v1, v2, v3, v4, v5]
theorem gq_o_c_b_a {a b c : Int32} (hcb : c < b) (hca : c < a) (hba : b < a) : gq_ok4 a b c := by
  obtain ⟨cb1, cb2, cb3, cb4⟩ := gq_lt_f hcb
  obtain ⟨ca1, ca2, ca3, ca4⟩ := gq_lt_f hca
  obtain ⟨ba1, ba2, ba3, ba4⟩ := gq_lt_f hba
  have e : gq_G4 a b c = [(gq_pl (nI 5) c, 1), (gq_pl (nI 5) b, 1), (gq_pl (nI 5) a, 1)] := by
    unfold gq_G4 gq_G3 gq_G1
    rw [gq_ins_c b a, if_neg ba4, if_neg ba3, gq_ins_c c b, if_neg cb4, if_neg cb3]
  have v0 : gq_mn a b = b := if_pos ba1
  have v1 : gq_mx a b = a := if_neg ba3
  have v2 : gq_mn b c = c := if_pos cb1
  have v3 : gq_mx a c = a := if_neg ca3
  have v4 : gq_mn a c = c := if_pos ca1
  have v5 : gq_mx b c = b := if_neg cb3
  have w : gq_df a b c = (1 + 1) + 1 := by
    unfold gq_df
    rw [if_neg ba2, if_neg ca2, if_neg cb2]
  unfold gq_ok4
  rw [e, w]
  refine ⟨?_, ?_, ?_, rfl⟩
  · have g : gq_at 0 [(gq_pl (nI 5) c, 1), (gq_pl (nI 5) b, 1), (gq_pl (nI 5) a, 1)] = gq_pl (nI 5) c := rfl
    rw [g, gq_v5]
    simp only [v0, v1, v2, v3, v4, v5]
  · have g : gq_at 1 [(gq_pl (nI 5) c, 1), (gq_pl (nI 5) b, 1), (gq_pl (nI 5) a, 1)] = gq_pl (nI 5) b := rfl
    rw [g, gq_v5]
    simp only [v0, v1, v2, v3, v4, v5]
  · have g : gq_at 2 [(gq_pl (nI 5) c, 1), (gq_pl (nI 5) b, 1), (gq_pl (nI 5) a, 1)] = gq_pl (nI 5) a := rfl
    rw [g, gq_v5]
    simp only [v0, v1, v2, v3, v4, v5]
theorem gq_G4_at (a b c : Int32) : gq_ok4 a b c := by
  rcases gq_tri a b with hab | hab | hab
  · rcases gq_tri a c with hac | hac | hac
    · rcases gq_tri b c with hbc | hbc | hbc
      · exact gq_o_a_b_c hab hac hbc
      · subst hbc; exact gq_o_a_bc hab
      · exact gq_o_a_c_b hac hab hbc
    · subst hac; exact gq_o_ac_b hab
    · exact gq_o_c_a_b hac (gq_lt_tr hac hab) hab
  · subst hab
    rcases gq_tri a c with hac | hac | hac
    · exact gq_o_ab_c hac
    · subst hac; exact gq_o_abc
    · exact gq_o_c_ab hac
  · rcases gq_tri a c with hac | hac | hac
    · exact gq_o_b_a_c hab (gq_lt_tr hab hac) hac
    · subst hac; exact gq_o_b_ac hab
    · rcases gq_tri b c with hbc | hbc | hbc
      · exact gq_o_b_c_a hbc hab hac
      · subst hbc; exact gq_o_bc_a hab
      · exact gq_o_c_b_a hbc hac hab
end
section
/-! ===== the law, from its end upward ===== -/
theorem gq_least {post : Int32 → Prop} {u : St0} {x y : Int32} (h : post (gq_mn x y)) : wpL_least post u x y := by
  unfold gq_mn at h
  by_cases c : y ≤ x
  · rw [if_pos c] at h
    exact br_t c h
  · rw [if_neg c] at h
    exact br_f c h
theorem gq_most {post : Int32 → Prop} {u : St0} {x y : Int32} (h : post (gq_mx x y)) : wpL_most post u x y := by
  unfold gq_mx at h
  by_cases c : x ≤ y
  · rw [if_pos c] at h
    exact br_t c h
  · rw [if_neg c] at h
    exact br_f c h
theorem gq_pend {post : Int32 → Prop} {rt fr dp fl ce sb sa en : Int32} {a1 : Nat → Int64} {a2 a3 a4 a5 a6 a7 a8 a9 a10 a11 a12 a13 a14 : Nat → Int32} (h : post en) : wpX_pending post (rt, fr, dp, fl, ce, sb, sa, en, a1, a2, a3, a4, a5, a6, a7, a8, a9, a10, a11, a12, a13, a14) := h
theorem gq_gp5 (D G : List (Int64 × Int32)) : gq_gp D G 5 = G := rfl
theorem gq_gp2 (D G : List (Int64 × Int32)) : gq_gp D G 2 = D := rfl
/-- shown with floor 1 -/
theorem gq_sh_c {G : List (Int64 × Int32)} (c : Int32) (h : G.length ≠ 0) (ho : gq_ok G) (ht : gq_tt G ≤ 100) : gq_sh 1 c G = if c < gq_kd G then 0 else 1 := by
  unfold gq_sh
  have tp := gq_tt_pos ho h
  rw [if_neg h, if_neg (show ¬ nI (gq_tt G) < 1 from nI_nlt (b := 1) tp (by omega))]
theorem gq_NW_ne {sb sa key : Int32} {F0 F1 : Nat → Int32} {nw : List (Int32 × Int32 × (Nat → Int32))} (h : gq_NW sb sa key F0 F1 nw) (hne : ¬ F0 0 = F1 0) : nw = (if sb = 0 then [] else [(1, key, F0)]) ++ (if sa = 0 then [] else [(2, key, F1)]) := by
  rcases h with ⟨_, _, h, _⟩ | ⟨_, h⟩
  · exact absurd (h 0 (by omega)) hne
  · exact h
theorem gq_L623 {post : Int32 → St0 → Prop} {mc ms kc ks : Nat} {x9 : Int32} {rt fr dp fl ce sb sa en : Int32} {a1 : Nat → Int64} {a2 a3 a4 a5 a6 a7 a8 a9 a10 a11 a12 a13 a14 : Nat → Int32} {i : Nat} {es : List (Int32 × Int32 × (Nat → Int32))} {e : Int32 × Int32 × (Nat → Int32)} (h1 : post 1 ()) (hl : gq_lg en a12 a13 a14 es) (he : es[i]? = some e) (hn : es.length < 24) (hx : e.2.2 3 = x9) : wL_lawOf_623 post mc ms x9 (nI i) kc ks rt fr dp fl ce sb sa en a1 a2 a3 a4 a5 a6 a7 a8 a9 a10 a11 a12 a13 a14 := by
  unfold wL_lawOf_623
  refine gq_field (f := 3) hl he hn (by omega) ?_
  exact br_t hx h1
theorem gq_L604 {post : Int32 → St0 → Prop} {mc ms kc ks : Nat} {x9 x17 : Int32} {rt fr dp fl ce sb sa en : Int32} {a1 : Nat → Int64} {a2 a3 a4 a5 a6 a7 a8 a9 a10 a11 a12 a13 a14 : Nat → Int32} {i : Nat} {es : List (Int32 × Int32 × (Nat → Int32))} {e : Int32 × Int32 × (Nat → Int32)} (h1 : post 1 ()) (hl : gq_lg en a12 a13 a14 es) (he : es[i]? = some e) (hn : es.length < 24) (h2 : e.1 = 2) (hx : e.2.2 3 = x9) (hi : (x17 = 0 ∧ i = 0) ∨ (x17 = 1 ∧ i = 1)) : wL_lawOf_604 post mc ms x9 x17 (nI i) kc ks rt fr dp fl ce sb sa en a1 a2 a3 a4 a5 a6 a7 a8 a9 a10 a11 a12 a13 a14 := by
  unfold wL_lawOf_604
  refine gq_sort hl he hn ?_
  refine br_t h2 ?_
  rcases hi with ⟨z, w⟩ | ⟨z, w⟩
  · subst z w
    exact br_t rfl (gq_L623 h1 hl he hn hx)
  · subst z w
    exact br_f (by decide) (gq_L623 h1 hl he hn hx)
theorem gq_L554 {post : Int32 → St0 → Prop} {mc ms kc ks : Nat} {x9 x17 x18 : Int32} {F F5 : Nat → Int32} {rt fr dp fl ce sb sa en : Int32} {a1 : Nat → Int64} {a2 a3 a4 a5 a6 a7 a8 a9 a10 a11 a12 a13 a14 : Nat → Int32} {u w : List (Int32 × Int32 × (Nat → Int32))} (h1 : post 1 ()) (hl : gq_lg en a12 a13 a14 (u ++ w)) (hu : (x17 = 0 ∧ u = []) ∨ (x17 = 1 ∧ u = [(1, 5, F5)])) (hw : (x18 = 0 ∧ w = []) ∨ (x18 = 1 ∧ w = [(2, 5, F)])) (hF : F 3 = x9) : wL_lawOf_554 post mc ms x9 x17 x18 kc ks rt fr dp fl ce sb sa en a1 a2 a3 a4 a5 a6 a7 a8 a9 a10 a11 a12 a13 a14 := by
  unfold wL_lawOf_554
  refine gq_pend ?_
  have hen := hl.1
  rcases hu with ⟨z1, z2⟩ | ⟨z1, z2⟩
  · subst z1 z2
    refine br_t rfl ?_
    rcases hw with ⟨z3, z4⟩ | ⟨z3, z4⟩
    · subst z3 z4
      exact br_t rfl (br_t (hen.trans rfl) (br_t rfl h1))
    · subst z3 z4
      exact br_f (by decide) (br_t (hen.trans rfl) (br_f (by decide) (br_t rfl (gq_L604 (i := 0) (e := (2, 5, F)) h1 hl rfl (show (1 : Nat) < 24 by omega) rfl hF (Or.inl ⟨rfl, rfl⟩)))))
  · subst z1 z2
    refine br_f (by decide) ?_
    rcases hw with ⟨z3, z4⟩ | ⟨z3, z4⟩
    · subst z3 z4
      exact br_t rfl (br_t (hen.trans rfl) (br_t rfl h1))
    · subst z3 z4
      exact br_f (by decide) (br_t (hen.trans rfl) (br_f (by decide) (br_f (by decide) (gq_L604 (i := 1) (e := (2, 5, F)) h1 hl rfl (show (2 : Nat) < 24 by omega) rfl hF (Or.inr ⟨rfl, rfl⟩)))))
theorem gq_L546 {post : Int32 → St0 → Prop} {mc ms kc ks : Nat} {x9 x17 z0 z1 : Int32} {F F5 : Nat → Int32} {rt fr dp fl ce sb sa en : Int32} {a1 : Nat → Int64} {a2 a3 a4 a5 a6 a7 a8 a9 a10 a11 a12 a13 a14 : Nat → Int32} {u w : List (Int32 × Int32 × (Nat → Int32))} (h1 : post 1 ()) (hl : gq_lg en a12 a13 a14 (u ++ w)) (hu : (x17 = 0 ∧ u = []) ∨ (x17 = 1 ∧ u = [(1, 5, F5)])) (hw : w = if z1 < z0 then [] else [(2, 5, F)]) (hF : F 3 = x9) : wL_lawOf_546 post mc ms x9 x17 z0 z1 kc ks rt fr dp fl ce sb sa en a1 a2 a3 a4 a5 a6 a7 a8 a9 a10 a11 a12 a13 a14 := by
  by_cases c : z1 < z0
  · rw [if_pos c] at hw
    exact br_t c (gq_L554 h1 hl hu (Or.inl ⟨rfl, hw⟩) hF)
  · rw [if_neg c] at hw
    exact br_f c (gq_L554 h1 hl hu (Or.inr ⟨rfl, hw⟩) hF)
theorem gq_ne0 {G : List (Int64 × Int32)} (h : 1 ≤ G.length) : G.length ≠ 0 := by omega
theorem gq_fs_G3 (a b : Int32) : gq_fs (gq_G3 a b) 0 = 2 ∧ gq_fs (gq_G3 a b) 3 = gq_mx a b ∧ gq_fs (gq_G3 a b) 5 = gq_mn a b := by
  have hl := gq_ne0 (gq_len_G3 a b).1
  have ht := (gq_ok_G3 a b).2
  obtain ⟨g1, g2, _⟩ := gq_G3_at a b
  refine ⟨?_, ?_, ?_⟩
  · rw [gq_fs_0 hl, ht]
    rfl
  · rw [gq_fs_3 hl, ht]
    exact g2
  · rw [gq_fs_5 hl, ht]
    exact g1
theorem gq_fs_G4 (a b c : Int32) : gq_fs (gq_G4 a b c) 0 = 3 ∧ gq_fs (gq_G4 a b c) 1 = a + b + c ∧ gq_fs (gq_G4 a b c) 2 = gq_mn (gq_mn a b) c ∧ gq_fs (gq_G4 a b c) 3 = gq_mx (gq_mx a b) c ∧ gq_fs (gq_G4 a b c) 4 = gq_df a b c ∧ gq_fs (gq_G4 a b c) 5 = gq_mx (gq_mn a b) (gq_mn (gq_mx a b) c) := by
  have hl := gq_ne0 (gq_len_G4 a b c).1
  have ht := (gq_ok_G4 a b c).2
  obtain ⟨g1, g2, g3, g4⟩ := gq_G4_at a b c
  refine ⟨?_, ?_, ?_, ?_, ?_, ?_⟩
  · rw [gq_fs_0 hl, ht]
    rfl
  · rw [gq_fs_1 hl]
    unfold gq_G4 gq_G3
    rw [gq_sm_ins, gq_sm_ins, gq_v5, gq_v5]
    have e : gq_sm (gq_G1 a) = a := by
      show 1 * gq_val (gq_pl (nI 5) a) + 0 = a
      rw [gq_v5, Int32.one_mul, Int32.add_zero]
    rw [e]
  · rw [gq_fs_2 hl]
    exact g1
  · rw [gq_fs_3 hl, ht]
    exact g3
  · rw [gq_fs_4 hl]
    exact g4
  · rw [gq_fs_5 hl, ht]
    exact g2
theorem gq_L513 {post : Int32 → St0 → Prop} {mc ms kc ks : Nat} {a b c d cl x17 : Int32} {rt fr dp sb sa en : Int32} {a1 : Nat → Int64} {a2 a3 a4 a5 a6 a7 a8 a9 a10 a11 a12 a13 a14 : Nat → Int32} {es : List (Int32 × Int32 × (Nat → Int32))} (h1 : post 1 ()) (hT : gq_tree rt (a1, a2, a3, a4, a5, a6, a7, a8) (gq_D d ++ gq_G4 a b c)) (hl : gq_lg en a12 a13 a14 es) (hn : es.length ≤ 9) (h17 : (x17 = 0 ∧ cl < gq_df a b c) ∨ (x17 = 1 ∧ ¬ cl < gq_df a b c)) : wL_lawOf_513 post mc ms a b c (gq_mx a b) cl x17 kc ks rt fr dp 1 cl sb sa en a1 a2 a3 a4 a5 a6 a7 a8 a9 a10 a11 a12 a13 a14 := by
  obtain ⟨o3, t3⟩ := gq_ok_G3 a b
  obtain ⟨o4, t4⟩ := gq_ok_G4 a b c
  have s3 := gq_sh_c cl (gq_ne0 (gq_len_G3 a b).1) o3 (by omega)
  have s4 := gq_sh_c cl (gq_ne0 (gq_len_G4 a b c).1) o4 (by omega)
  have k3 := (gq_G3_at a b).2.2
  have k4 : gq_kd (gq_G4 a b c) = gq_df a b c := (gq_G4_at a b c).2.2.2
  have e4 : gq_D d ++ gq_G4 a b c = gq_ins (gq_pl (nI 5) c) (gq_D d ++ gq_G3 a b) := (gq_ins_D d c (gq_G3 a b)).symm
  have oD3 : gq_ok (gq_D d ++ gq_G3 a b) := gq_ok_D o3
  unfold wL_lawOf_513
  refine gq_take (c := 9) (m := es.length) (by omega) hn hl.1 ?_
  refine gq_rm (kk := 5) (es := []) (D := gq_D d) (G := gq_G4 a b c) (D' := gq_D d) (G' := gq_G3 a b) (by omega) hT (gq_Kk_D d) (gq_Kk_G4 a b c) ⟨rfl, fun i e hi => by simp at hi⟩ (show (0 : Nat) < 20 by omega) (by rw [e4]; exact gq_tm_ins oD3) (by rw [e4]; exact gq_del_ins oD3) (gq_Kk_D d) (gq_Kk_G3 a b) (gq_so_D (gq_Kk_G3 a b) (gq_so_G3 a b)) oD3 (by rw [gq_tt_D, t3]; omega)
    (fun rx fx dx sx sy ex b1 b2 b3 b4 b5 b6 b7 b8 b9 b10 b11 b12 b13 b14 nw hNW hlg => ?_)
  rw [gq_gp5, gq_gp5, s3, s4, k3, k4] at hNW
  have hnw := gq_NW_ne hNW (by rw [(gq_fs_G3 a b).1, (gq_fs_G4 a b c).1]; decide)
  rw [List.nil_append, hnw] at hlg
  refine br_t (by rw [gq_tt_D, t3]; rfl) ?_
  have hu : (x17 = 0 ∧ (if (if cl < gq_df a b c then (0 : Int32) else 1) = 0 then [] else [((1 : Int32), nI 5, gq_fs (gq_G4 a b c))]) = []) ∨ (x17 = 1 ∧ (if (if cl < gq_df a b c then (0 : Int32) else 1) = 0 then [] else [((1 : Int32), nI 5, gq_fs (gq_G4 a b c))]) = [(1, 5, gq_fs (gq_G4 a b c))]) := by
    rcases h17 with ⟨z, w⟩ | ⟨z, w⟩
    · rw [if_pos w, if_pos rfl]
      exact Or.inl ⟨z, rfl⟩
    · rw [if_neg w, if_neg (by decide)]
      exact Or.inr ⟨z, rfl⟩
  have hw : ∀ k : Int32, (if (if cl < k then (0 : Int32) else 1) = 0 then [] else [((2 : Int32), nI 5, gq_fs (gq_G3 a b))]) = if cl < k then [] else [(2, 5, gq_fs (gq_G3 a b))] := by
    intro k
    by_cases w : cl < k
    · rw [if_pos w, if_pos rfl, if_pos w]
    · rw [if_neg w, if_neg (by decide), if_neg w]
      rfl
  rw [hw] at hlg
  by_cases cab : a = b
  · rw [if_pos cab] at hlg
    exact br_t cab (gq_L546 h1 hlg hu rfl (gq_fs_G3 a b).2.1)
  · rw [if_neg cab] at hlg
    exact br_f cab (gq_L546 h1 hlg hu rfl (gq_fs_G3 a b).2.1)
end
section
theorem gq_fieldF {post : Int32 → Prop} {rt fr dp fl ce sb sa en : Int32} {a1 : Nat → Int64} {a2 a3 a4 a5 a6 a7 a8 a9 a10 a11 a12 a13 a14 : Nat → Int32} {i f : Nat} {es : List (Int32 × Int32 × (Nat → Int32))} {s k : Int32} {F : Nat → Int32} (hl : gq_lg en a12 a13 a14 es) (he : es[i]? = some (s, k, F)) (hn : es.length < 24) (hf : f < 6) (h : post (F f)) : wpX_field post (rt, fr, dp, fl, ce, sb, sa, en, a1, a2, a3, a4, a5, a6, a7, a8, a9, a10, a11, a12, a13, a14) (nI i) (nI f) :=
  gq_field hl he hn hf h
theorem gq_le8 {a b c d cl : Int32} : gq_le 1 40 1 cl (gq_D d) (gq_G4 a b c) 8 = (if cl < 1 then [((1 : Int32), (2 : Int32), gq_fs (gq_D d))] else []) ++ (if cl < gq_df a b c then [((1 : Int32), (5 : Int32), gq_fs (gq_G4 a b c))] else []) := by
  obtain ⟨o4, t4⟩ := gq_ok_G4 a b c
  have l4 := gq_len_G4 a b c
  have oD : gq_ok (gq_D d) := by
    have := gq_ok_D (d := d) (L := []) (fun y hy => absurd hy List.not_mem_nil)
    rw [List.append_nil] at this
    exact this
  have lD : (gq_D d).length ≠ 0 := by
    show (1 : Nat) ≠ 0
    omega
  have tD : gq_tt (gq_D d) ≤ 100 := by
    show (1 : Nat) ≤ 100
    omega
  have k4 : gq_kd (gq_G4 a b c) = gq_df a b c := (gq_G4_at a b c).2.2.2
  have kl : gq_kd (gq_G4 a b c) = nI (gq_G4 a b c).length := gq_kd_len _
  have s2 := gq_sh_c 40 lD oD tD
  have s2c := gq_sh_c cl lD oD tD
  have s5 := gq_sh_c 40 (gq_ne0 l4.1) o4 (by omega)
  have s5c := gq_sh_c cl (gq_ne0 l4.1) o4 (by omega)
  have kD : gq_kd (gq_D d) = 1 := rfl
  rw [kD] at s2 s2c
  rw [if_neg (by decide)] at s2
  rw [if_neg (by rw [kl]; exact nI_nlt (a := 40) (by omega) (by decide))] at s5
  rw [k4] at s5c
  have z : ∀ fl ce : Int32, gq_sh fl ce [] = 0 := fun fl ce => rfl
  have u2 : (if gq_sh 1 40 (gq_gp (gq_D d) (gq_G4 a b c) 2) = 0 then [] else if gq_sh 1 cl (gq_gp (gq_D d) (gq_G4 a b c) 2) = 0 then [((1 : Int32), nI 2, gq_fs (gq_gp (gq_D d) (gq_G4 a b c) 2))] else []) = if cl < 1 then [((1 : Int32), (2 : Int32), gq_fs (gq_D d))] else [] := by
    rw [gq_gp2, s2, s2c, if_neg (by decide)]
    by_cases w : cl < 1
    · rw [if_pos w, if_pos rfl, if_pos w]
      rfl
    · rw [if_neg w, if_neg (by decide), if_neg w]
  have u5 : (if gq_sh 1 40 (gq_gp (gq_D d) (gq_G4 a b c) 5) = 0 then [] else if gq_sh 1 cl (gq_gp (gq_D d) (gq_G4 a b c) 5) = 0 then [((1 : Int32), nI 5, gq_fs (gq_gp (gq_D d) (gq_G4 a b c) 5))] else []) = if cl < gq_df a b c then [((1 : Int32), (5 : Int32), gq_fs (gq_G4 a b c))] else [] := by
    rw [gq_gp5, s5, s5c, if_neg (by decide)]
    by_cases w : cl < gq_df a b c
    · rw [if_pos w, if_pos rfl, if_pos w]
      rfl
    · rw [if_neg w, if_neg (by decide), if_neg w]
  have un : ∀ i, i ≠ 2 → i ≠ 5 → (if gq_sh 1 40 (gq_gp (gq_D d) (gq_G4 a b c) i) = 0 then [] else if gq_sh 1 cl (gq_gp (gq_D d) (gq_G4 a b c) i) = 0 then [((1 : Int32), nI i, gq_fs (gq_gp (gq_D d) (gq_G4 a b c) i))] else []) = [] := by
    intro i h2 h5
    have e : gq_gp (gq_D d) (gq_G4 a b c) i = [] := by
      unfold gq_gp
      rw [if_neg h2, if_neg h5]
    rw [e, z, if_pos rfl]
  unfold gq_le gq_le gq_le gq_le gq_le gq_le gq_le gq_le gq_le
  rw [u2, u5, un 0 (by omega) (by omega), un 1 (by omega) (by omega), un 3 (by omega) (by omega), un 4 (by omega) (by omega), un 6 (by omega) (by omega), un 7 (by omega) (by omega)]
  simp only [List.append_nil, List.nil_append]
theorem gq_hsh {a b c d cl : Int32} : ∀ kk, kk < 8 → gq_sh 1 40 (gq_gp (gq_D d) (gq_G4 a b c) kk) = 0 → gq_sh 1 cl (gq_gp (gq_D d) (gq_G4 a b c) kk) = 0 := by
  intro kk hk
  obtain ⟨o4, t4⟩ := gq_ok_G4 a b c
  have l4 := gq_len_G4 a b c
  have kl : gq_kd (gq_G4 a b c) = nI (gq_G4 a b c).length := gq_kd_len _
  have s5 := gq_sh_c 40 (gq_ne0 l4.1) o4 (by omega)
  rw [if_neg (by rw [kl]; exact nI_nlt (a := 40) (by omega) (by decide))] at s5
  have oD : gq_ok (gq_D d) := by
    have := gq_ok_D (d := d) (L := []) (fun y hy => absurd hy List.not_mem_nil)
    rw [List.append_nil] at this
    exact this
  have lD : (gq_D d).length ≠ 0 := by
    show (1 : Nat) ≠ 0
    omega
  have tD : gq_tt (gq_D d) ≤ 100 := by
    show (1 : Nat) ≤ 100
    omega
  have s2 := gq_sh_c 40 lD oD tD
  have kD : gq_kd (gq_D d) = 1 := rfl
  rw [kD, if_neg (by decide)] at s2
  unfold gq_gp
  by_cases h2 : kk = 2
  · rw [if_pos h2, s2]
    intro w
    exact absurd w (by decide)
  · rw [if_neg h2]
    by_cases h5 : kk = 5
    · rw [if_pos h5, s5]
      intro w
      exact absurd w (by decide)
    · rw [if_neg h5]
      intro _
      rfl
theorem gq_L502 {post : Int32 → St0 → Prop} {mc ms kc ks : Nat} {a b c d cl x17 : Int32} {i : Nat} {rt fr dp sb sa en : Int32} {a1 : Nat → Int64} {a2 a3 a4 a5 a6 a7 a8 a9 a10 a11 a12 a13 a14 : Nat → Int32} {es : List (Int32 × Int32 × (Nat → Int32))} (h1 : post 1 ()) (hT : gq_tree rt (a1, a2, a3, a4, a5, a6, a7, a8) (gq_D d ++ gq_G4 a b c)) (hl : gq_lg en a12 a13 a14 es) (hn : es.length ≤ 9) (h17 : (x17 = 0 ∧ cl < gq_df a b c) ∨ (x17 = 1 ∧ ¬ cl < gq_df a b c)) (he : es[i]? = some (1, 5, gq_fs (gq_G4 a b c))) : wL_lawOf_502 post mc ms a b c (gq_mx a b) (gq_df a b c) cl x17 (nI i) kc ks rt fr dp 1 cl sb sa en a1 a2 a3 a4 a5 a6 a7 a8 a9 a10 a11 a12 a13 a14 := by
  unfold wL_lawOf_502
  refine gq_fieldF (f := 4) hl he (by omega) (by omega) ?_
  exact br_t (gq_fs_G4 a b c).2.2.2.2.1 (gq_L513 h1 hT hl hn h17)
theorem gq_L466 {post : Int32 → St0 → Prop} {mc ms kc ks : Nat} {a b c d cl x16 x17 : Int32} {rt fr dp sb sa en : Int32} {a1 : Nat → Int64} {a2 a3 a4 a5 a6 a7 a8 a9 a10 a11 a12 a13 a14 : Nat → Int32} {u w : List (Int32 × Int32 × (Nat → Int32))} (h1 : post 1 ()) (hT : gq_tree rt (a1, a2, a3, a4, a5, a6, a7, a8) (gq_D d ++ gq_G4 a b c)) (hl : gq_lg en a12 a13 a14 (u ++ w)) (hu : (x16 = 0 ∧ u = [(1, 2, gq_fs (gq_D d))]) ∨ (x16 = 1 ∧ u = [])) (h17 : (x17 = 0 ∧ cl < gq_df a b c) ∨ (x17 = 1 ∧ ¬ cl < gq_df a b c)) (hw : w = if cl < gq_df a b c then [(1, 5, gq_fs (gq_G4 a b c))] else []) : wL_lawOf_466 post mc ms a b c (gq_mx a b) (gq_df a b c) cl x16 x17 kc ks rt fr dp 1 cl sb sa en a1 a2 a3 a4 a5 a6 a7 a8 a9 a10 a11 a12 a13 a14 := by
  have hn : (u ++ w).length ≤ 9 := by
    rw [List.length_append]
    have l1 : u.length ≤ 1 := by
      rcases hu with ⟨_, z⟩ | ⟨_, z⟩
      · rw [z]; exact Nat.le_refl 1
      · rw [z]; exact Nat.zero_le 1
    have l2 : w.length ≤ 1 := by
      rw [hw]
      split
      · exact Nat.le_refl 1
      · exact Nat.zero_le 1
    omega
  rcases h17 with ⟨z, lt⟩ | ⟨z, lt⟩
  · rw [if_pos lt] at hw
    have h17 : (x17 = 0 ∧ cl < gq_df a b c) ∨ (x17 = 1 ∧ ¬ cl < gq_df a b c) := Or.inl ⟨z, lt⟩
    refine br_t z ?_
    rcases hu with ⟨z6, zu⟩ | ⟨z6, zu⟩
    · subst zu hw
      refine br_t z6 ?_
      unfold wL_lawOf_483
      refine gq_key (i := 1) (e := (1, 5, gq_fs (gq_G4 a b c))) hl rfl (by omega) ?_
      exact br_t rfl (br_t z6 (gq_L502 (i := 1) h1 hT hl hn h17 rfl))
    · subst zu hw
      have n6 : ¬ x16 = 0 := by rw [z6]; decide
      refine br_f n6 ?_
      unfold wL_lawOf_483
      refine gq_key (i := 0) (e := (1, 5, gq_fs (gq_G4 a b c))) hl rfl (by omega) ?_
      exact br_t rfl (br_f n6 (gq_L502 (i := 0) h1 hT hl hn h17 rfl))
  · exact br_f (by rw [z]; decide) (gq_L513 h1 hT hl hn (Or.inr ⟨z, lt⟩))
theorem gq_L402 {post : Int32 → St0 → Prop} {mc ms kc ks : Nat} {a b c d e x16 x17 : Int32} {rt fr dp sb sa en : Int32} {a1 : Nat → Int64} {a2 a3 a4 a5 a6 a7 a8 a9 a10 a11 a12 a13 a14 : Nat → Int32} (h1 : post 1 ()) (hT : gq_tree rt (a1, a2, a3, a4, a5, a6, a7, a8) (gq_D d ++ gq_G4 a b c)) (he : en = 0) (h16 : (x16 = 0 ∧ gq_cl e < 1) ∨ (x16 = 1 ∧ ¬ gq_cl e < 1)) (h17 : (x17 = 0 ∧ gq_cl e < gq_df a b c) ∨ (x17 = 1 ∧ ¬ gq_cl e < gq_df a b c)) : wL_lawOf_402 post mc ms a b c d e (gq_mx a b) (gq_df a b c) (gq_cl e) x16 x17 kc ks rt fr dp 1 40 sb sa en a1 a2 a3 a4 a5 a6 a7 a8 a9 a10 a11 a12 a13 a14 := by
  unfold wL_lawOf_402
  refine gq_lim (D := gq_D d) (G := gq_G4 a b c) hT (gq_Kk_D d) (gq_Kk_G4 a b c) he gq_hsh (fun sx sy ex b10 b11 b12 b13 b14 hlg => ?_)
  rw [gq_le8] at hlg
  have hen := hlg.1
  generalize gq_cl e = cl at *
  have hu : (x16 = 0 ∧ (if cl < 1 then [((1 : Int32), (2 : Int32), gq_fs (gq_D d))] else []) = [(1, 2, gq_fs (gq_D d))]) ∨ (x16 = 1 ∧ (if cl < 1 then [((1 : Int32), (2 : Int32), gq_fs (gq_D d))] else []) = []) := by
    rcases h16 with ⟨z, w⟩ | ⟨z, w⟩
    · exact Or.inl ⟨z, if_pos w⟩
    · exact Or.inr ⟨z, if_neg w⟩
  have L466 := gq_L466 (post := post) (mc := mc) (ms := ms) (kc := kc) (ks := ks) (rt := rt) (fr := fr) (dp := dp) (sb := sx) (sa := sy) (a9 := a9) (a10 := b10) (a11 := b11) h1 hT hlg hu h17 rfl
  have fin : ∀ z0 z1 : Int32, ex = z1 + z0 → wL_lawOf_432 post mc ms a b c d (gq_mx a b) (gq_df a b c) cl x16 x17 z0 z1 ex kc ks rt fr dp 1 cl sx sy ex a1 a2 a3 a4 a5 a6 a7 a8 a9 b10 b11 b12 b13 b14 := by
    intro z0 z1 hz
    refine br_t hz ?_
    rcases h16 with ⟨z, w⟩ | ⟨z, w⟩
    · refine br_t z ?_
      rw [if_pos w] at hlg
      have hn : ([((1 : Int32), (2 : Int32), gq_fs (gq_D d))] ++ (if cl < gq_df a b c then [((1 : Int32), (5 : Int32), gq_fs (gq_G4 a b c))] else [])).length < 24 := by
        rw [List.length_append]
        split
        · show (1 + 1 : Nat) < 24
          omega
        · show (1 + 0 : Nat) < 24
          omega
      refine gq_key (i := 0) (e := (1, 2, gq_fs (gq_D d))) hlg rfl hn ?_
      refine br_t rfl ?_
      refine gq_fieldF (i := 0) (f := 1) (s := 1) (k := 2) (F := gq_fs (gq_D d)) hlg rfl hn (by omega) ?_
      exact br_t (gq_fs_D d).1 L466
    · exact br_f (by rw [z]; decide) L466
  rcases h16 with ⟨z, w⟩ | ⟨z, w⟩
  · refine br_t z ?_
    rw [if_pos w] at hen
    rcases h17 with ⟨z7, w7⟩ | ⟨z7, w7⟩
    · rw [if_pos w7] at hen
      exact br_t z7 (fin 1 1 (hen.trans rfl))
    · rw [if_neg w7] at hen
      exact br_f (by rw [z7]; decide) (fin 0 1 (hen.trans rfl))
  · refine br_f (by rw [z]; decide) ?_
    rw [if_neg w] at hen
    rcases h17 with ⟨z7, w7⟩ | ⟨z7, w7⟩
    · rw [if_pos w7] at hen
      exact br_t z7 (fin 1 0 (hen.trans rfl))
    · rw [if_neg w7] at hen
      exact br_f (by rw [z7]; decide) (fin 0 0 (hen.trans rfl))
theorem gq_L375 {post : Int32 → St0 → Prop} {mc ms kc ks : Nat} {a b c d e : Int32} {rt fr dp sb sa en : Int32} {a1 : Nat → Int64} {a2 a3 a4 a5 a6 a7 a8 a9 a10 a11 a12 a13 a14 : Nat → Int32} (h1 : post 1 ()) (hT : gq_tree rt (a1, a2, a3, a4, a5, a6, a7, a8) (gq_D d ++ gq_G4 a b c)) (he : en = 0) : wL_lawOf_375 post mc ms a b c d e (gq_mx a b) (gq_df a b c) (gq_cl e) kc ks rt fr dp 1 40 sb sa en a1 a2 a3 a4 a5 a6 a7 a8 a9 a10 a11 a12 a13 a14 := by
  by_cases c1 : gq_cl e < 1
  · refine br_t c1 ?_
    by_cases c2 : gq_cl e < gq_df a b c
    · exact br_t c2 (gq_L402 h1 hT he (Or.inl ⟨rfl, c1⟩) (Or.inl ⟨rfl, c2⟩))
    · exact br_f c2 (gq_L402 h1 hT he (Or.inl ⟨rfl, c1⟩) (Or.inr ⟨rfl, c2⟩))
  · refine br_f c1 ?_
    by_cases c2 : gq_cl e < gq_df a b c
    · exact br_t c2 (gq_L402 h1 hT he (Or.inr ⟨rfl, c1⟩) (Or.inl ⟨rfl, c2⟩))
    · exact br_f c2 (gq_L402 h1 hT he (Or.inr ⟨rfl, c1⟩) (Or.inr ⟨rfl, c2⟩))
/-- the six entries after the four inserts -/
def gq_es (a b c d : Int32) : List (Int32 × Int32 × (Nat → Int32)) := [(2, 5, gq_fs (gq_G1 a)), (2, 2, gq_fs (gq_D d)), (1, 5, gq_fs (gq_G1 a)), (2, 5, gq_fs (gq_G3 a b)), (1, 5, gq_fs (gq_G3 a b)), (2, 5, gq_fs (gq_G4 a b c))]
theorem gq_bel (a b c d v : Int32) : gq_rw (gq_bl (gq_pl (nI 5) v) (gq_D d ++ gq_G4 a b c)) - gq_rw (gq_bl (gq_pl (nI 5) (-2147483648)) (gq_D d ++ gq_G4 a b c)) = ((if v ≤ a then 0 else 1) + (if v ≤ b then 0 else 1)) + (if v ≤ c then 0 else 1) := by
  have hd : ∀ v : Int32, gq_bl (gq_pl (nI 5) v) (gq_D d) = gq_D d := fun v => gq_bl_all (fun y hy => by
    rw [List.mem_singleton.mp hy]
    exact Int64.not_le.mpr (gq_pl_25 d v))
  have h0 : gq_bl (gq_pl (nI 5) (-2147483648)) (gq_G4 a b c) = [] := gq_bl_none (fun y hy => by
    rw [gq_Kk_st (gq_Kk_G4 a b c) (by omega) (by omega) hy]
    omega)
  have hle : ∀ x : Int32, (gq_pl (nI 5) v ≤ gq_pl (nI 5) x) = (v ≤ x) := fun x => propext (gq_pl_le (by decide) v x)
  have h1 : gq_rw (gq_bl (gq_pl (nI 5) v) (gq_G1 a)) = if v ≤ a then 0 else 1 := by
    by_cases w : v ≤ a
    · rw [gq_bl_none (fun y hy => by rw [List.mem_singleton.mp hy]; exact (gq_pl_le (by decide) v a).mpr w), if_pos w]
      rfl
    · rw [gq_bl_all (fun y hy => by rw [List.mem_singleton.mp hy]; exact fun z => w ((gq_pl_le (by decide) v a).mp z)), if_neg w]
      rfl
  have h4 : gq_rw (gq_bl (gq_pl (nI 5) v) (gq_G4 a b c)) = ((if v ≤ a then 0 else 1) + (if v ≤ b then 0 else 1)) + (if v ≤ c then 0 else 1) := by
    unfold gq_G4 gq_G3
    rw [gq_bl_ins, gq_bl_ins, h1]
    simp only [hle]
  rw [gq_bl_app, gq_bl_app, hd, hd, h0, gq_rw_app, gq_rw_app, h4, show gq_rw [] = 0 from rfl, Int32.add_zero, Int32.add_comm, Int32.add_sub_cancel]
theorem gq_L266 {post : Int32 → St0 → Prop} {mc ms kc ks : Nat} {a b c d e v z0 z1 : Int32} {rt fr dp sb sa en : Int32} {a1 : Nat → Int64} {a2 a3 a4 a5 a6 a7 a8 a9 a10 a11 a12 a13 a14 : Nat → Int32} (h1 : post 1 ()) (hT : gq_tree rt (a1, a2, a3, a4, a5, a6, a7, a8) (gq_D d ++ gq_G4 a b c)) (hl : gq_lg en a12 a13 a14 (gq_es a b c d)) (hz : z1 + z0 = ((if v ≤ a then 0 else 1) + (if v ≤ b then 0 else 1)) + (if v ≤ c then 0 else 1)) : wL_lawOf_266 post mc ms a b c d e v (gq_mn a b) (gq_mx a b) (gq_mx (gq_mn a b) (gq_mn (gq_mx a b) c)) (gq_df a b c) z0 z1 kc ks rt fr dp 1 40 sb sa en a1 a2 a3 a4 a5 a6 a7 a8 a9 a10 a11 a12 a13 a14 := by
  have hn : (gq_es a b c d).length < 24 := by
    show (6 : Nat) < 24
    omega
  unfold wL_lawOf_266
  refine nm_e ?_
  refine gq_below hT ?_
  refine br_t (by rw [gq_bel, hz]) ?_
  refine gq_pend ?_
  refine br_t (hl.1.trans rfl) ?_
  refine gq_sort (i := 4) (e := (1, 5, gq_fs (gq_G3 a b))) hl rfl hn ?_
  refine br_t rfl ?_
  refine gq_fieldF (i := 4) (f := 5) (s := 1) (k := 5) (F := gq_fs (gq_G3 a b)) hl rfl hn (by omega) ?_
  refine br_t (gq_fs_G3 a b).2.2 ?_
  refine gq_fieldF (i := 5) (f := 5) (s := 2) (k := 5) (F := gq_fs (gq_G4 a b c)) hl rfl hn (by omega) ?_
  refine br_t (gq_fs_G4 a b c).2.2.2.2.2 ?_
  refine gq_key (i := 1) (e := (2, 2, gq_fs (gq_D d))) hl rfl hn ?_
  refine br_t rfl ?_
  refine gq_take (c := 6) (m := 6) (by omega) (by omega) (hl.1.trans rfl) ?_
  refine br_t rfl ?_
  have key : wL_lawOf_375 post mc ms a b c d e (gq_mx a b) (gq_df a b c) (gq_cl e) kc ks rt fr dp 1 40 sb sa 0 a1 a2 a3 a4 a5 a6 a7 a8 a9 a10 a11 a12 a13 a14 := gq_L375 h1 hT rfl
  unfold gq_cl at key
  by_cases c1 : 0 ≤ e
  · rw [if_pos c1] at key
    refine br_t c1 ?_
    by_cases c2 : e ≤ 40
    · rw [if_pos c2] at key
      exact br_t c2 key
    · rw [if_neg c2] at key
      exact br_f c2 key
  · rw [if_neg c1] at key
    exact br_f c1 key
theorem gq_L243 {post : Int32 → St0 → Prop} {mc ms kc ks : Nat} {a b c d e v z : Int32} {rt fr dp sb sa en : Int32} {a1 : Nat → Int64} {a2 a3 a4 a5 a6 a7 a8 a9 a10 a11 a12 a13 a14 : Nat → Int32} (h1 : post 1 ()) (hT : gq_tree rt (a1, a2, a3, a4, a5, a6, a7, a8) (gq_D d ++ gq_G4 a b c)) (hl : gq_lg en a12 a13 a14 (gq_es a b c d)) (hz : z = if v ≤ a then 0 else 1) : wL_lawOf_243 post mc ms a b c d e v (gq_mn a b) (gq_mx a b) (gq_mx (gq_mn a b) (gq_mn (gq_mx a b) c)) (gq_df a b c) z kc ks rt fr dp 1 40 sb sa en a1 a2 a3 a4 a5 a6 a7 a8 a9 a10 a11 a12 a13 a14 := by
  by_cases c1 : v ≤ b
  · refine br_t c1 ?_
    by_cases c2 : v ≤ c
    · exact br_t c2 (gq_L266 h1 hT hl (by rw [if_pos c1, if_pos c2, hz]))
    · exact br_f c2 (gq_L266 h1 hT hl (by rw [if_pos c1, if_neg c2, hz]))
  · refine br_f c1 ?_
    by_cases c2 : v ≤ c
    · exact br_t c2 (gq_L266 h1 hT hl (by rw [if_neg c1, if_pos c2, hz]))
    · exact br_f c2 (gq_L266 h1 hT hl (by rw [if_neg c1, if_neg c2, hz]))
end
section
theorem gq_L129 {post : Int32 → St0 → Prop} {mc ms kc ks : Nat} {a b c d e v z0 z1 : Int32} {rt fr dp sb sa en : Int32} {a1 : Nat → Int64} {a2 a3 a4 a5 a6 a7 a8 a9 a10 a11 a12 a13 a14 : Nat → Int32} (h1 : post 1 ()) (hT : gq_tree rt (a1, a2, a3, a4, a5, a6, a7, a8) (gq_D d ++ gq_G4 a b c)) (hl : gq_lg en a12 a13 a14 (gq_es a b c d)) (hz : z1 + z0 = gq_df a b c) : wL_lawOf_129 post mc ms a b c d e v (gq_mn a b) (gq_mn (gq_mn a b) c) (gq_mx a b) (gq_mx (gq_mx a b) c) (gq_mx (gq_mn a b) (gq_mn (gq_mx a b) c)) z0 z1 kc ks rt fr dp 1 40 sb sa en a1 a2 a3 a4 a5 a6 a7 a8 a9 a10 a11 a12 a13 a14 := by
  obtain ⟨f0, f1, f2, f3, f4, f5⟩ := gq_fs_G4 a b c
  have KD := gq_Kk_D d
  have KG := gq_Kk_G4 a b c
  unfold wL_lawOf_129
  refine nm_r hz ?_
  refine gq_now (kk := 5) (f := 0) (D := gq_D d) (G := gq_G4 a b c) (by omega) (by omega) hT KD KG (fun s0 c0 => ?_)
  rw [gq_gp5, f0]
  refine br_t rfl ?_
  refine gq_now (kk := 5) (f := 1) (D := gq_D d) (G := gq_G4 a b c) (by omega) (by omega) hT KD KG (fun s1 c1 => ?_)
  rw [gq_gp5, f1]
  refine br_t rfl ?_
  refine gq_now (kk := 5) (f := 2) (D := gq_D d) (G := gq_G4 a b c) (by omega) (by omega) hT KD KG (fun s2 c2 => ?_)
  rw [gq_gp5, f2]
  refine br_t rfl ?_
  refine gq_now (kk := 5) (f := 3) (D := gq_D d) (G := gq_G4 a b c) (by omega) (by omega) hT KD KG (fun s3 c3 => ?_)
  rw [gq_gp5, f3]
  refine br_t rfl ?_
  refine gq_now (kk := 5) (f := 4) (D := gq_D d) (G := gq_G4 a b c) (by omega) (by omega) hT KD KG (fun s4 c4 => ?_)
  rw [gq_gp5, f4]
  refine br_t rfl ?_
  refine gq_now (kk := 5) (f := 5) (D := gq_D d) (G := gq_G4 a b c) (by omega) (by omega) hT KD KG (fun s5 c5 => ?_)
  rw [gq_gp5, f5]
  refine br_t rfl ?_
  refine gq_now6 ?_
  refine br_t rfl ?_
  refine gq_now (kk := 2) (f := 5) (D := gq_D d) (G := gq_G4 a b c) (by omega) (by omega) hT KD KG (fun s7 c7 => ?_)
  rw [gq_gp2, (gq_fs_D d).2]
  refine br_t rfl ?_
  by_cases w : v ≤ a
  · exact br_t w (gq_L243 h1 hT hl (if_pos w).symm)
  · exact br_f w (gq_L243 h1 hT hl (if_neg w).symm)
theorem gq_L113 {post : Int32 → St0 → Prop} {mc ms kc ks : Nat} {a b c d e v z0 z1 : Int32} {rt fr dp sb sa en : Int32} {a1 : Nat → Int64} {a2 a3 a4 a5 a6 a7 a8 a9 a10 a11 a12 a13 a14 : Nat → Int32} (h1 : post 1 ()) (hT : gq_tree rt (a1, a2, a3, a4, a5, a6, a7, a8) (gq_D d ++ gq_G4 a b c)) (hl : gq_lg en a12 a13 a14 (gq_es a b c d)) (hz : z1 + z0 = 1 + (if b = a then 0 else 1)) : wL_lawOf_113 post mc ms a b c d e v (gq_mn a b) (gq_mn (gq_mn a b) c) (gq_mx a b) (gq_mx (gq_mx a b) c) (gq_mx (gq_mn a b) (gq_mn (gq_mx a b) c)) z0 z1 kc ks rt fr dp 1 40 sb sa en a1 a2 a3 a4 a5 a6 a7 a8 a9 a10 a11 a12 a13 a14 := by
  by_cases w1 : c = a
  · exact br_t w1 (gq_L129 h1 hT hl (by unfold gq_df; rw [hz, if_pos w1]))
  · refine br_f w1 ?_
    by_cases w2 : c = b
    · exact br_t w2 (gq_L129 h1 hT hl (by unfold gq_df; rw [hz, if_neg w1, if_pos w2]))
    · exact br_f w2 (gq_L129 h1 hT hl (by unfold gq_df; rw [hz, if_neg w1, if_neg w2]))
theorem gq_sh40 {G : List (Int64 × Int32)} (h : G.length ≠ 0) (ho : gq_ok G) (ht : gq_tt G ≤ 100) (hl : G.length ≤ 40) : gq_sh 1 40 G = 1 := by
  rw [gq_sh_c 40 h ho ht, gq_kd_len, if_neg (show ¬ (40 : Int32) < nI G.length from nI_nlt (a := 40) hl (by decide))]
theorem gq_NW_01 {key : Int32} {F0 F1 : Nat → Int32} {nw : List (Int32 × Int32 × (Nat → Int32))} (h : gq_NW 0 1 key F0 F1 nw) : nw = [(2, key, F1)] := by
  rcases h with ⟨h, _⟩ | ⟨_, h⟩
  · exact absurd rfl h
  · rw [h, if_pos rfl, if_neg (by decide)]
    rfl
theorem gq_NW_11 {key : Int32} {F0 F1 : Nat → Int32} {nw : List (Int32 × Int32 × (Nat → Int32))} (h : gq_NW 1 1 key F0 F1 nw) (hne : ¬ F0 0 = F1 0) : nw = [(1, key, F0), (2, key, F1)] := by
  rw [gq_NW_ne h hne, if_neg (by decide), if_neg (by decide)]
  rfl
theorem gq_lawOf {post : Int32 → St0 → Prop} {u : St0} (h1 : post 1 ()) (a b c d e v : Int32) : wpL_lawOf post 300 5000 u a b c d e v := by
  have oD : gq_ok (gq_D d) := by
    have := gq_ok_D (d := d) (L := []) (fun y hy => absurd hy List.not_mem_nil)
    rw [List.append_nil] at this
    exact this
  have lD : (gq_D d).length = 1 := rfl
  have tD : gq_tt (gq_D d) = 1 := rfl
  have o1 := gq_ok_G1 a
  have l1 : (gq_G1 a).length = 1 := rfl
  have t1 : gq_tt (gq_G1 a) = 1 := rfl
  obtain ⟨o3, t3⟩ := gq_ok_G3 a b
  obtain ⟨o4, t4⟩ := gq_ok_G4 a b c
  have l3 := gq_len_G3 a b
  have l4 := gq_len_G4 a b c
  have z0 : ∀ fl ce : Int32, gq_sh fl ce [] = 0 := fun fl ce => rfl
  have sD : gq_sh 1 40 (gq_D d) = 1 := gq_sh40 (by omega) oD (by omega) (by omega)
  have s1 : gq_sh 1 40 (gq_G1 a) = 1 := gq_sh40 (by omega) o1 (by omega) (by omega)
  have s3 : gq_sh 1 40 (gq_G3 a b) = 1 := gq_sh40 (by omega) o3 (by omega) (by omega)
  have s4 : gq_sh 1 40 (gq_G4 a b c) = 1 := gq_sh40 (by omega) o4 (by omega) (by omega)
  have f1 : gq_fs (gq_G1 a) 0 = 1 := by
    rw [gq_fs_0 (by omega), t1]
    rfl
  have f3 := (gq_fs_G3 a b).1
  have f4 := (gq_fs_G4 a b c).1
  unfold wpL_lawOf
  refine ⟨by omega, by omega, 14, 548, by omega, by omega, ?_⟩
  refine gq_init (by omega) (by omega) (fun b3 hb3 => ?_)
  refine gq_in (kk := 5) (f := 1) (D := []) (G := []) (D' := []) (G' := gq_G1 a) (es := []) (by omega) ⟨[], ⟨rfl, rfl⟩, rfl, ⟨rfl, rfl, rfl, rfl⟩, List.Pairwise.nil, fun x hx => absurd hx List.not_mem_nil, by show (0 : Nat) ≤ 10; omega, by show (0 : Nat) ≤ 100; omega, fun j hj => absurd hj List.not_mem_nil, rfl, by omega, fun j hj1 hj2 => hb3 j hj1 hj2⟩ (by omega) (gq_Kk_nil 2) (gq_Kk_nil 5) ⟨rfl, fun i e hi => by simp at hi⟩ (by show (0 : Nat) < 20; omega) (by show (0 : Nat) < 9; omega) (by show (0 : Nat) < 40; omega) rfl (gq_Kk_nil 2) (gq_Kk_G1 a)
    (fun r1 q1 d1 u1 v1 e1 b1 b2 b3 b4 b5 b6 b7 b8 b9 b10 b11 b12 b13 b14 n1 nw1 hP1 hn1 hNW1 hlg1 => ?_)
  rw [gq_gp5, gq_gp5, z0, s1] at hNW1
  rw [gq_NW_01 hNW1] at hlg1
  refine br_t rfl ?_
  clear hNW1 hb3 nw1
  refine gq_in (kk := 2) (f := n1) (D := []) (G := gq_G1 a) (D' := gq_D d) (G' := gq_G1 a) (es := [] ++ [(2, nI 5, gq_fs (gq_G1 a))]) (by omega) hP1 (by omega) (gq_Kk_nil 2) (gq_Kk_G1 a) hlg1 (by show (1 : Nat) < 20; omega) (by show (1 : Nat) < 9; omega) (by show (1 : Nat) < 40; omega) (gq_ins_2 a d) (gq_Kk_D d) (gq_Kk_G1 a)
    (fun r2 q2 d2 u2 v2 e2 b1 b2 b3 b4 b5 b6 b7 b8 b9 b10 b11 b12 b13 b14 n2 nw2 hP2 hn2 hNW2 hlg2 => ?_)
  rw [gq_gp2, gq_gp2, z0, sD] at hNW2
  rw [gq_NW_01 hNW2] at hlg2
  refine br_t rfl ?_
  clear hNW2 nw2 hP1 hlg1
  refine gq_in (kk := 5) (f := n2) (D := gq_D d) (G := gq_G1 a) (D' := gq_D d) (G' := gq_G3 a b) (es := [] ++ [(2, nI 5, gq_fs (gq_G1 a))] ++ [(2, nI 2, gq_fs (gq_D d))]) (by omega) hP2 (by omega) (gq_Kk_D d) (gq_Kk_G1 a) hlg2 (by show (2 : Nat) < 20; omega) (by show (2 : Nat) < 9; omega) (by rw [gq_tt_D, t1]; omega) (gq_ins_D d b (gq_G1 a)) (gq_Kk_D d) (gq_Kk_G3 a b)
    (fun r3 q3 d3 u3 v3 e3 b1 b2 b3 b4 b5 b6 b7 b8 b9 b10 b11 b12 b13 b14 n3 nw3 hP3 hn3 hNW3 hlg3 => ?_)
  rw [gq_gp5, gq_gp5, s1, s3] at hNW3
  rw [gq_NW_11 hNW3 (by rw [f1, f3]; decide)] at hlg3
  refine br_t (by rw [gq_tt_D, t3]; rfl) ?_
  clear hNW3 nw3 hP2 hlg2
  refine gq_in (kk := 5) (f := n3) (D := gq_D d) (G := gq_G3 a b) (D' := gq_D d) (G' := gq_G4 a b c) (es := [] ++ [(2, nI 5, gq_fs (gq_G1 a))] ++ [(2, nI 2, gq_fs (gq_D d))] ++ [(1, nI 5, gq_fs (gq_G1 a)), (2, nI 5, gq_fs (gq_G3 a b))]) (by omega) hP3 (by omega) (gq_Kk_D d) (gq_Kk_G3 a b) hlg3 (by show (4 : Nat) < 20; omega) (by rw [List.length_append]; omega) (by rw [gq_tt_D, t3]; omega) (gq_ins_D d c (gq_G3 a b)) (gq_Kk_D d) (gq_Kk_G4 a b c)
    (fun r4 q4 d4 u4 v4 e4 b1 b2 b3 b4 b5 b6 b7 b8 b9 b10 b11 b12 b13 b14 n4 nw4 hP4 hn4 hNW4 hlg4 => ?_)
  rw [gq_gp5, gq_gp5, s3, s4] at hNW4
  rw [gq_NW_11 hNW4 (by rw [f3, f4]; decide)] at hlg4
  refine br_t (by rw [gq_tt_D, t4]; rfl) ?_
  clear hNW4 nw4 hP3 hlg3
  have hl : gq_lg e4 b12 b13 b14 (gq_es a b c d) := hlg4
  have hT := gq_pic_tree hP4
  refine gq_least ?_
  refine gq_least ?_
  refine gq_most ?_
  refine gq_most ?_
  refine gq_least ?_
  refine gq_most ?_
  by_cases w : b = a
  · exact br_t w (gq_L113 h1 hT hl (by rw [if_pos w]))
  · exact br_f w (gq_L113 h1 hT hl (by rw [if_neg w]))
theorem gq_cell {post : Int32 → Prop} {L : Nat} {xs : Nat → Int32} {u : St0} {k : Nat} (hL : L ≤ 6) (hk : k < 10) (h : ∀ x : Int32, post x) : wpL_cellAt post L xs u (nI k) :=
  pk_le L k (fun _ => h 0) (fun z => And.intro (pk_in k L z) (h _))
theorem i_vc (xs : Nat → Int32) (L : Nat) (hL : L ≤ 6) : wpL_law (fun r => r = 1) L xs := by
  unfold wpL_law
  refine gq_cell (k := 0) hL (by omega) (fun a => ?_)
  refine gq_cell (k := 1) hL (by omega) (fun b => ?_)
  refine gq_cell (k := 2) hL (by omega) (fun c => ?_)
  refine gq_cell (k := 3) hL (by omega) (fun d => ?_)
  refine gq_cell (k := 4) hL (by omega) (fun e => ?_)
  refine gq_cell (k := 5) hL (by omega) (fun v => ?_)
  refine ⟨300, 5000, by omega, by omega, ?_⟩
  exact gq_lawOf (post := fun r7 _ => r7 = 1) rfl a b c d e v
end
