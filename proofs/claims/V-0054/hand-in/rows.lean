section
/-! rows of the kit (PURE-ROWS.to-paste), pasted: a starting text -/
theorem pk_us {f : Nat → Int32} {k : Nat} {x : Int32} : upd f k x k = x := if_pos rfl
theorem pk_un {f : Nat → Int32} {k j : Nat} {x : Int32} (h : j ≠ k) : upd f k x j = f j := if_neg h
theorem pk_uLs {f : Nat → Int64} {k : Nat} {x : Int64} : vp_updL f k x k = x := if_pos rfl
theorem pk_uLn {f : Nat → Int64} {k j : Nat} {x : Int64} (h : j ≠ k) : vp_updL f k x j = f j := if_neg h
theorem pk_sub {a b : Nat} (h : b ≤ a) : nI a - nI b = nI (a - b) := by
  obtain ⟨c, rfl⟩ : ∃ c, a = c + b := ⟨a - b, by omega⟩
  rw [← nI_add, Int32.add_sub_cancel, Nat.add_sub_cancel]
theorem pk_m1 (n : Nat) : nI (n + 1) + (-1) = nI n := by
  rw [← nI_1, Int32.add_assoc, show (1 : Int32) + (-1) = 0 from rfl, Int32.add_zero]
theorem pk_mul (a b : Nat) : nI a * nI b = nI (a * b) := (Int32.ofNat_mul a b).symm
theorem pk_div {a d : Nat} (ha : a < 2 ^ 31) (h0 : 0 < d) (hd : d < 2 ^ 31) : nI a / nI d = nI (a / d) := by
  apply Int32.toInt_inj.mp
  rw [lg_idiv_nonneg (by rw [nI_toInt ha]; omega) (by rw [nI_toInt hd]; omega), nI_toInt ha, nI_toInt hd, nI_toInt (Nat.lt_of_le_of_lt (Nat.div_le_self a d) ha)]
  first | rfl | exact (Int.natCast_ediv _ _).symm
theorem pk_rem {a d : Nat} (ha : a < 2 ^ 31) (h0 : 0 < d) (hd : d < 2 ^ 31) : nI a - nI a / nI d * nI d = nI (a % d) := by
  rw [pk_div ha h0 hd, pk_mul, pk_sub (Nat.div_mul_le_self a d)]
  exact congrArg nI (by have := Nat.div_add_mod' a d; omega)
theorem pk_sub_toInt {a b : Nat} (ha : a < 2 ^ 30) (hb : b < 2 ^ 30) : (nI a - nI b).toInt = (a : Int) - b := by
  rw [Int32.toInt_sub, nI_toInt (by omega), nI_toInt (by omega)]
  exact Int.bmod_eq_of_le (by omega) (by omega)
theorem pk_sneg {a b : Nat} (hb : b < 2 ^ 30) (h : a < b) : nI a - nI b < 0 := by
  rw [Int32.lt_iff_toInt_lt, pk_sub_toInt (by omega) hb, show (0 : Int32).toInt = 0 from by decide]
  omega
theorem pk_ix (x : Int32) {n : Nat} (hn : n < 2 ^ 31) : x < 0 ∨ nI n ≤ x ∨ ∃ j : Nat, j < n ∧ x = nI j := by
  by_cases h : x < 0
  · exact Or.inl h
  · obtain ⟨j, hj, rfl⟩ := nI_of h
    by_cases h2 : j < n
    · exact Or.inr (Or.inr ⟨j, h2, rfl⟩)
    · exact Or.inr (Or.inl (nI_le (by omega) hj))
theorem pk_le {x y : Int32} {A B : Prop} (a b : Nat) (f : a ≤ b → A) (g : b < a → B) (hx : x = nI a := by rfl) (hy : y = nI b := by rfl) (ha : a < 2 ^ 31 := by omega) (hb : b < 2 ^ 31 := by omega) : (x ≤ y → A) ∧ (¬ x ≤ y → B) := by
  subst hx hy
  rw [nI_leI ha hb]
  exact ⟨f, fun z => g (by omega)⟩
theorem pk_lt {x y : Int32} {A B : Prop} (a b : Nat) (f : a < b → A) (g : b ≤ a → B) (hx : x = nI a := by rfl) (hy : y = nI b := by rfl) (ha : a < 2 ^ 31 := by omega) (hb : b < 2 ^ 31 := by omega) : (x < y → A) ∧ (¬ x < y → B) := by
  subst hx hy
  rw [nI_ltI ha hb]
  exact ⟨f, fun z => g (by omega)⟩
theorem pk_eq {x y : Int32} {A B : Prop} (a b : Nat) (f : a = b → A) (g : a ≠ b → B) (hx : x = nI a := by rfl) (hy : y = nI b := by rfl) (ha : a < 2 ^ 31 := by omega) (hb : b < 2 ^ 31 := by omega) : (x = y → A) ∧ (¬ x = y → B) := by
  subst hx hy
  rw [nI_eq ha hb]
  exact ⟨f, g⟩
theorem pk_in {x : Int32} (n N : Nat) (h : n < N) (hx : x = nI n := by rfl) (hN : N < 2 ^ 31 := by omega) : vp_in x N := by
  subst hx
  exact vp_in_nI h hN
theorem pk_cl {x : Int32} (n : Nat) (hx : x = nI n := by rfl) (h : n < 2 ^ 31 := by omega) : x.toNatClampNeg = n := by
  subst hx
  exact nI_clamp h
theorem pk_tn {n : Nat} (h : n < 2 ^ 32) : (nI n).toBitVec.toNat = n := Nat.mod_eq_of_lt h
theorem pk_and (x : Int32) {m : Int32} (k : Nat) (hm : m.toBitVec.toNat = 2 ^ k - 1) : x &&& m = nI (x.toBitVec.toNat % 2 ^ k) := by
  apply Int32.toBitVec_inj.mp
  apply BitVec.eq_of_toNat_eq
  rw [Int32.toBitVec_and, BitVec.toNat_and, hm, Nat.and_two_pow_sub_one_eq_mod]
  show _ = (BitVec.ofNat 32 _).toNat
  rw [BitVec.toNat_ofNat]
  exact (Nat.mod_eq_of_lt (Nat.lt_of_le_of_lt (Nat.mod_le _ _) x.toBitVec.isLt)).symm
theorem pk_andN {n : Nat} (h : n < 2 ^ 32) {m : Int32} (k : Nat) (hm : m.toBitVec.toNat = 2 ^ k - 1) : nI n &&& m = nI (n % 2 ^ k) := by
  rw [pk_and _ k hm, pk_tn h]
theorem pk_andE (x : Int32) {m : Int32} (k : Nat) (hm : m.toBitVec.toNat = 2 ^ k - 1) : ∃ j : Nat, j < 2 ^ k ∧ x &&& m = nI j := ⟨_, Nat.mod_lt _ (Nat.two_pow_pos k), pk_and x k hm⟩
theorem pk_andIn (x : Int32) {m : Int32} (k : Nat) (hm : m.toBitVec.toNat = 2 ^ k - 1) (hk : k ≤ 30) : vp_in (x &&& m) (2 ^ k) := by
  obtain ⟨j, hj, e⟩ := pk_andE x k hm
  rw [e]
  exact vp_in_nI hj (Nat.lt_of_le_of_lt (Nat.pow_le_pow_right (by decide) hk) (by decide))
end
section
/-! the abstract state and what it means that a state of X or Y shows it -/
abbrev vg_E : Type := Int32 × Int32 × Int32
abbrev vg_R : Type := Nat × Nat × Nat × Nat × Nat × Nat × (Nat → vg_E)
abbrev vg_L : Type := Nat × Nat × Nat × Nat × Nat × Nat × Nat × Nat × (Nat → vg_E)
abbrev vg_M : Type := Nat × Nat × Nat × Nat × vg_R
abbrev vg_Z : Type := Nat × Nat × Nat × Nat × (Nat → Nat) × (Nat → vg_L)
abbrev vg_B : Type := Int32 × Int32 × Int32 × Int32 × Int32 × Int32 × (Nat → Int32) × (Nat → Int32)
/-- a function set at one place -/
def fs_set {α : Type} (f : Nat → α) (k : Nat) (x : α) : Nat → α := fun j => if j = k then x else f j
theorem fs_eq {α : Type} {f : Nat → α} {k : Nat} {x : α} : fs_set f k x k = x := if_pos rfl
theorem fs_ne {α : Type} {f : Nat → α} {k j : Nat} {x : α} (h : j ≠ k) : fs_set f k x j = f j := if_neg h
/-- n cells of g from s on, written into f from d on -/
def cp_cpy (f g : Nat → Int32) (d s n : Nat) : Nat → Int32 := fun j => if d ≤ j ∧ j < d + n then g (s + (j - d)) else f j
theorem cp_0 (f g : Nat → Int32) (d s : Nat) : cp_cpy f g d s 0 = f := by
  funext j
  exact if_neg (by omega)
theorem cp_s (f g : Nat → Int32) (d s n : Nat) : upd (cp_cpy f g d s n) (d + n) (g (s + n)) = cp_cpy f g d s (n + 1) := by
  funext j
  unfold upd cp_cpy
  by_cases h : j = d + n
  · subst h
    rw [if_pos rfl, if_pos (by omega)]
    exact congrArg g (by omega)
  · rw [if_neg h]
    by_cases h2 : d ≤ j ∧ j < d + n
    · rw [if_pos h2, if_pos (by omega)]
    · rw [if_neg h2, if_neg (by omega)]
theorem cp_in {f g : Nat → Int32} {d s n : Nat} (i : Nat) (h : i < n) : cp_cpy f g d s n (d + i) = g (s + i) := by
  unfold cp_cpy
  rw [if_pos (by omega)]
  exact congrArg g (by omega)
theorem cp_out {f g : Nat → Int32} {d s n j : Nat} (h : j < d ∨ d + n ≤ j) : cp_cpy f g d s n j = f j := if_neg (by omega)
/-- n cells of f from d on, made 0 -/
def zr_zer (f : Nat → Int32) (d n : Nat) : Nat → Int32 := fun j => if d ≤ j ∧ j < d + n then 0 else f j
theorem zr_0 (f : Nat → Int32) (d : Nat) : zr_zer f d 0 = f := by
  funext j
  exact if_neg (by omega)
theorem zr_s (f : Nat → Int32) (d n : Nat) : upd (zr_zer f d n) (d + n) 0 = zr_zer f d (n + 1) := by
  funext j
  unfold upd zr_zer
  by_cases h : j = d + n
  · subst h
    rw [if_pos rfl, if_pos (by omega)]
  · rw [if_neg h]
    by_cases h2 : d ≤ j ∧ j < d + n
    · rw [if_pos h2, if_pos (by omega)]
    · rw [if_neg h2, if_neg (by omega)]
theorem zr_in {f : Nat → Int32} {d n : Nat} (i : Nat) (h : i < n) : zr_zer f d n (d + i) = 0 := if_pos (by omega)
theorem zr_out {f : Nat → Int32} {d n j : Nat} (h : j < d ∨ d + n ≤ j) : zr_zer f d n j = f j := if_neg (by omega)
/-! what the executed entries come to -/
def vl_key (o : Int32) : Int32 := (o >>> ((2 : Int32) &&& 31)) &&& 3
def vl_arg (o : Int32) : Int32 := o >>> ((4 : Int32) &&& 31)
def vl_aft (k v x : Int32) : Int32 := if k = 0 then x else if k = 3 ∧ v = 0 then x else if k = 1 then v + x else if k = 2 then v * 31 + x else v
def vl_res (k v x : Int32) : Int32 := if k = 0 then v else if k = 3 then (if v = 0 then 1 else 0) else vl_aft k v x
def vl_val (g : Nat → vg_E) : Nat → Int32 → Int32
  | 0 => fun _ => 0
  | n + 1 => fun k => if vl_key (g n).2.2 = k then vl_aft ((g n).2.2 &&& 3) (vl_val g n k) (vl_arg (g n).2.2) else vl_val g n k
def vl_num (g : Nat → vg_E) : Nat → Int32 → Int32
  | 0 => fun _ => 0
  | n + 1 => fun c => if (g n).1 = c then (g n).2.1 else vl_num g n c
def vl_rs (g : Nat → vg_E) : Nat → Int32 → Int32
  | 0 => fun _ => 0
  | n + 1 => fun c => if (g n).1 = c then vl_res ((g n).2.2 &&& 3) (vl_val g n (vl_key (g n).2.2)) (vl_arg (g n).2.2) else vl_rs g n c
theorem vl_val_c {g g' : Nat → vg_E} : ∀ {n : Nat}, (∀ i, i < n → g i = g' i) → ∀ k, vl_val g n k = vl_val g' n k
  | 0, _, _ => rfl
  | n + 1, h, k => by
    unfold vl_val
    rw [h n (by omega), vl_val_c (n := n) (fun i hi => h i (by omega)) k]
theorem vl_num_c {g g' : Nat → vg_E} : ∀ {n : Nat}, (∀ i, i < n → g i = g' i) → ∀ k, vl_num g n k = vl_num g' n k
  | 0, _, _ => rfl
  | n + 1, h, k => by
    unfold vl_num
    rw [h n (by omega), vl_num_c (n := n) (fun i hi => h i (by omega)) k]
theorem vl_rs_c {g g' : Nat → vg_E} : ∀ {n : Nat}, (∀ i, i < n → g i = g' i) → ∀ k, vl_rs g n k = vl_rs g' n k
  | 0, _, _ => rfl
  | n + 1, h, k => by
    unfold vl_rs
    rw [h n (by omega), vl_rs_c (n := n) (fun i hi => h i (by omega)) k, vl_val_c (n := n) (fun i hi => h i (by omega))]
/-! one replica in X -/
def rr_ok (x : vg_R) : Prop :=
  (x.1 ≤ 3 ∧ x.2.1 ≤ 999 ∧ x.2.2.1 ≤ 999 ∧ x.2.2.2.1 ≤ 999 ∧ x.2.2.2.2.1 ≤ 32 ∧ x.2.2.2.2.2.1 ≤ x.2.2.2.2.1) ∧ ∀ i, i < x.2.2.2.2.1 → ∃ k, k < 4 ∧ (x.2.2.2.2.2.2 i).1 = nI k
def rr_log (g : Nat → vg_E) (n d : Nat) (lC lN lO : Nat → Int32) : Prop :=
  ∀ i, i < n → lC (d + i) = (g i).1 ∧ lN (d + i) = (g i).2.1 ∧ lO (d + i) = (g i).2.2
def rr_exe (g : Nat → vg_E) (n b : Nat) (rg tN tR : Nat → Int32) : Prop :=
  ∀ k, k < 4 → rg (b * 4 + k) = vl_val g n (nI k) ∧ tN (b * 4 + k) = vl_num g n (nI k) ∧ tR (b * 4 + k) = vl_rs g n (nI k)
def rr_one (x : vg_R) (b : Nat) (sS sV sL sN sZ sC lC lN lO rg tN tR : Nat → Int32) : Prop :=
  (sS b = nI x.1 ∧ sV b = nI x.2.1 ∧ sL b = nI x.2.2.1 ∧ sN b = nI x.2.2.2.1 ∧ sZ b = nI x.2.2.2.2.1 ∧ sC b = nI x.2.2.2.2.2.1) ∧
  rr_log x.2.2.2.2.2.2 x.2.2.2.2.1 (b * 32) lC lN lO ∧ rr_exe x.2.2.2.2.2.2 x.2.2.2.2.2.1 b rg tN tR
def rr_H (H : Nat → vg_R) (sS sV sL sN sZ sC lC lN lO rg tN tR : Nat → Int32) : Prop :=
  ∀ b, b < 5 → rr_ok (H b) ∧ rr_one (H b) b sS sV sL sN sZ sC lC lN lO rg tN tR
/-! one message -/
def rm_one (g : vg_M) (m : Nat) (mK mF mT mV mL mC mZ mB mN cC cN cO : Nat → Int32) : Prop :=
  (mK m = nI g.1 ∧ mF m = nI g.2.1 ∧ mT m = nI g.2.2.1 ∧ mV m = nI g.2.2.2.2.2.1 ∧ mL m = nI g.2.2.2.2.2.2.1 ∧ mC m = nI g.2.2.2.2.2.2.2.2.2.1 ∧ mZ m = nI g.2.2.2.2.2.2.2.2.1 ∧ mB m = nI g.2.2.2.1 ∧ mN m = nI (g.2.2.2.2.2.2.2.2.1 - g.2.2.2.1)) ∧
  (g.2.2.2.1 ≤ g.2.2.2.2.2.2.2.2.1 ∧ g.2.1 < 5 ∧ g.2.2.1 < 5 ∧ rr_ok g.2.2.2.2) ∧ rr_log (fun i => g.2.2.2.2.2.2.2.2.2.2 (g.2.2.2.1 + i)) (g.2.2.2.2.2.2.2.2.1 - g.2.2.2.1) (m * 32) cC cN cO
def rm_Q (hd tl : Nat) (Q : Nat → vg_M) (fH fT : Int32) (mK mF mT mV mL mC mZ mB mN cC cN cO : Nat → Int32) : Prop :=
  (fH = nI hd ∧ fT = nI tl ∧ hd ≤ tl ∧ tl ≤ 32) ∧ ∀ m, m < tl → rm_one (Q m) m mK mF mT mV mL mC mZ mB mN cC cN cO
/-! one letter -/
def rt_ok (x : vg_L) : Prop :=
  (x.1 ≤ 2 ∧ x.2.1 < 5 ∧ x.2.2.1 < 5 ∧ x.2.2.2.1 ≤ 999 ∧ x.2.2.2.2.1 ≤ 999 ∧ x.2.2.2.2.2.1 ≤ 1 ∧ x.2.2.2.2.2.2.1 ≤ 32 ∧ x.2.2.2.2.2.2.2.1 ≤ x.2.2.2.2.2.2.1) ∧ ∀ i, i < x.2.2.2.2.2.2.1 → ∃ k, k < 4 ∧ (x.2.2.2.2.2.2.2.2 i).1 = nI k
def rt_one (x : vg_L) (s : Nat) (sS sF sT sN sV sD sZ sC cC cN cO : Nat → Int32) : Prop :=
  (sS s = nI x.1 ∧ sF s = nI x.2.1 ∧ sT s = nI x.2.2.1 ∧ sN s = nI x.2.2.2.1 ∧ sV s = nI x.2.2.2.2.1 ∧ sD s = nI x.2.2.2.2.2.1 ∧ sZ s = nI x.2.2.2.2.2.2.1 ∧ sC s = nI x.2.2.2.2.2.2.2.1) ∧
  rr_log x.2.2.2.2.2.2.2.2 x.2.2.2.2.2.2.1 (s * 32) cC cN cO
def rz_T (T : Nat → vg_L) (sS sF sT sN sV sD sZ sC cC cN cO : Nat → Int32) : Prop :=
  ∀ s, s < 8 → rt_ok (T s) ∧ rt_one (T s) s sS sF sT sN sV sD sZ sC cC cN cO
def rz_ok (Z : vg_Z) : Prop := 1 ≤ Z.1 ∧ Z.1 ≤ 4 ∧ 4 ≤ Z.2.1 ∧ Z.2.1 ≤ 32 ∧ 4 ≤ Z.2.2.1 ∧ Z.2.2.1 ≤ 8 ∧ Z.2.2.2.1 ≤ 999
def rz_C (ce : Nat → Nat) (aC : Nat → Int32) : Prop := ∀ b, b < 5 → ce b ≤ 4 ∧ aC b = nI (ce b)
def rz_Z (Z : vg_Z) (fcl fcap fle fre : Int32) (aC sS sF sT sN sV sD sZ sC cC cN cO : Nat → Int32) : Prop :=
  (fcl = nI Z.1 ∧ fcap = nI Z.2.1 ∧ fle = nI Z.2.2.1 ∧ fre = nI Z.2.2.2.1) ∧ rz_ok Z ∧ rz_C Z.2.2.2.2.1 aC ∧ rz_T Z.2.2.2.2.2 sS sF sT sN sV sD sZ sC cC cN cO
def rb_B (B : vg_B) (k v w l n c : Int32) (aV aC : Nat → Int32) : Prop :=
  k = B.1 ∧ v = B.2.1 ∧ w = B.2.2.1 ∧ l = B.2.2.2.1 ∧ n = B.2.2.2.2.1 ∧ c = B.2.2.2.2.2.1 ∧ aV = B.2.2.2.2.2.2.1 ∧ aC = B.2.2.2.2.2.2.2
/-- X's state u shows Z, H, the queue (hd, tl, Q) and the votes B -/
def sx_R (Z : vg_Z) (H : Nat → vg_R) (hd tl : Nat) (Q : Nat → vg_M) (B : vg_B) (u : SX) : Prop := match u with
  | (f_PREPARE, f_PREPARE_OK, f_GET_STATE, f_NEW_STATE, f_START_VIEW_CHANGE, f_DO_VIEW_CHANGE, f_GET_LOG, f_NEW_LOG, f_START_VIEW, f_clients, f_capacity, f_letters, f_restarts, f_mailHead, f_mailTail, f_acks, f_votes, f_bestVoter, f_bestLast, f_bestLength, f_bestCommit, a_status, a_view, a_last, a_nonce, a_cell, a_length, a_commit, a_logClient, a_logNumber, a_logOp, a_registers, a_tableNumber, a_tableResult, a_mailKind, a_mailFrom, a_mailTo, a_mailView, a_mailLast, a_mailCommit, a_mailLength, a_mailBase, a_mailCount, a_mailClient, a_mailNumber, a_mailOp, a_voted, a_voteCommit, a_slotState, a_slotFrom, a_slotTo, a_slotNonce, a_slotView, a_slotLeader, a_slotLength, a_slotCommit, a_slotClient, a_slotNumber, a_slotOp) => rz_Z Z f_clients f_capacity f_letters f_restarts a_cell a_slotState a_slotFrom a_slotTo a_slotNonce a_slotView a_slotLeader a_slotLength a_slotCommit a_slotClient a_slotNumber a_slotOp ∧
    rr_H H a_status a_view a_last a_nonce a_length a_commit a_logClient a_logNumber a_logOp a_registers a_tableNumber a_tableResult ∧
    rm_Q hd tl Q f_mailHead f_mailTail a_mailKind a_mailFrom a_mailTo a_mailView a_mailLast a_mailCommit a_mailLength a_mailBase a_mailCount a_mailClient a_mailNumber a_mailOp ∧
    rb_B B f_acks f_votes f_bestVoter f_bestLast f_bestLength f_bestCommit a_voted a_voteCommit
theorem sx_mk {f_PREPARE f_PREPARE_OK f_GET_STATE f_NEW_STATE f_START_VIEW_CHANGE f_DO_VIEW_CHANGE f_GET_LOG f_NEW_LOG f_START_VIEW f_clients f_capacity f_letters f_restarts f_mailHead f_mailTail f_acks f_votes f_bestVoter f_bestLast f_bestLength f_bestCommit : Int32} {a_status a_view a_last a_nonce a_cell a_length a_commit a_logClient a_logNumber a_logOp a_registers a_tableNumber a_tableResult a_mailKind a_mailFrom a_mailTo a_mailView a_mailLast a_mailCommit a_mailLength a_mailBase a_mailCount a_mailClient a_mailNumber a_mailOp a_voted a_voteCommit a_slotState a_slotFrom a_slotTo a_slotNonce a_slotView a_slotLeader a_slotLength a_slotCommit a_slotClient a_slotNumber a_slotOp : Nat → Int32} {Z : vg_Z} {H : Nat → vg_R} {hd tl : Nat} {Q : Nat → vg_M} {B : vg_B}
    (hZ : rz_Z Z f_clients f_capacity f_letters f_restarts a_cell a_slotState a_slotFrom a_slotTo a_slotNonce a_slotView a_slotLeader a_slotLength a_slotCommit a_slotClient a_slotNumber a_slotOp)
    (hR : rr_H H a_status a_view a_last a_nonce a_length a_commit a_logClient a_logNumber a_logOp a_registers a_tableNumber a_tableResult)
    (hM : rm_Q hd tl Q f_mailHead f_mailTail a_mailKind a_mailFrom a_mailTo a_mailView a_mailLast a_mailCommit a_mailLength a_mailBase a_mailCount a_mailClient a_mailNumber a_mailOp)
    (hB : rb_B B f_acks f_votes f_bestVoter f_bestLast f_bestLength f_bestCommit a_voted a_voteCommit) : sx_R Z H hd tl Q B (f_PREPARE, f_PREPARE_OK, f_GET_STATE, f_NEW_STATE, f_START_VIEW_CHANGE, f_DO_VIEW_CHANGE, f_GET_LOG, f_NEW_LOG, f_START_VIEW, f_clients, f_capacity, f_letters, f_restarts, f_mailHead, f_mailTail, f_acks, f_votes, f_bestVoter, f_bestLast, f_bestLength, f_bestCommit, a_status, a_view, a_last, a_nonce, a_cell, a_length, a_commit, a_logClient, a_logNumber, a_logOp, a_registers, a_tableNumber, a_tableResult, a_mailKind, a_mailFrom, a_mailTo, a_mailView, a_mailLast, a_mailCommit, a_mailLength, a_mailBase, a_mailCount, a_mailClient, a_mailNumber, a_mailOp, a_voted, a_voteCommit, a_slotState, a_slotFrom, a_slotTo, a_slotNonce, a_slotView, a_slotLeader, a_slotLength, a_slotCommit, a_slotClient, a_slotNumber, a_slotOp) := ⟨hZ, hR, hM, hB⟩
/-- take X's state apart -/
theorem sx_el {Z : vg_Z} {H : Nat → vg_R} {hd tl : Nat} {Q : Nat → vg_M} {B : vg_B} {P : SX → Prop}
    (h : ∀ (f_PREPARE f_PREPARE_OK f_GET_STATE f_NEW_STATE f_START_VIEW_CHANGE f_DO_VIEW_CHANGE f_GET_LOG f_NEW_LOG f_START_VIEW f_clients f_capacity f_letters f_restarts f_mailHead f_mailTail f_acks f_votes f_bestVoter f_bestLast f_bestLength f_bestCommit : Int32) (a_status a_view a_last a_nonce a_cell a_length a_commit a_logClient a_logNumber a_logOp a_registers a_tableNumber a_tableResult a_mailKind a_mailFrom a_mailTo a_mailView a_mailLast a_mailCommit a_mailLength a_mailBase a_mailCount a_mailClient a_mailNumber a_mailOp a_voted a_voteCommit a_slotState a_slotFrom a_slotTo a_slotNonce a_slotView a_slotLeader a_slotLength a_slotCommit a_slotClient a_slotNumber a_slotOp : Nat → Int32),
      rz_Z Z f_clients f_capacity f_letters f_restarts a_cell a_slotState a_slotFrom a_slotTo a_slotNonce a_slotView a_slotLeader a_slotLength a_slotCommit a_slotClient a_slotNumber a_slotOp →
      rr_H H a_status a_view a_last a_nonce a_length a_commit a_logClient a_logNumber a_logOp a_registers a_tableNumber a_tableResult →
      rm_Q hd tl Q f_mailHead f_mailTail a_mailKind a_mailFrom a_mailTo a_mailView a_mailLast a_mailCommit a_mailLength a_mailBase a_mailCount a_mailClient a_mailNumber a_mailOp →
      rb_B B f_acks f_votes f_bestVoter f_bestLast f_bestLength f_bestCommit a_voted a_voteCommit → P (f_PREPARE, f_PREPARE_OK, f_GET_STATE, f_NEW_STATE, f_START_VIEW_CHANGE, f_DO_VIEW_CHANGE, f_GET_LOG, f_NEW_LOG, f_START_VIEW, f_clients, f_capacity, f_letters, f_restarts, f_mailHead, f_mailTail, f_acks, f_votes, f_bestVoter, f_bestLast, f_bestLength, f_bestCommit, a_status, a_view, a_last, a_nonce, a_cell, a_length, a_commit, a_logClient, a_logNumber, a_logOp, a_registers, a_tableNumber, a_tableResult, a_mailKind, a_mailFrom, a_mailTo, a_mailView, a_mailLast, a_mailCommit, a_mailLength, a_mailBase, a_mailCount, a_mailClient, a_mailNumber, a_mailOp, a_voted, a_voteCommit, a_slotState, a_slotFrom, a_slotTo, a_slotNonce, a_slotView, a_slotLeader, a_slotLength, a_slotCommit, a_slotClient, a_slotNumber, a_slotOp)) {u : SX} (hu : sx_R Z H hd tl Q B u) : P u := by
  obtain ⟨f_PREPARE, f_PREPARE_OK, f_GET_STATE, f_NEW_STATE, f_START_VIEW_CHANGE, f_DO_VIEW_CHANGE, f_GET_LOG, f_NEW_LOG, f_START_VIEW, f_clients, f_capacity, f_letters, f_restarts, f_mailHead, f_mailTail, f_acks, f_votes, f_bestVoter, f_bestLast, f_bestLength, f_bestCommit, a_status, a_view, a_last, a_nonce, a_cell, a_length, a_commit, a_logClient, a_logNumber, a_logOp, a_registers, a_tableNumber, a_tableResult, a_mailKind, a_mailFrom, a_mailTo, a_mailView, a_mailLast, a_mailCommit, a_mailLength, a_mailBase, a_mailCount, a_mailClient, a_mailNumber, a_mailOp, a_voted, a_voteCommit, a_slotState, a_slotFrom, a_slotTo, a_slotNonce, a_slotView, a_slotLeader, a_slotLength, a_slotCommit, a_slotClient, a_slotNumber, a_slotOp⟩ := u
  exact h f_PREPARE f_PREPARE_OK f_GET_STATE f_NEW_STATE f_START_VIEW_CHANGE f_DO_VIEW_CHANGE f_GET_LOG f_NEW_LOG f_START_VIEW f_clients f_capacity f_letters f_restarts f_mailHead f_mailTail f_acks f_votes f_bestVoter f_bestLast f_bestLength f_bestCommit a_status a_view a_last a_nonce a_cell a_length a_commit a_logClient a_logNumber a_logOp a_registers a_tableNumber a_tableResult a_mailKind a_mailFrom a_mailTo a_mailView a_mailLast a_mailCommit a_mailLength a_mailBase a_mailCount a_mailClient a_mailNumber a_mailOp a_voted a_voteCommit a_slotState a_slotFrom a_slotTo a_slotNonce a_slotView a_slotLeader a_slotLength a_slotCommit a_slotClient a_slotNumber a_slotOp hu.1 hu.2.1 hu.2.2.1 hu.2.2.2
/-! Y's state -/
def ry_log (g : Nat → vg_E) (n h : Nat) (aG : Nat → Int32) : Prop :=
  ∀ i, i < n → aG ((h * 32 + i) * 3) = (g i).1 ∧ aG ((h * 32 + i) * 3 + 1) = (g i).2.1 ∧ aG ((h * 32 + i) * 3 + 2) = (g i).2.2
def ry_one (x : vg_R) (b : Nat) (sS sL aV aN aZ aC aG : Nat → Int32) : Prop :=
  (sS b = nI x.1 ∧ aV b = nI x.2.1 ∧ sL b = nI x.2.2.1 ∧ aN b = nI x.2.2.2.1 ∧ aZ b = nI x.2.2.2.2.1 ∧ aC b = nI x.2.2.2.2.2.1) ∧ ry_log x.2.2.2.2.2.2 x.2.2.2.2.1 b aG
def ry_H (H : Nat → vg_R) (sS sL aV aN aZ aC aG : Nat → Int32) : Prop :=
  ∀ b, b < 5 → rr_ok (H b) ∧ ry_one (H b) b sS sL aV aN aZ aC aG
def ry_lt (x : vg_L) (s : Nat) (tS tF tT tD aV aN aZ aC aG : Nat → Int32) : Prop :=
  (tS s = nI x.1 ∧ tF s = nI x.2.1 ∧ tT s = nI x.2.2.1 ∧ aN (5 + s) = nI x.2.2.2.1 ∧ aV (5 + s) = nI x.2.2.2.2.1 ∧ tD s = nI x.2.2.2.2.2.1 ∧ aZ (5 + s) = nI x.2.2.2.2.2.2.1 ∧ aC (5 + s) = nI x.2.2.2.2.2.2.2.1) ∧ ry_log x.2.2.2.2.2.2.2.2 x.2.2.2.2.2.2.1 (5 + s) aG
def ry_T (T : Nat → vg_L) (tS tF tT tD aV aN aZ aC aG : Nat → Int32) : Prop :=
  ∀ s, s < 8 → rt_ok (T s) ∧ ry_lt (T s) s tS tF tT tD aV aN aZ aC aG
def sy_R (Z : vg_Z) (H : Nat → vg_R) (M : Nat → Int32) (u : SY) : Prop := match u with
  | (f_clients, f_capacity, f_slots, f_restarts, a_status, a_last, a_cell, a_view, a_nonce, a_length, a_commit, a_log, a_state, a_from, a_to, a_leader, a_member) => ((f_clients = nI Z.1 ∧ f_capacity = nI Z.2.1 ∧ f_slots = nI Z.2.2.1 ∧ f_restarts = nI Z.2.2.2.1) ∧ rz_ok Z ∧ rz_C Z.2.2.2.2.1 a_cell) ∧
    ry_H H a_status a_last a_view a_nonce a_length a_commit a_log ∧
    ry_T Z.2.2.2.2.2 a_state a_from a_to a_leader a_view a_nonce a_length a_commit a_log ∧ a_member = M
theorem sy_mk {f_clients f_capacity f_slots f_restarts : Int32} {a_status a_last a_cell a_view a_nonce a_length a_commit a_log a_state a_from a_to a_leader a_member : Nat → Int32} {Z : vg_Z} {H : Nat → vg_R} {M : Nat → Int32}
    (hZ : (f_clients = nI Z.1 ∧ f_capacity = nI Z.2.1 ∧ f_slots = nI Z.2.2.1 ∧ f_restarts = nI Z.2.2.2.1) ∧ rz_ok Z ∧ rz_C Z.2.2.2.2.1 a_cell)
    (hH : ry_H H a_status a_last a_view a_nonce a_length a_commit a_log)
    (hT : ry_T Z.2.2.2.2.2 a_state a_from a_to a_leader a_view a_nonce a_length a_commit a_log) (hm : a_member = M) : sy_R Z H M (f_clients, f_capacity, f_slots, f_restarts, a_status, a_last, a_cell, a_view, a_nonce, a_length, a_commit, a_log, a_state, a_from, a_to, a_leader, a_member) := ⟨hZ, hH, hT, hm⟩
theorem sy_el {Z : vg_Z} {H : Nat → vg_R} {M : Nat → Int32} {P : SY → Prop}
    (h : ∀ (f_clients f_capacity f_slots f_restarts : Int32) (a_status a_last a_cell a_view a_nonce a_length a_commit a_log a_state a_from a_to a_leader a_member : Nat → Int32),
      ((f_clients = nI Z.1 ∧ f_capacity = nI Z.2.1 ∧ f_slots = nI Z.2.2.1 ∧ f_restarts = nI Z.2.2.2.1) ∧ rz_ok Z ∧ rz_C Z.2.2.2.2.1 a_cell) →
      ry_H H a_status a_last a_view a_nonce a_length a_commit a_log →
      ry_T Z.2.2.2.2.2 a_state a_from a_to a_leader a_view a_nonce a_length a_commit a_log → a_member = M → P (f_clients, f_capacity, f_slots, f_restarts, a_status, a_last, a_cell, a_view, a_nonce, a_length, a_commit, a_log, a_state, a_from, a_to, a_leader, a_member)) {u : SY} (hu : sy_R Z H M u) : P u := by
  obtain ⟨f_clients, f_capacity, f_slots, f_restarts, a_status, a_last, a_cell, a_view, a_nonce, a_length, a_commit, a_log, a_state, a_from, a_to, a_leader, a_member⟩ := u
  exact h f_clients f_capacity f_slots f_restarts a_status a_last a_cell a_view a_nonce a_length a_commit a_log a_state a_from a_to a_leader a_member hu.1 hu.2.1 hu.2.2.1 hu.2.2.2
end
section
/-! small pure notions -/
def vg_tch (H : Nat → vg_R) (ce : Nat → Nat) (a b : Nat) : Bool := decide (a ≠ b ∧ (H a).1 ≠ 3 ∧ (H b).1 ≠ 3 ∧ ce a = ce b)
def vg_act (x : vg_R) : Bool := decide (x.1 ≤ 1)
def vg_fol (H : Nat → vg_R) (ce : Nat → Nat) (p b : Nat) : Bool := vg_tch H ce p b && vg_act (H b) && decide ((H b).2.1 ≤ (H p).2.1)
def vg_mem (H : Nat → vg_R) (ce : Nat → Nat) (r w b : Nat) : Bool :=
  decide (b = r) || (vg_tch H ce r b && vg_act (H b) && decide ((H b).2.1 < w ∨ ((H b).1 = 1 ∧ (H b).2.1 = w)))
def cn_5 (f : Nat → Bool) : Nat := (f 0).toNat + (f 1).toNat + (f 2).toNat + (f 3).toNat + (f 4).toNat
theorem vg_tch_iff {H : Nat → vg_R} {ce : Nat → Nat} {a b : Nat} : vg_tch H ce a b = true ↔ (a ≠ b ∧ (H a).1 ≠ 3 ∧ (H b).1 ≠ 3 ∧ ce a = ce b) := decide_eq_true_iff
theorem vg_act_iff {x : vg_R} : vg_act x = true ↔ x.1 ≤ 1 := decide_eq_true_iff
theorem vg_fol_iff {H : Nat → vg_R} {ce : Nat → Nat} {p b : Nat} : vg_fol H ce p b = true ↔ ((p ≠ b ∧ (H p).1 ≠ 3 ∧ (H b).1 ≠ 3 ∧ ce p = ce b) ∧ (H b).1 ≤ 1 ∧ (H b).2.1 ≤ (H p).2.1) := by
  unfold vg_fol
  rw [Bool.and_eq_true, Bool.and_eq_true, vg_tch_iff, vg_act_iff, decide_eq_true_iff, and_assoc]
theorem vg_mem_iff {H : Nat → vg_R} {ce : Nat → Nat} {r w b : Nat} : vg_mem H ce r w b = true ↔ (b = r ∨ ((r ≠ b ∧ (H r).1 ≠ 3 ∧ (H b).1 ≠ 3 ∧ ce r = ce b) ∧ (H b).1 ≤ 1 ∧ ((H b).2.1 < w ∨ ((H b).1 = 1 ∧ (H b).2.1 = w)))) := by
  unfold vg_mem
  rw [Bool.or_eq_true, Bool.and_eq_true, Bool.and_eq_true, vg_tch_iff, vg_act_iff, decide_eq_true_iff, decide_eq_true_iff, and_assoc]
theorem cs_5 {P : Nat → Prop} (h0 : P 0) (h1 : P 1) (h2 : P 2) (h3 : P 3) (h4 : P 4) : ∀ b, b < 5 → P b
  | 0, _ => h0
  | 1, _ => h1
  | 2, _ => h2
  | 3, _ => h3
  | 4, _ => h4
  | n + 5, h => absurd h (by omega)
/-! indices -/
theorem ix_5 {b : Nat} (h : b < 5) : vp_in (nI b) 5 := vp_in_nI h (by decide)
theorem ix_8 {b : Nat} (h : b < 8) : vp_in (nI b) 8 := vp_in_nI h (by decide)
theorem ix_13 {b : Nat} (h : b < 13) : vp_in (nI b) 13 := vp_in_nI h (by decide)
theorem ix_32 {b : Nat} (h : b < 32) : vp_in (nI b) 32 := vp_in_nI h (by decide)
theorem ix_20 {b : Nat} (h : b < 20) : vp_in (nI b) 20 := vp_in_nI h (by decide)
theorem ix_160 {b : Nat} (h : b < 160) : vp_in (nI b) 160 := vp_in_nI h (by decide)
theorem ix_256 {b : Nat} (h : b < 256) : vp_in (nI b) 256 := vp_in_nI h (by decide)
theorem ix_1024 {b : Nat} (h : b < 1024) : vp_in (nI b) 1024 := vp_in_nI h (by decide)
theorem ix_1248 {b : Nat} (h : b < 1248) : vp_in (nI b) 1248 := vp_in_nI h (by decide)
theorem ix_c {b : Nat} (h : b < 2000) : (nI b).toNatClampNeg = b := nI_clamp (by omega)
theorem ix_m32 (b i : Nat) : nI b * 32 + nI i = nI (b * 32 + i) := by
  rw [show (32 : Int32) = nI 32 from rfl, pk_mul, nI_add]
theorem ix_m4 (b i : Nat) : nI b * 4 + nI i = nI (b * 4 + i) := by
  rw [show (4 : Int32) = nI 4 from rfl, pk_mul, nI_add]
theorem ix_p5 (s : Nat) : 5 + nI s = nI (5 + s) := by
  rw [show (5 : Int32) = nI 5 from rfl, nI_add]
theorem ix_r5 {v : Nat} (h : v ≤ 999) : nI v - nI v / 5 * 5 = nI (v % 5) := pk_rem (d := 5) (by omega) (by decide) (by decide)
/-- an array read at nI b -/
theorem ix_rd {α : Type} {f : Nat → α} {b : Nat} {v : α} (h : b < 2000) (e : f b = v) : f (nI b).toNatClampNeg = v := by rw [ix_c h, e]
theorem ix_u {f : Nat → Int32} {b : Nat} {v : Int32} (h : b < 2000) : upd f (nI b).toNatClampNeg v = upd f b v := by rw [ix_c h]
/-- b * n + i below the next b's -/
theorem ix_sep32 {b b' i i' : Nat} (h : b ≠ b') (hi : i < 32) (hi' : i' < 32) : b * 32 + i ≠ b' * 32 + i' := by omega
theorem ix_sep4 {b b' i i' : Nat} (h : b ≠ b') (hi : i < 4) (hi' : i' < 4) : b * 4 + i ≠ b' * 4 + i' := by omega
end
section
/-! X: the small tests and stores -/
theorem sx_cs {P : SX → Prop} (h : ∀ (f_PREPARE f_PREPARE_OK f_GET_STATE f_NEW_STATE f_START_VIEW_CHANGE f_DO_VIEW_CHANGE f_GET_LOG f_NEW_LOG f_START_VIEW f_clients f_capacity f_letters f_restarts f_mailHead f_mailTail f_acks f_votes f_bestVoter f_bestLast f_bestLength f_bestCommit : Int32) (a_status a_view a_last a_nonce a_cell a_length a_commit a_logClient a_logNumber a_logOp a_registers a_tableNumber a_tableResult a_mailKind a_mailFrom a_mailTo a_mailView a_mailLast a_mailCommit a_mailLength a_mailBase a_mailCount a_mailClient a_mailNumber a_mailOp a_voted a_voteCommit a_slotState a_slotFrom a_slotTo a_slotNonce a_slotView a_slotLeader a_slotLength a_slotCommit a_slotClient a_slotNumber a_slotOp : Nat → Int32), P (f_PREPARE, f_PREPARE_OK, f_GET_STATE, f_NEW_STATE, f_START_VIEW_CHANGE, f_DO_VIEW_CHANGE, f_GET_LOG, f_NEW_LOG, f_START_VIEW, f_clients, f_capacity, f_letters, f_restarts, f_mailHead, f_mailTail, f_acks, f_votes, f_bestVoter, f_bestLast, f_bestLength, f_bestCommit, a_status, a_view, a_last, a_nonce, a_cell, a_length, a_commit, a_logClient, a_logNumber, a_logOp, a_registers, a_tableNumber, a_tableResult, a_mailKind, a_mailFrom, a_mailTo, a_mailView, a_mailLast, a_mailCommit, a_mailLength, a_mailBase, a_mailCount, a_mailClient, a_mailNumber, a_mailOp, a_voted, a_voteCommit, a_slotState, a_slotFrom, a_slotTo, a_slotNonce, a_slotView, a_slotLeader, a_slotLength, a_slotCommit, a_slotClient, a_slotNumber, a_slotOp)) (u : SX) : P u := by
  obtain ⟨f_PREPARE, f_PREPARE_OK, f_GET_STATE, f_NEW_STATE, f_START_VIEW_CHANGE, f_DO_VIEW_CHANGE, f_GET_LOG, f_NEW_LOG, f_START_VIEW, f_clients, f_capacity, f_letters, f_restarts, f_mailHead, f_mailTail, f_acks, f_votes, f_bestVoter, f_bestLast, f_bestLength, f_bestCommit, a_status, a_view, a_last, a_nonce, a_cell, a_length, a_commit, a_logClient, a_logNumber, a_logOp, a_registers, a_tableNumber, a_tableResult, a_mailKind, a_mailFrom, a_mailTo, a_mailView, a_mailLast, a_mailCommit, a_mailLength, a_mailBase, a_mailCount, a_mailClient, a_mailNumber, a_mailOp, a_voted, a_voteCommit, a_slotState, a_slotFrom, a_slotTo, a_slotNonce, a_slotView, a_slotLeader, a_slotLength, a_slotCommit, a_slotClient, a_slotNumber, a_slotOp⟩ := u
  exact h f_PREPARE f_PREPARE_OK f_GET_STATE f_NEW_STATE f_START_VIEW_CHANGE f_DO_VIEW_CHANGE f_GET_LOG f_NEW_LOG f_START_VIEW f_clients f_capacity f_letters f_restarts f_mailHead f_mailTail f_acks f_votes f_bestVoter f_bestLast f_bestLength f_bestCommit a_status a_view a_last a_nonce a_cell a_length a_commit a_logClient a_logNumber a_logOp a_registers a_tableNumber a_tableResult a_mailKind a_mailFrom a_mailTo a_mailView a_mailLast a_mailCommit a_mailLength a_mailBase a_mailCount a_mailClient a_mailNumber a_mailOp a_voted a_voteCommit a_slotState a_slotFrom a_slotTo a_slotNonce a_slotView a_slotLeader a_slotLength a_slotCommit a_slotClient a_slotNumber a_slotOp
theorem xm_rep_t {post : Int32 → Prop} {u : SX} {b : Nat} (hb : b < 5) (h : post 1) : wpX_isReplica post u (nI b) := by
  refine sx_cs (P := fun u => wpX_isReplica post u (nI b)) ?_ u
  intro f_PREPARE f_PREPARE_OK f_GET_STATE f_NEW_STATE f_START_VIEW_CHANGE f_DO_VIEW_CHANGE f_GET_LOG f_NEW_LOG f_START_VIEW f_clients f_capacity f_letters f_restarts f_mailHead f_mailTail f_acks f_votes f_bestVoter f_bestLast f_bestLength f_bestCommit a_status a_view a_last a_nonce a_cell a_length a_commit a_logClient a_logNumber a_logOp a_registers a_tableNumber a_tableResult a_mailKind a_mailFrom a_mailTo a_mailView a_mailLast a_mailCommit a_mailLength a_mailBase a_mailCount a_mailClient a_mailNumber a_mailOp a_voted a_voteCommit a_slotState a_slotFrom a_slotTo a_slotNonce a_slotView a_slotLeader a_slotLength a_slotCommit a_slotClient a_slotNumber a_slotOp
  exact br_f (nI_pos (by omega)) (br_f (lt5' b hb) h)
theorem xm_rep_f {post : Int32 → Prop} {u : SX} {x : Int32} (hx : x < 0 ∨ nI 5 ≤ x) (h : post 0) : wpX_isReplica post u x := by
  refine sx_cs (P := fun u => wpX_isReplica post u x) ?_ u
  intro f_PREPARE f_PREPARE_OK f_GET_STATE f_NEW_STATE f_START_VIEW_CHANGE f_DO_VIEW_CHANGE f_GET_LOG f_NEW_LOG f_START_VIEW f_clients f_capacity f_letters f_restarts f_mailHead f_mailTail f_acks f_votes f_bestVoter f_bestLast f_bestLength f_bestCommit a_status a_view a_last a_nonce a_cell a_length a_commit a_logClient a_logNumber a_logOp a_registers a_tableNumber a_tableResult a_mailKind a_mailFrom a_mailTo a_mailView a_mailLast a_mailCommit a_mailLength a_mailBase a_mailCount a_mailClient a_mailNumber a_mailOp a_voted a_voteCommit a_slotState a_slotFrom a_slotTo a_slotNonce a_slotView a_slotLeader a_slotLength a_slotCommit a_slotClient a_slotNumber a_slotOp
  exact br_c (fun _ => h) (fun n => br_t (hx.resolve_left n) h)
theorem xm_cl_t {Z : vg_Z} {H : Nat → vg_R} {hd tl : Nat} {Q : Nat → vg_M} {B : vg_B} {post : Int32 → Prop} {u : SX} (hu : sx_R Z H hd tl Q B u) {b : Nat} (hb : b < Z.1) (h : post 1) : wpX_isClient post u (nI b) := by
  refine sx_el (P := fun u => wpX_isClient post u (nI b)) ?_ hu
  intro f_PREPARE f_PREPARE_OK f_GET_STATE f_NEW_STATE f_START_VIEW_CHANGE f_DO_VIEW_CHANGE f_GET_LOG f_NEW_LOG f_START_VIEW f_clients f_capacity f_letters f_restarts f_mailHead f_mailTail f_acks f_votes f_bestVoter f_bestLast f_bestLength f_bestCommit a_status a_view a_last a_nonce a_cell a_length a_commit a_logClient a_logNumber a_logOp a_registers a_tableNumber a_tableResult a_mailKind a_mailFrom a_mailTo a_mailView a_mailLast a_mailCommit a_mailLength a_mailBase a_mailCount a_mailClient a_mailNumber a_mailOp a_voted a_voteCommit a_slotState a_slotFrom a_slotTo a_slotNonce a_slotView a_slotLeader a_slotLength a_slotCommit a_slotClient a_slotNumber a_slotOp hZ hR hM hB
  have := hZ.2.1
  unfold rz_ok at this
  exact br_f (nI_pos (by omega)) (br_f (by rw [hZ.1.1]; exact nI_ge hb (by omega)) h)
theorem xm_cl_f {Z : vg_Z} {H : Nat → vg_R} {hd tl : Nat} {Q : Nat → vg_M} {B : vg_B} {post : Int32 → Prop} {u : SX} (hu : sx_R Z H hd tl Q B u) {x : Int32} (hx : x < 0 ∨ nI Z.1 ≤ x) (h : post 0) : wpX_isClient post u x := by
  refine sx_el (P := fun u => wpX_isClient post u x) ?_ hu
  intro f_PREPARE f_PREPARE_OK f_GET_STATE f_NEW_STATE f_START_VIEW_CHANGE f_DO_VIEW_CHANGE f_GET_LOG f_NEW_LOG f_START_VIEW f_clients f_capacity f_letters f_restarts f_mailHead f_mailTail f_acks f_votes f_bestVoter f_bestLast f_bestLength f_bestCommit a_status a_view a_last a_nonce a_cell a_length a_commit a_logClient a_logNumber a_logOp a_registers a_tableNumber a_tableResult a_mailKind a_mailFrom a_mailTo a_mailView a_mailLast a_mailCommit a_mailLength a_mailBase a_mailCount a_mailClient a_mailNumber a_mailOp a_voted a_voteCommit a_slotState a_slotFrom a_slotTo a_slotNonce a_slotView a_slotLeader a_slotLength a_slotCommit a_slotClient a_slotNumber a_slotOp hZ hR hM hB
  exact br_c (fun _ => h) (fun n => br_t (by rw [hZ.1.1]; exact hx.resolve_left n) h)
theorem xm_sl_t {Z : vg_Z} {H : Nat → vg_R} {hd tl : Nat} {Q : Nat → vg_M} {B : vg_B} {post : Int32 → Prop} {u : SX} (hu : sx_R Z H hd tl Q B u) {b : Nat} (hb : b < Z.2.2.1) (h : post 1) : wpX_isSlot post u (nI b) := by
  refine sx_el (P := fun u => wpX_isSlot post u (nI b)) ?_ hu
  intro f_PREPARE f_PREPARE_OK f_GET_STATE f_NEW_STATE f_START_VIEW_CHANGE f_DO_VIEW_CHANGE f_GET_LOG f_NEW_LOG f_START_VIEW f_clients f_capacity f_letters f_restarts f_mailHead f_mailTail f_acks f_votes f_bestVoter f_bestLast f_bestLength f_bestCommit a_status a_view a_last a_nonce a_cell a_length a_commit a_logClient a_logNumber a_logOp a_registers a_tableNumber a_tableResult a_mailKind a_mailFrom a_mailTo a_mailView a_mailLast a_mailCommit a_mailLength a_mailBase a_mailCount a_mailClient a_mailNumber a_mailOp a_voted a_voteCommit a_slotState a_slotFrom a_slotTo a_slotNonce a_slotView a_slotLeader a_slotLength a_slotCommit a_slotClient a_slotNumber a_slotOp hZ hR hM hB
  have := hZ.2.1
  unfold rz_ok at this
  exact br_f (nI_pos (by omega)) (br_f (by rw [hZ.1.2.2.1]; exact nI_ge hb (by omega)) h)
theorem xm_sl_f {Z : vg_Z} {H : Nat → vg_R} {hd tl : Nat} {Q : Nat → vg_M} {B : vg_B} {post : Int32 → Prop} {u : SX} (hu : sx_R Z H hd tl Q B u) {x : Int32} (hx : x < 0 ∨ nI Z.2.2.1 ≤ x) (h : post 0) : wpX_isSlot post u x := by
  refine sx_el (P := fun u => wpX_isSlot post u x) ?_ hu
  intro f_PREPARE f_PREPARE_OK f_GET_STATE f_NEW_STATE f_START_VIEW_CHANGE f_DO_VIEW_CHANGE f_GET_LOG f_NEW_LOG f_START_VIEW f_clients f_capacity f_letters f_restarts f_mailHead f_mailTail f_acks f_votes f_bestVoter f_bestLast f_bestLength f_bestCommit a_status a_view a_last a_nonce a_cell a_length a_commit a_logClient a_logNumber a_logOp a_registers a_tableNumber a_tableResult a_mailKind a_mailFrom a_mailTo a_mailView a_mailLast a_mailCommit a_mailLength a_mailBase a_mailCount a_mailClient a_mailNumber a_mailOp a_voted a_voteCommit a_slotState a_slotFrom a_slotTo a_slotNonce a_slotView a_slotLeader a_slotLength a_slotCommit a_slotClient a_slotNumber a_slotOp hZ hR hM hB
  exact br_c (fun _ => h) (fun n => br_t (by rw [hZ.1.2.2.1]; exact hx.resolve_left n) h)
section
variable {Z : vg_Z} {H : Nat → vg_R} {hd tl : Nat} {Q : Nat → vg_M} {B : vg_B} {post : Int32 → Prop} {u : SX}
theorem xm_act (hu : sx_R Z H hd tl Q B u) {b : Nat} (hb : b < 5) (h1 : (H b).1 ≤ 1 → post 1) (h0 : 1 < (H b).1 → post 0) : wpX_isActive post u (nI b) := by
  refine sx_el (P := fun u => wpX_isActive post u (nI b)) ?_ hu
  intro f_PREPARE f_PREPARE_OK f_GET_STATE f_NEW_STATE f_START_VIEW_CHANGE f_DO_VIEW_CHANGE f_GET_LOG f_NEW_LOG f_START_VIEW f_clients f_capacity f_letters f_restarts f_mailHead f_mailTail f_acks f_votes f_bestVoter f_bestLast f_bestLength f_bestCommit a_status a_view a_last a_nonce a_cell a_length a_commit a_logClient a_logNumber a_logOp a_registers a_tableNumber a_tableResult a_mailKind a_mailFrom a_mailTo a_mailView a_mailLast a_mailCommit a_mailLength a_mailBase a_mailCount a_mailClient a_mailNumber a_mailOp a_voted a_voteCommit a_slotState a_slotFrom a_slotTo a_slotNonce a_slotView a_slotLeader a_slotLength a_slotCommit a_slotClient a_slotNumber a_slotOp hZ hR hM hB
  obtain ⟨⟨ok, _⟩, ⟨eS, _⟩, _⟩ := hR b hb
  have e : a_status (nI b).toNatClampNeg = nI (H b).1 := ix_rd (by omega) eS
  exact ⟨ix_5 hb, pk_eq (H b).1 0 (fun z => h1 (by omega)) (fun z => ⟨ix_5 hb, pk_eq (H b).1 1 (fun z => h1 (by omega)) (fun z2 => h0 (by omega)) (hx := e)⟩) (hx := e)⟩
theorem xm_leads (hu : sx_R Z H hd tl Q B u) {b : Nat} (hb : b < 5) (h1 : (H b).2.1 % 5 = b → post 1) (h0 : (H b).2.1 % 5 ≠ b → post 0) : wpX_leads post u (nI b) := by
  refine sx_el (P := fun u => wpX_leads post u (nI b)) ?_ hu
  intro f_PREPARE f_PREPARE_OK f_GET_STATE f_NEW_STATE f_START_VIEW_CHANGE f_DO_VIEW_CHANGE f_GET_LOG f_NEW_LOG f_START_VIEW f_clients f_capacity f_letters f_restarts f_mailHead f_mailTail f_acks f_votes f_bestVoter f_bestLast f_bestLength f_bestCommit a_status a_view a_last a_nonce a_cell a_length a_commit a_logClient a_logNumber a_logOp a_registers a_tableNumber a_tableResult a_mailKind a_mailFrom a_mailTo a_mailView a_mailLast a_mailCommit a_mailLength a_mailBase a_mailCount a_mailClient a_mailNumber a_mailOp a_voted a_voteCommit a_slotState a_slotFrom a_slotTo a_slotNonce a_slotView a_slotLeader a_slotLength a_slotCommit a_slotClient a_slotNumber a_slotOp hZ hR hM hB
  obtain ⟨⟨ok, _⟩, ⟨eS, eV, _⟩, _⟩ := hR b hb
  have e : a_view (nI b).toNatClampNeg = nI (H b).2.1 := ix_rd (by omega) eV
  refine ⟨ix_5 hb, by decide, ?_⟩
  rw [e]
  exact pk_eq ((H b).2.1 % 5) b h1 h0 (hx := ix_r5 (by omega))
theorem xm_touch (hu : sx_R Z H hd tl Q B u) {a b : Nat} (ha : a < 5) (hb : b < 5) (h1 : vg_tch H Z.2.2.2.2.1 a b = true → post 1) (h0 : vg_tch H Z.2.2.2.2.1 a b = false → post 0) : wpX_inTouch post u (nI a) (nI b) := by
  refine sx_el (P := fun u => wpX_inTouch post u (nI a) (nI b)) ?_ hu
  intro f_PREPARE f_PREPARE_OK f_GET_STATE f_NEW_STATE f_START_VIEW_CHANGE f_DO_VIEW_CHANGE f_GET_LOG f_NEW_LOG f_START_VIEW f_clients f_capacity f_letters f_restarts f_mailHead f_mailTail f_acks f_votes f_bestVoter f_bestLast f_bestLength f_bestCommit a_status a_view a_last a_nonce a_cell a_length a_commit a_logClient a_logNumber a_logOp a_registers a_tableNumber a_tableResult a_mailKind a_mailFrom a_mailTo a_mailView a_mailLast a_mailCommit a_mailLength a_mailBase a_mailCount a_mailClient a_mailNumber a_mailOp a_voted a_voteCommit a_slotState a_slotFrom a_slotTo a_slotNonce a_slotView a_slotLeader a_slotLength a_slotCommit a_slotClient a_slotNumber a_slotOp hZ hR hM hB
  obtain ⟨⟨oka, _⟩, ⟨eSa, _⟩, _⟩ := hR a ha
  obtain ⟨⟨okb, _⟩, ⟨eSb, _⟩, _⟩ := hR b hb
  obtain ⟨ca, eCa⟩ := hZ.2.2.1 a ha
  obtain ⟨cb, eCb⟩ := hZ.2.2.1 b hb
  have e1 : a_status (nI a).toNatClampNeg = nI (H a).1 := ix_rd (by omega) eSa
  have e2 : a_status (nI b).toNatClampNeg = nI (H b).1 := ix_rd (by omega) eSb
  have e3 : a_cell (nI a).toNatClampNeg = nI (Z.2.2.2.2.1 a) := ix_rd (by omega) eCa
  have e4 : a_cell (nI b).toNatClampNeg = nI (Z.2.2.2.2.1 b) := ix_rd (by omega) eCb
  have no : ¬ (a ≠ b ∧ (H a).1 ≠ 3 ∧ (H b).1 ≠ 3 ∧ Z.2.2.2.2.1 a = Z.2.2.2.2.1 b) → post 0 := fun z => h0 (by
    cases hc : vg_tch H Z.2.2.2.2.1 a b
    · rfl
    · exact absurd (vg_tch_iff.mp hc) z)
  exact pk_eq a b (fun z => no (by omega)) (fun z => ⟨ix_5 ha, pk_eq (H a).1 3 (fun z => no (by omega)) (fun z2 => ⟨ix_5 hb, pk_eq (H b).1 3 (fun z => no (by omega)) (fun z3 => ⟨ix_5 ha, ix_5 hb, pk_eq (Z.2.2.2.2.1 a) (Z.2.2.2.2.1 b) (fun z4 => h1 (vg_tch_iff.mpr ⟨z, z2, z3, z4⟩)) (fun z4 => no (fun q => z4 q.2.2.2)) (hx := e3) (hy := e4)⟩) (hx := e2)⟩) (hx := e1)⟩)
theorem xm_held (hu : sx_R Z H hd tl Q B u) {s r : Nat} (hs : s < 8) (hr : r < 5) (h1 : (Z.2.2.2.2.2 s).1 = 2 ∧ (Z.2.2.2.2.2 s).2.2.1 = r → post 1) (h0 : ¬ ((Z.2.2.2.2.2 s).1 = 2 ∧ (Z.2.2.2.2.2 s).2.2.1 = r) → post 0) : wpX_isHeldBy post u (nI s) (nI r) := by
  refine sx_el (P := fun u => wpX_isHeldBy post u (nI s) (nI r)) ?_ hu
  intro f_PREPARE f_PREPARE_OK f_GET_STATE f_NEW_STATE f_START_VIEW_CHANGE f_DO_VIEW_CHANGE f_GET_LOG f_NEW_LOG f_START_VIEW f_clients f_capacity f_letters f_restarts f_mailHead f_mailTail f_acks f_votes f_bestVoter f_bestLast f_bestLength f_bestCommit a_status a_view a_last a_nonce a_cell a_length a_commit a_logClient a_logNumber a_logOp a_registers a_tableNumber a_tableResult a_mailKind a_mailFrom a_mailTo a_mailView a_mailLast a_mailCommit a_mailLength a_mailBase a_mailCount a_mailClient a_mailNumber a_mailOp a_voted a_voteCommit a_slotState a_slotFrom a_slotTo a_slotNonce a_slotView a_slotLeader a_slotLength a_slotCommit a_slotClient a_slotNumber a_slotOp hZ hR hM hB
  obtain ⟨⟨ok, _⟩, ⟨eS, eF, eT, _⟩, _⟩ := hZ.2.2.2 s hs
  have e1 : a_slotState (nI s).toNatClampNeg = nI (Z.2.2.2.2.2 s).1 := ix_rd (by omega) eS
  have e2 : a_slotTo (nI s).toNatClampNeg = nI (Z.2.2.2.2.2 s).2.2.1 := ix_rd (by omega) eT
  exact ⟨ix_8 hs, pk_eq (Z.2.2.2.2.2 s).1 2 (fun z => ⟨ix_8 hs, pk_eq (Z.2.2.2.2.2 s).2.2.1 r (fun z2 => h1 ⟨z, z2⟩) (fun z2 => h0 (fun q => z2 q.2)) (hx := e2)⟩) (fun z => h0 (fun q => z q.1)) (hx := e1)⟩
end
/-- H with b's row replaced: what is to be shown -/
theorem rr_set {H : Nat → vg_R} {b : Nat} {x : vg_R} {sS sV sL sN sZ sC lC lN lO rg tN tR sS' sV' sL' sN' sZ' sC' lC' lN' lO' rg' tN' tR' : Nat → Int32}
    (h : rr_H H sS sV sL sN sZ sC lC lN lO rg tN tR) (ok : rr_ok x) (hx : rr_one x b sS' sV' sL' sN' sZ' sC' lC' lN' lO' rg' tN' tR')
    (f1 : ∀ j, j ≠ b → sS' j = sS j ∧ sV' j = sV j ∧ sL' j = sL j ∧ sN' j = sN j ∧ sZ' j = sZ j ∧ sC' j = sC j)
    (f2 : ∀ j, (j < b * 32 ∨ b * 32 + 32 ≤ j) → lC' j = lC j ∧ lN' j = lN j ∧ lO' j = lO j)
    (f3 : ∀ j, (j < b * 4 ∨ b * 4 + 4 ≤ j) → rg' j = rg j ∧ tN' j = tN j ∧ tR' j = tR j) :
    rr_H (fs_set H b x) sS' sV' sL' sN' sZ' sC' lC' lN' lO' rg' tN' tR' := by
  intro c hc
  by_cases e : c = b
  · subst e
    rw [fs_eq]
    exact ⟨ok, hx⟩
  · rw [fs_ne e]
    obtain ⟨okc, ⟨e1, e2, e3, e4, e5, e6⟩, l, r⟩ := h c hc
    obtain ⟨g1, g2, g3, g4, g5, g6⟩ := f1 c e
    refine ⟨okc, ⟨g1.trans e1, g2.trans e2, g3.trans e3, g4.trans e4, g5.trans e5, g6.trans e6⟩, ?_, ?_⟩
    · intro i hi
      have := okc.1
      obtain ⟨k1, k2, k3⟩ := f2 (c * 32 + i) (by omega)
      obtain ⟨m1, m2, m3⟩ := l i hi
      exact ⟨k1.trans m1, k2.trans m2, k3.trans m3⟩
    · intro i hi
      obtain ⟨k1, k2, k3⟩ := f3 (c * 4 + i) (by omega)
      obtain ⟨m1, m2, m3⟩ := r i hi
      exact ⟨k1.trans m1, k2.trans m2, k3.trans m3⟩
section
variable {Z : vg_Z} {H : Nat → vg_R} {hd tl : Nat} {Q : Nat → vg_M} {B : vg_B} {post : SX → Prop} {u : SX}
theorem xm_enter (hu : sx_R Z H hd tl Q B u) {b v : Nat} (hb : b < 5) (hv : v ≤ 999)
    (hp : ∀ u', sx_R Z (fs_set H b (0, v, v, (H b).2.2.2.1, (H b).2.2.2.2.1, (H b).2.2.2.2.2.1, (H b).2.2.2.2.2.2)) hd tl Q B u' → post u') : wpX_enterView post u (nI b) (nI v) := by
  refine sx_el (P := fun u => wpX_enterView post u (nI b) (nI v)) ?_ hu
  intro f_PREPARE f_PREPARE_OK f_GET_STATE f_NEW_STATE f_START_VIEW_CHANGE f_DO_VIEW_CHANGE f_GET_LOG f_NEW_LOG f_START_VIEW f_clients f_capacity f_letters f_restarts f_mailHead f_mailTail f_acks f_votes f_bestVoter f_bestLast f_bestLength f_bestCommit a_status a_view a_last a_nonce a_cell a_length a_commit a_logClient a_logNumber a_logOp a_registers a_tableNumber a_tableResult a_mailKind a_mailFrom a_mailTo a_mailView a_mailLast a_mailCommit a_mailLength a_mailBase a_mailCount a_mailClient a_mailNumber a_mailOp a_voted a_voteCommit a_slotState a_slotFrom a_slotTo a_slotNonce a_slotView a_slotLeader a_slotLength a_slotCommit a_slotClient a_slotNumber a_slotOp hZ hR hM hB
  refine ⟨ix_5 hb, nm_e ⟨ix_5 hb, nm_e ⟨ix_5 hb, nm_e (hp _ (sx_mk hZ ?_ hM hB))⟩⟩⟩
  rw [ix_u (by omega), ix_u (by omega), ix_u (by omega)]
  obtain ⟨ok, ⟨e1, e2, e3, e4, e5, e6⟩, l, r⟩ := hR b hb
  refine rr_set hR ⟨by have := ok.1; dsimp only; omega, ok.2⟩ ⟨⟨pk_us, pk_us, pk_us, e4, e5, e6⟩, l, r⟩ ?_ ?_ ?_
  · exact fun j hj => ⟨pk_un hj, pk_un hj, pk_un hj, rfl, rfl, rfl⟩
  · exact fun j hj => ⟨rfl, rfl, rfl⟩
  · exact fun j hj => ⟨rfl, rfl, rfl⟩
theorem xm_leave (hu : sx_R Z H hd tl Q B u) {b v : Nat} (hb : b < 5) (hv : v ≤ 999)
    (hp : ∀ u', sx_R Z (fs_set H b (1, v, (H b).2.2.1, (H b).2.2.2.1, (H b).2.2.2.2.1, (H b).2.2.2.2.2.1, (H b).2.2.2.2.2.2)) hd tl Q B u' → post u') : wpX_leaveView post u (nI b) (nI v) := by
  refine sx_el (P := fun u => wpX_leaveView post u (nI b) (nI v)) ?_ hu
  intro f_PREPARE f_PREPARE_OK f_GET_STATE f_NEW_STATE f_START_VIEW_CHANGE f_DO_VIEW_CHANGE f_GET_LOG f_NEW_LOG f_START_VIEW f_clients f_capacity f_letters f_restarts f_mailHead f_mailTail f_acks f_votes f_bestVoter f_bestLast f_bestLength f_bestCommit a_status a_view a_last a_nonce a_cell a_length a_commit a_logClient a_logNumber a_logOp a_registers a_tableNumber a_tableResult a_mailKind a_mailFrom a_mailTo a_mailView a_mailLast a_mailCommit a_mailLength a_mailBase a_mailCount a_mailClient a_mailNumber a_mailOp a_voted a_voteCommit a_slotState a_slotFrom a_slotTo a_slotNonce a_slotView a_slotLeader a_slotLength a_slotCommit a_slotClient a_slotNumber a_slotOp hZ hR hM hB
  refine ⟨ix_5 hb, nm_e ⟨ix_5 hb, nm_e (hp _ (sx_mk hZ ?_ hM hB))⟩⟩
  rw [ix_u (by omega), ix_u (by omega)]
  obtain ⟨ok, ⟨e1, e2, e3, e4, e5, e6⟩, l, r⟩ := hR b hb
  refine rr_set hR ⟨by have := ok.1; dsimp only; omega, ok.2⟩ ⟨⟨pk_us, pk_us, e3, e4, e5, e6⟩, l, r⟩ ?_ ?_ ?_
  · exact fun j hj => ⟨pk_un hj, pk_un hj, rfl, rfl, rfl, rfl⟩
  · exact fun j hj => ⟨rfl, rfl, rfl⟩
  · exact fun j hj => ⟨rfl, rfl, rfl⟩
theorem xm_append (hu : sx_R Z H hd tl Q B u) {b k : Nat} {n o : Int32} (hb : b < 5) (hk : k < 4) (hl : (H b).2.2.2.2.1 < 32)
    (hp : ∀ u', sx_R Z (fs_set H b ((H b).1, (H b).2.1, (H b).2.2.1, (H b).2.2.2.1, (H b).2.2.2.2.1 + 1, (H b).2.2.2.2.2.1, fs_set (H b).2.2.2.2.2.2 (H b).2.2.2.2.1 (nI k, n, o))) hd tl Q B u' → post u') : wpX_append post u (nI b) (nI k) n o := by
  refine sx_el (P := fun u => wpX_append post u (nI b) (nI k) n o) ?_ hu
  intro f_PREPARE f_PREPARE_OK f_GET_STATE f_NEW_STATE f_START_VIEW_CHANGE f_DO_VIEW_CHANGE f_GET_LOG f_NEW_LOG f_START_VIEW f_clients f_capacity f_letters f_restarts f_mailHead f_mailTail f_acks f_votes f_bestVoter f_bestLast f_bestLength f_bestCommit a_status a_view a_last a_nonce a_cell a_length a_commit a_logClient a_logNumber a_logOp a_registers a_tableNumber a_tableResult a_mailKind a_mailFrom a_mailTo a_mailView a_mailLast a_mailCommit a_mailLength a_mailBase a_mailCount a_mailClient a_mailNumber a_mailOp a_voted a_voteCommit a_slotState a_slotFrom a_slotTo a_slotNonce a_slotView a_slotLeader a_slotLength a_slotCommit a_slotClient a_slotNumber a_slotOp hZ hR hM hB
  obtain ⟨ok, ⟨e1, e2, e3, e4, e5, e6⟩, l, r⟩ := hR b hb
  have e : nI b * 32 + a_length (nI b).toNatClampNeg = nI (b * 32 + (H b).2.2.2.2.1) := by rw [ix_rd (by omega) e5, ix_m32]
  have ii : vp_in (nI (b * 32 + (H b).2.2.2.2.1)) 160 := ix_160 (by omega)
  refine ⟨ix_5 hb, nm_r e ⟨ii, nm_e ⟨ii, nm_e ⟨ii, nm_e ⟨ix_5 hb, ix_5 hb, nm_e (hp _ (sx_mk hZ ?_ hM hB))⟩⟩⟩⟩⟩
  rw [ix_u (by omega), ix_u (by omega), ix_u (by omega), ix_u (by omega), ix_rd (by omega) e5, nI_1]
  have ok1 := ok.1
  refine rr_set hR ⟨by dsimp only; omega, ?_⟩ ⟨⟨e1, e2, e3, e4, pk_us, e6⟩, ?_, ?_⟩ ?_ ?_ ?_
  · intro i hi
    dsimp only at hi ⊢
    by_cases h : i = (H b).2.2.2.2.1
    · subst h
      rw [fs_eq]
      exact ⟨k, hk, rfl⟩
    · rw [fs_ne h]
      exact ok.2 i (by omega)
  · intro i hi
    dsimp only at hi ⊢
    by_cases h : i = (H b).2.2.2.2.1
    · subst h
      rw [fs_eq, pk_us, pk_us, pk_us]
      exact ⟨rfl, rfl, rfl⟩
    · rw [fs_ne h, pk_un (by omega), pk_un (by omega), pk_un (by omega)]
      exact l i (by omega)
  · intro i hi
    dsimp only
    have c : ∀ j, j < (H b).2.2.2.2.2.1 → (H b).2.2.2.2.2.2 j = fs_set (H b).2.2.2.2.2.2 (H b).2.2.2.2.1 (nI k, n, o) j := fun j hj => (fs_ne (by omega)).symm
    rw [← vl_val_c c, ← vl_num_c c, ← vl_rs_c c]
    exact r i hi
  · exact fun j hj => ⟨rfl, rfl, rfl, rfl, pk_un hj, rfl⟩
  · exact fun j hj => ⟨pk_un (by omega), pk_un (by omega), pk_un (by omega)⟩
  · exact fun j hj => ⟨rfl, rfl, rfl⟩
end
end
section
/-! X: execution -/
theorem fs_id {α : Type} (f : Nat → α) (b : Nat) : fs_set f b (f b) = f := by
  funext j
  unfold fs_set
  by_cases h : j = b
  · rw [if_pos h, h]
  · rw [if_neg h]
theorem up_id (f : Nat → Int32) (b : Nat) : upd f b (f b) = f := by
  funext j
  unfold upd
  by_cases h : j = b
  · rw [if_pos h, h]
  · rw [if_neg h]
theorem vl_k3 (o : Int32) : ∃ q : Nat, q < 4 ∧ o &&& 3 = nI q := pk_andE o (m := 3) 2 (by decide)
theorem vl_kk (o : Int32) : ∃ q : Nat, q < 4 ∧ vl_key o = nI q := pk_andE (o >>> ((2 : Int32) &&& 31)) (m := 3) 2 (by decide)
theorem rr_exe_s {g : Nat → vg_E} {i b c k : Nat} {rg tN tR : Nat → Int32} (h : rr_exe g i b rg tN tR) (hc : c < 4) (ec : (g i).1 = nI c) (hk : k < 4) (ek : vl_key (g i).2.2 = nI k) :
    rr_exe g (i + 1) b (upd rg (b * 4 + k) (vl_aft ((g i).2.2 &&& 3) (rg (b * 4 + k)) (vl_arg (g i).2.2))) (upd tN (b * 4 + c) (g i).2.1) (upd tR (b * 4 + c) (vl_res ((g i).2.2 &&& 3) (rg (b * 4 + k)) (vl_arg (g i).2.2))) := by
  intro j hj
  obtain ⟨h1, h2, h3⟩ := h j hj
  refine ⟨?_, ?_, ?_⟩
  · show _ = if vl_key (g i).2.2 = nI j then vl_aft ((g i).2.2 &&& 3) (vl_val g i (nI j)) (vl_arg (g i).2.2) else vl_val g i (nI j)
    rw [ek]
    by_cases e : k = j
    · subst e
      rw [if_pos rfl, pk_us, h1]
    · rw [if_neg (fun z => e ((nI_eq (by omega) (by omega)).mp z)), pk_un (by omega), h1]
  · show _ = if (g i).1 = nI j then (g i).2.1 else vl_num g i (nI j)
    rw [ec]
    by_cases e : c = j
    · subst e
      rw [if_pos rfl, pk_us]
    · rw [if_neg (fun z => e ((nI_eq (by omega) (by omega)).mp z)), pk_un (by omega), h2]
  · show _ = if (g i).1 = nI j then vl_res ((g i).2.2 &&& 3) (vl_val g i (vl_key (g i).2.2)) (vl_arg (g i).2.2) else vl_rs g i (nI j)
    rw [ec]
    by_cases e : c = j
    · subst e
      rw [if_pos rfl, pk_us, (h k hk).1, ek]
    · rw [if_neg (fun z => e ((nI_eq (by omega) (by omega)).mp z)), pk_un (by omega), h3]
section
variable {f_PREPARE f_PREPARE_OK f_GET_STATE f_NEW_STATE f_START_VIEW_CHANGE f_DO_VIEW_CHANGE f_GET_LOG f_NEW_LOG f_START_VIEW f_clients f_capacity f_letters f_restarts f_mailHead f_mailTail f_acks f_votes f_bestVoter f_bestLast f_bestLength f_bestCommit : Int32} {a_status a_view a_last a_nonce a_cell a_length a_commit a_logClient a_logNumber a_logOp a_registers a_tableNumber a_tableResult a_mailKind a_mailFrom a_mailTo a_mailView a_mailLast a_mailCommit a_mailLength a_mailBase a_mailCount a_mailClient a_mailNumber a_mailOp a_voted a_voteCommit a_slotState a_slotFrom a_slotTo a_slotNonce a_slotView a_slotLeader a_slotLength a_slotCommit a_slotClient a_slotNumber a_slotOp : Nat → Int32}
theorem xm_apply {post : Int32 → SX → Prop} {b k : Nat} (hb : b < 5) (o : Int32) (hk : k < 4) (ek : vl_key o = nI k)
    (h : post (vl_res (o &&& 3) (a_registers (b * 4 + k)) (vl_arg o)) (f_PREPARE, f_PREPARE_OK, f_GET_STATE, f_NEW_STATE, f_START_VIEW_CHANGE, f_DO_VIEW_CHANGE, f_GET_LOG, f_NEW_LOG, f_START_VIEW, f_clients, f_capacity, f_letters, f_restarts, f_mailHead, f_mailTail, f_acks, f_votes, f_bestVoter, f_bestLast, f_bestLength, f_bestCommit, a_status, a_view, a_last, a_nonce, a_cell, a_length, a_commit, a_logClient, a_logNumber, a_logOp, upd a_registers (b * 4 + k) (vl_aft (o &&& 3) (a_registers (b * 4 + k)) (vl_arg o)), a_tableNumber, a_tableResult, a_mailKind, a_mailFrom, a_mailTo, a_mailView, a_mailLast, a_mailCommit, a_mailLength, a_mailBase, a_mailCount, a_mailClient, a_mailNumber, a_mailOp, a_voted, a_voteCommit, a_slotState, a_slotFrom, a_slotTo, a_slotNonce, a_slotView, a_slotLeader, a_slotLength, a_slotCommit, a_slotClient, a_slotNumber, a_slotOp)) : wpX_apply post (f_PREPARE, f_PREPARE_OK, f_GET_STATE, f_NEW_STATE, f_START_VIEW_CHANGE, f_DO_VIEW_CHANGE, f_GET_LOG, f_NEW_LOG, f_START_VIEW, f_clients, f_capacity, f_letters, f_restarts, f_mailHead, f_mailTail, f_acks, f_votes, f_bestVoter, f_bestLast, f_bestLength, f_bestCommit, a_status, a_view, a_last, a_nonce, a_cell, a_length, a_commit, a_logClient, a_logNumber, a_logOp, a_registers, a_tableNumber, a_tableResult, a_mailKind, a_mailFrom, a_mailTo, a_mailView, a_mailLast, a_mailCommit, a_mailLength, a_mailBase, a_mailCount, a_mailClient, a_mailNumber, a_mailOp, a_voted, a_voteCommit, a_slotState, a_slotFrom, a_slotTo, a_slotNonce, a_slotView, a_slotLeader, a_slotLength, a_slotCommit, a_slotClient, a_slotNumber, a_slotOp) (nI b) o := by
  have e : nI b * 4 + ((o >>> ((2 : Int32) &&& 31)) &&& 3) = nI (b * 4 + k) := by
    rw [show ((o >>> ((2 : Int32) &&& 31)) &&& 3) = vl_key o from rfl, ek, ix_m4]
  have ii : vp_in (nI (b * 4 + k)) 20 := ix_20 (by omega)
  have cc : (nI (b * 4 + k)).toNatClampNeg = b * 4 + k := ix_c (by omega)
  refine nm_e (nm_r e (nm_e ⟨ii, ?_⟩))
  rw [cc]
  refine nm_e ?_
  obtain ⟨q, hq, eq⟩ := vl_k3 o
  by_cases q0 : q = 0
  · have z : o &&& 3 = 0 := by rw [eq, q0]; rfl
    refine br_t z ⟨ii, nm_e ?_⟩
    rw [z] at h
    exact h
  · have z0 : ¬ o &&& 3 = 0 := by rw [eq]; exact nI_ne0 (by omega) (by omega)
    refine br_f z0 ?_
    by_cases q1 : q = 1
    · have z : o &&& 3 = 1 := by rw [eq, q1]; rfl
      refine br_t z ⟨ii, nm_e ⟨ii, ?_⟩⟩
      rw [z] at h
      rw [pk_us]
      exact h
    · have z1 : ¬ o &&& 3 = 1 := by rw [eq]; exact fun z => q1 ((nI_eq (b := 1) (by omega) (by decide)).mp z)
      refine br_f z1 ?_
      by_cases q2 : q = 2
      · have z : o &&& 3 = 2 := by rw [eq, q2]; rfl
        refine br_t z ⟨ii, nm_e ⟨ii, ?_⟩⟩
        rw [z] at h
        rw [pk_us]
        exact h
      · have z2 : ¬ o &&& 3 = 2 := by rw [eq]; exact fun z => q2 ((nI_eq (b := 2) (by omega) (by decide)).mp z)
        have z3 : o &&& 3 = 3 := by rw [eq, show q = 3 by omega]; rfl
        refine br_f z2 (br_c (fun z => ⟨ii, nm_e ?_⟩) (fun z => ?_))
        · rw [z3, z] at h
          exact h
        · have r1 : vl_res 3 (a_registers (b * 4 + k)) (vl_arg o) = 0 := by
            unfold vl_res
            rw [if_neg (by decide), if_pos rfl, if_neg z]
          have r2 : vl_aft 3 (a_registers (b * 4 + k)) (vl_arg o) = a_registers (b * 4 + k) := by
            unfold vl_aft
            rw [if_neg (by decide), if_neg (fun q => z q.2), if_neg (by decide), if_neg (by decide)]
          rw [z3, r1, r2, up_id] at h
          exact h
theorem xm_execute {post : SX → Prop} {b i c : Nat} {g : Nat → vg_E} {n : Nat} (hb : b < 5) (hi : i < n) (hn : n ≤ 32) (hc : c < 4) (ec : (g i).1 = nI c)
    (hl : rr_log g n (b * 32) a_logClient a_logNumber a_logOp) (hx : rr_exe g i b a_registers a_tableNumber a_tableResult)
    (h : ∀ rg tN tR, rr_exe g (i + 1) b rg tN tR → (∀ j, (j < b * 4 ∨ b * 4 + 4 ≤ j) → rg j = a_registers j ∧ tN j = a_tableNumber j ∧ tR j = a_tableResult j) → post (f_PREPARE, f_PREPARE_OK, f_GET_STATE, f_NEW_STATE, f_START_VIEW_CHANGE, f_DO_VIEW_CHANGE, f_GET_LOG, f_NEW_LOG, f_START_VIEW, f_clients, f_capacity, f_letters, f_restarts, f_mailHead, f_mailTail, f_acks, f_votes, f_bestVoter, f_bestLast, f_bestLength, f_bestCommit, a_status, a_view, a_last, a_nonce, a_cell, a_length, a_commit, a_logClient, a_logNumber, a_logOp, rg, tN, tR, a_mailKind, a_mailFrom, a_mailTo, a_mailView, a_mailLast, a_mailCommit, a_mailLength, a_mailBase, a_mailCount, a_mailClient, a_mailNumber, a_mailOp, a_voted, a_voteCommit, a_slotState, a_slotFrom, a_slotTo, a_slotNonce, a_slotView, a_slotLeader, a_slotLength, a_slotCommit, a_slotClient, a_slotNumber, a_slotOp)) : wpX_execute post (f_PREPARE, f_PREPARE_OK, f_GET_STATE, f_NEW_STATE, f_START_VIEW_CHANGE, f_DO_VIEW_CHANGE, f_GET_LOG, f_NEW_LOG, f_START_VIEW, f_clients, f_capacity, f_letters, f_restarts, f_mailHead, f_mailTail, f_acks, f_votes, f_bestVoter, f_bestLast, f_bestLength, f_bestCommit, a_status, a_view, a_last, a_nonce, a_cell, a_length, a_commit, a_logClient, a_logNumber, a_logOp, a_registers, a_tableNumber, a_tableResult, a_mailKind, a_mailFrom, a_mailTo, a_mailView, a_mailLast, a_mailCommit, a_mailLength, a_mailBase, a_mailCount, a_mailClient, a_mailNumber, a_mailOp, a_voted, a_voteCommit, a_slotState, a_slotFrom, a_slotTo, a_slotNonce, a_slotView, a_slotLeader, a_slotLength, a_slotCommit, a_slotClient, a_slotNumber, a_slotOp) (nI b) (nI i) := by
  obtain ⟨l1, l2, l3⟩ := hl i hi
  have ii : vp_in (nI (b * 32 + i)) 160 := ix_160 (by omega)
  have cc : (nI (b * 32 + i)).toNatClampNeg = b * 32 + i := ix_c (by omega)
  obtain ⟨k, hk, ek⟩ := vl_kk (g i).2.2
  refine nm_r (ix_m32 b i) ⟨ii, ?_⟩
  rw [cc, l3]
  refine xm_apply hb _ hk ek ?_
  refine ⟨ii, ?_⟩
  have e5 : nI b * 4 + a_logClient (b * 32 + i) = nI (b * 4 + c) := by rw [l1, ec, ix_m4]
  have i5 : vp_in (nI (b * 4 + c)) 20 := ix_20 (by omega)
  refine nm_r e5 ⟨ii, i5, nm_e ⟨i5, nm_e ?_⟩⟩
  rw [ix_c (by omega), l2]
  refine h _ _ _ (rr_exe_s hx hc ec hk ek) ?_
  exact fun j hj => ⟨pk_un (by omega), pk_un (by omega), pk_un (by omega)⟩
end
section
variable {f_PREPARE f_PREPARE_OK f_GET_STATE f_NEW_STATE f_START_VIEW_CHANGE f_DO_VIEW_CHANGE f_GET_LOG f_NEW_LOG f_START_VIEW f_clients f_capacity f_letters f_restarts f_mailHead f_mailTail f_acks f_votes f_bestVoter f_bestLast f_bestLength f_bestCommit : Int32} {a_status a_view a_last a_nonce a_cell a_length a_commit a_logClient a_logNumber a_logOp a_mailKind a_mailFrom a_mailTo a_mailView a_mailLast a_mailCommit a_mailLength a_mailBase a_mailCount a_mailClient a_mailNumber a_mailOp a_voted a_voteCommit a_slotState a_slotFrom a_slotTo a_slotNonce a_slotView a_slotLeader a_slotLength a_slotCommit a_slotClient a_slotNumber a_slotOp : Nat → Int32}
theorem xm_adv_l {post : SX → Prop} {b e n : Nat} {g : Nat → vg_E} (hb : b < 5) (he : e ≤ n) (hn : n ≤ 32) (hcl : ∀ i, i < n → ∃ k, k < 4 ∧ (g i).1 = nI k)
    (hl : rr_log g n (b * 32) a_logClient a_logNumber a_logOp) : ∀ (d i f : Nat) (a_registers a_tableNumber a_tableResult : Nat → Int32), i + d = e → d < f → rr_exe g i b a_registers a_tableNumber a_tableResult →
    (∀ rg tN tR, rr_exe g e b rg tN tR → (∀ j, (j < b * 4 ∨ b * 4 + 4 ≤ j) → rg j = a_registers j ∧ tN j = a_tableNumber j ∧ tR j = a_tableResult j) → post (f_PREPARE, f_PREPARE_OK, f_GET_STATE, f_NEW_STATE, f_START_VIEW_CHANGE, f_DO_VIEW_CHANGE, f_GET_LOG, f_NEW_LOG, f_START_VIEW, f_clients, f_capacity, f_letters, f_restarts, f_mailHead, f_mailTail, f_acks, f_votes, f_bestVoter, f_bestLast, f_bestLength, f_bestCommit, a_status, a_view, a_last, a_nonce, a_cell, a_length, upd a_commit b (nI e), a_logClient, a_logNumber, a_logOp, rg, tN, tR, a_mailKind, a_mailFrom, a_mailTo, a_mailView, a_mailLast, a_mailCommit, a_mailLength, a_mailBase, a_mailCount, a_mailClient, a_mailNumber, a_mailOp, a_voted, a_voteCommit, a_slotState, a_slotFrom, a_slotTo, a_slotNonce, a_slotView, a_slotLeader, a_slotLength, a_slotCommit, a_slotClient, a_slotNumber, a_slotOp)) →
    wX_advance_38 post (nI b) (nI e) f (nI i) f_PREPARE f_PREPARE_OK f_GET_STATE f_NEW_STATE f_START_VIEW_CHANGE f_DO_VIEW_CHANGE f_GET_LOG f_NEW_LOG f_START_VIEW f_clients f_capacity f_letters f_restarts f_mailHead f_mailTail f_acks f_votes f_bestVoter f_bestLast f_bestLength f_bestCommit a_status a_view a_last a_nonce a_cell a_length a_commit a_logClient a_logNumber a_logOp a_registers a_tableNumber a_tableResult a_mailKind a_mailFrom a_mailTo a_mailView a_mailLast a_mailCommit a_mailLength a_mailBase a_mailCount a_mailClient a_mailNumber a_mailOp a_voted a_voteCommit a_slotState a_slotFrom a_slotTo a_slotNonce a_slotView a_slotLeader a_slotLength a_slotCommit a_slotClient a_slotNumber a_slotOp := by
  intro d
  induction d with
  | zero =>
    intro i f a_registers a_tableNumber a_tableResult hi hf hx h
    obtain ⟨f, rfl⟩ : ∃ k, f = k + 1 := ⟨f - 1, by omega⟩
    have hi' : i = e := hi
    subst hi'
    refine br_t (Int32.le_refl _) ⟨ix_5 hb, nm_e ?_⟩
    rw [ix_c (by omega)]
    exact h _ _ _ hx (fun j _ => ⟨rfl, rfl, rfl⟩)
  | succ d ih =>
    intro i f a_registers a_tableNumber a_tableResult hi hf hx h
    obtain ⟨f, rfl⟩ : ∃ k, f = k + 1 := ⟨f - 1, by omega⟩
    obtain ⟨c, hc, ec⟩ := hcl i (by omega)
    refine br_f (nI_ge (by omega) (by omega)) (xm_execute hb (by omega : i < n) hn hc ec hl hx ?_)
    intro rg tN tR hx' ho
    refine nm_r (nI_1 i) ?_
    refine ih (i + 1) f rg tN tR (by omega) (by omega) hx' ?_
    intro rg' tN' tR' hx'' ho'
    exact h _ _ _ hx'' (fun j hj => ⟨(ho' j hj).1.trans (ho j hj).1, (ho' j hj).2.1.trans (ho j hj).2.1, (ho' j hj).2.2.trans (ho j hj).2.2⟩)
end
section
variable {Z : vg_Z} {H : Nat → vg_R} {hd tl : Nat} {Q : Nat → vg_M} {B : vg_B} {u : SX}
theorem xm_adv {post : SX → Prop} (hu : sx_R Z H hd tl Q B u) {b t : Nat} (hb : b < 5) (ht : t ≤ (H b).2.2.2.2.1)
    (hp : ∀ u', sx_R Z (fs_set H b ((H b).1, (H b).2.1, (H b).2.2.1, (H b).2.2.2.1, (H b).2.2.2.2.1, max (H b).2.2.2.2.2.1 t, (H b).2.2.2.2.2.2)) hd tl Q B u' → post u') : wpX_advance post u (nI b) (nI t) := by
  refine sx_el (P := fun u => wpX_advance post u (nI b) (nI t)) ?_ hu
  intro f_PREPARE f_PREPARE_OK f_GET_STATE f_NEW_STATE f_START_VIEW_CHANGE f_DO_VIEW_CHANGE f_GET_LOG f_NEW_LOG f_START_VIEW f_clients f_capacity f_letters f_restarts f_mailHead f_mailTail f_acks f_votes f_bestVoter f_bestLast f_bestLength f_bestCommit a_status a_view a_last a_nonce a_cell a_length a_commit a_logClient a_logNumber a_logOp a_registers a_tableNumber a_tableResult a_mailKind a_mailFrom a_mailTo a_mailView a_mailLast a_mailCommit a_mailLength a_mailBase a_mailCount a_mailClient a_mailNumber a_mailOp a_voted a_voteCommit a_slotState a_slotFrom a_slotTo a_slotNonce a_slotView a_slotLeader a_slotLength a_slotCommit a_slotClient a_slotNumber a_slotOp hZ hR hM hB
  obtain ⟨ok, ⟨e1, e2, e3, e4, e5, e6⟩, l, r⟩ := hR b hb
  have ok1 := ok.1
  have r5 : a_length (nI b).toNatClampNeg = nI (H b).2.2.2.2.1 := ix_rd (by omega) e5
  have r6 : a_commit (nI b).toNatClampNeg = nI (H b).2.2.2.2.2.1 := ix_rd (by omega) e6
  refine ⟨ix_5 hb, br_t (by rw [r5]; exact nI_le ht (by omega)) ⟨ix_5 hb, ?_⟩⟩
  refine pk_lt (H b).2.2.2.2.2.1 t (fun z => ⟨ix_5 hb, nm_r r6 ⟨t - (H b).2.2.2.2.2.1 + 1, ?_⟩⟩) (fun z => ?_) (hx := r6)
  · refine xm_adv_l hb ht (by omega) ok.2 l (t - (H b).2.2.2.2.2.1) (H b).2.2.2.2.2.1 _ _ _ _ (by omega) (by omega) r ?_
    intro rg tN tR hx ho
    refine hp _ (sx_mk hZ ?_ hM hB)
    refine rr_set hR ⟨by dsimp only; omega, ok.2⟩ ⟨⟨e1, e2, e3, e4, e5, ?_⟩, l, ?_⟩ ?_ ?_ ho
    · rw [pk_us]
      exact congrArg nI (by dsimp only; omega)
    · dsimp only
      rw [show max (H b).2.2.2.2.2.1 t = t by omega]
      exact hx
    · exact fun j hj => ⟨rfl, rfl, rfl, rfl, rfl, pk_un hj⟩
    · exact fun j hj => ⟨rfl, rfl, rfl⟩
  · refine hp _ ?_
    rw [show max (H b).2.2.2.2.2.1 t = (H b).2.2.2.2.2.1 by omega]
    rw [show fs_set H b ((H b).1, (H b).2.1, (H b).2.2.1, (H b).2.2.2.1, (H b).2.2.2.2.1, (H b).2.2.2.2.2.1, (H b).2.2.2.2.2.2) = H from fs_id H b]
    exact sx_mk hZ hR hM hB
end
/-! the newest pending entry of a client -/
def vl_pen (g : Nat → vg_E) (lo : Nat) : Nat → Int32 → Int32
  | 0 => fun _ => 0
  | n + 1 => fun c => if n < lo then 0 else if (g n).1 = c then (g n).2.1 else vl_pen g lo n c
section
variable {f_PREPARE f_PREPARE_OK f_GET_STATE f_NEW_STATE f_START_VIEW_CHANGE f_DO_VIEW_CHANGE f_GET_LOG f_NEW_LOG f_START_VIEW f_clients f_capacity f_letters f_restarts f_mailHead f_mailTail f_acks f_votes f_bestVoter f_bestLast f_bestLength f_bestCommit : Int32} {a_status a_view a_last a_nonce a_cell a_length a_commit a_logClient a_logNumber a_logOp a_registers a_tableNumber a_tableResult a_mailKind a_mailFrom a_mailTo a_mailView a_mailLast a_mailCommit a_mailLength a_mailBase a_mailCount a_mailClient a_mailNumber a_mailOp a_voted a_voteCommit a_slotState a_slotFrom a_slotTo a_slotNonce a_slotView a_slotLeader a_slotLength a_slotCommit a_slotClient a_slotNumber a_slotOp : Nat → Int32}
theorem xm_pen_l {post : Int32 → Prop} {b m lo : Nat} {c : Int32} {g : Nat → vg_E} (hb : b < 5) (hm : m ≤ 32) (hlo : lo ≤ m) (hcm : a_commit b = nI lo)
    (hl : rr_log g m (b * 32) a_logClient a_logNumber a_logOp) : ∀ (n f : Nat), n < f → n ≤ m → post (vl_pen g lo n c) →
    wX_newestPending_9 post (nI b) c f_PREPARE f_PREPARE_OK f_GET_STATE f_NEW_STATE f_START_VIEW_CHANGE f_DO_VIEW_CHANGE f_GET_LOG f_NEW_LOG f_START_VIEW f_clients f_capacity f_letters f_restarts f_mailHead f_mailTail f_acks f_votes f_bestVoter f_bestLast f_bestLength f_bestCommit a_status a_view a_last a_nonce a_cell a_length a_commit a_logClient a_logNumber a_logOp a_registers a_tableNumber a_tableResult a_mailKind a_mailFrom a_mailTo a_mailView a_mailLast a_mailCommit a_mailLength a_mailBase a_mailCount a_mailClient a_mailNumber a_mailOp a_voted a_voteCommit a_slotState a_slotFrom a_slotTo a_slotNonce a_slotView a_slotLeader a_slotLength a_slotCommit a_slotClient a_slotNumber a_slotOp f (nI n - 1) := by
  intro n
  have r6 : a_commit (nI b).toNatClampNeg = nI lo := ix_rd (by omega) hcm
  induction n with
  | zero =>
    intro f hf hn h
    obtain ⟨f, rfl⟩ : ∃ k, f = k + 1 := ⟨f - 1, by omega⟩
    refine ⟨ix_5 hb, br_t ?_ h⟩
    rw [r6, Int32.lt_iff_toInt_lt, nI_toInt (by omega), show (nI 0 - 1 : Int32).toInt = -1 from by decide]
    omega
  | succ n ih =>
    intro f hf hn h
    obtain ⟨f, rfl⟩ : ∃ k, f = k + 1 := ⟨f - 1, by omega⟩
    rw [nI_pred]
    obtain ⟨l1, l2, l3⟩ := hl n (by omega)
    have h' : post (if n < lo then 0 else if (g n).1 = c then (g n).2.1 else vl_pen g lo n c) := h
    refine ⟨ix_5 hb, pk_lt n lo (fun z => ?_) (fun z => ?_) (hy := r6)⟩
    · rw [if_pos z] at h'
      exact h'
    · rw [if_neg (by omega)] at h'
      rw [ix_m32, ix_c (by omega), l1]
      refine ⟨ix_160 (by omega), br_c (fun z2 => ⟨ix_160 (by omega), ?_⟩) (fun z2 => nm_r (e' := nI n - 1) ?_ ?_)⟩
      · rw [if_pos z2] at h'
        rw [l2]
        exact h'
      · rw [Int32.sub_eq_add_neg]
      · rw [if_neg z2] at h'
        exact ih f (by omega) (by omega) h'
end
theorem xm_pen {Z : vg_Z} {H : Nat → vg_R} {hd tl : Nat} {Q : Nat → vg_M} {B : vg_B} {u : SX} {post : Int32 → Prop} (hu : sx_R Z H hd tl Q B u) {b : Nat} {c : Int32} (hb : b < 5)
    (hp : post (vl_pen (H b).2.2.2.2.2.2 (H b).2.2.2.2.2.1 (H b).2.2.2.2.1 c)) : wpX_newestPending post u (nI b) c := by
  refine sx_el (P := fun u => wpX_newestPending post u (nI b) c) ?_ hu
  intro f_PREPARE f_PREPARE_OK f_GET_STATE f_NEW_STATE f_START_VIEW_CHANGE f_DO_VIEW_CHANGE f_GET_LOG f_NEW_LOG f_START_VIEW f_clients f_capacity f_letters f_restarts f_mailHead f_mailTail f_acks f_votes f_bestVoter f_bestLast f_bestLength f_bestCommit a_status a_view a_last a_nonce a_cell a_length a_commit a_logClient a_logNumber a_logOp a_registers a_tableNumber a_tableResult a_mailKind a_mailFrom a_mailTo a_mailView a_mailLast a_mailCommit a_mailLength a_mailBase a_mailCount a_mailClient a_mailNumber a_mailOp a_voted a_voteCommit a_slotState a_slotFrom a_slotTo a_slotNonce a_slotView a_slotLeader a_slotLength a_slotCommit a_slotClient a_slotNumber a_slotOp hZ hR hM hB
  obtain ⟨ok, ⟨e1, e2, e3, e4, e5, e6⟩, l, r⟩ := hR b hb
  have ok1 := ok.1
  refine ⟨ix_5 hb, nm_r (e' := nI (H b).2.2.2.2.1 - 1) ?_ ⟨(H b).2.2.2.2.1 + 1, ?_⟩⟩
  · rw [ix_rd (by omega) e5]
  · exact xm_pen_l hb (by omega) (by omega) e6 l (H b).2.2.2.2.1 _ (by omega) (by omega) hp
end
section
/-! X: mail -/
theorem fs_fs {α : Type} (f : Nat → α) (b : Nat) (x y : α) : fs_set (fs_set f b x) b y = fs_set f b y := by
  funext j
  unfold fs_set
  by_cases h : j = b
  · rw [if_pos h, if_pos h]
  · rw [if_neg h, if_neg h, if_neg h]
theorem rm_set {hd tl : Nat} {Q : Nat → vg_M} {g : vg_M} {fH fT fT' : Int32} {mK mF mT mV mL mC mZ mB mN cC cN cO mK' mF' mT' mV' mL' mC' mZ' mB' mN' cC' cN' cO' : Nat → Int32}
    (h : rm_Q hd tl Q fH fT mK mF mT mV mL mC mZ mB mN cC cN cO) (ht : tl < 32) (eT : fT' = nI (tl + 1)) (hx : rm_one g tl mK' mF' mT' mV' mL' mC' mZ' mB' mN' cC' cN' cO')
    (f1 : ∀ j, j ≠ tl → mK' j = mK j ∧ mF' j = mF j ∧ mT' j = mT j ∧ mV' j = mV j ∧ mL' j = mL j ∧ mC' j = mC j ∧ mZ' j = mZ j ∧ mB' j = mB j ∧ mN' j = mN j)
    (f2 : ∀ j, j < tl * 32 → cC' j = cC j ∧ cN' j = cN j ∧ cO' j = cO j) :
    rm_Q hd (tl + 1) (fs_set Q tl g) fH fT' mK' mF' mT' mV' mL' mC' mZ' mB' mN' cC' cN' cO' := by
  obtain ⟨⟨a1, a2, a3, a4⟩, hm⟩ := h
  refine ⟨⟨a1, eT, by omega, by omega⟩, fun c hc => ?_⟩
  by_cases e : c = tl
  · subst e
    rw [fs_eq]
    exact hx
  · rw [fs_ne e]
    obtain ⟨⟨e1, e2, e3, e4, e5, e6, e7, e8, e9⟩, b, l⟩ := hm c (by omega)
    obtain ⟨g1, g2, g3, g4, g5, g6, g7, g8, g9⟩ := f1 c e
    refine ⟨⟨g1.trans e1, g2.trans e2, g3.trans e3, g4.trans e4, g5.trans e5, g6.trans e6, g7.trans e7, g8.trans e8, g9.trans e9⟩, b, fun i hi => ?_⟩
    have := b.2.2.2.1
    obtain ⟨k1, k2, k3⟩ := f2 (c * 32 + i) (by omega)
    obtain ⟨m1, m2, m3⟩ := l i hi
    exact ⟨k1.trans m1, k2.trans m2, k3.trans m3⟩
section
variable {Z : vg_Z} {H : Nat → vg_R} {hd tl : Nat} {Q : Nat → vg_M} {B : vg_B} {u : SX}
theorem xm_post {post : Int32 → SX → Prop} (hu : sx_R Z H hd tl Q B u) {k f t : Nat} (hf : f < 5) (ht : t < 5) (htl : tl < 32)
    (h1 : vg_tch H Z.2.2.2.2.1 f t = true → ∀ u', sx_R Z H hd (tl + 1) (fs_set Q tl (k, f, t, (H f).2.2.2.2.1, H f)) B u' → post (nI tl) u')
    (h0 : vg_tch H Z.2.2.2.2.1 f t = false → ∀ u', sx_R Z H hd tl Q B u' → post (-1) u') : wpX_post post u (nI k) (nI f) (nI t) := by
  refine sx_el (P := fun u => wpX_post post u (nI k) (nI f) (nI t)) ?_ hu
  intro f_PREPARE f_PREPARE_OK f_GET_STATE f_NEW_STATE f_START_VIEW_CHANGE f_DO_VIEW_CHANGE f_GET_LOG f_NEW_LOG f_START_VIEW f_clients f_capacity f_letters f_restarts f_mailHead f_mailTail f_acks f_votes f_bestVoter f_bestLast f_bestLength f_bestCommit a_status a_view a_last a_nonce a_cell a_length a_commit a_logClient a_logNumber a_logOp a_registers a_tableNumber a_tableResult a_mailKind a_mailFrom a_mailTo a_mailView a_mailLast a_mailCommit a_mailLength a_mailBase a_mailCount a_mailClient a_mailNumber a_mailOp a_voted a_voteCommit a_slotState a_slotFrom a_slotTo a_slotNonce a_slotView a_slotLeader a_slotLength a_slotCommit a_slotClient a_slotNumber a_slotOp hZ hR hM hB
  have hM' := hM
  obtain ⟨⟨e1, e2, a3, a4⟩, hm⟩ := hM
  unfold wpX_post
  refine xm_touch (sx_mk hZ hR hM' hB) hf ht (fun z => br_f (by decide) ?_) (fun z => br_t rfl (h0 z _ (sx_mk hZ hR hM' hB)))
  obtain ⟨ok, ⟨s1, s2, s3, s4, s5, s6⟩, l, r⟩ := hR f hf
  have it : vp_in f_mailTail 32 := by rw [e2]; exact ix_32 htl
  have i5 := ix_5 hf
  refine br_t (by rw [e2]; exact nI_lt (b := 32) htl (by decide)) (nm_e ⟨it, nm_e ⟨it, nm_e ⟨it, nm_e ⟨i5, it, nm_e ⟨i5, it, nm_e ⟨i5, it, nm_e ⟨i5, it, nm_e ⟨i5, it, nm_e ⟨it, nm_e ?_⟩⟩⟩⟩⟩⟩⟩⟩⟩)
  have hz : f_mailTail + 1 = nI (tl + 1) := by rw [e2, nI_1]
  have hy : f_mailTail.toNatClampNeg = tl := by rw [e2]; exact ix_c (by omega)
  rw [ix_rd (by omega) s2, ix_rd (by omega) s3, ix_rd (by omega) s5, ix_rd (by omega) s6, hy]
  rw [e2]
  refine h1 z _ (sx_mk hZ hR ?_ hB)
  rw [e2] at hM'
  refine rm_set hM' htl (nI_1 tl) ⟨⟨pk_us, pk_us, pk_us, pk_us, pk_us, pk_us, pk_us, pk_us, ?_⟩, ⟨Nat.le_refl _, hf, ht, ok⟩, ?_⟩ ?_ ?_
  · rw [pk_us]
    dsimp only
    rw [Nat.sub_self]
    rfl
  · intro i hi
    dsimp only at hi
    omega
  · exact fun j hj => ⟨pk_un hj, pk_un hj, pk_un hj, pk_un hj, pk_un hj, pk_un hj, pk_un hj, pk_un hj, pk_un hj⟩
  · exact fun j hj => ⟨rfl, rfl, rfl⟩
end
section
variable {f_PREPARE f_PREPARE_OK f_GET_STATE f_NEW_STATE f_START_VIEW_CHANGE f_DO_VIEW_CHANGE f_GET_LOG f_NEW_LOG f_START_VIEW f_clients f_capacity f_letters f_restarts f_mailHead f_mailTail f_acks f_votes f_bestVoter f_bestLast f_bestLength f_bestCommit : Int32} {a_status a_view a_last a_nonce a_cell a_length a_commit a_logClient a_logNumber a_logOp a_registers a_tableNumber a_tableResult a_mailKind a_mailFrom a_mailTo a_mailView a_mailLast a_mailCommit a_mailLength a_mailBase a_mailCount a_mailClient a_mailNumber a_mailOp a_voted a_voteCommit a_slotState a_slotFrom a_slotTo a_slotNonce a_slotView a_slotLeader a_slotLength a_slotCommit a_slotClient a_slotNumber a_slotOp : Nat → Int32}
theorem xm_pl_l {post : SX → Prop} {f bs m c : Nat} (hf : f < 5) (hm : m < 32) (hc : bs + c ≤ 32)
    (h : post (f_PREPARE, f_PREPARE_OK, f_GET_STATE, f_NEW_STATE, f_START_VIEW_CHANGE, f_DO_VIEW_CHANGE, f_GET_LOG, f_NEW_LOG, f_START_VIEW, f_clients, f_capacity, f_letters, f_restarts, f_mailHead, f_mailTail, f_acks, f_votes, f_bestVoter, f_bestLast, f_bestLength, f_bestCommit, a_status, a_view, a_last, a_nonce, a_cell, a_length, a_commit, a_logClient, a_logNumber, a_logOp, a_registers, a_tableNumber, a_tableResult, a_mailKind, a_mailFrom, a_mailTo, a_mailView, a_mailLast, a_mailCommit, a_mailLength, a_mailBase, a_mailCount, cp_cpy a_mailClient a_logClient (m * 32) (f * 32 + bs) c, cp_cpy a_mailNumber a_logNumber (m * 32) (f * 32 + bs) c, cp_cpy a_mailOp a_logOp (m * 32) (f * 32 + bs) c, a_voted, a_voteCommit, a_slotState, a_slotFrom, a_slotTo, a_slotNonce, a_slotView, a_slotLeader, a_slotLength, a_slotCommit, a_slotClient, a_slotNumber, a_slotOp)) :
    ∀ (d i n : Nat), i + d = c → d < n →
    wX_postLog_63 post (nI f) (nI bs) (nI m) (nI c) f_PREPARE f_PREPARE_OK f_GET_STATE f_NEW_STATE f_START_VIEW_CHANGE f_DO_VIEW_CHANGE f_GET_LOG f_NEW_LOG f_START_VIEW f_clients f_capacity f_letters f_restarts f_mailHead f_mailTail f_acks f_votes f_bestVoter f_bestLast f_bestLength f_bestCommit n (nI i) a_status a_view a_last a_nonce a_cell a_length a_commit a_logClient a_logNumber a_logOp a_registers a_tableNumber a_tableResult a_mailKind a_mailFrom a_mailTo a_mailView a_mailLast a_mailCommit a_mailLength a_mailBase a_mailCount (cp_cpy a_mailClient a_logClient (m * 32) (f * 32 + bs) i) (cp_cpy a_mailNumber a_logNumber (m * 32) (f * 32 + bs) i) (cp_cpy a_mailOp a_logOp (m * 32) (f * 32 + bs) i) a_voted a_voteCommit a_slotState a_slotFrom a_slotTo a_slotNonce a_slotView a_slotLeader a_slotLength a_slotCommit a_slotClient a_slotNumber a_slotOp := by
  intro d
  induction d with
  | zero =>
    intro i n hi hn
    obtain ⟨n, rfl⟩ : ∃ k, n = k + 1 := ⟨n - 1, by omega⟩
    have hi' : i = c := hi
    subst hi'
    exact br_t (Int32.le_refl _) h
  | succ d ih =>
    intro i n hi hn
    obtain ⟨n, rfl⟩ : ∃ k, n = k + 1 := ⟨n - 1, by omega⟩
    have e1 : nI f * 32 + nI bs + nI i = nI (f * 32 + bs + i) := by rw [ix_m32, nI_add]
    have i1 : vp_in (nI (f * 32 + bs + i)) 160 := ix_160 (by omega)
    have i2 : vp_in (nI (m * 32 + i)) 1024 := ix_1024 (by omega)
    refine br_f (nI_ge (by omega) (by omega)) (nm_r e1 (nm_r (ix_m32 m i) ⟨i1, i2, nm_e ⟨i1, i2, nm_e ⟨i1, i2, nm_e (nm_r (nI_1 i) ?_)⟩⟩⟩))
    rw [ix_c (by omega), ix_c (by omega), cp_s, cp_s, cp_s]
    exact ih (i + 1) n (by omega) (by omega)
theorem xm_pl_0 {post : SX → Prop} {f bs m c : Nat} (hf : f < 5) (hm : m < 32) (hc : bs + c ≤ 32)
    (h : post (f_PREPARE, f_PREPARE_OK, f_GET_STATE, f_NEW_STATE, f_START_VIEW_CHANGE, f_DO_VIEW_CHANGE, f_GET_LOG, f_NEW_LOG, f_START_VIEW, f_clients, f_capacity, f_letters, f_restarts, f_mailHead, f_mailTail, f_acks, f_votes, f_bestVoter, f_bestLast, f_bestLength, f_bestCommit, a_status, a_view, a_last, a_nonce, a_cell, a_length, a_commit, a_logClient, a_logNumber, a_logOp, a_registers, a_tableNumber, a_tableResult, a_mailKind, a_mailFrom, a_mailTo, a_mailView, a_mailLast, a_mailCommit, a_mailLength, a_mailBase, a_mailCount, cp_cpy a_mailClient a_logClient (m * 32) (f * 32 + bs) c, cp_cpy a_mailNumber a_logNumber (m * 32) (f * 32 + bs) c, cp_cpy a_mailOp a_logOp (m * 32) (f * 32 + bs) c, a_voted, a_voteCommit, a_slotState, a_slotFrom, a_slotTo, a_slotNonce, a_slotView, a_slotLeader, a_slotLength, a_slotCommit, a_slotClient, a_slotNumber, a_slotOp)) :
    wX_postLog_63 post (nI f) (nI bs) (nI m) (nI c) f_PREPARE f_PREPARE_OK f_GET_STATE f_NEW_STATE f_START_VIEW_CHANGE f_DO_VIEW_CHANGE f_GET_LOG f_NEW_LOG f_START_VIEW f_clients f_capacity f_letters f_restarts f_mailHead f_mailTail f_acks f_votes f_bestVoter f_bestLast f_bestLength f_bestCommit (c + 1) 0 a_status a_view a_last a_nonce a_cell a_length a_commit a_logClient a_logNumber a_logOp a_registers a_tableNumber a_tableResult a_mailKind a_mailFrom a_mailTo a_mailView a_mailLast a_mailCommit a_mailLength a_mailBase a_mailCount a_mailClient a_mailNumber a_mailOp a_voted a_voteCommit a_slotState a_slotFrom a_slotTo a_slotNonce a_slotView a_slotLeader a_slotLength a_slotCommit a_slotClient a_slotNumber a_slotOp := by
  have h2 := xm_pl_l hf hm hc h c 0 (c + 1) (by omega) (by omega)
  rw [cp_0, cp_0, cp_0] at h2
  exact h2
theorem xm_in_l {post : SX → Prop} {m b bs c : Nat} (hb : b < 5) (hm : m < 32) (hc : bs + c ≤ 32)
    (h : post (f_PREPARE, f_PREPARE_OK, f_GET_STATE, f_NEW_STATE, f_START_VIEW_CHANGE, f_DO_VIEW_CHANGE, f_GET_LOG, f_NEW_LOG, f_START_VIEW, f_clients, f_capacity, f_letters, f_restarts, f_mailHead, f_mailTail, f_acks, f_votes, f_bestVoter, f_bestLast, f_bestLength, f_bestCommit, a_status, a_view, a_last, a_nonce, a_cell, upd a_length b (nI (bs + c)), a_commit, cp_cpy a_logClient a_mailClient (b * 32 + bs) (m * 32) c, cp_cpy a_logNumber a_mailNumber (b * 32 + bs) (m * 32) c, cp_cpy a_logOp a_mailOp (b * 32 + bs) (m * 32) c, a_registers, a_tableNumber, a_tableResult, a_mailKind, a_mailFrom, a_mailTo, a_mailView, a_mailLast, a_mailCommit, a_mailLength, a_mailBase, a_mailCount, a_mailClient, a_mailNumber, a_mailOp, a_voted, a_voteCommit, a_slotState, a_slotFrom, a_slotTo, a_slotNonce, a_slotView, a_slotLeader, a_slotLength, a_slotCommit, a_slotClient, a_slotNumber, a_slotOp)) :
    ∀ (d i n : Nat), i + d = c → d < n →
    wX_install_36 post (nI m) (nI b) (nI bs) (nI c) f_PREPARE f_PREPARE_OK f_GET_STATE f_NEW_STATE f_START_VIEW_CHANGE f_DO_VIEW_CHANGE f_GET_LOG f_NEW_LOG f_START_VIEW f_clients f_capacity f_letters f_restarts f_mailHead f_mailTail f_acks f_votes f_bestVoter f_bestLast f_bestLength f_bestCommit n (nI i) a_status a_view a_last a_nonce a_cell a_length a_commit (cp_cpy a_logClient a_mailClient (b * 32 + bs) (m * 32) i) (cp_cpy a_logNumber a_mailNumber (b * 32 + bs) (m * 32) i) (cp_cpy a_logOp a_mailOp (b * 32 + bs) (m * 32) i) a_registers a_tableNumber a_tableResult a_mailKind a_mailFrom a_mailTo a_mailView a_mailLast a_mailCommit a_mailLength a_mailBase a_mailCount a_mailClient a_mailNumber a_mailOp a_voted a_voteCommit a_slotState a_slotFrom a_slotTo a_slotNonce a_slotView a_slotLeader a_slotLength a_slotCommit a_slotClient a_slotNumber a_slotOp := by
  intro d
  induction d with
  | zero =>
    intro i n hi hn
    obtain ⟨n, rfl⟩ : ∃ k, n = k + 1 := ⟨n - 1, by omega⟩
    have hi' : i = c := hi
    subst hi'
    refine br_t (Int32.le_refl _) ⟨ix_5 hb, nm_e ?_⟩
    rw [ix_c (by omega), nI_add]
    exact h
  | succ d ih =>
    intro i n hi hn
    obtain ⟨n, rfl⟩ : ∃ k, n = k + 1 := ⟨n - 1, by omega⟩
    have e1 : nI b * 32 + nI bs + nI i = nI (b * 32 + bs + i) := by rw [ix_m32, nI_add]
    have i1 : vp_in (nI (b * 32 + bs + i)) 160 := ix_160 (by omega)
    have i2 : vp_in (nI (m * 32 + i)) 1024 := ix_1024 (by omega)
    refine br_f (nI_ge (by omega) (by omega)) (nm_r (ix_m32 m i) (nm_r e1 ⟨i2, i1, nm_e ⟨i2, i1, nm_e ⟨i2, i1, nm_e (nm_r (nI_1 i) ?_)⟩⟩⟩))
    rw [ix_c (by omega), ix_c (by omega), cp_s, cp_s, cp_s]
    exact ih (i + 1) n (by omega) (by omega)
theorem xm_in_0 {post : SX → Prop} {m b bs c : Nat} (hb : b < 5) (hm : m < 32) (hc : bs + c ≤ 32)
    (h : post (f_PREPARE, f_PREPARE_OK, f_GET_STATE, f_NEW_STATE, f_START_VIEW_CHANGE, f_DO_VIEW_CHANGE, f_GET_LOG, f_NEW_LOG, f_START_VIEW, f_clients, f_capacity, f_letters, f_restarts, f_mailHead, f_mailTail, f_acks, f_votes, f_bestVoter, f_bestLast, f_bestLength, f_bestCommit, a_status, a_view, a_last, a_nonce, a_cell, upd a_length b (nI (bs + c)), a_commit, cp_cpy a_logClient a_mailClient (b * 32 + bs) (m * 32) c, cp_cpy a_logNumber a_mailNumber (b * 32 + bs) (m * 32) c, cp_cpy a_logOp a_mailOp (b * 32 + bs) (m * 32) c, a_registers, a_tableNumber, a_tableResult, a_mailKind, a_mailFrom, a_mailTo, a_mailView, a_mailLast, a_mailCommit, a_mailLength, a_mailBase, a_mailCount, a_mailClient, a_mailNumber, a_mailOp, a_voted, a_voteCommit, a_slotState, a_slotFrom, a_slotTo, a_slotNonce, a_slotView, a_slotLeader, a_slotLength, a_slotCommit, a_slotClient, a_slotNumber, a_slotOp)) :
    wX_install_36 post (nI m) (nI b) (nI bs) (nI c) f_PREPARE f_PREPARE_OK f_GET_STATE f_NEW_STATE f_START_VIEW_CHANGE f_DO_VIEW_CHANGE f_GET_LOG f_NEW_LOG f_START_VIEW f_clients f_capacity f_letters f_restarts f_mailHead f_mailTail f_acks f_votes f_bestVoter f_bestLast f_bestLength f_bestCommit (c + 1) 0 a_status a_view a_last a_nonce a_cell a_length a_commit a_logClient a_logNumber a_logOp a_registers a_tableNumber a_tableResult a_mailKind a_mailFrom a_mailTo a_mailView a_mailLast a_mailCommit a_mailLength a_mailBase a_mailCount a_mailClient a_mailNumber a_mailOp a_voted a_voteCommit a_slotState a_slotFrom a_slotTo a_slotNonce a_slotView a_slotLeader a_slotLength a_slotCommit a_slotClient a_slotNumber a_slotOp := by
  have h2 := xm_in_l hb hm hc h c 0 (c + 1) (by omega) (by omega)
  rw [cp_0, cp_0, cp_0] at h2
  exact h2
end
theorem rm_base {hd tl k f t bs : Nat} {x : vg_R} {Q : Nat → vg_M} {fH fT : Int32} {mK mF mT mV mL mC mZ mB mN cC cN cO lC lN lO : Nat → Int32}
    (h : rm_Q hd (tl + 1) (fs_set Q tl (k, f, t, x.2.2.2.2.1, x)) fH fT mK mF mT mV mL mC mZ mB mN cC cN cO) (hb : bs ≤ x.2.2.2.2.1) (l : rr_log x.2.2.2.2.2.2 x.2.2.2.2.1 (f * 32) lC lN lO) :
    rm_Q hd (tl + 1) (fs_set Q tl (k, f, t, bs, x)) fH fT mK mF mT mV mL mC mZ (upd mB tl (nI bs)) (upd mN tl (nI (x.2.2.2.2.1 - bs))) (cp_cpy cC lC (tl * 32) (f * 32 + bs) (x.2.2.2.2.1 - bs)) (cp_cpy cN lN (tl * 32) (f * 32 + bs) (x.2.2.2.2.1 - bs)) (cp_cpy cO lO (tl * 32) (f * 32 + bs) (x.2.2.2.2.1 - bs)) := by
  obtain ⟨a, hm⟩ := h
  refine ⟨a, fun c hc => ?_⟩
  have h2 := hm c hc
  by_cases e : c = tl
  · subst e
    rw [fs_eq] at h2 ⊢
    obtain ⟨⟨e1, e2, e3, e4, e5, e6, e7, e8, e9⟩, ⟨b1, b2, b3, b4⟩, _⟩ := h2
    refine ⟨⟨e1, e2, e3, e4, e5, e6, e7, pk_us, pk_us⟩, ⟨hb, b2, b3, b4⟩, fun i hi => ?_⟩
    dsimp only at hi ⊢
    rw [cp_in i hi, cp_in i hi, cp_in i hi, Nat.add_assoc]
    exact l (bs + i) (by omega)
  · rw [fs_ne e] at h2 ⊢
    obtain ⟨⟨e1, e2, e3, e4, e5, e6, e7, e8, e9⟩, b, l⟩ := h2
    refine ⟨⟨e1, e2, e3, e4, e5, e6, e7, (pk_un e).trans e8, (pk_un e).trans e9⟩, b, fun i hi => ?_⟩
    have := b.2.2.2.1
    rw [cp_out (by omega), cp_out (by omega), cp_out (by omega)]
    exact l i hi
section
variable {Z : vg_Z} {H : Nat → vg_R} {hd tl : Nat} {Q : Nat → vg_M} {B : vg_B} {u : SX}
theorem xm_postLog {post : SX → Prop} (hu : sx_R Z H hd tl Q B u) {k f t bs : Nat} (hf : f < 5) (ht : t < 5) (htl : tl < 32) (hbs : bs ≤ 32)
    (h1 : vg_tch H Z.2.2.2.2.1 f t = true → ∀ u', sx_R Z H hd (tl + 1) (fs_set Q tl (k, f, t, min bs (H f).2.2.2.2.1, H f)) B u' → post u')
    (h0 : vg_tch H Z.2.2.2.2.1 f t = false → ∀ u', sx_R Z H hd tl Q B u' → post u') : wpX_postLog post u (nI k) (nI f) (nI t) (nI bs) := by
  refine sx_el (P := fun u => wpX_postLog post u (nI k) (nI f) (nI t) (nI bs)) ?_ hu
  intro f_PREPARE f_PREPARE_OK f_GET_STATE f_NEW_STATE f_START_VIEW_CHANGE f_DO_VIEW_CHANGE f_GET_LOG f_NEW_LOG f_START_VIEW f_clients f_capacity f_letters f_restarts f_mailHead f_mailTail f_acks f_votes f_bestVoter f_bestLast f_bestLength f_bestCommit a_status a_view a_last a_nonce a_cell a_length a_commit a_logClient a_logNumber a_logOp a_registers a_tableNumber a_tableResult a_mailKind a_mailFrom a_mailTo a_mailView a_mailLast a_mailCommit a_mailLength a_mailBase a_mailCount a_mailClient a_mailNumber a_mailOp a_voted a_voteCommit a_slotState a_slotFrom a_slotTo a_slotNonce a_slotView a_slotLeader a_slotLength a_slotCommit a_slotClient a_slotNumber a_slotOp hZ hR hM hB
  unfold wpX_postLog
  refine xm_post (sx_mk hZ hR hM hB) hf ht htl (fun z u' hu' => ?_) (fun z u' hu' => ?_)
  · clear hZ hR hM hB
    obtain ⟨f_PREPARE, f_PREPARE_OK, f_GET_STATE, f_NEW_STATE, f_START_VIEW_CHANGE, f_DO_VIEW_CHANGE, f_GET_LOG, f_NEW_LOG, f_START_VIEW, f_clients, f_capacity, f_letters, f_restarts, f_mailHead, f_mailTail, f_acks, f_votes, f_bestVoter, f_bestLast, f_bestLength, f_bestCommit, a_status, a_view, a_last, a_nonce, a_cell, a_length, a_commit, a_logClient, a_logNumber, a_logOp, a_registers, a_tableNumber, a_tableResult, a_mailKind, a_mailFrom, a_mailTo, a_mailView, a_mailLast, a_mailCommit, a_mailLength, a_mailBase, a_mailCount, a_mailClient, a_mailNumber, a_mailOp, a_voted, a_voteCommit, a_slotState, a_slotFrom, a_slotTo, a_slotNonce, a_slotView, a_slotLeader, a_slotLength, a_slotCommit, a_slotClient, a_slotNumber, a_slotOp⟩ := u'
    obtain ⟨hZ, hR, hM, hB⟩ := hu'
    have q5 := hR f hf
    obtain ⟨ok, ⟨s1, s2, s3, s4, s5, s6⟩, l, r⟩ := q5
    have ok1 := ok.1
    have r5 : a_length (nI f).toNatClampNeg = nI (H f).2.2.2.2.1 := ix_rd (by omega) s5
    refine br_f (nI_pos (by omega)) (br_f (nI_pos (by omega)) ⟨ix_5 hf, pk_le bs (H f).2.2.2.2.1 (fun hle => ?_) (fun hlt => ?_) (hy := r5)⟩)
    · refine ⟨ix_5 hf, nm_r (e' := nI ((H f).2.2.2.2.1 - bs)) (by rw [r5, pk_sub hle]) ⟨ix_32 htl, nm_e ⟨ix_32 htl, nm_e ⟨(H f).2.2.2.2.1 - bs + 1, ?_⟩⟩⟩⟩
      refine xm_pl_0 hf htl (by omega) (h1 z _ (sx_mk hZ hR ?_ hB))
      rw [show min bs (H f).2.2.2.2.1 = bs by omega, ix_c (by omega)]
      exact rm_base hM hle l
    · refine h1 z _ ?_
      rw [show min bs (H f).2.2.2.2.1 = (H f).2.2.2.2.1 by omega]
      exact sx_mk hZ hR hM hB
  · clear hZ hR hM hB
    obtain ⟨f_PREPARE, f_PREPARE_OK, f_GET_STATE, f_NEW_STATE, f_START_VIEW_CHANGE, f_DO_VIEW_CHANGE, f_GET_LOG, f_NEW_LOG, f_START_VIEW, f_clients, f_capacity, f_letters, f_restarts, f_mailHead, f_mailTail, f_acks, f_votes, f_bestVoter, f_bestLast, f_bestLength, f_bestCommit, a_status, a_view, a_last, a_nonce, a_cell, a_length, a_commit, a_logClient, a_logNumber, a_logOp, a_registers, a_tableNumber, a_tableResult, a_mailKind, a_mailFrom, a_mailTo, a_mailView, a_mailLast, a_mailCommit, a_mailLength, a_mailBase, a_mailCount, a_mailClient, a_mailNumber, a_mailOp, a_voted, a_voteCommit, a_slotState, a_slotFrom, a_slotTo, a_slotNonce, a_slotView, a_slotLeader, a_slotLength, a_slotCommit, a_slotClient, a_slotNumber, a_slotOp⟩ := u'
    obtain ⟨hZ, hR, hM, hB⟩ := hu'
    exact br_t (by decide) (h0 z _ (sx_mk hZ hR hM hB))
theorem xm_install {post : SX → Prop} (hu : sx_R Z H hd tl Q B u) {m k f b bs : Nat} {x : vg_R} (hm : m < tl) (hQ : Q m = (k, f, b, bs, x)) (h1 : bs ≤ (H b).2.2.2.2.1) (h2 : (H b).2.2.2.2.2.1 ≤ x.2.2.2.2.1)
    (ha : ∀ i, (i < bs ∨ i < (H b).2.2.2.2.2.1) → (H b).2.2.2.2.2.2 i = x.2.2.2.2.2.2 i)
    (hp : ∀ u', sx_R Z (fs_set H b ((H b).1, (H b).2.1, (H b).2.2.1, (H b).2.2.2.1, x.2.2.2.2.1, (H b).2.2.2.2.2.1, x.2.2.2.2.2.2)) hd tl Q B u' → post u') : wpX_install post u (nI m) := by
  refine sx_el (P := fun u => wpX_install post u (nI m)) ?_ hu
  intro f_PREPARE f_PREPARE_OK f_GET_STATE f_NEW_STATE f_START_VIEW_CHANGE f_DO_VIEW_CHANGE f_GET_LOG f_NEW_LOG f_START_VIEW f_clients f_capacity f_letters f_restarts f_mailHead f_mailTail f_acks f_votes f_bestVoter f_bestLast f_bestLength f_bestCommit a_status a_view a_last a_nonce a_cell a_length a_commit a_logClient a_logNumber a_logOp a_registers a_tableNumber a_tableResult a_mailKind a_mailFrom a_mailTo a_mailView a_mailLast a_mailCommit a_mailLength a_mailBase a_mailCount a_mailClient a_mailNumber a_mailOp a_voted a_voteCommit a_slotState a_slotFrom a_slotTo a_slotNonce a_slotView a_slotLeader a_slotLength a_slotCommit a_slotClient a_slotNumber a_slotOp hZ hR hM hB
  have hM' := hM
  obtain ⟨⟨_, _, _, a4⟩, hq⟩ := hM
  have h3 := hq m hm
  rw [hQ] at h3
  obtain ⟨⟨e1, e2, e3, e4, e5, e6, e7, e8, e9⟩, ⟨b1, b2, b3, b4⟩, ml⟩ := h3
  dsimp only at e1 e2 e3 e4 e5 e6 e7 e8 e9 b1 b2 b3 b4
  obtain ⟨ok, ⟨s1, s2, s3, s4, s5, s6⟩, l, r⟩ := hR b b3
  have ok1 := ok.1
  have b41 := b4.1
  have im := ix_32 (by omega : m < 32)
  refine ⟨im, nm_r (ix_rd (by omega) e3) ⟨im, nm_r (ix_rd (by omega) e8) ⟨im, nm_r (ix_rd (by omega) e9) ⟨ix_5 b3, br_t ?_ ⟨x.2.2.2.2.1 - bs + 1, ?_⟩⟩⟩⟩⟩
  · rw [ix_rd (by omega) s5]
    exact nI_le h1 (by omega)
  · refine xm_in_0 b3 (by omega) (by omega) (hp _ (sx_mk hZ ?_ hM' hB))
    refine rr_set hR ⟨by dsimp only; omega, b4.2⟩ ⟨⟨s1, s2, s3, s4, ?_, s6⟩, ?_, ?_⟩ ?_ ?_ ?_
    · rw [pk_us]
      exact congrArg nI (by dsimp only; omega)
    · intro i hi
      dsimp only at hi ⊢
      by_cases hi2 : i < bs
      · rw [cp_out (by omega), cp_out (by omega), cp_out (by omega), ← ha i (Or.inl hi2)]
        exact l i (by omega)
      · obtain ⟨j, rfl⟩ : ∃ j, i = bs + j := ⟨i - bs, by omega⟩
        rw [← Nat.add_assoc, cp_in j (by omega), cp_in j (by omega), cp_in j (by omega)]
        exact ml j (by dsimp only; omega)
    · intro i hi
      dsimp only
      have c : ∀ j, j < (H b).2.2.2.2.2.1 → (H b).2.2.2.2.2.2 j = x.2.2.2.2.2.2 j := fun j hj => ha j (Or.inr hj)
      rw [← vl_val_c c, ← vl_num_c c, ← vl_rs_c c]
      exact r i hi
    · exact fun j hj => ⟨rfl, rfl, rfl, rfl, pk_un hj, rfl⟩
    · exact fun j hj => ⟨cp_out (by omega), cp_out (by omega), cp_out (by omega)⟩
    · exact fun j hj => ⟨rfl, rfl, rfl⟩
end
end
section
/-! X: the handlers of normal operation -/
theorem rm_msg {hd tl : Nat} {Q : Nat → vg_M} {fH fT : Int32} {mK mF mT mV mL mC mZ mB mN cC cN cO : Nat → Int32} (h : rm_Q hd tl Q fH fT mK mF mT mV mL mC mZ mB mN cC cN cO)
    {m k f t bs : Nat} {x : vg_R} (hm : m < tl) (hQ : Q m = (k, f, t, bs, x)) :
    (mK (nI m).toNatClampNeg = nI k ∧ mF (nI m).toNatClampNeg = nI f ∧ mT (nI m).toNatClampNeg = nI t ∧ mV (nI m).toNatClampNeg = nI x.2.1 ∧ mL (nI m).toNatClampNeg = nI x.2.2.1 ∧ mC (nI m).toNatClampNeg = nI x.2.2.2.2.2.1 ∧ mZ (nI m).toNatClampNeg = nI x.2.2.2.2.1 ∧ mB (nI m).toNatClampNeg = nI bs) ∧
    vp_in (nI m) 32 ∧ bs ≤ x.2.2.2.2.1 ∧ f < 5 ∧ t < 5 ∧ rr_ok x := by
  obtain ⟨⟨_, _, _, a4⟩, hq⟩ := h
  have h3 := hq m hm
  rw [hQ] at h3
  obtain ⟨⟨e1, e2, e3, e4, e5, e6, e7, e8, e9⟩, ⟨b1, b2, b3, b4⟩, ml⟩ := h3
  rw [ix_c (by omega)]
  exact ⟨⟨e1, e2, e3, e4, e5, e6, e7, e8⟩, ix_32 (by omega), b1, b2, b3, b4⟩
def vg_cp (P x : vg_R) : vg_R := (0, P.2.1, P.2.1, x.2.2.2.1, P.2.2.2.2.1, P.2.2.2.2.2.1, P.2.2.2.2.2.2)
def sp_ok (P x : vg_R) : Prop := x.2.2.2.2.2.1 ≤ P.2.2.2.2.2.1 ∧ (∀ i, i < x.2.2.2.2.2.1 → x.2.2.2.2.2.2 i = P.2.2.2.2.2.2 i) ∧ (x.1 = 0 → x.2.2.1 = x.2.1) ∧ (x.1 = 0 → x.2.1 = P.2.1 → x.2.2.2.2.1 ≤ P.2.2.2.2.1 ∧ ∀ i, i < x.2.2.2.2.1 → x.2.2.2.2.2.2 i = P.2.2.2.2.2.2 i)
theorem tc_set {H : Nat → vg_R} {ce : Nat → Nat} {a c b : Nat} {x : vg_R} (h : vg_tch H ce a c = true) (hx : x.1 ≠ 3) : vg_tch (fs_set H b x) ce a c = true := by
  rw [vg_tch_iff] at h ⊢
  obtain ⟨h1, h2, h3, h4⟩ := h
  refine ⟨h1, ?_, ?_, h4⟩
  · by_cases e : a = b
    · rw [e, fs_eq]; exact hx
    · rw [fs_ne e]; exact h2
  · by_cases e : c = b
    · rw [e, fs_eq]; exact hx
    · rw [fs_ne e]; exact h3
theorem tc_sym {H : Nat → vg_R} {ce : Nat → Nat} {a c : Nat} (h : vg_tch H ce a c = true) : vg_tch H ce c a = true := by
  rw [vg_tch_iff] at h ⊢
  exact ⟨h.1.symm, h.2.2.1, h.2.1, h.2.2.2.symm⟩
theorem nt_f {b : Bool} {P : Prop} (h : b = true) (h2 : b = false) : P := by
  rw [h] at h2
  exact absurd h2 (by decide)
section
variable {Z : vg_Z} {H : Nat → vg_R} {hd tl : Nat} {Q : Nat → vg_M} {B : vg_B} {u : SX} {post : SX → Prop}
theorem xm_onPrepare (hu : sx_R Z H hd tl Q B u) {m p b bs : Nat} {P : vg_R} (hm : m < tl) (hQ : Q m = (1, p, b, bs, P)) (htl : tl < 32) (htc : vg_tch H Z.2.2.2.2.1 b p = true)
    (hs : (H b).1 ≤ 1 → (H b).2.1 ≤ P.2.1 → sp_ok P (H b))
    (hN : ¬ ((H b).1 ≤ 1 ∧ (H b).2.1 ≤ P.2.1) → ∀ u', sx_R Z H hd tl Q B u' → post u')
    (hB : (H b).1 ≤ 1 → (H b).2.1 ≤ P.2.1 → ∀ u', sx_R Z (fs_set H b (vg_cp P (H b))) hd (tl + 1) (fs_set Q tl (2, b, p, P.2.2.2.2.1, vg_cp P (H b))) B u' → post u')
    (hC : (H b).1 ≤ 1 → (H b).2.1 ≤ P.2.1 → ¬ ((H b).1 = 0 ∧ (H b).2.1 = P.2.1 ∧ bs ≤ (H b).2.2.2.2.1) → ∀ u', sx_R Z H hd (tl + 1) (fs_set Q tl (3, b, p, (H b).2.2.2.2.1, H b)) B u' → post u') : wpX_onPrepare post u (nI m) := by
  refine sx_el (P := fun u => wpX_onPrepare post u (nI m)) ?_ hu
  intro f_PREPARE f_PREPARE_OK f_GET_STATE f_NEW_STATE f_START_VIEW_CHANGE f_DO_VIEW_CHANGE f_GET_LOG f_NEW_LOG f_START_VIEW f_clients f_capacity f_letters f_restarts f_mailHead f_mailTail f_acks f_votes f_bestVoter f_bestLast f_bestLength f_bestCommit a_status a_view a_last a_nonce a_cell a_length a_commit a_logClient a_logNumber a_logOp a_registers a_tableNumber a_tableResult a_mailKind a_mailFrom a_mailTo a_mailView a_mailLast a_mailCommit a_mailLength a_mailBase a_mailCount a_mailClient a_mailNumber a_mailOp a_voted a_voteCommit a_slotState a_slotFrom a_slotTo a_slotNonce a_slotView a_slotLeader a_slotLength a_slotCommit a_slotClient a_slotNumber a_slotOp hZ hR hM hB'
  obtain ⟨⟨e1, e2, e3, e4, e5, e6, e7, e8⟩, im, b1, b2, b3, b4⟩ := rm_msg hM hm hQ
  have hv := sx_mk hZ hR hM hB' (f_PREPARE := f_PREPARE) (f_PREPARE_OK := f_PREPARE_OK) (f_GET_STATE := f_GET_STATE) (f_NEW_STATE := f_NEW_STATE) (f_START_VIEW_CHANGE := f_START_VIEW_CHANGE) (f_DO_VIEW_CHANGE := f_DO_VIEW_CHANGE) (f_GET_LOG := f_GET_LOG) (f_NEW_LOG := f_NEW_LOG) (f_START_VIEW := f_START_VIEW)
  obtain ⟨ok, ⟨s1, s2, s3, s4, s5, s6⟩, l, r⟩ := hR b b3
  have ok1 := ok.1
  have pk1 := b4.1
  have r1 := ix_rd (by omega : b < 2000) s1
  have r2 := ix_rd (by omega : b < 2000) s2
  have r5 := ix_rd (by omega : b < 2000) s5
  have i5 := ix_5 b3
  have kC : (H b).1 ≤ 1 → (H b).2.1 ≤ P.2.1 → ¬ ((H b).1 = 0 ∧ (H b).2.1 = P.2.1 ∧ bs ≤ (H b).2.2.2.2.1) → wX_onPrepare_112 post (nI m) (nI b) f_PREPARE f_PREPARE_OK f_GET_STATE f_NEW_STATE f_START_VIEW_CHANGE f_DO_VIEW_CHANGE f_GET_LOG f_NEW_LOG f_START_VIEW f_clients f_capacity f_letters f_restarts f_mailHead f_mailTail f_acks f_votes f_bestVoter f_bestLast f_bestLength f_bestCommit a_status a_view a_last a_nonce a_cell a_length a_commit a_logClient a_logNumber a_logOp a_registers a_tableNumber a_tableResult a_mailKind a_mailFrom a_mailTo a_mailView a_mailLast a_mailCommit a_mailLength a_mailBase a_mailCount a_mailClient a_mailNumber a_mailOp a_voted a_voteCommit a_slotState a_slotFrom a_slotTo a_slotNonce a_slotView a_slotLeader a_slotLength a_slotCommit a_slotClient a_slotNumber a_slotOp := by
    intro z1 z2 z3
    refine And.intro im ?_
    rw [e2]
    refine xm_post (k := 3) hv b3 b2 htl (fun _ u' hu' => hC z1 z2 z3 u' hu') (fun z => nt_f htc z)
  refine ⟨im, nm_r e3 (xm_act hv b3 (fun z => br_f (by decide) ⟨i5, im, pk_le (H b).2.1 P.2.1 (fun z2 => ⟨i5, pk_eq (H b).1 0 (fun z3 => ⟨i5, im, pk_eq (H b).2.1 P.2.1 (fun z4 => ?_) (fun z4 => br_t rfl (kC z z2 (fun q => z4 q.2.1))) (hx := r2) (hy := e4)⟩) (fun z3 => br_t rfl (kC z z2 (fun q => z3 q.1))) (hx := r1)⟩) (fun z2 => hN (by omega) _ hv) (hx := r2) (hy := e4)⟩) (fun z => br_t rfl (hN (by omega) _ hv)))⟩
  refine br_f (by decide) ⟨i5, im, pk_lt (H b).2.2.2.2.1 bs (fun z5 => kC z z2 (by omega)) (fun z5 => ?_) (hx := r5) (hy := e8)⟩
  obtain ⟨q1, q2, q3, q4⟩ := hs z z2
  obtain ⟨q5, q6⟩ := q4 z3 z4
  have q7 := q3 z3
  refine xm_install hv hm hQ z5 (by omega) (fun i hi => q6 i (by omega)) (fun u1 hu1 => ?_)
  clear hZ hR hM hB' hv e1 e2 e3 e4 e5 e6 e7 e8 s1 s2 s3 s4 s5 s6 l r r1 r2 r5 kC
  obtain ⟨f_PREPARE, f_PREPARE_OK, f_GET_STATE, f_NEW_STATE, f_START_VIEW_CHANGE, f_DO_VIEW_CHANGE, f_GET_LOG, f_NEW_LOG, f_START_VIEW, f_clients, f_capacity, f_letters, f_restarts, f_mailHead, f_mailTail, f_acks, f_votes, f_bestVoter, f_bestLast, f_bestLength, f_bestCommit, a_status, a_view, a_last, a_nonce, a_cell, a_length, a_commit, a_logClient, a_logNumber, a_logOp, a_registers, a_tableNumber, a_tableResult, a_mailKind, a_mailFrom, a_mailTo, a_mailView, a_mailLast, a_mailCommit, a_mailLength, a_mailBase, a_mailCount, a_mailClient, a_mailNumber, a_mailOp, a_voted, a_voteCommit, a_slotState, a_slotFrom, a_slotTo, a_slotNonce, a_slotView, a_slotLeader, a_slotLength, a_slotCommit, a_slotClient, a_slotNumber, a_slotOp⟩ := u1
  obtain ⟨hZ, hR, hM, hB'⟩ := hu1
  obtain ⟨⟨e1, e2, e3, e4, e5, e6, e7, e8⟩, _⟩ := rm_msg hM hm hQ
  refine ⟨im, ?_⟩
  rw [e6]
  refine xm_adv (sx_mk hZ hR hM hB') b3 (by rw [fs_eq]; exact pk1.2.2.2.2.2) (fun u2 hu2 => ?_)
  have eX : ((H b).1, (H b).2.1, (H b).2.2.1, (H b).2.2.2.1, P.2.2.2.2.1, max (H b).2.2.2.2.2.1 P.2.2.2.2.2.1, P.2.2.2.2.2.2) = vg_cp P (H b) := by
    unfold vg_cp
    rw [q7, z3, z4, show max (H b).2.2.2.2.2.1 P.2.2.2.2.2.1 = P.2.2.2.2.2.1 by omega]
  simp only [fs_eq, fs_fs, eX] at hu2
  clear hZ hR hM hB' e1 e2 e3 e4 e5 e6 e7 e8
  obtain ⟨f_PREPARE, f_PREPARE_OK, f_GET_STATE, f_NEW_STATE, f_START_VIEW_CHANGE, f_DO_VIEW_CHANGE, f_GET_LOG, f_NEW_LOG, f_START_VIEW, f_clients, f_capacity, f_letters, f_restarts, f_mailHead, f_mailTail, f_acks, f_votes, f_bestVoter, f_bestLast, f_bestLength, f_bestCommit, a_status, a_view, a_last, a_nonce, a_cell, a_length, a_commit, a_logClient, a_logNumber, a_logOp, a_registers, a_tableNumber, a_tableResult, a_mailKind, a_mailFrom, a_mailTo, a_mailView, a_mailLast, a_mailCommit, a_mailLength, a_mailBase, a_mailCount, a_mailClient, a_mailNumber, a_mailOp, a_voted, a_voteCommit, a_slotState, a_slotFrom, a_slotTo, a_slotNonce, a_slotView, a_slotLeader, a_slotLength, a_slotCommit, a_slotClient, a_slotNumber, a_slotOp⟩ := u2
  obtain ⟨hZ, hR, hM, hB'⟩ := hu2
  obtain ⟨⟨e1, e2, e3, e4, e5, e6, e7, e8⟩, _⟩ := rm_msg hM hm hQ
  refine ⟨im, ?_⟩
  rw [e2]
  refine xm_post (k := 2) (sx_mk hZ hR hM hB') b3 b2 htl (fun _ u' hu' => ?_) (fun z => nt_f (tc_set htc (by decide : (0 : Nat) ≠ 3)) z)
  rw [fs_eq] at hu'
  exact hB z z2 u' hu'
theorem xm_onPrepareOk (hu : sx_R Z H hd tl Q B u) {m b p bs : Nat} {x : vg_R} (hm : m < tl) (hQ : Q m = (2, b, p, bs, x))
    (h1 : (H p).1 = 0 ∧ (H p).2.1 = x.2.1 ∧ (H p).2.2.2.2.1 = x.2.2.2.2.1 → ∀ u', sx_R Z H hd tl Q (B.1 + 1, B.2) u' → post u')
    (h0 : ¬ ((H p).1 = 0 ∧ (H p).2.1 = x.2.1 ∧ (H p).2.2.2.2.1 = x.2.2.2.2.1) → ∀ u', sx_R Z H hd tl Q B u' → post u') : wpX_onPrepareOk post u (nI m) := by
  refine sx_el (P := fun u => wpX_onPrepareOk post u (nI m)) ?_ hu
  intro f_PREPARE f_PREPARE_OK f_GET_STATE f_NEW_STATE f_START_VIEW_CHANGE f_DO_VIEW_CHANGE f_GET_LOG f_NEW_LOG f_START_VIEW f_clients f_capacity f_letters f_restarts f_mailHead f_mailTail f_acks f_votes f_bestVoter f_bestLast f_bestLength f_bestCommit a_status a_view a_last a_nonce a_cell a_length a_commit a_logClient a_logNumber a_logOp a_registers a_tableNumber a_tableResult a_mailKind a_mailFrom a_mailTo a_mailView a_mailLast a_mailCommit a_mailLength a_mailBase a_mailCount a_mailClient a_mailNumber a_mailOp a_voted a_voteCommit a_slotState a_slotFrom a_slotTo a_slotNonce a_slotView a_slotLeader a_slotLength a_slotCommit a_slotClient a_slotNumber a_slotOp hZ hR hM hB'
  obtain ⟨⟨e1, e2, e3, e4, e5, e6, e7, e8⟩, im, b1, b2, b3, b4⟩ := rm_msg hM hm hQ
  obtain ⟨ok, ⟨s1, s2, s3, s4, s5, s6⟩, l, r⟩ := hR p b3
  have ok1 := ok.1
  have pk1 := b4.1
  have r1 := ix_rd (by omega : p < 2000) s1
  have r2 := ix_rd (by omega : p < 2000) s2
  have r5 := ix_rd (by omega : p < 2000) s5
  have i5 := ix_5 b3
  refine ⟨im, nm_r e3 ⟨i5, pk_eq (H p).1 0 (fun z => ⟨i5, im, pk_eq (H p).2.1 x.2.1 (fun z2 => ⟨i5, im, pk_eq (H p).2.2.2.2.1 x.2.2.2.2.1 (fun z3 => nm_e (h1 ⟨z, z2, z3⟩ _ (sx_mk hZ hR hM ?_))) (fun z3 => h0 (fun q => z3 q.2.2) _ (sx_mk hZ hR hM hB')) (hx := r5) (hy := e7)⟩) (fun z2 => h0 (fun q => z2 q.2.1) _ (sx_mk hZ hR hM hB')) (hx := r2) (hy := e4)⟩) (fun z => h0 (fun q => z q.1) _ (sx_mk hZ hR hM hB')) (hx := r1)⟩⟩
  obtain ⟨k1, k2⟩ := hB'
  exact ⟨by rw [k1], k2⟩
theorem xm_onGetState (hu : sx_R Z H hd tl Q B u) {m b s bs : Nat} {x : vg_R} (hm : m < tl) (hQ : Q m = (3, b, s, bs, x)) (htl : tl < 32) (htc : vg_tch H Z.2.2.2.2.1 s b = true)
    (h1 : (H s).1 = 0) (h2 : x.2.1 ≤ (H s).2.1)
    (hp : ∀ u', sx_R Z H hd (tl + 1) (fs_set Q tl (4, s, b, min x.2.2.2.2.2.1 (H s).2.2.2.2.1, H s)) B u' → post u') : wpX_onGetState post u (nI m) := by
  refine sx_el (P := fun u => wpX_onGetState post u (nI m)) ?_ hu
  intro f_PREPARE f_PREPARE_OK f_GET_STATE f_NEW_STATE f_START_VIEW_CHANGE f_DO_VIEW_CHANGE f_GET_LOG f_NEW_LOG f_START_VIEW f_clients f_capacity f_letters f_restarts f_mailHead f_mailTail f_acks f_votes f_bestVoter f_bestLast f_bestLength f_bestCommit a_status a_view a_last a_nonce a_cell a_length a_commit a_logClient a_logNumber a_logOp a_registers a_tableNumber a_tableResult a_mailKind a_mailFrom a_mailTo a_mailView a_mailLast a_mailCommit a_mailLength a_mailBase a_mailCount a_mailClient a_mailNumber a_mailOp a_voted a_voteCommit a_slotState a_slotFrom a_slotTo a_slotNonce a_slotView a_slotLeader a_slotLength a_slotCommit a_slotClient a_slotNumber a_slotOp hZ hR hM hB'
  obtain ⟨⟨e1, e2, e3, e4, e5, e6, e7, e8⟩, im, b1, b2, b3, b4⟩ := rm_msg hM hm hQ
  obtain ⟨ok, ⟨s1, s2, s3, s4, s5, s6⟩, l, r⟩ := hR s b3
  have ok1 := ok.1
  have pk1 := b4.1
  have r1 := ix_rd (by omega : s < 2000) s1
  have r2 := ix_rd (by omega : s < 2000) s2
  have i5 := ix_5 b3
  refine ⟨im, nm_r e3 ⟨i5, br_t (by rw [r1, h1]; rfl) ⟨i5, im, br_f (by rw [r2, e4]; exact nI_nlt h2 (by omega)) ⟨im, im, ?_⟩⟩⟩⟩
  rw [e2, e6]
  exact xm_postLog (k := 4) (sx_mk hZ hR hM hB') b3 b2 htl (by omega) (fun _ u' hu' => hp u' hu') (fun z => nt_f htc z)
/-- what a new state makes of x -/
def vg_ns (P x : vg_R) : vg_R := if x.1 = 0 ∧ x.2.1 = P.2.1 ∧ P.2.2.2.2.1 ≤ x.2.2.2.2.1 then (0, P.2.1, P.2.1, x.2.2.2.1, x.2.2.2.2.1, max x.2.2.2.2.2.1 P.2.2.2.2.2.1, x.2.2.2.2.2.2) else (0, P.2.1, P.2.1, x.2.2.2.1, P.2.2.2.2.1, max x.2.2.2.2.2.1 P.2.2.2.2.2.1, P.2.2.2.2.2.2)
theorem xm_ns84 {m s b bs : Nat} {P : vg_R} {x : vg_R} (hu : sx_R Z (fs_set H b x) hd tl Q B u) (hm : m < tl) (hQ : Q m = (4, s, b, bs, P)) (htl : tl < 32) (htc : vg_tch H Z.2.2.2.2.1 b s = true) (hc : P.2.2.2.2.2.1 ≤ x.2.2.2.2.1)
    (h1 : s = P.2.1 % 5 → ∀ u', sx_R Z (fs_set H b (0, P.2.1, P.2.1, x.2.2.2.1, x.2.2.2.2.1, max x.2.2.2.2.2.1 P.2.2.2.2.2.1, x.2.2.2.2.2.2)) hd (tl + 1) (fs_set Q tl (2, b, s, x.2.2.2.2.1, (0, P.2.1, P.2.1, x.2.2.2.1, x.2.2.2.2.1, max x.2.2.2.2.2.1 P.2.2.2.2.2.1, x.2.2.2.2.2.2))) B u' → post u')
    (h0 : s ≠ P.2.1 % 5 → ∀ u', sx_R Z (fs_set H b (0, P.2.1, P.2.1, x.2.2.2.1, x.2.2.2.2.1, max x.2.2.2.2.2.1 P.2.2.2.2.2.1, x.2.2.2.2.2.2)) hd tl Q B u' → post u') :
    match u with | (f_PREPARE, f_PREPARE_OK, f_GET_STATE, f_NEW_STATE, f_START_VIEW_CHANGE, f_DO_VIEW_CHANGE, f_GET_LOG, f_NEW_LOG, f_START_VIEW, f_clients, f_capacity, f_letters, f_restarts, f_mailHead, f_mailTail, f_acks, f_votes, f_bestVoter, f_bestLast, f_bestLength, f_bestCommit, a_status, a_view, a_last, a_nonce, a_cell, a_length, a_commit, a_logClient, a_logNumber, a_logOp, a_registers, a_tableNumber, a_tableResult, a_mailKind, a_mailFrom, a_mailTo, a_mailView, a_mailLast, a_mailCommit, a_mailLength, a_mailBase, a_mailCount, a_mailClient, a_mailNumber, a_mailOp, a_voted, a_voteCommit, a_slotState, a_slotFrom, a_slotTo, a_slotNonce, a_slotView, a_slotLeader, a_slotLength, a_slotCommit, a_slotClient, a_slotNumber, a_slotOp) => wX_onNewState_84 post (nI m) (nI b) (nI P.2.1) f_PREPARE f_PREPARE_OK f_GET_STATE f_NEW_STATE f_START_VIEW_CHANGE f_DO_VIEW_CHANGE f_GET_LOG f_NEW_LOG f_START_VIEW f_clients f_capacity f_letters f_restarts f_mailHead f_mailTail f_acks f_votes f_bestVoter f_bestLast f_bestLength f_bestCommit a_status a_view a_last a_nonce a_cell a_length a_commit a_logClient a_logNumber a_logOp a_registers a_tableNumber a_tableResult a_mailKind a_mailFrom a_mailTo a_mailView a_mailLast a_mailCommit a_mailLength a_mailBase a_mailCount a_mailClient a_mailNumber a_mailOp a_voted a_voteCommit a_slotState a_slotFrom a_slotTo a_slotNonce a_slotView a_slotLeader a_slotLength a_slotCommit a_slotClient a_slotNumber a_slotOp := by
  obtain ⟨f_PREPARE, f_PREPARE_OK, f_GET_STATE, f_NEW_STATE, f_START_VIEW_CHANGE, f_DO_VIEW_CHANGE, f_GET_LOG, f_NEW_LOG, f_START_VIEW, f_clients, f_capacity, f_letters, f_restarts, f_mailHead, f_mailTail, f_acks, f_votes, f_bestVoter, f_bestLast, f_bestLength, f_bestCommit, a_status, a_view, a_last, a_nonce, a_cell, a_length, a_commit, a_logClient, a_logNumber, a_logOp, a_registers, a_tableNumber, a_tableResult, a_mailKind, a_mailFrom, a_mailTo, a_mailView, a_mailLast, a_mailCommit, a_mailLength, a_mailBase, a_mailCount, a_mailClient, a_mailNumber, a_mailOp, a_voted, a_voteCommit, a_slotState, a_slotFrom, a_slotTo, a_slotNonce, a_slotView, a_slotLeader, a_slotLength, a_slotCommit, a_slotClient, a_slotNumber, a_slotOp⟩ := u
  obtain ⟨hZ, hR, hM, hB'⟩ := hu
  obtain ⟨⟨e1, e2, e3, e4, e5, e6, e7, e8⟩, im, b1, b2, b3, b4⟩ := rm_msg hM hm hQ
  have pk1 := b4.1
  show wX_onNewState_84 post (nI m) (nI b) (nI P.2.1) f_PREPARE f_PREPARE_OK f_GET_STATE f_NEW_STATE f_START_VIEW_CHANGE f_DO_VIEW_CHANGE f_GET_LOG f_NEW_LOG f_START_VIEW f_clients f_capacity f_letters f_restarts f_mailHead f_mailTail f_acks f_votes f_bestVoter f_bestLast f_bestLength f_bestCommit a_status a_view a_last a_nonce a_cell a_length a_commit a_logClient a_logNumber a_logOp a_registers a_tableNumber a_tableResult a_mailKind a_mailFrom a_mailTo a_mailView a_mailLast a_mailCommit a_mailLength a_mailBase a_mailCount a_mailClient a_mailNumber a_mailOp a_voted a_voteCommit a_slotState a_slotFrom a_slotTo a_slotNonce a_slotView a_slotLeader a_slotLength a_slotCommit a_slotClient a_slotNumber a_slotOp
  unfold wX_onNewState_84
  refine xm_enter (sx_mk hZ hR hM hB') b3 (by omega) (fun u1 hu1 => ?_)
  simp only [fs_eq, fs_fs] at hu1
  clear hZ hR hM hB' e1 e2 e3 e4 e5 e6 e7 e8
  obtain ⟨f_PREPARE, f_PREPARE_OK, f_GET_STATE, f_NEW_STATE, f_START_VIEW_CHANGE, f_DO_VIEW_CHANGE, f_GET_LOG, f_NEW_LOG, f_START_VIEW, f_clients, f_capacity, f_letters, f_restarts, f_mailHead, f_mailTail, f_acks, f_votes, f_bestVoter, f_bestLast, f_bestLength, f_bestCommit, a_status, a_view, a_last, a_nonce, a_cell, a_length, a_commit, a_logClient, a_logNumber, a_logOp, a_registers, a_tableNumber, a_tableResult, a_mailKind, a_mailFrom, a_mailTo, a_mailView, a_mailLast, a_mailCommit, a_mailLength, a_mailBase, a_mailCount, a_mailClient, a_mailNumber, a_mailOp, a_voted, a_voteCommit, a_slotState, a_slotFrom, a_slotTo, a_slotNonce, a_slotView, a_slotLeader, a_slotLength, a_slotCommit, a_slotClient, a_slotNumber, a_slotOp⟩ := u1
  obtain ⟨hZ, hR, hM, hB'⟩ := hu1
  obtain ⟨⟨e1, e2, e3, e4, e5, e6, e7, e8⟩, _⟩ := rm_msg hM hm hQ
  refine ⟨im, ?_⟩
  rw [e6]
  refine xm_adv (sx_mk hZ hR hM hB') b3 (by rw [fs_eq]; exact hc) (fun u2 hu2 => ?_)
  simp only [fs_eq, fs_fs] at hu2
  clear hZ hR hM hB' e1 e2 e3 e4 e5 e6 e7 e8
  obtain ⟨f_PREPARE, f_PREPARE_OK, f_GET_STATE, f_NEW_STATE, f_START_VIEW_CHANGE, f_DO_VIEW_CHANGE, f_GET_LOG, f_NEW_LOG, f_START_VIEW, f_clients, f_capacity, f_letters, f_restarts, f_mailHead, f_mailTail, f_acks, f_votes, f_bestVoter, f_bestLast, f_bestLength, f_bestCommit, a_status, a_view, a_last, a_nonce, a_cell, a_length, a_commit, a_logClient, a_logNumber, a_logOp, a_registers, a_tableNumber, a_tableResult, a_mailKind, a_mailFrom, a_mailTo, a_mailView, a_mailLast, a_mailCommit, a_mailLength, a_mailBase, a_mailCount, a_mailClient, a_mailNumber, a_mailOp, a_voted, a_voteCommit, a_slotState, a_slotFrom, a_slotTo, a_slotNonce, a_slotView, a_slotLeader, a_slotLength, a_slotCommit, a_slotClient, a_slotNumber, a_slotOp⟩ := u2
  obtain ⟨hZ, hR, hM, hB'⟩ := hu2
  obtain ⟨⟨e1, e2, e3, e4, e5, e6, e7, e8⟩, _⟩ := rm_msg hM hm hQ
  refine ⟨im, by decide, pk_eq s (P.2.1 % 5) (fun z => ⟨im, ?_⟩) (fun z => h0 z _ (sx_mk hZ hR hM hB')) (hx := e2) (hy := ix_r5 (by omega))⟩
  rw [e2]
  refine xm_post (k := 2) (sx_mk hZ hR hM hB') b3 b2 htl (fun _ u' hu' => ?_) (fun z => nt_f (tc_set htc (by decide : (0 : Nat) ≠ 3)) z)
  simp only [fs_eq] at hu'
  exact h1 z u' hu'
theorem xm_onNewState (hu : sx_R Z H hd tl Q B u) {m s b bs : Nat} {P : vg_R} (hm : m < tl) (hQ : Q m = (4, s, b, bs, P)) (htl : tl < 32) (htc : vg_tch H Z.2.2.2.2.1 b s = true)
    (ha : (H b).1 ≤ 1) (hw : (H b).2.1 ≤ P.2.1)
    (hi : ¬ ((H b).1 = 0 ∧ (H b).2.1 = P.2.1 ∧ P.2.2.2.2.1 ≤ (H b).2.2.2.2.1) → bs ≤ (H b).2.2.2.2.1 ∧ (H b).2.2.2.2.2.1 ≤ P.2.2.2.2.1 ∧ ∀ i, (i < bs ∨ i < (H b).2.2.2.2.2.1) → (H b).2.2.2.2.2.2 i = P.2.2.2.2.2.2 i)
    (h1 : s = P.2.1 % 5 → ∀ u', sx_R Z (fs_set H b (vg_ns P (H b))) hd (tl + 1) (fs_set Q tl (2, b, s, (vg_ns P (H b)).2.2.2.2.1, vg_ns P (H b))) B u' → post u')
    (h0 : s ≠ P.2.1 % 5 → ∀ u', sx_R Z (fs_set H b (vg_ns P (H b))) hd tl Q B u' → post u') : wpX_onNewState post u (nI m) := by
  refine sx_el (P := fun u => wpX_onNewState post u (nI m)) ?_ hu
  intro f_PREPARE f_PREPARE_OK f_GET_STATE f_NEW_STATE f_START_VIEW_CHANGE f_DO_VIEW_CHANGE f_GET_LOG f_NEW_LOG f_START_VIEW f_clients f_capacity f_letters f_restarts f_mailHead f_mailTail f_acks f_votes f_bestVoter f_bestLast f_bestLength f_bestCommit a_status a_view a_last a_nonce a_cell a_length a_commit a_logClient a_logNumber a_logOp a_registers a_tableNumber a_tableResult a_mailKind a_mailFrom a_mailTo a_mailView a_mailLast a_mailCommit a_mailLength a_mailBase a_mailCount a_mailClient a_mailNumber a_mailOp a_voted a_voteCommit a_slotState a_slotFrom a_slotTo a_slotNonce a_slotView a_slotLeader a_slotLength a_slotCommit a_slotClient a_slotNumber a_slotOp hZ hR hM hB'
  obtain ⟨⟨e1, e2, e3, e4, e5, e6, e7, e8⟩, im, b1, b2, b3, b4⟩ := rm_msg hM hm hQ
  have hv := sx_mk hZ hR hM hB' (f_PREPARE := f_PREPARE) (f_PREPARE_OK := f_PREPARE_OK) (f_GET_STATE := f_GET_STATE) (f_NEW_STATE := f_NEW_STATE) (f_START_VIEW_CHANGE := f_START_VIEW_CHANGE) (f_DO_VIEW_CHANGE := f_DO_VIEW_CHANGE) (f_GET_LOG := f_GET_LOG) (f_NEW_LOG := f_NEW_LOG) (f_START_VIEW := f_START_VIEW)
  obtain ⟨ok, ⟨s1, s2, s3, s4, s5, s6⟩, l, r⟩ := hR b b3
  have ok1 := ok.1
  have pk1 := b4.1
  have r1 := ix_rd (by omega : b < 2000) s1
  have r2 := ix_rd (by omega : b < 2000) s2
  have r5 := ix_rd (by omega : b < 2000) s5
  have i5 := ix_5 b3
  have k79 : ¬ ((H b).1 = 0 ∧ (H b).2.1 = P.2.1 ∧ P.2.2.2.2.1 ≤ (H b).2.2.2.2.1) → wX_onNewState_79 post (nI m) (nI b) (nI P.2.1) f_PREPARE f_PREPARE_OK f_GET_STATE f_NEW_STATE f_START_VIEW_CHANGE f_DO_VIEW_CHANGE f_GET_LOG f_NEW_LOG f_START_VIEW f_clients f_capacity f_letters f_restarts f_mailHead f_mailTail f_acks f_votes f_bestVoter f_bestLast f_bestLength f_bestCommit a_status a_view a_last a_nonce a_cell a_length a_commit a_logClient a_logNumber a_logOp a_registers a_tableNumber a_tableResult a_mailKind a_mailFrom a_mailTo a_mailView a_mailLast a_mailCommit a_mailLength a_mailBase a_mailCount a_mailClient a_mailNumber a_mailOp a_voted a_voteCommit a_slotState a_slotFrom a_slotTo a_slotNonce a_slotView a_slotLeader a_slotLength a_slotCommit a_slotClient a_slotNumber a_slotOp := by
    intro z
    obtain ⟨q1, q2, q3⟩ := hi z
    unfold vg_ns at h1 h0
    rw [if_neg z] at h1 h0
    unfold wX_onNewState_79
    refine xm_install hv hm hQ q1 q2 q3 (fun u1 hu1 => ?_)
    exact xm_ns84 hu1 hm hQ htl htc pk1.2.2.2.2.2 h1 h0
  have k84 : ((H b).1 = 0 ∧ (H b).2.1 = P.2.1 ∧ P.2.2.2.2.1 ≤ (H b).2.2.2.2.1) → wX_onNewState_84 post (nI m) (nI b) (nI P.2.1) f_PREPARE f_PREPARE_OK f_GET_STATE f_NEW_STATE f_START_VIEW_CHANGE f_DO_VIEW_CHANGE f_GET_LOG f_NEW_LOG f_START_VIEW f_clients f_capacity f_letters f_restarts f_mailHead f_mailTail f_acks f_votes f_bestVoter f_bestLast f_bestLength f_bestCommit a_status a_view a_last a_nonce a_cell a_length a_commit a_logClient a_logNumber a_logOp a_registers a_tableNumber a_tableResult a_mailKind a_mailFrom a_mailTo a_mailView a_mailLast a_mailCommit a_mailLength a_mailBase a_mailCount a_mailClient a_mailNumber a_mailOp a_voted a_voteCommit a_slotState a_slotFrom a_slotTo a_slotNonce a_slotView a_slotLeader a_slotLength a_slotCommit a_slotClient a_slotNumber a_slotOp := by
    intro z
    unfold vg_ns at h1 h0
    rw [if_pos z] at h1 h0
    have hv2 := hv
    rw [← fs_id H b] at hv2
    exact xm_ns84 hv2 hm hQ htl htc (by omega) h1 h0
  refine ⟨im, nm_r e3 ⟨im, nm_r e4 (xm_act hv b3 (fun z => br_f (by decide) ⟨i5, br_t (by rw [r2]; exact nI_le hw (by omega)) ⟨i5, pk_eq (H b).1 0 (fun z3 => ⟨i5, pk_eq (H b).2.1 P.2.1 (fun z4 => ?_) (fun z4 => br_t rfl (k79 (fun q => z4 q.2.1))) (hx := r2)⟩) (fun z3 => br_t rfl (k79 (fun q => z3 q.1))) (hx := r1)⟩⟩) (fun z => absurd ha (by omega)))⟩⟩
  exact br_f (by decide) ⟨im, i5, pk_le P.2.2.2.2.1 (H b).2.2.2.2.1 (fun z5 => k84 ⟨z3, z4, z5⟩) (fun z5 => k79 (by omega)) (hx := e7) (hy := r5)⟩
end
end
section
/-! X: the exchange, and SPREAD -/
theorem sx_cong {Z : vg_Z} {H H' : Nat → vg_R} {hd tl : Nat} {Q : Nat → vg_M} {B : vg_B} {u : SX} (hu : sx_R Z H hd tl Q B u) (h : ∀ b, b < 5 → H b = H' b) : sx_R Z H' hd tl Q B u := by
  obtain ⟨f_PREPARE, f_PREPARE_OK, f_GET_STATE, f_NEW_STATE, f_START_VIEW_CHANGE, f_DO_VIEW_CHANGE, f_GET_LOG, f_NEW_LOG, f_START_VIEW, f_clients, f_capacity, f_letters, f_restarts, f_mailHead, f_mailTail, f_acks, f_votes, f_bestVoter, f_bestLast, f_bestLength, f_bestCommit, a_status, a_view, a_last, a_nonce, a_cell, a_length, a_commit, a_logClient, a_logNumber, a_logOp, a_registers, a_tableNumber, a_tableResult, a_mailKind, a_mailFrom, a_mailTo, a_mailView, a_mailLast, a_mailCommit, a_mailLength, a_mailBase, a_mailCount, a_mailClient, a_mailNumber, a_mailOp, a_voted, a_voteCommit, a_slotState, a_slotFrom, a_slotTo, a_slotNonce, a_slotView, a_slotLeader, a_slotLength, a_slotCommit, a_slotClient, a_slotNumber, a_slotOp⟩ := u
  obtain ⟨hZ, hR, hM, hB⟩ := hu
  refine sx_mk hZ (fun b hb => ?_) hM hB
  rw [← h b hb]
  exact hR b hb
theorem sx_ok {Z : vg_Z} {H : Nat → vg_R} {hd tl : Nat} {Q : Nat → vg_M} {B : vg_B} {u : SX} (hu : sx_R Z H hd tl Q B u) : ∀ b, b < 5 → rr_ok (H b) := by
  obtain ⟨f_PREPARE, f_PREPARE_OK, f_GET_STATE, f_NEW_STATE, f_START_VIEW_CHANGE, f_DO_VIEW_CHANGE, f_GET_LOG, f_NEW_LOG, f_START_VIEW, f_clients, f_capacity, f_letters, f_restarts, f_mailHead, f_mailTail, f_acks, f_votes, f_bestVoter, f_bestLast, f_bestLength, f_bestCommit, a_status, a_view, a_last, a_nonce, a_cell, a_length, a_commit, a_logClient, a_logNumber, a_logOp, a_registers, a_tableNumber, a_tableResult, a_mailKind, a_mailFrom, a_mailTo, a_mailView, a_mailLast, a_mailCommit, a_mailLength, a_mailBase, a_mailCount, a_mailClient, a_mailNumber, a_mailOp, a_voted, a_voteCommit, a_slotState, a_slotFrom, a_slotTo, a_slotNonce, a_slotView, a_slotLeader, a_slotLength, a_slotCommit, a_slotClient, a_slotNumber, a_slotOp⟩ := u
  obtain ⟨hZ, hR, hM, hB⟩ := hu
  intro b hb
  exact (hR b hb).1
def xe_ex (post : SX → Prop) (n : Nat) (x : Int32) (u : SX) : Prop := match u with
  | (f_PREPARE, f_PREPARE_OK, f_GET_STATE, f_NEW_STATE, f_START_VIEW_CHANGE, f_DO_VIEW_CHANGE, f_GET_LOG, f_NEW_LOG, f_START_VIEW, f_clients, f_capacity, f_letters, f_restarts, f_mailHead, f_mailTail, f_acks, f_votes, f_bestVoter, f_bestLast, f_bestLength, f_bestCommit, a_status, a_view, a_last, a_nonce, a_cell, a_length, a_commit, a_logClient, a_logNumber, a_logOp, a_registers, a_tableNumber, a_tableResult, a_mailKind, a_mailFrom, a_mailTo, a_mailView, a_mailLast, a_mailCommit, a_mailLength, a_mailBase, a_mailCount, a_mailClient, a_mailNumber, a_mailOp, a_voted, a_voteCommit, a_slotState, a_slotFrom, a_slotTo, a_slotNonce, a_slotView, a_slotLeader, a_slotLength, a_slotCommit, a_slotClient, a_slotNumber, a_slotOp) => wX_exchange_2 post n x f_PREPARE f_PREPARE_OK f_GET_STATE f_NEW_STATE f_START_VIEW_CHANGE f_DO_VIEW_CHANGE f_GET_LOG f_NEW_LOG f_START_VIEW f_clients f_capacity f_letters f_restarts f_mailHead f_mailTail f_acks f_votes f_bestVoter f_bestLast f_bestLength f_bestCommit a_status a_view a_last a_nonce a_cell a_length a_commit a_logClient a_logNumber a_logOp a_registers a_tableNumber a_tableResult a_mailKind a_mailFrom a_mailTo a_mailView a_mailLast a_mailCommit a_mailLength a_mailBase a_mailCount a_mailClient a_mailNumber a_mailOp a_voted a_voteCommit a_slotState a_slotFrom a_slotTo a_slotNonce a_slotView a_slotLeader a_slotLength a_slotCommit a_slotClient a_slotNumber a_slotOp
section
variable {Z : vg_Z} {H : Nat → vg_R} {hd tl : Nat} {Q : Nat → vg_M} {B : vg_B} {u : SX} {post : SX → Prop}
theorem xe_end {n : Nat} (hu : sx_R Z H hd hd Q B u) (hp : ∀ u', sx_R Z H 0 0 Q B u' → post u') : xe_ex post (n + 1) (nI hd) u := by
  refine sx_el (P := fun u => xe_ex post (n + 1) (nI hd) u) ?_ hu
  intro f_PREPARE f_PREPARE_OK f_GET_STATE f_NEW_STATE f_START_VIEW_CHANGE f_DO_VIEW_CHANGE f_GET_LOG f_NEW_LOG f_START_VIEW f_clients f_capacity f_letters f_restarts f_mailHead f_mailTail f_acks f_votes f_bestVoter f_bestLast f_bestLength f_bestCommit a_status a_view a_last a_nonce a_cell a_length a_commit a_logClient a_logNumber a_logOp a_registers a_tableNumber a_tableResult a_mailKind a_mailFrom a_mailTo a_mailView a_mailLast a_mailCommit a_mailLength a_mailBase a_mailCount a_mailClient a_mailNumber a_mailOp a_voted a_voteCommit a_slotState a_slotFrom a_slotTo a_slotNonce a_slotView a_slotLeader a_slotLength a_slotCommit a_slotClient a_slotNumber a_slotOp hZ hR hM hB
  obtain ⟨⟨e1, e2, e3, e4⟩, hm⟩ := hM
  have f := hp (f_PREPARE, f_PREPARE_OK, f_GET_STATE, f_NEW_STATE, f_START_VIEW_CHANGE, f_DO_VIEW_CHANGE, f_GET_LOG, f_NEW_LOG, f_START_VIEW, f_clients, f_capacity, f_letters, f_restarts, 0, 0, f_acks, f_votes, f_bestVoter, f_bestLast, f_bestLength, f_bestCommit, a_status, a_view, a_last, a_nonce, a_cell, a_length, a_commit, a_logClient, a_logNumber, a_logOp, a_registers, a_tableNumber, a_tableResult, a_mailKind, a_mailFrom, a_mailTo, a_mailView, a_mailLast, a_mailCommit, a_mailLength, a_mailBase, a_mailCount, a_mailClient, a_mailNumber, a_mailOp, a_voted, a_voteCommit, a_slotState, a_slotFrom, a_slotTo, a_slotNonce, a_slotView, a_slotLeader, a_slotLength, a_slotCommit, a_slotClient, a_slotNumber, a_slotOp) (sx_mk hZ hR ⟨⟨rfl, rfl, Nat.le_refl _, by decide⟩, fun m h => absurd h (by omega)⟩ hB)
  exact br_c (fun _ => f) (fun _ => br_t (by rw [e1, e2]; exact Int32.le_refl _) f)
theorem xe_step {n : Nat} (hu : sx_R Z H hd tl Q B u) (ht : hd < tl)
    (hp : ∀ post' : SX → Prop, (∀ u', xe_ex post n (nI (hd + 1)) u' → post' u') → ∀ u', sx_R Z H (hd + 1) tl Q B u' → wpX_handle post' u' (nI hd)) : xe_ex post (n + 1) (nI hd) u := by
  refine sx_el (P := fun u => xe_ex post (n + 1) (nI hd) u) ?_ hu
  intro f_PREPARE f_PREPARE_OK f_GET_STATE f_NEW_STATE f_START_VIEW_CHANGE f_DO_VIEW_CHANGE f_GET_LOG f_NEW_LOG f_START_VIEW f_clients f_capacity f_letters f_restarts f_mailHead f_mailTail f_acks f_votes f_bestVoter f_bestLast f_bestLength f_bestCommit a_status a_view a_last a_nonce a_cell a_length a_commit a_logClient a_logNumber a_logOp a_registers a_tableNumber a_tableResult a_mailKind a_mailFrom a_mailTo a_mailView a_mailLast a_mailCommit a_mailLength a_mailBase a_mailCount a_mailClient a_mailNumber a_mailOp a_voted a_voteCommit a_slotState a_slotFrom a_slotTo a_slotNonce a_slotView a_slotLeader a_slotLength a_slotCommit a_slotClient a_slotNumber a_slotOp hZ hR hM hB
  obtain ⟨⟨e1, e2, e3, e4⟩, hm⟩ := hM
  subst e1
  subst e2
  refine br_f (nI_ge (b := 32) (by omega) (by decide)) (br_f (nI_ge ht (by omega)) (nm_r (nI_1 hd) ?_))
  refine hp _ ?_ _ (sx_mk hZ hR ⟨⟨rfl, rfl, by omega, e4⟩, hm⟩ hB)
  intro u'
  clear hZ hR hm hB
  obtain ⟨f_PREPARE, f_PREPARE_OK, f_GET_STATE, f_NEW_STATE, f_START_VIEW_CHANGE, f_DO_VIEW_CHANGE, f_GET_LOG, f_NEW_LOG, f_START_VIEW, f_clients, f_capacity, f_letters, f_restarts, f_mailHead, f_mailTail, f_acks, f_votes, f_bestVoter, f_bestLast, f_bestLength, f_bestCommit, a_status, a_view, a_last, a_nonce, a_cell, a_length, a_commit, a_logClient, a_logNumber, a_logOp, a_registers, a_tableNumber, a_tableResult, a_mailKind, a_mailFrom, a_mailTo, a_mailView, a_mailLast, a_mailCommit, a_mailLength, a_mailBase, a_mailCount, a_mailClient, a_mailNumber, a_mailOp, a_voted, a_voteCommit, a_slotState, a_slotFrom, a_slotTo, a_slotNonce, a_slotView, a_slotLeader, a_slotLength, a_slotCommit, a_slotClient, a_slotNumber, a_slotOp⟩ := u'
  intro h
  refine nm_r (nI_1 hd) ?_
  exact h
/-! the branch of handle -/
theorem xh_1 (hu : sx_R Z H hd tl Q B u) {m : Nat} {g : Nat × Nat × Nat × vg_R} (hm : m < tl) (hQ : Q m = (1, g)) (h : wpX_onPrepare post u (nI m)) : wpX_handle post u (nI m) := by
  revert h
  refine sx_el (P := fun u => wpX_onPrepare post u (nI m) → wpX_handle post u (nI m)) ?_ hu
  intro f_PREPARE f_PREPARE_OK f_GET_STATE f_NEW_STATE f_START_VIEW_CHANGE f_DO_VIEW_CHANGE f_GET_LOG f_NEW_LOG f_START_VIEW f_clients f_capacity f_letters f_restarts f_mailHead f_mailTail f_acks f_votes f_bestVoter f_bestLast f_bestLength f_bestCommit a_status a_view a_last a_nonce a_cell a_length a_commit a_logClient a_logNumber a_logOp a_registers a_tableNumber a_tableResult a_mailKind a_mailFrom a_mailTo a_mailView a_mailLast a_mailCommit a_mailLength a_mailBase a_mailCount a_mailClient a_mailNumber a_mailOp a_voted a_voteCommit a_slotState a_slotFrom a_slotTo a_slotNonce a_slotView a_slotLeader a_slotLength a_slotCommit a_slotClient a_slotNumber a_slotOp hZ hR hM hB h
  obtain ⟨⟨e1, _⟩, im, _⟩ := rm_msg hM hm hQ
  exact ⟨im, nm_r e1 (br_t rfl h)⟩
theorem xh_2 (hu : sx_R Z H hd tl Q B u) {m : Nat} {g : Nat × Nat × Nat × vg_R} (hm : m < tl) (hQ : Q m = (2, g)) (h : wpX_onPrepareOk post u (nI m)) : wpX_handle post u (nI m) := by
  revert h
  refine sx_el (P := fun u => wpX_onPrepareOk post u (nI m) → wpX_handle post u (nI m)) ?_ hu
  intro f_PREPARE f_PREPARE_OK f_GET_STATE f_NEW_STATE f_START_VIEW_CHANGE f_DO_VIEW_CHANGE f_GET_LOG f_NEW_LOG f_START_VIEW f_clients f_capacity f_letters f_restarts f_mailHead f_mailTail f_acks f_votes f_bestVoter f_bestLast f_bestLength f_bestCommit a_status a_view a_last a_nonce a_cell a_length a_commit a_logClient a_logNumber a_logOp a_registers a_tableNumber a_tableResult a_mailKind a_mailFrom a_mailTo a_mailView a_mailLast a_mailCommit a_mailLength a_mailBase a_mailCount a_mailClient a_mailNumber a_mailOp a_voted a_voteCommit a_slotState a_slotFrom a_slotTo a_slotNonce a_slotView a_slotLeader a_slotLength a_slotCommit a_slotClient a_slotNumber a_slotOp hZ hR hM hB h
  obtain ⟨⟨e1, _⟩, im, _⟩ := rm_msg hM hm hQ
  exact ⟨im, nm_r e1 (br_f (by decide) (br_t rfl h))⟩
theorem xh_3 (hu : sx_R Z H hd tl Q B u) {m : Nat} {g : Nat × Nat × Nat × vg_R} (hm : m < tl) (hQ : Q m = (3, g)) (h : wpX_onGetState post u (nI m)) : wpX_handle post u (nI m) := by
  revert h
  refine sx_el (P := fun u => wpX_onGetState post u (nI m) → wpX_handle post u (nI m)) ?_ hu
  intro f_PREPARE f_PREPARE_OK f_GET_STATE f_NEW_STATE f_START_VIEW_CHANGE f_DO_VIEW_CHANGE f_GET_LOG f_NEW_LOG f_START_VIEW f_clients f_capacity f_letters f_restarts f_mailHead f_mailTail f_acks f_votes f_bestVoter f_bestLast f_bestLength f_bestCommit a_status a_view a_last a_nonce a_cell a_length a_commit a_logClient a_logNumber a_logOp a_registers a_tableNumber a_tableResult a_mailKind a_mailFrom a_mailTo a_mailView a_mailLast a_mailCommit a_mailLength a_mailBase a_mailCount a_mailClient a_mailNumber a_mailOp a_voted a_voteCommit a_slotState a_slotFrom a_slotTo a_slotNonce a_slotView a_slotLeader a_slotLength a_slotCommit a_slotClient a_slotNumber a_slotOp hZ hR hM hB h
  obtain ⟨⟨e1, _⟩, im, _⟩ := rm_msg hM hm hQ
  exact ⟨im, nm_r e1 (br_f (by decide) (br_f (by decide) (br_t rfl h)))⟩
theorem xh_4 (hu : sx_R Z H hd tl Q B u) {m : Nat} {g : Nat × Nat × Nat × vg_R} (hm : m < tl) (hQ : Q m = (4, g)) (h : wpX_onNewState post u (nI m)) : wpX_handle post u (nI m) := by
  revert h
  refine sx_el (P := fun u => wpX_onNewState post u (nI m) → wpX_handle post u (nI m)) ?_ hu
  intro f_PREPARE f_PREPARE_OK f_GET_STATE f_NEW_STATE f_START_VIEW_CHANGE f_DO_VIEW_CHANGE f_GET_LOG f_NEW_LOG f_START_VIEW f_clients f_capacity f_letters f_restarts f_mailHead f_mailTail f_acks f_votes f_bestVoter f_bestLast f_bestLength f_bestCommit a_status a_view a_last a_nonce a_cell a_length a_commit a_logClient a_logNumber a_logOp a_registers a_tableNumber a_tableResult a_mailKind a_mailFrom a_mailTo a_mailView a_mailLast a_mailCommit a_mailLength a_mailBase a_mailCount a_mailClient a_mailNumber a_mailOp a_voted a_voteCommit a_slotState a_slotFrom a_slotTo a_slotNonce a_slotView a_slotLeader a_slotLength a_slotCommit a_slotClient a_slotNumber a_slotOp hZ hR hM hB h
  obtain ⟨⟨e1, _⟩, im, _⟩ := rm_msg hM hm hQ
  exact ⟨im, nm_r e1 (br_f (by decide) (br_f (by decide) (br_f (by decide) (br_t rfl h))))⟩
theorem xh_5 (hu : sx_R Z H hd tl Q B u) {m : Nat} {g : Nat × Nat × Nat × vg_R} (hm : m < tl) (hQ : Q m = (5, g)) (h : wpX_onStartViewChange post u (nI m)) : wpX_handle post u (nI m) := by
  revert h
  refine sx_el (P := fun u => wpX_onStartViewChange post u (nI m) → wpX_handle post u (nI m)) ?_ hu
  intro f_PREPARE f_PREPARE_OK f_GET_STATE f_NEW_STATE f_START_VIEW_CHANGE f_DO_VIEW_CHANGE f_GET_LOG f_NEW_LOG f_START_VIEW f_clients f_capacity f_letters f_restarts f_mailHead f_mailTail f_acks f_votes f_bestVoter f_bestLast f_bestLength f_bestCommit a_status a_view a_last a_nonce a_cell a_length a_commit a_logClient a_logNumber a_logOp a_registers a_tableNumber a_tableResult a_mailKind a_mailFrom a_mailTo a_mailView a_mailLast a_mailCommit a_mailLength a_mailBase a_mailCount a_mailClient a_mailNumber a_mailOp a_voted a_voteCommit a_slotState a_slotFrom a_slotTo a_slotNonce a_slotView a_slotLeader a_slotLength a_slotCommit a_slotClient a_slotNumber a_slotOp hZ hR hM hB h
  obtain ⟨⟨e1, _⟩, im, _⟩ := rm_msg hM hm hQ
  exact ⟨im, nm_r e1 (br_f (by decide) (br_f (by decide) (br_f (by decide) (br_f (by decide) (br_t rfl h)))))⟩
theorem xh_6 (hu : sx_R Z H hd tl Q B u) {m : Nat} {g : Nat × Nat × Nat × vg_R} (hm : m < tl) (hQ : Q m = (6, g)) (h : wpX_onDoViewChange post u (nI m)) : wpX_handle post u (nI m) := by
  revert h
  refine sx_el (P := fun u => wpX_onDoViewChange post u (nI m) → wpX_handle post u (nI m)) ?_ hu
  intro f_PREPARE f_PREPARE_OK f_GET_STATE f_NEW_STATE f_START_VIEW_CHANGE f_DO_VIEW_CHANGE f_GET_LOG f_NEW_LOG f_START_VIEW f_clients f_capacity f_letters f_restarts f_mailHead f_mailTail f_acks f_votes f_bestVoter f_bestLast f_bestLength f_bestCommit a_status a_view a_last a_nonce a_cell a_length a_commit a_logClient a_logNumber a_logOp a_registers a_tableNumber a_tableResult a_mailKind a_mailFrom a_mailTo a_mailView a_mailLast a_mailCommit a_mailLength a_mailBase a_mailCount a_mailClient a_mailNumber a_mailOp a_voted a_voteCommit a_slotState a_slotFrom a_slotTo a_slotNonce a_slotView a_slotLeader a_slotLength a_slotCommit a_slotClient a_slotNumber a_slotOp hZ hR hM hB h
  obtain ⟨⟨e1, _⟩, im, _⟩ := rm_msg hM hm hQ
  exact ⟨im, nm_r e1 (br_f (by decide) (br_f (by decide) (br_f (by decide) (br_f (by decide) (br_f (by decide) (br_t rfl h))))))⟩
theorem xh_7 (hu : sx_R Z H hd tl Q B u) {m : Nat} {g : Nat × Nat × Nat × vg_R} (hm : m < tl) (hQ : Q m = (7, g)) (h : wpX_onGetLog post u (nI m)) : wpX_handle post u (nI m) := by
  revert h
  refine sx_el (P := fun u => wpX_onGetLog post u (nI m) → wpX_handle post u (nI m)) ?_ hu
  intro f_PREPARE f_PREPARE_OK f_GET_STATE f_NEW_STATE f_START_VIEW_CHANGE f_DO_VIEW_CHANGE f_GET_LOG f_NEW_LOG f_START_VIEW f_clients f_capacity f_letters f_restarts f_mailHead f_mailTail f_acks f_votes f_bestVoter f_bestLast f_bestLength f_bestCommit a_status a_view a_last a_nonce a_cell a_length a_commit a_logClient a_logNumber a_logOp a_registers a_tableNumber a_tableResult a_mailKind a_mailFrom a_mailTo a_mailView a_mailLast a_mailCommit a_mailLength a_mailBase a_mailCount a_mailClient a_mailNumber a_mailOp a_voted a_voteCommit a_slotState a_slotFrom a_slotTo a_slotNonce a_slotView a_slotLeader a_slotLength a_slotCommit a_slotClient a_slotNumber a_slotOp hZ hR hM hB h
  obtain ⟨⟨e1, _⟩, im, _⟩ := rm_msg hM hm hQ
  exact ⟨im, nm_r e1 (br_f (by decide) (br_f (by decide) (br_f (by decide) (br_f (by decide) (br_f (by decide) (br_f (by decide) (br_t rfl h)))))))⟩
theorem xh_8 (hu : sx_R Z H hd tl Q B u) {m : Nat} {g : Nat × Nat × Nat × vg_R} (hm : m < tl) (hQ : Q m = (8, g)) (h : wpX_onNewLog post u (nI m)) : wpX_handle post u (nI m) := by
  revert h
  refine sx_el (P := fun u => wpX_onNewLog post u (nI m) → wpX_handle post u (nI m)) ?_ hu
  intro f_PREPARE f_PREPARE_OK f_GET_STATE f_NEW_STATE f_START_VIEW_CHANGE f_DO_VIEW_CHANGE f_GET_LOG f_NEW_LOG f_START_VIEW f_clients f_capacity f_letters f_restarts f_mailHead f_mailTail f_acks f_votes f_bestVoter f_bestLast f_bestLength f_bestCommit a_status a_view a_last a_nonce a_cell a_length a_commit a_logClient a_logNumber a_logOp a_registers a_tableNumber a_tableResult a_mailKind a_mailFrom a_mailTo a_mailView a_mailLast a_mailCommit a_mailLength a_mailBase a_mailCount a_mailClient a_mailNumber a_mailOp a_voted a_voteCommit a_slotState a_slotFrom a_slotTo a_slotNonce a_slotView a_slotLeader a_slotLength a_slotCommit a_slotClient a_slotNumber a_slotOp hZ hR hM hB h
  obtain ⟨⟨e1, _⟩, im, _⟩ := rm_msg hM hm hQ
  exact ⟨im, nm_r e1 (br_f (by decide) (br_f (by decide) (br_f (by decide) (br_f (by decide) (br_f (by decide) (br_f (by decide) (br_f (by decide) (br_t rfl h))))))))⟩
theorem xh_9 (hu : sx_R Z H hd tl Q B u) {m : Nat} {g : Nat × Nat × Nat × vg_R} (hm : m < tl) (hQ : Q m = (9, g)) (h : wpX_onStartView post u (nI m)) : wpX_handle post u (nI m) := by
  revert h
  refine sx_el (P := fun u => wpX_onStartView post u (nI m) → wpX_handle post u (nI m)) ?_ hu
  intro f_PREPARE f_PREPARE_OK f_GET_STATE f_NEW_STATE f_START_VIEW_CHANGE f_DO_VIEW_CHANGE f_GET_LOG f_NEW_LOG f_START_VIEW f_clients f_capacity f_letters f_restarts f_mailHead f_mailTail f_acks f_votes f_bestVoter f_bestLast f_bestLength f_bestCommit a_status a_view a_last a_nonce a_cell a_length a_commit a_logClient a_logNumber a_logOp a_registers a_tableNumber a_tableResult a_mailKind a_mailFrom a_mailTo a_mailView a_mailLast a_mailCommit a_mailLength a_mailBase a_mailCount a_mailClient a_mailNumber a_mailOp a_voted a_voteCommit a_slotState a_slotFrom a_slotTo a_slotNonce a_slotView a_slotLeader a_slotLength a_slotCommit a_slotClient a_slotNumber a_slotOp hZ hR hM hB h
  obtain ⟨⟨e1, _⟩, im, _⟩ := rm_msg hM hm hQ
  exact ⟨im, nm_r e1 (br_f (by decide) (br_f (by decide) (br_f (by decide) (br_f (by decide) (br_f (by decide) (br_f (by decide) (br_f (by decide) (br_f (by decide) (br_t rfl h)))))))))⟩
theorem xe_exch {n : Nat} (h : xe_ex post n 0 u) : wpX_exchange post u := by
  revert h
  refine sx_cs (P := fun u => xe_ex post n 0 u → wpX_exchange post u) ?_ u
  intro f_PREPARE f_PREPARE_OK f_GET_STATE f_NEW_STATE f_START_VIEW_CHANGE f_DO_VIEW_CHANGE f_GET_LOG f_NEW_LOG f_START_VIEW f_clients f_capacity f_letters f_restarts f_mailHead f_mailTail f_acks f_votes f_bestVoter f_bestLast f_bestLength f_bestCommit a_status a_view a_last a_nonce a_cell a_length a_commit a_logClient a_logNumber a_logOp a_registers a_tableNumber a_tableResult a_mailKind a_mailFrom a_mailTo a_mailView a_mailLast a_mailCommit a_mailLength a_mailBase a_mailCount a_mailClient a_mailNumber a_mailOp a_voted a_voteCommit a_slotState a_slotFrom a_slotTo a_slotNonce a_slotView a_slotLeader a_slotLength a_slotCommit a_slotClient a_slotNumber a_slotOp h
  exact ⟨n, h⟩
end
end
section
/-! X: SPREAD by phases -/
def sm_5 (f : Nat → Nat) : Nat := f 0 + f 1 + f 2 + f 3 + f 4
theorem sm_upd {g : Nat → Nat} {ph : Nat → Nat} {k : Nat} : ∀ b, b < 5 → sm_5 (fun c => g (fs_set ph b k c)) + g (ph b) = sm_5 (fun c => g (ph c)) + g k := by
  refine cs_5 ?_ ?_ ?_ ?_ ?_ <;> simp [sm_5, fs_set] <;> omega
def sp_rem (k : Nat) : Nat := if k = 1 then 3 else if k = 3 then 2 else if k = 4 then 1 else 0
def sp_one (k : Nat) : Nat := if k = 5 then 1 else 0
def sp_msg (H0 : Nat → vg_R) (p bs k b : Nat) : vg_M :=
  if k = 1 then (1, p, b, bs, H0 p) else if k = 2 then (2, b, p, (H0 p).2.2.2.2.1, vg_cp (H0 p) (H0 b)) else if k = 3 then (3, b, p, (H0 b).2.2.2.2.1, H0 b) else (4, p, b, min (H0 b).2.2.2.2.2.1 (H0 p).2.2.2.2.1, H0 p)
def sp_H (H0 : Nat → vg_R) (p : Nat) (ph : Nat → Nat) : Nat → vg_R := fun b => if ph b = 2 ∨ ph b = 5 then vg_cp (H0 p) (H0 b) else H0 b
def sp_I (ce : Nat → Nat) (H0 : Nat → vg_R) (p bs nb hd tl : Nat) (Q : Nat → vg_M) (ph pos : Nat → Nat) : Prop :=
  (∀ b, ph b ≤ 5) ∧ (∀ b, nb ≤ b → ph b = 0) ∧
  (∀ b, 1 ≤ ph b → ph b ≤ 4 → hd ≤ pos b ∧ pos b < tl ∧ Q (pos b) = sp_msg H0 p bs (ph b) b) ∧
  (∀ i, hd ≤ i → i < tl → ∃ b, 1 ≤ ph b ∧ ph b ≤ 4 ∧ pos b = i) ∧
  (∀ b, b < nb → (ph b = 0 → vg_fol H0 ce p b = false) ∧ (1 ≤ ph b → vg_tch H0 ce p b = true) ∧ (2 ≤ ph b → vg_fol H0 ce p b = true) ∧ (ph b = 3 ∨ ph b = 4 → ¬ ((H0 b).1 = 0 ∧ (H0 b).2.1 = (H0 p).2.1 ∧ bs ≤ (H0 b).2.2.2.2.1))) ∧
  tl + sm_5 (fun b => sp_rem (ph b)) ≤ 4 * nb
theorem sp_inj {H0 : Nat → vg_R} {p bs k k' b b' : Nat} (h1 : 1 ≤ k) (h2 : k ≤ 4) (h1' : 1 ≤ k') (h2' : k' ≤ 4) (h : sp_msg H0 p bs k b = sp_msg H0 p bs k' b') : b = b' := by
  have a1 : ∀ k b, 1 ≤ k → k ≤ 4 → (sp_msg H0 p bs k b).1 = k := by
    intro k b h1 h2
    unfold sp_msg
    split
    · dsimp only; omega
    · split
      · dsimp only; omega
      · split <;> dsimp only <;> omega
  have e : k = k' := by rw [← a1 k b h1 h2, ← a1 k' b' h1' h2', h]
  subst e
  unfold sp_msg at h
  split at h
  · exact congrArg (fun g : vg_M => g.2.2.1) h
  · split at h
    · exact congrArg (fun g : vg_M => g.2.1) h
    · split at h
      · exact congrArg (fun g : vg_M => g.2.1) h
      · exact congrArg (fun g : vg_M => g.2.2.1) h
section
variable {ce : Nat → Nat} {H0 : Nat → vg_R} {p bs nb hd tl : Nat} {Q : Nat → vg_M} {ph pos : Nat → Nat}
theorem sp_other (h : sp_I ce H0 p bs nb hd tl Q ph pos) {b : Nat} (h1 : 1 ≤ ph b) (h2 : ph b ≤ 4) (hpos : pos b = hd) {c : Nat} (c1 : 1 ≤ ph c) (c2 : ph c ≤ 4) (hc : c ≠ b) : hd + 1 ≤ pos c := by
  obtain ⟨_, _, i3, _⟩ := h
  obtain ⟨q1, q2, q3⟩ := i3 b h1 h2
  obtain ⟨r1, r2, r3⟩ := i3 c c1 c2
  by_cases e : pos c = hd
  · rw [hpos] at q3
    rw [e, q3] at r3
    exact absurd (sp_inj h1 h2 c1 c2 r3).symm hc
  · omega
/-- the head's message is read, b's next phase k is 0 or 5 -/
theorem sp_done (h : sp_I ce H0 p bs nb hd tl Q ph pos) {b k : Nat} (hnb : nb ≤ 5) (h1 : 1 ≤ ph b) (h2 : ph b ≤ 4) (hpos : pos b = hd) (hk : k = 0 ∨ k = 5) (k0 : k = 0 → vg_fol H0 ce p b = false) (k5 : k = 5 → vg_fol H0 ce p b = true) :
    sp_I ce H0 p bs nb (hd + 1) tl Q (fs_set ph b k) pos := by
  have ho := @sp_other _ _ _ _ _ _ _ _ _ _ h b h1 h2 hpos
  obtain ⟨i1, i2, i3, i4, i5, i6⟩ := h
  have hb : b < nb := by
    by_cases z : b < nb
    · exact z
    · have := i2 b (by omega)
      omega
  refine ⟨fun c => ?_, fun c hc => ?_, fun c c1 c2 => ?_, fun i hi hi2 => ?_, fun c hc => ?_, ?_⟩
  · by_cases e : c = b
    · rw [e, fs_eq]; omega
    · rw [fs_ne e]; exact i1 c
  · rw [fs_ne (by omega)]; exact i2 c hc
  · by_cases e : c = b
    · rw [e, fs_eq] at c1 c2; omega
    · rw [fs_ne e] at c1 c2 ⊢
      obtain ⟨q1, q2, q3⟩ := i3 c c1 c2
      exact ⟨ho c1 c2 e, q2, q3⟩
  · obtain ⟨c, c1, c2, c3⟩ := i4 i (by omega) hi2
    refine ⟨c, ?_⟩
    rw [fs_ne (by intro e; rw [e] at c3; omega)]
    exact ⟨c1, c2, c3⟩
  · obtain ⟨j1, j2, j3, j4⟩ := i5 c hc
    by_cases e : c = b
    · subst e
      rw [fs_eq]
      exact ⟨k0, fun _ => j2 h1, fun z => k5 (by omega), fun z => absurd z (by omega)⟩
    · rw [fs_ne e]
      exact ⟨j1, j2, j3, j4⟩
  · have := sm_upd (g := sp_rem) (ph := ph) (k := k) b (by omega)
    have : sp_rem k = 0 := by
      rcases hk with rfl | rfl <;> rfl
    omega
/-- the head's message is read, b's next message is posted -/
theorem sp_next (h : sp_I ce H0 p bs nb hd tl Q ph pos) {b k : Nat} (hnb : nb ≤ 5) (h1 : 1 ≤ ph b) (h2 : ph b ≤ 4) (hpos : pos b = hd) (hk1 : 2 ≤ k) (hk2 : k ≤ 4) (hf : vg_fol H0 ce p b = true)
    (hr : sp_rem k + 1 ≤ sp_rem (ph b)) (hc : k = 3 ∨ k = 4 → ¬ ((H0 b).1 = 0 ∧ (H0 b).2.1 = (H0 p).2.1 ∧ bs ≤ (H0 b).2.2.2.2.1)) :
    sp_I ce H0 p bs nb (hd + 1) (tl + 1) (fs_set Q tl (sp_msg H0 p bs k b)) (fs_set ph b k) (fs_set pos b tl) := by
  have ho := @sp_other _ _ _ _ _ _ _ _ _ _ h b h1 h2 hpos
  obtain ⟨i1, i2, i3, i4, i5, i6⟩ := h
  have hb : b < nb := by
    by_cases z : b < nb
    · exact z
    · have := i2 b (by omega)
      omega
  have hd2 : hd < tl := by
    have := i3 b h1 h2
    omega
  refine ⟨fun c => ?_, fun c hc => ?_, fun c c1 c2 => ?_, fun i hi hi2 => ?_, fun c hc => ?_, ?_⟩
  · by_cases e : c = b
    · rw [e, fs_eq]; omega
    · rw [fs_ne e]; exact i1 c
  · rw [fs_ne (by omega)]; exact i2 c hc
  · by_cases e : c = b
    · subst e
      rw [fs_eq, fs_eq, fs_eq]
      exact ⟨by omega, by omega, rfl⟩
    · rw [fs_ne e] at c1 c2
      obtain ⟨q1, q2, q3⟩ := i3 c c1 c2
      rw [fs_ne e, fs_ne e, fs_ne (by omega)]
      exact ⟨ho c1 c2 e, by omega, q3⟩
  · by_cases e2 : i = tl
    · refine ⟨b, ?_⟩
      rw [fs_eq, fs_eq]
      exact ⟨by omega, hk2, e2.symm⟩
    · obtain ⟨c, c1, c2, c3⟩ := i4 i (by omega) (by omega)
      refine ⟨c, ?_⟩
      have e : c ≠ b := by intro e; rw [e] at c3; omega
      rw [fs_ne e, fs_ne e]
      exact ⟨c1, c2, c3⟩
  · obtain ⟨j1, j2, j3, j4⟩ := i5 c hc
    by_cases e : c = b
    · subst e
      rw [fs_eq]
      exact ⟨fun z => absurd z (by omega), fun _ => j2 h1, fun _ => hf, hc⟩
    · rw [fs_ne e]
      exact ⟨j1, j2, j3, j4⟩
  · have := sm_upd (g := sp_rem) (ph := ph) (k := k) b (by omega)
    omega
theorem sp_H_same {b k : Nat} (h : (ph b = 2 ∨ ph b = 5) ↔ (k = 2 ∨ k = 5)) : sp_H H0 p (fs_set ph b k) = sp_H H0 p ph := by
  funext c
  unfold sp_H
  by_cases e : c = b
  · subst e
    rw [fs_eq]
    by_cases z : k = 2 ∨ k = 5
    · rw [if_pos z, if_pos (h.mpr z)]
    · rw [if_neg z, if_neg (fun q => z (h.mp q))]
  · rw [fs_ne e]
theorem sp_H_cp {b k : Nat} (hk : k = 2 ∨ k = 5) : sp_H H0 p (fs_set ph b k) = fs_set (sp_H H0 p ph) b (vg_cp (H0 p) (H0 b)) := by
  funext c
  unfold sp_H
  by_cases e : c = b
  · subst e
    rw [fs_eq, fs_eq, if_pos hk]
  · rw [fs_ne e, fs_ne e]
end
section
variable {Z : vg_Z} {H0 : Nat → vg_R} {u : SX} {post : SX → Prop} {p bs : Nat}
/-- the exchange of a spread -/
theorem sp_exch (hp5 : p < 5) (hP : (H0 p).1 = 0 ∧ (H0 p).2.1 % 5 = p) (hbs : bs ≤ (H0 p).2.2.2.2.1)
    (hs : ∀ b, b < 5 → vg_fol H0 Z.2.2.2.2.1 p b = true → sp_ok (H0 p) (H0 b))
    {B : vg_B} (hp : ∀ u' Q', sx_R Z (fun b => if vg_fol H0 Z.2.2.2.2.1 p b = true then vg_cp (H0 p) (H0 b) else H0 b) 0 0 Q' (nI (cn_5 (vg_fol H0 Z.2.2.2.2.1 p)), B.2) u' → post u') :
    ∀ (n hd tl : Nat) (Q : Nat → vg_M) (ph pos : Nat → Nat) (u : SX), 20 < n + hd → sp_I Z.2.2.2.2.1 H0 p bs 5 hd tl Q ph pos → hd ≤ tl →
    sx_R Z (sp_H H0 p ph) hd tl Q (nI (sm_5 (fun b => sp_one (ph b))), B.2) u → xe_ex post n (nI hd) u := by
  intro n
  induction n with
  | zero =>
    intro hd tl Q ph pos u hn hI hd2 hu
    have := hI.2.2.2.2.2
    omega
  | succ n ih =>
    intro hd tl Q ph pos u hn hI hd2 hu
    have hI' := hI
    obtain ⟨i1, i2, i3, i4, i5, i6⟩ := hI'
    have php : ph p = 0 := by
      have h2 := (i5 p hp5).2.1
      by_cases z : 1 ≤ ph p
      · have := vg_tch_iff.mp (h2 z)
        exact absurd rfl this.1
      · omega
    have hHp : sp_H H0 p ph p = H0 p := by
      unfold sp_H
      rw [if_neg (by omega)]
    by_cases hlt : hd < tl
    · obtain ⟨b, k1, k2, k3⟩ := i4 hd (Nat.le_refl _) hlt
      have hb : b < 5 := by
        by_cases z : b < 5
        · exact z
        · have := i2 b (by omega)
          omega
      obtain ⟨_, _, q3⟩ := i3 b k1 k2
      rw [k3] at q3
      obtain ⟨j1, j2, j3, j4⟩ := i5 b hb
      have tc0 := j2 k1
      have tcs : ∀ a c, vg_tch H0 Z.2.2.2.2.1 a c = true → vg_tch (sp_H H0 p ph) Z.2.2.2.2.1 a c = true := by
        intro a c z
        rw [vg_tch_iff] at z ⊢
        have w : ∀ a, (H0 a).1 ≠ 3 → (sp_H H0 p ph a).1 ≠ 3 := by
          intro a h
          unfold sp_H
          by_cases e : ph a = 2 ∨ ph a = 5
          · rw [if_pos e]; exact (by decide : (0 : Nat) ≠ 3)
          · rw [if_neg e]; exact h
        exact ⟨z.1, w a z.2.1, w c z.2.2.1, z.2.2.2⟩
      have tcb : vg_tch (sp_H H0 p ph) Z.2.2.2.2.1 b p = true := tcs b p (tc_sym tc0)
      have tcp : vg_tch (sp_H H0 p ph) Z.2.2.2.2.1 p b = true := tcs p b tc0
      have htl : tl < 32 := by omega
      refine xe_step hu hlt (fun post' hpost u' hu' => ?_)
      have kk : ph b = 1 ∨ ph b = 2 ∨ ph b = 3 ∨ ph b = 4 := by omega
      rcases kk with kk | kk | kk | kk
      · have hHb : sp_H H0 p ph b = H0 b := by
          unfold sp_H
          rw [if_neg (by omega)]
        rw [kk] at q3
        refine xh_1 hu' hlt q3 ?_
        have fo : (H0 b).1 ≤ 1 → (H0 b).2.1 ≤ (H0 p).2.1 → vg_fol H0 Z.2.2.2.2.1 p b = true := fun a c => vg_fol_iff.mpr ⟨vg_tch_iff.mp tc0, a, c⟩
        refine xm_onPrepare hu' hlt q3 htl tcb ?_ ?_ ?_ ?_
        · rw [hHb]; exact fun a c => hs b hb (fo a c)
        · rw [hHb]
          intro z u1 hu1
          refine hpost _ (ih (hd + 1) tl Q (fs_set ph b 0) pos u1 (by omega) (sp_done hI (by decide) k1 k2 k3 (Or.inl rfl) (fun _ => ?_) (fun z => absurd z (by decide))) hlt ?_)
          · cases hc : vg_fol H0 Z.2.2.2.2.1 p b
            · rfl
            · exact absurd (vg_fol_iff.mp hc).2 z
          · rw [sp_H_same (by omega)]
            have := sm_upd (g := sp_one) (ph := ph) (k := 0) b hb
            rw [kk] at this
            rw [show sm_5 (fun c => sp_one (fs_set ph b 0 c)) = sm_5 (fun c => sp_one (ph c)) from this]
            exact hu1
        · rw [hHb]
          intro z1 z2 u1 hu1
          refine hpost _ (ih (hd + 1) (tl + 1) _ (fs_set ph b 2) (fs_set pos b tl) u1 (by omega) (sp_next hI (by decide) k1 k2 k3 (by decide) (by decide) (fo z1 z2) (by rw [kk]; decide) (fun z => absurd z (by decide))) (by omega) ?_)
          rw [sp_H_cp (Or.inl rfl)]
          have := sm_upd (g := sp_one) (ph := ph) (k := 2) b hb
          rw [kk] at this
          rw [show sm_5 (fun c => sp_one (fs_set ph b 2 c)) = sm_5 (fun c => sp_one (ph c)) from this]
          exact hu1
        · rw [hHb]
          intro z1 z2 z3 u1 hu1
          refine hpost _ (ih (hd + 1) (tl + 1) _ (fs_set ph b 3) (fs_set pos b tl) u1 (by omega) (sp_next hI (by decide) k1 k2 k3 (by decide) (by decide) (fo z1 z2) (by rw [kk]; decide) (fun _ => z3)) (by omega) ?_)
          rw [sp_H_same (by omega)]
          have := sm_upd (g := sp_one) (ph := ph) (k := 3) b hb
          rw [kk] at this
          rw [show sm_5 (fun c => sp_one (fs_set ph b 3 c)) = sm_5 (fun c => sp_one (ph c)) from this]
          exact hu1
      · have hHb : sp_H H0 p ph b = vg_cp (H0 p) (H0 b) := by
          unfold sp_H
          rw [if_pos (by omega)]
        rw [kk] at q3
        refine xh_2 hu' hlt q3 ?_
        refine xm_onPrepareOk hu' hlt q3 ?_ ?_
        · intro _ u1 hu1
          refine hpost _ (ih (hd + 1) tl Q (fs_set ph b 5) pos u1 (by omega) (sp_done hI (by decide) k1 k2 k3 (Or.inr rfl) (fun z => absurd z (by decide)) (fun _ => j3 (by omega))) hlt ?_)
          rw [sp_H_same (by omega)]
          have := sm_upd (g := sp_one) (ph := ph) (k := 5) b hb
          rw [kk] at this
          rw [show sm_5 (fun c => sp_one (fs_set ph b 5 c)) = sm_5 (fun c => sp_one (ph c)) + 1 from this, ← nI_1]
          exact hu1
        · rw [hHp]
          intro z
          exact absurd ⟨hP.1, rfl, rfl⟩ z
      · have hHb : sp_H H0 p ph b = H0 b := by
          unfold sp_H
          rw [if_neg (by omega)]
        rw [kk] at q3
        have ff := vg_fol_iff.mp (j3 (by omega))
        refine xh_3 hu' hlt q3 ?_
        refine xm_onGetState hu' hlt q3 htl tcp (by rw [hHp]; exact hP.1) (by rw [hHp]; exact ff.2.2) ?_
        rw [hHp]
        intro u1 hu1
        refine hpost _ (ih (hd + 1) (tl + 1) _ (fs_set ph b 4) (fs_set pos b tl) u1 (by omega) (sp_next hI (by decide) k1 k2 k3 (by decide) (by decide) (j3 (by omega)) (by rw [kk]; decide) (fun _ => j4 (Or.inl kk))) (by omega) ?_)
        rw [sp_H_same (by omega)]
        have := sm_upd (g := sp_one) (ph := ph) (k := 4) b hb
        rw [kk] at this
        rw [show sm_5 (fun c => sp_one (fs_set ph b 4 c)) = sm_5 (fun c => sp_one (ph c)) from this]
        exact hu1
      · have hHb : sp_H H0 p ph b = H0 b := by
          unfold sp_H
          rw [if_neg (by omega)]
        rw [kk] at q3
        have ff := vg_fol_iff.mp (j3 (by omega))
        have fs := hs b hb (j3 (by omega))
        obtain ⟨g1, g2, g3, g4⟩ := fs
        have ns := j4 (Or.inr kk)
        have nn : ¬ ((H0 b).1 = 0 ∧ (H0 b).2.1 = (H0 p).2.1 ∧ (H0 p).2.2.2.2.1 ≤ (H0 b).2.2.2.2.1) := by omega
        have okb : (H0 b).2.2.2.2.2.1 ≤ (H0 b).2.2.2.2.1 ∧ (H0 p).2.2.2.2.2.1 ≤ (H0 p).2.2.2.2.1 := by
          have z := sx_ok hu' b hb
          have z2 := sx_ok hu' p hp5
          rw [hHb] at z
          rw [hHp] at z2
          exact ⟨z.1.2.2.2.2.2, z2.1.2.2.2.2.2⟩
        have eN : vg_ns (H0 p) (H0 b) = vg_cp (H0 p) (H0 b) := by
          unfold vg_ns vg_cp
          rw [if_neg nn, show max (H0 b).2.2.2.2.2.1 (H0 p).2.2.2.2.2.1 = (H0 p).2.2.2.2.2.1 by omega]
        refine xh_4 hu' hlt q3 ?_
        refine xm_onNewState hu' hlt q3 htl tcb (by rw [hHb]; exact ff.2.1) (by rw [hHb]; exact ff.2.2) ?_ ?_ ?_
        · rw [hHb]
          intro _
          exact ⟨by omega, by omega, fun i hi => g2 i (by omega)⟩
        · rw [hHb, eN]
          intro _ u1 hu1
          refine hpost _ (ih (hd + 1) (tl + 1) _ (fs_set ph b 2) (fs_set pos b tl) u1 (by omega) (sp_next hI (by decide) k1 k2 k3 (by decide) (by decide) (j3 (by omega)) (by rw [kk]; decide) (fun z => absurd z (by decide))) (by omega) ?_)
          rw [sp_H_cp (Or.inl rfl)]
          have := sm_upd (g := sp_one) (ph := ph) (k := 2) b hb
          rw [kk] at this
          rw [show sm_5 (fun c => sp_one (fs_set ph b 2 c)) = sm_5 (fun c => sp_one (ph c)) from this]
          exact hu1
        · intro z
          exact absurd hP.2.symm z
    · have e : hd = tl := by omega
      subst e
      refine xe_end hu (fun u' hu' => hp u' Q ?_)
      have fin : ∀ b, b < 5 → (ph b = 5 ∧ vg_fol H0 Z.2.2.2.2.1 p b = true) ∨ (ph b = 0 ∧ vg_fol H0 Z.2.2.2.2.1 p b = false) := by
        intro b hb
        obtain ⟨j1, j2, j3, j4⟩ := i5 b hb
        by_cases z0 : ph b = 0
        · exact Or.inr ⟨z0, j1 z0⟩
        · by_cases z5 : ph b = 5
          · exact Or.inl ⟨z5, j3 (by omega)⟩
          · have := i1 b
            have := i3 b (by omega) (by omega)
            omega
      have cnt : sm_5 (fun b => sp_one (ph b)) = cn_5 (vg_fol H0 Z.2.2.2.2.1 p) := by
        have w : ∀ b, b < 5 → sp_one (ph b) = (vg_fol H0 Z.2.2.2.2.1 p b).toNat := by
          intro b hb
          rcases fin b hb with ⟨a, c⟩ | ⟨a, c⟩ <;> rw [a, c] <;> rfl
        show sp_one (ph 0) + sp_one (ph 1) + sp_one (ph 2) + sp_one (ph 3) + sp_one (ph 4) = _
        rw [w 0 (by decide), w 1 (by decide), w 2 (by decide), w 3 (by decide), w 4 (by decide)]
        rfl
      rw [cnt] at hu'
      refine sx_cong hu' (fun b hb => ?_)
      unfold sp_H
      rcases fin b hb with ⟨a, c⟩ | ⟨a, c⟩
      · rw [if_pos (Or.inr a), if_pos c]
      · rw [if_neg (by omega), c]
        rfl
end
end
section
/-! X: SPREAD, the posting loop and the whole -/
def xs_sp (post : Int32 → SX → Prop) (x1 x2 : Int32) (n : Nat) (x3 : Int32) (u : SX) : Prop := match u with
  | (f_PREPARE, f_PREPARE_OK, f_GET_STATE, f_NEW_STATE, f_START_VIEW_CHANGE, f_DO_VIEW_CHANGE, f_GET_LOG, f_NEW_LOG, f_START_VIEW, f_clients, f_capacity, f_letters, f_restarts, f_mailHead, f_mailTail, f_acks, f_votes, f_bestVoter, f_bestLast, f_bestLength, f_bestCommit, a_status, a_view, a_last, a_nonce, a_cell, a_length, a_commit, a_logClient, a_logNumber, a_logOp, a_registers, a_tableNumber, a_tableResult, a_mailKind, a_mailFrom, a_mailTo, a_mailView, a_mailLast, a_mailCommit, a_mailLength, a_mailBase, a_mailCount, a_mailClient, a_mailNumber, a_mailOp, a_voted, a_voteCommit, a_slotState, a_slotFrom, a_slotTo, a_slotNonce, a_slotView, a_slotLeader, a_slotLength, a_slotCommit, a_slotClient, a_slotNumber, a_slotOp) => wX_spread_7 post x1 x2 n x3 f_PREPARE f_PREPARE_OK f_GET_STATE f_NEW_STATE f_START_VIEW_CHANGE f_DO_VIEW_CHANGE f_GET_LOG f_NEW_LOG f_START_VIEW f_clients f_capacity f_letters f_restarts f_mailHead f_mailTail f_acks f_votes f_bestVoter f_bestLast f_bestLength f_bestCommit a_status a_view a_last a_nonce a_cell a_length a_commit a_logClient a_logNumber a_logOp a_registers a_tableNumber a_tableResult a_mailKind a_mailFrom a_mailTo a_mailView a_mailLast a_mailCommit a_mailLength a_mailBase a_mailCount a_mailClient a_mailNumber a_mailOp a_voted a_voteCommit a_slotState a_slotFrom a_slotTo a_slotNonce a_slotView a_slotLeader a_slotLength a_slotCommit a_slotClient a_slotNumber a_slotOp
def vg_spr (H0 : Nat → vg_R) (ce : Nat → Nat) (p : Nat) : Nat → vg_R := fun b =>
  if vg_fol H0 ce p b = true then vg_cp (H0 p) (H0 b) else if b = p ∧ 2 ≤ cn_5 (vg_fol H0 ce p) then ((H0 p).1, (H0 p).2.1, (H0 p).2.2.1, (H0 p).2.2.2.1, (H0 p).2.2.2.2.1, (H0 p).2.2.2.2.1, (H0 p).2.2.2.2.2.2) else H0 b
theorem cn_le (f : Nat → Bool) : cn_5 f ≤ 5 := by
  have h : ∀ b : Bool, b.toNat ≤ 1 := fun b => by cases b <;> decide
  have := h (f 0); have := h (f 1); have := h (f 2); have := h (f 3); have := h (f 4)
  unfold cn_5
  omega
theorem fo_pp {H0 : Nat → vg_R} {ce : Nat → Nat} {p : Nat} : vg_fol H0 ce p p = false := by
  cases h : vg_fol H0 ce p p
  · rfl
  · exact absurd rfl (vg_fol_iff.mp h).1.1
/-- one more PREPARE -/
theorem sp_post {ce : Nat → Nat} {H0 : Nat → vg_R} {p bs b tl : Nat} {Q : Nat → vg_M} {ph pos : Nat → Nat} (h : sp_I ce H0 p bs b 0 tl Q ph pos) (hb : b < 5) (ht : vg_tch H0 ce p b = true) :
    sp_I ce H0 p bs (b + 1) 0 (tl + 1) (fs_set Q tl (sp_msg H0 p bs 1 b)) (fs_set ph b 1) (fs_set pos b tl) := by
  obtain ⟨i1, i2, i3, i4, i5, i6⟩ := h
  have z := i2 b (Nat.le_refl _)
  refine ⟨fun c => ?_, fun c hc => ?_, fun c c1 c2 => ?_, fun i hi hi2 => ?_, fun c hc => ?_, ?_⟩
  · by_cases e : c = b
    · rw [e, fs_eq]; omega
    · rw [fs_ne e]; exact i1 c
  · rw [fs_ne (by omega)]; exact i2 c (by omega)
  · by_cases e : c = b
    · subst e
      rw [fs_eq, fs_eq, fs_eq]
      exact ⟨by omega, by omega, rfl⟩
    · rw [fs_ne e] at c1 c2
      obtain ⟨q1, q2, q3⟩ := i3 c c1 c2
      rw [fs_ne e, fs_ne e, fs_ne (by omega)]
      exact ⟨q1, by omega, q3⟩
  · by_cases e2 : i = tl
    · refine ⟨b, ?_⟩
      rw [fs_eq, fs_eq]
      exact ⟨by omega, by omega, e2.symm⟩
    · obtain ⟨c, c1, c2, c3⟩ := i4 i (by omega) (by omega)
      refine ⟨c, ?_⟩
      have e : c ≠ b := by intro e; rw [e] at c1; omega
      rw [fs_ne e, fs_ne e]
      exact ⟨c1, c2, c3⟩
  · by_cases e : c = b
    · subst e
      rw [fs_eq]
      exact ⟨fun z => absurd z (by omega), fun _ => ht, fun z => absurd z (by omega), fun z => absurd z (by omega)⟩
    · rw [fs_ne e]
      exact i5 c (by omega)
  · have := sm_upd (g := sp_rem) (ph := ph) (k := 1) b hb
    rw [z] at this
    have z1 : sp_rem 0 = 0 := rfl
    have z2 : sp_rem 1 = 3 := rfl
    omega
theorem sp_skip {ce : Nat → Nat} {H0 : Nat → vg_R} {p bs b tl : Nat} {Q : Nat → vg_M} {ph pos : Nat → Nat} (h : sp_I ce H0 p bs b 0 tl Q ph pos) (ht : vg_tch H0 ce p b = false) :
    sp_I ce H0 p bs (b + 1) 0 tl Q ph pos := by
  obtain ⟨i1, i2, i3, i4, i5, i6⟩ := h
  have z := i2 b (Nat.le_refl _)
  refine ⟨i1, fun c hc => i2 c (by omega), i3, i4, fun c hc => ?_, by omega⟩
  by_cases e : c = b
  · subst e
    refine ⟨fun _ => ?_, fun q => absurd z (by omega), fun q => absurd z (by omega), fun q => absurd z (by omega)⟩
    unfold vg_fol
    rw [ht]
    rfl
  · exact i5 c (by omega)
section
variable {Z : vg_Z} {H0 : Nat → vg_R} {p fr : Nat} {post : Int32 → SX → Prop}
theorem xs_loop (hp5 : p < 5) (hP : (H0 p).1 = 0 ∧ (H0 p).2.1 % 5 = p) (hfr : fr ≤ (H0 p).2.2.2.2.1)
    (hs : ∀ b, b < 5 → vg_fol H0 Z.2.2.2.2.1 p b = true → sp_ok (H0 p) (H0 b))
    {B : vg_B} (hp : ∀ u' Q' B', sx_R Z (vg_spr H0 Z.2.2.2.2.1 p) 0 0 Q' B' u' → post (nI (cn_5 (vg_fol H0 Z.2.2.2.2.1 p))) u') :
    ∀ (d b n tl : Nat) (Q : Nat → vg_M) (ph pos : Nat → Nat) (u : SX), b + d = 5 → d < n → sp_I Z.2.2.2.2.1 H0 p ((H0 p).2.2.2.2.1 - fr) b 0 tl Q ph pos → (∀ c, ph c ≤ 1) →
    sx_R Z H0 0 tl Q (0, B.2) u → xs_sp post (nI p) (nI fr) n (nI b) u := by
  intro d
  induction d with
  | zero =>
    intro b n tl Q ph pos u hb hn hI hph hu
    obtain ⟨n, rfl⟩ : ∃ k, n = k + 1 := ⟨n - 1, by omega⟩
    have e5 : b = 5 := hb
    subst e5
    refine sx_el (P := fun u => xs_sp post (nI p) (nI fr) (n + 1) (nI 5) u) ?_ hu
    intro f_PREPARE f_PREPARE_OK f_GET_STATE f_NEW_STATE f_START_VIEW_CHANGE f_DO_VIEW_CHANGE f_GET_LOG f_NEW_LOG f_START_VIEW f_clients f_capacity f_letters f_restarts f_mailHead f_mailTail f_acks f_votes f_bestVoter f_bestLast f_bestLength f_bestCommit a_status a_view a_last a_nonce a_cell a_length a_commit a_logClient a_logNumber a_logOp a_registers a_tableNumber a_tableResult a_mailKind a_mailFrom a_mailTo a_mailView a_mailLast a_mailCommit a_mailLength a_mailBase a_mailCount a_mailClient a_mailNumber a_mailOp a_voted a_voteCommit a_slotState a_slotFrom a_slotTo a_slotNonce a_slotView a_slotLeader a_slotLength a_slotCommit a_slotClient a_slotNumber a_slotOp hZ hR hM hB
    have hv := sx_mk hZ hR hM hB (f_PREPARE := f_PREPARE) (f_PREPARE_OK := f_PREPARE_OK) (f_GET_STATE := f_GET_STATE) (f_NEW_STATE := f_NEW_STATE) (f_START_VIEW_CHANGE := f_START_VIEW_CHANGE) (f_DO_VIEW_CHANGE := f_DO_VIEW_CHANGE) (f_GET_LOG := f_GET_LOG) (f_NEW_LOG := f_NEW_LOG) (f_START_VIEW := f_START_VIEW)
    refine br_t (Int32.le_refl _) ?_
    refine xe_exch (n := 21) ?_
    have z0 : sm_5 (fun b => sp_one (ph b)) = 0 := by
      have w : ∀ c, sp_one (ph c) = 0 := fun c => if_neg (by have := hph c; omega)
      show sp_one (ph 0) + sp_one (ph 1) + sp_one (ph 2) + sp_one (ph 3) + sp_one (ph 4) = _
      rw [w, w, w, w, w]
    have zH : sp_H H0 p ph = H0 := by
      funext c
      exact if_neg (by have := hph c; omega)
    refine sp_exch (B := B) hp5 hP (by omega) hs ?_ 21 0 tl Q ph pos _ (by omega) hI (by omega) (by rw [z0, zH]; exact hv)
    intro u' Q' hu'
    clear hZ hR hM hB hv hu
    obtain ⟨f_PREPARE, f_PREPARE_OK, f_GET_STATE, f_NEW_STATE, f_START_VIEW_CHANGE, f_DO_VIEW_CHANGE, f_GET_LOG, f_NEW_LOG, f_START_VIEW, f_clients, f_capacity, f_letters, f_restarts, f_mailHead, f_mailTail, f_acks, f_votes, f_bestVoter, f_bestLast, f_bestLength, f_bestCommit, a_status, a_view, a_last, a_nonce, a_cell, a_length, a_commit, a_logClient, a_logNumber, a_logOp, a_registers, a_tableNumber, a_tableResult, a_mailKind, a_mailFrom, a_mailTo, a_mailView, a_mailLast, a_mailCommit, a_mailLength, a_mailBase, a_mailCount, a_mailClient, a_mailNumber, a_mailOp, a_voted, a_voteCommit, a_slotState, a_slotFrom, a_slotTo, a_slotNonce, a_slotView, a_slotLeader, a_slotLength, a_slotCommit, a_slotClient, a_slotNumber, a_slotOp⟩ := u'
    obtain ⟨hZ, hR, hM, hB⟩ := hu'
    have hv := sx_mk hZ hR hM hB (f_PREPARE := f_PREPARE) (f_PREPARE_OK := f_PREPARE_OK) (f_GET_STATE := f_GET_STATE) (f_NEW_STATE := f_NEW_STATE) (f_START_VIEW_CHANGE := f_START_VIEW_CHANGE) (f_DO_VIEW_CHANGE := f_DO_VIEW_CHANGE) (f_GET_LOG := f_GET_LOG) (f_NEW_LOG := f_NEW_LOG) (f_START_VIEW := f_START_VIEW)
    have ea := hB.1
    subst ea
    have cl := cn_le (vg_fol H0 Z.2.2.2.2.1 p)
    refine pk_lt (cn_5 (vg_fol H0 Z.2.2.2.2.1 p)) 2 (fun z => ?_) (fun z => ⟨ix_5 hp5, ?_⟩)
    · refine hp _ Q' _ (sx_cong hv (fun b hb => ?_))
      unfold vg_spr
      by_cases e : vg_fol H0 Z.2.2.2.2.1 p b = true
      · rw [if_pos e, if_pos e]
      · rw [if_neg e, if_neg e, if_neg (by omega)]
    · have hHp : (if vg_fol H0 Z.2.2.2.2.1 p p = true then vg_cp (H0 p) (H0 p) else H0 p) = H0 p := by rw [fo_pp]; rfl
      obtain ⟨ok, ⟨s1, s2, s3, s4, s5, s6⟩, _⟩ := hR p hp5
      dsimp only at s5
      rw [hHp] at s5
      rw [ix_rd (by omega) s5]
      refine xm_adv hv hp5 (by rw [hHp]; exact Nat.le_refl _) (fun u2 hu2 => ?_)
      rw [hHp] at hu2
      have okc : (H0 p).2.2.2.2.2.1 ≤ (H0 p).2.2.2.2.1 := by
        have := ok.1.2.2.2.2.2
        dsimp only at this
        rw [hHp] at this
        exact this
      clear hZ hR hM hB hv s1 s2 s3 s4 s5 s6 ok
      obtain ⟨f_PREPARE, f_PREPARE_OK, f_GET_STATE, f_NEW_STATE, f_START_VIEW_CHANGE, f_DO_VIEW_CHANGE, f_GET_LOG, f_NEW_LOG, f_START_VIEW, f_clients, f_capacity, f_letters, f_restarts, f_mailHead, f_mailTail, f_acks, f_votes, f_bestVoter, f_bestLast, f_bestLength, f_bestCommit, a_status, a_view, a_last, a_nonce, a_cell, a_length, a_commit, a_logClient, a_logNumber, a_logOp, a_registers, a_tableNumber, a_tableResult, a_mailKind, a_mailFrom, a_mailTo, a_mailView, a_mailLast, a_mailCommit, a_mailLength, a_mailBase, a_mailCount, a_mailClient, a_mailNumber, a_mailOp, a_voted, a_voteCommit, a_slotState, a_slotFrom, a_slotTo, a_slotNonce, a_slotView, a_slotLeader, a_slotLength, a_slotCommit, a_slotClient, a_slotNumber, a_slotOp⟩ := u2
      obtain ⟨hZ, hR, hM, hB⟩ := hu2
      have ea := hB.1
      subst ea
      refine hp _ Q' _ (sx_cong (sx_mk hZ hR hM hB) (fun b hb => ?_))
      unfold vg_spr
      by_cases e : b = p
      · subst e
        rw [fs_eq, fo_pp, show max (H0 b).2.2.2.2.2.1 (H0 b).2.2.2.2.1 = (H0 b).2.2.2.2.1 by omega, if_neg (by decide), if_pos ⟨rfl, z⟩]
      · rw [fs_ne e]
        by_cases e2 : vg_fol H0 Z.2.2.2.2.1 p b = true
        · rw [if_pos e2, if_pos e2]
        · rw [if_neg e2, if_neg e2, if_neg (fun q => e q.1)]
  | succ d ih =>
    intro b n tl Q ph pos u hb hn hI hph hu
    obtain ⟨n, rfl⟩ : ∃ k, n = k + 1 := ⟨n - 1, by omega⟩
    refine sx_el (P := fun u => xs_sp post (nI p) (nI fr) (n + 1) (nI b) u) ?_ hu
    intro f_PREPARE f_PREPARE_OK f_GET_STATE f_NEW_STATE f_START_VIEW_CHANGE f_DO_VIEW_CHANGE f_GET_LOG f_NEW_LOG f_START_VIEW f_clients f_capacity f_letters f_restarts f_mailHead f_mailTail f_acks f_votes f_bestVoter f_bestLast f_bestLength f_bestCommit a_status a_view a_last a_nonce a_cell a_length a_commit a_logClient a_logNumber a_logOp a_registers a_tableNumber a_tableResult a_mailKind a_mailFrom a_mailTo a_mailView a_mailLast a_mailCommit a_mailLength a_mailBase a_mailCount a_mailClient a_mailNumber a_mailOp a_voted a_voteCommit a_slotState a_slotFrom a_slotTo a_slotNonce a_slotView a_slotLeader a_slotLength a_slotCommit a_slotClient a_slotNumber a_slotOp hZ hR hM hB
    obtain ⟨ok, ⟨s1, s2, s3, s4, s5, s6⟩, _⟩ := hR p hp5
    have ok1 := ok.1
    refine br_f (lt5' b (by omega)) ⟨ix_5 hp5, ?_⟩
    have tl32 : tl < 32 := by have := hI.2.2.2.2.2; omega
    rw [ix_rd (by omega) s5, pk_sub hfr]
    have nx : ∀ (Q' : Nat → vg_M) (tl' : Nat) (ph' pos' : Nat → Nat) (u' : SX), sp_I Z.2.2.2.2.1 H0 p ((H0 p).2.2.2.2.1 - fr) (b + 1) 0 tl' Q' ph' pos' → (∀ c, ph' c ≤ 1) → sx_R Z H0 0 tl' Q' (0, B.2) u' →
        match u' with | (f_PREPARE, f_PREPARE_OK, f_GET_STATE, f_NEW_STATE, f_START_VIEW_CHANGE, f_DO_VIEW_CHANGE, f_GET_LOG, f_NEW_LOG, f_START_VIEW, f_clients, f_capacity, f_letters, f_restarts, f_mailHead, f_mailTail, f_acks, f_votes, f_bestVoter, f_bestLast, f_bestLength, f_bestCommit, a_status, a_view, a_last, a_nonce, a_cell, a_length, a_commit, a_logClient, a_logNumber, a_logOp, a_registers, a_tableNumber, a_tableResult, a_mailKind, a_mailFrom, a_mailTo, a_mailView, a_mailLast, a_mailCommit, a_mailLength, a_mailBase, a_mailCount, a_mailClient, a_mailNumber, a_mailOp, a_voted, a_voteCommit, a_slotState, a_slotFrom, a_slotTo, a_slotNonce, a_slotView, a_slotLeader, a_slotLength, a_slotCommit, a_slotClient, a_slotNumber, a_slotOp) => ∀ y : Int32, y = nI b + 1 → wX_spread_7 post (nI p) (nI fr) n y f_PREPARE f_PREPARE_OK f_GET_STATE f_NEW_STATE f_START_VIEW_CHANGE f_DO_VIEW_CHANGE f_GET_LOG f_NEW_LOG f_START_VIEW f_clients f_capacity f_letters f_restarts f_mailHead f_mailTail f_acks f_votes f_bestVoter f_bestLast f_bestLength f_bestCommit a_status a_view a_last a_nonce a_cell a_length a_commit a_logClient a_logNumber a_logOp a_registers a_tableNumber a_tableResult a_mailKind a_mailFrom a_mailTo a_mailView a_mailLast a_mailCommit a_mailLength a_mailBase a_mailCount a_mailClient a_mailNumber a_mailOp a_voted a_voteCommit a_slotState a_slotFrom a_slotTo a_slotNonce a_slotView a_slotLeader a_slotLength a_slotCommit a_slotClient a_slotNumber a_slotOp := by
      intro Q' tl' ph' pos' u' hI' hph' hu'
      have h := ih (b + 1) n tl' Q' ph' pos' u' (by omega) (by omega) hI' hph' hu'
      revert h
      refine sx_cs (P := fun u' => xs_sp post (nI p) (nI fr) n (nI (b + 1)) u' → match u' with | (f_PREPARE, f_PREPARE_OK, f_GET_STATE, f_NEW_STATE, f_START_VIEW_CHANGE, f_DO_VIEW_CHANGE, f_GET_LOG, f_NEW_LOG, f_START_VIEW, f_clients, f_capacity, f_letters, f_restarts, f_mailHead, f_mailTail, f_acks, f_votes, f_bestVoter, f_bestLast, f_bestLength, f_bestCommit, a_status, a_view, a_last, a_nonce, a_cell, a_length, a_commit, a_logClient, a_logNumber, a_logOp, a_registers, a_tableNumber, a_tableResult, a_mailKind, a_mailFrom, a_mailTo, a_mailView, a_mailLast, a_mailCommit, a_mailLength, a_mailBase, a_mailCount, a_mailClient, a_mailNumber, a_mailOp, a_voted, a_voteCommit, a_slotState, a_slotFrom, a_slotTo, a_slotNonce, a_slotView, a_slotLeader, a_slotLength, a_slotCommit, a_slotClient, a_slotNumber, a_slotOp) => ∀ y : Int32, y = nI b + 1 → wX_spread_7 post (nI p) (nI fr) n y f_PREPARE f_PREPARE_OK f_GET_STATE f_NEW_STATE f_START_VIEW_CHANGE f_DO_VIEW_CHANGE f_GET_LOG f_NEW_LOG f_START_VIEW f_clients f_capacity f_letters f_restarts f_mailHead f_mailTail f_acks f_votes f_bestVoter f_bestLast f_bestLength f_bestCommit a_status a_view a_last a_nonce a_cell a_length a_commit a_logClient a_logNumber a_logOp a_registers a_tableNumber a_tableResult a_mailKind a_mailFrom a_mailTo a_mailView a_mailLast a_mailCommit a_mailLength a_mailBase a_mailCount a_mailClient a_mailNumber a_mailOp a_voted a_voteCommit a_slotState a_slotFrom a_slotTo a_slotNonce a_slotView a_slotLeader a_slotLength a_slotCommit a_slotClient a_slotNumber a_slotOp) ?_ u'
      clear hZ hR hM hB s1 s2 s3 s4 s5 s6 hu
      intro f_PREPARE f_PREPARE_OK f_GET_STATE f_NEW_STATE f_START_VIEW_CHANGE f_DO_VIEW_CHANGE f_GET_LOG f_NEW_LOG f_START_VIEW f_clients f_capacity f_letters f_restarts f_mailHead f_mailTail f_acks f_votes f_bestVoter f_bestLast f_bestLength f_bestCommit a_status a_view a_last a_nonce a_cell a_length a_commit a_logClient a_logNumber a_logOp a_registers a_tableNumber a_tableResult a_mailKind a_mailFrom a_mailTo a_mailView a_mailLast a_mailCommit a_mailLength a_mailBase a_mailCount a_mailClient a_mailNumber a_mailOp a_voted a_voteCommit a_slotState a_slotFrom a_slotTo a_slotNonce a_slotView a_slotLeader a_slotLength a_slotCommit a_slotClient a_slotNumber a_slotOp h
      refine nm_r (nI_1 b) ?_
      exact h
    refine xm_postLog (k := 1) (sx_mk hZ hR hM hB) hp5 (by omega) tl32 (by omega) (fun ht u' hu' => ?_) (fun ht u' hu' => ?_)
    · rw [show min ((H0 p).2.2.2.2.1 - fr) (H0 p).2.2.2.2.1 = (H0 p).2.2.2.2.1 - fr by omega] at hu'
      refine nx _ _ _ _ u' (sp_post hI (by omega) ht) (fun c => ?_) hu'
      by_cases e : c = b
      · rw [e, fs_eq]; exact Nat.le_refl _
      · rw [fs_ne e]; exact hph c
    · exact nx _ _ _ _ u' (sp_skip hI ht) hph hu'
theorem xm_spread (hp5 : p < 5) (hP : (H0 p).1 = 0 ∧ (H0 p).2.1 % 5 = p) (hfr : fr ≤ (H0 p).2.2.2.2.1)
    (hs : ∀ b, b < 5 → vg_fol H0 Z.2.2.2.2.1 p b = true → sp_ok (H0 p) (H0 b))
    {B : vg_B} {Q : Nat → vg_M} {u : SX} (hu : sx_R Z H0 0 0 Q B u) (hp : ∀ u' Q' B', sx_R Z (vg_spr H0 Z.2.2.2.2.1 p) 0 0 Q' B' u' → post (nI (cn_5 (vg_fol H0 Z.2.2.2.2.1 p))) u') :
    wpX_spread post u (nI p) (nI fr) := by
  refine sx_el (P := fun u => wpX_spread post u (nI p) (nI fr)) ?_ hu
  intro f_PREPARE f_PREPARE_OK f_GET_STATE f_NEW_STATE f_START_VIEW_CHANGE f_DO_VIEW_CHANGE f_GET_LOG f_NEW_LOG f_START_VIEW f_clients f_capacity f_letters f_restarts f_mailHead f_mailTail f_acks f_votes f_bestVoter f_bestLast f_bestLength f_bestCommit a_status a_view a_last a_nonce a_cell a_length a_commit a_logClient a_logNumber a_logOp a_registers a_tableNumber a_tableResult a_mailKind a_mailFrom a_mailTo a_mailView a_mailLast a_mailCommit a_mailLength a_mailBase a_mailCount a_mailClient a_mailNumber a_mailOp a_voted a_voteCommit a_slotState a_slotFrom a_slotTo a_slotNonce a_slotView a_slotLeader a_slotLength a_slotCommit a_slotClient a_slotNumber a_slotOp hZ hR hM hB
  refine ⟨6, ?_⟩
  have h := xs_loop (B := B) hp5 hP hfr hs hp 5 0 6 0 Q (fun _ => 0) (fun _ => 0) (f_PREPARE, f_PREPARE_OK, f_GET_STATE, f_NEW_STATE, f_START_VIEW_CHANGE, f_DO_VIEW_CHANGE, f_GET_LOG, f_NEW_LOG, f_START_VIEW, f_clients, f_capacity, f_letters, f_restarts, f_mailHead, f_mailTail, 0, f_votes, f_bestVoter, f_bestLast, f_bestLength, f_bestCommit, a_status, a_view, a_last, a_nonce, a_cell, a_length, a_commit, a_logClient, a_logNumber, a_logOp, a_registers, a_tableNumber, a_tableResult, a_mailKind, a_mailFrom, a_mailTo, a_mailView, a_mailLast, a_mailCommit, a_mailLength, a_mailBase, a_mailCount, a_mailClient, a_mailNumber, a_mailOp, a_voted, a_voteCommit, a_slotState, a_slotFrom, a_slotTo, a_slotNonce, a_slotView, a_slotLeader, a_slotLength, a_slotCommit, a_slotClient, a_slotNumber, a_slotOp) (by omega) (by omega) ?_ (fun _ => Nat.zero_le _) (sx_mk hZ hR hM ⟨rfl, hB.2⟩)
  · exact h
  · exact ⟨fun _ => Nat.zero_le _, fun _ _ => rfl, fun _ z => absurd z (Nat.not_succ_le_zero 0), fun i _ z => absurd z (by omega), fun b z => absurd z (by omega), by decide⟩
end
end
section
/-! X: votes -/
/-- x at a is a better log than y at b -/
def vg_bet (x : vg_R) (a : Nat) (y : vg_R) (b : Nat) : Prop := y.2.2.1 < x.2.2.1 ∨ (y.2.2.1 = x.2.2.1 ∧ (y.2.2.2.2.1 < x.2.2.2.2.1 ∨ (y.2.2.2.2.1 = x.2.2.2.2.1 ∧ a < b)))
/-- the votes of D (of rows K) are counted in B -/
def gv_B (K : Nat → vg_R) (D : Nat → Bool) (B : vg_B) : Prop :=
  B.2.1 = nI (cn_5 D) ∧ (∀ b, b < 5 → B.2.2.2.2.2.2.1 b = if D b = true then 1 else 0) ∧ (∀ b, b < 5 → D b = true → B.2.2.2.2.2.2.2 b = nI (K b).2.2.2.2.2.1) ∧
  (∃ c, c ≤ 32 ∧ B.2.2.2.2.2.1 = nI c ∧ (∀ b, b < 5 → D b = true → (K b).2.2.2.2.2.1 ≤ c) ∧ (c = 0 ∨ ∃ b, b < 5 ∧ D b = true ∧ (K b).2.2.2.2.2.1 = c)) ∧
  (((∀ b, b < 5 → D b = false) ∧ B.2.2.1 = -1) ∨ ∃ k, k < 5 ∧ D k = true ∧ B.2.2.1 = nI k ∧ B.2.2.2.1 = nI (K k).2.2.1 ∧ B.2.2.2.2.1 = nI (K k).2.2.2.2.1 ∧ ∀ b, b < 5 → D b = true → b ≠ k → vg_bet (K k) k (K b) b)
theorem cn_set {D : Nat → Bool} : ∀ b, b < 5 → D b = false → cn_5 (fs_set D b true) = cn_5 D + 1 := by
  refine cs_5 ?_ ?_ ?_ ?_ ?_ <;> intro h <;> simp [cn_5, fs_set, h] <;> omega
theorem gv_bet {K : Nat → vg_R} {k b : Nat} (h : k ≠ b) : vg_bet (K k) k (K b) b ∨ vg_bet (K b) b (K k) k := by
  unfold vg_bet
  omega
theorem gv_tr {x y z : vg_R} {a b c : Nat} (h : vg_bet x a y b) (h2 : vg_bet y b z c) : vg_bet x a z c := by
  unfold vg_bet at *
  omega
theorem gv_as {x y : vg_R} {a b : Nat} (h : vg_bet x a y b) (h2 : vg_bet y b x a) : False := by
  unfold vg_bet at *
  omega
section
variable {Z : vg_Z} {H K : Nat → vg_R} {hd tl : Nat} {Q : Nat → vg_M} {B : vg_B} {D : Nat → Bool} {u : SX} {post : SX → Prop}
theorem xm_count (hu : sx_R Z H hd tl Q B u) (hg : gv_B K D B) {b : Nat} (hb : b < 5) (hD : D b = false) (hk : ∀ c, c < 5 → (K c).2.2.1 ≤ 999 ∧ (K c).2.2.2.2.1 ≤ 32 ∧ (K c).2.2.2.2.2.1 ≤ 32)
    (hp : ∀ u' B', gv_B K (fs_set D b true) B' → sx_R Z H hd tl Q B' u' → post u') : wpX_countVote post u (nI b) (nI (K b).2.2.1) (nI (K b).2.2.2.2.1) (nI (K b).2.2.2.2.2.1) := by
  refine sx_el (P := fun u => wpX_countVote post u (nI b) (nI (K b).2.2.1) (nI (K b).2.2.2.2.1) (nI (K b).2.2.2.2.2.1)) ?_ hu
  intro f_PREPARE f_PREPARE_OK f_GET_STATE f_NEW_STATE f_START_VIEW_CHANGE f_DO_VIEW_CHANGE f_GET_LOG f_NEW_LOG f_START_VIEW f_clients f_capacity f_letters f_restarts f_mailHead f_mailTail f_acks f_votes f_bestVoter f_bestLast f_bestLength f_bestCommit a_status a_view a_last a_nonce a_cell a_length a_commit a_logClient a_logNumber a_logOp a_registers a_tableNumber a_tableResult a_mailKind a_mailFrom a_mailTo a_mailView a_mailLast a_mailCommit a_mailLength a_mailBase a_mailCount a_mailClient a_mailNumber a_mailOp a_voted a_voteCommit a_slotState a_slotFrom a_slotTo a_slotNonce a_slotView a_slotLeader a_slotLength a_slotCommit a_slotClient a_slotNumber a_slotOp hZ hR hM hB
  obtain ⟨g1, g2, g3, ⟨c, g4, g5, g6, g7⟩, g8⟩ := hg
  obtain ⟨b1, b2, b3, b4, b5, b6, b7, b8⟩ := hB
  have i5 := ix_5 hb
  obtain ⟨k1, k2, k3⟩ := hk b hb
  have hz : a_voted (nI b).toNatClampNeg = 0 := by
    rw [ix_c (by omega), b7, g2 b hb, if_neg (by rw [hD]; decide)]
  have ev : f_votes + 1 = nI (cn_5 (fs_set D b true)) := by rw [b2, g1, nI_1, cn_set b hb hD]
  refine ⟨i5, br_t hz ⟨i5, nm_e ⟨i5, nm_e (nm_r ev ?_)⟩⟩⟩
  rw [ix_c (by omega)]
  -- the part of the counts
  have q2 : ∀ e, e < 5 → upd a_voted b (vp_nar .boolean 1) e = if fs_set D b true e = true then 1 else 0 := by
    intro e he
    by_cases y : e = b
    · subst y
      rw [pk_us, fs_eq]
      rfl
    · rw [pk_un y, fs_ne y, b7]
      exact g2 e he
  have q3 : ∀ e, e < 5 → fs_set D b true e = true → upd a_voteCommit b (nI (K b).2.2.2.2.2.1) e = nI (K e).2.2.2.2.2.1 := by
    intro e he
    by_cases y : e = b
    · subst y
      intro _
      rw [pk_us]
    · rw [pk_un y, fs_ne y, b8]
      exact g3 e he
  have q4 : ∀ c', ((K b).2.2.2.2.2.1 ≤ c ∧ c' = c ∨ c < (K b).2.2.2.2.2.1 ∧ c' = (K b).2.2.2.2.2.1) → c' ≤ 32 ∧ (∀ e, e < 5 → fs_set D b true e = true → (K e).2.2.2.2.2.1 ≤ c') ∧ (c' = 0 ∨ ∃ e, e < 5 ∧ fs_set D b true e = true ∧ (K e).2.2.2.2.2.1 = c') := by
    intro c' hc
    refine ⟨by omega, fun e he => ?_, ?_⟩
    · by_cases y : e = b
      · subst y
        intro _
        omega
      · rw [fs_ne y]
        intro z
        have := g6 e he z
        omega
    · rcases hc with ⟨h1, rfl⟩ | ⟨h1, rfl⟩
      · rcases g7 with h | ⟨e, e1, e2, e3⟩
        · exact Or.inl h
        · refine Or.inr ⟨e, e1, ?_, e3⟩
          by_cases y : e = b
          · rw [y, fs_eq]
          · rw [fs_ne y]; exact e2
      · exact Or.inr ⟨b, hb, fs_eq, rfl⟩
  have main : ∀ (c' : Nat) (fc : Int32), ((K b).2.2.2.2.2.1 ≤ c ∧ c' = c ∨ c < (K b).2.2.2.2.2.1 ∧ c' = (K b).2.2.2.2.2.1) → fc = nI c' →
      wX_countVote_50 post (nI b) (nI (K b).2.2.1) (nI (K b).2.2.2.2.1) f_PREPARE f_PREPARE_OK f_GET_STATE f_NEW_STATE f_START_VIEW_CHANGE f_DO_VIEW_CHANGE f_GET_LOG f_NEW_LOG f_START_VIEW f_clients f_capacity f_letters f_restarts f_mailHead f_mailTail f_acks (nI (cn_5 (fs_set D b true))) f_bestVoter f_bestLast f_bestLength fc a_status a_view a_last a_nonce a_cell a_length a_commit a_logClient a_logNumber a_logOp a_registers a_tableNumber a_tableResult a_mailKind a_mailFrom a_mailTo a_mailView a_mailLast a_mailCommit a_mailLength a_mailBase a_mailCount a_mailClient a_mailNumber a_mailOp (upd a_voted b (vp_nar .boolean 1)) (upd a_voteCommit b (nI (K b).2.2.2.2.2.1)) a_slotState a_slotFrom a_slotTo a_slotNonce a_slotView a_slotLeader a_slotLength a_slotCommit a_slotClient a_slotNumber a_slotOp := by
    intro c' fc hc ec
    obtain ⟨q41, q42, q43⟩ := q4 c' hc
    have fin_old : (∃ k, k < 5 ∧ D k = true ∧ B.2.2.1 = nI k ∧ B.2.2.2.1 = nI (K k).2.2.1 ∧ B.2.2.2.2.1 = nI (K k).2.2.2.2.1 ∧ (∀ b, b < 5 → D b = true → b ≠ k → vg_bet (K k) k (K b) b) ∧ vg_bet (K k) k (K b) b) →
        post (f_PREPARE, f_PREPARE_OK, f_GET_STATE, f_NEW_STATE, f_START_VIEW_CHANGE, f_DO_VIEW_CHANGE, f_GET_LOG, f_NEW_LOG, f_START_VIEW, f_clients, f_capacity, f_letters, f_restarts, f_mailHead, f_mailTail, f_acks, nI (cn_5 (fs_set D b true)), f_bestVoter, f_bestLast, f_bestLength, fc, a_status, a_view, a_last, a_nonce, a_cell, a_length, a_commit, a_logClient, a_logNumber, a_logOp, a_registers, a_tableNumber, a_tableResult, a_mailKind, a_mailFrom, a_mailTo, a_mailView, a_mailLast, a_mailCommit, a_mailLength, a_mailBase, a_mailCount, a_mailClient, a_mailNumber, a_mailOp, upd a_voted b (vp_nar .boolean 1), upd a_voteCommit b (nI (K b).2.2.2.2.2.1), a_slotState, a_slotFrom, a_slotTo, a_slotNonce, a_slotView, a_slotLeader, a_slotLength, a_slotCommit, a_slotClient, a_slotNumber, a_slotOp) := by
      rintro ⟨k, y1, y2, y3, y4, y5, y6, y7⟩
      refine hp _ (f_acks, nI (cn_5 (fs_set D b true)), f_bestVoter, f_bestLast, f_bestLength, fc, upd a_voted b (vp_nar .boolean 1), upd a_voteCommit b (nI (K b).2.2.2.2.2.1)) ?_ (sx_mk hZ hR hM ⟨rfl, rfl, rfl, rfl, rfl, rfl, rfl, rfl⟩)
      refine ⟨rfl, q2, q3, ⟨c', q41, ec, q42, q43⟩, Or.inr ⟨k, y1, ?_, b3.trans y3, b4.trans y4, b5.trans y5, fun e he => ?_⟩⟩
      · rw [fs_ne (fun z => by rw [z, hD] at y2; exact absurd y2 (by decide))]
        exact y2
      · by_cases y : e = b
        · subst y
          exact fun _ _ => y7
        · rw [fs_ne y]
          exact y6 e he
    have fin_new : (∀ e, e < 5 → D e = true → vg_bet (K b) b (K e) e) →
        post (f_PREPARE, f_PREPARE_OK, f_GET_STATE, f_NEW_STATE, f_START_VIEW_CHANGE, f_DO_VIEW_CHANGE, f_GET_LOG, f_NEW_LOG, f_START_VIEW, f_clients, f_capacity, f_letters, f_restarts, f_mailHead, f_mailTail, f_acks, nI (cn_5 (fs_set D b true)), nI b, nI (K b).2.2.1, nI (K b).2.2.2.2.1, fc, a_status, a_view, a_last, a_nonce, a_cell, a_length, a_commit, a_logClient, a_logNumber, a_logOp, a_registers, a_tableNumber, a_tableResult, a_mailKind, a_mailFrom, a_mailTo, a_mailView, a_mailLast, a_mailCommit, a_mailLength, a_mailBase, a_mailCount, a_mailClient, a_mailNumber, a_mailOp, upd a_voted b (vp_nar .boolean 1), upd a_voteCommit b (nI (K b).2.2.2.2.2.1), a_slotState, a_slotFrom, a_slotTo, a_slotNonce, a_slotView, a_slotLeader, a_slotLength, a_slotCommit, a_slotClient, a_slotNumber, a_slotOp) := by
      intro hn
      refine hp _ (f_acks, nI (cn_5 (fs_set D b true)), nI b, nI (K b).2.2.1, nI (K b).2.2.2.2.1, fc, upd a_voted b (vp_nar .boolean 1), upd a_voteCommit b (nI (K b).2.2.2.2.2.1)) ?_ (sx_mk hZ hR hM ⟨rfl, rfl, rfl, rfl, rfl, rfl, rfl, rfl⟩)
      refine ⟨rfl, q2, q3, ⟨c', q41, ec, q42, q43⟩, Or.inr ⟨b, hb, fs_eq, rfl, rfl, rfl, fun e he => ?_⟩⟩
      by_cases y : e = b
      · exact fun _ z => absurd y z
      · rw [fs_ne y]
        exact fun z _ => hn e he z
    rcases g8 with ⟨h1, h2⟩ | ⟨k, y1, y2, y3, y4, y5, y6⟩
    · refine br_f (by rw [b3, h2]; decide) (br_f (by decide) (fin_new (fun e he z => ?_)))
      rw [h1 e he] at z
      exact absurd z (by decide)
    · have kb : k ≠ b := by
        intro z
        rw [z, hD] at y2
        exact absurd y2 (by decide)
      obtain ⟨m1, m2, m3⟩ := hk k y1
      have new : vg_bet (K b) b (K k) k → ∀ e, e < 5 → D e = true → vg_bet (K b) b (K e) e := by
        intro z e he ze
        by_cases y : e = k
        · rw [y]; exact z
        · exact gv_tr z (y6 e he ze y)
      have old : vg_bet (K k) k (K b) b → _ := fun z => fin_old ⟨k, y1, y2, y3, y4, y5, y6, z⟩
      refine br_t (by rw [b3, y3]; exact nI_pos' (by omega)) (pk_eq (K b).2.2.1 (K k).2.2.1 (fun z1 => pk_eq (K b).2.2.2.2.1 (K k).2.2.2.2.1 (fun z2 => pk_le k b (fun z3 => br_t rfl (old (by unfold vg_bet; omega))) (fun z3 => br_f (by decide) (fin_new (new (by unfold vg_bet; omega)))) (hx := b3.trans y3)) (fun z2 => pk_le (K b).2.2.2.2.1 (K k).2.2.2.2.1 (fun z3 => br_t rfl (old (by unfold vg_bet; omega))) (fun z3 => br_f (by decide) (fin_new (new (by unfold vg_bet; omega)))) (hy := b5.trans y5)) (hy := b5.trans y5)) (fun z1 => pk_le (K b).2.2.1 (K k).2.2.1 (fun z3 => br_t rfl (old (by unfold vg_bet; omega))) (fun z3 => br_f (by decide) (fin_new (new (by unfold vg_bet; omega)))) (hy := b4.trans y4)) (hy := b4.trans y4))
  refine pk_le (K b).2.2.2.2.2.1 c (fun z => main c _ (Or.inl ⟨z, rfl⟩) (b6.trans g5)) (fun z => main (K b).2.2.2.2.2.1 _ (Or.inr ⟨z, rfl⟩) rfl) (hy := b6.trans g5)
end
section
variable {f_PREPARE f_PREPARE_OK f_GET_STATE f_NEW_STATE f_START_VIEW_CHANGE f_DO_VIEW_CHANGE f_GET_LOG f_NEW_LOG f_START_VIEW f_clients f_capacity f_letters f_restarts f_mailHead f_mailTail f_acks f_votes f_bestVoter f_bestLast f_bestLength f_bestCommit : Int32} {a_status a_view a_last a_nonce a_cell a_length a_commit a_logClient a_logNumber a_logOp a_registers a_tableNumber a_tableResult a_mailKind a_mailFrom a_mailTo a_mailView a_mailLast a_mailCommit a_mailLength a_mailBase a_mailCount a_mailClient a_mailNumber a_mailOp a_voted a_voteCommit a_slotState a_slotFrom a_slotTo a_slotNonce a_slotView a_slotLeader a_slotLength a_slotCommit a_slotClient a_slotNumber a_slotOp : Nat → Int32}
theorem xm_cv_l {post : SX → Prop} (h : post (f_PREPARE, f_PREPARE_OK, f_GET_STATE, f_NEW_STATE, f_START_VIEW_CHANGE, f_DO_VIEW_CHANGE, f_GET_LOG, f_NEW_LOG, f_START_VIEW, f_clients, f_capacity, f_letters, f_restarts, f_mailHead, f_mailTail, f_acks, f_votes, f_bestVoter, f_bestLast, f_bestLength, f_bestCommit, a_status, a_view, a_last, a_nonce, a_cell, a_length, a_commit, a_logClient, a_logNumber, a_logOp, a_registers, a_tableNumber, a_tableResult, a_mailKind, a_mailFrom, a_mailTo, a_mailView, a_mailLast, a_mailCommit, a_mailLength, a_mailBase, a_mailCount, a_mailClient, a_mailNumber, a_mailOp, zr_zer a_voted 0 5, zr_zer a_voteCommit 0 5, a_slotState, a_slotFrom, a_slotTo, a_slotNonce, a_slotView, a_slotLeader, a_slotLength, a_slotCommit, a_slotClient, a_slotNumber, a_slotOp)) :
    ∀ d i n : Nat, i + d = 5 → d < n → wX_clearVotes_27 post f_PREPARE f_PREPARE_OK f_GET_STATE f_NEW_STATE f_START_VIEW_CHANGE f_DO_VIEW_CHANGE f_GET_LOG f_NEW_LOG f_START_VIEW f_clients f_capacity f_letters f_restarts f_mailHead f_mailTail f_acks f_votes f_bestVoter f_bestLast f_bestLength f_bestCommit n (nI i) a_status a_view a_last a_nonce a_cell a_length a_commit a_logClient a_logNumber a_logOp a_registers a_tableNumber a_tableResult a_mailKind a_mailFrom a_mailTo a_mailView a_mailLast a_mailCommit a_mailLength a_mailBase a_mailCount a_mailClient a_mailNumber a_mailOp (zr_zer a_voted 0 i) (zr_zer a_voteCommit 0 i) a_slotState a_slotFrom a_slotTo a_slotNonce a_slotView a_slotLeader a_slotLength a_slotCommit a_slotClient a_slotNumber a_slotOp := by
  intro d
  induction d with
  | zero =>
    intro i n hi hn
    obtain ⟨n, rfl⟩ : ∃ k, n = k + 1 := ⟨n - 1, by omega⟩
    have hi' : i = 5 := hi
    subst hi'
    exact br_t (Int32.le_refl _) h
  | succ d ih =>
    intro i n hi hn
    obtain ⟨n, rfl⟩ : ∃ k, n = k + 1 := ⟨n - 1, by omega⟩
    have i5 := ix_5 (by omega : i < 5)
    refine br_f (lt5' i (by omega)) ⟨i5, nm_e ⟨i5, nm_e (nm_r (nI_1 i) ?_)⟩⟩
    have e1 := zr_s a_voted 0 i
    have e2 := zr_s a_voteCommit 0 i
    rw [Nat.zero_add] at e1 e2
    rw [ix_c (by omega), show vp_nar .boolean 0 = 0 from rfl, e1, e2]
    exact ih (i + 1) n (by omega) (by omega)
theorem xm_cv_0 {post : SX → Prop} (h : post (f_PREPARE, f_PREPARE_OK, f_GET_STATE, f_NEW_STATE, f_START_VIEW_CHANGE, f_DO_VIEW_CHANGE, f_GET_LOG, f_NEW_LOG, f_START_VIEW, f_clients, f_capacity, f_letters, f_restarts, f_mailHead, f_mailTail, f_acks, f_votes, f_bestVoter, f_bestLast, f_bestLength, f_bestCommit, a_status, a_view, a_last, a_nonce, a_cell, a_length, a_commit, a_logClient, a_logNumber, a_logOp, a_registers, a_tableNumber, a_tableResult, a_mailKind, a_mailFrom, a_mailTo, a_mailView, a_mailLast, a_mailCommit, a_mailLength, a_mailBase, a_mailCount, a_mailClient, a_mailNumber, a_mailOp, zr_zer a_voted 0 5, zr_zer a_voteCommit 0 5, a_slotState, a_slotFrom, a_slotTo, a_slotNonce, a_slotView, a_slotLeader, a_slotLength, a_slotCommit, a_slotClient, a_slotNumber, a_slotOp)) : wX_clearVotes_27 post f_PREPARE f_PREPARE_OK f_GET_STATE f_NEW_STATE f_START_VIEW_CHANGE f_DO_VIEW_CHANGE f_GET_LOG f_NEW_LOG f_START_VIEW f_clients f_capacity f_letters f_restarts f_mailHead f_mailTail f_acks f_votes f_bestVoter f_bestLast f_bestLength f_bestCommit 6 0 a_status a_view a_last a_nonce a_cell a_length a_commit a_logClient a_logNumber a_logOp a_registers a_tableNumber a_tableResult a_mailKind a_mailFrom a_mailTo a_mailView a_mailLast a_mailCommit a_mailLength a_mailBase a_mailCount a_mailClient a_mailNumber a_mailOp a_voted a_voteCommit a_slotState a_slotFrom a_slotTo a_slotNonce a_slotView a_slotLeader a_slotLength a_slotCommit a_slotClient a_slotNumber a_slotOp := by
  have h2 := xm_cv_l h 5 0 6 (by omega) (by omega)
  rw [zr_0, zr_0] at h2
  exact h2
end
theorem xm_clear {Z : vg_Z} {H K : Nat → vg_R} {hd tl : Nat} {Q : Nat → vg_M} {B : vg_B} {u : SX} {post : SX → Prop} (hu : sx_R Z H hd tl Q B u)
    (hp : ∀ u' B', gv_B K (fun _ => false) B' → sx_R Z H hd tl Q B' u' → post u') : wpX_clearVotes post u := by
  refine sx_el (P := fun u => wpX_clearVotes post u) ?_ hu
  intro f_PREPARE f_PREPARE_OK f_GET_STATE f_NEW_STATE f_START_VIEW_CHANGE f_DO_VIEW_CHANGE f_GET_LOG f_NEW_LOG f_START_VIEW f_clients f_capacity f_letters f_restarts f_mailHead f_mailTail f_acks f_votes f_bestVoter f_bestLast f_bestLength f_bestCommit a_status a_view a_last a_nonce a_cell a_length a_commit a_logClient a_logNumber a_logOp a_registers a_tableNumber a_tableResult a_mailKind a_mailFrom a_mailTo a_mailView a_mailLast a_mailCommit a_mailLength a_mailBase a_mailCount a_mailClient a_mailNumber a_mailOp a_voted a_voteCommit a_slotState a_slotFrom a_slotTo a_slotNonce a_slotView a_slotLeader a_slotLength a_slotCommit a_slotClient a_slotNumber a_slotOp hZ hR hM hB
  refine ⟨6, ?_⟩
  refine xm_cv_0 (hp _ (f_acks, 0, -1, 0, 0, 0, zr_zer a_voted 0 5, zr_zer a_voteCommit 0 5) ?_ (sx_mk hZ hR hM ⟨rfl, rfl, rfl, rfl, rfl, rfl, rfl, rfl⟩))
  refine ⟨rfl, fun b hb => ?_, fun b hb z => absurd z Bool.false_ne_true, ⟨0, by omega, rfl, fun b hb z => absurd z Bool.false_ne_true, Or.inl rfl⟩, Or.inl ⟨fun _ _ => rfl, rfl⟩⟩
  have := zr_in (f := a_voted) (d := 0) (n := 5) b hb
  rw [Nat.zero_add] at this
  exact this
end
section
/-! the queue against phases: whoever has a phase from 1 to K has one message waiting -/
def qk_I (K : Nat) (msg : Nat → Nat → vg_M) (hd tl : Nat) (Q : Nat → vg_M) (ph pos : Nat → Nat) : Prop :=
  (∀ b, 1 ≤ ph b → ph b ≤ K → hd ≤ pos b ∧ pos b < tl ∧ Q (pos b) = msg (ph b) b) ∧ (∀ i, hd ≤ i → i < tl → ∃ b, 1 ≤ ph b ∧ ph b ≤ K ∧ pos b = i)
def qk_inj (K : Nat) (msg : Nat → Nat → vg_M) : Prop := ∀ k b k' b', 1 ≤ k → k ≤ K → 1 ≤ k' → k' ≤ K → msg k b = msg k' b' → b = b'
section
variable {K : Nat} {msg : Nat → Nat → vg_M} {hd tl : Nat} {Q : Nat → vg_M} {ph pos : Nat → Nat}
theorem qk_oth (inj : qk_inj K msg) (h : qk_I K msg hd tl Q ph pos) {b : Nat} (h1 : 1 ≤ ph b) (h2 : ph b ≤ K) (hpos : pos b = hd) {c : Nat} (c1 : 1 ≤ ph c) (c2 : ph c ≤ K) (hc : c ≠ b) : hd + 1 ≤ pos c := by
  obtain ⟨i3, _⟩ := h
  obtain ⟨q1, q2, q3⟩ := i3 b h1 h2
  obtain ⟨r1, r2, r3⟩ := i3 c c1 c2
  by_cases e : pos c = hd
  · rw [hpos] at q3
    rw [e, q3] at r3
    exact absurd (inj _ _ _ _ h1 h2 c1 c2 r3).symm hc
  · omega
theorem qk_done (inj : qk_inj K msg) (h : qk_I K msg hd tl Q ph pos) {b k : Nat} (h1 : 1 ≤ ph b) (h2 : ph b ≤ K) (hpos : pos b = hd) (hk : k = 0 ∨ K < k) : qk_I K msg (hd + 1) tl Q (fs_set ph b k) pos := by
  have ho := @qk_oth _ _ _ _ _ _ _ inj h b h1 h2 hpos
  obtain ⟨i3, i4⟩ := h
  refine ⟨fun c c1 c2 => ?_, fun i hi hi2 => ?_⟩
  · by_cases e : c = b
    · rw [e, fs_eq] at c1 c2; omega
    · rw [fs_ne e] at c1 c2 ⊢
      obtain ⟨q1, q2, q3⟩ := i3 c c1 c2
      exact ⟨ho c1 c2 e, q2, q3⟩
  · obtain ⟨c, c1, c2, c3⟩ := i4 i (by omega) hi2
    refine ⟨c, ?_⟩
    rw [fs_ne (by intro e; rw [e] at c3; omega)]
    exact ⟨c1, c2, c3⟩
theorem qk_next (inj : qk_inj K msg) (h : qk_I K msg hd tl Q ph pos) {b k : Nat} (h1 : 1 ≤ ph b) (h2 : ph b ≤ K) (hpos : pos b = hd) (hk1 : 1 ≤ k) (hk2 : k ≤ K) :
    qk_I K msg (hd + 1) (tl + 1) (fs_set Q tl (msg k b)) (fs_set ph b k) (fs_set pos b tl) := by
  have ho := @qk_oth _ _ _ _ _ _ _ inj h b h1 h2 hpos
  obtain ⟨i3, i4⟩ := h
  have hd2 : hd < tl := by
    have := i3 b h1 h2
    omega
  refine ⟨fun c c1 c2 => ?_, fun i hi hi2 => ?_⟩
  · by_cases e : c = b
    · subst e
      rw [fs_eq, fs_eq, fs_eq]
      exact ⟨by omega, by omega, rfl⟩
    · rw [fs_ne e] at c1 c2
      obtain ⟨q1, q2, q3⟩ := i3 c c1 c2
      rw [fs_ne e, fs_ne e, fs_ne (by omega)]
      exact ⟨ho c1 c2 e, by omega, q3⟩
  · by_cases e2 : i = tl
    · refine ⟨b, ?_⟩
      rw [fs_eq, fs_eq]
      exact ⟨by omega, hk2, e2.symm⟩
    · obtain ⟨c, c1, c2, c3⟩ := i4 i (by omega) (by omega)
      refine ⟨c, ?_⟩
      have e : c ≠ b := by intro e; rw [e] at c3; omega
      rw [fs_ne e, fs_ne e]
      exact ⟨c1, c2, c3⟩
theorem qk_post (h : qk_I K msg hd tl Q ph pos) {b k : Nat} (ht : hd ≤ tl) (h1 : ph b = 0 ∨ K < ph b) (hk1 : 1 ≤ k) (hk2 : k ≤ K) :
    qk_I K msg hd (tl + 1) (fs_set Q tl (msg k b)) (fs_set ph b k) (fs_set pos b tl) := by
  obtain ⟨i3, i4⟩ := h
  refine ⟨fun c c1 c2 => ?_, fun i hi hi2 => ?_⟩
  · by_cases e : c = b
    · subst e
      rw [fs_eq, fs_eq, fs_eq]
      exact ⟨by omega, by omega, rfl⟩
    · rw [fs_ne e] at c1 c2
      obtain ⟨q1, q2, q3⟩ := i3 c c1 c2
      rw [fs_ne e, fs_ne e, fs_ne (by omega)]
      exact ⟨q1, by omega, q3⟩
  · by_cases e2 : i = tl
    · refine ⟨b, ?_⟩
      rw [fs_eq, fs_eq]
      exact ⟨by omega, hk2, e2.symm⟩
    · obtain ⟨c, c1, c2, c3⟩ := i4 i (by omega) (by omega)
      refine ⟨c, ?_⟩
      have e : c ≠ b := by intro e; rw [e] at c1 c2; omega
      rw [fs_ne e, fs_ne e]
      exact ⟨c1, c2, c3⟩
end
/-! X: votes by mail -/
section
variable {Z : vg_Z} {H K : Nat → vg_R} {hd tl : Nat} {Q : Nat → vg_M} {B : vg_B} {D : Nat → Bool} {u : SX} {post : SX → Prop}
theorem xm_vote (hu : sx_R Z H hd tl Q B u) (hg : gv_B K D B) {b w : Nat} (hb : b < 5) (hw : (H b).2.1 = w) (hD : D b = false) (hk : ∀ c, c < 5 → (K c).2.2.1 ≤ 999 ∧ (K c).2.2.2.2.1 ≤ 32 ∧ (K c).2.2.2.2.2.1 ≤ 32) (htl : tl < 32)
    (hKH : (H b).2.2.1 = (K b).2.2.1 ∧ (H b).2.2.2.2.1 = (K b).2.2.2.2.1 ∧ (H b).2.2.2.2.2.1 = (K b).2.2.2.2.2.1)
    (hq : w % 5 = b → ∀ u' B', gv_B K (fs_set D b true) B' → sx_R Z H hd tl Q B' u' → post u')
    (ht : w % 5 ≠ b → vg_tch H Z.2.2.2.2.1 b (w % 5) = true → ∀ u', sx_R Z H hd (tl + 1) (fs_set Q tl (6, b, w % 5, (H b).2.2.2.2.1, H b)) B u' → post u')
    (hn : w % 5 ≠ b → vg_tch H Z.2.2.2.2.1 b (w % 5) = false → ∀ u', sx_R Z H hd tl Q B u' → post u') : wpX_vote post u (nI b) := by
  refine sx_el (P := fun u => wpX_vote post u (nI b)) ?_ hu
  intro f_PREPARE f_PREPARE_OK f_GET_STATE f_NEW_STATE f_START_VIEW_CHANGE f_DO_VIEW_CHANGE f_GET_LOG f_NEW_LOG f_START_VIEW f_clients f_capacity f_letters f_restarts f_mailHead f_mailTail f_acks f_votes f_bestVoter f_bestLast f_bestLength f_bestCommit a_status a_view a_last a_nonce a_cell a_length a_commit a_logClient a_logNumber a_logOp a_registers a_tableNumber a_tableResult a_mailKind a_mailFrom a_mailTo a_mailView a_mailLast a_mailCommit a_mailLength a_mailBase a_mailCount a_mailClient a_mailNumber a_mailOp a_voted a_voteCommit a_slotState a_slotFrom a_slotTo a_slotNonce a_slotView a_slotLeader a_slotLength a_slotCommit a_slotClient a_slotNumber a_slotOp hZ hR hM hB
  have hv := sx_mk hZ hR hM hB (f_PREPARE := f_PREPARE) (f_PREPARE_OK := f_PREPARE_OK) (f_GET_STATE := f_GET_STATE) (f_NEW_STATE := f_NEW_STATE) (f_START_VIEW_CHANGE := f_START_VIEW_CHANGE) (f_DO_VIEW_CHANGE := f_DO_VIEW_CHANGE) (f_GET_LOG := f_GET_LOG) (f_NEW_LOG := f_NEW_LOG) (f_START_VIEW := f_START_VIEW)
  obtain ⟨ok, ⟨s1, s2, s3, s4, s5, s6⟩, l, r⟩ := hR b hb
  have ok1 := ok.1
  have i5 := ix_5 hb
  have e : a_view (nI b).toNatClampNeg - a_view (nI b).toNatClampNeg / 5 * 5 = nI (w % 5) := by
    rw [ix_rd (by omega) s2, hw]
    exact ix_r5 (by omega)
  refine ⟨i5, by decide, nm_r e (pk_eq (w % 5) b (fun z => ⟨i5, i5, i5, ?_⟩) (fun z => ?_))⟩
  · rw [ix_rd (by omega) s3, ix_rd (by omega) s5, ix_rd (by omega) s6, hKH.1, hKH.2.1, hKH.2.2]
    exact xm_count hv hg hb hD hk (fun u' B' g' hu' => hq z u' B' g' hu')
  · exact xm_post (k := 6) hv hb (by omega) htl (fun z2 u' hu' => ht z z2 u' hu') (fun z2 u' hu' => hn z z2 u' hu')
def ga_mv (x : vg_R) (w : Nat) : vg_R := (1, w, x.2.2.1, x.2.2.2.1, x.2.2.2.2.1, x.2.2.2.2.2.1, x.2.2.2.2.2.2)
theorem xm_onSVC (hu : sx_R Z H hd tl Q B u) (hg : gv_B K D B) {m r b bs : Nat} {x : vg_R} (hm : m < tl) (hQ : Q m = (5, r, b, bs, x)) (hD : D b = false) (hk : ∀ c, c < 5 → (K c).2.2.1 ≤ 999 ∧ (K c).2.2.2.2.1 ≤ 32 ∧ (K c).2.2.2.2.2.1 ≤ 32) (htl : tl < 32)
    (hKH : (H b).2.2.1 = (K b).2.2.1 ∧ (H b).2.2.2.2.1 = (K b).2.2.2.2.1 ∧ (H b).2.2.2.2.2.1 = (K b).2.2.2.2.2.1)
    (h0 : ¬ ((H b).1 ≤ 1 ∧ ((H b).2.1 < x.2.1 ∨ ((H b).1 = 1 ∧ (H b).2.1 = x.2.1))) → ∀ u', sx_R Z H hd tl Q B u' → post u')
    (hq : (H b).1 ≤ 1 ∧ ((H b).2.1 < x.2.1 ∨ ((H b).1 = 1 ∧ (H b).2.1 = x.2.1)) → x.2.1 % 5 = b → ∀ u' B', gv_B K (fs_set D b true) B' → sx_R Z (fs_set H b (ga_mv (H b) x.2.1)) hd tl Q B' u' → post u')
    (ht : (H b).1 ≤ 1 ∧ ((H b).2.1 < x.2.1 ∨ ((H b).1 = 1 ∧ (H b).2.1 = x.2.1)) → x.2.1 % 5 ≠ b → vg_tch (fs_set H b (ga_mv (H b) x.2.1)) Z.2.2.2.2.1 b (x.2.1 % 5) = true → ∀ u', sx_R Z (fs_set H b (ga_mv (H b) x.2.1)) hd (tl + 1) (fs_set Q tl (6, b, x.2.1 % 5, (H b).2.2.2.2.1, ga_mv (H b) x.2.1)) B u' → post u')
    (hn : (H b).1 ≤ 1 ∧ ((H b).2.1 < x.2.1 ∨ ((H b).1 = 1 ∧ (H b).2.1 = x.2.1)) → x.2.1 % 5 ≠ b → vg_tch (fs_set H b (ga_mv (H b) x.2.1)) Z.2.2.2.2.1 b (x.2.1 % 5) = false → ∀ u', sx_R Z (fs_set H b (ga_mv (H b) x.2.1)) hd tl Q B u' → post u') : wpX_onStartViewChange post u (nI m) := by
  refine sx_el (P := fun u => wpX_onStartViewChange post u (nI m)) ?_ hu
  intro f_PREPARE f_PREPARE_OK f_GET_STATE f_NEW_STATE f_START_VIEW_CHANGE f_DO_VIEW_CHANGE f_GET_LOG f_NEW_LOG f_START_VIEW f_clients f_capacity f_letters f_restarts f_mailHead f_mailTail f_acks f_votes f_bestVoter f_bestLast f_bestLength f_bestCommit a_status a_view a_last a_nonce a_cell a_length a_commit a_logClient a_logNumber a_logOp a_registers a_tableNumber a_tableResult a_mailKind a_mailFrom a_mailTo a_mailView a_mailLast a_mailCommit a_mailLength a_mailBase a_mailCount a_mailClient a_mailNumber a_mailOp a_voted a_voteCommit a_slotState a_slotFrom a_slotTo a_slotNonce a_slotView a_slotLeader a_slotLength a_slotCommit a_slotClient a_slotNumber a_slotOp hZ hR hM hB
  obtain ⟨⟨e1, e2, e3, e4, e5, e6, e7, e8⟩, im, b1, b2, b3, b4⟩ := rm_msg hM hm hQ
  have hv := sx_mk hZ hR hM hB (f_PREPARE := f_PREPARE) (f_PREPARE_OK := f_PREPARE_OK) (f_GET_STATE := f_GET_STATE) (f_NEW_STATE := f_NEW_STATE) (f_START_VIEW_CHANGE := f_START_VIEW_CHANGE) (f_DO_VIEW_CHANGE := f_DO_VIEW_CHANGE) (f_GET_LOG := f_GET_LOG) (f_NEW_LOG := f_NEW_LOG) (f_START_VIEW := f_START_VIEW)
  obtain ⟨ok, ⟨s1, s2, s3, s4, s5, s6⟩, l, r⟩ := hR b b3
  have ok1 := ok.1
  have pk1 := b4.1
  have r1 := ix_rd (by omega : b < 2000) s1
  have r2 := ix_rd (by omega : b < 2000) s2
  have i5 := ix_5 b3
  have k53 : (H b).1 ≤ 1 ∧ ((H b).2.1 < x.2.1 ∨ ((H b).1 = 1 ∧ (H b).2.1 = x.2.1)) → wX_onStartViewChange_53 post (nI b) (nI x.2.1) f_PREPARE f_PREPARE_OK f_GET_STATE f_NEW_STATE f_START_VIEW_CHANGE f_DO_VIEW_CHANGE f_GET_LOG f_NEW_LOG f_START_VIEW f_clients f_capacity f_letters f_restarts f_mailHead f_mailTail f_acks f_votes f_bestVoter f_bestLast f_bestLength f_bestCommit a_status a_view a_last a_nonce a_cell a_length a_commit a_logClient a_logNumber a_logOp a_registers a_tableNumber a_tableResult a_mailKind a_mailFrom a_mailTo a_mailView a_mailLast a_mailCommit a_mailLength a_mailBase a_mailCount a_mailClient a_mailNumber a_mailOp a_voted a_voteCommit a_slotState a_slotFrom a_slotTo a_slotNonce a_slotView a_slotLeader a_slotLength a_slotCommit a_slotClient a_slotNumber a_slotOp := by
    intro z
    unfold wX_onStartViewChange_53
    refine xm_leave hv b3 (by omega) (fun u1 hu1 => ?_)
    have hu2 : sx_R Z (fs_set H b (ga_mv (H b) x.2.1)) hd tl Q B u1 := hu1
    clear hZ hR hM hB hv e1 e2 e3 e4 e5 e6 e7 e8 s1 s2 s3 s4 s5 s6 l r r1 r2 hu1
    obtain ⟨f_PREPARE, f_PREPARE_OK, f_GET_STATE, f_NEW_STATE, f_START_VIEW_CHANGE, f_DO_VIEW_CHANGE, f_GET_LOG, f_NEW_LOG, f_START_VIEW, f_clients, f_capacity, f_letters, f_restarts, f_mailHead, f_mailTail, f_acks, f_votes, f_bestVoter, f_bestLast, f_bestLength, f_bestCommit, a_status, a_view, a_last, a_nonce, a_cell, a_length, a_commit, a_logClient, a_logNumber, a_logOp, a_registers, a_tableNumber, a_tableResult, a_mailKind, a_mailFrom, a_mailTo, a_mailView, a_mailLast, a_mailCommit, a_mailLength, a_mailBase, a_mailCount, a_mailClient, a_mailNumber, a_mailOp, a_voted, a_voteCommit, a_slotState, a_slotFrom, a_slotTo, a_slotNonce, a_slotView, a_slotLeader, a_slotLength, a_slotCommit, a_slotClient, a_slotNumber, a_slotOp⟩ := u1
    obtain ⟨hZ, hR, hM, hB⟩ := hu2
    refine xm_vote (sx_mk hZ hR hM hB) hg (w := x.2.1) b3 (by rw [fs_eq]; rfl) hD hk htl (by rw [fs_eq]; exact hKH) (fun q u' B' g' hu' => hq z q u' B' g' hu') (fun q q2 u' hu' => ?_) (fun q q2 u' hu' => hn z q q2 u' hu')
    rw [fs_eq] at hu'
    exact ht z q q2 u' hu'
  refine ⟨im, nm_r e3 ⟨im, nm_r e4 (xm_act hv b3 (fun z => br_f (by decide) ⟨i5, pk_lt (H b).2.1 x.2.1 (fun z2 => k53 ⟨z, Or.inl z2⟩) (fun z2 => ⟨i5, pk_eq (H b).2.1 x.2.1 (fun z3 => ⟨i5, pk_eq (H b).1 1 (fun z4 => k53 ⟨z, Or.inr ⟨z4, z3⟩⟩) (fun z4 => h0 (by omega) _ hv) (hx := r1)⟩) (fun z3 => h0 (by omega) _ hv) (hx := r2)⟩) (hx := r2)⟩) (fun z => br_t rfl (h0 (by omega) _ hv)))⟩⟩
theorem xm_onDVC (hu : sx_R Z H hd tl Q B u) (hg : gv_B K D B) {m b q bs : Nat} {x : vg_R} (hm : m < tl) (hQ : Q m = (6, b, q, bs, x)) (hD : D b = false) (hk : ∀ c, c < 5 → (K c).2.2.1 ≤ 999 ∧ (K c).2.2.2.2.1 ≤ 32 ∧ (K c).2.2.2.2.2.1 ≤ 32)
    (hKH : x.2.2.1 = (K b).2.2.1 ∧ x.2.2.2.2.1 = (K b).2.2.2.2.1 ∧ x.2.2.2.2.2.1 = (K b).2.2.2.2.2.1)
    (h1 : (H q).1 = 1 ∧ (H q).2.1 = x.2.1 → ∀ u' B', gv_B K (fs_set D b true) B' → sx_R Z H hd tl Q B' u' → post u')
    (h0 : ¬ ((H q).1 = 1 ∧ (H q).2.1 = x.2.1) → ∀ u', sx_R Z H hd tl Q B u' → post u') : wpX_onDoViewChange post u (nI m) := by
  refine sx_el (P := fun u => wpX_onDoViewChange post u (nI m)) ?_ hu
  intro f_PREPARE f_PREPARE_OK f_GET_STATE f_NEW_STATE f_START_VIEW_CHANGE f_DO_VIEW_CHANGE f_GET_LOG f_NEW_LOG f_START_VIEW f_clients f_capacity f_letters f_restarts f_mailHead f_mailTail f_acks f_votes f_bestVoter f_bestLast f_bestLength f_bestCommit a_status a_view a_last a_nonce a_cell a_length a_commit a_logClient a_logNumber a_logOp a_registers a_tableNumber a_tableResult a_mailKind a_mailFrom a_mailTo a_mailView a_mailLast a_mailCommit a_mailLength a_mailBase a_mailCount a_mailClient a_mailNumber a_mailOp a_voted a_voteCommit a_slotState a_slotFrom a_slotTo a_slotNonce a_slotView a_slotLeader a_slotLength a_slotCommit a_slotClient a_slotNumber a_slotOp hZ hR hM hB
  obtain ⟨⟨e1, e2, e3, e4, e5, e6, e7, e8⟩, im, b1, b2, b3, b4⟩ := rm_msg hM hm hQ
  have hv := sx_mk hZ hR hM hB (f_PREPARE := f_PREPARE) (f_PREPARE_OK := f_PREPARE_OK) (f_GET_STATE := f_GET_STATE) (f_NEW_STATE := f_NEW_STATE) (f_START_VIEW_CHANGE := f_START_VIEW_CHANGE) (f_DO_VIEW_CHANGE := f_DO_VIEW_CHANGE) (f_GET_LOG := f_GET_LOG) (f_NEW_LOG := f_NEW_LOG) (f_START_VIEW := f_START_VIEW)
  obtain ⟨ok, ⟨s1, s2, s3, s4, s5, s6⟩, l, r⟩ := hR q b3
  have ok1 := ok.1
  have pk1 := b4.1
  have r1 := ix_rd (by omega : q < 2000) s1
  have r2 := ix_rd (by omega : q < 2000) s2
  have i5 := ix_5 b3
  refine ⟨im, nm_r e3 ⟨i5, pk_eq (H q).1 1 (fun z => ⟨i5, im, pk_eq (H q).2.1 x.2.1 (fun z2 => ⟨im, im, im, im, ?_⟩) (fun z2 => h0 (fun y => z2 y.2) _ hv) (hx := r2) (hy := e4)⟩) (fun z => h0 (fun y => z y.1) _ hv) (hx := r1)⟩⟩
  rw [e2, e5, e6, e7, hKH.1, hKH.2.1, hKH.2.2]
  exact xm_count hv hg b2 hD hk (fun u' B' g' hu' => h1 ⟨z, z2⟩ u' B' g' hu')
end
end
section
/-! X: GATHER by phases: 1 asked, 2 its vote is under way, 3 its vote is through -/
def ga_H (H0 : Nat → vg_R) (w : Nat) (ph : Nat → Nat) : Nat → vg_R := fun b => if 2 ≤ ph b then ga_mv (H0 b) w else H0 b
def ga_msg (H0 : Nat → vg_R) (r w k b : Nat) : vg_M := if k = 1 then (5, r, b, (H0 r).2.2.2.2.1, H0 r) else (6, b, w % 5, (H0 b).2.2.2.2.1, ga_mv (H0 b) w)
def ga_rem (k : Nat) : Nat := if k = 1 then 1 else 0
def ga_D (qm : Bool) (ph : Nat → Nat) : Nat → Bool := fun b => qm && decide (ph b = 3)
theorem ga_inj (H0 : Nat → vg_R) (r w : Nat) : qk_inj 2 (ga_msg H0 r w) := by
  intro k b k' b' h1 h2 h1' h2' h
  have a1 : ∀ k b, 1 ≤ k → k ≤ 2 → (ga_msg H0 r w k b).1 = k + 4 := by
    intro k b h1 h2
    unfold ga_msg
    by_cases e : k = 1
    · rw [if_pos e, e]
    · rw [if_neg e, show k = 2 by omega]
  have e : k = k' := by
    have := a1 k b h1 h2
    have := a1 k' b' h1' h2'
    rw [h] at *
    omega
  subst e
  unfold ga_msg at h
  by_cases e : k = 1
  · rw [if_pos e, if_pos e] at h
    exact congrArg (fun g : vg_M => g.2.2.1) h
  · rw [if_neg e, if_neg e] at h
    exact congrArg (fun g : vg_M => g.2.1) h
def ga_I (ce : Nat → Nat) (H0 : Nat → vg_R) (r w s nb hd tl : Nat) (Q : Nat → vg_M) (ph pos : Nat → Nat) : Prop :=
  qk_I 2 (ga_msg H0 r w) hd tl Q ph pos ∧ (∀ b, ph b ≤ 3 ∧ (5 ≤ b → ph b = 0)) ∧
  (∀ b, b ≠ r → (b < nb → ph b = 0 → vg_mem H0 ce r w b = false) ∧ (1 ≤ ph b → vg_tch H0 ce r b = true) ∧ (2 ≤ ph b → vg_mem H0 ce r w b = true)) ∧
  (∀ b, ph b = 2 → vg_tch H0 ce b (w % 5) = true) ∧ (∀ b, ph b = 1 → pos b < s) ∧ (∀ b, ph b = 2 → s ≤ pos b) ∧
  tl + sm_5 (fun b => ga_rem (ph b)) ≤ 11 ∧ s ≤ tl
theorem ga_act {ce : Nat → Nat} {H0 : Nat → vg_R} {r w b : Nat} (h : vg_mem H0 ce r w b = true) (hr : (H0 r).1 = 1) : (H0 b).1 ≤ 1 := by
  rcases vg_mem_iff.mp h with e | ⟨_, e, _⟩
  · rw [e]; omega
  · exact e
theorem ga_tch {ce : Nat → Nat} {H0 : Nat → vg_R} {w : Nat} {ph : Nat → Nat} (h : ∀ b, 2 ≤ ph b → (H0 b).1 ≤ 1) (a c : Nat) : vg_tch (ga_H H0 w ph) ce a c = vg_tch H0 ce a c := by
  have e : ∀ b, ((ga_H H0 w ph b).1 ≠ 3) = ((H0 b).1 ≠ 3) := by
    intro b
    unfold ga_H
    by_cases z : 2 ≤ ph b
    · have := h b z
      rw [if_pos z]
      have z1 : (ga_mv (H0 b) w).1 ≠ 3 := (by decide : (1 : Nat) ≠ 3)
      have z2 : (H0 b).1 ≠ 3 := by omega
      exact propext ⟨fun _ => z2, fun _ => z1⟩
    · rw [if_neg z]
  unfold vg_tch
  simp only [e]
theorem ga_H_s {H0 : Nat → vg_R} {w b k : Nat} {ph : Nat → Nat} (h : 2 ≤ k) : ga_H H0 w (fs_set ph b k) = fs_set (ga_H H0 w ph) b (ga_mv (H0 b) w) := by
  funext c
  unfold ga_H
  by_cases e : c = b
  · subst e
    rw [fs_eq, fs_eq, if_pos h]
  · rw [fs_ne e, fs_ne e]
theorem ga_H_k {H0 : Nat → vg_R} {w b k : Nat} {ph : Nat → Nat} (h : 2 ≤ k ↔ 2 ≤ ph b) : ga_H H0 w (fs_set ph b k) = ga_H H0 w ph := by
  funext c
  unfold ga_H
  by_cases e : c = b
  · subst e
    rw [fs_eq]
    by_cases z : 2 ≤ k
    · rw [if_pos z, if_pos (h.mp z)]
    · rw [if_neg z, if_neg (fun q => z (h.mpr q))]
  · rw [fs_ne e]
theorem ga_D_3 {ph : Nat → Nat} {b : Nat} : ga_D true (fs_set ph b 3) = fs_set (ga_D true ph) b true := by
  funext c
  unfold ga_D
  by_cases e : c = b
  · subst e
    rw [fs_eq, fs_eq]
    rfl
  · rw [fs_ne e, fs_ne e]
theorem ga_D_k {qm : Bool} {ph : Nat → Nat} {b k : Nat} (h : ph b ≠ 3) (hk : k ≠ 3) : ga_D qm (fs_set ph b k) = ga_D qm ph := by
  funext c
  unfold ga_D
  by_cases e : c = b
  · subst e
    rw [fs_eq, decide_eq_false h, decide_eq_false hk]
  · rw [fs_ne e]
theorem ga_D_f {ph ph' : Nat → Nat} : ga_D false ph = ga_D false ph' := rfl
/-- what a changed phase of b asks -/
theorem ga_upd {ce : Nat → Nat} {H0 : Nat → vg_R} {r w s nb hd tl hd' tl' : Nat} {Q Q' : Nat → vg_M} {ph pos pos' : Nat → Nat} (h : ga_I ce H0 r w s nb hd tl Q ph pos) {b k : Nat} (hb : b < 5) (hk : k ≤ 3)
    (hq : qk_I 2 (ga_msg H0 r w) hd' tl' Q' (fs_set ph b k) pos') (hpos : ∀ c, c ≠ b → pos' c = pos c)
    (h1 : b ≠ r → (k = 0 → vg_mem H0 ce r w b = false) ∧ (1 ≤ k → vg_tch H0 ce r b = true) ∧ (2 ≤ k → vg_mem H0 ce r w b = true))
    (h2 : k = 2 → vg_tch H0 ce b (w % 5) = true ∧ s ≤ pos' b) (h3 : k ≠ 1) (h4 : tl' + ga_rem k + (tl + sm_5 (fun b => ga_rem (ph b))) ≤ tl + ga_rem (ph b) + 11) (h5 : tl ≤ tl') :
    ga_I ce H0 r w s nb hd' tl' Q' (fs_set ph b k) pos' := by
  obtain ⟨i1, i2, i3, i4, i5, i6, i7⟩ := h
  refine ⟨hq, fun c => ?_, fun c hc => ?_, fun c => ?_, fun c => ?_, fun c => ?_, ?_⟩
  · by_cases e : c = b
    · rw [e, fs_eq]; exact ⟨hk, fun z => absurd z (by omega)⟩
    · rw [fs_ne e]; exact i2 c
  · by_cases e : c = b
    · subst e
      rw [fs_eq]
      exact ⟨fun _ => (h1 hc).1, (h1 hc).2⟩
    · rw [fs_ne e]
      exact i3 c hc
  · by_cases e : c = b
    · subst e
      rw [fs_eq]
      exact fun z => (h2 z).1
    · rw [fs_ne e]
      exact i4 c
  · by_cases e : c = b
    · subst e
      rw [fs_eq]
      exact fun z => absurd z h3
    · rw [fs_ne e, hpos c e]
      exact i5 c
  · by_cases e : c = b
    · subst e
      rw [fs_eq]
      exact fun z => (h2 z).2
    · rw [fs_ne e, hpos c e]
      exact i6 c
  · have := sm_upd (g := ga_rem) (ph := ph) (k := k) b hb
    omega
theorem gv_cong {K : Nat → vg_R} {D D' : Nat → Bool} {B : vg_B} (h : gv_B K D B) (e : ∀ b, b < 5 → D b = D' b) : gv_B K D' B := by
  obtain ⟨g1, g2, g3, ⟨c, g4, g5, g6, g7⟩, g8⟩ := h
  refine ⟨?_, fun b hb => ?_, fun b hb => ?_, ⟨c, g4, g5, fun b hb => ?_, ?_⟩, ?_⟩
  · rw [g1]
    unfold cn_5
    rw [e 0 (by decide), e 1 (by decide), e 2 (by decide), e 3 (by decide), e 4 (by decide)]
  · rw [← e b hb]; exact g2 b hb
  · rw [← e b hb]; exact g3 b hb
  · rw [← e b hb]; exact g6 b hb
  · rcases g7 with h | ⟨b, h1, h2, h3⟩
    · exact Or.inl h
    · exact Or.inr ⟨b, h1, by rw [← e b h1]; exact h2, h3⟩
  · rcases g8 with ⟨h1, h2⟩ | ⟨k, h1, h2, h3, h4, h5, h6⟩
    · exact Or.inl ⟨fun b hb => by rw [← e b hb]; exact h1 b hb, h2⟩
    · exact Or.inr ⟨k, h1, by rw [← e k h1]; exact h2, h3, h4, h5, fun b hb => by rw [← e b hb]; exact h6 b hb⟩
section
variable {Z : vg_Z} {H0 : Nat → vg_R} {post : SX → Prop} {r w s : Nat}
theorem ga_exch (hr5 : r < 5) (hr : (H0 r).1 = 1 ∧ (H0 r).2.1 = w) (hw : w ≤ 999) (hk : ∀ c, c < 5 → (H0 c).2.2.1 ≤ 999 ∧ (H0 c).2.2.2.2.1 ≤ 32 ∧ (H0 c).2.2.2.2.2.1 ≤ 32)
    (hp : ∀ u' Q' B', gv_B H0 (fun b => vg_mem H0 Z.2.2.2.2.1 r w (w % 5) && vg_mem H0 Z.2.2.2.2.1 r w b) B' → sx_R Z (fun b => if vg_mem H0 Z.2.2.2.2.1 r w b = true then ga_mv (H0 b) w else H0 b) 0 0 Q' B' u' → post u') :
    ∀ (n hd tl : Nat) (Q : Nat → vg_M) (ph pos : Nat → Nat) (B : vg_B) (u : SX), 11 < n + hd → ga_I Z.2.2.2.2.1 H0 r w s 5 hd tl Q ph pos → 2 ≤ ph r → hd ≤ tl → gv_B H0 (ga_D (vg_mem H0 Z.2.2.2.2.1 r w (w % 5)) ph) B →
    sx_R Z (ga_H H0 w ph) hd tl Q B u → xe_ex post n (nI hd) u := by
  intro n
  have mvr : ga_mv (H0 r) w = H0 r := by
    unfold ga_mv
    rw [← hr.1, ← hr.2]
  induction n with
  | zero =>
    intro hd tl Q ph pos B u hn hI hpr hd2 hg hu
    have := hI.2.2.2.2.2.2
    omega
  | succ n ih =>
    intro hd tl Q ph pos B u hn hI hpr hd2 hg hu
    have hI' := hI
    obtain ⟨i1, i2, i3, i4, i5, i6, i7⟩ := hI'
    have mm : ∀ b, 2 ≤ ph b → vg_mem H0 Z.2.2.2.2.1 r w b = true := by
      intro b z
      by_cases e : b = r
      · exact vg_mem_iff.mpr (Or.inl e)
      · exact (i3 b e).2.2 z
    have tcs := ga_tch (ce := Z.2.2.2.2.1) (w := w) (ph := ph) (fun b z => ga_act (mm b z) hr.1)
    by_cases hlt : hd < tl
    · obtain ⟨b, k1, k2, k3⟩ := i1.2 hd (Nat.le_refl _) hlt
      have hb : b < 5 := by
        by_cases z : b < 5
        · exact z
        · have := (i2 b).2 (by omega)
          omega
      obtain ⟨_, _, q3⟩ := i1.1 b k1 k2
      rw [k3] at q3
      have htl : tl < 32 := by omega
      refine xe_step hu hlt (fun post' hpost u' hu' => ?_)
      by_cases kk : ph b = 1
      · -- it is asked
        have br : b ≠ r := by
          intro e
          rw [e] at kk
          omega
        have hHb : ga_H H0 w ph b = H0 b := by
          unfold ga_H
          rw [if_neg (by omega)]
        obtain ⟨_, j2, j3⟩ := i3 b br
        have tc := j2 k1
        have hmem : (H0 b).1 ≤ 1 ∧ ((H0 b).2.1 < (H0 r).2.1 ∨ ((H0 b).1 = 1 ∧ (H0 b).2.1 = (H0 r).2.1)) ↔ vg_mem H0 Z.2.2.2.2.1 r w b = true := by
          rw [vg_mem_iff, hr.2]
          constructor
          · exact fun z => Or.inr ⟨vg_tch_iff.mp tc, z⟩
          · rintro (z | z)
            · exact absurd z br
            · exact z.2
        rw [kk] at q3
        refine xh_5 hu' hlt q3 ?_
        have hDb : ga_D (vg_mem H0 Z.2.2.2.2.1 r w (w % 5)) ph b = false := by
          unfold ga_D
          rw [decide_eq_false (by omega), Bool.and_false]
        refine xm_onSVC (K := H0) hu' hg hlt q3 hDb hk htl (by rw [hHb]; exact ⟨rfl, rfl, rfl⟩) ?_ ?_ ?_ ?_
        · rw [hHb, hmem]
          intro z u1 hu1
          have e0 : vg_mem H0 Z.2.2.2.2.1 r w b = false := by
            cases hc : vg_mem H0 Z.2.2.2.2.1 r w b
            · rfl
            · exact absurd hc z
          refine hpost _ (ih (hd + 1) tl Q (fs_set ph b 0) pos B u1 (by omega) (ga_upd hI hb (by omega) (qk_done (ga_inj H0 r w) i1 k1 k2 k3 (Or.inl rfl)) (fun c hc => rfl) (fun _ => ⟨fun _ => e0, fun z => absurd z (by omega), fun z => absurd z (by omega)⟩) (fun z => absurd z (by decide)) (by decide) (by rw [kk]; show tl + 0 + (tl + sm_5 (fun b => ga_rem (ph b))) ≤ tl + 1 + 11; omega) (by omega)) (by rw [fs_ne br.symm]; exact hpr) hlt ?_ ?_)
          · rw [ga_D_k (by omega) (by decide)]
            exact hg
          · rw [ga_H_k (by omega)]
            exact hu1
        · rw [hHb, hmem, hr.2]
          intro z zq u1 B1 hg1 hu1
          have qm : vg_mem H0 Z.2.2.2.2.1 r w (w % 5) = true := by rw [zq]; exact z
          rw [qm] at hg1 ih
          refine hpost _ (ih (hd + 1) tl Q (fs_set ph b 3) pos B1 u1 (by omega) (ga_upd hI hb (by omega) (qk_done (ga_inj H0 r w) i1 k1 k2 k3 (Or.inr (by decide))) (fun c hc => rfl) (fun _ => ⟨fun z => absurd z (by decide), fun _ => tc, fun _ => z⟩) (fun z => absurd z (by decide)) (by decide) (by rw [kk]; show tl + 0 + (tl + sm_5 (fun b => ga_rem (ph b))) ≤ tl + 1 + 11; omega) (by omega)) (by rw [fs_ne br.symm]; exact hpr) hlt ?_ ?_)
          · rw [ga_D_3]
            exact hg1
          · rw [ga_H_s (by decide)]
            exact hu1
        · rw [hHb, hmem, hr.2]
          intro z zq zt u1 hu1
          rw [← ga_H_s (k := 2) (by decide), ga_tch (fun c hc => ?_)] at zt
          · refine hpost _ (ih (hd + 1) (tl + 1) _ (fs_set ph b 2) (fs_set pos b tl) B u1 (by omega) (ga_upd hI hb (by omega) (qk_next (ga_inj H0 r w) i1 k1 k2 k3 (by decide) (by decide)) (fun c hc => fs_ne hc) (fun _ => ⟨fun z => absurd z (by decide), fun _ => tc, fun _ => z⟩) (fun _ => ⟨zt, ?_⟩) (by decide) (by rw [kk]; show tl + 1 + 0 + (tl + sm_5 (fun b => ga_rem (ph b))) ≤ tl + 1 + 11; omega) (by omega)) (by rw [fs_ne br.symm]; exact hpr) (by omega) ?_ ?_)
            · rw [fs_eq]
              exact i7.2
            · rw [ga_D_k (by omega) (by decide)]
              exact hg
            · rw [ga_H_s (by decide)]
              exact hu1
          · by_cases e : c = b
            · rw [e]; exact (hmem.mpr z).1
            · rw [fs_ne e] at hc
              exact ga_act (mm c hc) hr.1
        · rw [hHb, hmem, hr.2]
          intro z zq zt u1 hu1
          rw [← ga_H_s (k := 2) (by decide), ga_tch (fun c hc => ?_)] at zt
          · have qm : vg_mem H0 Z.2.2.2.2.1 r w (w % 5) = false := by
              cases hc : vg_mem H0 Z.2.2.2.2.1 r w (w % 5)
              · rfl
              · refine nt_f ?_ zt
                have t1 := vg_tch_iff.mp tc
                rcases vg_mem_iff.mp hc with e | ⟨t2, _⟩
                · rw [e]
                  exact tc_sym tc
                · exact vg_tch_iff.mpr ⟨fun y => zq y.symm, t1.2.2.1, t2.2.2.1, t1.2.2.2.symm.trans t2.2.2.2⟩
            rw [qm] at hg ih
            refine hpost _ (ih (hd + 1) tl Q (fs_set ph b 3) pos B u1 (by omega) (ga_upd hI hb (by omega) (qk_done (ga_inj H0 r w) i1 k1 k2 k3 (Or.inr (by decide))) (fun c hc => rfl) (fun _ => ⟨fun z => absurd z (by decide), fun _ => tc, fun _ => z⟩) (fun z => absurd z (by decide)) (by decide) (by rw [kk]; show tl + 0 + (tl + sm_5 (fun b => ga_rem (ph b))) ≤ tl + 1 + 11; omega) (by omega)) (by rw [fs_ne br.symm]; exact hpr) hlt hg ?_)
            rw [ga_H_s (by decide)]
            exact hu1
          · by_cases e : c = b
            · rw [e]; exact (hmem.mpr z).1
            · rw [fs_ne e] at hc
              exact ga_act (mm c hc) hr.1
      · -- its vote comes
        have k2' : ph b = 2 := by omega
        rw [k2'] at q3
        have q4 : Q hd = (6, b, w % 5, (H0 b).2.2.2.2.1, ga_mv (H0 b) w) := q3
        refine xh_6 hu' hlt q4 ?_
        have hDb : ga_D (vg_mem H0 Z.2.2.2.2.1 r w (w % 5)) ph b = false := by
          unfold ga_D
          rw [decide_eq_false (by omega), Bool.and_false]
        have no1 : ∀ c, ph c ≠ 1 := by
          intro c z
          have a1 := i1.1 c (by omega) (by omega)
          have a2 := i5 c z
          have a3 := i6 b k2'
          omega
        have tbq := i4 b k2'
        have tb := vg_tch_iff.mp tbq
        have sub : ∀ u1 B1, gv_B H0 (ga_D (vg_mem H0 Z.2.2.2.2.1 r w (w % 5)) (fs_set ph b 3)) B1 → sx_R Z (ga_H H0 w ph) (hd + 1) tl Q B1 u1 → post' u1 := by
          intro u1 B1 hg1 hu1
          refine hpost _ (ih (hd + 1) tl Q (fs_set ph b 3) pos B1 u1 (by omega) (ga_upd hI hb (by omega) (qk_done (ga_inj H0 r w) i1 k1 k2 k3 (Or.inr (by decide))) (fun c hc => rfl) (fun br => ⟨fun z => absurd z (by decide), fun _ => (i3 b br).2.1 k1, fun _ => (i3 b br).2.2 (by omega)⟩) (fun z => absurd z (by decide)) (by decide) (by rw [k2']; show tl + 0 + (tl + sm_5 (fun b => ga_rem (ph b))) ≤ tl + 0 + 11; omega) (by omega)) ?_ hlt hg1 ?_)
          · by_cases e : r = b
            · rw [e, fs_eq]; omega
            · rw [fs_ne e]; exact hpr
          · rw [ga_H_k (by omega)]
            exact hu1
        refine xm_onDVC (K := H0) hu' hg hlt q4 hDb hk ⟨rfl, rfl, rfl⟩ ?_ ?_
        · intro z u1 B1 hg1 hu1
          have qm : vg_mem H0 Z.2.2.2.2.1 r w (w % 5) = true := by
            by_cases e : 2 ≤ ph (w % 5)
            · exact mm _ e
            · have e0 : ga_H H0 w ph (w % 5) = H0 (w % 5) := by
                unfold ga_H
                rw [if_neg e]
              rw [e0] at z
              by_cases er : w % 5 = r
              · exact vg_mem_iff.mpr (Or.inl er)
              · refine vg_mem_iff.mpr (Or.inr ⟨⟨fun y => er y.symm, by omega, tb.2.2.1, ?_⟩, by omega, Or.inr z⟩)
                by_cases ebr : b = r
                · rw [← ebr]; exact tb.2.2.2
                · have := vg_tch_iff.mp ((i3 b ebr).2.1 k1)
                  exact this.2.2.2.trans tb.2.2.2
          refine sub u1 B1 ?_ hu1
          rw [qm] at hg1 ⊢
          rw [ga_D_3]
          exact hg1
        · intro z u1 hu1
          have qm : vg_mem H0 Z.2.2.2.2.1 r w (w % 5) = false := by
            cases hc : vg_mem H0 Z.2.2.2.2.1 r w (w % 5)
            · rfl
            · refine absurd ?_ z
              by_cases e : 2 ≤ ph (w % 5)
              · have e0 : ga_H H0 w ph (w % 5) = ga_mv (H0 (w % 5)) w := by
                  unfold ga_H
                  rw [if_pos e]
                rw [e0]
                exact ⟨rfl, rfl⟩
              · by_cases er : w % 5 = r
                · rw [er] at e
                  exact absurd hpr e
                · have := (i3 (w % 5) er).1 (by omega) (by have := no1 (w % 5); omega)
                  exact nt_f hc this
          refine sub u1 B ?_ hu1
          rw [qm] at hg ⊢
          exact hg
    · have e : hd = tl := by omega
      subst e
      have fin : ∀ b, b < 5 → (ph b = 3 ∧ vg_mem H0 Z.2.2.2.2.1 r w b = true) ∨ (ph b = 0 ∧ vg_mem H0 Z.2.2.2.2.1 r w b = false) := by
        intro b hb
        by_cases z0 : ph b = 0
        · by_cases e : b = r
          · rw [e] at z0; omega
          · exact Or.inr ⟨z0, (i3 b e).1 hb z0⟩
        · by_cases z3 : ph b = 3
          · exact Or.inl ⟨z3, mm b (by omega)⟩
          · have := (i2 b).1
            have := i1.1 b (by omega) (by omega)
            omega
      refine xe_end hu (fun u' hu' => hp u' Q B ?_ (sx_cong hu' (fun b hb => ?_)))
      · refine gv_cong hg (fun b hb => ?_)
        unfold ga_D
        rcases fin b hb with ⟨a, c⟩ | ⟨a, c⟩
        · rw [a, c]; rfl
        · rw [a, c]; rfl
      · unfold ga_H
        rcases fin b hb with ⟨a, c⟩ | ⟨a, c⟩
        · rw [if_pos (by omega), if_pos c]
        · rw [if_neg (by omega), if_neg (fun y => nt_f y c)]
end
end
section
/-! X: the start of a view -/
section
variable {Z : vg_Z} {H : Nat → vg_R} {hd tl : Nat} {Q : Nat → vg_M} {B : vg_B} {u : SX} {post : SX → Prop}
theorem xm_onGetLog (hu : sx_R Z H hd tl Q B u) {m q k bs : Nat} {x : vg_R} (hm : m < tl) (hQ : Q m = (7, q, k, bs, x)) (htl : tl < 32) (htc : vg_tch H Z.2.2.2.2.1 k q = true)
    (h1 : (H k).1 = 1) (h2 : (H k).2.1 = x.2.1)
    (hp : ∀ u', sx_R Z H hd (tl + 1) (fs_set Q tl (8, k, q, min x.2.2.2.2.2.1 (H k).2.2.2.2.1, H k)) B u' → post u') : wpX_onGetLog post u (nI m) := by
  refine sx_el (P := fun u => wpX_onGetLog post u (nI m)) ?_ hu
  intro f_PREPARE f_PREPARE_OK f_GET_STATE f_NEW_STATE f_START_VIEW_CHANGE f_DO_VIEW_CHANGE f_GET_LOG f_NEW_LOG f_START_VIEW f_clients f_capacity f_letters f_restarts f_mailHead f_mailTail f_acks f_votes f_bestVoter f_bestLast f_bestLength f_bestCommit a_status a_view a_last a_nonce a_cell a_length a_commit a_logClient a_logNumber a_logOp a_registers a_tableNumber a_tableResult a_mailKind a_mailFrom a_mailTo a_mailView a_mailLast a_mailCommit a_mailLength a_mailBase a_mailCount a_mailClient a_mailNumber a_mailOp a_voted a_voteCommit a_slotState a_slotFrom a_slotTo a_slotNonce a_slotView a_slotLeader a_slotLength a_slotCommit a_slotClient a_slotNumber a_slotOp hZ hR hM hB'
  obtain ⟨⟨e1, e2, e3, e4, e5, e6, e7, e8⟩, im, b1, b2, b3, b4⟩ := rm_msg hM hm hQ
  obtain ⟨ok, ⟨s1, s2, s3, s4, s5, s6⟩, l, r⟩ := hR k b3
  have ok1 := ok.1
  have pk1 := b4.1
  have r1 := ix_rd (by omega : k < 2000) s1
  have r2 := ix_rd (by omega : k < 2000) s2
  have i5 := ix_5 b3
  refine ⟨im, nm_r e3 ⟨i5, br_t (by rw [r1, h1]; rfl) ⟨i5, im, br_t (by rw [r2, e4, h2]) ⟨im, im, ?_⟩⟩⟩⟩
  rw [e2, e6]
  exact xm_postLog (k := 8) (sx_mk hZ hR hM hB') b3 b2 htl (by omega) (fun _ u' hu' => hp u' hu') (fun z => nt_f htc z)
theorem xm_onNewLog (hu : sx_R Z H hd tl Q B u) {m k q bs : Nat} {P : vg_R} (hm : m < tl) (hQ : Q m = (8, k, q, bs, P))
    (h1 : (H q).1 = 1) (h2 : (H q).2.1 = P.2.1) (h3 : bs ≤ (H q).2.2.2.2.1) (h4 : (H q).2.2.2.2.2.1 ≤ P.2.2.2.2.1) (ha : ∀ i, (i < bs ∨ i < (H q).2.2.2.2.2.1) → (H q).2.2.2.2.2.2 i = P.2.2.2.2.2.2 i)
    (hp : ∀ u', sx_R Z (fs_set H q ((H q).1, (H q).2.1, (H q).2.2.1, (H q).2.2.2.1, P.2.2.2.2.1, (H q).2.2.2.2.2.1, P.2.2.2.2.2.2)) hd tl Q B u' → post u') : wpX_onNewLog post u (nI m) := by
  refine sx_el (P := fun u => wpX_onNewLog post u (nI m)) ?_ hu
  intro f_PREPARE f_PREPARE_OK f_GET_STATE f_NEW_STATE f_START_VIEW_CHANGE f_DO_VIEW_CHANGE f_GET_LOG f_NEW_LOG f_START_VIEW f_clients f_capacity f_letters f_restarts f_mailHead f_mailTail f_acks f_votes f_bestVoter f_bestLast f_bestLength f_bestCommit a_status a_view a_last a_nonce a_cell a_length a_commit a_logClient a_logNumber a_logOp a_registers a_tableNumber a_tableResult a_mailKind a_mailFrom a_mailTo a_mailView a_mailLast a_mailCommit a_mailLength a_mailBase a_mailCount a_mailClient a_mailNumber a_mailOp a_voted a_voteCommit a_slotState a_slotFrom a_slotTo a_slotNonce a_slotView a_slotLeader a_slotLength a_slotCommit a_slotClient a_slotNumber a_slotOp hZ hR hM hB'
  obtain ⟨⟨e1, e2, e3, e4, e5, e6, e7, e8⟩, im, b1, b2, b3, b4⟩ := rm_msg hM hm hQ
  obtain ⟨ok, ⟨s1, s2, s3, s4, s5, s6⟩, l, r⟩ := hR q b3
  have r1 := ix_rd (by omega : q < 2000) s1
  have r2 := ix_rd (by omega : q < 2000) s2
  have i5 := ix_5 b3
  refine ⟨im, nm_r e3 ⟨i5, br_t (by rw [r1, h1]; rfl) ⟨i5, im, br_t (by rw [r2, e4, h2]) ?_⟩⟩⟩
  exact xm_install (sx_mk hZ hR hM hB') hm hQ h3 h4 ha (fun u1 hu1 => hp u1 hu1)
theorem xm_onStartView (hu : sx_R Z H hd tl Q B u) {m q b bs : Nat} {P : vg_R} (hm : m < tl) (hQ : Q m = (9, q, b, bs, P))
    (h1 : (H b).1 = 1) (h2 : (H b).2.1 = P.2.1) (h3 : bs ≤ (H b).2.2.2.2.1) (h4 : (H b).2.2.2.2.2.1 ≤ P.2.2.2.2.1) (ha : ∀ i, (i < bs ∨ i < (H b).2.2.2.2.2.1) → (H b).2.2.2.2.2.2 i = P.2.2.2.2.2.2 i)
    (hp : ∀ u', sx_R Z (fs_set H b (0, P.2.1, P.2.1, (H b).2.2.2.1, P.2.2.2.2.1, max (H b).2.2.2.2.2.1 P.2.2.2.2.2.1, P.2.2.2.2.2.2)) hd tl Q B u' → post u') : wpX_onStartView post u (nI m) := by
  refine sx_el (P := fun u => wpX_onStartView post u (nI m)) ?_ hu
  intro f_PREPARE f_PREPARE_OK f_GET_STATE f_NEW_STATE f_START_VIEW_CHANGE f_DO_VIEW_CHANGE f_GET_LOG f_NEW_LOG f_START_VIEW f_clients f_capacity f_letters f_restarts f_mailHead f_mailTail f_acks f_votes f_bestVoter f_bestLast f_bestLength f_bestCommit a_status a_view a_last a_nonce a_cell a_length a_commit a_logClient a_logNumber a_logOp a_registers a_tableNumber a_tableResult a_mailKind a_mailFrom a_mailTo a_mailView a_mailLast a_mailCommit a_mailLength a_mailBase a_mailCount a_mailClient a_mailNumber a_mailOp a_voted a_voteCommit a_slotState a_slotFrom a_slotTo a_slotNonce a_slotView a_slotLeader a_slotLength a_slotCommit a_slotClient a_slotNumber a_slotOp hZ hR hM hB'
  obtain ⟨⟨e1, e2, e3, e4, e5, e6, e7, e8⟩, im, b1, b2, b3, b4⟩ := rm_msg hM hm hQ
  obtain ⟨ok, ⟨s1, s2, s3, s4, s5, s6⟩, l, r⟩ := hR b b3
  have pk1 := b4.1
  have r1 := ix_rd (by omega : b < 2000) s1
  have r2 := ix_rd (by omega : b < 2000) s2
  have i5 := ix_5 b3
  refine ⟨im, nm_r e3 ⟨i5, br_t (by rw [r1, h1]; rfl) ⟨i5, im, br_t (by rw [r2, e4, h2]) ?_⟩⟩⟩
  refine xm_install (sx_mk hZ hR hM hB') hm hQ h3 h4 ha (fun u1 hu1 => ?_)
  clear hZ hR hM hB' e1 e2 e3 e4 e5 e6 e7 e8 s1 s2 s3 s4 s5 s6 l r r1 r2
  obtain ⟨f_PREPARE, f_PREPARE_OK, f_GET_STATE, f_NEW_STATE, f_START_VIEW_CHANGE, f_DO_VIEW_CHANGE, f_GET_LOG, f_NEW_LOG, f_START_VIEW, f_clients, f_capacity, f_letters, f_restarts, f_mailHead, f_mailTail, f_acks, f_votes, f_bestVoter, f_bestLast, f_bestLength, f_bestCommit, a_status, a_view, a_last, a_nonce, a_cell, a_length, a_commit, a_logClient, a_logNumber, a_logOp, a_registers, a_tableNumber, a_tableResult, a_mailKind, a_mailFrom, a_mailTo, a_mailView, a_mailLast, a_mailCommit, a_mailLength, a_mailBase, a_mailCount, a_mailClient, a_mailNumber, a_mailOp, a_voted, a_voteCommit, a_slotState, a_slotFrom, a_slotTo, a_slotNonce, a_slotView, a_slotLeader, a_slotLength, a_slotCommit, a_slotClient, a_slotNumber, a_slotOp⟩ := u1
  obtain ⟨hZ, hR, hM, hB'⟩ := hu1
  obtain ⟨⟨e1, e2, e3, e4, e5, e6, e7, e8⟩, _⟩ := rm_msg hM hm hQ
  refine ⟨im, ?_⟩
  rw [e4]
  refine xm_enter (sx_mk hZ hR hM hB') b3 (by omega) (fun u2 hu2 => ?_)
  simp only [fs_eq, fs_fs] at hu2
  clear hZ hR hM hB' e1 e2 e3 e4 e5 e6 e7 e8
  obtain ⟨f_PREPARE, f_PREPARE_OK, f_GET_STATE, f_NEW_STATE, f_START_VIEW_CHANGE, f_DO_VIEW_CHANGE, f_GET_LOG, f_NEW_LOG, f_START_VIEW, f_clients, f_capacity, f_letters, f_restarts, f_mailHead, f_mailTail, f_acks, f_votes, f_bestVoter, f_bestLast, f_bestLength, f_bestCommit, a_status, a_view, a_last, a_nonce, a_cell, a_length, a_commit, a_logClient, a_logNumber, a_logOp, a_registers, a_tableNumber, a_tableResult, a_mailKind, a_mailFrom, a_mailTo, a_mailView, a_mailLast, a_mailCommit, a_mailLength, a_mailBase, a_mailCount, a_mailClient, a_mailNumber, a_mailOp, a_voted, a_voteCommit, a_slotState, a_slotFrom, a_slotTo, a_slotNonce, a_slotView, a_slotLeader, a_slotLength, a_slotCommit, a_slotClient, a_slotNumber, a_slotOp⟩ := u2
  obtain ⟨hZ, hR, hM, hB'⟩ := hu2
  obtain ⟨⟨e1, e2, e3, e4, e5, e6, e7, e8⟩, _⟩ := rm_msg hM hm hQ
  refine ⟨im, ?_⟩
  rw [e6]
  refine xm_adv (sx_mk hZ hR hM hB') b3 (by rw [fs_eq]; exact pk1.2.2.2.2.2) (fun u3 hu3 => ?_)
  simp only [fs_eq, fs_fs] at hu3
  exact hp u3 hu3
end
/-! the phases of a start: 1 its message waits, 2 it is in the view -/
def sv_q (K : Nat → vg_R) (w q k c : Nat) : vg_R := (0, w, w, (K q).2.2.2.1, (K k).2.2.2.2.1, c, (K k).2.2.2.2.2.2)
def sv_msg (K : Nat → vg_R) (w q k c : Nat) (_ b : Nat) : vg_M := (9, q, b, min (K b).2.2.2.2.2.1 (K k).2.2.2.2.1, sv_q K w q k c)
def sv_H (K H1 : Nat → vg_R) (w q k c : Nat) (ph : Nat → Nat) : Nat → vg_R := fun b => if b = q then sv_q K w q k c else if ph b = 2 then (0, w, w, (K b).2.2.2.1, (K k).2.2.2.2.1, c, (K k).2.2.2.2.2.2) else H1 b
theorem sv_inj (K : Nat → vg_R) (w q k c : Nat) : qk_inj 1 (sv_msg K w q k c) := by
  intro _ b _ b' _ _ _ _ h
  exact congrArg (fun g : vg_M => g.2.2.1) h
/-- what holds of the members' rows -/
def sv_ok (K : Nat → vg_R) (J : Nat → Bool) (k c : Nat) : Prop := c ≤ (K k).2.2.2.2.1 ∧ ∀ b, b < 5 → J b = true → (K b).2.2.2.2.2.1 ≤ c ∧ (K b).2.2.2.2.2.1 ≤ (K b).2.2.2.2.1 ∧ ∀ i, i < (K b).2.2.2.2.2.1 → (K b).2.2.2.2.2.2 i = (K k).2.2.2.2.2.2 i
section
variable {Z : vg_Z} {K : Nat → vg_R} {J : Nat → Bool} {w q k c : Nat} {post : SX → Prop} {B : vg_B}
theorem sv_exch (hq5 : q < 5) (hs : sv_ok K J k c)
    (hp : ∀ u' Q', sx_R Z (fun b => if b = q then sv_q K w q k c else if J b = true then (0, w, w, (K b).2.2.2.1, (K k).2.2.2.2.1, c, (K k).2.2.2.2.2.2) else K b) 0 0 Q' B u' → post u') :
    ∀ (n hd tl : Nat) (Q : Nat → vg_M) (ph pos : Nat → Nat) (u : SX), tl < n + hd → qk_I 1 (sv_msg K w q k c) hd tl Q ph pos → hd ≤ tl →
    (∀ b, b < 5 → b ≠ q → (J b = true → 1 ≤ ph b ∧ ph b ≤ 2) ∧ (J b = false → ph b = 0)) → (∀ b, (b = q ∨ 5 ≤ b) → ph b = 0) →
    sx_R Z (sv_H K (fun b => if J b = true then ga_mv (K b) w else K b) w q k c ph) hd tl Q B u → xe_ex post n (nI hd) u := by
  intro n
  induction n with
  | zero =>
    intro hd tl Q ph pos u hn hI hd2 hph hph2 hu
    omega
  | succ n ih =>
    intro hd tl Q ph pos u hn hI hd2 hph hph2 hu
    by_cases hlt : hd < tl
    · obtain ⟨b, k1, k2, k3⟩ := hI.2 hd (Nat.le_refl _) hlt
      have bq : b ≠ q := by
        intro e
        have := hph2 b (Or.inl e)
        omega
      have hb : b < 5 := by
        by_cases z : b < 5
        · exact z
        · have := hph2 b (Or.inr (by omega))
          omega
      obtain ⟨_, _, q3⟩ := hI.1 b k1 k2
      rw [k3] at q3
      have ph1 : ph b = 1 := by omega
      have Jb : J b = true := by
        cases hc : J b
        · have := (hph b hb bq).2 hc
          omega
        · rfl
      have hHb : sv_H K (fun b => if J b = true then ga_mv (K b) w else K b) w q k c ph b = ga_mv (K b) w := by
        unfold sv_H
        rw [if_neg bq, if_neg (by omega)]
        exact if_pos Jb
      obtain ⟨s1, s2⟩ := hs
      obtain ⟨s3, s4, s5⟩ := s2 b hb Jb
      refine xe_step hu hlt (fun post' hpost u' hu' => ?_)
      refine xh_9 hu' hlt q3 ?_
      refine xm_onStartView hu' hlt q3 ?_ ?_ ?_ ?_ ?_ ?_
      · rw [hHb]; rfl
      · rw [hHb]; rfl
      · rw [hHb]
        show min (K b).2.2.2.2.2.1 (K k).2.2.2.2.1 ≤ (K b).2.2.2.2.1
        omega
      · rw [hHb]
        show (K b).2.2.2.2.2.1 ≤ (K k).2.2.2.2.1
        omega
      · rw [hHb]
        intro i hi
        refine s5 i ?_
        have hi2 : i < min (K b).2.2.2.2.2.1 (K k).2.2.2.2.1 ∨ i < (K b).2.2.2.2.2.1 := hi
        omega
      · rw [hHb]
        intro u1 hu1
        refine hpost _ (ih (hd + 1) tl Q (fs_set ph b 2) pos u1 (by omega) (qk_done (sv_inj K w q k c) hI k1 k2 k3 (Or.inr (by decide))) hlt ?_ ?_ ?_)
        · intro e he eq
          by_cases y : e = b
          · subst y
            rw [fs_eq]
            exact ⟨fun _ => by omega, fun z => nt_f Jb z⟩
          · rw [fs_ne y]
            exact hph e he eq
        · intro e he
          rw [fs_ne (by rcases he with z | z <;> omega)]
          exact hph2 e he
        · have e : sv_H K (fun b => if J b = true then ga_mv (K b) w else K b) w q k c (fs_set ph b 2) = fs_set (sv_H K (fun b => if J b = true then ga_mv (K b) w else K b) w q k c ph) b (0, w, w, (K b).2.2.2.1, (K k).2.2.2.2.1, c, (K k).2.2.2.2.2.2) := by
            funext e
            unfold sv_H
            by_cases y : e = b
            · subst y
              rw [fs_eq, fs_eq, if_neg bq, if_pos rfl]
            · rw [fs_ne y, fs_ne y]
          rw [e]
          have e2 : max (ga_mv (K b) w).2.2.2.2.2.1 (sv_q K w q k c).2.2.2.2.2.1 = c := by
            show max (K b).2.2.2.2.2.1 c = c
            omega
          rw [e2] at hu1
          exact hu1
    · have e : hd = tl := by omega
      subst e
      refine xe_end hu (fun u' hu' => hp u' Q (sx_cong hu' (fun b hb => ?_)))
      unfold sv_H
      by_cases y : b = q
      · rw [if_pos y, if_pos y]
      · rw [if_neg y, if_neg y]
        cases hc : J b
        · rw [if_neg (by have := (hph b hb y).2 hc; omega), if_neg Bool.false_ne_true]
          show (if J b = true then ga_mv (K b) w else K b) = K b
          rw [hc]
          rfl
        · have z := (hph b hb y).1 hc
          have z2 : ph b = 2 := by
            by_cases z1 : ph b = 1
            · have := hI.1 b (by omega) (by omega)
              omega
            · omega
          rw [if_pos z2, if_pos rfl]
end
def xv_l (post : SX → Prop) (x1 : Int32) (n : Nat) (x2 : Int32) (u : SX) : Prop := match u with
  | (f_PREPARE, f_PREPARE_OK, f_GET_STATE, f_NEW_STATE, f_START_VIEW_CHANGE, f_DO_VIEW_CHANGE, f_GET_LOG, f_NEW_LOG, f_START_VIEW, f_clients, f_capacity, f_letters, f_restarts, f_mailHead, f_mailTail, f_acks, f_votes, f_bestVoter, f_bestLast, f_bestLength, f_bestCommit, a_status, a_view, a_last, a_nonce, a_cell, a_length, a_commit, a_logClient, a_logNumber, a_logOp, a_registers, a_tableNumber, a_tableResult, a_mailKind, a_mailFrom, a_mailTo, a_mailView, a_mailLast, a_mailCommit, a_mailLength, a_mailBase, a_mailCount, a_mailClient, a_mailNumber, a_mailOp, a_voted, a_voteCommit, a_slotState, a_slotFrom, a_slotTo, a_slotNonce, a_slotView, a_slotLeader, a_slotLength, a_slotCommit, a_slotClient, a_slotNumber, a_slotOp) => wX_startView_46 post x1 n x2 f_PREPARE f_PREPARE_OK f_GET_STATE f_NEW_STATE f_START_VIEW_CHANGE f_DO_VIEW_CHANGE f_GET_LOG f_NEW_LOG f_START_VIEW f_clients f_capacity f_letters f_restarts f_mailHead f_mailTail f_acks f_votes f_bestVoter f_bestLast f_bestLength f_bestCommit a_status a_view a_last a_nonce a_cell a_length a_commit a_logClient a_logNumber a_logOp a_registers a_tableNumber a_tableResult a_mailKind a_mailFrom a_mailTo a_mailView a_mailLast a_mailCommit a_mailLength a_mailBase a_mailCount a_mailClient a_mailNumber a_mailOp a_voted a_voteCommit a_slotState a_slotFrom a_slotTo a_slotNonce a_slotView a_slotLeader a_slotLength a_slotCommit a_slotClient a_slotNumber a_slotOp
def vg_gat (K : Nat → vg_R) (J : Nat → Bool) (w k c : Nat) : Nat → vg_R := fun b => if J b = true then (0, w, w, (K b).2.2.2.1, (K k).2.2.2.2.1, (if b = w % 5 then (K k).2.2.2.2.1 else c), (K k).2.2.2.2.2.2) else K b
section
variable {Z : vg_Z} {K : Nat → vg_R} {J : Nat → Bool} {w k c : Nat} {post : SX → Prop} {B : vg_B}
theorem sv_loop (hs : sv_ok K J k c) (Jq : J (w % 5) = true) (hcell : ∀ b, b < 5 → b ≠ w % 5 → J b = true → (K (w % 5)).1 ≤ 1 ∧ (K b).1 ≤ 1 ∧ Z.2.2.2.2.1 (w % 5) = Z.2.2.2.2.1 b) (hg : gv_B K J B)
    (hp : ∀ u' Q', sx_R Z (vg_gat K J w k c) 0 0 Q' B u' → post u') :
    ∀ (d b n tl : Nat) (Q : Nat → vg_M) (ph pos : Nat → Nat) (u : SX), b + d = 5 → d < n → tl ≤ b → qk_I 1 (sv_msg K w (w % 5) k c) 0 tl Q ph pos →
    (∀ e, e < b → e ≠ w % 5 → (J e = true → ph e = 1) ∧ (J e = false → ph e = 0)) → (∀ e, (e = w % 5 ∨ b ≤ e) → ph e = 0) →
    sx_R Z (sv_H K (fun b => if J b = true then ga_mv (K b) w else K b) w (w % 5) k c ph) 0 tl Q B u → xv_l post (nI (w % 5)) n (nI b) u := by
  intro d
  have q5 : w % 5 < 5 := Nat.mod_lt _ (by decide)
  induction d with
  | zero =>
    intro b n tl Q ph pos u hb hn htb hI hph hph2 hu
    obtain ⟨n, rfl⟩ : ∃ k, n = k + 1 := ⟨n - 1, by omega⟩
    have e5 : b = 5 := hb
    subst e5
    refine sx_el (P := fun u => xv_l post (nI (w % 5)) (n + 1) (nI 5) u) ?_ hu
    intro f_PREPARE f_PREPARE_OK f_GET_STATE f_NEW_STATE f_START_VIEW_CHANGE f_DO_VIEW_CHANGE f_GET_LOG f_NEW_LOG f_START_VIEW f_clients f_capacity f_letters f_restarts f_mailHead f_mailTail f_acks f_votes f_bestVoter f_bestLast f_bestLength f_bestCommit a_status a_view a_last a_nonce a_cell a_length a_commit a_logClient a_logNumber a_logOp a_registers a_tableNumber a_tableResult a_mailKind a_mailFrom a_mailTo a_mailView a_mailLast a_mailCommit a_mailLength a_mailBase a_mailCount a_mailClient a_mailNumber a_mailOp a_voted a_voteCommit a_slotState a_slotFrom a_slotTo a_slotNonce a_slotView a_slotLeader a_slotLength a_slotCommit a_slotClient a_slotNumber a_slotOp hZ hR hM hB
    refine br_t (Int32.le_refl _) ?_
    refine xe_exch (n := 6) ?_
    refine sv_exch (B := B) q5 hs ?_ 6 0 tl Q ph pos _ (by omega) hI (by omega) ?_ ?_ (sx_mk hZ hR hM hB)
    · intro u' Q' hu'
      clear hZ hR hM hB hu
      obtain ⟨f_PREPARE, f_PREPARE_OK, f_GET_STATE, f_NEW_STATE, f_START_VIEW_CHANGE, f_DO_VIEW_CHANGE, f_GET_LOG, f_NEW_LOG, f_START_VIEW, f_clients, f_capacity, f_letters, f_restarts, f_mailHead, f_mailTail, f_acks, f_votes, f_bestVoter, f_bestLast, f_bestLength, f_bestCommit, a_status, a_view, a_last, a_nonce, a_cell, a_length, a_commit, a_logClient, a_logNumber, a_logOp, a_registers, a_tableNumber, a_tableResult, a_mailKind, a_mailFrom, a_mailTo, a_mailView, a_mailLast, a_mailCommit, a_mailLength, a_mailBase, a_mailCount, a_mailClient, a_mailNumber, a_mailOp, a_voted, a_voteCommit, a_slotState, a_slotFrom, a_slotTo, a_slotNonce, a_slotView, a_slotLeader, a_slotLength, a_slotCommit, a_slotClient, a_slotNumber, a_slotOp⟩ := u'
      obtain ⟨hZ, hR, hM, hB⟩ := hu'
      have hv := sx_mk hZ hR hM hB (f_PREPARE := f_PREPARE) (f_PREPARE_OK := f_PREPARE_OK) (f_GET_STATE := f_GET_STATE) (f_NEW_STATE := f_NEW_STATE) (f_START_VIEW_CHANGE := f_START_VIEW_CHANGE) (f_DO_VIEW_CHANGE := f_DO_VIEW_CHANGE) (f_GET_LOG := f_GET_LOG) (f_NEW_LOG := f_NEW_LOG) (f_START_VIEW := f_START_VIEW)
      have h5 := hR (w % 5) q5
      dsimp only at h5
      rw [if_pos rfl] at h5
      obtain ⟨ok, ⟨s1, s2, s3, s4, s5, s6⟩, _⟩ := h5
      refine ⟨ix_5 q5, ?_⟩
      rw [ix_rd (by omega) s5]
      refine xm_adv hv q5 (by rw [if_pos rfl]; exact Nat.le_refl _) (fun u2 hu2 => hp u2 Q' (sx_cong hu2 (fun b hb => ?_)))
      unfold vg_gat
      by_cases y : b = w % 5
      · subst y
        rw [fs_eq, if_pos rfl, if_pos Jq, if_pos rfl]
        have : max c (K k).2.2.2.2.1 = (K k).2.2.2.2.1 := by have := hs.1; omega
        unfold sv_q
        dsimp only
        rw [this]
      · rw [fs_ne y, if_neg y, if_neg y]
    · intro e he eq
      have := hph e he eq
      exact ⟨fun z => by have := this.1 z; omega, this.2⟩
    · exact hph2
  | succ d ih =>
    intro b n tl Q ph pos u hb hn htb hI hph hph2 hu
    obtain ⟨n, rfl⟩ : ∃ k, n = k + 1 := ⟨n - 1, by omega⟩
    have hb5 : b < 5 := by omega
    have phb : ph b = 0 := hph2 b (Or.inr (Nat.le_refl _))
    refine sx_el (P := fun u => xv_l post (nI (w % 5)) (n + 1) (nI b) u) ?_ hu
    intro f_PREPARE f_PREPARE_OK f_GET_STATE f_NEW_STATE f_START_VIEW_CHANGE f_DO_VIEW_CHANGE f_GET_LOG f_NEW_LOG f_START_VIEW f_clients f_capacity f_letters f_restarts f_mailHead f_mailTail f_acks f_votes f_bestVoter f_bestLast f_bestLength f_bestCommit a_status a_view a_last a_nonce a_cell a_length a_commit a_logClient a_logNumber a_logOp a_registers a_tableNumber a_tableResult a_mailKind a_mailFrom a_mailTo a_mailView a_mailLast a_mailCommit a_mailLength a_mailBase a_mailCount a_mailClient a_mailNumber a_mailOp a_voted a_voteCommit a_slotState a_slotFrom a_slotTo a_slotNonce a_slotView a_slotLeader a_slotLength a_slotCommit a_slotClient a_slotNumber a_slotOp hZ hR hM hB
    have hv := sx_mk hZ hR hM hB (f_PREPARE := f_PREPARE) (f_PREPARE_OK := f_PREPARE_OK) (f_GET_STATE := f_GET_STATE) (f_NEW_STATE := f_NEW_STATE) (f_START_VIEW_CHANGE := f_START_VIEW_CHANGE) (f_DO_VIEW_CHANGE := f_DO_VIEW_CHANGE) (f_GET_LOG := f_GET_LOG) (f_NEW_LOG := f_NEW_LOG) (f_START_VIEW := f_START_VIEW)
    obtain ⟨g1, g2, g3, _⟩ := hg
    have i5 := ix_5 hb5
    have vb : a_voted (nI b).toNatClampNeg = if J b = true then 1 else 0 := by
      rw [ix_c (by omega), hB.2.2.2.2.2.2.1]
      exact g2 b hb5
    have skip : (b = w % 5 ∨ J b = false) → xv_l post (nI (w % 5)) n (nI (b + 1)) (f_PREPARE, f_PREPARE_OK, f_GET_STATE, f_NEW_STATE, f_START_VIEW_CHANGE, f_DO_VIEW_CHANGE, f_GET_LOG, f_NEW_LOG, f_START_VIEW, f_clients, f_capacity, f_letters, f_restarts, f_mailHead, f_mailTail, f_acks, f_votes, f_bestVoter, f_bestLast, f_bestLength, f_bestCommit, a_status, a_view, a_last, a_nonce, a_cell, a_length, a_commit, a_logClient, a_logNumber, a_logOp, a_registers, a_tableNumber, a_tableResult, a_mailKind, a_mailFrom, a_mailTo, a_mailView, a_mailLast, a_mailCommit, a_mailLength, a_mailBase, a_mailCount, a_mailClient, a_mailNumber, a_mailOp, a_voted, a_voteCommit, a_slotState, a_slotFrom, a_slotTo, a_slotNonce, a_slotView, a_slotLeader, a_slotLength, a_slotCommit, a_slotClient, a_slotNumber, a_slotOp) := by
      intro z
      refine ih (b + 1) n tl Q ph pos _ (by omega) (by omega) (by omega) hI (fun e he eq => ?_) (fun e he => hph2 e (he.imp id (fun y => by omega))) hv
      by_cases y : e = b
      · subst y
        rcases z with z | z
        · exact absurd z eq
        · exact ⟨fun y => nt_f y z, fun _ => phb⟩
      · exact hph e (by omega) eq
    refine br_f (lt5' b hb5) ⟨i5, ?_⟩
    rw [vb]
    cases hJ : J b
    · exact br_t rfl (nm_r (nI_1 b) (skip (Or.inr hJ)))
    · refine br_f (by decide) (pk_eq b (w % 5) (fun z => nm_r (nI_1 b) (skip (Or.inl z))) (fun z => ⟨i5, ?_⟩))
      have vc : a_voteCommit (nI b).toNatClampNeg = nI (K b).2.2.2.2.2.1 := by
        rw [ix_c (by omega), hB.2.2.2.2.2.2.2]
        exact g3 b hb5 hJ
      obtain ⟨s1, s2⟩ := hs
      obtain ⟨s3, s4, s5⟩ := s2 b hb5 hJ
      rw [vc]
      have hq : sv_H K (fun b => if J b = true then ga_mv (K b) w else K b) w (w % 5) k c ph (w % 5) = sv_q K w (w % 5) k c := if_pos rfl
      have hbb : sv_H K (fun b => if J b = true then ga_mv (K b) w else K b) w (w % 5) k c ph b = ga_mv (K b) w := by
        unfold sv_H
        rw [if_neg z, if_neg (by omega)]
        exact if_pos hJ
      have k32 : (K k).2.2.2.2.1 ≤ 32 := by
        have := (hR (w % 5) q5).1.1
        rw [hq] at this
        exact this.2.2.2.2.1
      have tq : vg_tch (sv_H K (fun b => if J b = true then ga_mv (K b) w else K b) w (w % 5) k c ph) Z.2.2.2.2.1 (w % 5) b = true := by
        rw [vg_tch_iff, hq, hbb]
        exact ⟨fun y => z y.symm, (by decide : (0 : Nat) ≠ 3), (by decide : (1 : Nat) ≠ 3), (hcell b hb5 z hJ).2.2⟩
      refine xm_postLog (k := 9) hv q5 hb5 (by omega) (by omega) (fun ht u' hu' => ?_) (fun ht => nt_f tq ht)
      rw [hq] at hu'
      have e : sv_H K (fun b => if J b = true then ga_mv (K b) w else K b) w (w % 5) k c (fs_set ph b 1) = sv_H K (fun b => if J b = true then ga_mv (K b) w else K b) w (w % 5) k c ph := by
        funext e
        unfold sv_H
        by_cases y : e = b
        · subst y
          rw [fs_eq, if_neg (by decide : ¬ (1 : Nat) = 2), if_neg (by omega : ¬ ph e = 2)]
        · rw [fs_ne y]
      have h := ih (b + 1) n (tl + 1) _ (fs_set ph b 1) (fs_set pos b tl) u' (by omega) (by omega) (by omega) (qk_post hI (by omega) (Or.inl phb) (k := 1) (by decide) (by decide)) (fun e he eq => ?_) (fun e he => ?_) (by rw [e]; exact hu')
      · revert h
        refine sx_cs (P := fun u' => xv_l post (nI (w % 5)) n (nI (b + 1)) u' → match u' with | (f_PREPARE, f_PREPARE_OK, f_GET_STATE, f_NEW_STATE, f_START_VIEW_CHANGE, f_DO_VIEW_CHANGE, f_GET_LOG, f_NEW_LOG, f_START_VIEW, f_clients, f_capacity, f_letters, f_restarts, f_mailHead, f_mailTail, f_acks, f_votes, f_bestVoter, f_bestLast, f_bestLength, f_bestCommit, a_status, a_view, a_last, a_nonce, a_cell, a_length, a_commit, a_logClient, a_logNumber, a_logOp, a_registers, a_tableNumber, a_tableResult, a_mailKind, a_mailFrom, a_mailTo, a_mailView, a_mailLast, a_mailCommit, a_mailLength, a_mailBase, a_mailCount, a_mailClient, a_mailNumber, a_mailOp, a_voted, a_voteCommit, a_slotState, a_slotFrom, a_slotTo, a_slotNonce, a_slotView, a_slotLeader, a_slotLength, a_slotCommit, a_slotClient, a_slotNumber, a_slotOp) => ∀ y : Int32, y = nI b + 1 → wX_startView_46 post (nI (w % 5)) n y f_PREPARE f_PREPARE_OK f_GET_STATE f_NEW_STATE f_START_VIEW_CHANGE f_DO_VIEW_CHANGE f_GET_LOG f_NEW_LOG f_START_VIEW f_clients f_capacity f_letters f_restarts f_mailHead f_mailTail f_acks f_votes f_bestVoter f_bestLast f_bestLength f_bestCommit a_status a_view a_last a_nonce a_cell a_length a_commit a_logClient a_logNumber a_logOp a_registers a_tableNumber a_tableResult a_mailKind a_mailFrom a_mailTo a_mailView a_mailLast a_mailCommit a_mailLength a_mailBase a_mailCount a_mailClient a_mailNumber a_mailOp a_voted a_voteCommit a_slotState a_slotFrom a_slotTo a_slotNonce a_slotView a_slotLeader a_slotLength a_slotCommit a_slotClient a_slotNumber a_slotOp) ?_ u'
        clear hZ hR hM hB hv vb vc hu skip
        intro f_PREPARE f_PREPARE_OK f_GET_STATE f_NEW_STATE f_START_VIEW_CHANGE f_DO_VIEW_CHANGE f_GET_LOG f_NEW_LOG f_START_VIEW f_clients f_capacity f_letters f_restarts f_mailHead f_mailTail f_acks f_votes f_bestVoter f_bestLast f_bestLength f_bestCommit a_status a_view a_last a_nonce a_cell a_length a_commit a_logClient a_logNumber a_logOp a_registers a_tableNumber a_tableResult a_mailKind a_mailFrom a_mailTo a_mailView a_mailLast a_mailCommit a_mailLength a_mailBase a_mailCount a_mailClient a_mailNumber a_mailOp a_voted a_voteCommit a_slotState a_slotFrom a_slotTo a_slotNonce a_slotView a_slotLeader a_slotLength a_slotCommit a_slotClient a_slotNumber a_slotOp h
        exact nm_r (nI_1 b) h
      · by_cases y : e = b
        · subst y
          rw [fs_eq]
          exact ⟨fun _ => rfl, fun y => nt_f hJ y⟩
        · rw [fs_ne y]
          exact hph e (by omega) eq
      · rw [fs_ne (by rcases he with y | y <;> omega)]
        exact hph2 e (he.imp id (fun y => by omega))
end
end
section
/-! X: the start of a view and GATHER, whole -/
/-- k is the best of J, c the greatest commit number of J -/
def gb_is (K : Nat → vg_R) (J : Nat → Bool) (k c : Nat) : Prop :=
  (k < 5 ∧ J k = true ∧ ∀ b, b < 5 → J b = true → b ≠ k → vg_bet (K k) k (K b) b) ∧ (∀ b, b < 5 → J b = true → (K b).2.2.2.2.2.1 ≤ c) ∧ (c = 0 ∨ ∃ b, b < 5 ∧ J b = true ∧ (K b).2.2.2.2.2.1 = c)
theorem gb_uni {K : Nat → vg_R} {J : Nat → Bool} {k c k' c' : Nat} (h : gb_is K J k c) (h' : gb_is K J k' c') : k = k' ∧ c = c' := by
  obtain ⟨⟨a1, a2, a3⟩, a4, a5⟩ := h
  obtain ⟨⟨b1, b2, b3⟩, b4, b5⟩ := h'
  constructor
  · by_cases e : k = k'
    · exact e
    · exact absurd (a3 k' b1 b2 (fun z => e z.symm)) (fun z => gv_as z (b3 k a1 a2 e))
  · have h1 : c ≤ c' := by
      rcases a5 with e | ⟨b, e1, e2, e3⟩
      · omega
      · have := b4 b e1 e2
        omega
    have h2 : c' ≤ c := by
      rcases b5 with e | ⟨b, e1, e2, e3⟩
      · omega
      · have := a4 b e1 e2
        omega
    omega
section
variable {Z : vg_Z} {K : Nat → vg_R} {J : Nat → Bool} {w k c : Nat} {post : SX → Prop} {B : vg_B} {Q : Nat → vg_M} {u : SX}
theorem sv_24 (hw : w ≤ 999) (hs : sv_ok K J k c) (Jq : J (w % 5) = true) (hcell : ∀ b, b < 5 → b ≠ w % 5 → J b = true → (K (w % 5)).1 ≤ 1 ∧ (K b).1 ≤ 1 ∧ Z.2.2.2.2.1 (w % 5) = Z.2.2.2.2.1 b) (hg : gv_B K J B) (hc : B.2.2.2.2.2.1 = nI c)
    (hu : sx_R Z (fs_set (fun b => if J b = true then ga_mv (K b) w else K b) (w % 5) (1, w, (K (w % 5)).2.2.1, (K (w % 5)).2.2.2.1, (K k).2.2.2.2.1, (K (w % 5)).2.2.2.2.2.1, (K k).2.2.2.2.2.2)) 0 0 Q B u)
    (hp : ∀ u' Q', sx_R Z (vg_gat K J w k c) 0 0 Q' B u' → post u') : match u with | (f_PREPARE, f_PREPARE_OK, f_GET_STATE, f_NEW_STATE, f_START_VIEW_CHANGE, f_DO_VIEW_CHANGE, f_GET_LOG, f_NEW_LOG, f_START_VIEW, f_clients, f_capacity, f_letters, f_restarts, f_mailHead, f_mailTail, f_acks, f_votes, f_bestVoter, f_bestLast, f_bestLength, f_bestCommit, a_status, a_view, a_last, a_nonce, a_cell, a_length, a_commit, a_logClient, a_logNumber, a_logOp, a_registers, a_tableNumber, a_tableResult, a_mailKind, a_mailFrom, a_mailTo, a_mailView, a_mailLast, a_mailCommit, a_mailLength, a_mailBase, a_mailCount, a_mailClient, a_mailNumber, a_mailOp, a_voted, a_voteCommit, a_slotState, a_slotFrom, a_slotTo, a_slotNonce, a_slotView, a_slotLeader, a_slotLength, a_slotCommit, a_slotClient, a_slotNumber, a_slotOp) => wX_startView_24 post (nI (w % 5)) f_PREPARE f_PREPARE_OK f_GET_STATE f_NEW_STATE f_START_VIEW_CHANGE f_DO_VIEW_CHANGE f_GET_LOG f_NEW_LOG f_START_VIEW f_clients f_capacity f_letters f_restarts f_mailHead f_mailTail f_acks f_votes f_bestVoter f_bestLast f_bestLength f_bestCommit a_status a_view a_last a_nonce a_cell a_length a_commit a_logClient a_logNumber a_logOp a_registers a_tableNumber a_tableResult a_mailKind a_mailFrom a_mailTo a_mailView a_mailLast a_mailCommit a_mailLength a_mailBase a_mailCount a_mailClient a_mailNumber a_mailOp a_voted a_voteCommit a_slotState a_slotFrom a_slotTo a_slotNonce a_slotView a_slotLeader a_slotLength a_slotCommit a_slotClient a_slotNumber a_slotOp := by
  have q5 : w % 5 < 5 := Nat.mod_lt _ (by decide)
  obtain ⟨f_PREPARE, f_PREPARE_OK, f_GET_STATE, f_NEW_STATE, f_START_VIEW_CHANGE, f_DO_VIEW_CHANGE, f_GET_LOG, f_NEW_LOG, f_START_VIEW, f_clients, f_capacity, f_letters, f_restarts, f_mailHead, f_mailTail, f_acks, f_votes, f_bestVoter, f_bestLast, f_bestLength, f_bestCommit, a_status, a_view, a_last, a_nonce, a_cell, a_length, a_commit, a_logClient, a_logNumber, a_logOp, a_registers, a_tableNumber, a_tableResult, a_mailKind, a_mailFrom, a_mailTo, a_mailView, a_mailLast, a_mailCommit, a_mailLength, a_mailBase, a_mailCount, a_mailClient, a_mailNumber, a_mailOp, a_voted, a_voteCommit, a_slotState, a_slotFrom, a_slotTo, a_slotNonce, a_slotView, a_slotLeader, a_slotLength, a_slotCommit, a_slotClient, a_slotNumber, a_slotOp⟩ := u
  obtain ⟨hZ, hR, hM, hB⟩ := hu
  show wX_startView_24 post (nI (w % 5)) f_PREPARE f_PREPARE_OK f_GET_STATE f_NEW_STATE f_START_VIEW_CHANGE f_DO_VIEW_CHANGE f_GET_LOG f_NEW_LOG f_START_VIEW f_clients f_capacity f_letters f_restarts f_mailHead f_mailTail f_acks f_votes f_bestVoter f_bestLast f_bestLength f_bestCommit a_status a_view a_last a_nonce a_cell a_length a_commit a_logClient a_logNumber a_logOp a_registers a_tableNumber a_tableResult a_mailKind a_mailFrom a_mailTo a_mailView a_mailLast a_mailCommit a_mailLength a_mailBase a_mailCount a_mailClient a_mailNumber a_mailOp a_voted a_voteCommit a_slotState a_slotFrom a_slotTo a_slotNonce a_slotView a_slotLeader a_slotLength a_slotCommit a_slotClient a_slotNumber a_slotOp
  have h5 := hR (w % 5) q5
  rw [fs_eq] at h5
  obtain ⟨ok, ⟨s1, s2, s3, s4, s5, s6⟩, _⟩ := h5
  have r2 : a_view (nI (w % 5)).toNatClampNeg = nI w := ix_rd (by omega) s2
  refine And.intro (ix_5 q5) ?_
  rw [r2]
  refine xm_enter (sx_mk hZ hR hM hB) q5 hw (fun u1 hu1 => ?_)
  simp only [fs_eq, fs_fs] at hu1
  clear hZ hR hM hB s1 s2 s3 s4 s5 s6 ok r2
  obtain ⟨f_PREPARE, f_PREPARE_OK, f_GET_STATE, f_NEW_STATE, f_START_VIEW_CHANGE, f_DO_VIEW_CHANGE, f_GET_LOG, f_NEW_LOG, f_START_VIEW, f_clients, f_capacity, f_letters, f_restarts, f_mailHead, f_mailTail, f_acks, f_votes, f_bestVoter, f_bestLast, f_bestLength, f_bestCommit, a_status, a_view, a_last, a_nonce, a_cell, a_length, a_commit, a_logClient, a_logNumber, a_logOp, a_registers, a_tableNumber, a_tableResult, a_mailKind, a_mailFrom, a_mailTo, a_mailView, a_mailLast, a_mailCommit, a_mailLength, a_mailBase, a_mailCount, a_mailClient, a_mailNumber, a_mailOp, a_voted, a_voteCommit, a_slotState, a_slotFrom, a_slotTo, a_slotNonce, a_slotView, a_slotLeader, a_slotLength, a_slotCommit, a_slotClient, a_slotNumber, a_slotOp⟩ := u1
  obtain ⟨hZ, hR, hM, hB⟩ := hu1
  have ec : f_bestCommit = nI c := hB.2.2.2.2.2.1.trans hc
  subst ec
  refine xm_adv (sx_mk hZ hR hM hB) q5 (by rw [fs_eq]; exact hs.1) (fun u2 hu2 => ?_)
  simp only [fs_eq, fs_fs] at hu2
  have em : max (K (w % 5)).2.2.2.2.2.1 c = c := by
    have := (hs.2 (w % 5) q5 Jq).1
    omega
  rw [em] at hu2
  have h := sv_loop hs Jq hcell hg hp 5 0 6 0 Q (fun _ => 0) (fun _ => 0) u2 (by omega) (by omega) (by omega) ⟨fun _ z => absurd z (Nat.not_succ_le_zero 0), fun i _ z => absurd z (by omega)⟩ (fun e z => absurd z (by omega)) (fun _ _ => rfl) ?_
  · revert h
    refine sx_cs (P := fun u' => xv_l post (nI (w % 5)) 6 (nI 0) u' → match u' with | (f_PREPARE, f_PREPARE_OK, f_GET_STATE, f_NEW_STATE, f_START_VIEW_CHANGE, f_DO_VIEW_CHANGE, f_GET_LOG, f_NEW_LOG, f_START_VIEW, f_clients, f_capacity, f_letters, f_restarts, f_mailHead, f_mailTail, f_acks, f_votes, f_bestVoter, f_bestLast, f_bestLength, f_bestCommit, a_status, a_view, a_last, a_nonce, a_cell, a_length, a_commit, a_logClient, a_logNumber, a_logOp, a_registers, a_tableNumber, a_tableResult, a_mailKind, a_mailFrom, a_mailTo, a_mailView, a_mailLast, a_mailCommit, a_mailLength, a_mailBase, a_mailCount, a_mailClient, a_mailNumber, a_mailOp, a_voted, a_voteCommit, a_slotState, a_slotFrom, a_slotTo, a_slotNonce, a_slotView, a_slotLeader, a_slotLength, a_slotCommit, a_slotClient, a_slotNumber, a_slotOp) => ∃ n46 : Nat, wX_startView_46 post (nI (w % 5)) n46 0 f_PREPARE f_PREPARE_OK f_GET_STATE f_NEW_STATE f_START_VIEW_CHANGE f_DO_VIEW_CHANGE f_GET_LOG f_NEW_LOG f_START_VIEW f_clients f_capacity f_letters f_restarts f_mailHead f_mailTail f_acks f_votes f_bestVoter f_bestLast f_bestLength f_bestCommit a_status a_view a_last a_nonce a_cell a_length a_commit a_logClient a_logNumber a_logOp a_registers a_tableNumber a_tableResult a_mailKind a_mailFrom a_mailTo a_mailView a_mailLast a_mailCommit a_mailLength a_mailBase a_mailCount a_mailClient a_mailNumber a_mailOp a_voted a_voteCommit a_slotState a_slotFrom a_slotTo a_slotNonce a_slotView a_slotLeader a_slotLength a_slotCommit a_slotClient a_slotNumber a_slotOp) ?_ u2
    clear hZ hR hM hB hu2
    intro f_PREPARE f_PREPARE_OK f_GET_STATE f_NEW_STATE f_START_VIEW_CHANGE f_DO_VIEW_CHANGE f_GET_LOG f_NEW_LOG f_START_VIEW f_clients f_capacity f_letters f_restarts f_mailHead f_mailTail f_acks f_votes f_bestVoter f_bestLast f_bestLength f_bestCommit a_status a_view a_last a_nonce a_cell a_length a_commit a_logClient a_logNumber a_logOp a_registers a_tableNumber a_tableResult a_mailKind a_mailFrom a_mailTo a_mailView a_mailLast a_mailCommit a_mailLength a_mailBase a_mailCount a_mailClient a_mailNumber a_mailOp a_voted a_voteCommit a_slotState a_slotFrom a_slotTo a_slotNonce a_slotView a_slotLeader a_slotLength a_slotCommit a_slotClient a_slotNumber a_slotOp h
    exact ⟨6, h⟩
  · refine sx_cong hu2 (fun b hb => ?_)
    unfold sv_H
    by_cases y : b = w % 5
    · rw [y, fs_eq, if_pos rfl]
      rfl
    · rw [fs_ne y, if_neg y]
      exact (if_neg (by decide : ¬ (0 : Nat) = 2)).symm
theorem xm_startView (hw : w ≤ 999) (hs : sv_ok K J k c) (hk : gb_is K J k c) (Jq : J (w % 5) = true) (hcell : ∀ b, b < 5 → b ≠ w % 5 → J b = true → (K (w % 5)).1 ≤ 1 ∧ (K b).1 ≤ 1 ∧ Z.2.2.2.2.1 (w % 5) = Z.2.2.2.2.1 b) (hg : gv_B K J B) (hc : B.2.2.2.2.2.1 = nI c) (hv : B.2.2.1 = nI k)
    (hu : sx_R Z (fun b => if J b = true then ga_mv (K b) w else K b) 0 0 Q B u)
    (hp : ∀ u' Q', sx_R Z (vg_gat K J w k c) 0 0 Q' B u' → post u') : wpX_startView post u (nI (w % 5)) := by
  have q5 : w % 5 < 5 := Nat.mod_lt _ (by decide)
  obtain ⟨⟨k5, Jk, _⟩, _⟩ := hk
  refine sx_el (P := fun u => wpX_startView post u (nI (w % 5))) ?_ hu
  intro f_PREPARE f_PREPARE_OK f_GET_STATE f_NEW_STATE f_START_VIEW_CHANGE f_DO_VIEW_CHANGE f_GET_LOG f_NEW_LOG f_START_VIEW f_clients f_capacity f_letters f_restarts f_mailHead f_mailTail f_acks f_votes f_bestVoter f_bestLast f_bestLength f_bestCommit a_status a_view a_last a_nonce a_cell a_length a_commit a_logClient a_logNumber a_logOp a_registers a_tableNumber a_tableResult a_mailKind a_mailFrom a_mailTo a_mailView a_mailLast a_mailCommit a_mailLength a_mailBase a_mailCount a_mailClient a_mailNumber a_mailOp a_voted a_voteCommit a_slotState a_slotFrom a_slotTo a_slotNonce a_slotView a_slotLeader a_slotLength a_slotCommit a_slotClient a_slotNumber a_slotOp hZ hR hM hB
  have hv1 := sx_mk hZ hR hM hB (f_PREPARE := f_PREPARE) (f_PREPARE_OK := f_PREPARE_OK) (f_GET_STATE := f_GET_STATE) (f_NEW_STATE := f_NEW_STATE) (f_START_VIEW_CHANGE := f_START_VIEW_CHANGE) (f_DO_VIEW_CHANGE := f_DO_VIEW_CHANGE) (f_GET_LOG := f_GET_LOG) (f_NEW_LOG := f_NEW_LOG) (f_START_VIEW := f_START_VIEW)
  have ev : f_bestVoter = nI k := hB.2.2.1.trans hv
  subst ev
  have Hq : (if J (w % 5) = true then ga_mv (K (w % 5)) w else K (w % 5)) = ga_mv (K (w % 5)) w := if_pos Jq
  have Hk : (if J k = true then ga_mv (K k) w else K k) = ga_mv (K k) w := if_pos Jk
  refine pk_eq k (w % 5) (fun z => ?_) (fun z => ?_)
  · refine sv_24 hw hs Jq hcell hg hc (u := (f_PREPARE, f_PREPARE_OK, f_GET_STATE, f_NEW_STATE, f_START_VIEW_CHANGE, f_DO_VIEW_CHANGE, f_GET_LOG, f_NEW_LOG, f_START_VIEW, f_clients, f_capacity, f_letters, f_restarts, f_mailHead, f_mailTail, f_acks, f_votes, nI k, f_bestLast, f_bestLength, f_bestCommit, a_status, a_view, a_last, a_nonce, a_cell, a_length, a_commit, a_logClient, a_logNumber, a_logOp, a_registers, a_tableNumber, a_tableResult, a_mailKind, a_mailFrom, a_mailTo, a_mailView, a_mailLast, a_mailCommit, a_mailLength, a_mailBase, a_mailCount, a_mailClient, a_mailNumber, a_mailOp, a_voted, a_voteCommit, a_slotState, a_slotFrom, a_slotTo, a_slotNonce, a_slotView, a_slotLeader, a_slotLength, a_slotCommit, a_slotClient, a_slotNumber, a_slotOp)) (sx_cong hv1 (fun b hb => ?_)) hp
    by_cases y : b = w % 5
    · rw [y, fs_eq, z]
      exact Hq
    · rw [fs_ne y]
  · have cl := hcell k k5 z Jk
    have tc : vg_tch (fun b => if J b = true then ga_mv (K b) w else K b) Z.2.2.2.2.1 (w % 5) k = true := by
      rw [vg_tch_iff, Hq, Hk]
      exact ⟨fun y => z y.symm, (by decide : (1 : Nat) ≠ 3), (by decide : (1 : Nat) ≠ 3), cl.2.2⟩
    obtain ⟨h1, h2⟩ := hs
    obtain ⟨h3, h4, h5⟩ := h2 _ q5 Jq
    refine xm_post (k := 7) hv1 q5 k5 (by omega) (fun _ u1 hu1 => ?_) (fun y => nt_f tc y)
    rw [Hq] at hu1
    have main : xe_ex (fun u => match u with | (f_PREPARE, f_PREPARE_OK, f_GET_STATE, f_NEW_STATE, f_START_VIEW_CHANGE, f_DO_VIEW_CHANGE, f_GET_LOG, f_NEW_LOG, f_START_VIEW, f_clients, f_capacity, f_letters, f_restarts, f_mailHead, f_mailTail, f_acks, f_votes, f_bestVoter, f_bestLast, f_bestLength, f_bestCommit, a_status, a_view, a_last, a_nonce, a_cell, a_length, a_commit, a_logClient, a_logNumber, a_logOp, a_registers, a_tableNumber, a_tableResult, a_mailKind, a_mailFrom, a_mailTo, a_mailView, a_mailLast, a_mailCommit, a_mailLength, a_mailBase, a_mailCount, a_mailClient, a_mailNumber, a_mailOp, a_voted, a_voteCommit, a_slotState, a_slotFrom, a_slotTo, a_slotNonce, a_slotView, a_slotLeader, a_slotLength, a_slotCommit, a_slotClient, a_slotNumber, a_slotOp) => wX_startView_24 post (nI (w % 5)) f_PREPARE f_PREPARE_OK f_GET_STATE f_NEW_STATE f_START_VIEW_CHANGE f_DO_VIEW_CHANGE f_GET_LOG f_NEW_LOG f_START_VIEW f_clients f_capacity f_letters f_restarts f_mailHead f_mailTail f_acks f_votes f_bestVoter f_bestLast f_bestLength f_bestCommit a_status a_view a_last a_nonce a_cell a_length a_commit a_logClient a_logNumber a_logOp a_registers a_tableNumber a_tableResult a_mailKind a_mailFrom a_mailTo a_mailView a_mailLast a_mailCommit a_mailLength a_mailBase a_mailCount a_mailClient a_mailNumber a_mailOp a_voted a_voteCommit a_slotState a_slotFrom a_slotTo a_slotNonce a_slotView a_slotLeader a_slotLength a_slotCommit a_slotClient a_slotNumber a_slotOp) 3 (nI 0) u1 := by
      refine xe_step hu1 (by omega) (fun post' hpost u2 hu2 => ?_)
      refine xh_7 hu2 (by omega) fs_eq ?_
      refine xm_onGetLog hu2 (by omega) fs_eq (by omega) (tc_sym tc) (by rw [Hk]; rfl) (by rw [Hk]; rfl) (fun u3 hu3 => hpost _ ?_)
      rw [Hk] at hu3
      refine xe_step hu3 (by omega) (fun post'' hpost' u4 hu4 => ?_)
      refine xh_8 hu4 (by omega) fs_eq ?_
      refine xm_onNewLog hu4 (by omega) fs_eq (by rw [Hq]; rfl) (by rw [Hq]; rfl) ?_ ?_ ?_ (fun u5 hu5 => hpost' _ ?_)
      · rw [Hq]
        show min (K (w % 5)).2.2.2.2.2.1 (K k).2.2.2.2.1 ≤ (K (w % 5)).2.2.2.2.1
        omega
      · rw [Hq]
        show (K (w % 5)).2.2.2.2.2.1 ≤ (K k).2.2.2.2.1
        omega
      · rw [Hq]
        intro i hi
        refine h5 i ?_
        have hi2 : i < min (K (w % 5)).2.2.2.2.2.1 (K k).2.2.2.2.1 ∨ i < (K (w % 5)).2.2.2.2.2.1 := hi
        omega
      · rw [Hq] at hu5
        refine xe_end hu5 (fun u6 hu6 => ?_)
        exact sv_24 hw ⟨h1, h2⟩ Jq hcell hg hc hu6 hp
    have fin := xe_exch main
    revert fin
    refine sx_cs (P := fun u' => wpX_exchange (fun u => match u with | (f_PREPARE, f_PREPARE_OK, f_GET_STATE, f_NEW_STATE, f_START_VIEW_CHANGE, f_DO_VIEW_CHANGE, f_GET_LOG, f_NEW_LOG, f_START_VIEW, f_clients, f_capacity, f_letters, f_restarts, f_mailHead, f_mailTail, f_acks, f_votes, f_bestVoter, f_bestLast, f_bestLength, f_bestCommit, a_status, a_view, a_last, a_nonce, a_cell, a_length, a_commit, a_logClient, a_logNumber, a_logOp, a_registers, a_tableNumber, a_tableResult, a_mailKind, a_mailFrom, a_mailTo, a_mailView, a_mailLast, a_mailCommit, a_mailLength, a_mailBase, a_mailCount, a_mailClient, a_mailNumber, a_mailOp, a_voted, a_voteCommit, a_slotState, a_slotFrom, a_slotTo, a_slotNonce, a_slotView, a_slotLeader, a_slotLength, a_slotCommit, a_slotClient, a_slotNumber, a_slotOp) => wX_startView_24 post (nI (w % 5)) f_PREPARE f_PREPARE_OK f_GET_STATE f_NEW_STATE f_START_VIEW_CHANGE f_DO_VIEW_CHANGE f_GET_LOG f_NEW_LOG f_START_VIEW f_clients f_capacity f_letters f_restarts f_mailHead f_mailTail f_acks f_votes f_bestVoter f_bestLast f_bestLength f_bestCommit a_status a_view a_last a_nonce a_cell a_length a_commit a_logClient a_logNumber a_logOp a_registers a_tableNumber a_tableResult a_mailKind a_mailFrom a_mailTo a_mailView a_mailLast a_mailCommit a_mailLength a_mailBase a_mailCount a_mailClient a_mailNumber a_mailOp a_voted a_voteCommit a_slotState a_slotFrom a_slotTo a_slotNonce a_slotView a_slotLeader a_slotLength a_slotCommit a_slotClient a_slotNumber a_slotOp) u' → match u' with | (f_PREPARE, f_PREPARE_OK, f_GET_STATE, f_NEW_STATE, f_START_VIEW_CHANGE, f_DO_VIEW_CHANGE, f_GET_LOG, f_NEW_LOG, f_START_VIEW, f_clients, f_capacity, f_letters, f_restarts, f_mailHead, f_mailTail, f_acks, f_votes, f_bestVoter, f_bestLast, f_bestLength, f_bestCommit, a_status, a_view, a_last, a_nonce, a_cell, a_length, a_commit, a_logClient, a_logNumber, a_logOp, a_registers, a_tableNumber, a_tableResult, a_mailKind, a_mailFrom, a_mailTo, a_mailView, a_mailLast, a_mailCommit, a_mailLength, a_mailBase, a_mailCount, a_mailClient, a_mailNumber, a_mailOp, a_voted, a_voteCommit, a_slotState, a_slotFrom, a_slotTo, a_slotNonce, a_slotView, a_slotLeader, a_slotLength, a_slotCommit, a_slotClient, a_slotNumber, a_slotOp) => wpX_exchange (fun u => match u with | (f_PREPARE, f_PREPARE_OK, f_GET_STATE, f_NEW_STATE, f_START_VIEW_CHANGE, f_DO_VIEW_CHANGE, f_GET_LOG, f_NEW_LOG, f_START_VIEW, f_clients, f_capacity, f_letters, f_restarts, f_mailHead, f_mailTail, f_acks, f_votes, f_bestVoter, f_bestLast, f_bestLength, f_bestCommit, a_status, a_view, a_last, a_nonce, a_cell, a_length, a_commit, a_logClient, a_logNumber, a_logOp, a_registers, a_tableNumber, a_tableResult, a_mailKind, a_mailFrom, a_mailTo, a_mailView, a_mailLast, a_mailCommit, a_mailLength, a_mailBase, a_mailCount, a_mailClient, a_mailNumber, a_mailOp, a_voted, a_voteCommit, a_slotState, a_slotFrom, a_slotTo, a_slotNonce, a_slotView, a_slotLeader, a_slotLength, a_slotCommit, a_slotClient, a_slotNumber, a_slotOp) => wX_startView_24 post (nI (w % 5)) f_PREPARE f_PREPARE_OK f_GET_STATE f_NEW_STATE f_START_VIEW_CHANGE f_DO_VIEW_CHANGE f_GET_LOG f_NEW_LOG f_START_VIEW f_clients f_capacity f_letters f_restarts f_mailHead f_mailTail f_acks f_votes f_bestVoter f_bestLast f_bestLength f_bestCommit a_status a_view a_last a_nonce a_cell a_length a_commit a_logClient a_logNumber a_logOp a_registers a_tableNumber a_tableResult a_mailKind a_mailFrom a_mailTo a_mailView a_mailLast a_mailCommit a_mailLength a_mailBase a_mailCount a_mailClient a_mailNumber a_mailOp a_voted a_voteCommit a_slotState a_slotFrom a_slotTo a_slotNonce a_slotView a_slotLeader a_slotLength a_slotCommit a_slotClient a_slotNumber a_slotOp) (f_PREPARE, f_PREPARE_OK, f_GET_STATE, f_NEW_STATE, f_START_VIEW_CHANGE, f_DO_VIEW_CHANGE, f_GET_LOG, f_NEW_LOG, f_START_VIEW, f_clients, f_capacity, f_letters, f_restarts, f_mailHead, f_mailTail, f_acks, f_votes, f_bestVoter, f_bestLast, f_bestLength, f_bestCommit, a_status, a_view, a_last, a_nonce, a_cell, a_length, a_commit, a_logClient, a_logNumber, a_logOp, a_registers, a_tableNumber, a_tableResult, a_mailKind, a_mailFrom, a_mailTo, a_mailView, a_mailLast, a_mailCommit, a_mailLength, a_mailBase, a_mailCount, a_mailClient, a_mailNumber, a_mailOp, a_voted, a_voteCommit, a_slotState, a_slotFrom, a_slotTo, a_slotNonce, a_slotView, a_slotLeader, a_slotLength, a_slotCommit, a_slotClient, a_slotNumber, a_slotOp)) ?_ u1
    clear hZ hR hM hB hv1 hu hu1 main
    intro f_PREPARE f_PREPARE_OK f_GET_STATE f_NEW_STATE f_START_VIEW_CHANGE f_DO_VIEW_CHANGE f_GET_LOG f_NEW_LOG f_START_VIEW f_clients f_capacity f_letters f_restarts f_mailHead f_mailTail f_acks f_votes f_bestVoter f_bestLast f_bestLength f_bestCommit a_status a_view a_last a_nonce a_cell a_length a_commit a_logClient a_logNumber a_logOp a_registers a_tableNumber a_tableResult a_mailKind a_mailFrom a_mailTo a_mailView a_mailLast a_mailCommit a_mailLength a_mailBase a_mailCount a_mailClient a_mailNumber a_mailOp a_voted a_voteCommit a_slotState a_slotFrom a_slotTo a_slotNonce a_slotView a_slotLeader a_slotLength a_slotCommit a_slotClient a_slotNumber a_slotOp h
    exact h
end
def xg_g (post : Int32 → SX → Prop) (x1 : Int32) (n : Nat) (x2 : Int32) (u : SX) : Prop := match u with
  | (f_PREPARE, f_PREPARE_OK, f_GET_STATE, f_NEW_STATE, f_START_VIEW_CHANGE, f_DO_VIEW_CHANGE, f_GET_LOG, f_NEW_LOG, f_START_VIEW, f_clients, f_capacity, f_letters, f_restarts, f_mailHead, f_mailTail, f_acks, f_votes, f_bestVoter, f_bestLast, f_bestLength, f_bestCommit, a_status, a_view, a_last, a_nonce, a_cell, a_length, a_commit, a_logClient, a_logNumber, a_logOp, a_registers, a_tableNumber, a_tableResult, a_mailKind, a_mailFrom, a_mailTo, a_mailView, a_mailLast, a_mailCommit, a_mailLength, a_mailBase, a_mailCount, a_mailClient, a_mailNumber, a_mailOp, a_voted, a_voteCommit, a_slotState, a_slotFrom, a_slotTo, a_slotNonce, a_slotView, a_slotLeader, a_slotLength, a_slotCommit, a_slotClient, a_slotNumber, a_slotOp) => wX_gather_6 post x1 n x2 f_PREPARE f_PREPARE_OK f_GET_STATE f_NEW_STATE f_START_VIEW_CHANGE f_DO_VIEW_CHANGE f_GET_LOG f_NEW_LOG f_START_VIEW f_clients f_capacity f_letters f_restarts f_mailHead f_mailTail f_acks f_votes f_bestVoter f_bestLast f_bestLength f_bestCommit a_status a_view a_last a_nonce a_cell a_length a_commit a_logClient a_logNumber a_logOp a_registers a_tableNumber a_tableResult a_mailKind a_mailFrom a_mailTo a_mailView a_mailLast a_mailCommit a_mailLength a_mailBase a_mailCount a_mailClient a_mailNumber a_mailOp a_voted a_voteCommit a_slotState a_slotFrom a_slotTo a_slotNonce a_slotView a_slotLeader a_slotLength a_slotCommit a_slotClient a_slotNumber a_slotOp
section
variable {Z : vg_Z} {H0 : Nat → vg_R} {r w : Nat} {post : Int32 → SX → Prop} {B : vg_B}
theorem ga_loop (hr5 : r < 5) (hr : (H0 r).1 = 1 ∧ (H0 r).2.1 = w) (hw : w ≤ 999) (hk : ∀ c, c < 5 → (H0 c).2.2.1 ≤ 999 ∧ (H0 c).2.2.2.2.1 ≤ 32 ∧ (H0 c).2.2.2.2.2.1 ≤ 32)
    (hg : gv_B H0 (fun _ => false) B)
    (hsv : 3 ≤ cn_5 (vg_mem H0 Z.2.2.2.2.1 r w) → vg_mem H0 Z.2.2.2.2.1 r w (w % 5) = true → ∀ k c, gb_is H0 (vg_mem H0 Z.2.2.2.2.1 r w) k c → sv_ok H0 (vg_mem H0 Z.2.2.2.2.1 r w) k c)
    (hp0 : ¬ (3 ≤ cn_5 (vg_mem H0 Z.2.2.2.2.1 r w) ∧ vg_mem H0 Z.2.2.2.2.1 r w (w % 5) = true) → ∀ u' Q' B', sx_R Z (fun b => if vg_mem H0 Z.2.2.2.2.1 r w b = true then ga_mv (H0 b) w else H0 b) 0 0 Q' B' u' → post 0 u')
    (hp1 : 3 ≤ cn_5 (vg_mem H0 Z.2.2.2.2.1 r w) → vg_mem H0 Z.2.2.2.2.1 r w (w % 5) = true → ∀ k c, gb_is H0 (vg_mem H0 Z.2.2.2.2.1 r w) k c → ∀ u' Q' B', sx_R Z (vg_gat H0 (vg_mem H0 Z.2.2.2.2.1 r w) w k c) 0 0 Q' B' u' → post 1 u') :
    ∀ (d b n tl : Nat) (Q : Nat → vg_M) (ph pos : Nat → Nat) (u : SX), b + d = 5 → d < n → tl ≤ b → qk_I 2 (ga_msg H0 r w) 0 tl Q ph pos → (∀ e, ph e ≤ 1 ∧ (b ≤ e → ph e = 0)) → ph r = 0 →
    (∀ e, e ≠ r → (e < b → ph e = 0 → vg_mem H0 Z.2.2.2.2.1 r w e = false) ∧ (1 ≤ ph e → vg_tch H0 Z.2.2.2.2.1 r e = true)) → tl + sm_5 (fun e => ga_rem (ph e)) ≤ 2 * b →
    sx_R Z H0 0 tl Q B u → xg_g post (nI r) n (nI b) u := by
  intro d
  induction d with
  | zero =>
    intro b n tl Q ph pos u hb hn htb hI hph hpr hph3 htot hu
    obtain ⟨n, rfl⟩ : ∃ k, n = k + 1 := ⟨n - 1, by omega⟩
    have e5 : b = 5 := hb
    subst e5
    refine sx_el (P := fun u => xg_g post (nI r) (n + 1) (nI 5) u) ?_ hu
    intro f_PREPARE f_PREPARE_OK f_GET_STATE f_NEW_STATE f_START_VIEW_CHANGE f_DO_VIEW_CHANGE f_GET_LOG f_NEW_LOG f_START_VIEW f_clients f_capacity f_letters f_restarts f_mailHead f_mailTail f_acks f_votes f_bestVoter f_bestLast f_bestLength f_bestCommit a_status a_view a_last a_nonce a_cell a_length a_commit a_logClient a_logNumber a_logOp a_registers a_tableNumber a_tableResult a_mailKind a_mailFrom a_mailTo a_mailView a_mailLast a_mailCommit a_mailLength a_mailBase a_mailCount a_mailClient a_mailNumber a_mailOp a_voted a_voteCommit a_slotState a_slotFrom a_slotTo a_slotNonce a_slotView a_slotLeader a_slotLength a_slotCommit a_slotClient a_slotNumber a_slotOp hZ hR hM hB
    refine br_t (Int32.le_refl _) ?_
    have hI0 : ga_I Z.2.2.2.2.1 H0 r w tl 5 0 tl Q ph pos := by
      refine ⟨hI, fun e => ⟨by have := (hph e).1; omega, (hph e).2⟩, fun e he => ⟨(hph3 e he).1, (hph3 e he).2, fun z => absurd z (by have := (hph e).1; omega)⟩, fun e z => absurd z (by have := (hph e).1; omega), fun e z => ?_, fun e z => absurd z (by have := (hph e).1; omega), by omega⟩
      exact (hI.1 e (by omega) (by omega)).2.1
    have gD : ∀ qm, ga_D qm ph = fun _ => false := by
      intro qm
      funext e
      unfold ga_D
      rw [decide_eq_false (by have := (hph e).1; omega), Bool.and_false]
    have gH : ga_H H0 w ph = H0 := by
      funext e
      exact if_neg (by have := (hph e).1; omega)
    have mvr : ga_mv (H0 r) w = H0 r := by
      unfold ga_mv
      rw [← hr.1, ← hr.2]
    have mr : vg_mem H0 Z.2.2.2.2.1 r w r = true := vg_mem_iff.mpr (Or.inl rfl)
    have gHr : ∀ k, 2 ≤ k → ga_H H0 w (fs_set ph r k) = H0 := by
      intro k hk
      rw [ga_H_s hk, gH, mvr, fs_id]
    -- behind the vote of r
    have ex : ∀ (B' : vg_B) (tl' : Nat) (Q' : Nat → vg_M) (ph' pos' : Nat → Nat) (u' : SX), ga_I Z.2.2.2.2.1 H0 r w tl 5 0 tl' Q' ph' pos' → 2 ≤ ph' r → gv_B H0 (ga_D (vg_mem H0 Z.2.2.2.2.1 r w (w % 5)) ph') B' → sx_R Z (ga_H H0 w ph') 0 tl' Q' B' u' →
        wpX_exchange (fun u => match u with | (f_PREPARE, f_PREPARE_OK, f_GET_STATE, f_NEW_STATE, f_START_VIEW_CHANGE, f_DO_VIEW_CHANGE, f_GET_LOG, f_NEW_LOG, f_START_VIEW, f_clients, f_capacity, f_letters, f_restarts, f_mailHead, f_mailTail, f_acks, f_votes, f_bestVoter, f_bestLast, f_bestLength, f_bestCommit, a_status, a_view, a_last, a_nonce, a_cell, a_length, a_commit, a_logClient, a_logNumber, a_logOp, a_registers, a_tableNumber, a_tableResult, a_mailKind, a_mailFrom, a_mailTo, a_mailView, a_mailLast, a_mailCommit, a_mailLength, a_mailBase, a_mailCount, a_mailClient, a_mailNumber, a_mailOp, a_voted, a_voteCommit, a_slotState, a_slotFrom, a_slotTo, a_slotNonce, a_slotView, a_slotLeader, a_slotLength, a_slotCommit, a_slotClient, a_slotNumber, a_slotOp) => (((3 ≤ f_votes → (vp_in (nI r) 5 ∧ (¬ (5 : Int32) = 0 ∧ (wpX_startView (fun u => match u with | (f_PREPARE_z, f_PREPARE_OK_z, f_GET_STATE_z, f_NEW_STATE_z, f_START_VIEW_CHANGE_z, f_DO_VIEW_CHANGE_z, f_GET_LOG_z, f_NEW_LOG_z, f_START_VIEW_z, f_clients_z, f_capacity_z, f_letters_z, f_restarts_z, f_mailHead_z, f_mailTail_z, f_acks_z, f_votes_z, f_bestVoter_z, f_bestLast_z, f_bestLength_z, f_bestCommit_z, a_status_z, a_view_z, a_last_z, a_nonce_z, a_cell_z, a_length_z, a_commit_z, a_logClient_z, a_logNumber_z, a_logOp_z, a_registers_z, a_tableNumber_z, a_tableResult_z, a_mailKind_z, a_mailFrom_z, a_mailTo_z, a_mailView_z, a_mailLast_z, a_mailCommit_z, a_mailLength_z, a_mailBase_z, a_mailCount_z, a_mailClient_z, a_mailNumber_z, a_mailOp_z, a_voted_z, a_voteCommit_z, a_slotState_z, a_slotFrom_z, a_slotTo_z, a_slotNonce_z, a_slotView_z, a_slotLeader_z, a_slotLength_z, a_slotCommit_z, a_slotClient_z, a_slotNumber_z, a_slotOp_z) => (post 1 (f_PREPARE_z, f_PREPARE_OK_z, f_GET_STATE_z, f_NEW_STATE_z, f_START_VIEW_CHANGE_z, f_DO_VIEW_CHANGE_z, f_GET_LOG_z, f_NEW_LOG_z, f_START_VIEW_z, f_clients_z, f_capacity_z, f_letters_z, f_restarts_z, f_mailHead_z, f_mailTail_z, f_acks_z, f_votes_z, f_bestVoter_z, f_bestLast_z, f_bestLength_z, f_bestCommit_z, a_status_z, a_view_z, a_last_z, a_nonce_z, a_cell_z, a_length_z, a_commit_z, a_logClient_z, a_logNumber_z, a_logOp_z, a_registers_z, a_tableNumber_z, a_tableResult_z, a_mailKind_z, a_mailFrom_z, a_mailTo_z, a_mailView_z, a_mailLast_z, a_mailCommit_z, a_mailLength_z, a_mailBase_z, a_mailCount_z, a_mailClient_z, a_mailNumber_z, a_mailOp_z, a_voted_z, a_voteCommit_z, a_slotState_z, a_slotFrom_z, a_slotTo_z, a_slotNonce_z, a_slotView_z, a_slotLeader_z, a_slotLength_z, a_slotCommit_z, a_slotClient_z, a_slotNumber_z, a_slotOp_z))) (f_PREPARE, f_PREPARE_OK, f_GET_STATE, f_NEW_STATE, f_START_VIEW_CHANGE, f_DO_VIEW_CHANGE, f_GET_LOG, f_NEW_LOG, f_START_VIEW, f_clients, f_capacity, f_letters, f_restarts, f_mailHead, f_mailTail, f_acks, f_votes, f_bestVoter, f_bestLast, f_bestLength, f_bestCommit, a_status, a_view, a_last, a_nonce, a_cell, a_length, a_commit, a_logClient, a_logNumber, a_logOp, a_registers, a_tableNumber, a_tableResult, a_mailKind, a_mailFrom, a_mailTo, a_mailView, a_mailLast, a_mailCommit, a_mailLength, a_mailBase, a_mailCount, a_mailClient, a_mailNumber, a_mailOp, a_voted, a_voteCommit, a_slotState, a_slotFrom, a_slotTo, a_slotNonce, a_slotView, a_slotLeader, a_slotLength, a_slotCommit, a_slotClient, a_slotNumber, a_slotOp) ((a_view (nI r).toNatClampNeg) - (a_view (nI r).toNatClampNeg) / 5 * 5))))) ∧ (¬ 3 ≤ f_votes → (post 0 (f_PREPARE, f_PREPARE_OK, f_GET_STATE, f_NEW_STATE, f_START_VIEW_CHANGE, f_DO_VIEW_CHANGE, f_GET_LOG, f_NEW_LOG, f_START_VIEW, f_clients, f_capacity, f_letters, f_restarts, f_mailHead, f_mailTail, f_acks, f_votes, f_bestVoter, f_bestLast, f_bestLength, f_bestCommit, a_status, a_view, a_last, a_nonce, a_cell, a_length, a_commit, a_logClient, a_logNumber, a_logOp, a_registers, a_tableNumber, a_tableResult, a_mailKind, a_mailFrom, a_mailTo, a_mailView, a_mailLast, a_mailCommit, a_mailLength, a_mailBase, a_mailCount, a_mailClient, a_mailNumber, a_mailOp, a_voted, a_voteCommit, a_slotState, a_slotFrom, a_slotTo, a_slotNonce, a_slotView, a_slotLeader, a_slotLength, a_slotCommit, a_slotClient, a_slotNumber, a_slotOp)))))) u' := by
      intro B' tl' Q' ph' pos' u' hI' hp' hg' hu'
      refine xe_exch (n := 12) ?_
      refine ga_exch hr5 hr hw hk ?_ 12 0 tl' Q' ph' pos' B' u' (by omega) hI' hp' (by omega) hg' hu'
      intro u2 Q2 B2 hg2 hu2
      clear hZ hR hM hB hu
      obtain ⟨f_PREPARE, f_PREPARE_OK, f_GET_STATE, f_NEW_STATE, f_START_VIEW_CHANGE, f_DO_VIEW_CHANGE, f_GET_LOG, f_NEW_LOG, f_START_VIEW, f_clients, f_capacity, f_letters, f_restarts, f_mailHead, f_mailTail, f_acks, f_votes, f_bestVoter, f_bestLast, f_bestLength, f_bestCommit, a_status, a_view, a_last, a_nonce, a_cell, a_length, a_commit, a_logClient, a_logNumber, a_logOp, a_registers, a_tableNumber, a_tableResult, a_mailKind, a_mailFrom, a_mailTo, a_mailView, a_mailLast, a_mailCommit, a_mailLength, a_mailBase, a_mailCount, a_mailClient, a_mailNumber, a_mailOp, a_voted, a_voteCommit, a_slotState, a_slotFrom, a_slotTo, a_slotNonce, a_slotView, a_slotLeader, a_slotLength, a_slotCommit, a_slotClient, a_slotNumber, a_slotOp⟩ := u2
      obtain ⟨hZ, hR, hM, hB⟩ := hu2
      have hv2 := sx_mk hZ hR hM hB (f_PREPARE := f_PREPARE) (f_PREPARE_OK := f_PREPARE_OK) (f_GET_STATE := f_GET_STATE) (f_NEW_STATE := f_NEW_STATE) (f_START_VIEW_CHANGE := f_START_VIEW_CHANGE) (f_DO_VIEW_CHANGE := f_DO_VIEW_CHANGE) (f_GET_LOG := f_GET_LOG) (f_NEW_LOG := f_NEW_LOG) (f_START_VIEW := f_START_VIEW)
      have hg3 := hg2
      obtain ⟨g1, g2, g3, ⟨c, g4, g5, g6, g7⟩, g8⟩ := hg2
      have ev := hB.2.1.trans g1
      have cl := cn_le (fun b => vg_mem H0 Z.2.2.2.2.1 r w (w % 5) && vg_mem H0 Z.2.2.2.2.1 r w b)
      refine pk_le 3 (cn_5 (fun b => vg_mem H0 Z.2.2.2.2.1 r w (w % 5) && vg_mem H0 Z.2.2.2.2.1 r w b)) (fun z => ⟨ix_5 hr5, by decide, ?_⟩) (fun z => hp0 ?_ _ _ _ hv2) (hy := ev)
      · have qm : vg_mem H0 Z.2.2.2.2.1 r w (w % 5) = true := by
          cases hc : vg_mem H0 Z.2.2.2.2.1 r w (w % 5)
          · rw [hc] at z
            exact absurd (show 3 ≤ 0 from z) (by decide)
          · rfl
        have eD : (fun b => vg_mem H0 Z.2.2.2.2.1 r w (w % 5) && vg_mem H0 Z.2.2.2.2.1 r w b) = vg_mem H0 Z.2.2.2.2.1 r w := by
          funext b
          rw [qm, Bool.true_and]
        rw [eD] at z g8 g6 g7 hg3
        have hx := hR r hr5
        dsimp only at hx
        rw [if_pos mr] at hx
        obtain ⟨_, ⟨_, s2, _⟩, _⟩ := hx
        rw [ix_rd (by omega) s2, show (ga_mv (H0 r) w).2.1 = w from rfl, ix_r5 hw]
        rcases g8 with ⟨y1, y2⟩ | ⟨k, y1, y2, y3, y4, y5, y6⟩
        · exact nt_f mr (y1 r hr5)
        · have gb : gb_is H0 (vg_mem H0 Z.2.2.2.2.1 r w) k c := ⟨⟨y1, y2, y6⟩, g6, g7⟩
          refine xm_startView hw (hsv z qm k c gb) gb qm ?_ hg3 g5 y3 hv2 (fun u' Q' hu' => hp1 z qm k c gb u' Q' _ hu')
          intro b hb bq mb
          refine ⟨ga_act qm hr.1, ga_act mb hr.1, ?_⟩
          have cr : ∀ b, vg_mem H0 Z.2.2.2.2.1 r w b = true → Z.2.2.2.2.1 r = Z.2.2.2.2.1 b := by
            intro b y
            rcases vg_mem_iff.mp y with e | ⟨e, _⟩
            · rw [e]
            · exact e.2.2.2
          exact (cr _ qm).symm.trans (cr b mb)
      · rintro ⟨y1, y2⟩
        have eD : (fun b => vg_mem H0 Z.2.2.2.2.1 r w (w % 5) && vg_mem H0 Z.2.2.2.2.1 r w b) = vg_mem H0 Z.2.2.2.2.1 r w := by
          funext b
          rw [y2, Bool.true_and]
        rw [eD] at z
        omega
    refine xm_vote (K := H0) (sx_mk hZ hR hM hB) hg (w := w) hr5 hr.2 rfl hk (by omega) ⟨rfl, rfl, rfl⟩ (fun z u' B' g' hu' => ?_) (fun z zt u' hu' => ?_) (fun z zt u' hu' => ?_)
    · have qm : vg_mem H0 Z.2.2.2.2.1 r w (w % 5) = true := by rw [z]; exact mr
      have h := ex B' tl Q (fs_set ph r 3) pos u' (ga_upd hI0 hr5 (by omega) ?_ (fun c hc => rfl) (fun y => absurd rfl y) (fun y => absurd y (by decide)) (by decide) (by rw [hpr]; show tl + 0 + (tl + sm_5 (fun b => ga_rem (ph b))) ≤ tl + 0 + 11; omega) (by omega)) (by rw [fs_eq]; omega) (by rw [qm, ga_D_3, gD]; exact g') (by rw [gHr 3 (by decide)]; exact hu')
      · revert h
        clear hZ hR hM hB hu ex
        obtain ⟨f_PREPARE, f_PREPARE_OK, f_GET_STATE, f_NEW_STATE, f_START_VIEW_CHANGE, f_DO_VIEW_CHANGE, f_GET_LOG, f_NEW_LOG, f_START_VIEW, f_clients, f_capacity, f_letters, f_restarts, f_mailHead, f_mailTail, f_acks, f_votes, f_bestVoter, f_bestLast, f_bestLength, f_bestCommit, a_status, a_view, a_last, a_nonce, a_cell, a_length, a_commit, a_logClient, a_logNumber, a_logOp, a_registers, a_tableNumber, a_tableResult, a_mailKind, a_mailFrom, a_mailTo, a_mailView, a_mailLast, a_mailCommit, a_mailLength, a_mailBase, a_mailCount, a_mailClient, a_mailNumber, a_mailOp, a_voted, a_voteCommit, a_slotState, a_slotFrom, a_slotTo, a_slotNonce, a_slotView, a_slotLeader, a_slotLength, a_slotCommit, a_slotClient, a_slotNumber, a_slotOp⟩ := u'
        intro h
        exact h
      · refine ⟨fun e e1 e2 => ?_, fun i hi hi2 => ?_⟩
        · by_cases y : e = r
          · rw [y, fs_eq] at e2; omega
          · rw [fs_ne y] at e1 e2 ⊢
            exact hI.1 e e1 e2
        · obtain ⟨e, e1, e2, e3⟩ := hI.2 i hi hi2
          refine ⟨e, ?_⟩
          rw [fs_ne (by intro y; rw [y, hpr] at e1; omega)]
          exact ⟨e1, e2, e3⟩
    · have emg : (6, r, w % 5, (H0 r).2.2.2.2.1, H0 r) = ga_msg H0 r w 2 r := by
        unfold ga_msg
        rw [if_neg (by decide), mvr]
      rw [emg] at hu'
      have h := ex B (tl + 1) _ (fs_set ph r 2) (fs_set pos r tl) u' (ga_upd hI0 hr5 (by omega) (qk_post hI (by omega) (Or.inl hpr) (by decide) (by decide)) (fun c hc => fs_ne hc) (fun y => absurd rfl y) (fun _ => ⟨zt, by rw [fs_eq]; omega⟩) (by decide) ?_ (by omega)) (by rw [fs_eq]; omega) (by rw [ga_D_k (by omega) (by decide), gD]; exact hg) (by rw [gHr 2 (by decide)]; exact hu')
      · revert h
        clear hZ hR hM hB hu ex
        obtain ⟨f_PREPARE, f_PREPARE_OK, f_GET_STATE, f_NEW_STATE, f_START_VIEW_CHANGE, f_DO_VIEW_CHANGE, f_GET_LOG, f_NEW_LOG, f_START_VIEW, f_clients, f_capacity, f_letters, f_restarts, f_mailHead, f_mailTail, f_acks, f_votes, f_bestVoter, f_bestLast, f_bestLength, f_bestCommit, a_status, a_view, a_last, a_nonce, a_cell, a_length, a_commit, a_logClient, a_logNumber, a_logOp, a_registers, a_tableNumber, a_tableResult, a_mailKind, a_mailFrom, a_mailTo, a_mailView, a_mailLast, a_mailCommit, a_mailLength, a_mailBase, a_mailCount, a_mailClient, a_mailNumber, a_mailOp, a_voted, a_voteCommit, a_slotState, a_slotFrom, a_slotTo, a_slotNonce, a_slotView, a_slotLeader, a_slotLength, a_slotCommit, a_slotClient, a_slotNumber, a_slotOp⟩ := u'
        intro h
        exact h
      · rw [hpr]
        show tl + 1 + 0 + (tl + sm_5 (fun b => ga_rem (ph b))) ≤ tl + 0 + 11
        omega
    · have qm : vg_mem H0 Z.2.2.2.2.1 r w (w % 5) = false := by
        cases hc : vg_mem H0 Z.2.2.2.2.1 r w (w % 5)
        · rfl
        · rcases vg_mem_iff.mp hc with e | ⟨e, _⟩
          · exact absurd e z
          · exact nt_f (vg_tch_iff.mpr e) zt
      have h := ex B tl Q (fs_set ph r 3) pos u' (ga_upd hI0 hr5 (by omega) ?_ (fun c hc => rfl) (fun y => absurd rfl y) (fun y => absurd y (by decide)) (by decide) (by rw [hpr]; show tl + 0 + (tl + sm_5 (fun b => ga_rem (ph b))) ≤ tl + 0 + 11; omega) (by omega)) (by rw [fs_eq]; omega) (by rw [qm]; exact hg) (by rw [gHr 3 (by decide)]; exact hu')
      · revert h
        clear hZ hR hM hB hu ex
        obtain ⟨f_PREPARE, f_PREPARE_OK, f_GET_STATE, f_NEW_STATE, f_START_VIEW_CHANGE, f_DO_VIEW_CHANGE, f_GET_LOG, f_NEW_LOG, f_START_VIEW, f_clients, f_capacity, f_letters, f_restarts, f_mailHead, f_mailTail, f_acks, f_votes, f_bestVoter, f_bestLast, f_bestLength, f_bestCommit, a_status, a_view, a_last, a_nonce, a_cell, a_length, a_commit, a_logClient, a_logNumber, a_logOp, a_registers, a_tableNumber, a_tableResult, a_mailKind, a_mailFrom, a_mailTo, a_mailView, a_mailLast, a_mailCommit, a_mailLength, a_mailBase, a_mailCount, a_mailClient, a_mailNumber, a_mailOp, a_voted, a_voteCommit, a_slotState, a_slotFrom, a_slotTo, a_slotNonce, a_slotView, a_slotLeader, a_slotLength, a_slotCommit, a_slotClient, a_slotNumber, a_slotOp⟩ := u'
        intro h
        exact h
      · refine ⟨fun e e1 e2 => ?_, fun i hi hi2 => ?_⟩
        · by_cases y : e = r
          · rw [y, fs_eq] at e2; omega
          · rw [fs_ne y] at e1 e2 ⊢
            exact hI.1 e e1 e2
        · obtain ⟨e, e1, e2, e3⟩ := hI.2 i hi hi2
          refine ⟨e, ?_⟩
          rw [fs_ne (by intro y; rw [y, hpr] at e1; omega)]
          exact ⟨e1, e2, e3⟩
  | succ d ih =>
    intro b n tl Q ph pos u hb hn htb hI hph hpr hph3 htot hu
    obtain ⟨n, rfl⟩ : ∃ k, n = k + 1 := ⟨n - 1, by omega⟩
    have hb5 : b < 5 := by omega
    have phb : ph b = 0 := (hph b).2 (Nat.le_refl _)
    refine sx_el (P := fun u => xg_g post (nI r) (n + 1) (nI b) u) ?_ hu
    intro f_PREPARE f_PREPARE_OK f_GET_STATE f_NEW_STATE f_START_VIEW_CHANGE f_DO_VIEW_CHANGE f_GET_LOG f_NEW_LOG f_START_VIEW f_clients f_capacity f_letters f_restarts f_mailHead f_mailTail f_acks f_votes f_bestVoter f_bestLast f_bestLength f_bestCommit a_status a_view a_last a_nonce a_cell a_length a_commit a_logClient a_logNumber a_logOp a_registers a_tableNumber a_tableResult a_mailKind a_mailFrom a_mailTo a_mailView a_mailLast a_mailCommit a_mailLength a_mailBase a_mailCount a_mailClient a_mailNumber a_mailOp a_voted a_voteCommit a_slotState a_slotFrom a_slotTo a_slotNonce a_slotView a_slotLeader a_slotLength a_slotCommit a_slotClient a_slotNumber a_slotOp hZ hR hM hB
    refine br_f (lt5' b hb5) ?_
    refine xm_post (k := 5) (sx_mk hZ hR hM hB) hr5 hb5 (by omega) (fun zt u' hu' => ?_) (fun zt u' hu' => ?_)
    · have br : b ≠ r := fun e => (vg_tch_iff.mp zt).1 e.symm
      have h := ih (b + 1) n (tl + 1) _ (fs_set ph b 1) (fs_set pos b tl) u' (by omega) (by omega) (by omega) (qk_post hI (by omega) (Or.inl phb) (k := 1) (by decide) (by decide)) (fun e => ?_) (by rw [fs_ne br.symm]; exact hpr) (fun e he => ?_) ?_ hu'
      · revert h
        refine sx_cs (P := fun u' => xg_g post (nI r) n (nI (b + 1)) u' → match u' with | (f_PREPARE, f_PREPARE_OK, f_GET_STATE, f_NEW_STATE, f_START_VIEW_CHANGE, f_DO_VIEW_CHANGE, f_GET_LOG, f_NEW_LOG, f_START_VIEW, f_clients, f_capacity, f_letters, f_restarts, f_mailHead, f_mailTail, f_acks, f_votes, f_bestVoter, f_bestLast, f_bestLength, f_bestCommit, a_status, a_view, a_last, a_nonce, a_cell, a_length, a_commit, a_logClient, a_logNumber, a_logOp, a_registers, a_tableNumber, a_tableResult, a_mailKind, a_mailFrom, a_mailTo, a_mailView, a_mailLast, a_mailCommit, a_mailLength, a_mailBase, a_mailCount, a_mailClient, a_mailNumber, a_mailOp, a_voted, a_voteCommit, a_slotState, a_slotFrom, a_slotTo, a_slotNonce, a_slotView, a_slotLeader, a_slotLength, a_slotCommit, a_slotClient, a_slotNumber, a_slotOp) => ∀ y : Int32, y = nI b + 1 → wX_gather_6 post (nI r) n y f_PREPARE f_PREPARE_OK f_GET_STATE f_NEW_STATE f_START_VIEW_CHANGE f_DO_VIEW_CHANGE f_GET_LOG f_NEW_LOG f_START_VIEW f_clients f_capacity f_letters f_restarts f_mailHead f_mailTail f_acks f_votes f_bestVoter f_bestLast f_bestLength f_bestCommit a_status a_view a_last a_nonce a_cell a_length a_commit a_logClient a_logNumber a_logOp a_registers a_tableNumber a_tableResult a_mailKind a_mailFrom a_mailTo a_mailView a_mailLast a_mailCommit a_mailLength a_mailBase a_mailCount a_mailClient a_mailNumber a_mailOp a_voted a_voteCommit a_slotState a_slotFrom a_slotTo a_slotNonce a_slotView a_slotLeader a_slotLength a_slotCommit a_slotClient a_slotNumber a_slotOp) ?_ u'
        clear hZ hR hM hB hu
        intro f_PREPARE f_PREPARE_OK f_GET_STATE f_NEW_STATE f_START_VIEW_CHANGE f_DO_VIEW_CHANGE f_GET_LOG f_NEW_LOG f_START_VIEW f_clients f_capacity f_letters f_restarts f_mailHead f_mailTail f_acks f_votes f_bestVoter f_bestLast f_bestLength f_bestCommit a_status a_view a_last a_nonce a_cell a_length a_commit a_logClient a_logNumber a_logOp a_registers a_tableNumber a_tableResult a_mailKind a_mailFrom a_mailTo a_mailView a_mailLast a_mailCommit a_mailLength a_mailBase a_mailCount a_mailClient a_mailNumber a_mailOp a_voted a_voteCommit a_slotState a_slotFrom a_slotTo a_slotNonce a_slotView a_slotLeader a_slotLength a_slotCommit a_slotClient a_slotNumber a_slotOp h
        exact nm_r (nI_1 b) h
      · by_cases y : e = b
        · rw [y, fs_eq]; exact ⟨Nat.le_refl _, fun z => absurd z (by omega)⟩
        · rw [fs_ne y]; exact ⟨(hph e).1, fun z => (hph e).2 (by omega)⟩
      · by_cases y : e = b
        · subst y
          rw [fs_eq]
          exact ⟨fun _ z => absurd z (by decide), fun _ => zt⟩
        · rw [fs_ne y]
          exact ⟨fun z => (hph3 e he).1 (by omega), (hph3 e he).2⟩
      · have := sm_upd (g := ga_rem) (ph := ph) (k := 1) b hb5
        rw [phb] at this
        have z1 : ga_rem 0 = 0 := rfl
        have z2 : ga_rem 1 = 1 := rfl
        omega
    · have h := ih (b + 1) n tl Q ph pos u' (by omega) (by omega) (by omega) hI (fun e => ⟨(hph e).1, fun z => (hph e).2 (by omega)⟩) hpr (fun e he => ⟨fun z z2 => ?_, (hph3 e he).2⟩) (by omega) hu'
      · revert h
        refine sx_cs (P := fun u' => xg_g post (nI r) n (nI (b + 1)) u' → match u' with | (f_PREPARE, f_PREPARE_OK, f_GET_STATE, f_NEW_STATE, f_START_VIEW_CHANGE, f_DO_VIEW_CHANGE, f_GET_LOG, f_NEW_LOG, f_START_VIEW, f_clients, f_capacity, f_letters, f_restarts, f_mailHead, f_mailTail, f_acks, f_votes, f_bestVoter, f_bestLast, f_bestLength, f_bestCommit, a_status, a_view, a_last, a_nonce, a_cell, a_length, a_commit, a_logClient, a_logNumber, a_logOp, a_registers, a_tableNumber, a_tableResult, a_mailKind, a_mailFrom, a_mailTo, a_mailView, a_mailLast, a_mailCommit, a_mailLength, a_mailBase, a_mailCount, a_mailClient, a_mailNumber, a_mailOp, a_voted, a_voteCommit, a_slotState, a_slotFrom, a_slotTo, a_slotNonce, a_slotView, a_slotLeader, a_slotLength, a_slotCommit, a_slotClient, a_slotNumber, a_slotOp) => ∀ y : Int32, y = nI b + 1 → wX_gather_6 post (nI r) n y f_PREPARE f_PREPARE_OK f_GET_STATE f_NEW_STATE f_START_VIEW_CHANGE f_DO_VIEW_CHANGE f_GET_LOG f_NEW_LOG f_START_VIEW f_clients f_capacity f_letters f_restarts f_mailHead f_mailTail f_acks f_votes f_bestVoter f_bestLast f_bestLength f_bestCommit a_status a_view a_last a_nonce a_cell a_length a_commit a_logClient a_logNumber a_logOp a_registers a_tableNumber a_tableResult a_mailKind a_mailFrom a_mailTo a_mailView a_mailLast a_mailCommit a_mailLength a_mailBase a_mailCount a_mailClient a_mailNumber a_mailOp a_voted a_voteCommit a_slotState a_slotFrom a_slotTo a_slotNonce a_slotView a_slotLeader a_slotLength a_slotCommit a_slotClient a_slotNumber a_slotOp) ?_ u'
        clear hZ hR hM hB hu
        intro f_PREPARE f_PREPARE_OK f_GET_STATE f_NEW_STATE f_START_VIEW_CHANGE f_DO_VIEW_CHANGE f_GET_LOG f_NEW_LOG f_START_VIEW f_clients f_capacity f_letters f_restarts f_mailHead f_mailTail f_acks f_votes f_bestVoter f_bestLast f_bestLength f_bestCommit a_status a_view a_last a_nonce a_cell a_length a_commit a_logClient a_logNumber a_logOp a_registers a_tableNumber a_tableResult a_mailKind a_mailFrom a_mailTo a_mailView a_mailLast a_mailCommit a_mailLength a_mailBase a_mailCount a_mailClient a_mailNumber a_mailOp a_voted a_voteCommit a_slotState a_slotFrom a_slotTo a_slotNonce a_slotView a_slotLeader a_slotLength a_slotCommit a_slotClient a_slotNumber a_slotOp h
        exact nm_r (nI_1 b) h
      · by_cases y : e = b
        · subst y
          cases hc : vg_mem H0 Z.2.2.2.2.1 r w e
          · rfl
          · rcases vg_mem_iff.mp hc with q | ⟨q, _⟩
            · exact absurd q he
            · exact nt_f (vg_tch_iff.mpr q) zt
        · exact (hph3 e he).1 (by omega) z2
theorem xm_gather (hr5 : r < 5) (hr : (H0 r).1 = 1 ∧ (H0 r).2.1 = w) (hw : w ≤ 999) {Q : Nat → vg_M} {u : SX} (hu : sx_R Z H0 0 0 Q B u)
    (hsv : 3 ≤ cn_5 (vg_mem H0 Z.2.2.2.2.1 r w) → vg_mem H0 Z.2.2.2.2.1 r w (w % 5) = true → ∀ k c, gb_is H0 (vg_mem H0 Z.2.2.2.2.1 r w) k c → sv_ok H0 (vg_mem H0 Z.2.2.2.2.1 r w) k c)
    (hp0 : ¬ (3 ≤ cn_5 (vg_mem H0 Z.2.2.2.2.1 r w) ∧ vg_mem H0 Z.2.2.2.2.1 r w (w % 5) = true) → ∀ u' Q' B', sx_R Z (fun b => if vg_mem H0 Z.2.2.2.2.1 r w b = true then ga_mv (H0 b) w else H0 b) 0 0 Q' B' u' → post 0 u')
    (hp1 : 3 ≤ cn_5 (vg_mem H0 Z.2.2.2.2.1 r w) → vg_mem H0 Z.2.2.2.2.1 r w (w % 5) = true → ∀ k c, gb_is H0 (vg_mem H0 Z.2.2.2.2.1 r w) k c → ∀ u' Q' B', sx_R Z (vg_gat H0 (vg_mem H0 Z.2.2.2.2.1 r w) w k c) 0 0 Q' B' u' → post 1 u') :
    wpX_gather post u (nI r) := by
  refine sx_el (P := fun u => wpX_gather post u (nI r)) ?_ hu
  intro f_PREPARE f_PREPARE_OK f_GET_STATE f_NEW_STATE f_START_VIEW_CHANGE f_DO_VIEW_CHANGE f_GET_LOG f_NEW_LOG f_START_VIEW f_clients f_capacity f_letters f_restarts f_mailHead f_mailTail f_acks f_votes f_bestVoter f_bestLast f_bestLength f_bestCommit a_status a_view a_last a_nonce a_cell a_length a_commit a_logClient a_logNumber a_logOp a_registers a_tableNumber a_tableResult a_mailKind a_mailFrom a_mailTo a_mailView a_mailLast a_mailCommit a_mailLength a_mailBase a_mailCount a_mailClient a_mailNumber a_mailOp a_voted a_voteCommit a_slotState a_slotFrom a_slotTo a_slotNonce a_slotView a_slotLeader a_slotLength a_slotCommit a_slotClient a_slotNumber a_slotOp hZ hR hM hB
  have okk := sx_ok hu
  unfold wpX_gather
  refine xm_clear (K := H0) (sx_mk hZ hR hM hB) (fun u' B' g' hu' => ?_)
  have h := ga_loop hr5 hr hw (fun c hc => ?_) g' hsv hp0 hp1 5 0 6 0 Q (fun _ => 0) (fun _ => 0) u' (by omega) (by omega) (by omega) ⟨fun _ z => absurd z (Nat.not_succ_le_zero 0), fun i _ z => absurd z (by omega)⟩ (fun e => ⟨Nat.zero_le _, fun _ => rfl⟩) rfl (fun e he => ⟨fun z => absurd z (by omega), fun z => absurd z (Nat.not_succ_le_zero 0)⟩) (by decide) hu'
  · revert h
    refine sx_cs (P := fun u' => xg_g post (nI r) 6 (nI 0) u' → match u' with | (f_PREPARE, f_PREPARE_OK, f_GET_STATE, f_NEW_STATE, f_START_VIEW_CHANGE, f_DO_VIEW_CHANGE, f_GET_LOG, f_NEW_LOG, f_START_VIEW, f_clients, f_capacity, f_letters, f_restarts, f_mailHead, f_mailTail, f_acks, f_votes, f_bestVoter, f_bestLast, f_bestLength, f_bestCommit, a_status, a_view, a_last, a_nonce, a_cell, a_length, a_commit, a_logClient, a_logNumber, a_logOp, a_registers, a_tableNumber, a_tableResult, a_mailKind, a_mailFrom, a_mailTo, a_mailView, a_mailLast, a_mailCommit, a_mailLength, a_mailBase, a_mailCount, a_mailClient, a_mailNumber, a_mailOp, a_voted, a_voteCommit, a_slotState, a_slotFrom, a_slotTo, a_slotNonce, a_slotView, a_slotLeader, a_slotLength, a_slotCommit, a_slotClient, a_slotNumber, a_slotOp) => ∃ n6 : Nat, wX_gather_6 post (nI r) n6 0 f_PREPARE f_PREPARE_OK f_GET_STATE f_NEW_STATE f_START_VIEW_CHANGE f_DO_VIEW_CHANGE f_GET_LOG f_NEW_LOG f_START_VIEW f_clients f_capacity f_letters f_restarts f_mailHead f_mailTail f_acks f_votes f_bestVoter f_bestLast f_bestLength f_bestCommit a_status a_view a_last a_nonce a_cell a_length a_commit a_logClient a_logNumber a_logOp a_registers a_tableNumber a_tableResult a_mailKind a_mailFrom a_mailTo a_mailView a_mailLast a_mailCommit a_mailLength a_mailBase a_mailCount a_mailClient a_mailNumber a_mailOp a_voted a_voteCommit a_slotState a_slotFrom a_slotTo a_slotNonce a_slotView a_slotLeader a_slotLength a_slotCommit a_slotClient a_slotNumber a_slotOp) ?_ u'
    clear hZ hR hM hB hu hu'
    intro f_PREPARE f_PREPARE_OK f_GET_STATE f_NEW_STATE f_START_VIEW_CHANGE f_DO_VIEW_CHANGE f_GET_LOG f_NEW_LOG f_START_VIEW f_clients f_capacity f_letters f_restarts f_mailHead f_mailTail f_acks f_votes f_bestVoter f_bestLast f_bestLength f_bestCommit a_status a_view a_last a_nonce a_cell a_length a_commit a_logClient a_logNumber a_logOp a_registers a_tableNumber a_tableResult a_mailKind a_mailFrom a_mailTo a_mailView a_mailLast a_mailCommit a_mailLength a_mailBase a_mailCount a_mailClient a_mailNumber a_mailOp a_voted a_voteCommit a_slotState a_slotFrom a_slotTo a_slotNonce a_slotView a_slotLeader a_slotLength a_slotCommit a_slotClient a_slotNumber a_slotOp h
    exact ⟨6, h⟩
  · have := (okk c hc).1
    omega
end
end
section
/-! X: fetch's exchange, erase, letters -/
section
variable {Z : vg_Z} {H : Nat → vg_R} {Q : Nat → vg_M} {B : vg_B} {u : SX} {post : SX → Prop}
theorem xe_fetch {r s : Nat} (hr : r < 5) (hs : s < 5) (hu : sx_R Z H 0 1 (fs_set Q 0 (3, r, s, (H r).2.2.2.2.1, H r)) B u) (tc : vg_tch H Z.2.2.2.2.1 r s = true) (h1 : (H s).1 = 0) (h2 : (H r).2.1 ≤ (H s).2.1) (h3 : (H r).1 ≤ 1)
    (hi : ¬ ((H r).1 = 0 ∧ (H r).2.1 = (H s).2.1 ∧ (H s).2.2.2.2.1 ≤ (H r).2.2.2.2.1) → (H r).2.2.2.2.2.1 ≤ (H s).2.2.2.2.1 ∧ ∀ i, i < (H r).2.2.2.2.2.1 → (H r).2.2.2.2.2.2 i = (H s).2.2.2.2.2.2 i)
    (hp : ∀ u' Q' B', sx_R Z (fs_set H r (vg_ns (H s) (H r))) 0 0 Q' B' u' → post u') : wpX_exchange post u := by
  have ok := (sx_ok hu r hr).1
  refine xe_exch (n := 4) ?_
  show xe_ex post 4 (nI 0) u
  refine xe_step hu (by omega) (fun post' hpost u1 hu1 => ?_)
  refine xh_3 hu1 (by omega) fs_eq ?_
  refine xm_onGetState hu1 (by omega) fs_eq (by omega) (tc_sym tc) h1 h2 (fun u2 hu2 => hpost _ ?_)
  refine xe_step hu2 (by omega) (fun post' hpost u3 hu3 => ?_)
  refine xh_4 hu3 (by omega) fs_eq ?_
  refine xm_onNewState hu3 (by omega) fs_eq (by omega) tc h3 h2 (fun z => ?_) (fun z u4 hu4 => hpost _ ?_) (fun z u4 hu4 => hpost _ ?_)
  · obtain ⟨a, b⟩ := hi z
    exact ⟨by omega, a, fun i hi => b i (by omega)⟩
  · refine xe_step hu4 (by omega) (fun post' hpost u5 hu5 => ?_)
    refine xh_2 hu5 (by omega) fs_eq ?_
    refine xm_onPrepareOk hu5 (by omega) fs_eq (fun _ u6 hu6 => hpost _ ?_) (fun _ u6 hu6 => hpost _ ?_)
    · exact xe_end hu6 (fun u7 hu7 => hp u7 _ _ hu7)
    · exact xe_end hu6 (fun u7 hu7 => hp u7 _ _ hu7)
  · exact xe_end hu4 (fun u7 hu7 => hp u7 _ _ hu7)
end
section
variable {f_PREPARE f_PREPARE_OK f_GET_STATE f_NEW_STATE f_START_VIEW_CHANGE f_DO_VIEW_CHANGE f_GET_LOG f_NEW_LOG f_START_VIEW f_clients f_capacity f_letters f_restarts f_mailHead f_mailTail f_acks f_votes f_bestVoter f_bestLast f_bestLength f_bestCommit : Int32} {a_status a_view a_last a_nonce a_cell a_length a_commit a_logClient a_logNumber a_logOp a_registers a_tableNumber a_tableResult a_mailKind a_mailFrom a_mailTo a_mailView a_mailLast a_mailCommit a_mailLength a_mailBase a_mailCount a_mailClient a_mailNumber a_mailOp a_voted a_voteCommit a_slotState a_slotFrom a_slotTo a_slotNonce a_slotView a_slotLeader a_slotLength a_slotCommit a_slotClient a_slotNumber a_slotOp : Nat → Int32}
theorem xm_er_l {post : SX → Prop} {b : Nat} (hb : b < 5) (h : post (f_PREPARE, f_PREPARE_OK, f_GET_STATE, f_NEW_STATE, f_START_VIEW_CHANGE, f_DO_VIEW_CHANGE, f_GET_LOG, f_NEW_LOG, f_START_VIEW, f_clients, f_capacity, f_letters, f_restarts, f_mailHead, f_mailTail, f_acks, f_votes, f_bestVoter, f_bestLast, f_bestLength, f_bestCommit, a_status, a_view, a_last, a_nonce, a_cell, a_length, a_commit, a_logClient, a_logNumber, a_logOp, zr_zer a_registers (b * 4) 4, zr_zer a_tableNumber (b * 4) 4, zr_zer a_tableResult (b * 4) 4, a_mailKind, a_mailFrom, a_mailTo, a_mailView, a_mailLast, a_mailCommit, a_mailLength, a_mailBase, a_mailCount, a_mailClient, a_mailNumber, a_mailOp, a_voted, a_voteCommit, a_slotState, a_slotFrom, a_slotTo, a_slotNonce, a_slotView, a_slotLeader, a_slotLength, a_slotCommit, a_slotClient, a_slotNumber, a_slotOp)) :
    ∀ d i n : Nat, i + d = 4 → d < n → wX_erase_37 post (nI b) f_PREPARE f_PREPARE_OK f_GET_STATE f_NEW_STATE f_START_VIEW_CHANGE f_DO_VIEW_CHANGE f_GET_LOG f_NEW_LOG f_START_VIEW f_clients f_capacity f_letters f_restarts f_mailHead f_mailTail f_acks f_votes f_bestVoter f_bestLast f_bestLength f_bestCommit n (nI i) a_status a_view a_last a_nonce a_cell a_length a_commit a_logClient a_logNumber a_logOp (zr_zer a_registers (b * 4) i) (zr_zer a_tableNumber (b * 4) i) (zr_zer a_tableResult (b * 4) i) a_mailKind a_mailFrom a_mailTo a_mailView a_mailLast a_mailCommit a_mailLength a_mailBase a_mailCount a_mailClient a_mailNumber a_mailOp a_voted a_voteCommit a_slotState a_slotFrom a_slotTo a_slotNonce a_slotView a_slotLeader a_slotLength a_slotCommit a_slotClient a_slotNumber a_slotOp := by
  intro d
  induction d with
  | zero =>
    intro i n hi hn
    obtain ⟨n, rfl⟩ : ∃ k, n = k + 1 := ⟨n - 1, by omega⟩
    have hi' : i = 4 := hi
    subst hi'
    exact br_t (Int32.le_refl _) h
  | succ d ih =>
    intro i n hi hn
    obtain ⟨n, rfl⟩ : ∃ k, n = k + 1 := ⟨n - 1, by omega⟩
    have i20 : vp_in (nI (b * 4 + i)) 20 := ix_20 (by omega)
    refine br_f (nI_ge (b := 4) (by omega) (by decide)) ?_
    rw [ix_m4]
    refine ⟨i20, nm_e ⟨i20, nm_e ⟨i20, nm_e (nm_r (nI_1 i) ?_)⟩⟩⟩
    rw [ix_c (by omega), zr_s, zr_s, zr_s]
    exact ih (i + 1) n (by omega) (by omega)
theorem xm_er_0 {post : SX → Prop} {b : Nat} (hb : b < 5) (h : post (f_PREPARE, f_PREPARE_OK, f_GET_STATE, f_NEW_STATE, f_START_VIEW_CHANGE, f_DO_VIEW_CHANGE, f_GET_LOG, f_NEW_LOG, f_START_VIEW, f_clients, f_capacity, f_letters, f_restarts, f_mailHead, f_mailTail, f_acks, f_votes, f_bestVoter, f_bestLast, f_bestLength, f_bestCommit, a_status, a_view, a_last, a_nonce, a_cell, a_length, a_commit, a_logClient, a_logNumber, a_logOp, zr_zer a_registers (b * 4) 4, zr_zer a_tableNumber (b * 4) 4, zr_zer a_tableResult (b * 4) 4, a_mailKind, a_mailFrom, a_mailTo, a_mailView, a_mailLast, a_mailCommit, a_mailLength, a_mailBase, a_mailCount, a_mailClient, a_mailNumber, a_mailOp, a_voted, a_voteCommit, a_slotState, a_slotFrom, a_slotTo, a_slotNonce, a_slotView, a_slotLeader, a_slotLength, a_slotCommit, a_slotClient, a_slotNumber, a_slotOp)) : wX_erase_37 post (nI b) f_PREPARE f_PREPARE_OK f_GET_STATE f_NEW_STATE f_START_VIEW_CHANGE f_DO_VIEW_CHANGE f_GET_LOG f_NEW_LOG f_START_VIEW f_clients f_capacity f_letters f_restarts f_mailHead f_mailTail f_acks f_votes f_bestVoter f_bestLast f_bestLength f_bestCommit 5 0 a_status a_view a_last a_nonce a_cell a_length a_commit a_logClient a_logNumber a_logOp a_registers a_tableNumber a_tableResult a_mailKind a_mailFrom a_mailTo a_mailView a_mailLast a_mailCommit a_mailLength a_mailBase a_mailCount a_mailClient a_mailNumber a_mailOp a_voted a_voteCommit a_slotState a_slotFrom a_slotTo a_slotNonce a_slotView a_slotLeader a_slotLength a_slotCommit a_slotClient a_slotNumber a_slotOp := by
  have h2 := xm_er_l hb h 4 0 5 (by omega) (by omega)
  rw [zr_0, zr_0, zr_0] at h2
  exact h2
end
section
variable {Z : vg_Z} {H : Nat → vg_R} {hd tl : Nat} {Q : Nat → vg_M} {B : vg_B} {u : SX} {post : SX → Prop}
theorem xm_erase (hu : sx_R Z H hd tl Q B u) {b : Nat} (hb : b < 5)
    (hp : ∀ u', sx_R Z (fs_set H b ((H b).1, 0, 0, 0, 0, 0, (H b).2.2.2.2.2.2)) hd tl Q B u' → post u') : wpX_erase post u (nI b) := by
  refine sx_el (P := fun u => wpX_erase post u (nI b)) ?_ hu
  intro f_PREPARE f_PREPARE_OK f_GET_STATE f_NEW_STATE f_START_VIEW_CHANGE f_DO_VIEW_CHANGE f_GET_LOG f_NEW_LOG f_START_VIEW f_clients f_capacity f_letters f_restarts f_mailHead f_mailTail f_acks f_votes f_bestVoter f_bestLast f_bestLength f_bestCommit a_status a_view a_last a_nonce a_cell a_length a_commit a_logClient a_logNumber a_logOp a_registers a_tableNumber a_tableResult a_mailKind a_mailFrom a_mailTo a_mailView a_mailLast a_mailCommit a_mailLength a_mailBase a_mailCount a_mailClient a_mailNumber a_mailOp a_voted a_voteCommit a_slotState a_slotFrom a_slotTo a_slotNonce a_slotView a_slotLeader a_slotLength a_slotCommit a_slotClient a_slotNumber a_slotOp hZ hR hM hB
  have i5 := ix_5 hb
  refine ⟨i5, nm_e ⟨i5, nm_e ⟨i5, nm_e ⟨i5, nm_e ⟨i5, nm_e ⟨5, ?_⟩⟩⟩⟩⟩⟩
  refine xm_er_0 hb (hp _ (sx_mk hZ ?_ hM hB))
  rw [ix_u (by omega), ix_u (by omega), ix_u (by omega), ix_u (by omega), ix_u (by omega)]
  obtain ⟨ok, ⟨e1, e2, e3, e4, e5, e6⟩, l, r⟩ := hR b hb
  have ok1 := ok.1
  refine rr_set hR ⟨by dsimp only; omega, fun i hi => absurd hi (by dsimp only; omega)⟩ ⟨⟨e1, pk_us, pk_us, pk_us, pk_us, pk_us⟩, fun i hi => absurd hi (by dsimp only; omega), fun i hi => ?_⟩ ?_ ?_ ?_
  · exact ⟨zr_in i hi, zr_in i hi, zr_in i hi⟩
  · exact fun j hj => ⟨rfl, pk_un hj, pk_un hj, pk_un hj, pk_un hj, pk_un hj⟩
  · exact fun j hj => ⟨rfl, rfl, rfl⟩
  · exact fun j hj => ⟨zr_out hj, zr_out hj, zr_out hj⟩
end
/-- one letter's state set -/
def tl_st (x : vg_L) (v : Nat) : vg_L := (v, x.2)
def zs_T (Z : vg_Z) (T : Nat → vg_L) : vg_Z := (Z.1, Z.2.1, Z.2.2.1, Z.2.2.2.1, Z.2.2.2.2.1, T)
theorem rz_st {T : Nat → vg_L} {s v : Nat} {sS sF sT sN sV sD sZ sC cC cN cO : Nat → Int32} (h : rz_T T sS sF sT sN sV sD sZ sC cC cN cO) (hv : v ≤ 2) :
    rz_T (fs_set T s (tl_st (T s) v)) (upd sS s (nI v)) sF sT sN sV sD sZ sC cC cN cO := by
  intro c hc
  obtain ⟨ok, ⟨e1, e2⟩, l⟩ := h c hc
  by_cases e : c = s
  · subst e
    rw [fs_eq]
    have ok1 := ok.1
    exact ⟨⟨⟨hv, ok1.2⟩, ok.2⟩, ⟨pk_us, e2⟩, l⟩
  · rw [fs_ne e]
    exact ⟨ok, ⟨(pk_un e).trans e1, e2⟩, l⟩
/-- letters held by r (from a sender that c takes) below slot i are dropped -/
def td_drop (T : Nat → vg_L) (i r : Nat) (c : Nat → Bool) : Nat → vg_L := fun s => if s < i ∧ (T s).1 = 2 ∧ (T s).2.2.1 = r ∧ c (T s).2.1 = true then tl_st (T s) 0 else T s
theorem td_0 (T : Nat → vg_L) (r : Nat) (c : Nat → Bool) : td_drop T 0 r c = T := by
  funext s
  exact if_neg (by omega)
theorem td_at {T : Nat → vg_L} {i r : Nat} {c : Nat → Bool} : td_drop T i r c i = T i := if_neg (by omega)
theorem td_s {T : Nat → vg_L} {i r : Nat} {c : Nat → Bool} (h : (T i).1 = 2 ∧ (T i).2.2.1 = r ∧ c (T i).2.1 = true) : fs_set (td_drop T i r c) i (tl_st (T i) 0) = td_drop T (i + 1) r c := by
  funext s
  unfold td_drop
  by_cases e : s = i
  · subst e
    rw [fs_eq, if_pos ⟨by omega, h⟩]
  · rw [fs_ne e]
    by_cases z : s < i ∧ (T s).1 = 2 ∧ (T s).2.2.1 = r ∧ c (T s).2.1 = true
    · rw [if_pos z, if_pos ⟨by omega, z.2⟩]
    · rw [if_neg z, if_neg (fun q => z ⟨by omega, q.2⟩)]
theorem td_n {T : Nat → vg_L} {i r : Nat} {c : Nat → Bool} (h : ¬ ((T i).1 = 2 ∧ (T i).2.2.1 = r ∧ c (T i).2.1 = true)) : td_drop T i r c = td_drop T (i + 1) r c := by
  funext s
  unfold td_drop
  by_cases e : s = i
  · subst e
    rw [if_neg (by omega), if_neg (fun q => h q.2)]
  · by_cases z : s < i ∧ (T s).1 = 2 ∧ (T s).2.2.1 = r ∧ c (T s).2.1 = true
    · rw [if_pos z, if_pos ⟨by omega, z.2⟩]
    · rw [if_neg z, if_neg (fun q => z ⟨by omega, q.2⟩)]
def xd_l (post : SX → Prop) (x1 x2 : Int32) (n : Nat) (x3 : Int32) (u : SX) : Prop := match u with
  | (f_PREPARE, f_PREPARE_OK, f_GET_STATE, f_NEW_STATE, f_START_VIEW_CHANGE, f_DO_VIEW_CHANGE, f_GET_LOG, f_NEW_LOG, f_START_VIEW, f_clients, f_capacity, f_letters, f_restarts, f_mailHead, f_mailTail, f_acks, f_votes, f_bestVoter, f_bestLast, f_bestLength, f_bestCommit, a_status, a_view, a_last, a_nonce, a_cell, a_length, a_commit, a_logClient, a_logNumber, a_logOp, a_registers, a_tableNumber, a_tableResult, a_mailKind, a_mailFrom, a_mailTo, a_mailView, a_mailLast, a_mailCommit, a_mailLength, a_mailBase, a_mailCount, a_mailClient, a_mailNumber, a_mailOp, a_voted, a_voteCommit, a_slotState, a_slotFrom, a_slotTo, a_slotNonce, a_slotView, a_slotLeader, a_slotLength, a_slotCommit, a_slotClient, a_slotNumber, a_slotOp) => wX_dropHeld_2 post x1 x2 f_PREPARE f_PREPARE_OK f_GET_STATE f_NEW_STATE f_START_VIEW_CHANGE f_DO_VIEW_CHANGE f_GET_LOG f_NEW_LOG f_START_VIEW f_clients f_capacity f_letters f_restarts f_mailHead f_mailTail f_acks f_votes f_bestVoter f_bestLast f_bestLength f_bestCommit n x3 a_status a_view a_last a_nonce a_cell a_length a_commit a_logClient a_logNumber a_logOp a_registers a_tableNumber a_tableResult a_mailKind a_mailFrom a_mailTo a_mailView a_mailLast a_mailCommit a_mailLength a_mailBase a_mailCount a_mailClient a_mailNumber a_mailOp a_voted a_voteCommit a_slotState a_slotFrom a_slotTo a_slotNonce a_slotView a_slotLeader a_slotLength a_slotCommit a_slotClient a_slotNumber a_slotOp
section
variable {Z : vg_Z} {H : Nat → vg_R} {hd tl : Nat} {Q : Nat → vg_M} {B : vg_B} {post : SX → Prop}
theorem xd_loop {r : Nat} (hr : r < 5) {x2 : Int32} {c : Nat → Bool} (hc : (x2 < 0 ∧ c = fun _ => true) ∨ ∃ f, f < 5 ∧ x2 = nI f ∧ c = fun a => decide (a = f))
    (hp : ∀ u', sx_R (zs_T Z (td_drop Z.2.2.2.2.2 Z.2.2.1 r c)) H hd tl Q B u' → post u') :
    ∀ (d i n : Nat) (u : SX), i + d = Z.2.2.1 → d < n → sx_R (zs_T Z (td_drop Z.2.2.2.2.2 i r c)) H hd tl Q B u → xd_l post (nI r) x2 n (nI i) u := by
  intro d
  induction d with
  | zero =>
    intro i n u hi hn hu
    obtain ⟨n, rfl⟩ : ∃ k, n = k + 1 := ⟨n - 1, by omega⟩
    have hi' : i = Z.2.2.1 := hi
    subst hi'
    refine sx_el (P := fun u => xd_l post (nI r) x2 (n + 1) (nI Z.2.2.1) u) ?_ hu
    intro f_PREPARE f_PREPARE_OK f_GET_STATE f_NEW_STATE f_START_VIEW_CHANGE f_DO_VIEW_CHANGE f_GET_LOG f_NEW_LOG f_START_VIEW f_clients f_capacity f_letters f_restarts f_mailHead f_mailTail f_acks f_votes f_bestVoter f_bestLast f_bestLength f_bestCommit a_status a_view a_last a_nonce a_cell a_length a_commit a_logClient a_logNumber a_logOp a_registers a_tableNumber a_tableResult a_mailKind a_mailFrom a_mailTo a_mailView a_mailLast a_mailCommit a_mailLength a_mailBase a_mailCount a_mailClient a_mailNumber a_mailOp a_voted a_voteCommit a_slotState a_slotFrom a_slotTo a_slotNonce a_slotView a_slotLeader a_slotLength a_slotCommit a_slotClient a_slotNumber a_slotOp hZ hR hM hB
    exact br_t (by rw [hZ.1.2.2.1]; exact Int32.le_refl _) (hp _ (sx_mk hZ hR hM hB))
  | succ d ih =>
    intro i n u hi hn hu
    obtain ⟨n, rfl⟩ : ∃ k, n = k + 1 := ⟨n - 1, by omega⟩
    refine sx_el (P := fun u => xd_l post (nI r) x2 (n + 1) (nI i) u) ?_ hu
    intro f_PREPARE f_PREPARE_OK f_GET_STATE f_NEW_STATE f_START_VIEW_CHANGE f_DO_VIEW_CHANGE f_GET_LOG f_NEW_LOG f_START_VIEW f_clients f_capacity f_letters f_restarts f_mailHead f_mailTail f_acks f_votes f_bestVoter f_bestLast f_bestLength f_bestCommit a_status a_view a_last a_nonce a_cell a_length a_commit a_logClient a_logNumber a_logOp a_registers a_tableNumber a_tableResult a_mailKind a_mailFrom a_mailTo a_mailView a_mailLast a_mailCommit a_mailLength a_mailBase a_mailCount a_mailClient a_mailNumber a_mailOp a_voted a_voteCommit a_slotState a_slotFrom a_slotTo a_slotNonce a_slotView a_slotLeader a_slotLength a_slotCommit a_slotClient a_slotNumber a_slotOp hZ hR hM hB
    have zk : rz_ok (zs_T Z (td_drop Z.2.2.2.2.2 i r c)) := hZ.2.1
    unfold rz_ok at zk
    have zle : Z.2.2.1 ≤ 8 := zk.2.2.2.2.2.1
    have i8 := ix_8 (by omega : i < 8)
    have hv := sx_mk hZ hR hM hB (f_PREPARE := f_PREPARE) (f_PREPARE_OK := f_PREPARE_OK) (f_GET_STATE := f_GET_STATE) (f_NEW_STATE := f_NEW_STATE) (f_START_VIEW_CHANGE := f_START_VIEW_CHANGE) (f_DO_VIEW_CHANGE := f_DO_VIEW_CHANGE) (f_GET_LOG := f_GET_LOG) (f_NEW_LOG := f_NEW_LOG) (f_START_VIEW := f_START_VIEW)
    have eT : (zs_T Z (td_drop Z.2.2.2.2.2 i r c)).2.2.2.2.2 i = Z.2.2.2.2.2 i := td_at
    have keep : ¬ ((Z.2.2.2.2.2 i).1 = 2 ∧ (Z.2.2.2.2.2 i).2.2.1 = r ∧ c (Z.2.2.2.2.2 i).2.1 = true) → xd_l post (nI r) x2 n (nI (i + 1)) (f_PREPARE, f_PREPARE_OK, f_GET_STATE, f_NEW_STATE, f_START_VIEW_CHANGE, f_DO_VIEW_CHANGE, f_GET_LOG, f_NEW_LOG, f_START_VIEW, f_clients, f_capacity, f_letters, f_restarts, f_mailHead, f_mailTail, f_acks, f_votes, f_bestVoter, f_bestLast, f_bestLength, f_bestCommit, a_status, a_view, a_last, a_nonce, a_cell, a_length, a_commit, a_logClient, a_logNumber, a_logOp, a_registers, a_tableNumber, a_tableResult, a_mailKind, a_mailFrom, a_mailTo, a_mailView, a_mailLast, a_mailCommit, a_mailLength, a_mailBase, a_mailCount, a_mailClient, a_mailNumber, a_mailOp, a_voted, a_voteCommit, a_slotState, a_slotFrom, a_slotTo, a_slotNonce, a_slotView, a_slotLeader, a_slotLength, a_slotCommit, a_slotClient, a_slotNumber, a_slotOp) := by
      intro z
      refine ih (i + 1) n _ (by omega) (by omega) ?_
      rw [← td_n z]
      exact hv
    have drop : ((Z.2.2.2.2.2 i).1 = 2 ∧ (Z.2.2.2.2.2 i).2.2.1 = r ∧ c (Z.2.2.2.2.2 i).2.1 = true) → xd_l post (nI r) x2 n (nI (i + 1)) (f_PREPARE, f_PREPARE_OK, f_GET_STATE, f_NEW_STATE, f_START_VIEW_CHANGE, f_DO_VIEW_CHANGE, f_GET_LOG, f_NEW_LOG, f_START_VIEW, f_clients, f_capacity, f_letters, f_restarts, f_mailHead, f_mailTail, f_acks, f_votes, f_bestVoter, f_bestLast, f_bestLength, f_bestCommit, a_status, a_view, a_last, a_nonce, a_cell, a_length, a_commit, a_logClient, a_logNumber, a_logOp, a_registers, a_tableNumber, a_tableResult, a_mailKind, a_mailFrom, a_mailTo, a_mailView, a_mailLast, a_mailCommit, a_mailLength, a_mailBase, a_mailCount, a_mailClient, a_mailNumber, a_mailOp, a_voted, a_voteCommit, upd a_slotState (nI i).toNatClampNeg 0, a_slotFrom, a_slotTo, a_slotNonce, a_slotView, a_slotLeader, a_slotLength, a_slotCommit, a_slotClient, a_slotNumber, a_slotOp) := by
      intro z
      refine ih (i + 1) n _ (by omega) (by omega) ?_
      rw [← td_s z, ix_c (by omega)]
      refine sx_mk ⟨hZ.1, hZ.2.1, hZ.2.2.1, ?_⟩ hR hM hB
      have h := rz_st (s := i) (v := 0) hZ.2.2.2 (by omega)
      rw [eT] at h
      exact h
    refine br_f (by rw [hZ.1.2.2.1]; exact nI_ge (by omega : i < Z.2.2.1) (by omega)) ?_
    refine xm_held hv (by omega) hr (fun z => ?_) (fun z => ?_)
    · rw [eT] at z
      have ef : a_slotFrom (nI i).toNatClampNeg = nI (Z.2.2.2.2.2 i).2.1 := by
        have := (hZ.2.2.2 i (by omega)).2.1.2.1
        rw [eT] at this
        exact ix_rd (by omega) this
      have f5 : (Z.2.2.2.2.2 i).2.1 < 5 := by
        have := (hZ.2.2.2 i (by omega)).1.1.2.1
        rw [eT] at this
        exact this
      refine br_f (by decide) ?_
      rcases hc with ⟨h1, h2⟩ | ⟨f, h1, h2, h3⟩
      · exact br_t h1 ⟨i8, nm_e (nm_r (nI_1 i) (drop ⟨z.1, z.2, by rw [h2]⟩))⟩
      · refine br_f (by rw [h2]; exact nI_pos (by omega)) ⟨i8, pk_eq (Z.2.2.2.2.2 i).2.1 f (fun y => ⟨i8, nm_e (nm_r (nI_1 i) (drop ⟨z.1, z.2, by rw [h3]; exact decide_eq_true y⟩))⟩) (fun y => nm_r (nI_1 i) (keep (fun q => y ?_))) (hx := ef) (hy := h2)⟩
        have := q.2.2
        rw [h3] at this
        exact of_decide_eq_true this
    · rw [eT] at z
      exact br_t rfl (nm_r (nI_1 i) (keep (fun q => z ⟨q.1, q.2.1⟩)))
theorem xm_drop {u : SX} (hu : sx_R Z H hd tl Q B u) {r : Nat} (hr : r < 5) {x2 : Int32} {c : Nat → Bool} (hc : (x2 < 0 ∧ c = fun _ => true) ∨ ∃ f, f < 5 ∧ x2 = nI f ∧ c = fun a => decide (a = f))
    (hp : ∀ u', sx_R (zs_T Z (td_drop Z.2.2.2.2.2 Z.2.2.1 r c)) H hd tl Q B u' → post u') : wpX_dropHeld post u (nI r) x2 := by
  refine sx_el (P := fun u => wpX_dropHeld post u (nI r) x2) ?_ hu
  intro f_PREPARE f_PREPARE_OK f_GET_STATE f_NEW_STATE f_START_VIEW_CHANGE f_DO_VIEW_CHANGE f_GET_LOG f_NEW_LOG f_START_VIEW f_clients f_capacity f_letters f_restarts f_mailHead f_mailTail f_acks f_votes f_bestVoter f_bestLast f_bestLength f_bestCommit a_status a_view a_last a_nonce a_cell a_length a_commit a_logClient a_logNumber a_logOp a_registers a_tableNumber a_tableResult a_mailKind a_mailFrom a_mailTo a_mailView a_mailLast a_mailCommit a_mailLength a_mailBase a_mailCount a_mailClient a_mailNumber a_mailOp a_voted a_voteCommit a_slotState a_slotFrom a_slotTo a_slotNonce a_slotView a_slotLeader a_slotLength a_slotCommit a_slotClient a_slotNumber a_slotOp hZ hR hM hB
  refine ⟨Z.2.2.1 + 1, ?_⟩
  have h := xd_loop hr hc hp Z.2.2.1 0 (Z.2.2.1 + 1) (f_PREPARE, f_PREPARE_OK, f_GET_STATE, f_NEW_STATE, f_START_VIEW_CHANGE, f_DO_VIEW_CHANGE, f_GET_LOG, f_NEW_LOG, f_START_VIEW, f_clients, f_capacity, f_letters, f_restarts, f_mailHead, f_mailTail, f_acks, f_votes, f_bestVoter, f_bestLast, f_bestLength, f_bestCommit, a_status, a_view, a_last, a_nonce, a_cell, a_length, a_commit, a_logClient, a_logNumber, a_logOp, a_registers, a_tableNumber, a_tableResult, a_mailKind, a_mailFrom, a_mailTo, a_mailView, a_mailLast, a_mailCommit, a_mailLength, a_mailBase, a_mailCount, a_mailClient, a_mailNumber, a_mailOp, a_voted, a_voteCommit, a_slotState, a_slotFrom, a_slotTo, a_slotNonce, a_slotView, a_slotLeader, a_slotLength, a_slotCommit, a_slotClient, a_slotNumber, a_slotOp) (by omega) (by omega) ?_
  · exact h
  · rw [td_0]
    exact sx_mk hZ hR hM hB
/-- the first free slot from i on, among d -/
def ff_at (T : Nat → vg_L) : Nat → Nat → Nat
  | 0, i => i
  | d + 1, i => if (T i).1 = 0 then i else ff_at T d (i + 1)
theorem ff_le {T : Nat → vg_L} : ∀ d i, ff_at T d i ≤ i + d ∧ (ff_at T d i < i + d → (T (ff_at T d i)).1 = 0)
  | 0, i => ⟨Nat.le_refl _, fun h => absurd h (by show ¬ i < i + 0; omega)⟩
  | d + 1, i => by
    unfold ff_at
    by_cases e : (T i).1 = 0
    · rw [if_pos e]
      exact ⟨by omega, fun _ => e⟩
    · rw [if_neg e]
      have := ff_le (T := T) d (i + 1)
      exact ⟨by omega, fun h => this.2 (by omega)⟩
def ff_r (T : Nat → vg_L) (le : Nat) : Int32 := if ff_at T le 0 < le then nI (ff_at T le 0) else -1
end
section
variable {f_PREPARE f_PREPARE_OK f_GET_STATE f_NEW_STATE f_START_VIEW_CHANGE f_DO_VIEW_CHANGE f_GET_LOG f_NEW_LOG f_START_VIEW f_clients f_capacity f_letters f_restarts f_mailHead f_mailTail f_acks f_votes f_bestVoter f_bestLast f_bestLength f_bestCommit : Int32} {a_status a_view a_last a_nonce a_cell a_length a_commit a_logClient a_logNumber a_logOp a_registers a_tableNumber a_tableResult a_mailKind a_mailFrom a_mailTo a_mailView a_mailLast a_mailCommit a_mailLength a_mailBase a_mailCount a_mailClient a_mailNumber a_mailOp a_voted a_voteCommit a_slotState a_slotFrom a_slotTo a_slotNonce a_slotView a_slotLeader a_slotLength a_slotCommit a_slotClient a_slotNumber a_slotOp : Nat → Int32}
theorem xm_ff_l {post : Int32 → Prop} {T : Nat → vg_L} {le : Nat} (hle : le ≤ 8) (el : f_letters = nI le) (hs : ∀ s, s < 8 → a_slotState s = nI (T s).1 ∧ (T s).1 ≤ 2) :
    ∀ d i n : Nat, i + d = le → d < n → post (if ff_at T d i < le then nI (ff_at T d i) else -1) → wX_freeSlot_2 post f_PREPARE f_PREPARE_OK f_GET_STATE f_NEW_STATE f_START_VIEW_CHANGE f_DO_VIEW_CHANGE f_GET_LOG f_NEW_LOG f_START_VIEW f_clients f_capacity f_letters f_restarts f_mailHead f_mailTail f_acks f_votes f_bestVoter f_bestLast f_bestLength f_bestCommit a_status a_view a_last a_nonce a_cell a_length a_commit a_logClient a_logNumber a_logOp a_registers a_tableNumber a_tableResult a_mailKind a_mailFrom a_mailTo a_mailView a_mailLast a_mailCommit a_mailLength a_mailBase a_mailCount a_mailClient a_mailNumber a_mailOp a_voted a_voteCommit a_slotState a_slotFrom a_slotTo a_slotNonce a_slotView a_slotLeader a_slotLength a_slotCommit a_slotClient a_slotNumber a_slotOp n (nI i) := by
  intro d
  induction d with
  | zero =>
    intro i n hi hn h
    obtain ⟨n, rfl⟩ : ∃ k, n = k + 1 := ⟨n - 1, by omega⟩
    have hi' : i = le := hi
    subst hi'
    refine br_t (by rw [el]; exact Int32.le_refl _) ?_
    rw [if_neg (by show ¬ i < i; omega)] at h
    exact h
  | succ d ih =>
    intro i n hi hn h
    obtain ⟨n, rfl⟩ : ∃ k, n = k + 1 := ⟨n - 1, by omega⟩
    obtain ⟨e1, e2⟩ := hs i (by omega)
    refine br_f (by rw [el]; exact nI_ge (by omega : i < le) (by omega)) ⟨ix_8 (by omega), pk_eq (T i).1 0 (fun z => ?_) (fun z => nm_r (nI_1 i) ?_) (hx := ix_rd (by omega) e1)⟩
    · unfold ff_at at h
      rw [if_pos z, if_pos (by omega)] at h
      exact h
    · unfold ff_at at h
      rw [if_neg z] at h
      exact ih (i + 1) n (by omega) (by omega) h
end
theorem xm_free {Z : vg_Z} {H : Nat → vg_R} {hd tl : Nat} {Q : Nat → vg_M} {B : vg_B} {u : SX} {post : Int32 → Prop} (hu : sx_R Z H hd tl Q B u) (hp : post (ff_r Z.2.2.2.2.2 Z.2.2.1)) : wpX_freeSlot post u := by
  refine sx_el (P := fun u => wpX_freeSlot post u) ?_ hu
  intro f_PREPARE f_PREPARE_OK f_GET_STATE f_NEW_STATE f_START_VIEW_CHANGE f_DO_VIEW_CHANGE f_GET_LOG f_NEW_LOG f_START_VIEW f_clients f_capacity f_letters f_restarts f_mailHead f_mailTail f_acks f_votes f_bestVoter f_bestLast f_bestLength f_bestCommit a_status a_view a_last a_nonce a_cell a_length a_commit a_logClient a_logNumber a_logOp a_registers a_tableNumber a_tableResult a_mailKind a_mailFrom a_mailTo a_mailView a_mailLast a_mailCommit a_mailLength a_mailBase a_mailCount a_mailClient a_mailNumber a_mailOp a_voted a_voteCommit a_slotState a_slotFrom a_slotTo a_slotNonce a_slotView a_slotLeader a_slotLength a_slotCommit a_slotClient a_slotNumber a_slotOp hZ hR hM hB
  have zk := hZ.2.1
  unfold rz_ok at zk
  refine ⟨Z.2.2.1 + 1, ?_⟩
  exact xm_ff_l (T := Z.2.2.2.2.2) (le := Z.2.2.1) (by omega) hZ.1.2.2.1 (fun s hs => ⟨(hZ.2.2.2 s hs).2.1.1, (hZ.2.2.2 s hs).1.1.1⟩) Z.2.2.1 0 (Z.2.2.1 + 1) (by omega) (by omega) hp
end
section
/-! X: writing letters, recovery -/
def ak_let (H : Nat → vg_R) (r b : Nat) : vg_L := if (H b).2.1 % 5 = b then (1, b, r, (H r).2.2.2.1, (H b).2.1, 1, (H b).2.2.2.2.1, (H b).2.2.2.2.2.1, (H b).2.2.2.2.2.2) else (1, b, r, (H r).2.2.2.1, (H b).2.1, 0, 0, 0, (H b).2.2.2.2.2.2)
theorem rz_lt {T : Nat → vg_L} {s : Nat} {x : vg_L} {sS sF sT sN sV sD sZ sC cC cN cO sS' sF' sT' sN' sV' sD' sZ' sC' cC' cN' cO' : Nat → Int32} (h : rz_T T sS sF sT sN sV sD sZ sC cC cN cO)
    (ok : rt_ok x) (hx : rt_one x s sS' sF' sT' sN' sV' sD' sZ' sC' cC' cN' cO')
    (f1 : ∀ j, j ≠ s → sS' j = sS j ∧ sF' j = sF j ∧ sT' j = sT j ∧ sN' j = sN j ∧ sV' j = sV j ∧ sD' j = sD j ∧ sZ' j = sZ j ∧ sC' j = sC j)
    (f2 : ∀ j, (j < s * 32 ∨ s * 32 + 32 ≤ j) → cC' j = cC j ∧ cN' j = cN j ∧ cO' j = cO j) :
    rz_T (fs_set T s x) sS' sF' sT' sN' sV' sD' sZ' sC' cC' cN' cO' := by
  intro c hc
  by_cases e : c = s
  · subst e
    rw [fs_eq]
    exact ⟨ok, hx⟩
  · rw [fs_ne e]
    obtain ⟨okc, ⟨e1, e2, e3, e4, e5, e6, e7, e8⟩, l⟩ := h c hc
    obtain ⟨g1, g2, g3, g4, g5, g6, g7, g8⟩ := f1 c e
    refine ⟨okc, ⟨g1.trans e1, g2.trans e2, g3.trans e3, g4.trans e4, g5.trans e5, g6.trans e6, g7.trans e7, g8.trans e8⟩, fun i hi => ?_⟩
    have := okc.1
    obtain ⟨k1, k2, k3⟩ := f2 (c * 32 + i) (by omega)
    obtain ⟨m1, m2, m3⟩ := l i hi
    exact ⟨k1.trans m1, k2.trans m2, k3.trans m3⟩
section
variable {f_PREPARE f_PREPARE_OK f_GET_STATE f_NEW_STATE f_START_VIEW_CHANGE f_DO_VIEW_CHANGE f_GET_LOG f_NEW_LOG f_START_VIEW f_clients f_capacity f_letters f_restarts f_mailHead f_mailTail f_acks f_votes f_bestVoter f_bestLast f_bestLength f_bestCommit : Int32} {a_status a_view a_last a_nonce a_cell a_length a_commit a_logClient a_logNumber a_logOp a_registers a_tableNumber a_tableResult a_mailKind a_mailFrom a_mailTo a_mailView a_mailLast a_mailCommit a_mailLength a_mailBase a_mailCount a_mailClient a_mailNumber a_mailOp a_voted a_voteCommit a_slotState a_slotFrom a_slotTo a_slotNonce a_slotView a_slotLeader a_slotLength a_slotCommit a_slotClient a_slotNumber a_slotOp : Nat → Int32}
theorem xm_wl_l {post : SX → Prop} {s b c : Nat} (hb : b < 5) (hs : s < 8) (hc : c ≤ 32) (el : a_length b = nI c)
    (h : post (f_PREPARE, f_PREPARE_OK, f_GET_STATE, f_NEW_STATE, f_START_VIEW_CHANGE, f_DO_VIEW_CHANGE, f_GET_LOG, f_NEW_LOG, f_START_VIEW, f_clients, f_capacity, f_letters, f_restarts, f_mailHead, f_mailTail, f_acks, f_votes, f_bestVoter, f_bestLast, f_bestLength, f_bestCommit, a_status, a_view, a_last, a_nonce, a_cell, a_length, a_commit, a_logClient, a_logNumber, a_logOp, a_registers, a_tableNumber, a_tableResult, a_mailKind, a_mailFrom, a_mailTo, a_mailView, a_mailLast, a_mailCommit, a_mailLength, a_mailBase, a_mailCount, a_mailClient, a_mailNumber, a_mailOp, a_voted, a_voteCommit, a_slotState, a_slotFrom, a_slotTo, a_slotNonce, a_slotView, a_slotLeader, a_slotLength, a_slotCommit, cp_cpy a_slotClient a_logClient (s * 32) (b * 32) c, cp_cpy a_slotNumber a_logNumber (s * 32) (b * 32) c, cp_cpy a_slotOp a_logOp (s * 32) (b * 32) c)) :
    ∀ (d i n : Nat), i + d = c → d < n →
    wX_writeLetter_109 post (nI s) (nI b) f_PREPARE f_PREPARE_OK f_GET_STATE f_NEW_STATE f_START_VIEW_CHANGE f_DO_VIEW_CHANGE f_GET_LOG f_NEW_LOG f_START_VIEW f_clients f_capacity f_letters f_restarts f_mailHead f_mailTail f_acks f_votes f_bestVoter f_bestLast f_bestLength f_bestCommit n (nI i) a_status a_view a_last a_nonce a_cell a_length a_commit a_logClient a_logNumber a_logOp a_registers a_tableNumber a_tableResult a_mailKind a_mailFrom a_mailTo a_mailView a_mailLast a_mailCommit a_mailLength a_mailBase a_mailCount a_mailClient a_mailNumber a_mailOp a_voted a_voteCommit a_slotState a_slotFrom a_slotTo a_slotNonce a_slotView a_slotLeader a_slotLength a_slotCommit (cp_cpy a_slotClient a_logClient (s * 32) (b * 32) i) (cp_cpy a_slotNumber a_logNumber (s * 32) (b * 32) i) (cp_cpy a_slotOp a_logOp (s * 32) (b * 32) i) := by
  intro d
  have rl : a_length (nI b).toNatClampNeg = nI c := ix_rd (by omega) el
  induction d with
  | zero =>
    intro i n hi hn
    obtain ⟨n, rfl⟩ : ∃ k, n = k + 1 := ⟨n - 1, by omega⟩
    have hi' : i = c := hi
    subst hi'
    exact ⟨ix_5 hb, br_t (by rw [rl]; exact Int32.le_refl _) h⟩
  | succ d ih =>
    intro i n hi hn
    obtain ⟨n, rfl⟩ : ∃ k, n = k + 1 := ⟨n - 1, by omega⟩
    have i1 : vp_in (nI (b * 32 + i)) 160 := ix_160 (by omega)
    have i2 : vp_in (nI (s * 32 + i)) 256 := ix_256 (by omega)
    refine ⟨ix_5 hb, br_f (by rw [rl]; exact nI_ge (by omega) (by omega)) (nm_r (ix_m32 b i) (nm_r (ix_m32 s i) ⟨i1, i2, nm_e ⟨i1, i2, nm_e ⟨i1, i2, nm_e (nm_r (nI_1 i) ?_)⟩⟩⟩))⟩
    rw [ix_c (by omega), ix_c (by omega), cp_s, cp_s, cp_s]
    exact ih (i + 1) n (by omega) (by omega)
theorem xm_wl_0 {post : SX → Prop} {s b c : Nat} (hb : b < 5) (hs : s < 8) (hc : c ≤ 32) (el : a_length b = nI c)
    (h : post (f_PREPARE, f_PREPARE_OK, f_GET_STATE, f_NEW_STATE, f_START_VIEW_CHANGE, f_DO_VIEW_CHANGE, f_GET_LOG, f_NEW_LOG, f_START_VIEW, f_clients, f_capacity, f_letters, f_restarts, f_mailHead, f_mailTail, f_acks, f_votes, f_bestVoter, f_bestLast, f_bestLength, f_bestCommit, a_status, a_view, a_last, a_nonce, a_cell, a_length, a_commit, a_logClient, a_logNumber, a_logOp, a_registers, a_tableNumber, a_tableResult, a_mailKind, a_mailFrom, a_mailTo, a_mailView, a_mailLast, a_mailCommit, a_mailLength, a_mailBase, a_mailCount, a_mailClient, a_mailNumber, a_mailOp, a_voted, a_voteCommit, a_slotState, a_slotFrom, a_slotTo, a_slotNonce, a_slotView, a_slotLeader, a_slotLength, a_slotCommit, cp_cpy a_slotClient a_logClient (s * 32) (b * 32) c, cp_cpy a_slotNumber a_logNumber (s * 32) (b * 32) c, cp_cpy a_slotOp a_logOp (s * 32) (b * 32) c)) :
    wX_writeLetter_109 post (nI s) (nI b) f_PREPARE f_PREPARE_OK f_GET_STATE f_NEW_STATE f_START_VIEW_CHANGE f_DO_VIEW_CHANGE f_GET_LOG f_NEW_LOG f_START_VIEW f_clients f_capacity f_letters f_restarts f_mailHead f_mailTail f_acks f_votes f_bestVoter f_bestLast f_bestLength f_bestCommit (c + 1) 0 a_status a_view a_last a_nonce a_cell a_length a_commit a_logClient a_logNumber a_logOp a_registers a_tableNumber a_tableResult a_mailKind a_mailFrom a_mailTo a_mailView a_mailLast a_mailCommit a_mailLength a_mailBase a_mailCount a_mailClient a_mailNumber a_mailOp a_voted a_voteCommit a_slotState a_slotFrom a_slotTo a_slotNonce a_slotView a_slotLeader a_slotLength a_slotCommit a_slotClient a_slotNumber a_slotOp := by
  have h2 := xm_wl_l hb hs hc el h c 0 (c + 1) (by omega) (by omega)
  rw [cp_0, cp_0, cp_0] at h2
  exact h2
theorem xm_rc_l {post : SX → Prop} {r s c : Nat} (hr : r < 5) (hs : s < 8) (hc : c ≤ 32) (el : a_slotLength s = nI c)
    (h : ∀ n, wX_recover_2 post (nI r) (nI s) f_PREPARE f_PREPARE_OK f_GET_STATE f_NEW_STATE f_START_VIEW_CHANGE f_DO_VIEW_CHANGE f_GET_LOG f_NEW_LOG f_START_VIEW f_clients f_capacity f_letters f_restarts f_mailHead f_mailTail f_acks f_votes f_bestVoter f_bestLast f_bestLength f_bestCommit (n + 1) (nI c) a_status a_view a_last a_nonce a_cell a_length a_commit (cp_cpy a_logClient a_slotClient (r * 32) (s * 32) c) (cp_cpy a_logNumber a_slotNumber (r * 32) (s * 32) c) (cp_cpy a_logOp a_slotOp (r * 32) (s * 32) c) a_registers a_tableNumber a_tableResult a_mailKind a_mailFrom a_mailTo a_mailView a_mailLast a_mailCommit a_mailLength a_mailBase a_mailCount a_mailClient a_mailNumber a_mailOp a_voted a_voteCommit a_slotState a_slotFrom a_slotTo a_slotNonce a_slotView a_slotLeader a_slotLength a_slotCommit a_slotClient a_slotNumber a_slotOp) :
    ∀ (d i n : Nat), i + d = c → d < n →
    wX_recover_2 post (nI r) (nI s) f_PREPARE f_PREPARE_OK f_GET_STATE f_NEW_STATE f_START_VIEW_CHANGE f_DO_VIEW_CHANGE f_GET_LOG f_NEW_LOG f_START_VIEW f_clients f_capacity f_letters f_restarts f_mailHead f_mailTail f_acks f_votes f_bestVoter f_bestLast f_bestLength f_bestCommit n (nI i) a_status a_view a_last a_nonce a_cell a_length a_commit (cp_cpy a_logClient a_slotClient (r * 32) (s * 32) i) (cp_cpy a_logNumber a_slotNumber (r * 32) (s * 32) i) (cp_cpy a_logOp a_slotOp (r * 32) (s * 32) i) a_registers a_tableNumber a_tableResult a_mailKind a_mailFrom a_mailTo a_mailView a_mailLast a_mailCommit a_mailLength a_mailBase a_mailCount a_mailClient a_mailNumber a_mailOp a_voted a_voteCommit a_slotState a_slotFrom a_slotTo a_slotNonce a_slotView a_slotLeader a_slotLength a_slotCommit a_slotClient a_slotNumber a_slotOp := by
  intro d
  have rl : a_slotLength (nI s).toNatClampNeg = nI c := ix_rd (by omega) el
  induction d with
  | zero =>
    intro i n hi hn
    obtain ⟨n, rfl⟩ : ∃ k, n = k + 1 := ⟨n - 1, by omega⟩
    have hi' : i = c := hi
    subst hi'
    exact h n
  | succ d ih =>
    intro i n hi hn
    obtain ⟨n, rfl⟩ : ∃ k, n = k + 1 := ⟨n - 1, by omega⟩
    have i1 : vp_in (nI (s * 32 + i)) 256 := ix_256 (by omega)
    have i2 : vp_in (nI (r * 32 + i)) 160 := ix_160 (by omega)
    refine ⟨ix_8 hs, br_f (by rw [rl]; exact nI_ge (by omega) (by omega)) (nm_r (ix_m32 s i) (nm_r (ix_m32 r i) ⟨i1, i2, nm_e ⟨i1, i2, nm_e ⟨i1, i2, nm_e (nm_r (nI_1 i) ?_)⟩⟩⟩))⟩
    rw [ix_c (by omega), ix_c (by omega), cp_s, cp_s, cp_s]
    exact ih (i + 1) n (by omega) (by omega)
theorem xm_rc_0 {post : SX → Prop} {r s c : Nat} (hr : r < 5) (hs : s < 8) (hc : c ≤ 32) (el : a_slotLength s = nI c)
    (h : ∀ n, wX_recover_2 post (nI r) (nI s) f_PREPARE f_PREPARE_OK f_GET_STATE f_NEW_STATE f_START_VIEW_CHANGE f_DO_VIEW_CHANGE f_GET_LOG f_NEW_LOG f_START_VIEW f_clients f_capacity f_letters f_restarts f_mailHead f_mailTail f_acks f_votes f_bestVoter f_bestLast f_bestLength f_bestCommit (n + 1) (nI c) a_status a_view a_last a_nonce a_cell a_length a_commit (cp_cpy a_logClient a_slotClient (r * 32) (s * 32) c) (cp_cpy a_logNumber a_slotNumber (r * 32) (s * 32) c) (cp_cpy a_logOp a_slotOp (r * 32) (s * 32) c) a_registers a_tableNumber a_tableResult a_mailKind a_mailFrom a_mailTo a_mailView a_mailLast a_mailCommit a_mailLength a_mailBase a_mailCount a_mailClient a_mailNumber a_mailOp a_voted a_voteCommit a_slotState a_slotFrom a_slotTo a_slotNonce a_slotView a_slotLeader a_slotLength a_slotCommit a_slotClient a_slotNumber a_slotOp) :
    wX_recover_2 post (nI r) (nI s) f_PREPARE f_PREPARE_OK f_GET_STATE f_NEW_STATE f_START_VIEW_CHANGE f_DO_VIEW_CHANGE f_GET_LOG f_NEW_LOG f_START_VIEW f_clients f_capacity f_letters f_restarts f_mailHead f_mailTail f_acks f_votes f_bestVoter f_bestLast f_bestLength f_bestCommit (c + 1) 0 a_status a_view a_last a_nonce a_cell a_length a_commit a_logClient a_logNumber a_logOp a_registers a_tableNumber a_tableResult a_mailKind a_mailFrom a_mailTo a_mailView a_mailLast a_mailCommit a_mailLength a_mailBase a_mailCount a_mailClient a_mailNumber a_mailOp a_voted a_voteCommit a_slotState a_slotFrom a_slotTo a_slotNonce a_slotView a_slotLeader a_slotLength a_slotCommit a_slotClient a_slotNumber a_slotOp := by
  have h2 := xm_rc_l hr hs hc el h c 0 (c + 1) (by omega) (by omega)
  rw [cp_0, cp_0, cp_0] at h2
  exact h2
end
section
variable {Z : vg_Z} {H : Nat → vg_R} {hd tl : Nat} {Q : Nat → vg_M} {B : vg_B} {u : SX} {post : SX → Prop}
theorem xm_wl (hu : sx_R Z H hd tl Q B u) {s b r : Nat} (hs : s < 8) (hb : b < 5) (hr : r < 5)
    (hp : ∀ u', sx_R (zs_T Z (fs_set Z.2.2.2.2.2 s (ak_let H r b))) H hd tl Q B u' → post u') : wpX_writeLetter post u (nI s) (nI b) (nI r) := by
  refine sx_el (P := fun u => wpX_writeLetter post u (nI s) (nI b) (nI r)) ?_ hu
  intro f_PREPARE f_PREPARE_OK f_GET_STATE f_NEW_STATE f_START_VIEW_CHANGE f_DO_VIEW_CHANGE f_GET_LOG f_NEW_LOG f_START_VIEW f_clients f_capacity f_letters f_restarts f_mailHead f_mailTail f_acks f_votes f_bestVoter f_bestLast f_bestLength f_bestCommit a_status a_view a_last a_nonce a_cell a_length a_commit a_logClient a_logNumber a_logOp a_registers a_tableNumber a_tableResult a_mailKind a_mailFrom a_mailTo a_mailView a_mailLast a_mailCommit a_mailLength a_mailBase a_mailCount a_mailClient a_mailNumber a_mailOp a_voted a_voteCommit a_slotState a_slotFrom a_slotTo a_slotNonce a_slotView a_slotLeader a_slotLength a_slotCommit a_slotClient a_slotNumber a_slotOp hZ hR hM hB
  have i8 := ix_8 hs
  have ib := ix_5 hb
  have ir := ix_5 hr
  obtain ⟨okb, ⟨s1, s2, s3, s4, s5, s6⟩, l, _⟩ := hR b hb
  obtain ⟨okr, ⟨t1, t2, t3, t4, t5, t6⟩, _⟩ := hR r hr
  have okb1 := okb.1
  have okr1 := okr.1
  refine ⟨i8, nm_e ⟨i8, nm_e ⟨i8, nm_e ⟨ir, i8, nm_e ⟨ib, i8, nm_e ⟨i8, nm_e ⟨i8, nm_e ⟨i8, nm_e ?_⟩⟩⟩⟩⟩⟩⟩⟩
  rw [ix_rd (by omega : r < 2000) t4, ix_rd (by omega : b < 2000) s2]
  have c8 : (nI s).toNatClampNeg = s := ix_c (by omega)
  rw [c8]
  have hTn : (H b).2.1 % 5 ≠ b → rz_T (fs_set Z.2.2.2.2.2 s (ak_let H r b)) (upd a_slotState s 1) (upd a_slotFrom s (nI b)) (upd a_slotTo s (nI r)) (upd a_slotNonce s (nI (H r).2.2.2.1)) (upd a_slotView s (nI (H b).2.1)) (upd a_slotLeader s 0) (upd a_slotLength s 0) (upd a_slotCommit s 0) a_slotClient a_slotNumber a_slotOp := by
    intro z
    unfold ak_let
    rw [if_neg z]
    refine rz_lt hZ.2.2.2 ⟨⟨(by decide : (1 : Nat) ≤ 2), hb, hr, okr1.2.2.2.1, okb1.2.1, Nat.zero_le _, Nat.zero_le _, Nat.zero_le _⟩, fun i hi => absurd hi (by dsimp only; omega)⟩ ⟨⟨pk_us, pk_us, pk_us, pk_us, pk_us, pk_us, pk_us, pk_us⟩, fun i hi => absurd hi (by dsimp only; omega)⟩ (fun j hj => ⟨pk_un hj, pk_un hj, pk_un hj, pk_un hj, pk_un hj, pk_un hj, pk_un hj, pk_un hj⟩) (fun j hj => ⟨rfl, rfl, rfl⟩)
  -- its log and commit number only if it leads
  have hTl : (H b).2.1 % 5 = b → rz_T (fs_set Z.2.2.2.2.2 s (ak_let H r b)) (upd a_slotState s 1) (upd a_slotFrom s (nI b)) (upd a_slotTo s (nI r)) (upd a_slotNonce s (nI (H r).2.2.2.1)) (upd a_slotView s (nI (H b).2.1)) (upd (upd a_slotLeader s 0) s 1) (upd (upd a_slotLength s 0) s (nI (H b).2.2.2.2.1)) (upd (upd a_slotCommit s 0) s (nI (H b).2.2.2.2.2.1)) (cp_cpy a_slotClient a_logClient (s * 32) (b * 32) (H b).2.2.2.2.1) (cp_cpy a_slotNumber a_logNumber (s * 32) (b * 32) (H b).2.2.2.2.1) (cp_cpy a_slotOp a_logOp (s * 32) (b * 32) (H b).2.2.2.2.1) := by
    intro z
    unfold ak_let
    rw [if_pos z]
    refine rz_lt hZ.2.2.2 ⟨⟨(by decide : (1 : Nat) ≤ 2), hb, hr, okr1.2.2.2.1, okb1.2.1, Nat.le_refl _, okb1.2.2.2.2.1, okb1.2.2.2.2.2⟩, okb.2⟩ ⟨⟨pk_us, pk_us, pk_us, pk_us, pk_us, pk_us, pk_us, pk_us⟩, fun i hi => ?_⟩ (fun j hj => ⟨pk_un hj, pk_un hj, pk_un hj, pk_un hj, pk_un hj, (pk_un hj).trans (pk_un hj), (pk_un hj).trans (pk_un hj), (pk_un hj).trans (pk_un hj)⟩) (fun j hj => ⟨cp_out (by omega), cp_out (by omega), cp_out (by omega)⟩)
    dsimp only at hi ⊢
    rw [cp_in i hi, cp_in i hi, cp_in i hi]
    exact l i hi
  have hv0 : sx_R (zs_T Z (fs_set Z.2.2.2.2.2 s (1, b, r, (H r).2.2.2.1, (H b).2.1, 0, 0, 0, (H b).2.2.2.2.2.2))) H hd tl Q B (f_PREPARE, f_PREPARE_OK, f_GET_STATE, f_NEW_STATE, f_START_VIEW_CHANGE, f_DO_VIEW_CHANGE, f_GET_LOG, f_NEW_LOG, f_START_VIEW, f_clients, f_capacity, f_letters, f_restarts, f_mailHead, f_mailTail, f_acks, f_votes, f_bestVoter, f_bestLast, f_bestLength, f_bestCommit, a_status, a_view, a_last, a_nonce, a_cell, a_length, a_commit, a_logClient, a_logNumber, a_logOp, a_registers, a_tableNumber, a_tableResult, a_mailKind, a_mailFrom, a_mailTo, a_mailView, a_mailLast, a_mailCommit, a_mailLength, a_mailBase, a_mailCount, a_mailClient, a_mailNumber, a_mailOp, a_voted, a_voteCommit, upd a_slotState s 1, upd a_slotFrom s (nI b), upd a_slotTo s (nI r), upd a_slotNonce s (nI (H r).2.2.2.1), upd a_slotView s (nI (H b).2.1), upd a_slotLeader s 0, upd a_slotLength s 0, upd a_slotCommit s 0, a_slotClient, a_slotNumber, a_slotOp) := by
    refine sx_mk ⟨hZ.1, hZ.2.1, hZ.2.2.1, ?_⟩ hR hM hB
    refine rz_lt hZ.2.2.2 ⟨⟨(by decide : (1 : Nat) ≤ 2), hb, hr, okr1.2.2.2.1, okb1.2.1, Nat.zero_le _, Nat.zero_le _, Nat.zero_le _⟩, fun i hi => absurd hi (by dsimp only; omega)⟩ ⟨⟨pk_us, pk_us, pk_us, pk_us, pk_us, pk_us, pk_us, pk_us⟩, fun i hi => absurd hi (by dsimp only; omega)⟩ (fun j hj => ⟨pk_un hj, pk_un hj, pk_un hj, pk_un hj, pk_un hj, pk_un hj, pk_un hj, pk_un hj⟩) (fun j hj => ⟨rfl, rfl, rfl⟩)
  refine xm_leads hv0 hb (fun z => br_f (by decide) ⟨i8, nm_e ⟨ib, i8, nm_e ⟨ib, i8, nm_e ⟨(H b).2.2.2.2.1 + 1, ?_⟩⟩⟩⟩) (fun z => br_t rfl (hp _ (sx_mk ⟨hZ.1, hZ.2.1, hZ.2.2.1, hTn z⟩ hR hM hB)))
  rw [ix_rd (by omega : b < 2000) s5, ix_rd (by omega : b < 2000) s6]
  exact xm_wl_0 hb hs (by omega) s5 (hp _ (sx_mk ⟨hZ.1, hZ.2.1, hZ.2.2.1, hTl z⟩ hR hM hB))
theorem xm_recover (hu : sx_R Z H hd tl Q B u) {r s : Nat} (hr : r < 5) (hs : s < 8) (hc0 : (H r).2.2.2.2.2.1 = 0)
    (hp : ∀ u', sx_R Z (fs_set H r (0, (Z.2.2.2.2.2 s).2.2.2.2.1, (Z.2.2.2.2.2 s).2.2.2.2.1, 0, (Z.2.2.2.2.2 s).2.2.2.2.2.2.1, (Z.2.2.2.2.2 s).2.2.2.2.2.2.2.1, (Z.2.2.2.2.2 s).2.2.2.2.2.2.2.2)) hd tl Q B u' → post u') : wpX_recover post u (nI r) (nI s) := by
  refine sx_el (P := fun u => wpX_recover post u (nI r) (nI s)) ?_ hu
  intro f_PREPARE f_PREPARE_OK f_GET_STATE f_NEW_STATE f_START_VIEW_CHANGE f_DO_VIEW_CHANGE f_GET_LOG f_NEW_LOG f_START_VIEW f_clients f_capacity f_letters f_restarts f_mailHead f_mailTail f_acks f_votes f_bestVoter f_bestLast f_bestLength f_bestCommit a_status a_view a_last a_nonce a_cell a_length a_commit a_logClient a_logNumber a_logOp a_registers a_tableNumber a_tableResult a_mailKind a_mailFrom a_mailTo a_mailView a_mailLast a_mailCommit a_mailLength a_mailBase a_mailCount a_mailClient a_mailNumber a_mailOp a_voted a_voteCommit a_slotState a_slotFrom a_slotTo a_slotNonce a_slotView a_slotLeader a_slotLength a_slotCommit a_slotClient a_slotNumber a_slotOp hZ hR hM hB
  obtain ⟨okt, ⟨e1, e2, e3, e4, e5, e6, e7, e8⟩, lt⟩ := hZ.2.2.2 s hs
  obtain ⟨okr, ⟨t1, t2, t3, t4, t5, t6⟩, l, x⟩ := hR r hr
  have okt1 := okt.1
  have okr1 := okr.1
  have i8 := ix_8 hs
  have ir := ix_5 hr
  refine ⟨(Z.2.2.2.2.2 s).2.2.2.2.2.2.1 + 1, xm_rc_0 hr hs okt1.2.2.2.2.2.2.1 e7 (fun n => ?_)⟩
  refine ⟨i8, br_t (by rw [ix_rd (by omega : s < 2000) e7]; exact Int32.le_refl _) ⟨i8, ir, nm_e ⟨ir, nm_e ⟨i8, ?_⟩⟩⟩⟩
  rw [ix_rd (by omega : s < 2000) e7, ix_rd (by omega : s < 2000) e5, ix_c (b := r) (by omega)]
  refine xm_enter (H := fs_set H r ((H r).1, (H r).2.1, (H r).2.2.1, 0, (Z.2.2.2.2.2 s).2.2.2.2.2.2.1, (H r).2.2.2.2.2.1, (Z.2.2.2.2.2 s).2.2.2.2.2.2.2.2)) (sx_mk hZ ?_ hM hB) hr okt1.2.2.2.2.1 (fun u1 hu1 => ?_)
  · refine rr_set hR ⟨by dsimp only; omega, okt.2⟩ ⟨⟨t1, t2, t3, pk_us, pk_us, t6⟩, fun i hi => ?_, fun i hi => ?_⟩ (fun j hj => ⟨rfl, rfl, rfl, pk_un hj, pk_un hj, rfl⟩) (fun j hj => ⟨cp_out (by omega), cp_out (by omega), cp_out (by omega)⟩) (fun j hj => ⟨rfl, rfl, rfl⟩)
    · dsimp only at hi ⊢
      rw [cp_in i hi, cp_in i hi, cp_in i hi]
      exact lt i hi
    · have := x i hi
      rw [hc0] at this
      dsimp only
      rw [hc0]
      exact this
  · simp only [fs_eq, fs_fs] at hu1
    clear hZ hR hM hB e1 e2 e3 e4 e5 e6 e7 e8 lt t1 t2 t3 t4 t5 t6 l x
    obtain ⟨f_PREPARE, f_PREPARE_OK, f_GET_STATE, f_NEW_STATE, f_START_VIEW_CHANGE, f_DO_VIEW_CHANGE, f_GET_LOG, f_NEW_LOG, f_START_VIEW, f_clients, f_capacity, f_letters, f_restarts, f_mailHead, f_mailTail, f_acks, f_votes, f_bestVoter, f_bestLast, f_bestLength, f_bestCommit, a_status, a_view, a_last, a_nonce, a_cell, a_length, a_commit, a_logClient, a_logNumber, a_logOp, a_registers, a_tableNumber, a_tableResult, a_mailKind, a_mailFrom, a_mailTo, a_mailView, a_mailLast, a_mailCommit, a_mailLength, a_mailBase, a_mailCount, a_mailClient, a_mailNumber, a_mailOp, a_voted, a_voteCommit, a_slotState, a_slotFrom, a_slotTo, a_slotNonce, a_slotView, a_slotLeader, a_slotLength, a_slotCommit, a_slotClient, a_slotNumber, a_slotOp⟩ := u1
    obtain ⟨hZ, hR, hM, hB⟩ := hu1
    obtain ⟨_, ⟨e1, e2, e3, e4, e5, e6, e7, e8⟩, _⟩ := hZ.2.2.2 s hs
    refine ⟨i8, ?_⟩
    rw [ix_rd (by omega : s < 2000) e8]
    refine xm_adv (sx_mk hZ hR hM hB) hr (by rw [fs_eq]; exact okt1.2.2.2.2.2.2.2) (fun u2 hu2 => hp u2 ?_)
    simp only [fs_eq, fs_fs] at hu2
    rw [hc0, Nat.zero_max] at hu2
    exact hu2
end
/-! ask -/
def ak_T (H : Nat → vg_R) (ce : Nat → Nat) (r le : Nat) (T : Nat → vg_L) : Nat → (Nat → vg_L) × Nat
  | 0 => (T, 0)
  | b + 1 => if vg_tch H ce r b = true ∧ (H b).1 = 0 ∧ ff_at (ak_T H ce r le T b).1 le 0 < le then (fs_set (ak_T H ce r le T b).1 (ff_at (ak_T H ce r le T b).1 le 0) (ak_let H r b), (ak_T H ce r le T b).2 + 1) else ak_T H ce r le T b
theorem ak_n {H : Nat → vg_R} {ce : Nat → Nat} {r le : Nat} {T : Nat → vg_L} : ∀ b, (ak_T H ce r le T b).2 ≤ b
  | 0 => Nat.le_refl _
  | b + 1 => by
    have := ak_n (H := H) (ce := ce) (r := r) (le := le) (T := T) b
    unfold ak_T
    split
    · dsimp only; omega
    · omega
def xa_l (post : Int32 → SX → Prop) (x1 : Int32) (n : Nat) (x2 x3 : Int32) (u : SX) : Prop := match u with
  | (f_PREPARE, f_PREPARE_OK, f_GET_STATE, f_NEW_STATE, f_START_VIEW_CHANGE, f_DO_VIEW_CHANGE, f_GET_LOG, f_NEW_LOG, f_START_VIEW, f_clients, f_capacity, f_letters, f_restarts, f_mailHead, f_mailTail, f_acks, f_votes, f_bestVoter, f_bestLast, f_bestLength, f_bestCommit, a_status, a_view, a_last, a_nonce, a_cell, a_length, a_commit, a_logClient, a_logNumber, a_logOp, a_registers, a_tableNumber, a_tableResult, a_mailKind, a_mailFrom, a_mailTo, a_mailView, a_mailLast, a_mailCommit, a_mailLength, a_mailBase, a_mailCount, a_mailClient, a_mailNumber, a_mailOp, a_voted, a_voteCommit, a_slotState, a_slotFrom, a_slotTo, a_slotNonce, a_slotView, a_slotLeader, a_slotLength, a_slotCommit, a_slotClient, a_slotNumber, a_slotOp) => wX_ask_27 post x1 n x2 x3 f_PREPARE f_PREPARE_OK f_GET_STATE f_NEW_STATE f_START_VIEW_CHANGE f_DO_VIEW_CHANGE f_GET_LOG f_NEW_LOG f_START_VIEW f_clients f_capacity f_letters f_restarts f_mailHead f_mailTail f_acks f_votes f_bestVoter f_bestLast f_bestLength f_bestCommit a_status a_view a_last a_nonce a_cell a_length a_commit a_logClient a_logNumber a_logOp a_registers a_tableNumber a_tableResult a_mailKind a_mailFrom a_mailTo a_mailView a_mailLast a_mailCommit a_mailLength a_mailBase a_mailCount a_mailClient a_mailNumber a_mailOp a_voted a_voteCommit a_slotState a_slotFrom a_slotTo a_slotNonce a_slotView a_slotLeader a_slotLength a_slotCommit a_slotClient a_slotNumber a_slotOp
section
variable {Z : vg_Z} {H : Nat → vg_R} {hd tl : Nat} {Q : Nat → vg_M} {B : vg_B} {post : Int32 → SX → Prop}
theorem xa_loop {r : Nat} (hr : r < 5) (hp : ∀ u', sx_R (zs_T Z (ak_T H Z.2.2.2.2.1 r Z.2.2.1 Z.2.2.2.2.2 5).1) H hd tl Q B u' → post (nI (ak_T H Z.2.2.2.2.1 r Z.2.2.1 Z.2.2.2.2.2 5).2) u') :
    ∀ (d b n : Nat) (u : SX), b + d = 5 → d < n → sx_R (zs_T Z (ak_T H Z.2.2.2.2.1 r Z.2.2.1 Z.2.2.2.2.2 b).1) H hd tl Q B u → xa_l post (nI r) n (nI (ak_T H Z.2.2.2.2.1 r Z.2.2.1 Z.2.2.2.2.2 b).2) (nI b) u := by
  intro d
  induction d with
  | zero =>
    intro b n u hb hn hu
    obtain ⟨n, rfl⟩ : ∃ k, n = k + 1 := ⟨n - 1, by omega⟩
    have hb' : b = 5 := hb
    subst hb'
    refine sx_el (P := fun u => xa_l post (nI r) (n + 1) (nI (ak_T H Z.2.2.2.2.1 r Z.2.2.1 Z.2.2.2.2.2 5).2) (nI 5) u) ?_ hu
    intro f_PREPARE f_PREPARE_OK f_GET_STATE f_NEW_STATE f_START_VIEW_CHANGE f_DO_VIEW_CHANGE f_GET_LOG f_NEW_LOG f_START_VIEW f_clients f_capacity f_letters f_restarts f_mailHead f_mailTail f_acks f_votes f_bestVoter f_bestLast f_bestLength f_bestCommit a_status a_view a_last a_nonce a_cell a_length a_commit a_logClient a_logNumber a_logOp a_registers a_tableNumber a_tableResult a_mailKind a_mailFrom a_mailTo a_mailView a_mailLast a_mailCommit a_mailLength a_mailBase a_mailCount a_mailClient a_mailNumber a_mailOp a_voted a_voteCommit a_slotState a_slotFrom a_slotTo a_slotNonce a_slotView a_slotLeader a_slotLength a_slotCommit a_slotClient a_slotNumber a_slotOp hZ hR hM hB
    exact br_t (Int32.le_refl _) (hp _ (sx_mk hZ hR hM hB))
  | succ d ih =>
    intro b n u hb hn hu
    obtain ⟨n, rfl⟩ : ∃ k, n = k + 1 := ⟨n - 1, by omega⟩
    have hb5 : b < 5 := by omega
    have ih1 := ih (b + 1) n
    clear ih
    generalize hTn : ak_T H Z.2.2.2.2.1 r Z.2.2.1 Z.2.2.2.2.2 b = TN at hu ⊢
    obtain ⟨T, N⟩ := TN
    have hN : N ≤ b := by
      have := ak_n (H := H) (ce := Z.2.2.2.2.1) (r := r) (le := Z.2.2.1) (T := Z.2.2.2.2.2) b
      rw [hTn] at this
      exact this
    have hnx : ak_T H Z.2.2.2.2.1 r Z.2.2.1 Z.2.2.2.2.2 (b + 1) = if vg_tch H Z.2.2.2.2.1 r b = true ∧ (H b).1 = 0 ∧ ff_at T Z.2.2.1 0 < Z.2.2.1 then (fs_set T (ff_at T Z.2.2.1 0) (ak_let H r b), N + 1) else (T, N) := by
      show (if vg_tch H Z.2.2.2.2.1 r b = true ∧ (H b).1 = 0 ∧ ff_at (ak_T H Z.2.2.2.2.1 r Z.2.2.1 Z.2.2.2.2.2 b).1 Z.2.2.1 0 < Z.2.2.1 then (fs_set (ak_T H Z.2.2.2.2.1 r Z.2.2.1 Z.2.2.2.2.2 b).1 (ff_at (ak_T H Z.2.2.2.2.1 r Z.2.2.1 Z.2.2.2.2.2 b).1 Z.2.2.1 0) (ak_let H r b), (ak_T H Z.2.2.2.2.1 r Z.2.2.1 Z.2.2.2.2.2 b).2 + 1) else ak_T H Z.2.2.2.2.1 r Z.2.2.1 Z.2.2.2.2.2 b) = _
      rw [hTn]
    rw [hnx] at ih1
    dsimp only at hu
    refine sx_el (P := fun u => xa_l post (nI r) (n + 1) (nI N) (nI b) u) ?_ hu
    intro f_PREPARE f_PREPARE_OK f_GET_STATE f_NEW_STATE f_START_VIEW_CHANGE f_DO_VIEW_CHANGE f_GET_LOG f_NEW_LOG f_START_VIEW f_clients f_capacity f_letters f_restarts f_mailHead f_mailTail f_acks f_votes f_bestVoter f_bestLast f_bestLength f_bestCommit a_status a_view a_last a_nonce a_cell a_length a_commit a_logClient a_logNumber a_logOp a_registers a_tableNumber a_tableResult a_mailKind a_mailFrom a_mailTo a_mailView a_mailLast a_mailCommit a_mailLength a_mailBase a_mailCount a_mailClient a_mailNumber a_mailOp a_voted a_voteCommit a_slotState a_slotFrom a_slotTo a_slotNonce a_slotView a_slotLeader a_slotLength a_slotCommit a_slotClient a_slotNumber a_slotOp hZ hR hM hB
    have hv := sx_mk hZ hR hM hB (f_PREPARE := f_PREPARE) (f_PREPARE_OK := f_PREPARE_OK) (f_GET_STATE := f_GET_STATE) (f_NEW_STATE := f_NEW_STATE) (f_START_VIEW_CHANGE := f_START_VIEW_CHANGE) (f_DO_VIEW_CHANGE := f_DO_VIEW_CHANGE) (f_GET_LOG := f_GET_LOG) (f_NEW_LOG := f_NEW_LOG) (f_START_VIEW := f_START_VIEW)
    have skip : ¬ (vg_tch H Z.2.2.2.2.1 r b = true ∧ (H b).1 = 0 ∧ ff_at T Z.2.2.1 0 < Z.2.2.1) → xa_l post (nI r) n (nI N) (nI (b + 1)) (f_PREPARE, f_PREPARE_OK, f_GET_STATE, f_NEW_STATE, f_START_VIEW_CHANGE, f_DO_VIEW_CHANGE, f_GET_LOG, f_NEW_LOG, f_START_VIEW, f_clients, f_capacity, f_letters, f_restarts, f_mailHead, f_mailTail, f_acks, f_votes, f_bestVoter, f_bestLast, f_bestLength, f_bestCommit, a_status, a_view, a_last, a_nonce, a_cell, a_length, a_commit, a_logClient, a_logNumber, a_logOp, a_registers, a_tableNumber, a_tableResult, a_mailKind, a_mailFrom, a_mailTo, a_mailView, a_mailLast, a_mailCommit, a_mailLength, a_mailBase, a_mailCount, a_mailClient, a_mailNumber, a_mailOp, a_voted, a_voteCommit, a_slotState, a_slotFrom, a_slotTo, a_slotNonce, a_slotView, a_slotLeader, a_slotLength, a_slotCommit, a_slotClient, a_slotNumber, a_slotOp) := by
      intro z
      rw [if_neg z] at ih1
      exact ih1 _ (by omega) (by omega) hv
    obtain ⟨okb, ⟨s1, _⟩, _⟩ := hR b hb5
    have okb1 := okb.1
    have zk : rz_ok (zs_T Z T) := hZ.2.1
    have zle : Z.2.2.1 ≤ 8 := zk.2.2.2.2.2.1
    refine br_f (lt5' b hb5) (xm_touch hv hr hb5 (fun z => br_f (by decide) ⟨ix_5 hb5, pk_eq (H b).1 0 (fun z2 => ?_) (fun z2 => nm_r (nI_1 b) (skip (fun q => z2 q.2.1))) (hx := ix_rd (by omega) s1)⟩) (fun z => br_t rfl (nm_r (nI_1 b) (skip (fun q => nt_f q.1 z)))))
    refine xm_free hv ?_
    have zT : (zs_T Z T).2.2.2.2.2 = T := rfl
    have zL : (zs_T Z T).2.2.1 = Z.2.2.1 := rfl
    rw [zT, zL]
    unfold ff_r
    by_cases z3 : ff_at T Z.2.2.1 0 < Z.2.2.1
    · rw [if_pos z3]
      refine br_f (nI_pos (by omega)) ?_
      refine xm_wl hv (by omega) hb5 hr (fun u' hu' => ?_)
      rw [if_pos ⟨z, z2, z3⟩] at ih1
      have h := ih1 u' (by omega) (by omega) hu'
      revert h
      refine sx_cs (P := fun u' => xa_l post (nI r) n (nI (N + 1)) (nI (b + 1)) u' → match u' with | (f_PREPARE, f_PREPARE_OK, f_GET_STATE, f_NEW_STATE, f_START_VIEW_CHANGE, f_DO_VIEW_CHANGE, f_GET_LOG, f_NEW_LOG, f_START_VIEW, f_clients, f_capacity, f_letters, f_restarts, f_mailHead, f_mailTail, f_acks, f_votes, f_bestVoter, f_bestLast, f_bestLength, f_bestCommit, a_status, a_view, a_last, a_nonce, a_cell, a_length, a_commit, a_logClient, a_logNumber, a_logOp, a_registers, a_tableNumber, a_tableResult, a_mailKind, a_mailFrom, a_mailTo, a_mailView, a_mailLast, a_mailCommit, a_mailLength, a_mailBase, a_mailCount, a_mailClient, a_mailNumber, a_mailOp, a_voted, a_voteCommit, a_slotState, a_slotFrom, a_slotTo, a_slotNonce, a_slotView, a_slotLeader, a_slotLength, a_slotCommit, a_slotClient, a_slotNumber, a_slotOp) => ∀ y : Int32, y = nI N + 1 → ∀ y2 : Int32, y2 = nI b + 1 → wX_ask_27 post (nI r) n y y2 f_PREPARE f_PREPARE_OK f_GET_STATE f_NEW_STATE f_START_VIEW_CHANGE f_DO_VIEW_CHANGE f_GET_LOG f_NEW_LOG f_START_VIEW f_clients f_capacity f_letters f_restarts f_mailHead f_mailTail f_acks f_votes f_bestVoter f_bestLast f_bestLength f_bestCommit a_status a_view a_last a_nonce a_cell a_length a_commit a_logClient a_logNumber a_logOp a_registers a_tableNumber a_tableResult a_mailKind a_mailFrom a_mailTo a_mailView a_mailLast a_mailCommit a_mailLength a_mailBase a_mailCount a_mailClient a_mailNumber a_mailOp a_voted a_voteCommit a_slotState a_slotFrom a_slotTo a_slotNonce a_slotView a_slotLeader a_slotLength a_slotCommit a_slotClient a_slotNumber a_slotOp) ?_ u'
      clear hZ hR hM hB hv skip s1 hu
      intro f_PREPARE f_PREPARE_OK f_GET_STATE f_NEW_STATE f_START_VIEW_CHANGE f_DO_VIEW_CHANGE f_GET_LOG f_NEW_LOG f_START_VIEW f_clients f_capacity f_letters f_restarts f_mailHead f_mailTail f_acks f_votes f_bestVoter f_bestLast f_bestLength f_bestCommit a_status a_view a_last a_nonce a_cell a_length a_commit a_logClient a_logNumber a_logOp a_registers a_tableNumber a_tableResult a_mailKind a_mailFrom a_mailTo a_mailView a_mailLast a_mailCommit a_mailLength a_mailBase a_mailCount a_mailClient a_mailNumber a_mailOp a_voted a_voteCommit a_slotState a_slotFrom a_slotTo a_slotNonce a_slotView a_slotLeader a_slotLength a_slotCommit a_slotClient a_slotNumber a_slotOp h
      exact nm_r (nI_1 N) (nm_r (nI_1 b) h)
    · rw [if_neg z3]
      exact br_t (by decide) (nm_r (nI_1 b) (skip (fun q => z3 q.2.2)))
end
end
section
/-! the deciding letter -/
def dl_h (T : Nat → vg_L) (r s : Nat) : Bool := decide ((T s).1 = 2 ∧ (T s).2.2.1 = r)
def dl_cn (T : Nat → vg_L) (r : Nat) : Nat → Nat × Nat
  | 0 => (0, 0)
  | s + 1 => if dl_h T r s = true then ((dl_cn T r s).1 + 1, if (T s).2.2.2.2.1 ≤ (dl_cn T r s).2 then (dl_cn T r s).2 else (T s).2.2.2.2.1) else dl_cn T r s
def dl_ok (T : Nat → vg_L) (r w s : Nat) : Bool := dl_h T r s && decide ((T s).2.2.2.2.1 = w ∧ (T s).2.1 = w % 5)
theorem dl_cb {T : Nat → vg_L} {r : Nat} (h : ∀ s, s < 8 → (T s).2.2.2.2.1 ≤ 999) : ∀ s, s ≤ 8 → (dl_cn T r s).1 ≤ s ∧ (dl_cn T r s).2 ≤ 999
  | 0, _ => ⟨Nat.le_refl _, by show 0 ≤ 999; omega⟩
  | s + 1, hs => by
    have ih := dl_cb (r := r) h s (by omega)
    have := h s (by omega)
    unfold dl_cn
    split
    · dsimp only
      split <;> omega
    · omega
theorem dl_h_iff {T : Nat → vg_L} {r s : Nat} : dl_h T r s = true ↔ ((T s).1 = 2 ∧ (T s).2.2.1 = r) := decide_eq_true_iff
theorem dl_c1 {T : Nat → vg_L} {r i : Nat} (z : (T i).1 = 2 ∧ (T i).2.2.1 = r) (z2 : (T i).2.2.2.2.1 ≤ (dl_cn T r i).2) : dl_cn T r (i + 1) = ((dl_cn T r i).1 + 1, (dl_cn T r i).2) := by
  show (if dl_h T r i = true then ((dl_cn T r i).1 + 1, if (T i).2.2.2.2.1 ≤ (dl_cn T r i).2 then (dl_cn T r i).2 else (T i).2.2.2.2.1) else dl_cn T r i) = _
  rw [if_pos (dl_h_iff.mpr z), if_pos z2]
theorem dl_c2 {T : Nat → vg_L} {r i : Nat} (z : (T i).1 = 2 ∧ (T i).2.2.1 = r) (z2 : ¬ (T i).2.2.2.2.1 ≤ (dl_cn T r i).2) : dl_cn T r (i + 1) = ((dl_cn T r i).1 + 1, (T i).2.2.2.2.1) := by
  show (if dl_h T r i = true then ((dl_cn T r i).1 + 1, if (T i).2.2.2.2.1 ≤ (dl_cn T r i).2 then (dl_cn T r i).2 else (T i).2.2.2.2.1) else dl_cn T r i) = _
  rw [if_pos (dl_h_iff.mpr z), if_neg z2]
theorem dl_c0 {T : Nat → vg_L} {r i : Nat} (z : ¬ ((T i).1 = 2 ∧ (T i).2.2.1 = r)) : dl_cn T r (i + 1) = dl_cn T r i := by
  show (if dl_h T r i = true then ((dl_cn T r i).1 + 1, if (T i).2.2.2.2.1 ≤ (dl_cn T r i).2 then (dl_cn T r i).2 else (T i).2.2.2.2.1) else dl_cn T r i) = _
  rw [if_neg (fun q => z (dl_h_iff.mp q))]
section
variable {f_PREPARE f_PREPARE_OK f_GET_STATE f_NEW_STATE f_START_VIEW_CHANGE f_DO_VIEW_CHANGE f_GET_LOG f_NEW_LOG f_START_VIEW f_clients f_capacity f_letters f_restarts f_mailHead f_mailTail f_acks f_votes f_bestVoter f_bestLast f_bestLength f_bestCommit : Int32} {a_status a_view a_last a_nonce a_cell a_length a_commit a_logClient a_logNumber a_logOp a_registers a_tableNumber a_tableResult a_mailKind a_mailFrom a_mailTo a_mailView a_mailLast a_mailCommit a_mailLength a_mailBase a_mailCount a_mailClient a_mailNumber a_mailOp a_voted a_voteCommit a_slotState a_slotFrom a_slotTo a_slotNonce a_slotView a_slotLeader a_slotLength a_slotCommit a_slotClient a_slotNumber a_slotOp : Nat → Int32} {Z : vg_Z} {H : Nat → vg_R} {hd tl : Nat} {Q : Nat → vg_M} {B : vg_B}
theorem xl_find {post : Int32 → Prop} (hu : sx_R Z H hd tl Q B (f_PREPARE, f_PREPARE_OK, f_GET_STATE, f_NEW_STATE, f_START_VIEW_CHANGE, f_DO_VIEW_CHANGE, f_GET_LOG, f_NEW_LOG, f_START_VIEW, f_clients, f_capacity, f_letters, f_restarts, f_mailHead, f_mailTail, f_acks, f_votes, f_bestVoter, f_bestLast, f_bestLength, f_bestCommit, a_status, a_view, a_last, a_nonce, a_cell, a_length, a_commit, a_logClient, a_logNumber, a_logOp, a_registers, a_tableNumber, a_tableResult, a_mailKind, a_mailFrom, a_mailTo, a_mailView, a_mailLast, a_mailCommit, a_mailLength, a_mailBase, a_mailCount, a_mailClient, a_mailNumber, a_mailOp, a_voted, a_voteCommit, a_slotState, a_slotFrom, a_slotTo, a_slotNonce, a_slotView, a_slotLeader, a_slotLength, a_slotCommit, a_slotClient, a_slotNumber, a_slotOp)) {r w : Nat} (hr : r < 5) (hw : w ≤ 999)
    (h1 : ∀ s, s < Z.2.2.1 → dl_ok Z.2.2.2.2.2 r w s = true → (∀ j, j < s → dl_ok Z.2.2.2.2.2 r w j = false) → post (nI s)) (h0 : (∀ j, j < Z.2.2.1 → dl_ok Z.2.2.2.2.2 r w j = false) → post (-1)) :
    ∀ d i n : Nat, i + d = Z.2.2.1 → d < n → (∀ j, j < i → dl_ok Z.2.2.2.2.2 r w j = false) → wX_decidingLetter_64 post (nI r) (nI w) f_PREPARE f_PREPARE_OK f_GET_STATE f_NEW_STATE f_START_VIEW_CHANGE f_DO_VIEW_CHANGE f_GET_LOG f_NEW_LOG f_START_VIEW f_clients f_capacity f_letters f_restarts f_mailHead f_mailTail f_acks f_votes f_bestVoter f_bestLast f_bestLength f_bestCommit a_status a_view a_last a_nonce a_cell a_length a_commit a_logClient a_logNumber a_logOp a_registers a_tableNumber a_tableResult a_mailKind a_mailFrom a_mailTo a_mailView a_mailLast a_mailCommit a_mailLength a_mailBase a_mailCount a_mailClient a_mailNumber a_mailOp a_voted a_voteCommit a_slotState a_slotFrom a_slotTo a_slotNonce a_slotView a_slotLeader a_slotLength a_slotCommit a_slotClient a_slotNumber a_slotOp n (nI i) := by
  intro d
  have hZ := hu.1
  have zk := hZ.2.1
  unfold rz_ok at zk
  induction d with
  | zero =>
    intro i n hi hn hno
    obtain ⟨n, rfl⟩ : ∃ k, n = k + 1 := ⟨n - 1, by omega⟩
    have hi' : i = Z.2.2.1 := hi
    exact br_t (by rw [hZ.1.2.2.1, hi']; exact Int32.le_refl _) (h0 (fun j hj => hno j (by omega)))
  | succ d ih =>
    intro i n hi hn hno
    obtain ⟨n, rfl⟩ : ∃ k, n = k + 1 := ⟨n - 1, by omega⟩
    have i8 := ix_8 (by omega : i < 8)
    obtain ⟨ok, ⟨e1, e2, e3, e4, e5, e6, e7, e8⟩, _⟩ := hZ.2.2.2 i (by omega)
    have ok1 := ok.1
    have step : dl_ok Z.2.2.2.2.2 r w i = false → wX_decidingLetter_64 post (nI r) (nI w) f_PREPARE f_PREPARE_OK f_GET_STATE f_NEW_STATE f_START_VIEW_CHANGE f_DO_VIEW_CHANGE f_GET_LOG f_NEW_LOG f_START_VIEW f_clients f_capacity f_letters f_restarts f_mailHead f_mailTail f_acks f_votes f_bestVoter f_bestLast f_bestLength f_bestCommit a_status a_view a_last a_nonce a_cell a_length a_commit a_logClient a_logNumber a_logOp a_registers a_tableNumber a_tableResult a_mailKind a_mailFrom a_mailTo a_mailView a_mailLast a_mailCommit a_mailLength a_mailBase a_mailCount a_mailClient a_mailNumber a_mailOp a_voted a_voteCommit a_slotState a_slotFrom a_slotTo a_slotNonce a_slotView a_slotLeader a_slotLength a_slotCommit a_slotClient a_slotNumber a_slotOp n (nI (i + 1)) := by
      intro z
      refine ih (i + 1) n (by omega) (by omega) (fun j hj => ?_)
      by_cases y : j = i
      · rw [y]; exact z
      · exact hno j (by omega)
    have no : ¬ (((Z.2.2.2.2.2 i).1 = 2 ∧ (Z.2.2.2.2.2 i).2.2.1 = r) ∧ (Z.2.2.2.2.2 i).2.2.2.2.1 = w ∧ (Z.2.2.2.2.2 i).2.1 = w % 5) → dl_ok Z.2.2.2.2.2 r w i = false := by
      intro z
      cases hc : dl_ok Z.2.2.2.2.2 r w i
      · rfl
      · unfold dl_ok dl_h at hc
        rw [Bool.and_eq_true, decide_eq_true_iff, decide_eq_true_iff] at hc
        exact absurd hc z
    refine br_f (by rw [hZ.1.2.2.1]; exact nI_ge (by omega : i < Z.2.2.1) (by omega)) (xm_held hu (by omega) hr (fun z => br_f (by decide) ⟨i8, pk_eq (Z.2.2.2.2.2 i).2.2.2.2.1 w (fun z2 => ⟨i8, by decide, pk_eq (Z.2.2.2.2.2 i).2.1 (w % 5) (fun z3 => h1 i (by omega) ?_ hno) (fun z3 => nm_r (nI_1 i) (step (no (fun q => z3 q.2.2)))) (hx := ix_rd (by omega) e2) (hy := ix_r5 hw)⟩) (fun z2 => nm_r (nI_1 i) (step (no (fun q => z2 q.2.1)))) (hx := ix_rd (by omega) e5)⟩) (fun z => br_t rfl (nm_r (nI_1 i) (step (no (fun q => z q.1))))))
    unfold dl_ok dl_h
    rw [Bool.and_eq_true, decide_eq_true_iff, decide_eq_true_iff]
    exact ⟨z, z2, z3⟩
theorem xl_cnt {post : Int32 → Prop} (hu : sx_R Z H hd tl Q B (f_PREPARE, f_PREPARE_OK, f_GET_STATE, f_NEW_STATE, f_START_VIEW_CHANGE, f_DO_VIEW_CHANGE, f_GET_LOG, f_NEW_LOG, f_START_VIEW, f_clients, f_capacity, f_letters, f_restarts, f_mailHead, f_mailTail, f_acks, f_votes, f_bestVoter, f_bestLast, f_bestLength, f_bestCommit, a_status, a_view, a_last, a_nonce, a_cell, a_length, a_commit, a_logClient, a_logNumber, a_logOp, a_registers, a_tableNumber, a_tableResult, a_mailKind, a_mailFrom, a_mailTo, a_mailView, a_mailLast, a_mailCommit, a_mailLength, a_mailBase, a_mailCount, a_mailClient, a_mailNumber, a_mailOp, a_voted, a_voteCommit, a_slotState, a_slotFrom, a_slotTo, a_slotNonce, a_slotView, a_slotLeader, a_slotLength, a_slotCommit, a_slotClient, a_slotNumber, a_slotOp)) {r : Nat} (hr : r < 5)
    (h1 : 3 ≤ (dl_cn Z.2.2.2.2.2 r Z.2.2.1).1 → ∀ s, s < Z.2.2.1 → dl_ok Z.2.2.2.2.2 r (dl_cn Z.2.2.2.2.2 r Z.2.2.1).2 s = true → (∀ j, j < s → dl_ok Z.2.2.2.2.2 r (dl_cn Z.2.2.2.2.2 r Z.2.2.1).2 j = false) → post (nI s))
    (h0 : ((dl_cn Z.2.2.2.2.2 r Z.2.2.1).1 < 3 ∨ ∀ j, j < Z.2.2.1 → dl_ok Z.2.2.2.2.2 r (dl_cn Z.2.2.2.2.2 r Z.2.2.1).2 j = false) → post (-1)) :
    ∀ d i n : Nat, i + d = Z.2.2.1 → d < n → wX_decidingLetter_7 post (nI r) f_PREPARE f_PREPARE_OK f_GET_STATE f_NEW_STATE f_START_VIEW_CHANGE f_DO_VIEW_CHANGE f_GET_LOG f_NEW_LOG f_START_VIEW f_clients f_capacity f_letters f_restarts f_mailHead f_mailTail f_acks f_votes f_bestVoter f_bestLast f_bestLength f_bestCommit a_status a_view a_last a_nonce a_cell a_length a_commit a_logClient a_logNumber a_logOp a_registers a_tableNumber a_tableResult a_mailKind a_mailFrom a_mailTo a_mailView a_mailLast a_mailCommit a_mailLength a_mailBase a_mailCount a_mailClient a_mailNumber a_mailOp a_voted a_voteCommit a_slotState a_slotFrom a_slotTo a_slotNonce a_slotView a_slotLeader a_slotLength a_slotCommit a_slotClient a_slotNumber a_slotOp n (nI (dl_cn Z.2.2.2.2.2 r i).1) (nI (dl_cn Z.2.2.2.2.2 r i).2) (nI i) := by
  intro d
  have hZ := hu.1
  have zk := hZ.2.1
  unfold rz_ok at zk
  have cb := dl_cb (T := Z.2.2.2.2.2) (r := r) (fun s hs => (hZ.2.2.2 s hs).1.1.2.2.2.2.1)
  induction d with
  | zero =>
    intro i n hi hn
    obtain ⟨n, rfl⟩ : ∃ k, n = k + 1 := ⟨n - 1, by omega⟩
    have hi' : i = Z.2.2.1 := hi
    subst hi'
    have := cb Z.2.2.1 (by omega)
    refine br_t (by rw [hZ.1.2.2.1]; exact Int32.le_refl _) (pk_le 3 (dl_cn Z.2.2.2.2.2 r Z.2.2.1).1 (fun z => ⟨Z.2.2.1 + 1, ?_⟩) (fun z => h0 (Or.inl z)))
    exact xl_find hu hr (by omega) (h1 z) (fun q => h0 (Or.inr q)) Z.2.2.1 0 _ (by omega) (by omega) (fun j hj => absurd hj (by omega))
  | succ d ih =>
    intro i n hi hn
    obtain ⟨n, rfl⟩ : ∃ k, n = k + 1 := ⟨n - 1, by omega⟩
    have i8 := ix_8 (by omega : i < 8)
    obtain ⟨ok, ⟨e1, e2, e3, e4, e5, e6, e7, e8⟩, _⟩ := hZ.2.2.2 i (by omega)
    have ok1 := ok.1
    have cbi := cb i (by omega)
    have r5 := ix_rd (by omega : i < 2000) e5
    have h := ih (i + 1) n (by omega) (by omega)
    refine br_f (by rw [hZ.1.2.2.1]; exact nI_ge (by omega : i < Z.2.2.1) (by omega)) (xm_held hu (by omega) hr (fun z => br_f (by decide) (nm_r (nI_1 _) ⟨i8, pk_le (Z.2.2.2.2.2 i).2.2.2.2.1 (dl_cn Z.2.2.2.2.2 r i).2 (fun z2 => nm_r (nI_1 i) ?_) (fun z2 => ⟨i8, nm_r r5 (nm_r (nI_1 i) ?_)⟩) (hx := r5)⟩)) (fun z => br_t rfl (nm_r (nI_1 i) ?_)))
    · rw [dl_c1 z z2] at h
      exact h
    · rw [dl_c2 z (by omega)] at h
      exact h
    · rw [dl_c0 z] at h
      exact h
end
theorem xm_deci {Z : vg_Z} {H : Nat → vg_R} {hd tl : Nat} {Q : Nat → vg_M} {B : vg_B} {u : SX} {post : Int32 → Prop} (hu : sx_R Z H hd tl Q B u) {r : Nat} (hr : r < 5)
    (h1 : 3 ≤ (dl_cn Z.2.2.2.2.2 r Z.2.2.1).1 → ∀ s, s < Z.2.2.1 → dl_ok Z.2.2.2.2.2 r (dl_cn Z.2.2.2.2.2 r Z.2.2.1).2 s = true → (∀ j, j < s → dl_ok Z.2.2.2.2.2 r (dl_cn Z.2.2.2.2.2 r Z.2.2.1).2 j = false) → post (nI s))
    (h0 : ((dl_cn Z.2.2.2.2.2 r Z.2.2.1).1 < 3 ∨ ∀ j, j < Z.2.2.1 → dl_ok Z.2.2.2.2.2 r (dl_cn Z.2.2.2.2.2 r Z.2.2.1).2 j = false) → post (-1)) : wpX_decidingLetter post u (nI r) := by
  refine sx_el (P := fun u => wpX_decidingLetter post u (nI r)) ?_ hu
  intro f_PREPARE f_PREPARE_OK f_GET_STATE f_NEW_STATE f_START_VIEW_CHANGE f_DO_VIEW_CHANGE f_GET_LOG f_NEW_LOG f_START_VIEW f_clients f_capacity f_letters f_restarts f_mailHead f_mailTail f_acks f_votes f_bestVoter f_bestLast f_bestLength f_bestCommit a_status a_view a_last a_nonce a_cell a_length a_commit a_logClient a_logNumber a_logOp a_registers a_tableNumber a_tableResult a_mailKind a_mailFrom a_mailTo a_mailView a_mailLast a_mailCommit a_mailLength a_mailBase a_mailCount a_mailClient a_mailNumber a_mailOp a_voted a_voteCommit a_slotState a_slotFrom a_slotTo a_slotNonce a_slotView a_slotLeader a_slotLength a_slotCommit a_slotClient a_slotNumber a_slotOp hZ hR hM hB
  refine ⟨Z.2.2.1 + 1, ?_⟩
  exact xl_cnt (sx_mk hZ hR hM hB) hr h1 h0 Z.2.2.1 0 (Z.2.2.1 + 1) (by omega) (by omega)
end
section
/-! Y: small tests -/
theorem sy_cs {P : SY → Prop} (h : ∀ (f_clients f_capacity f_slots f_restarts : Int32) (a_status a_last a_cell a_view a_nonce a_length a_commit a_log a_state a_from a_to a_leader a_member : Nat → Int32), P (f_clients, f_capacity, f_slots, f_restarts, a_status, a_last, a_cell, a_view, a_nonce, a_length, a_commit, a_log, a_state, a_from, a_to, a_leader, a_member)) (u : SY) : P u := by
  obtain ⟨f_clients, f_capacity, f_slots, f_restarts, a_status, a_last, a_cell, a_view, a_nonce, a_length, a_commit, a_log, a_state, a_from, a_to, a_leader, a_member⟩ := u
  exact h f_clients f_capacity f_slots f_restarts a_status a_last a_cell a_view a_nonce a_length a_commit a_log a_state a_from a_to a_leader a_member
theorem ym_in {post : Int32 → Prop} {u : SY} {j c : Nat} (hj : j < c) (hc : c < 2000) (h : post 0) : wpY_outside post u (nI j) (nI c) := by
  refine sy_cs (P := fun u => wpY_outside post u (nI j) (nI c)) ?_ u
  intro f_clients f_capacity f_slots f_restarts a_status a_last a_cell a_view a_nonce a_length a_commit a_log a_state a_from a_to a_leader a_member
  exact br_f (nI_pos (by omega)) (br_t (nI_lt hj (by omega)) h)
theorem ym_no {post : Int32 → Prop} {u : SY} {x y : Int32} (hx : x < 0 ∨ y ≤ x) (h : post 1) : wpY_outside post u x y := by
  refine sy_cs (P := fun u => wpY_outside post u x y) ?_ u
  intro f_clients f_capacity f_slots f_restarts a_status a_last a_cell a_view a_nonce a_length a_commit a_log a_state a_from a_to a_leader a_member
  exact br_c (fun _ => h) (fun n => br_f (Int32.not_lt.mpr (hx.resolve_left n)) h)
section
variable {Z : vg_Z} {H : Nat → vg_R} {M : Nat → Int32} {post : Int32 → Prop} {u : SY}
theorem ym_act (hu : sy_R Z H M u) {b : Nat} (hb : b < 5) (h1 : (H b).1 ≤ 1 → post 1) (h0 : 1 < (H b).1 → post 0) : wpY_active post u (nI b) := by
  refine sy_el (P := fun u => wpY_active post u (nI b)) ?_ hu
  intro f_clients f_capacity f_slots f_restarts a_status a_last a_cell a_view a_nonce a_length a_commit a_log a_state a_from a_to a_leader a_member hZ hR hT hm
  obtain ⟨⟨ok, _⟩, ⟨eS, _⟩, _⟩ := hR b hb
  have e : a_status (nI b).toNatClampNeg = nI (H b).1 := ix_rd (by omega) eS
  exact ⟨ix_5 hb, pk_eq (H b).1 0 (fun z => h1 (by omega)) (fun z => ⟨ix_5 hb, pk_eq (H b).1 1 (fun z => h1 (by omega)) (fun z2 => h0 (by omega)) (hx := e)⟩) (hx := e)⟩
theorem ym_np (hu : sy_R Z H M u) {b : Nat} (hb : b < 5) (h1 : (H b).1 = 0 ∧ (H b).2.1 % 5 = b → post 1) (h0 : ¬ ((H b).1 = 0 ∧ (H b).2.1 % 5 = b) → post 0) : wpY_normalPrimary post u (nI b) := by
  refine sy_el (P := fun u => wpY_normalPrimary post u (nI b)) ?_ hu
  intro f_clients f_capacity f_slots f_restarts a_status a_last a_cell a_view a_nonce a_length a_commit a_log a_state a_from a_to a_leader a_member hZ hR hT hm
  obtain ⟨⟨ok, _⟩, ⟨eS, eV, _⟩, _⟩ := hR b hb
  have e : a_status (nI b).toNatClampNeg = nI (H b).1 := ix_rd (by omega) eS
  have e2 : a_view (nI b).toNatClampNeg = nI (H b).2.1 := ix_rd (by omega) eV
  refine ⟨ix_5 hb, pk_eq (H b).1 0 (fun z => ⟨ix_13 (by omega), by decide, ?_⟩) (fun z => h0 (fun q => z q.1)) (hx := e)⟩
  rw [e2]
  exact pk_eq b ((H b).2.1 % 5) (fun z2 => h1 ⟨z, z2.symm⟩) (fun z2 => h0 (fun q => z2 q.2.symm)) (hy := ix_r5 (by omega))
theorem ym_touch (hu : sy_R Z H M u) {a b : Nat} (ha : a < 5) (hb : b < 5) (h1 : vg_tch H Z.2.2.2.2.1 a b = true → post 1) (h0 : vg_tch H Z.2.2.2.2.1 a b = false → post 0) : wpY_touch post u (nI a) (nI b) := by
  refine sy_el (P := fun u => wpY_touch post u (nI a) (nI b)) ?_ hu
  intro f_clients f_capacity f_slots f_restarts a_status a_last a_cell a_view a_nonce a_length a_commit a_log a_state a_from a_to a_leader a_member hZ hR hT hm
  obtain ⟨⟨oka, _⟩, ⟨eSa, _⟩, _⟩ := hR a ha
  obtain ⟨⟨okb, _⟩, ⟨eSb, _⟩, _⟩ := hR b hb
  obtain ⟨ca, eCa⟩ := hZ.2.2 a ha
  obtain ⟨cb, eCb⟩ := hZ.2.2 b hb
  have e1 : a_status (nI a).toNatClampNeg = nI (H a).1 := ix_rd (by omega) eSa
  have e2 : a_status (nI b).toNatClampNeg = nI (H b).1 := ix_rd (by omega) eSb
  have e3 : a_cell (nI a).toNatClampNeg = nI (Z.2.2.2.2.1 a) := ix_rd (by omega) eCa
  have e4 : a_cell (nI b).toNatClampNeg = nI (Z.2.2.2.2.1 b) := ix_rd (by omega) eCb
  have no : ¬ (a ≠ b ∧ (H a).1 ≠ 3 ∧ (H b).1 ≠ 3 ∧ Z.2.2.2.2.1 a = Z.2.2.2.2.1 b) → post 0 := fun z => h0 (by
    cases hc : vg_tch H Z.2.2.2.2.1 a b
    · rfl
    · exact absurd (vg_tch_iff.mp hc) z)
  exact pk_eq a b (fun z => no (by omega)) (fun z => ⟨ix_5 ha, pk_eq (H a).1 3 (fun z => no (by omega)) (fun z2 => ⟨ix_5 hb, pk_eq (H b).1 3 (fun z => no (by omega)) (fun z3 => ⟨ix_5 ha, ix_5 hb, pk_eq (Z.2.2.2.2.1 a) (Z.2.2.2.2.1 b) (fun z4 => h1 (vg_tch_iff.mpr ⟨z, z2, z3, z4⟩)) (fun z4 => no (fun q => z4 q.2.2.2)) (hx := e3) (hy := e4)⟩) (hx := e2)⟩) (hx := e1)⟩)
theorem ym_held (hu : sy_R Z H M u) {s r : Nat} (hs : s < 8) (hr : r < 5) (h1 : (Z.2.2.2.2.2 s).1 = 2 ∧ (Z.2.2.2.2.2 s).2.2.1 = r → post 1) (h0 : ¬ ((Z.2.2.2.2.2 s).1 = 2 ∧ (Z.2.2.2.2.2 s).2.2.1 = r) → post 0) : wpY_held post u (nI s) (nI r) := by
  refine sy_el (P := fun u => wpY_held post u (nI s) (nI r)) ?_ hu
  intro f_clients f_capacity f_slots f_restarts a_status a_last a_cell a_view a_nonce a_length a_commit a_log a_state a_from a_to a_leader a_member hZ hR hT hm
  obtain ⟨⟨ok, _⟩, ⟨eS, eF, eT, _⟩, _⟩ := hT s hs
  have e1 : a_state (nI s).toNatClampNeg = nI (Z.2.2.2.2.2 s).1 := ix_rd (by omega) eS
  have e2 : a_to (nI s).toNatClampNeg = nI (Z.2.2.2.2.2 s).2.2.1 := ix_rd (by omega) eT
  exact ⟨ix_8 hs, pk_eq (Z.2.2.2.2.2 s).1 2 (fun z => ⟨ix_8 hs, pk_eq (Z.2.2.2.2.2 s).2.2.1 r (fun z2 => h1 ⟨z, z2⟩) (fun z2 => h0 (fun q => z2 q.2)) (hx := e2)⟩) (fun z => h0 (fun q => z q.1)) (hx := e1)⟩
end
theorem ix_m3 (h i f : Nat) : (nI h * 32 + nI i) * 3 + nI f = nI ((h * 32 + i) * 3 + f) := by
  rw [ix_m32, show (3 : Int32) = nI 3 from rfl, pk_mul, nI_add]
theorem ix_m96 (h i : Nat) : nI h * 32 * 3 + nI i = nI (h * 96 + i) := by
  rw [show (32 : Int32) = nI 32 from rfl, show (3 : Int32) = nI 3 from rfl, pk_mul, pk_mul, nI_add, Nat.mul_assoc]
theorem cp_self {f : Nat → Int32} {a b i : Nat} (hi : i < 96) : cp_cpy f f (b * 96) (a * 96) i (a * 96 + i) = f (a * 96 + i) := by
  unfold cp_cpy
  exact if_neg (by omega)
section
variable {f_clients f_capacity f_slots f_restarts : Int32} {a_status a_last a_cell a_view a_nonce a_length a_commit a_log a_state a_from a_to a_leader a_member : Nat → Int32}
theorem ym_ef {post : Int32 → Prop} {h i f : Nat} (hh : h < 13) (hi : i < 32) (hf : f < 3) (hp : post (a_log ((h * 32 + i) * 3 + f))) : wpY_entryField post (f_clients, f_capacity, f_slots, f_restarts, a_status, a_last, a_cell, a_view, a_nonce, a_length, a_commit, a_log, a_state, a_from, a_to, a_leader, a_member) (nI h) (nI i) (nI f) := by
  refine And.intro ?_ ?_
  · rw [ix_m3]
    exact ix_1248 (by omega)
  · rw [ix_m3, ix_c (by omega)]
    exact hp
theorem ym_cp_l {post : SY → Prop} {a b : Nat} (ha : a < 13) (hb : b < 13) (h : post (f_clients, f_capacity, f_slots, f_restarts, a_status, a_last, a_cell, a_view, a_nonce, upd a_length b (a_length a), a_commit, cp_cpy a_log a_log (b * 96) (a * 96) 96, a_state, a_from, a_to, a_leader, a_member)) :
    ∀ d i n : Nat, i + d = 96 → d < n → wY_copyLog_2 post (nI a) (nI b) f_clients f_capacity f_slots f_restarts n (nI i) a_status a_last a_cell a_view a_nonce a_length a_commit (cp_cpy a_log a_log (b * 96) (a * 96) i) a_state a_from a_to a_leader a_member := by
  intro d
  induction d with
  | zero =>
    intro i n hi hn
    obtain ⟨n, rfl⟩ : ∃ k, n = k + 1 := ⟨n - 1, by omega⟩
    have hi' : i = 96 := hi
    subst hi'
    refine br_t (Int32.le_refl _) ⟨ix_13 ha, ix_13 hb, nm_e ?_⟩
    rw [ix_c (by omega), ix_c (by omega)]
    exact h
  | succ d ih =>
    intro i n hi hn
    obtain ⟨n, rfl⟩ : ∃ k, n = k + 1 := ⟨n - 1, by omega⟩
    refine br_f (nI_ge (b := 96) (by omega) (by decide)) ?_
    rw [ix_m96, ix_m96]
    refine ⟨ix_1248 (by omega), ix_1248 (by omega), nm_e (nm_r (nI_1 i) ?_)⟩
    rw [ix_c (by omega), ix_c (by omega), cp_self (by omega), cp_s]
    exact ih (i + 1) n (by omega) (by omega)
theorem ym_cp {post : SY → Prop} {a b : Nat} (ha : a < 13) (hb : b < 13) (h : post (f_clients, f_capacity, f_slots, f_restarts, a_status, a_last, a_cell, a_view, a_nonce, upd a_length b (a_length a), a_commit, cp_cpy a_log a_log (b * 96) (a * 96) 96, a_state, a_from, a_to, a_leader, a_member)) :
    wpY_copyLog post (f_clients, f_capacity, f_slots, f_restarts, a_status, a_last, a_cell, a_view, a_nonce, a_length, a_commit, a_log, a_state, a_from, a_to, a_leader, a_member) (nI a) (nI b) := by
  refine ⟨97, ?_⟩
  have h2 := ym_cp_l ha hb h 96 0 97 (by omega) (by omega)
  rw [cp_0] at h2
  exact h2
end
/-- what a host (replica or letter) holds -/
def hs_is (Z : vg_Z) (H : Nat → vg_R) (h n : Nat) (g : Nat → vg_E) : Prop := (h < 5 ∧ n = (H h).2.2.2.2.1 ∧ g = (H h).2.2.2.2.2.2) ∨ ∃ s, s < 8 ∧ h = 5 + s ∧ n = (Z.2.2.2.2.2 s).2.2.2.2.2.2.1 ∧ g = (Z.2.2.2.2.2 s).2.2.2.2.2.2.2.2
theorem hs_get {Z : vg_Z} {H : Nat → vg_R} {h n : Nat} {g : Nat → vg_E} {sS sL aV aN aZ aC aG tS tF tT tD : Nat → Int32} (hh : hs_is Z H h n g)
    (hR : ry_H H sS sL aV aN aZ aC aG) (hT : ry_T Z.2.2.2.2.2 tS tF tT tD aV aN aZ aC aG) : h < 13 ∧ n ≤ 32 ∧ aZ h = nI n ∧ ry_log g n h aG ∧ ∀ i, i < n → ∃ k, k < 4 ∧ (g i).1 = nI k := by
  rcases hh with ⟨h1, rfl, rfl⟩ | ⟨s, h1, rfl, rfl, rfl⟩
  · obtain ⟨ok, ⟨_, _, _, _, e5, _⟩, l⟩ := hR h h1
    exact ⟨by omega, ok.1.2.2.2.2.1, e5, l, ok.2⟩
  · obtain ⟨ok, ⟨_, _, _, _, _, _, e7, _⟩, l⟩ := hT s h1
    exact ⟨by omega, ok.1.2.2.2.2.2.2.1, e7, l, ok.2⟩
theorem cp_log {g : Nat → vg_E} {n a b : Nat} {aG : Nat → Int32} (hn : n ≤ 32) (l : ry_log g n a aG) : ry_log g n b (cp_cpy aG aG (b * 96) (a * 96) 96) := by
  intro i hi
  have e : ∀ f, f < 3 → cp_cpy aG aG (b * 96) (a * 96) 96 ((b * 32 + i) * 3 + f) = aG ((a * 32 + i) * 3 + f) := by
    intro f hf
    have h := cp_in (f := aG) (g := aG) (d := b * 96) (s := a * 96) (n := 96) (i * 3 + f) (by omega)
    rw [show (b * 32 + i) * 3 + f = b * 96 + (i * 3 + f) by omega, h]
    exact congrArg aG (by omega)
  have e0 := e 0 (by omega)
  obtain ⟨m1, m2, m3⟩ := l i hi
  exact ⟨e0.trans m1, (e 1 (by omega)).trans m2, (e 2 (by omega)).trans m3⟩
theorem cp_keep {g : Nat → vg_E} {n a b c : Nat} {aG : Nat → Int32} (hn : n ≤ 32) (hc : c ≠ b) (l : ry_log g n c aG) : ry_log g n c (cp_cpy aG aG (b * 96) (a * 96) 96) := by
  intro i hi
  rw [cp_out (by omega), cp_out (by omega), cp_out (by omega)]
  exact l i hi
/-- replica b's row replaced -/
theorem ry_set {H : Nat → vg_R} {b : Nat} {x : vg_R} {sS sL aV aN aZ aC aG sS' sL' aV' aN' aZ' aC' aG' : Nat → Int32} (h : ry_H H sS sL aV aN aZ aC aG) (ok : rr_ok x) (hx : ry_one x b sS' sL' aV' aN' aZ' aC' aG')
    (f1 : ∀ j, j ≠ b → sS' j = sS j ∧ aV' j = aV j ∧ sL' j = sL j ∧ aN' j = aN j ∧ aZ' j = aZ j ∧ aC' j = aC j)
    (f2 : ∀ j, (j < b * 96 ∨ b * 96 + 96 ≤ j) → aG' j = aG j) : ry_H (fs_set H b x) sS' sL' aV' aN' aZ' aC' aG' := by
  intro c hc
  by_cases e : c = b
  · subst e
    rw [fs_eq]
    exact ⟨ok, hx⟩
  · rw [fs_ne e]
    obtain ⟨okc, ⟨e1, e2, e3, e4, e5, e6⟩, l⟩ := h c hc
    obtain ⟨g1, g2, g3, g4, g5, g6⟩ := f1 c e
    refine ⟨okc, ⟨g1.trans e1, g2.trans e2, g3.trans e3, g4.trans e4, g5.trans e5, g6.trans e6⟩, fun i hi => ?_⟩
    have := okc.1
    rw [f2 _ (by omega), f2 _ (by omega), f2 _ (by omega)]
    exact l i hi
theorem ry_keepT {T : Nat → vg_L} {b : Nat} (hb : b < 5) {tS tF tT tD aV aN aZ aC aG aV' aN' aZ' aC' aG' : Nat → Int32} (h : ry_T T tS tF tT tD aV aN aZ aC aG)
    (f1 : ∀ j, j ≠ b → aV' j = aV j ∧ aN' j = aN j ∧ aZ' j = aZ j ∧ aC' j = aC j)
    (f2 : ∀ j, (j < b * 96 ∨ b * 96 + 96 ≤ j) → aG' j = aG j) : ry_T T tS tF tT tD aV' aN' aZ' aC' aG' := by
  intro s hs
  obtain ⟨ok, ⟨e1, e2, e3, e4, e5, e6, e7, e8⟩, l⟩ := h s hs
  obtain ⟨g1, g2, g3, g4⟩ := f1 (5 + s) (by omega)
  refine ⟨ok, ⟨e1, e2, e3, g2.trans e4, g1.trans e5, e6, g3.trans e7, g4.trans e8⟩, fun i hi => ?_⟩
  have := ok.1
  rw [f2 _ (by omega), f2 _ (by omega), f2 _ (by omega)]
  exact l i hi
section
variable {Z : vg_Z} {H : Nat → vg_R} {M : Nat → Int32} {post : SY → Prop} {u : SY}
theorem ym_mn (hu : sy_R Z H M u) {b v h c n : Nat} {g : Nat → vg_E} (hb : b < 5) (hv : v ≤ 999) (hh : hs_is Z H h n g) (hc : c ≤ n)
    (hp : ∀ u', sy_R Z (fs_set H b (0, v, v, (H b).2.2.2.1, n, c, g)) M u' → post u') : wpY_makeNormal post u (nI b) (nI v) (nI h) (nI c) := by
  refine sy_el (P := fun u => wpY_makeNormal post u (nI b) (nI v) (nI h) (nI c)) ?_ hu
  intro f_clients f_capacity f_slots f_restarts a_status a_last a_cell a_view a_nonce a_length a_commit a_log a_state a_from a_to a_leader a_member hZ hR hT hm
  obtain ⟨h13, n32, eZ, l, cl⟩ := hs_get hh hR hT
  refine ⟨ix_5 hb, nm_e ⟨ix_13 (by omega), nm_e ⟨ix_5 hb, nm_e ?_⟩⟩⟩
  refine ym_cp h13 (by omega) ?_
  refine ⟨ix_13 (by omega), nm_e (hp _ (sy_mk hZ ?_ ?_ hm))⟩
  · rw [ix_u (by omega), ix_u (by omega), ix_u (by omega), ix_u (by omega), eZ]
    obtain ⟨ok, ⟨e1, e2, e3, e4, e5, e6⟩, _⟩ := hR b hb
    have ok1 := ok.1
    refine ry_set hR ⟨by dsimp only; omega, cl⟩ ⟨⟨pk_us, pk_us, pk_us, e4, pk_us, pk_us⟩, cp_log n32 l⟩ ?_ ?_
    · exact fun j hj => ⟨pk_un hj, pk_un hj, pk_un hj, rfl, pk_un hj, pk_un hj⟩
    · exact fun j hj => cp_out hj
  · rw [ix_u (by omega), ix_u (by omega), eZ]
    exact ry_keepT hb hT (fun j hj => ⟨pk_un hj, rfl, pk_un hj, pk_un hj⟩) (fun j hj => cp_out hj)
theorem ym_wipe (hu : sy_R Z H M u) {b s : Nat} (hb : b < 5) (hs : s ≤ 3)
    (hp : ∀ u', sy_R Z (fs_set H b (s, 0, 0, 0, 0, 0, (H b).2.2.2.2.2.2)) M u' → post u') : wpY_wipe post u (nI b) (nI s) := by
  refine sy_el (P := fun u => wpY_wipe post u (nI b) (nI s)) ?_ hu
  intro f_clients f_capacity f_slots f_restarts a_status a_last a_cell a_view a_nonce a_length a_commit a_log a_state a_from a_to a_leader a_member hZ hR hT hm
  have i5 := ix_5 hb
  have i13 := ix_13 (by omega : b < 13)
  refine ⟨i5, nm_e ⟨i13, nm_e ⟨i5, nm_e ⟨i13, nm_e ⟨i13, nm_e ⟨i13, nm_e (hp _ (sy_mk hZ ?_ ?_ hm))⟩⟩⟩⟩⟩⟩
  · rw [ix_c (by omega)]
    refine ry_set hR ⟨by dsimp only; omega, fun i hi => absurd hi (by dsimp only; omega)⟩ ⟨⟨pk_us, pk_us, pk_us, pk_us, pk_us, pk_us⟩, fun i hi => absurd hi (by dsimp only; omega)⟩ ?_ ?_
    · exact fun j hj => ⟨pk_un hj, pk_un hj, pk_un hj, pk_un hj, pk_un hj, pk_un hj⟩
    · exact fun j hj => rfl
  · rw [ix_c (by omega)]
    exact ry_keepT hb hT (fun j hj => ⟨pk_un hj, pk_un hj, pk_un hj, pk_un hj⟩) (fun j hj => rfl)
end
end
section
/-! Y: SPREAD -/
def cn_up (f : Nat → Bool) : Nat → Nat
  | 0 => 0
  | n + 1 => cn_up f n + (f n).toNat
theorem cn_up5 (f : Nat → Bool) : cn_up f 5 = cn_5 f := by
  show 0 + (f 0).toNat + (f 1).toNat + (f 2).toNat + (f 3).toNat + (f 4).toNat = _
  rw [Nat.zero_add]
  rfl
theorem cn_upl (f : Nat → Bool) : ∀ n, cn_up f n ≤ n
  | 0 => Nat.le_refl _
  | n + 1 => by
    have := cn_upl f n
    have h : ∀ b : Bool, b.toNat ≤ 1 := fun b => by cases b <;> decide
    have := h (f n)
    show cn_up f n + (f n).toNat ≤ n + 1
    omega
theorem sy_cong {Z : vg_Z} {H H' : Nat → vg_R} {M : Nat → Int32} {u : SY} (hu : sy_R Z H M u) (h : ∀ b, b < 5 → H b = H' b) : sy_R Z H' M u := by
  obtain ⟨f_clients, f_capacity, f_slots, f_restarts, a_status, a_last, a_cell, a_view, a_nonce, a_length, a_commit, a_log, a_state, a_from, a_to, a_leader, a_member⟩ := u
  obtain ⟨hZ, hR, hT, hm⟩ := hu
  refine sy_mk hZ (fun b hb => ?_) hT hm
  rw [← h b hb]
  exact hR b hb
theorem sy_ok {Z : vg_Z} {H : Nat → vg_R} {M : Nat → Int32} {u : SY} (hu : sy_R Z H M u) : ∀ b, b < 5 → rr_ok (H b) := by
  obtain ⟨f_clients, f_capacity, f_slots, f_restarts, a_status, a_last, a_cell, a_view, a_nonce, a_length, a_commit, a_log, a_state, a_from, a_to, a_leader, a_member⟩ := u
  obtain ⟨hZ, hR, hT, hm⟩ := hu
  intro b hb
  exact (hR b hb).1
def ys_sp (post : Int32 → SY → Prop) (x1 x3 : Int32) (n : Nat) (x2 x4 : Int32) (u : SY) : Prop := match u with
  | (f_clients, f_capacity, f_slots, f_restarts, a_status, a_last, a_cell, a_view, a_nonce, a_length, a_commit, a_log, a_state, a_from, a_to, a_leader, a_member) => wY_spread_12 post x1 x3 n x2 x4 f_clients f_capacity f_slots f_restarts a_status a_last a_cell a_view a_nonce a_length a_commit a_log a_state a_from a_to a_leader a_member
def ys_H (H0 : Nat → vg_R) (ce : Nat → Nat) (p b : Nat) : Nat → vg_R := fun c => if c < b ∧ vg_fol H0 ce p c = true then vg_cp (H0 p) (H0 c) else H0 c
section
variable {Z : vg_Z} {H0 : Nat → vg_R} {M : Nat → Int32} {p : Nat} {post : Int32 → SY → Prop}
theorem ys_loop (hp5 : p < 5) (hP : (H0 p).1 = 0 ∧ (H0 p).2.1 ≤ 999)
    (hp : ∀ u', sy_R Z (vg_spr H0 Z.2.2.2.2.1 p) M u' → post (nI (cn_5 (vg_fol H0 Z.2.2.2.2.1 p))) u') :
    ∀ (d b n : Nat) (u : SY), b + d = 5 → d < n → sy_R Z (ys_H H0 Z.2.2.2.2.1 p b) M u → ys_sp post (nI p) (nI (H0 p).2.2.2.2.2.1) n (nI (cn_up (vg_fol H0 Z.2.2.2.2.1 p) b)) (nI b) u := by
  intro d
  have hHp : ∀ b, ys_H H0 Z.2.2.2.2.1 p b p = H0 p := by
    intro b
    unfold ys_H
    rw [if_neg (fun q => nt_f q.2 fo_pp)]
  induction d with
  | zero =>
    intro b n u hb hn hu
    obtain ⟨n, rfl⟩ : ∃ k, n = k + 1 := ⟨n - 1, by omega⟩
    have e5 : b = 5 := hb
    subst e5
    rw [cn_up5]
    refine sy_el (P := fun u => ys_sp post (nI p) (nI (H0 p).2.2.2.2.2.1) (n + 1) (nI (cn_5 (vg_fol H0 Z.2.2.2.2.1 p))) (nI 5) u) ?_ hu
    intro f_clients f_capacity f_slots f_restarts a_status a_last a_cell a_view a_nonce a_length a_commit a_log a_state a_from a_to a_leader a_member hZ hR hT hm
    have hv := sy_mk hZ hR hT hm
    have cl := cn_le (vg_fol H0 Z.2.2.2.2.1 p)
    have i13 := ix_13 (by omega : p < 13)
    refine br_t (Int32.le_refl _) (pk_lt (cn_5 (vg_fol H0 Z.2.2.2.2.1 p)) 2 (fun z => hp _ (sy_cong hv (fun b hb => ?_))) (fun z => ⟨i13, i13, nm_e (hp _ ?_)⟩))
    · unfold vg_spr ys_H
      by_cases e : vg_fol H0 Z.2.2.2.2.1 p b = true
      · rw [if_pos ⟨hb, e⟩, if_pos e]
      · rw [if_neg (fun q => e q.2), if_neg e, if_neg (by omega)]
    · have q := hR p hp5
      rw [hHp] at q
      obtain ⟨ok, ⟨s1, s2, s3, s4, s5, s6⟩, l⟩ := q
      have ok1 := ok.1
      rw [ix_c (by omega), s5]
      have hv2 : sy_R Z (fs_set (ys_H H0 Z.2.2.2.2.1 p 5) p ((H0 p).1, (H0 p).2.1, (H0 p).2.2.1, (H0 p).2.2.2.1, (H0 p).2.2.2.2.1, (H0 p).2.2.2.2.1, (H0 p).2.2.2.2.2.2)) M (f_clients, f_capacity, f_slots, f_restarts, a_status, a_last, a_cell, a_view, a_nonce, a_length, upd a_commit p (nI (H0 p).2.2.2.2.1), a_log, a_state, a_from, a_to, a_leader, a_member) := by
        refine sy_mk hZ ?_ ?_ hm
        · refine ry_set hR ⟨by dsimp only; omega, ok.2⟩ ⟨⟨s1, s2, s3, s4, s5, pk_us⟩, l⟩ (fun j hj => ⟨rfl, rfl, rfl, rfl, rfl, pk_un hj⟩) (fun j hj => rfl)
        · exact ry_keepT hp5 hT (fun j hj => ⟨rfl, rfl, rfl, pk_un hj⟩) (fun j hj => rfl)
      refine sy_cong hv2 (fun b hb => ?_)
      unfold vg_spr
      by_cases e : b = p
      · subst e
        rw [fs_eq, fo_pp, if_neg (by decide), if_pos ⟨rfl, z⟩]
      · rw [fs_ne e]
        unfold ys_H
        by_cases e2 : vg_fol H0 Z.2.2.2.2.1 p b = true
        · rw [if_pos ⟨hb, e2⟩, if_pos e2]
        · rw [if_neg (fun q => e2 q.2), if_neg e2, if_neg (fun q => e q.1)]
  | succ d ih =>
    intro b n u hb hn hu
    obtain ⟨n, rfl⟩ : ∃ k, n = k + 1 := ⟨n - 1, by omega⟩
    have hb5 : b < 5 := by omega
    have hHb : ys_H H0 Z.2.2.2.2.1 p b b = H0 b := by
      unfold ys_H
      rw [if_neg (by omega)]
    have tch : vg_tch (ys_H H0 Z.2.2.2.2.1 p b) Z.2.2.2.2.1 p b = vg_tch H0 Z.2.2.2.2.1 p b := by
      unfold vg_tch
      rw [hHp, hHb]
    have skip : vg_fol H0 Z.2.2.2.2.1 p b = false → ∀ u', sy_R Z (ys_H H0 Z.2.2.2.2.1 p b) M u' → ys_sp post (nI p) (nI (H0 p).2.2.2.2.2.1) n (nI (cn_up (vg_fol H0 Z.2.2.2.2.1 p) b)) (nI (b + 1)) u' := by
      intro z u' hu'
      have e : cn_up (vg_fol H0 Z.2.2.2.2.1 p) (b + 1) = cn_up (vg_fol H0 Z.2.2.2.2.1 p) b := by
        show cn_up (vg_fol H0 Z.2.2.2.2.1 p) b + (vg_fol H0 Z.2.2.2.2.1 p b).toNat = _
        rw [z]
        rfl
      have h := ih (b + 1) n u' (by omega) (by omega) (sy_cong hu' (fun c hc => ?_))
      · rw [e] at h
        exact h
      · unfold ys_H
        by_cases y : c = b
        · subst y
          rw [if_neg (fun q => nt_f q.2 z), if_neg (fun q => nt_f q.2 z)]
        · by_cases y2 : c < b ∧ vg_fol H0 Z.2.2.2.2.1 p c = true
          · rw [if_pos y2, if_pos ⟨by omega, y2.2⟩]
          · rw [if_neg y2, if_neg (fun q => y2 ⟨by omega, q.2⟩)]
    refine sy_el (P := fun u => ys_sp post (nI p) (nI (H0 p).2.2.2.2.2.1) (n + 1) (nI (cn_up (vg_fol H0 Z.2.2.2.2.1 p) b)) (nI b) u) ?_ hu
    intro f_clients f_capacity f_slots f_restarts a_status a_last a_cell a_view a_nonce a_length a_commit a_log a_state a_from a_to a_leader a_member hZ hR hT hm
    have hv := sy_mk hZ hR hT hm
    have i13 := ix_13 (by omega : p < 13)
    have j13 := ix_13 (by omega : b < 13)
    have qp := hR p hp5
    rw [hHp] at qp
    obtain ⟨okp, ⟨s1, s2, s3, s4, s5, s6⟩, l⟩ := qp
    have qb := hR b hb5
    rw [hHb] at qb
    obtain ⟨okb, ⟨t1, t2, t3, t4, t5, t6⟩, lb⟩ := qb
    have okp1 := okp.1
    have okb1 := okb.1
    have r2 := ix_rd (by omega : p < 2000) s2
    have r2b := ix_rd (by omega : b < 2000) t2
    refine br_f (lt5' b hb5) (ym_touch hv hp5 hb5 (fun z => ?_) (fun z => ?_))
    · rw [tch] at z
      refine br_f (by decide) (ym_act hv hb5 (fun z2 => ?_) (fun z2 => ?_))
      · rw [hHb] at z2
        refine br_f (by decide) ⟨j13, i13, pk_le (H0 b).2.1 (H0 p).2.1 (fun z3 => ⟨i13, ?_⟩) (fun z3 => nm_r (nI_1 b) (skip ?_ _ hv)) (hx := r2b) (hy := r2)⟩
        · have fo : vg_fol H0 Z.2.2.2.2.1 p b = true := vg_fol_iff.mpr ⟨vg_tch_iff.mp z, z2, z3⟩
          rw [r2]
          refine ym_mn hv hb5 hP.2 (Or.inl ⟨hp5, (by rw [hHp]), (by rw [hHp])⟩ : hs_is Z (ys_H H0 Z.2.2.2.2.1 p b) p (H0 p).2.2.2.2.1 (H0 p).2.2.2.2.2.2) (by omega) (fun u' hu' => ?_)
          have h := ih (b + 1) n u' (by omega) (by omega) (sy_cong hu' (fun c hc => ?_))
          · have e : cn_up (vg_fol H0 Z.2.2.2.2.1 p) (b + 1) = cn_up (vg_fol H0 Z.2.2.2.2.1 p) b + 1 := by
              show cn_up (vg_fol H0 Z.2.2.2.2.1 p) b + (vg_fol H0 Z.2.2.2.2.1 p b).toNat = _
              rw [fo]
              rfl
            rw [e] at h
            revert h
            refine sy_cs (P := fun u' => ys_sp post (nI p) (nI (H0 p).2.2.2.2.2.1) n (nI (cn_up (vg_fol H0 Z.2.2.2.2.1 p) b + 1)) (nI (b + 1)) u' → match u' with | (f_clients, f_capacity, f_slots, f_restarts, a_status, a_last, a_cell, a_view, a_nonce, a_length, a_commit, a_log, a_state, a_from, a_to, a_leader, a_member) => ∀ y : Int32, y = nI (cn_up (vg_fol H0 Z.2.2.2.2.1 p) b) + 1 → ∀ y2 : Int32, y2 = nI b + 1 → wY_spread_12 post (nI p) (nI (H0 p).2.2.2.2.2.1) n y y2 f_clients f_capacity f_slots f_restarts a_status a_last a_cell a_view a_nonce a_length a_commit a_log a_state a_from a_to a_leader a_member) ?_ u'
            clear hZ hR hT hm hv s1 s2 s3 s4 s5 s6 l t1 t2 t3 t4 t5 t6 lb r2 r2b
            intro f_clients f_capacity f_slots f_restarts a_status a_last a_cell a_view a_nonce a_length a_commit a_log a_state a_from a_to a_leader a_member h
            exact nm_r (nI_1 _) (nm_r (nI_1 b) h)
          · by_cases y : c = b
            · subst y
              rw [fs_eq, hHb]
              unfold ys_H
              rw [if_pos ⟨by omega, fo⟩]
              rfl
            · rw [fs_ne y]
              unfold ys_H
              by_cases y2 : c < b ∧ vg_fol H0 Z.2.2.2.2.1 p c = true
              · rw [if_pos y2, if_pos ⟨by omega, y2.2⟩]
              · rw [if_neg y2, if_neg (fun q => y2 ⟨by omega, q.2⟩)]
        · cases hc : vg_fol H0 Z.2.2.2.2.1 p b
          · rfl
          · exact absurd (vg_fol_iff.mp hc).2.2 (by omega)
      · rw [hHb] at z2
        refine br_t rfl (nm_r (nI_1 b) (skip ?_ _ hv))
        cases hc : vg_fol H0 Z.2.2.2.2.1 p b
        · rfl
        · exact absurd (vg_fol_iff.mp hc).2.1 (by omega)
    · rw [tch] at z
      refine br_t rfl (nm_r (nI_1 b) (skip ?_ _ hv))
      unfold vg_fol
      rw [z]
      rfl
theorem ym_spread (hp5 : p < 5) (hP : (H0 p).1 = 0 ∧ (H0 p).2.1 ≤ 999) {u : SY} (hu : sy_R Z H0 M u)
    (hp : ∀ u', sy_R Z (vg_spr H0 Z.2.2.2.2.1 p) M u' → post (nI (cn_5 (vg_fol H0 Z.2.2.2.2.1 p))) u') : wpY_spread post u (nI p) := by
  refine sy_el (P := fun u => wpY_spread post u (nI p)) ?_ hu
  intro f_clients f_capacity f_slots f_restarts a_status a_last a_cell a_view a_nonce a_length a_commit a_log a_state a_from a_to a_leader a_member hZ hR hT hm
  obtain ⟨okp, ⟨s1, s2, s3, s4, s5, s6⟩, l⟩ := hR p hp5
  refine ⟨ix_13 (by omega), nm_r (ix_rd (by omega) s6) ⟨6, ?_⟩⟩
  have h := ys_loop hp5 hP hp 5 0 6 (f_clients, f_capacity, f_slots, f_restarts, a_status, a_last, a_cell, a_view, a_nonce, a_length, a_commit, a_log, a_state, a_from, a_to, a_leader, a_member) (by omega) (by omega) (sy_cong (sy_mk hZ hR hT hm) (fun c hc => ?_))
  · exact h
  · unfold ys_H
    rw [if_neg (by omega)]
end
end
section
/-! Y: GATHER -/
def mb_01 (b : Bool) : Int32 := if b = true then 1 else 0
theorem mb_n1 : vp_nar .boolean 1 = 1 := rfl
theorem mb_n0 : vp_nar .boolean 0 = 0 := rfl
theorem mem_f {H0 : Nat → vg_R} {ce : Nat → Nat} {r w b : Nat} (z : ¬ (b = r ∨ ((r ≠ b ∧ (H0 r).1 ≠ 3 ∧ (H0 b).1 ≠ 3 ∧ ce r = ce b) ∧ (H0 b).1 ≤ 1 ∧ ((H0 b).2.1 < w ∨ ((H0 b).1 = 1 ∧ (H0 b).2.1 = w))))) : vg_mem H0 ce r w b = false := by
  cases hc : vg_mem H0 ce r w b
  · rfl
  · exact absurd (vg_mem_iff.mp hc) z
section
variable {f_clients f_capacity f_slots f_restarts : Int32} {a_status a_last a_cell a_view a_nonce a_length a_commit a_log a_state a_from a_to a_leader : Nat → Int32} {Z : vg_Z} {H : Nat → vg_R} {post : Int32 → SY → Prop} {r w : Nat}
theorem yg_l1 (hZ : (f_clients = nI Z.1 ∧ f_capacity = nI Z.2.1 ∧ f_slots = nI Z.2.2.1 ∧ f_restarts = nI Z.2.2.2.1) ∧ rz_ok Z ∧ rz_C Z.2.2.2.2.1 a_cell)
    (hR : ry_H H a_status a_last a_view a_nonce a_length a_commit a_log)
    (hT : ry_T Z.2.2.2.2.2 a_state a_from a_to a_leader a_view a_nonce a_length a_commit a_log) (hr : r < 5) (hw : w ≤ 999)
    (hp : ∀ a_member : Nat → Int32, (∀ c, c < 5 → a_member c = mb_01 (vg_mem H Z.2.2.2.2.1 r w c)) → ∃ n81 : Nat, wY_gather_81 post (nI r) (nI w) f_clients f_capacity f_slots f_restarts n81 0 0 a_status a_last a_cell a_view a_nonce a_length a_commit a_log a_state a_from a_to a_leader a_member) :
    ∀ (d b n : Nat) (a_member : Nat → Int32), b + d = 5 → d < n → (∀ c, c < b → a_member c = mb_01 (vg_mem H Z.2.2.2.2.1 r w c)) → wY_gather_2 post (nI r) (nI w) f_clients f_capacity f_slots f_restarts n (nI b) a_status a_last a_cell a_view a_nonce a_length a_commit a_log a_state a_from a_to a_leader a_member := by
  intro d
  induction d with
  | zero =>
    intro b n a_member hb hn hm
    obtain ⟨n, rfl⟩ : ∃ k, n = k + 1 := ⟨n - 1, by omega⟩
    have hb' : b = 5 := hb
    subst hb'
    exact br_t (Int32.le_refl _) (hp a_member hm)
  | succ d ih =>
    intro b n a_member hb hn hm
    obtain ⟨n, rfl⟩ : ∃ k, n = k + 1 := ⟨n - 1, by omega⟩
    have hb5 : b < 5 := by omega
    have hu := sy_mk hZ hR hT (rfl : a_member = a_member)
    obtain ⟨ok, ⟨s1, s2, _⟩, _⟩ := hR b hb5
    have ok1 := ok.1
    have r1 := ix_rd (by omega : b < 2000) s1
    have r2 := ix_rd (by omega : b < 2000) s2
    have i5 := ix_5 hb5
    have i13 := ix_13 (by omega : b < 13)
    have yes : vg_mem H Z.2.2.2.2.1 r w b = true → wY_gather_2 post (nI r) (nI w) f_clients f_capacity f_slots f_restarts n (nI (b + 1)) a_status a_last a_cell a_view a_nonce a_length a_commit a_log a_state a_from a_to a_leader (upd a_member (nI b).toNatClampNeg (vp_nar .boolean 1)) := by
      intro z
      refine ih (b + 1) n _ (by omega) (by omega) (fun c hc => ?_)
      rw [ix_c (by omega), mb_n1]
      by_cases y : c = b
      · rw [y, pk_us, z]; rfl
      · rw [pk_un y]; exact hm c (by omega)
    have no : vg_mem H Z.2.2.2.2.1 r w b = false → wY_gather_2 post (nI r) (nI w) f_clients f_capacity f_slots f_restarts n (nI (b + 1)) a_status a_last a_cell a_view a_nonce a_length a_commit a_log a_state a_from a_to a_leader (upd a_member (nI b).toNatClampNeg (vp_nar .boolean 0)) := by
      intro z
      refine ih (b + 1) n _ (by omega) (by omega) (fun c hc => ?_)
      rw [ix_c (by omega), mb_n0]
      by_cases y : c = b
      · rw [y, pk_us, z]; rfl
      · rw [pk_un y]; exact hm c (by omega)
    refine br_f (lt5' b hb5) (pk_eq b r (fun z => ⟨i5, nm_e (nm_r (nI_1 b) (yes (vg_mem_iff.mpr (Or.inl z))))⟩) (fun z => ?_))
    refine ym_touch hu hr hb5 (fun t => br_f (by decide) ?_) (fun t => br_t rfl ⟨i5, nm_e (nm_r (nI_1 b) (no (mem_f ?_)))⟩)
    · have tt := vg_tch_iff.mp t
      refine ym_act hu hb5 (fun y => br_f (by decide) ⟨i13, pk_lt (H b).2.1 w (fun y2 => ⟨i5, nm_e (nm_r (nI_1 b) (yes (vg_mem_iff.mpr (Or.inr ⟨tt, y, Or.inl y2⟩))))⟩) (fun y2 => ⟨i5, pk_eq (H b).1 1 (fun y3 => ⟨i13, pk_eq (H b).2.1 w (fun y4 => ⟨i5, nm_e (nm_r (nI_1 b) (yes (vg_mem_iff.mpr (Or.inr ⟨tt, y, Or.inr ⟨y3, y4⟩⟩))))⟩) (fun y4 => ⟨i5, nm_e (nm_r (nI_1 b) (no (mem_f (by omega))))⟩) (hx := r2)⟩) (fun y3 => ⟨i5, nm_e (nm_r (nI_1 b) (no (mem_f (by omega))))⟩) (hx := r1)⟩) (hx := r2)⟩) (fun y => br_t rfl ⟨i5, nm_e (nm_r (nI_1 b) (no (mem_f (by omega))))⟩)
    · rintro (y | y)
      · exact z y
      · exact nt_f (vg_tch_iff.mpr y.1) t
end
/-- the members moved, below b -/
def yg_H (H : Nat → vg_R) (J : Nat → Bool) (w b : Nat) : Nat → vg_R := fun c => if c < b ∧ J c = true then ga_mv (H c) w else H c
section
variable {f_clients f_capacity f_slots f_restarts : Int32} {a_last a_cell a_nonce a_length a_commit a_log a_state a_from a_to a_leader a_member : Nat → Int32} {Z : vg_Z} {H : Nat → vg_R} {J : Nat → Bool} {post : Int32 → SY → Prop} {r w : Nat}
theorem yg_l2 (hZ : (f_clients = nI Z.1 ∧ f_capacity = nI Z.2.1 ∧ f_slots = nI Z.2.2.1 ∧ f_restarts = nI Z.2.2.2.1) ∧ rz_ok Z ∧ rz_C Z.2.2.2.2.1 a_cell)
    (hm : ∀ c, c < 5 → a_member c = mb_01 (J c)) (hw : w ≤ 999)
    (hp0 : ¬ (3 ≤ cn_5 J ∧ J (w % 5) = true) → ∀ u', sy_R Z (yg_H H J w 5) a_member u' → post 0 u')
    (hp1 : 3 ≤ cn_5 J → J (w % 5) = true → ∀ a_status a_view : Nat → Int32, ry_H (yg_H H J w 5) a_status a_last a_view a_nonce a_length a_commit a_log → ry_T Z.2.2.2.2.2 a_state a_from a_to a_leader a_view a_nonce a_length a_commit a_log → ∃ n149 : Nat, wY_gather_149 post (nI w) f_clients f_capacity f_slots f_restarts a_status a_last a_cell a_view a_nonce a_length a_commit a_log a_state a_from a_to a_leader a_member n149 (nI r) 0 0) :
    ∀ (d b n : Nat) (a_status a_view : Nat → Int32), b + d = 5 → d < n → ry_H (yg_H H J w b) a_status a_last a_view a_nonce a_length a_commit a_log → ry_T Z.2.2.2.2.2 a_state a_from a_to a_leader a_view a_nonce a_length a_commit a_log →
    wY_gather_81 post (nI r) (nI w) f_clients f_capacity f_slots f_restarts n (nI (cn_up J b)) (nI b) a_status a_last a_cell a_view a_nonce a_length a_commit a_log a_state a_from a_to a_leader a_member := by
  intro d
  have q5 : w % 5 < 5 := Nat.mod_lt _ (by decide)
  induction d with
  | zero =>
    intro b n a_status a_view hb hn hR hT
    obtain ⟨n, rfl⟩ : ∃ k, n = k + 1 := ⟨n - 1, by omega⟩
    have hb' : b = 5 := hb
    subst hb'
    rw [cn_up5]
    have cl := cn_le J
    refine br_t (Int32.le_refl _) (pk_lt (cn_5 J) 3 (fun z => hp0 (fun q => by omega) _ (sy_mk hZ hR hT rfl)) (fun z => ⟨by decide, ?_⟩))
    rw [ix_r5 hw, ix_c (by omega), hm _ q5]
    refine ⟨ix_5 q5, ?_⟩
    cases hJ : J (w % 5)
    · exact br_t rfl (hp0 (fun q => nt_f q.2 hJ) _ (sy_mk hZ hR hT rfl))
    · exact br_f (by decide) (hp1 z hJ _ _ hR hT)
  | succ d ih =>
    intro b n a_status a_view hb hn hR hT
    obtain ⟨n, rfl⟩ : ∃ k, n = k + 1 := ⟨n - 1, by omega⟩
    have hb5 : b < 5 := by omega
    have i5 := ix_5 hb5
    have i13 := ix_13 (by omega : b < 13)
    have hHb : yg_H H J w b b = H b := if_neg (by omega)
    refine br_f (lt5' b hb5) ⟨i5, ?_⟩
    rw [ix_c (by omega), hm b hb5]
    cases hJ : J b
    · have e : cn_up J (b + 1) = cn_up J b := by
        show cn_up J b + (J b).toNat = _
        rw [hJ]; rfl
      have eH : yg_H H J w (b + 1) = yg_H H J w b := by
        funext c
        unfold yg_H
        by_cases y : c = b
        · subst y
          rw [if_neg (fun q => nt_f q.2 hJ), if_neg (fun q => nt_f q.2 hJ)]
        · by_cases y2 : c < b ∧ J c = true
          · rw [if_pos y2, if_pos ⟨by omega, y2.2⟩]
          · rw [if_neg y2, if_neg (fun q => y2 ⟨by omega, q.2⟩)]
      have h := ih (b + 1) n a_status a_view (by omega) (by omega) (by rw [eH]; exact hR) hT
      rw [e] at h
      exact br_t rfl (nm_r (nI_1 b) h)
    · have e : cn_up J (b + 1) = cn_up J b + 1 := by
        show cn_up J b + (J b).toNat = _
        rw [hJ]; rfl
      have eH : yg_H H J w (b + 1) = fs_set (yg_H H J w b) b (ga_mv (H b) w) := by
        funext c
        unfold yg_H
        by_cases y : c = b
        · subst y
          rw [fs_eq, if_pos ⟨by omega, hJ⟩]
        · rw [fs_ne y]
          by_cases y2 : c < b ∧ J c = true
          · rw [if_pos y2, if_pos ⟨by omega, y2.2⟩]
          · rw [if_neg y2, if_neg (fun q => y2 ⟨by omega, q.2⟩)]
      have q := hR b hb5
      rw [hHb] at q
      obtain ⟨ok, ⟨s1, s2, s3, s4, s5, s6⟩, l⟩ := q
      have ok1 := ok.1
      have h := ih (b + 1) n (upd a_status b 1) (upd a_view b (nI w)) (by omega) (by omega) ?_ ?_
      · rw [e] at h
        refine br_f (by decide) ⟨i5, nm_e ⟨i13, nm_e (nm_r (nI_1 _) (nm_r (nI_1 b) ?_))⟩⟩
        exact h
      · rw [eH]
        refine ry_set hR ⟨by unfold ga_mv; dsimp only; omega, ok.2⟩ ⟨⟨pk_us, pk_us, s3, s4, s5, s6⟩, l⟩ (fun j hj => ⟨pk_un hj, pk_un hj, rfl, rfl, rfl, rfl⟩) (fun j hj => rfl)
      · exact ry_keepT hb5 hT (fun j hj => ⟨pk_un hj, rfl, rfl, rfl⟩) (fun j hj => rfl)
end
section
variable {f_clients f_capacity f_slots f_restarts : Int32} {a_status a_last a_cell a_view a_nonce a_length a_commit a_log a_state a_from a_to a_leader a_member : Nat → Int32} {Z : vg_Z} {H : Nat → vg_R} {M : Nat → Int32} {J : Nat → Bool} {post : Int32 → SY → Prop} {r w : Nat}
theorem ym_bet {post : Int32 → Prop} {u : SY} (hu : sy_R Z H M u) {a b : Nat} (ha : a < 5) (hb : b < 5) (h1 : vg_bet (H a) a (H b) b → post 1) (h0 : ¬ vg_bet (H a) a (H b) b → post 0) : wpY_better post u (nI a) (nI b) := by
  refine sy_el (P := fun u => wpY_better post u (nI a) (nI b)) ?_ hu
  intro f_clients f_capacity f_slots f_restarts a_status a_last a_cell a_view a_nonce a_length a_commit a_log a_state a_from a_to a_leader a_member hZ hR hT hm
  obtain ⟨oka, ⟨a1, a2, a3, a4, a5, a6⟩, _⟩ := hR a ha
  obtain ⟨okb, ⟨b1, b2, b3, b4, b5, b6⟩, _⟩ := hR b hb
  have oka1 := oka.1
  have okb1 := okb.1
  have ra3 := ix_rd (by omega : a < 2000) a3
  have rb3 := ix_rd (by omega : b < 2000) b3
  have ra5 := ix_rd (by omega : a < 2000) a5
  have rb5 := ix_rd (by omega : b < 2000) b5
  have ia := ix_5 ha
  have ib := ix_5 hb
  have ja := ix_13 (by omega : a < 13)
  have jb := ix_13 (by omega : b < 13)
  unfold vg_bet at h1 h0
  exact ⟨ia, ib, pk_eq (H a).2.2.1 (H b).2.2.1 (fun z => ⟨ja, jb, pk_eq (H a).2.2.2.2.1 (H b).2.2.2.2.1 (fun z2 => pk_le b a (fun z3 => h0 (by omega)) (fun z3 => h1 (by omega))) (fun z2 => ⟨ja, jb, pk_le (H a).2.2.2.2.1 (H b).2.2.2.2.1 (fun z3 => h0 (by omega)) (fun z3 => h1 (by omega)) (hx := ra5) (hy := rb5)⟩) (hx := ra5) (hy := rb5)⟩) (fun z => ⟨ia, ib, pk_le (H a).2.2.1 (H b).2.2.1 (fun z3 => h0 (by omega)) (fun z3 => h1 (by omega)) (hx := ra3) (hy := rb3)⟩) (hx := ra3) (hy := rb3)⟩
/-- k the best and c the greatest commit number of r and the members below b -/
def yb_is (H : Nat → vg_R) (J : Nat → Bool) (r k c b : Nat) : Prop :=
  (k < 5 ∧ J k = true ∧ ∀ e, (e = r ∨ (e < b ∧ J e = true)) → e ≠ k → vg_bet (H k) k (H e) e) ∧ (∀ e, e < b → J e = true → (H e).2.2.2.2.2.1 ≤ c) ∧ (c = 0 ∨ ∃ e, e < 5 ∧ J e = true ∧ (H e).2.2.2.2.2.1 = c)
theorem yg_l3 (hu : sy_R Z H M (f_clients, f_capacity, f_slots, f_restarts, a_status, a_last, a_cell, a_view, a_nonce, a_length, a_commit, a_log, a_state, a_from, a_to, a_leader, a_member)) (hm : ∀ c, c < 5 → M c = mb_01 (J c)) (Jr : J r = true) (hr : r < 5)
    (hp : ∀ k c, gb_is H J k c → ∃ n220 : Nat, wY_gather_220 post (nI w) (nI k) (nI c) n220 0 f_clients f_capacity f_slots f_restarts a_status a_last a_cell a_view a_nonce a_length a_commit a_log a_state a_from a_to a_leader a_member) :
    ∀ (d b n k c : Nat), b + d = 5 → d < n → yb_is H J r k c b → wY_gather_149 post (nI w) f_clients f_capacity f_slots f_restarts a_status a_last a_cell a_view a_nonce a_length a_commit a_log a_state a_from a_to a_leader a_member n (nI k) (nI c) (nI b) := by
  intro d
  have hmm : a_member = M := hu.2.2.2
  have hR := hu.2.1
  induction d with
  | zero =>
    intro b n k c hb hn hI
    obtain ⟨n, rfl⟩ : ∃ k, n = k + 1 := ⟨n - 1, by omega⟩
    have hb' : b = 5 := hb
    subst hb'
    obtain ⟨⟨i1, i2, i3⟩, i4, i5⟩ := hI
    exact br_t (Int32.le_refl _) (hp k c ⟨⟨i1, i2, fun e he je => i3 e (Or.inr ⟨he, je⟩)⟩, i4, i5⟩)
  | succ d ih =>
    intro b n k c hb hn hI
    obtain ⟨n, rfl⟩ : ∃ k, n = k + 1 := ⟨n - 1, by omega⟩
    have hb5 : b < 5 := by omega
    have i5 := ix_5 hb5
    have i13 := ix_13 (by omega : b < 13)
    have mb : a_member (nI b).toNatClampNeg = mb_01 (J b) := by rw [ix_c (by omega), hmm, hm b hb5]
    obtain ⟨⟨j1, j2, j3⟩, j4, j5⟩ := hI
    have c32 : c ≤ 32 := by
      rcases j5 with e | ⟨e, e1, e2, e3⟩
      · omega
      · have := (hR e e1).1.1
        omega
    refine br_f (lt5' b hb5) ⟨i5, ?_⟩
    rw [mb]
    cases hJ : J b
    · refine br_t rfl ⟨i5, ?_⟩
      rw [mb, hJ]
      refine br_t rfl (nm_r (nI_1 b) (ih (b + 1) n k c (by omega) (by omega) ⟨⟨j1, j2, fun e he => j3 e ?_⟩, fun e he je => j4 e ?_ je, j5⟩))
      · rcases he with y | ⟨y, y2⟩
        · exact Or.inl y
        · refine Or.inr ⟨?_, y2⟩
          by_cases q : e = b
          · rw [q] at y2; exact nt_f y2 hJ
          · omega
      · by_cases q : e = b
        · rw [q] at je; exact nt_f je hJ
        · omega
    · refine br_f (by decide) ?_
      obtain ⟨ok, ⟨s1, s2, s3, s4, s5, s6⟩, _⟩ := hR b hb5
      have ok1 := ok.1
      have r6 := ix_rd (by omega : b < 2000) s6
      have nxt : ∀ k', (k' < 5 ∧ J k' = true ∧ ∀ e, (e = r ∨ (e < b + 1 ∧ J e = true)) → e ≠ k' → vg_bet (H k') k' (H e) e) → wY_gather_180 post (wY_gather_149 post (nI w) f_clients f_capacity f_slots f_restarts a_status a_last a_cell a_view a_nonce a_length a_commit a_log a_state a_from a_to a_leader a_member n) (nI w) (nI k') (nI c) (nI b) f_clients f_capacity f_slots f_restarts a_status a_last a_cell a_view a_nonce a_length a_commit a_log a_state a_from a_to a_leader a_member := by
        intro k' hk'
        refine And.intro i5 ?_
        rw [mb, hJ]
        refine br_f (by decide) ⟨i13, pk_le (H b).2.2.2.2.2.1 c (fun z => nm_r (nI_1 b) (ih (b + 1) n k' c (by omega) (by omega) ⟨hk', fun e he je => ?_, j5⟩)) (fun z => ⟨i13, nm_r r6 (nm_r (nI_1 b) (ih (b + 1) n k' (H b).2.2.2.2.2.1 (by omega) (by omega) ⟨hk', fun e he je => ?_, Or.inr ⟨b, hb5, hJ, rfl⟩⟩))⟩) (hx := r6)⟩
        · by_cases q : e = b
          · rw [q]; exact z
          · exact j4 e (by omega) je
        · by_cases q : e = b
          · rw [q]; exact Nat.le_refl _
          · have := j4 e (by omega) je
            omega
      refine ym_bet hu hb5 j1 (fun z => br_f (by decide) (nxt b ⟨hb5, hJ, fun e he eb => ?_⟩)) (fun z => br_t rfl (nxt k ⟨j1, j2, fun e he ek => ?_⟩))
      · by_cases q : e = k
        · rw [q]; exact z
        · refine gv_tr z (j3 e ?_ q)
          rcases he with y | ⟨y, y2⟩
          · exact Or.inl y
          · exact Or.inr ⟨by omega, y2⟩
      · by_cases q : e = b
        · rw [q] at ek ⊢
          exact (gv_bet (fun y => ek y.symm)).resolve_right z
        · refine j3 e ?_ ek
          rcases he with y | ⟨y, y2⟩
          · exact Or.inl y
          · exact Or.inr ⟨by omega, y2⟩
end
def yg_4 (post : Int32 → SY → Prop) (x2 x4 x5 : Int32) (n : Nat) (x6 : Int32) (u : SY) : Prop := match u with
  | (f_clients, f_capacity, f_slots, f_restarts, a_status, a_last, a_cell, a_view, a_nonce, a_length, a_commit, a_log, a_state, a_from, a_to, a_leader, a_member) => wY_gather_220 post x2 x4 x5 n x6 f_clients f_capacity f_slots f_restarts a_status a_last a_cell a_view a_nonce a_length a_commit a_log a_state a_from a_to a_leader a_member
def yg_K (H : Nat → vg_R) (J : Nat → Bool) (w k c b : Nat) : Nat → vg_R := fun e => if J e = true then (if e < b then (0, w, w, (H e).2.2.2.1, (H k).2.2.2.2.1, c, (H k).2.2.2.2.2.2) else ga_mv (H e) w) else H e
section
variable {Z : vg_Z} {H : Nat → vg_R} {M : Nat → Int32} {J : Nat → Bool} {post : Int32 → SY → Prop} {w k c : Nat}
theorem yg_l4 (hw : w ≤ 999) (hm : ∀ c, c < 5 → M c = mb_01 (J c)) (k5 : k < 5) (Jk : J k = true) (Jq : J (w % 5) = true) (hc : c ≤ (H k).2.2.2.2.1)
    (hp : ∀ u', sy_R Z (vg_gat H J w k c) M u' → post 1 u') :
    ∀ (d b n : Nat) (u : SY), b + d = 5 → d < n → sy_R Z (yg_K H J w k c b) M u → yg_4 post (nI w) (nI k) (nI c) n (nI b) u := by
  intro d
  have q5 : w % 5 < 5 := Nat.mod_lt _ (by decide)
  have hK : ∀ b, (yg_K H J w k c b k).2.2.2.2.1 = (H k).2.2.2.2.1 ∧ (yg_K H J w k c b k).2.2.2.2.2.2 = (H k).2.2.2.2.2.2 := by
    intro b
    unfold yg_K
    rw [if_pos Jk]
    split <;> exact ⟨rfl, rfl⟩
  induction d with
  | zero =>
    intro b n u hb hn hu
    obtain ⟨n, rfl⟩ : ∃ k, n = k + 1 := ⟨n - 1, by omega⟩
    have hb' : b = 5 := hb
    subst hb'
    refine sy_el (P := fun u => yg_4 post (nI w) (nI k) (nI c) (n + 1) (nI 5) u) ?_ hu
    intro f_clients f_capacity f_slots f_restarts a_status a_last a_cell a_view a_nonce a_length a_commit a_log a_state a_from a_to a_leader a_member hZ hR hT hmm
    refine br_t (Int32.le_refl _) ⟨by decide, ix_13 (by omega), ?_⟩
    rw [ix_r5 hw]
    refine ⟨ix_13 (by omega), nm_e (hp _ ?_)⟩
    obtain ⟨_, ⟨_, _, _, _, e5, _⟩, _⟩ := hR k k5
    rw [(hK 5).1] at e5
    rw [ix_c (by omega), ix_c (by omega), e5]
    obtain ⟨ok, ⟨s1, s2, s3, s4, s5, s6⟩, l⟩ := hR (w % 5) q5
    have eq : yg_K H J w k c 5 (w % 5) = (0, w, w, (H (w % 5)).2.2.2.1, (H k).2.2.2.2.1, c, (H k).2.2.2.2.2.2) := by
      unfold yg_K
      rw [if_pos Jq, if_pos q5]
    rw [eq] at ok s1 s2 s3 s4 s5 s6 l
    have ok1 := ok.1
    have hv : sy_R Z (fs_set (yg_K H J w k c 5) (w % 5) (0, w, w, (H (w % 5)).2.2.2.1, (H k).2.2.2.2.1, (H k).2.2.2.2.1, (H k).2.2.2.2.2.2)) M (f_clients, f_capacity, f_slots, f_restarts, a_status, a_last, a_cell, a_view, a_nonce, a_length, upd a_commit (w % 5) (nI (H k).2.2.2.2.1), a_log, a_state, a_from, a_to, a_leader, a_member) := by
      refine sy_mk hZ ?_ ?_ hmm
      · exact ry_set hR ⟨by dsimp only at ok1 ⊢; omega, ok.2⟩ ⟨⟨s1, s2, s3, s4, s5, pk_us⟩, l⟩ (fun j hj => ⟨rfl, rfl, rfl, rfl, rfl, pk_un hj⟩) (fun j hj => rfl)
      · exact ry_keepT q5 hT (fun j hj => ⟨rfl, rfl, rfl, pk_un hj⟩) (fun j hj => rfl)
    refine sy_cong hv (fun b hb => ?_)
    unfold vg_gat
    by_cases y : b = w % 5
    · subst y
      rw [fs_eq, if_pos Jq, if_pos rfl]
    · rw [fs_ne y, if_neg y]
      unfold yg_K
      rw [if_pos hb]
  | succ d ih =>
    intro b n u hb hn hu
    obtain ⟨n, rfl⟩ : ∃ k, n = k + 1 := ⟨n - 1, by omega⟩
    have hb5 : b < 5 := by omega
    refine sy_el (P := fun u => yg_4 post (nI w) (nI k) (nI c) (n + 1) (nI b) u) ?_ hu
    intro f_clients f_capacity f_slots f_restarts a_status a_last a_cell a_view a_nonce a_length a_commit a_log a_state a_from a_to a_leader a_member hZ hR hT hmm
    have i5 := ix_5 hb5
    have mb : a_member (nI b).toNatClampNeg = mb_01 (J b) := by rw [ix_c (by omega), hmm, hm b hb5]
    refine br_f (lt5' b hb5) ⟨i5, ?_⟩
    rw [mb]
    cases hJ : J b
    · have eH : yg_K H J w k c (b + 1) = yg_K H J w k c b := by
        funext e
        unfold yg_K
        cases je : J e
        · rfl
        · rw [if_pos rfl, if_pos rfl]
          by_cases y : e < b
          · rw [if_pos y, if_pos (by omega)]
          · have : e ≠ b := by
              intro q
              rw [q] at je
              exact nt_f je hJ
            rw [if_neg y, if_neg (by omega)]
      exact br_t rfl (nm_r (nI_1 b) (ih (b + 1) n (f_clients, f_capacity, f_slots, f_restarts, a_status, a_last, a_cell, a_view, a_nonce, a_length, a_commit, a_log, a_state, a_from, a_to, a_leader, a_member) (by omega) (by omega) (by rw [eH]; exact sy_mk hZ hR hT hmm)))
    · refine br_f (by decide) ?_
      refine ym_mn (sy_mk hZ hR hT hmm) hb5 hw (Or.inl ⟨k5, (hK b).1.symm, (hK b).2.symm⟩ : hs_is Z (yg_K H J w k c b) k (H k).2.2.2.2.1 (H k).2.2.2.2.2.2) hc (fun u' hu' => ?_)
      have eH : yg_K H J w k c (b + 1) = fs_set (yg_K H J w k c b) b (0, w, w, (yg_K H J w k c b b).2.2.2.1, (H k).2.2.2.2.1, c, (H k).2.2.2.2.2.2) := by
        funext e
        by_cases y : e = b
        · subst y
          rw [fs_eq]
          unfold yg_K
          rw [if_pos hJ, if_pos (by omega), if_pos hJ, if_neg (by omega)]
          rfl
        · rw [fs_ne y]
          unfold yg_K
          cases je : J e
          · rfl
          · rw [if_pos rfl, if_pos rfl]
            by_cases y2 : e < b
            · rw [if_pos y2, if_pos (by omega)]
            · rw [if_neg y2, if_neg (by omega)]
      have h := ih (b + 1) n u' (by omega) (by omega) (by rw [eH]; exact hu')
      revert h
      refine sy_cs (P := fun u' => yg_4 post (nI w) (nI k) (nI c) n (nI (b + 1)) u' → match u' with | (f_clients, f_capacity, f_slots, f_restarts, a_status, a_last, a_cell, a_view, a_nonce, a_length, a_commit, a_log, a_state, a_from, a_to, a_leader, a_member) => ∀ y : Int32, y = nI b + 1 → wY_gather_220 post (nI w) (nI k) (nI c) n y f_clients f_capacity f_slots f_restarts a_status a_last a_cell a_view a_nonce a_length a_commit a_log a_state a_from a_to a_leader a_member) ?_ u'
      clear hZ hR hT hmm mb
      intro f_clients f_capacity f_slots f_restarts a_status a_last a_cell a_view a_nonce a_length a_commit a_log a_state a_from a_to a_leader a_member h
      exact nm_r (nI_1 b) h
end
theorem ym_gather {Z : vg_Z} {H : Nat → vg_R} {M : Nat → Int32} {post : Int32 → SY → Prop} {r w : Nat} {u : SY} (hu : sy_R Z H M u) (hr : r < 5) (hw : w ≤ 999)
    (hcm : 3 ≤ cn_5 (vg_mem H Z.2.2.2.2.1 r w) → vg_mem H Z.2.2.2.2.1 r w (w % 5) = true → ∀ k c, gb_is H (vg_mem H Z.2.2.2.2.1 r w) k c → c ≤ (H k).2.2.2.2.1)
    (hp0 : ¬ (3 ≤ cn_5 (vg_mem H Z.2.2.2.2.1 r w) ∧ vg_mem H Z.2.2.2.2.1 r w (w % 5) = true) → ∀ u' M', sy_R Z (fun b => if vg_mem H Z.2.2.2.2.1 r w b = true then ga_mv (H b) w else H b) M' u' → post 0 u')
    (hp1 : 3 ≤ cn_5 (vg_mem H Z.2.2.2.2.1 r w) → vg_mem H Z.2.2.2.2.1 r w (w % 5) = true → ∀ k c, gb_is H (vg_mem H Z.2.2.2.2.1 r w) k c → ∀ u' M', sy_R Z (vg_gat H (vg_mem H Z.2.2.2.2.1 r w) w k c) M' u' → post 1 u') : wpY_gather post u (nI r) (nI w) := by
  refine sy_el (P := fun u => wpY_gather post u (nI r) (nI w)) ?_ hu
  intro f_clients f_capacity f_slots f_restarts a_status a_last a_cell a_view a_nonce a_length a_commit a_log a_state a_from a_to a_leader a_member hZ hR hT hm0
  refine ⟨6, yg_l1 hZ hR hT hr hw ?_ 5 0 6 a_member (by omega) (by omega) (fun c hc => absurd hc (by omega))⟩
  clear hm0 hu
  intro a_member hm
  have Jr : vg_mem H Z.2.2.2.2.1 r w r = true := vg_mem_iff.mpr (Or.inl rfl)
  have e0 : yg_H H (vg_mem H Z.2.2.2.2.1 r w) w 0 = H := by
    funext c
    exact if_neg (by omega)
  have e5 : ∀ b, b < 5 → yg_H H (vg_mem H Z.2.2.2.2.1 r w) w 5 b = if vg_mem H Z.2.2.2.2.1 r w b = true then ga_mv (H b) w else H b := by
    intro b hb
    unfold yg_H
    cases hc : vg_mem H Z.2.2.2.2.1 r w b
    · rw [if_neg (fun q => nt_f q.2 rfl), if_neg Bool.false_ne_true]
    · rw [if_pos ⟨hb, rfl⟩, if_pos rfl]
  refine ⟨6, yg_l2 (H := H) hZ hm hw (fun z u' hu' => hp0 z u' _ (sy_cong hu' e5)) (fun z zq a_status a_view hR' hT' => ⟨6, ?_⟩) 5 0 6 a_status a_view (by omega) (by omega) (by rw [e0]; exact hR) hT⟩
  have hv := sy_mk (M := a_member) hZ hR' hT' rfl
  have same : ∀ e, (yg_H H (vg_mem H Z.2.2.2.2.1 r w) w 5 e).2.2.1 = (H e).2.2.1 ∧ (yg_H H (vg_mem H Z.2.2.2.2.1 r w) w 5 e).2.2.2.2.1 = (H e).2.2.2.2.1 ∧ (yg_H H (vg_mem H Z.2.2.2.2.1 r w) w 5 e).2.2.2.2.2.1 = (H e).2.2.2.2.2.1 := by
    intro e
    unfold yg_H
    split <;> exact ⟨rfl, rfl, rfl⟩
  have bet : ∀ a b, vg_bet (yg_H H (vg_mem H Z.2.2.2.2.1 r w) w 5 a) a (yg_H H (vg_mem H Z.2.2.2.2.1 r w) w 5 b) b → vg_bet (H a) a (H b) b := by
    intro a b
    unfold vg_bet
    rw [(same a).1, (same b).1, (same a).2.1, (same b).2.1]
    exact id
  refine yg_l3 hv hm Jr hr (fun k c hk => ⟨6, ?_⟩) 5 0 6 r 0 (by omega) (by omega) ⟨⟨hr, Jr, fun e he er => ?_⟩, fun e he => absurd he (by omega), Or.inl rfl⟩
  · have hk' : gb_is H (vg_mem H Z.2.2.2.2.1 r w) k c := by
      obtain ⟨⟨y1, y2, y3⟩, y4, y5⟩ := hk
      refine ⟨⟨y1, y2, fun b hb jb bk => bet k b (y3 b hb jb bk)⟩, fun b hb jb => ?_, ?_⟩
      · have := y4 b hb jb
        rw [(same b).2.2] at this
        exact this
      · rcases y5 with y | ⟨b, y6, y7, y8⟩
        · exact Or.inl y
        · rw [(same b).2.2] at y8
          exact Or.inr ⟨b, y6, y7, y8⟩
    have h := yg_l4 hw hm hk'.1.1 hk'.1.2.1 zq (hcm z zq k c hk') (fun u' hu' => hp1 z zq k c hk' u' _ hu') 5 0 6 (f_clients, f_capacity, f_slots, f_restarts, a_status, a_last, a_cell, a_view, a_nonce, a_length, a_commit, a_log, a_state, a_from, a_to, a_leader, a_member) (by omega) (by omega) (sy_cong hv (fun b hb => ?_))
    · exact h
    · rw [e5 b hb]
      unfold yg_K
      rw [if_neg (by omega : ¬ b < 0)]
  · rcases he with y | ⟨y, _⟩
    · exact absurd y er
    · omega
end
section
/-! Y: scans of a log -/
def vl_lat (g : Nat → vg_E) : Nat → Int32 → Nat
  | 0 => fun _ => 0
  | n + 1 => fun c => if (g n).1 = c then n + 1 else vl_lat g n c
theorem vl_lat_le {g : Nat → vg_E} {c : Int32} : ∀ n, vl_lat g n c ≤ n
  | 0 => Nat.le_refl _
  | n + 1 => by
    have := vl_lat_le (g := g) (c := c) n
    show (if (g n).1 = c then n + 1 else vl_lat g n c) ≤ n + 1
    split <;> omega
theorem vl_num_lat {g : Nat → vg_E} {c : Int32} : ∀ n, vl_num g n c = if vl_lat g n c = 0 then 0 else (g (vl_lat g n c - 1)).2.1
  | 0 => rfl
  | n + 1 => by
    have ih := vl_num_lat (g := g) (c := c) n
    show (if (g n).1 = c then (g n).2.1 else vl_num g n c) = if (if (g n).1 = c then n + 1 else vl_lat g n c) = 0 then 0 else (g ((if (g n).1 = c then n + 1 else vl_lat g n c) - 1)).2.1
    by_cases e : (g n).1 = c
    · rw [if_pos e, if_pos e, if_neg (by omega), Nat.add_sub_cancel]
    · rw [if_neg e, if_neg e]
      exact ih
theorem vl_rs_lat {g : Nat → vg_E} {c : Int32} : ∀ n, vl_rs g n c = if vl_lat g n c = 0 then 0 else vl_res ((g (vl_lat g n c - 1)).2.2 &&& 3) (vl_val g (vl_lat g n c - 1) (vl_key (g (vl_lat g n c - 1)).2.2)) (vl_arg (g (vl_lat g n c - 1)).2.2)
  | 0 => rfl
  | n + 1 => by
    have ih := vl_rs_lat (g := g) (c := c) n
    have e1 : vl_lat g (n + 1) c = if (g n).1 = c then n + 1 else vl_lat g n c := rfl
    have e2 : vl_rs g (n + 1) c = if (g n).1 = c then vl_res ((g n).2.2 &&& 3) (vl_val g n (vl_key (g n).2.2)) (vl_arg (g n).2.2) else vl_rs g n c := rfl
    rw [e1, e2]
    by_cases e : (g n).1 = c
    · rw [if_pos e, if_pos e, if_neg (by omega), Nat.add_sub_cancel]
    · rw [if_neg e, if_neg e]
      exact ih
theorem vl_pen_lat {g : Nat → vg_E} {c : Int32} {lo : Nat} : ∀ n, lo ≤ n → vl_pen g lo n c = if lo < vl_lat g n c then (g (vl_lat g n c - 1)).2.1 else 0
  | 0, h => by
    rw [if_neg (by show ¬ lo < 0; omega)]
    rfl
  | n + 1, h => by
    have e1 : vl_lat g (n + 1) c = if (g n).1 = c then n + 1 else vl_lat g n c := rfl
    have e2 : vl_pen g lo (n + 1) c = if n < lo then 0 else if (g n).1 = c then (g n).2.1 else vl_pen g lo n c := rfl
    have := vl_lat_le (g := g) (c := c) n
    rw [e1, e2]
    by_cases z : n < lo
    · rw [if_pos z, if_neg (by split <;> omega)]
    · rw [if_neg z]
      by_cases e : (g n).1 = c
      · rw [if_pos e, if_pos e, if_pos (by omega), Nat.add_sub_cancel]
      · rw [if_neg e, if_neg e]
        exact vl_pen_lat n (by omega)
/-- with nothing pending the table holds the newest number -/
theorem vl_lat_lo {g : Nat → vg_E} {c : Int32} {lo : Nat} : ∀ n, lo ≤ n → vl_lat g n c ≤ lo → vl_lat g lo c = vl_lat g n c
  | 0, h, _ => by rw [show lo = 0 by omega]
  | n + 1, h, h2 => by
    by_cases z : lo = n + 1
    · rw [z]
    · have e1 : vl_lat g (n + 1) c = if (g n).1 = c then n + 1 else vl_lat g n c := rfl
      rw [e1] at h2 ⊢
      by_cases e : (g n).1 = c
      · rw [if_pos e] at h2
        omega
      · rw [if_neg e] at h2 ⊢
        exact vl_lat_lo n (by omega) h2
section
variable {Z : vg_Z} {H : Nat → vg_R} {M : Nat → Int32} {f_clients f_capacity f_slots f_restarts : Int32} {a_status a_last a_cell a_view a_nonce a_length a_commit a_log a_state a_from a_to a_leader a_member : Nat → Int32} {post : Int32 → Prop}
theorem yr_lat_l (hu : sy_R Z H M (f_clients, f_capacity, f_slots, f_restarts, a_status, a_last, a_cell, a_view, a_nonce, a_length, a_commit, a_log, a_state, a_from, a_to, a_leader, a_member)) {b n : Nat} {c : Int32} (hb : b < 5) (hn : n ≤ (H b).2.2.2.2.1) (hp : post (nI (vl_lat (H b).2.2.2.2.2.2 n c) - 1)) :
    ∀ d i f : Nat, i + d = 32 → d < f → wY_latest_6 post (nI b) c (nI n) f_clients f_capacity f_slots f_restarts a_status a_last a_cell a_view a_nonce a_length a_commit a_log a_state a_from a_to a_leader a_member f (nI (vl_lat (H b).2.2.2.2.2.2 (min i n) c) - 1) (nI i) := by
  intro d
  have hR := hu.2.1
  obtain ⟨ok, ⟨s1, s2, s3, s4, s5, s6⟩, l⟩ := hR b hb
  have ok1 := ok.1
  have r5 := ix_rd (by omega : b < 2000) s5
  induction d with
  | zero =>
    intro i f hi hf
    obtain ⟨f, rfl⟩ : ∃ k, f = k + 1 := ⟨f - 1, by omega⟩
    have hi' : i = 32 := hi
    subst hi'
    rw [show min 32 n = n by omega]
    exact br_t (Int32.le_refl _) hp
  | succ d ih =>
    intro i f hi hf
    obtain ⟨f, rfl⟩ : ∃ k, f = k + 1 := ⟨f - 1, by omega⟩
    have h := ih (i + 1) f (by omega) (by omega)
    refine br_f (nI_ge (b := 32) (by omega) (by decide)) (pk_le n i (fun z => nm_r (nI_1 i) ?_) (fun z => ⟨ix_13 (by omega), br_f (by rw [r5]; exact nI_ge (by omega) (by omega)) ?_⟩))
    · rw [show min (i + 1) n = min i n by omega] at h
      exact h
    · rw [show min (i + 1) n = i + 1 by omega] at h
      rw [show min i n = i by omega]
      refine ym_ef (f := 0) (by omega) (by omega) (by omega) ?_
      have e : a_log ((b * 32 + i) * 3 + 0) = ((H b).2.2.2.2.2.2 i).1 := (l i (by omega)).1
      rw [e]
      have e1 : vl_lat (H b).2.2.2.2.2.2 (i + 1) c = if ((H b).2.2.2.2.2.2 i).1 = c then i + 1 else vl_lat (H b).2.2.2.2.2.2 i c := rfl
      rw [e1] at h
      refine br_c (fun y => nm_r (nI_1 i) ?_) (fun y => nm_r (nI_1 i) ?_)
      · rw [if_pos y, nI_pred] at h
        exact h
      · rw [if_neg y] at h
        exact h
theorem ym_after (u : SY) (k v x : Int32) (h : post (vl_aft k v x)) : wpY_after post u k v x := by
  revert h
  refine sy_cs (P := fun u => post (vl_aft k v x) → wpY_after post u k v x) ?_ u
  intro f_clients f_capacity f_slots f_restarts a_status a_last a_cell a_view a_nonce a_length a_commit a_log a_state a_from a_to a_leader a_member h
  unfold vl_aft at h
  have k15 : ¬ (k = 3 ∧ v = 0) → ¬ k = 0 → wY_after_15 post k v x f_clients f_capacity f_slots f_restarts a_status a_last a_cell a_view a_nonce a_length a_commit a_log a_state a_from a_to a_leader a_member := by
    intro z z0
    rw [if_neg z0, if_neg z] at h
    refine br_c (fun y => ?_) (fun y => br_c (fun y2 => ?_) (fun y2 => ?_))
    · rw [if_pos y] at h; exact h
    · rw [if_neg y, if_pos y2] at h; exact h
    · rw [if_neg y, if_neg y2] at h; exact h
  refine br_c (fun z => ?_) (fun z => br_c (fun z2 => br_c (fun z3 => ?_) (fun z3 => k15 (fun q => z3 q.2) z)) (fun z2 => k15 (fun q => z2 q.1) z))
  · rw [if_pos z] at h; exact h
  · rw [if_neg z, if_pos ⟨z2, z3⟩] at h; exact h
theorem ym_result (u : SY) (k v x : Int32) (h : post (vl_res k v x)) : wpY_result post u k v x := by
  revert h
  refine sy_cs (P := fun u => post (vl_res k v x) → wpY_result post u k v x) ?_ u
  intro f_clients f_capacity f_slots f_restarts a_status a_last a_cell a_view a_nonce a_length a_commit a_log a_state a_from a_to a_leader a_member h
  unfold vl_res at h
  refine br_c (fun z => ?_) (fun z => br_c (fun z2 => br_c (fun z3 => ?_) (fun z3 => ?_)) (fun z2 => ?_))
  · rw [if_pos z] at h; exact h
  · rw [if_neg z, if_pos z2, if_pos z3] at h; exact h
  · rw [if_neg z, if_pos z2, if_neg z3] at h; exact h
  · rw [if_neg z, if_neg z2] at h
    exact ym_after _ k v x h
theorem yr_val_l (hu : sy_R Z H M (f_clients, f_capacity, f_slots, f_restarts, a_status, a_last, a_cell, a_view, a_nonce, a_length, a_commit, a_log, a_state, a_from, a_to, a_leader, a_member)) {b n : Nat} {k : Int32} (hb : b < 5) (hn : n ≤ (H b).2.2.2.2.1) (hp : post (vl_val (H b).2.2.2.2.2.2 n k)) :
    ∀ d i f : Nat, i + d = 32 → d < f → wY_value_6 post (nI b) (nI n) k f_clients f_capacity f_slots f_restarts a_status a_last a_cell a_view a_nonce a_length a_commit a_log a_state a_from a_to a_leader a_member f (vl_val (H b).2.2.2.2.2.2 (min i n) k) (nI i) := by
  intro d
  have hR := hu.2.1
  obtain ⟨ok, ⟨s1, s2, s3, s4, s5, s6⟩, l⟩ := hR b hb
  have ok1 := ok.1
  have r5 := ix_rd (by omega : b < 2000) s5
  induction d with
  | zero =>
    intro i f hi hf
    obtain ⟨f, rfl⟩ : ∃ k, f = k + 1 := ⟨f - 1, by omega⟩
    have hi' : i = 32 := hi
    subst hi'
    rw [show min 32 n = n by omega]
    exact br_t (Int32.le_refl _) hp
  | succ d ih =>
    intro i f hi hf
    obtain ⟨f, rfl⟩ : ∃ k, f = k + 1 := ⟨f - 1, by omega⟩
    have h := ih (i + 1) f (by omega) (by omega)
    refine br_f (nI_ge (b := 32) (by omega) (by decide)) (ym_ef (f := 2) (by omega) (by omega) (by omega) ?_)
    refine pk_le n i (fun z => nm_r (nI_1 i) ?_) (fun z => ⟨ix_13 (by omega), br_f (by rw [r5]; exact nI_ge (by omega) (by omega)) ?_⟩)
    · rw [show min (i + 1) n = min i n by omega] at h
      exact h
    · rw [show min (i + 1) n = i + 1 by omega] at h
      rw [show min i n = i by omega, (l i (by omega)).2.2]
      have e1 : vl_val (H b).2.2.2.2.2.2 (i + 1) k = if vl_key ((H b).2.2.2.2.2.2 i).2.2 = k then vl_aft (((H b).2.2.2.2.2.2 i).2.2 &&& 3) (vl_val (H b).2.2.2.2.2.2 i k) (vl_arg ((H b).2.2.2.2.2.2 i).2.2) else vl_val (H b).2.2.2.2.2.2 i k := rfl
      rw [e1] at h
      refine br_c (fun y => ?_) (fun y => nm_r (nI_1 i) ?_)
      · rw [if_pos (show vl_key ((H b).2.2.2.2.2.2 i).2.2 = k from y)] at h
        exact ym_after _ _ _ _ (nm_r (nI_1 i) h)
      · rw [if_neg (show ¬ vl_key ((H b).2.2.2.2.2.2 i).2.2 = k from y)] at h
        exact h
end
section
variable {Z : vg_Z} {H : Nat → vg_R} {M : Nat → Int32} {u : SY} {post : Int32 → Prop}
theorem ym_lat (hu : sy_R Z H M u) {b n : Nat} {c : Int32} (hb : b < 5) (hn : n ≤ (H b).2.2.2.2.1) (hp : post (nI (vl_lat (H b).2.2.2.2.2.2 n c) - 1)) : wpY_latest post u (nI b) c (nI n) := by
  refine sy_el (P := fun u => wpY_latest post u (nI b) c (nI n)) ?_ hu
  intro f_clients f_capacity f_slots f_restarts a_status a_last a_cell a_view a_nonce a_length a_commit a_log a_state a_from a_to a_leader a_member hZ hR hT hm
  refine ⟨33, ?_⟩
  have h := yr_lat_l (sy_mk hZ hR hT hm) hb hn hp 32 0 33 (by omega) (by omega)
  rw [show min 0 n = 0 by omega] at h
  exact h
theorem ym_val (hu : sy_R Z H M u) {b n : Nat} {k : Int32} (hb : b < 5) (hn : n ≤ (H b).2.2.2.2.1) (hp : post (vl_val (H b).2.2.2.2.2.2 n k)) : wpY_value post u (nI b) (nI n) k := by
  refine sy_el (P := fun u => wpY_value post u (nI b) (nI n) k) ?_ hu
  intro f_clients f_capacity f_slots f_restarts a_status a_last a_cell a_view a_nonce a_length a_commit a_log a_state a_from a_to a_leader a_member hZ hR hT hm
  refine ⟨33, ?_⟩
  have h := yr_val_l (sy_mk hZ hR hT hm) hb hn hp 32 0 33 (by omega) (by omega)
  rw [show min 0 n = 0 by omega] at h
  exact h
/-- a field of an entry -/
theorem ym_ent (hu : sy_R Z H M u) {b i f : Nat} (hb : b < 5) (hi : i < (H b).2.2.2.2.1) (hf : f < 3) (h0 : f = 0 → post ((H b).2.2.2.2.2.2 i).1) (h1 : f = 1 → post ((H b).2.2.2.2.2.2 i).2.1) (h2 : f = 2 → post ((H b).2.2.2.2.2.2 i).2.2) : wpY_entryField post u (nI b) (nI i) (nI f) := by
  refine sy_el (P := fun u => wpY_entryField post u (nI b) (nI i) (nI f)) ?_ hu
  intro f_clients f_capacity f_slots f_restarts a_status a_last a_cell a_view a_nonce a_length a_commit a_log a_state a_from a_to a_leader a_member hZ hR hT hm
  obtain ⟨ok, _, l⟩ := hR b hb
  have ok1 := ok.1
  refine ym_ef (by omega) (by omega) hf ?_
  obtain ⟨l1, l2, l3⟩ := l i hi
  have hf' : f = 0 ∨ f = 1 ∨ f = 2 := by omega
  rcases hf' with rfl | rfl | rfl
  · rw [Nat.add_zero, l1]; exact h0 rfl
  · rw [l2]; exact h1 rfl
  · rw [l3]; exact h2 rfl
end
end
section
/-! Y: letters -/
section
variable {f_clients f_capacity f_slots f_restarts : Int32} {a_status a_last a_cell a_view a_nonce a_length a_commit a_log a_state a_from a_to a_leader a_member : Nat → Int32}
theorem yr_ff_l {post : Int32 → Prop} {T : Nat → vg_L} {le : Nat} (hle : le ≤ 8) (el : f_slots = nI le) (hs : ∀ s, s < 8 → a_state s = nI (T s).1 ∧ (T s).1 ≤ 2) :
    ∀ d i n : Nat, i + d = le → d < n → post (if ff_at T d i < le then nI (ff_at T d i) else -1) → wY_lowestFree_2 post f_clients f_capacity f_slots f_restarts a_status a_last a_cell a_view a_nonce a_length a_commit a_log a_state a_from a_to a_leader a_member n (nI i) := by
  intro d
  induction d with
  | zero =>
    intro i n hi hn h
    obtain ⟨n, rfl⟩ : ∃ k, n = k + 1 := ⟨n - 1, by omega⟩
    have hi' : i = le := hi
    subst hi'
    refine br_t (by rw [el]; exact Int32.le_refl _) ?_
    rw [if_neg (by show ¬ i < i; omega)] at h
    exact h
  | succ d ih =>
    intro i n hi hn h
    obtain ⟨n, rfl⟩ : ∃ k, n = k + 1 := ⟨n - 1, by omega⟩
    obtain ⟨e1, e2⟩ := hs i (by omega)
    refine br_f (by rw [el]; exact nI_ge (by omega : i < le) (by omega)) ⟨ix_8 (by omega), pk_eq (T i).1 0 (fun z => ?_) (fun z => nm_r (nI_1 i) ?_) (hx := ix_rd (by omega) e1)⟩
    · unfold ff_at at h
      rw [if_pos z, if_pos (by omega)] at h
      exact h
    · unfold ff_at at h
      rw [if_neg z] at h
      exact ih (i + 1) n (by omega) (by omega) h
end
theorem ym_free {Z : vg_Z} {H : Nat → vg_R} {M : Nat → Int32} {u : SY} {post : Int32 → Prop} (hu : sy_R Z H M u) (hp : post (ff_r Z.2.2.2.2.2 Z.2.2.1)) : wpY_lowestFree post u := by
  refine sy_el (P := fun u => wpY_lowestFree post u) ?_ hu
  intro f_clients f_capacity f_slots f_restarts a_status a_last a_cell a_view a_nonce a_length a_commit a_log a_state a_from a_to a_leader a_member hZ hR hT hm
  have zk := hZ.2.1
  unfold rz_ok at zk
  refine ⟨Z.2.2.1 + 1, ?_⟩
  exact yr_ff_l (T := Z.2.2.2.2.2) (le := Z.2.2.1) (by omega) hZ.1.2.2.1 (fun s hs => ⟨(hT s hs).2.1.1, (hT s hs).1.1.1⟩) Z.2.2.1 0 (Z.2.2.1 + 1) (by omega) (by omega) hp
theorem ry_st {T : Nat → vg_L} {s v : Nat} {tS tF tT tD aV aN aZ aC aG : Nat → Int32} (h : ry_T T tS tF tT tD aV aN aZ aC aG) (hv : v ≤ 2) :
    ry_T (fs_set T s (tl_st (T s) v)) (upd tS s (nI v)) tF tT tD aV aN aZ aC aG := by
  intro c hc
  obtain ⟨ok, ⟨e1, e2⟩, l⟩ := h c hc
  by_cases e : c = s
  · subst e
    rw [fs_eq]
    exact ⟨⟨⟨hv, ok.1.2⟩, ok.2⟩, ⟨pk_us, e2⟩, l⟩
  · rw [fs_ne e]
    exact ⟨ok, ⟨(pk_un e).trans e1, e2⟩, l⟩
def yd_l (post : SY → Prop) (x1 : Int32) (n : Nat) (x2 : Int32) (u : SY) : Prop := match u with
  | (f_clients, f_capacity, f_slots, f_restarts, a_status, a_last, a_cell, a_view, a_nonce, a_length, a_commit, a_log, a_state, a_from, a_to, a_leader, a_member) => wY_dropHeld_2 post x1 f_clients f_capacity f_slots f_restarts n x2 a_status a_last a_cell a_view a_nonce a_length a_commit a_log a_state a_from a_to a_leader a_member
section
variable {Z : vg_Z} {H : Nat → vg_R} {M : Nat → Int32} {post : SY → Prop}
theorem yd_loop {r : Nat} (hr : r < 5) (hp : ∀ u', sy_R (zs_T Z (td_drop Z.2.2.2.2.2 Z.2.2.1 r (fun _ => true))) H M u' → post u') :
    ∀ (d i n : Nat) (u : SY), i + d = Z.2.2.1 → d < n → sy_R (zs_T Z (td_drop Z.2.2.2.2.2 i r (fun _ => true))) H M u → yd_l post (nI r) n (nI i) u := by
  intro d
  induction d with
  | zero =>
    intro i n u hi hn hu
    obtain ⟨n, rfl⟩ : ∃ k, n = k + 1 := ⟨n - 1, by omega⟩
    have hi' : i = Z.2.2.1 := hi
    subst hi'
    refine sy_el (P := fun u => yd_l post (nI r) (n + 1) (nI Z.2.2.1) u) ?_ hu
    intro f_clients f_capacity f_slots f_restarts a_status a_last a_cell a_view a_nonce a_length a_commit a_log a_state a_from a_to a_leader a_member hZ hR hT hm
    exact br_t (by rw [hZ.1.2.2.1]; exact Int32.le_refl _) (hp _ (sy_mk hZ hR hT hm))
  | succ d ih =>
    intro i n u hi hn hu
    obtain ⟨n, rfl⟩ : ∃ k, n = k + 1 := ⟨n - 1, by omega⟩
    refine sy_el (P := fun u => yd_l post (nI r) (n + 1) (nI i) u) ?_ hu
    intro f_clients f_capacity f_slots f_restarts a_status a_last a_cell a_view a_nonce a_length a_commit a_log a_state a_from a_to a_leader a_member hZ hR hT hm
    have zk : rz_ok (zs_T Z (td_drop Z.2.2.2.2.2 i r (fun _ => true))) := hZ.2.1
    unfold rz_ok at zk
    have zle : Z.2.2.1 ≤ 8 := zk.2.2.2.2.2.1
    have i8 := ix_8 (by omega : i < 8)
    have hv := sy_mk hZ hR hT hm
    have eT : (zs_T Z (td_drop Z.2.2.2.2.2 i r (fun _ => true))).2.2.2.2.2 i = Z.2.2.2.2.2 i := (td_at : td_drop Z.2.2.2.2.2 i r (fun _ => true) i = Z.2.2.2.2.2 i)
    refine br_f (by rw [hZ.1.2.2.1]; exact nI_ge (by omega : i < Z.2.2.1) (by omega)) (ym_held hv (by omega) hr (fun z => br_f (by decide) ⟨i8, nm_e (nm_r (nI_1 i) ?_)⟩) (fun z => br_t rfl (nm_r (nI_1 i) ?_)))
    · rw [eT] at z
      refine ih (i + 1) n (f_clients, f_capacity, f_slots, f_restarts, a_status, a_last, a_cell, a_view, a_nonce, a_length, a_commit, a_log, upd a_state (nI i).toNatClampNeg 0, a_from, a_to, a_leader, a_member) (by omega) (by omega) ?_
      rw [← td_s ⟨z.1, z.2, rfl⟩, ix_c (by omega)]
      refine sy_mk hZ hR ?_ hm
      have h := ry_st (s := i) (v := 0) hT (by omega)
      rw [eT] at h
      exact h
    · rw [eT] at z
      refine ih (i + 1) n (f_clients, f_capacity, f_slots, f_restarts, a_status, a_last, a_cell, a_view, a_nonce, a_length, a_commit, a_log, a_state, a_from, a_to, a_leader, a_member) (by omega) (by omega) ?_
      rw [← td_n (fun q => z ⟨q.1, q.2.1⟩)]
      exact hv
theorem ym_drop {u : SY} (hu : sy_R Z H M u) {r : Nat} (hr : r < 5) (hp : ∀ u', sy_R (zs_T Z (td_drop Z.2.2.2.2.2 Z.2.2.1 r (fun _ => true))) H M u' → post u') : wpY_dropHeld post u (nI r) := by
  refine sy_el (P := fun u => wpY_dropHeld post u (nI r)) ?_ hu
  intro f_clients f_capacity f_slots f_restarts a_status a_last a_cell a_view a_nonce a_length a_commit a_log a_state a_from a_to a_leader a_member hZ hR hT hm
  refine ⟨Z.2.2.1 + 1, ?_⟩
  have h := yd_loop hr hp Z.2.2.1 0 (Z.2.2.1 + 1) (f_clients, f_capacity, f_slots, f_restarts, a_status, a_last, a_cell, a_view, a_nonce, a_length, a_commit, a_log, a_state, a_from, a_to, a_leader, a_member) (by omega) (by omega) ?_
  · exact h
  · rw [td_0]
    exact sy_mk hZ hR hT hm
end
/-! ask -/
theorem ry_ltset {T : Nat → vg_L} {s : Nat} {x : vg_L} {tS tF tT tD aV aN aZ aC aG tS' tF' tT' tD' aV' aN' aZ' aC' aG' : Nat → Int32} (h : ry_T T tS tF tT tD aV aN aZ aC aG)
    (ok : rt_ok x) (hx : ry_lt x s tS' tF' tT' tD' aV' aN' aZ' aC' aG')
    (f1 : ∀ j, j ≠ s → tS' j = tS j ∧ tF' j = tF j ∧ tT' j = tT j ∧ tD' j = tD j)
    (f2 : ∀ j, j ≠ 5 + s → aV' j = aV j ∧ aN' j = aN j ∧ aZ' j = aZ j ∧ aC' j = aC j)
    (f3 : ∀ j, (j < (5 + s) * 96 ∨ (5 + s) * 96 + 96 ≤ j) → aG' j = aG j) : ry_T (fs_set T s x) tS' tF' tT' tD' aV' aN' aZ' aC' aG' := by
  intro c hc
  by_cases e : c = s
  · subst e
    rw [fs_eq]
    exact ⟨ok, hx⟩
  · rw [fs_ne e]
    obtain ⟨okc, ⟨e1, e2, e3, e4, e5, e6, e7, e8⟩, l⟩ := h c hc
    obtain ⟨g1, g2, g3, g4⟩ := f1 c e
    obtain ⟨k1, k2, k3, k4⟩ := f2 (5 + c) (by omega)
    refine ⟨okc, ⟨g1.trans e1, g2.trans e2, g3.trans e3, k2.trans e4, k1.trans e5, g4.trans e6, k3.trans e7, k4.trans e8⟩, fun i hi => ?_⟩
    have := okc.1
    rw [f3 _ (by omega), f3 _ (by omega), f3 _ (by omega)]
    exact l i hi
theorem ry_keepH {H : Nat → vg_R} {s : Nat} {sS sL aV aN aZ aC aG aV' aN' aZ' aC' aG' : Nat → Int32} (h : ry_H H sS sL aV aN aZ aC aG)
    (f2 : ∀ j, j ≠ 5 + s → aV' j = aV j ∧ aN' j = aN j ∧ aZ' j = aZ j ∧ aC' j = aC j)
    (f3 : ∀ j, (j < (5 + s) * 96 ∨ (5 + s) * 96 + 96 ≤ j) → aG' j = aG j) : ry_H H sS sL aV' aN' aZ' aC' aG' := by
  intro c hc
  obtain ⟨okc, ⟨e1, e2, e3, e4, e5, e6⟩, l⟩ := h c hc
  obtain ⟨k1, k2, k3, k4⟩ := f2 c (by omega)
  refine ⟨okc, ⟨e1, k1.trans e2, e3, k2.trans e4, k3.trans e5, k4.trans e6⟩, fun i hi => ?_⟩
  have := okc.1
  rw [f3 _ (by omega), f3 _ (by omega), f3 _ (by omega)]
  exact l i hi
section
variable {f_clients f_capacity f_slots f_restarts : Int32} {a_status a_last a_cell a_view a_nonce a_length a_commit a_log a_state a_from a_to a_leader a_member : Nat → Int32} {Z : vg_Z} {H : Nat → vg_R} {M : Nat → Int32} {post : Int32 → SY → Prop}
/-- the letter is written, behind its leader's mark -/
theorem ya_108 {J28 : Int32 → Int32 → Int32 → Int32 → Int32 → Int32 → (Nat → Int32) → (Nat → Int32) → (Nat → Int32) → (Nat → Int32) → (Nat → Int32) → (Nat → Int32) → (Nat → Int32) → (Nat → Int32) → (Nat → Int32) → (Nat → Int32) → (Nat → Int32) → (Nat → Int32) → (Nat → Int32) → Prop}
    {N b r s ld : Nat} (hu : sy_R Z H M (f_clients, f_capacity, f_slots, f_restarts, a_status, a_last, a_cell, a_view, a_nonce, a_length, a_commit, a_log, a_state, a_from, a_to, a_leader, a_member)) (hb : b < 5) (hr : r < 5) (hs : s < 8) (hld : (ld = 1 ∧ (H b).2.1 % 5 = b) ∨ (ld = 0 ∧ (H b).2.1 % 5 ≠ b))
    (hp : ∀ (f_clients_q f_capacity_q f_slots_q f_restarts_q : Int32) (a_status_q a_last_q a_cell_q a_view_q a_nonce_q a_length_q a_commit_q a_log_q a_state_q a_from_q a_to_q a_leader_q a_member_q : Nat → Int32), sy_R (zs_T Z (fs_set Z.2.2.2.2.2 s (ak_let H r b))) H M (f_clients_q, f_capacity_q, f_slots_q, f_restarts_q, a_status_q, a_last_q, a_cell_q, a_view_q, a_nonce_q, a_length_q, a_commit_q, a_log_q, a_state_q, a_from_q, a_to_q, a_leader_q, a_member_q) → J28 (nI (N + 1)) (nI (b + 1)) f_clients_q f_capacity_q f_slots_q f_restarts_q a_status_q a_last_q a_cell_q a_view_q a_nonce_q a_length_q a_commit_q a_log_q a_state_q a_from_q a_to_q a_leader_q a_member_q) :
    wY_ask_108 post J28 (nI r) (nI N) (nI b) (nI s) (nI ld) (nI s) f_clients f_capacity f_slots f_restarts a_status a_last a_cell a_view a_nonce a_length a_commit a_log (upd a_state s 1) (upd a_from s (nI b)) (upd a_to s (nI r)) a_leader a_member := by
  obtain ⟨hZ, hR, hT, hm⟩ := hu
  have i8 := ix_8 hs
  have jb := ix_13 (by omega : b < 13)
  have jr := ix_13 (by omega : r < 13)
  have js : vp_in (5 + nI s) 13 := by rw [ix_p5]; exact ix_13 (by omega)
  have cs : (5 + nI s).toNatClampNeg = 5 + s := by rw [ix_p5]; exact ix_c (by omega)
  have c8 : (nI s).toNatClampNeg = s := ix_c (by omega)
  obtain ⟨okb, ⟨s1, s2, s3, s4, s5, s6⟩, l⟩ := hR b hb
  obtain ⟨okr, ⟨t1, t2, t3, t4, t5, t6⟩, _⟩ := hR r hr
  have okb1 := okb.1
  have okr1 := okr.1
  refine ⟨i8, nm_e ⟨jb, js, nm_e ⟨jr, js, nm_e ⟨jb, js, nm_e ?_⟩⟩⟩⟩
  rw [cs, c8, ix_rd (by omega : b < 2000) s2, ix_rd (by omega : r < 2000) t4, ix_rd (by omega : b < 2000) s6, ix_p5]
  refine ym_cp (by omega) (by omega) ?_
  have key : ∀ n' c', (((H b).2.1 % 5 = b ∧ n' = (H b).2.2.2.2.1 ∧ c' = (H b).2.2.2.2.2.1) ∨ ((H b).2.1 % 5 ≠ b ∧ n' = 0 ∧ c' = 0)) → ∀ aZ aC : Nat → Int32, (aZ (5 + s) = nI n' ∧ aC (5 + s) = nI c') → (∀ j, j ≠ 5 + s → aZ j = a_length j ∧ aC j = a_commit j) →
      sy_R (zs_T Z (fs_set Z.2.2.2.2.2 s (ak_let H r b))) H M (f_clients, f_capacity, f_slots, f_restarts, a_status, a_last, a_cell, upd a_view (5 + s) (nI (H b).2.1), upd a_nonce (5 + s) (nI (H r).2.2.2.1), aZ, aC, cp_cpy a_log a_log ((5 + s) * 96) (b * 96) 96, upd a_state s 1, upd a_from s (nI b), upd a_to s (nI r), upd a_leader s (nI ld), a_member) := by
    intro n' c' hn aZ aC e1 e2
    refine sy_mk ⟨hZ.1, hZ.2.1, hZ.2.2⟩ (ry_keepH (s := s) hR (fun j hj => ⟨pk_un hj, pk_un hj, (e2 j hj).1, (e2 j hj).2⟩) (fun j hj => cp_out hj)) ?_ hm
    have lt : ak_let H r b = (1, b, r, (H r).2.2.2.1, (H b).2.1, ld, n', c', (H b).2.2.2.2.2.2) := by
      unfold ak_let
      rcases hn with ⟨y1, y2, y3⟩ | ⟨y1, y2, y3⟩
      · rw [if_pos y1, y2, y3]
        rcases hld with ⟨y4, _⟩ | ⟨_, y4⟩
        · rw [y4]
        · exact absurd y1 y4
      · rw [if_neg y1, y2, y3]
        rcases hld with ⟨_, y4⟩ | ⟨y4, _⟩
        · exact absurd y4 y1
        · rw [y4]
    rw [lt]
    refine ry_ltset hT ⟨⟨(by decide : (1 : Nat) ≤ 2), hb, hr, okr1.2.2.2.1, okb1.2.1, ?_, ?_, ?_⟩, ?_⟩ ⟨⟨pk_us, pk_us, pk_us, pk_us, pk_us, pk_us, e1.1, e1.2⟩, ?_⟩ (fun j hj => ⟨pk_un hj, pk_un hj, pk_un hj, pk_un hj⟩) (fun j hj => ⟨pk_un hj, pk_un hj, (e2 j hj).1, (e2 j hj).2⟩) (fun j hj => cp_out hj)
    · show ld ≤ 1
      omega
    · show n' ≤ 32
      omega
    · show c' ≤ n'
      omega
    · intro i hi
      have hi' : i < n' := hi
      exact okb.2 i (by omega)
    · have n32 : (H b).2.2.2.2.1 ≤ 32 := by omega
      have := cp_log (b := 5 + s) n32 l
      intro i hi
      have hi' : i < n' := hi
      exact this i (by omega)
  refine ⟨i8, ?_⟩
  rw [pk_us]
  have ls : a_length b = nI (H b).2.2.2.2.1 := s5
  rcases hld with ⟨y1, y2⟩ | ⟨y1, y2⟩
  · refine br_f (by rw [y1]; decide) (nm_r (nI_1 N) (nm_r (nI_1 b) ?_))
    refine hp _ _ _ _ _ _ _ _ _ _ _ _ _ _ _ _ _ (key _ _ (Or.inl ⟨y2, rfl, rfl⟩) _ _ ⟨?_, pk_us⟩ (fun j hj => ⟨pk_un hj, pk_un hj⟩))
    rw [pk_us, ls]
  · refine br_t (by rw [y1]; rfl) ⟨ix_13 (by omega), nm_e ⟨ix_13 (by omega), nm_e (nm_r (nI_1 N) (nm_r (nI_1 b) ?_))⟩⟩
    exact hp _ _ _ _ _ _ _ _ _ _ _ _ _ _ _ _ _ (key _ _ (Or.inr ⟨y2, rfl, rfl⟩) _ _ ⟨pk_us, pk_us⟩ (fun j hj => ⟨(pk_un hj).trans (pk_un hj), (pk_un hj).trans (pk_un hj)⟩))
end
def ya_l (post : Int32 → SY → Prop) (x1 : Int32) (n : Nat) (x2 x3 : Int32) (u : SY) : Prop := match u with
  | (f_clients, f_capacity, f_slots, f_restarts, a_status, a_last, a_cell, a_view, a_nonce, a_length, a_commit, a_log, a_state, a_from, a_to, a_leader, a_member) => wY_ask_28 post x1 n x2 x3 f_clients f_capacity f_slots f_restarts a_status a_last a_cell a_view a_nonce a_length a_commit a_log a_state a_from a_to a_leader a_member
section
variable {Z : vg_Z} {H : Nat → vg_R} {M : Nat → Int32} {post : Int32 → SY → Prop}
theorem ya_loop {r : Nat} (hr : r < 5) (hp : ∀ u', sy_R (zs_T Z (ak_T H Z.2.2.2.2.1 r Z.2.2.1 Z.2.2.2.2.2 5).1) H M u' → post (nI (ak_T H Z.2.2.2.2.1 r Z.2.2.1 Z.2.2.2.2.2 5).2) u') :
    ∀ (d b n : Nat) (u : SY), b + d = 5 → d < n → sy_R (zs_T Z (ak_T H Z.2.2.2.2.1 r Z.2.2.1 Z.2.2.2.2.2 b).1) H M u → ya_l post (nI r) n (nI (ak_T H Z.2.2.2.2.1 r Z.2.2.1 Z.2.2.2.2.2 b).2) (nI b) u := by
  intro d
  induction d with
  | zero =>
    intro b n u hb hn hu
    obtain ⟨n, rfl⟩ : ∃ k, n = k + 1 := ⟨n - 1, by omega⟩
    have hb' : b = 5 := hb
    subst hb'
    refine sy_el (P := fun u => ya_l post (nI r) (n + 1) (nI (ak_T H Z.2.2.2.2.1 r Z.2.2.1 Z.2.2.2.2.2 5).2) (nI 5) u) ?_ hu
    intro f_clients f_capacity f_slots f_restarts a_status a_last a_cell a_view a_nonce a_length a_commit a_log a_state a_from a_to a_leader a_member hZ hR hT hm
    exact br_t (Int32.le_refl _) (hp _ (sy_mk hZ hR hT hm))
  | succ d ih =>
    intro b n u hb hn hu
    obtain ⟨n, rfl⟩ : ∃ k, n = k + 1 := ⟨n - 1, by omega⟩
    have hb5 : b < 5 := by omega
    have ih1 := ih (b + 1) n
    clear ih
    generalize hTn : ak_T H Z.2.2.2.2.1 r Z.2.2.1 Z.2.2.2.2.2 b = TN at hu ⊢
    obtain ⟨T, N⟩ := TN
    have hN : N ≤ b := by
      have := ak_n (H := H) (ce := Z.2.2.2.2.1) (r := r) (le := Z.2.2.1) (T := Z.2.2.2.2.2) b
      rw [hTn] at this
      exact this
    have hnx : ak_T H Z.2.2.2.2.1 r Z.2.2.1 Z.2.2.2.2.2 (b + 1) = if vg_tch H Z.2.2.2.2.1 r b = true ∧ (H b).1 = 0 ∧ ff_at T Z.2.2.1 0 < Z.2.2.1 then (fs_set T (ff_at T Z.2.2.1 0) (ak_let H r b), N + 1) else (T, N) := by
      show (if vg_tch H Z.2.2.2.2.1 r b = true ∧ (H b).1 = 0 ∧ ff_at (ak_T H Z.2.2.2.2.1 r Z.2.2.1 Z.2.2.2.2.2 b).1 Z.2.2.1 0 < Z.2.2.1 then (fs_set (ak_T H Z.2.2.2.2.1 r Z.2.2.1 Z.2.2.2.2.2 b).1 (ff_at (ak_T H Z.2.2.2.2.1 r Z.2.2.1 Z.2.2.2.2.2 b).1 Z.2.2.1 0) (ak_let H r b), (ak_T H Z.2.2.2.2.1 r Z.2.2.1 Z.2.2.2.2.2 b).2 + 1) else ak_T H Z.2.2.2.2.1 r Z.2.2.1 Z.2.2.2.2.2 b) = _
      rw [hTn]
    rw [hnx] at ih1
    dsimp only at hu
    refine sy_el (P := fun u => ya_l post (nI r) (n + 1) (nI N) (nI b) u) ?_ hu
    intro f_clients f_capacity f_slots f_restarts a_status a_last a_cell a_view a_nonce a_length a_commit a_log a_state a_from a_to a_leader a_member hZ hR hT hm
    have hv := sy_mk hZ hR hT hm
    have skip : ¬ (vg_tch H Z.2.2.2.2.1 r b = true ∧ (H b).1 = 0 ∧ ff_at T Z.2.2.1 0 < Z.2.2.1) → ya_l post (nI r) n (nI N) (nI (b + 1)) (f_clients, f_capacity, f_slots, f_restarts, a_status, a_last, a_cell, a_view, a_nonce, a_length, a_commit, a_log, a_state, a_from, a_to, a_leader, a_member) := by
      intro z
      rw [if_neg z] at ih1
      exact ih1 _ (by omega) (by omega) hv
    obtain ⟨okb, ⟨s1, s2, _⟩, _⟩ := hR b hb5
    have okb1 := okb.1
    have zk : rz_ok (zs_T Z T) := hZ.2.1
    have zle : Z.2.2.1 ≤ 8 := zk.2.2.2.2.2.1
    refine br_f (lt5' b hb5) (ym_free hv ?_)
    have zT : (zs_T Z T).2.2.2.2.2 = T := rfl
    have zL : (zs_T Z T).2.2.1 = Z.2.2.1 := rfl
    rw [zT, zL]
    unfold ff_r
    by_cases z3 : ff_at T Z.2.2.1 0 < Z.2.2.1
    · rw [if_pos z3]
      have i8 := ix_8 (by omega : ff_at T Z.2.2.1 0 < 8)
      refine br_f (nI_pos (by omega)) ⟨ix_5 hb5, pk_eq (H b).1 0 (fun z2 => ?_) (fun z2 => nm_r (nI_1 b) (skip (fun q => z2 q.2.1))) (hx := ix_rd (by omega) s1)⟩
      refine ym_touch hv hr hb5 (fun z => br_f (by decide) ⟨i8, nm_e ⟨i8, nm_e ⟨i8, nm_e ?_⟩⟩⟩) (fun z => br_t rfl (nm_r (nI_1 b) (skip (fun q => nt_f q.1 z))))
      rw [if_pos ⟨z, z2, z3⟩] at ih1
      have c8 : (nI (ff_at T Z.2.2.1 0)).toNatClampNeg = ff_at T Z.2.2.1 0 := ix_c (by omega)
      rw [c8]
      have fin : ∀ (f_clients_q f_capacity_q f_slots_q f_restarts_q : Int32) (a_status_q a_last_q a_cell_q a_view_q a_nonce_q a_length_q a_commit_q a_log_q a_state_q a_from_q a_to_q a_leader_q a_member_q : Nat → Int32), sy_R (zs_T (zs_T Z T) (fs_set (zs_T Z T).2.2.2.2.2 (ff_at T Z.2.2.1 0) (ak_let H r b))) H M (f_clients_q, f_capacity_q, f_slots_q, f_restarts_q, a_status_q, a_last_q, a_cell_q, a_view_q, a_nonce_q, a_length_q, a_commit_q, a_log_q, a_state_q, a_from_q, a_to_q, a_leader_q, a_member_q) → wY_ask_28 post (nI r) n (nI (N + 1)) (nI (b + 1)) f_clients_q f_capacity_q f_slots_q f_restarts_q a_status_q a_last_q a_cell_q a_view_q a_nonce_q a_length_q a_commit_q a_log_q a_state_q a_from_q a_to_q a_leader_q a_member_q := by
        intro f_clients_q f_capacity_q f_slots_q f_restarts_q a_status_q a_last_q a_cell_q a_view_q a_nonce_q a_length_q a_commit_q a_log_q a_state_q a_from_q a_to_q a_leader_q a_member_q h
        exact ih1 (f_clients_q, f_capacity_q, f_slots_q, f_restarts_q, a_status_q, a_last_q, a_cell_q, a_view_q, a_nonce_q, a_length_q, a_commit_q, a_log_q, a_state_q, a_from_q, a_to_q, a_leader_q, a_member_q) (by omega) (by omega) h
      have pv : ∀ (post' : Int32 → Prop), ((H b).1 = 0 ∧ (H b).2.1 % 5 = b → post' 1) → (¬ ((H b).1 = 0 ∧ (H b).2.1 % 5 = b) → post' 0) → wpY_normalPrimary post' (f_clients, f_capacity, f_slots, f_restarts, a_status, a_last, a_cell, a_view, a_nonce, a_length, a_commit, a_log, upd a_state (ff_at T Z.2.2.1 0) 1, upd a_from (ff_at T Z.2.2.1 0) (nI b), upd a_to (ff_at T Z.2.2.1 0) (nI r), a_leader, a_member) (nI b) := by
        intro post' h1 h0
        have e1 := ix_rd (by omega : b < 2000) s1
        have e2 := ix_rd (by omega : b < 2000) s2
        refine ⟨ix_5 hb5, pk_eq (H b).1 0 (fun z => ⟨ix_13 (by omega), by decide, ?_⟩) (fun z => h0 (fun q => z q.1)) (hx := e1)⟩
        rw [e2]
        exact pk_eq b ((H b).2.1 % 5) (fun z2 => h1 ⟨z, z2.symm⟩) (fun z2 => h0 (fun q => z2 q.2.symm)) (hy := ix_r5 (by omega))
      refine pv _ (fun y => br_f (by decide) ?_) (fun y => br_t rfl ?_)
      · exact ya_108 (ld := 1) hv hb5 hr (by omega) (Or.inl ⟨rfl, y.2⟩) fin
      · exact ya_108 (ld := 0) hv hb5 hr (by omega) (Or.inr ⟨rfl, fun q => y ⟨z2, q⟩⟩) fin
    · rw [if_neg z3]
      exact br_t (by decide) (nm_r (nI_1 b) (skip (fun q => z3 q.2.2)))
end
end
section
/-! Y: deliver -/
section
variable {f_clients f_capacity f_slots f_restarts : Int32} {a_status a_last a_cell a_view a_nonce a_length a_commit a_log a_state a_from a_to a_leader a_member : Nat → Int32} {Z : vg_Z} {H : Nat → vg_R} {M : Nat → Int32} {post : Int32 → SY → Prop}
theorem dl_ok_iff {T : Nat → vg_L} {r w s : Nat} : dl_ok T r w s = true ↔ (((T s).1 = 2 ∧ (T s).2.2.1 = r) ∧ (T s).2.2.2.2.1 = w ∧ (T s).2.1 = w % 5) := by
  unfold dl_ok
  rw [Bool.and_eq_true, dl_h_iff, decide_eq_true_iff]
theorem dl_no {T : Nat → vg_L} {r w s : Nat} (z : ¬ (((T s).1 = 2 ∧ (T s).2.2.1 = r) ∧ (T s).2.2.2.2.1 = w ∧ (T s).2.1 = w % 5)) : dl_ok T r w s = false := by
  cases hc : dl_ok T r w s
  · rfl
  · exact absurd (dl_ok_iff.mp hc) z
theorem yv_187 (hu : sy_R Z H M (f_clients, f_capacity, f_slots, f_restarts, a_status, a_last, a_cell, a_view, a_nonce, a_length, a_commit, a_log, a_state, a_from, a_to, a_leader, a_member)) {r w cnt : Nat} (hr : r < 5) (hw : w ≤ 999) (hcn : cnt ≤ 8)
    (h1 : (cnt < 3 ∨ ∀ j, j < Z.2.2.1 → dl_ok Z.2.2.2.2.2 r w j = false) → post 1 (f_clients, f_capacity, f_slots, f_restarts, a_status, a_last, a_cell, a_view, a_nonce, a_length, a_commit, a_log, a_state, a_from, a_to, a_leader, a_member))
    (h2 : 3 ≤ cnt → ∀ s, s < Z.2.2.1 → dl_ok Z.2.2.2.2.2 r w s = true → ∀ u', sy_R (zs_T Z (td_drop Z.2.2.2.2.2 Z.2.2.1 r (fun _ => true))) (fs_set H r (0, w, w, 0, (Z.2.2.2.2.2 s).2.2.2.2.2.2.1, (Z.2.2.2.2.2 s).2.2.2.2.2.2.2.1, (Z.2.2.2.2.2 s).2.2.2.2.2.2.2.2)) M u' → post 2 u') :
    ∀ (d i n : Nat) (x6 : Int32), i + d = Z.2.2.1 → d < n → ((x6 = -1 ∧ ∀ j, j < i → dl_ok Z.2.2.2.2.2 r w j = false) ∨ ∃ s, s < i ∧ x6 = nI s ∧ dl_ok Z.2.2.2.2.2 r w s = true) →
    wY_deliver_187 post (nI r) (nI cnt) (nI w) f_clients f_capacity f_slots f_restarts a_status a_last a_cell a_view a_nonce a_length a_commit a_log a_state a_from a_to a_leader a_member n x6 (nI i) := by
  intro d
  have hZ := hu.1
  have hR := hu.2.1
  have hT := hu.2.2.1
  have hm := hu.2.2.2
  have zk := hZ.2.1
  unfold rz_ok at zk
  induction d with
  | zero =>
    intro i n x6 hi hn hx
    obtain ⟨n, rfl⟩ : ∃ k, n = k + 1 := ⟨n - 1, by omega⟩
    have hi' : i = Z.2.2.1 := hi
    subst hi'
    refine br_t (by rw [hZ.1.2.2.1]; exact Int32.le_refl _) (pk_lt cnt 3 (fun z => h1 (Or.inl z)) (fun z => ?_))
    rcases hx with ⟨e, hj⟩ | ⟨s, s1, e, s2⟩
    · exact br_f (by rw [e]; decide) (h1 (Or.inr hj))
    · have js : vp_in (5 + nI s) 13 := by rw [ix_p5]; exact ix_13 (by omega)
      obtain ⟨okt, ⟨e1, e2, e3, e4, e5, e6, e7, e8⟩, l⟩ := hT s (by omega)
      have okt1 := okt.1
      rw [e]
      refine br_t (nI_pos' (by omega)) ⟨js, ?_⟩
      rw [ix_p5, ix_c (b := 5 + s) (by omega), e8]
      refine ym_mn hu hr hw (Or.inr ⟨s, by omega, rfl, rfl, rfl⟩ : hs_is Z H (5 + s) (Z.2.2.2.2.2 s).2.2.2.2.2.2.1 (Z.2.2.2.2.2 s).2.2.2.2.2.2.2.2) okt1.2.2.2.2.2.2.2 (fun u' hu' => ?_)
      have nx := h2 z s s1 s2
      obtain ⟨f_clients, f_capacity, f_slots, f_restarts, a_status, a_last, a_cell, a_view, a_nonce, a_length, a_commit, a_log, a_state, a_from, a_to, a_leader, a_member⟩ := u'
      obtain ⟨kZ, kR, kT, km⟩ := hu'
      refine ⟨ix_13 (by omega), nm_e ?_⟩
      rw [ix_c (by omega)]
      refine ym_drop (Z := Z) (H := fs_set H r (0, w, w, 0, (Z.2.2.2.2.2 s).2.2.2.2.2.2.1, (Z.2.2.2.2.2 s).2.2.2.2.2.2.2.1, (Z.2.2.2.2.2 s).2.2.2.2.2.2.2.2)) (M := M) (sy_mk kZ ?_ ?_ km) hr (fun u2 hu2 => nx u2 hu2)
      · have q := kR r hr
        rw [fs_eq] at q
        obtain ⟨ok, ⟨s1, s2, s3, s4, s5, s6⟩, l⟩ := q
        have ok1 := ok.1
        have h := ry_set (x := (0, w, w, 0, (Z.2.2.2.2.2 s).2.2.2.2.2.2.1, (Z.2.2.2.2.2 s).2.2.2.2.2.2.2.1, (Z.2.2.2.2.2 s).2.2.2.2.2.2.2.2)) (aN' := upd a_nonce r 0) kR ⟨by dsimp only at ok1 ⊢; omega, ok.2⟩ ⟨⟨s1, s2, s3, pk_us, s5, s6⟩, l⟩ (fun j hj => ⟨rfl, rfl, rfl, pk_un hj, rfl, rfl⟩) (fun j hj => rfl)
        rw [fs_fs] at h
        exact h
      · exact ry_keepT hr kT (fun j hj => ⟨rfl, pk_un hj, rfl, rfl⟩) (fun j hj => rfl)
  | succ d ih =>
    intro i n x6 hi hn hx
    obtain ⟨n, rfl⟩ : ∃ k, n = k + 1 := ⟨n - 1, by omega⟩
    have i8 := ix_8 (by omega : i < 8)
    have js : vp_in (5 + nI i) 13 := by rw [ix_p5]; exact ix_13 (by omega)
    obtain ⟨ok, ⟨e1, e2, e3, e4, e5, e6, e7, e8⟩, _⟩ := hT i (by omega)
    have ok1 := ok.1
    have r5 : a_view (5 + nI i).toNatClampNeg = nI (Z.2.2.2.2.2 i).2.2.2.2.1 := by rw [ix_p5]; exact ix_rd (by omega) e5
    have step : dl_ok Z.2.2.2.2.2 r w i = false → wY_deliver_187 post (nI r) (nI cnt) (nI w) f_clients f_capacity f_slots f_restarts a_status a_last a_cell a_view a_nonce a_length a_commit a_log a_state a_from a_to a_leader a_member n x6 (nI (i + 1)) := by
      intro z
      refine ih (i + 1) n x6 (by omega) (by omega) ?_
      rcases hx with ⟨e, hj⟩ | ⟨s, s1, e, s2⟩
      · refine Or.inl ⟨e, fun j hj2 => ?_⟩
        by_cases y : j = i
        · rw [y]; exact z
        · exact hj j (by omega)
      · exact Or.inr ⟨s, by omega, e, s2⟩
    refine br_f (by rw [hZ.1.2.2.1]; exact nI_ge (by omega : i < Z.2.2.1) (by omega)) (ym_held hu (by omega) hr (fun z => br_f (by decide) ⟨js, pk_eq (Z.2.2.2.2.2 i).2.2.2.2.1 w (fun z2 => ⟨i8, by decide, pk_eq (Z.2.2.2.2.2 i).2.1 (w % 5) (fun z3 => nm_r (nI_1 i) ?_) (fun z3 => nm_r (nI_1 i) (step (dl_no (fun q => z3 q.2.2)))) (hx := ix_rd (by omega) e2) (hy := ix_r5 hw)⟩) (fun z2 => nm_r (nI_1 i) (step (dl_no (fun q => z2 q.2.1)))) (hx := r5)⟩) (fun z => br_t rfl (nm_r (nI_1 i) (step (dl_no (fun q => z q.1))))))
    exact ih (i + 1) n (nI i) (by omega) (by omega) (Or.inr ⟨i, by omega, rfl, dl_ok_iff.mpr ⟨z, z2, z3⟩⟩)
theorem yv_126 (hu : sy_R Z H M (f_clients, f_capacity, f_slots, f_restarts, a_status, a_last, a_cell, a_view, a_nonce, a_length, a_commit, a_log, a_state, a_from, a_to, a_leader, a_member)) {r : Nat} (hr : r < 5)
    (h1 : ((dl_cn Z.2.2.2.2.2 r Z.2.2.1).1 < 3 ∨ ∀ j, j < Z.2.2.1 → dl_ok Z.2.2.2.2.2 r (dl_cn Z.2.2.2.2.2 r Z.2.2.1).2 j = false) → post 1 (f_clients, f_capacity, f_slots, f_restarts, a_status, a_last, a_cell, a_view, a_nonce, a_length, a_commit, a_log, a_state, a_from, a_to, a_leader, a_member))
    (h2 : 3 ≤ (dl_cn Z.2.2.2.2.2 r Z.2.2.1).1 → ∀ s, s < Z.2.2.1 → dl_ok Z.2.2.2.2.2 r (dl_cn Z.2.2.2.2.2 r Z.2.2.1).2 s = true → ∀ u', sy_R (zs_T Z (td_drop Z.2.2.2.2.2 Z.2.2.1 r (fun _ => true))) (fs_set H r (0, (dl_cn Z.2.2.2.2.2 r Z.2.2.1).2, (dl_cn Z.2.2.2.2.2 r Z.2.2.1).2, 0, (Z.2.2.2.2.2 s).2.2.2.2.2.2.1, (Z.2.2.2.2.2 s).2.2.2.2.2.2.2.1, (Z.2.2.2.2.2 s).2.2.2.2.2.2.2.2)) M u' → post 2 u') :
    ∀ (d i n : Nat), i + d = Z.2.2.1 → d < n → wY_deliver_126 post (nI r) (-1) f_clients f_capacity f_slots f_restarts a_status a_last a_cell a_view a_nonce a_length a_commit a_log a_state a_from a_to a_leader a_member n (nI (dl_cn Z.2.2.2.2.2 r i).1) (nI (dl_cn Z.2.2.2.2.2 r i).2) (nI i) := by
  intro d
  have hZ := hu.1
  have hT := hu.2.2.1
  have zk := hZ.2.1
  unfold rz_ok at zk
  have cb := dl_cb (T := Z.2.2.2.2.2) (r := r) (fun s hs => (hT s hs).1.1.2.2.2.2.1)
  induction d with
  | zero =>
    intro i n hi hn
    obtain ⟨n, rfl⟩ : ∃ k, n = k + 1 := ⟨n - 1, by omega⟩
    have hi' : i = Z.2.2.1 := hi
    subst hi'
    have := cb Z.2.2.1 (by omega)
    refine br_t (by rw [hZ.1.2.2.1]; exact Int32.le_refl _) ⟨Z.2.2.1 + 1, ?_⟩
    exact yv_187 hu hr (by omega) (by omega) h1 h2 Z.2.2.1 0 (Z.2.2.1 + 1) (-1) (by omega) (by omega) (Or.inl ⟨rfl, fun j hj => absurd hj (by omega)⟩)
  | succ d ih =>
    intro i n hi hn
    obtain ⟨n, rfl⟩ : ∃ k, n = k + 1 := ⟨n - 1, by omega⟩
    have js : vp_in (5 + nI i) 13 := by rw [ix_p5]; exact ix_13 (by omega)
    obtain ⟨ok, ⟨e1, e2, e3, e4, e5, e6, e7, e8⟩, _⟩ := hT i (by omega)
    have ok1 := ok.1
    have cbi := cb i (by omega)
    have r5 : a_view (5 + nI i).toNatClampNeg = nI (Z.2.2.2.2.2 i).2.2.2.2.1 := by rw [ix_p5]; exact ix_rd (by omega) e5
    have h := ih (i + 1) n (by omega) (by omega)
    refine br_f (by rw [hZ.1.2.2.1]; exact nI_ge (by omega : i < Z.2.2.1) (by omega)) (ym_held hu (by omega) hr (fun z => br_f (by decide) (nm_r (nI_1 _) ⟨js, pk_le (Z.2.2.2.2.2 i).2.2.2.2.1 (dl_cn Z.2.2.2.2.2 r i).2 (fun z2 => nm_r (nI_1 i) ?_) (fun z2 => ⟨js, nm_r r5 (nm_r (nI_1 i) ?_)⟩) (hx := r5)⟩)) (fun z => br_t rfl (nm_r (nI_1 i) ?_)))
    · rw [dl_c1 z z2] at h
      exact h
    · rw [dl_c2 z (by omega)] at h
      exact h
    · rw [dl_c0 z] at h
      exact h
end
/-- the letters behind a delivery's first steps -/
def dv_T (T : Nat → vg_L) (le s r : Nat) : Nat → vg_L := fs_set (td_drop T le r (fun a => decide (a = (T s).2.1))) s (tl_st (T s) 2)
def yv_58 (post : Int32 → SY → Prop) (x1 x3 : Int32) (n : Nat) (x4 : Int32) (u : SY) : Prop := match u with
  | (f_clients, f_capacity, f_slots, f_restarts, a_status, a_last, a_cell, a_view, a_nonce, a_length, a_commit, a_log, a_state, a_from, a_to, a_leader, a_member) => wY_deliver_58 post x1 x3 f_clients f_capacity f_slots f_restarts n x4 a_status a_last a_cell a_view a_nonce a_length a_commit a_log a_state a_from a_to a_leader a_member
section
variable {Z : vg_Z} {H : Nat → vg_R} {M : Nat → Int32} {post : Int32 → SY → Prop}
theorem yv_58l {s r : Nat} (hs : s < Z.2.2.1) (hr : r < 5) (hst : (Z.2.2.2.2.2 s).1 = 1)
    (h1 : ((dl_cn (dv_T Z.2.2.2.2.2 Z.2.2.1 s r) r Z.2.2.1).1 < 3 ∨ ∀ j, j < Z.2.2.1 → dl_ok (dv_T Z.2.2.2.2.2 Z.2.2.1 s r) r (dl_cn (dv_T Z.2.2.2.2.2 Z.2.2.1 s r) r Z.2.2.1).2 j = false) → ∀ u', sy_R (zs_T Z (dv_T Z.2.2.2.2.2 Z.2.2.1 s r)) H M u' → post 1 u')
    (h2 : 3 ≤ (dl_cn (dv_T Z.2.2.2.2.2 Z.2.2.1 s r) r Z.2.2.1).1 → ∀ e, e < Z.2.2.1 → dl_ok (dv_T Z.2.2.2.2.2 Z.2.2.1 s r) r (dl_cn (dv_T Z.2.2.2.2.2 Z.2.2.1 s r) r Z.2.2.1).2 e = true → ∀ u', sy_R (zs_T Z (td_drop (dv_T Z.2.2.2.2.2 Z.2.2.1 s r) Z.2.2.1 r (fun _ => true))) (fs_set H r (0, (dl_cn (dv_T Z.2.2.2.2.2 Z.2.2.1 s r) r Z.2.2.1).2, (dl_cn (dv_T Z.2.2.2.2.2 Z.2.2.1 s r) r Z.2.2.1).2, 0, (dv_T Z.2.2.2.2.2 Z.2.2.1 s r e).2.2.2.2.2.2.1, (dv_T Z.2.2.2.2.2 Z.2.2.1 s r e).2.2.2.2.2.2.2.1, (dv_T Z.2.2.2.2.2 Z.2.2.1 s r e).2.2.2.2.2.2.2.2)) M u' → post 2 u') :
    ∀ (d i n : Nat) (u : SY), i + d = Z.2.2.1 → d < n → sy_R (zs_T Z (td_drop Z.2.2.2.2.2 i r (fun a => decide (a = (Z.2.2.2.2.2 s).2.1)))) H M u → yv_58 post (nI s) (nI r) n (nI i) u := by
  intro d
  have eS : ∀ i, td_drop Z.2.2.2.2.2 i r (fun a => decide (a = (Z.2.2.2.2.2 s).2.1)) s = Z.2.2.2.2.2 s := fun i => if_neg (by omega)
  induction d with
  | zero =>
    intro i n u hi hn hu
    obtain ⟨n, rfl⟩ : ∃ k, n = k + 1 := ⟨n - 1, by omega⟩
    have hi' : i = Z.2.2.1 := hi
    subst hi'
    refine sy_el (P := fun u => yv_58 post (nI s) (nI r) (n + 1) (nI Z.2.2.1) u) ?_ hu
    intro f_clients f_capacity f_slots f_restarts a_status a_last a_cell a_view a_nonce a_length a_commit a_log a_state a_from a_to a_leader a_member hZ hR hT hm
    have zk : rz_ok (zs_T Z (td_drop Z.2.2.2.2.2 Z.2.2.1 r (fun a => decide (a = (Z.2.2.2.2.2 s).2.1)))) := hZ.2.1
    have zle : Z.2.2.1 ≤ 8 := zk.2.2.2.2.2.1
    refine br_t (by rw [hZ.1.2.2.1]; exact Int32.le_refl _) ⟨ix_8 (by omega), nm_e ⟨Z.2.2.1 + 1, ?_⟩⟩
    rw [ix_c (by omega)]
    have hv : sy_R (zs_T Z (dv_T Z.2.2.2.2.2 Z.2.2.1 s r)) H M (f_clients, f_capacity, f_slots, f_restarts, a_status, a_last, a_cell, a_view, a_nonce, a_length, a_commit, a_log, upd a_state s 2, a_from, a_to, a_leader, a_member) := by
      refine sy_mk hZ hR ?_ hm
      have h := ry_st (s := s) (v := 2) hT (by omega)
      have e : (zs_T Z (td_drop Z.2.2.2.2.2 Z.2.2.1 r (fun a => decide (a = (Z.2.2.2.2.2 s).2.1)))).2.2.2.2.2 s = Z.2.2.2.2.2 s := eS Z.2.2.1
      rw [e] at h
      exact h
    exact yv_126 hv hr (fun q => h1 q _ hv) h2 Z.2.2.1 0 (Z.2.2.1 + 1) (by show 0 + Z.2.2.1 = Z.2.2.1; omega) (by omega)
  | succ d ih =>
    intro i n u hi hn hu
    obtain ⟨n, rfl⟩ : ∃ k, n = k + 1 := ⟨n - 1, by omega⟩
    refine sy_el (P := fun u => yv_58 post (nI s) (nI r) (n + 1) (nI i) u) ?_ hu
    intro f_clients f_capacity f_slots f_restarts a_status a_last a_cell a_view a_nonce a_length a_commit a_log a_state a_from a_to a_leader a_member hZ hR hT hm
    have zk : rz_ok (zs_T Z (td_drop Z.2.2.2.2.2 i r (fun a => decide (a = (Z.2.2.2.2.2 s).2.1)))) := hZ.2.1
    have zle : Z.2.2.1 ≤ 8 := zk.2.2.2.2.2.1
    have i8 := ix_8 (by omega : i < 8)
    have s8 := ix_8 (by omega : s < 8)
    have hv := sy_mk hZ hR hT hm
    have eT : (zs_T Z (td_drop Z.2.2.2.2.2 i r (fun a => decide (a = (Z.2.2.2.2.2 s).2.1)))).2.2.2.2.2 i = Z.2.2.2.2.2 i := (td_at : td_drop Z.2.2.2.2.2 i r (fun a => decide (a = (Z.2.2.2.2.2 s).2.1)) i = Z.2.2.2.2.2 i)
    have eT2 : (zs_T Z (td_drop Z.2.2.2.2.2 i r (fun a => decide (a = (Z.2.2.2.2.2 s).2.1)))).2.2.2.2.2 s = Z.2.2.2.2.2 s := eS i
    have fi : a_from (nI i).toNatClampNeg = nI (Z.2.2.2.2.2 i).2.1 := by
      have := (hT i (by omega)).2.1.2.1
      rw [eT] at this
      exact ix_rd (by omega) this
    have fs : a_from (nI s).toNatClampNeg = nI (Z.2.2.2.2.2 s).2.1 := by
      have := (hT s (by omega)).2.1.2.1
      rw [eT2] at this
      exact ix_rd (by omega) this
    have bi : (Z.2.2.2.2.2 i).2.1 < 5 := by
      have := (hT i (by omega)).1.1.2.1
      rw [eT] at this
      exact this
    have bs : (Z.2.2.2.2.2 s).2.1 < 5 := by
      have := (hT s (by omega)).1.1.2.1
      rw [eT2] at this
      exact this
    refine br_f (by rw [hZ.1.2.2.1]; exact nI_ge (by omega : i < Z.2.2.1) (show Z.2.2.1 < 2 ^ 31 by omega)) (ym_held hv (by omega) hr (fun z => br_f (by decide) ⟨i8, s8, pk_eq (Z.2.2.2.2.2 i).2.1 (Z.2.2.2.2.2 s).2.1 (fun z2 => ⟨i8, nm_e (nm_r (nI_1 i) ?_)⟩) (fun z2 => nm_r (nI_1 i) ?_) (hx := fi) (hy := fs)⟩) (fun z => br_t rfl (nm_r (nI_1 i) ?_)))
    · rw [eT] at z
      refine ih (i + 1) n (f_clients, f_capacity, f_slots, f_restarts, a_status, a_last, a_cell, a_view, a_nonce, a_length, a_commit, a_log, upd a_state (nI i).toNatClampNeg 0, a_from, a_to, a_leader, a_member) (by omega) (by omega) ?_
      rw [← td_s ⟨z.1, z.2, decide_eq_true z2⟩, ix_c (by omega)]
      refine sy_mk hZ hR ?_ hm
      have h := ry_st (s := i) (v := 0) hT (by omega)
      rw [eT] at h
      exact h
    · refine ih (i + 1) n (f_clients, f_capacity, f_slots, f_restarts, a_status, a_last, a_cell, a_view, a_nonce, a_length, a_commit, a_log, a_state, a_from, a_to, a_leader, a_member) (by omega) (by omega) ?_
      rw [← td_n (fun q => z2 (of_decide_eq_true q.2.2))]
      exact hv
    · rw [eT] at z
      refine ih (i + 1) n (f_clients, f_capacity, f_slots, f_restarts, a_status, a_last, a_cell, a_view, a_nonce, a_length, a_commit, a_log, a_state, a_from, a_to, a_leader, a_member) (by omega) (by omega) ?_
      rw [← td_n (fun q => z ⟨q.1, q.2.1⟩)]
      exact hv
end
end
section
/-! THE INVARIANT. A host is a replica's log or a primary's letter: (last view, length, commit number, log) -/
abbrev vg_X : Type := Nat × Nat × Nat × (Nat → vg_E)
def hx_R (x : vg_R) : vg_X := (x.2.2.1, x.2.2.2.2.1, x.2.2.2.2.2.1, x.2.2.2.2.2.2)
def hx_L (x : vg_L) : vg_X := (x.2.2.2.2.1, x.2.2.2.2.2.2.1, x.2.2.2.2.2.2.2.1, x.2.2.2.2.2.2.2.2)
def hs_in (T : Nat → vg_L) (H : Nat → vg_R) (x : vg_X) : Prop := (∃ b, b < 5 ∧ x = hx_R (H b)) ∨ (∃ s, s < 8 ∧ (T s).1 ≠ 0 ∧ (T s).2.2.2.2.2.1 = 1 ∧ x = hx_L (T s))
/-- logs of one view are alike; what is committed in an earlier view stands in every later one -/
def iv_pr (x y : vg_X) : Prop := (x.1 = y.1 → ∀ i, i < x.2.1 → i < y.2.1 → x.2.2.2 i = y.2.2.2 i) ∧ (x.1 < y.1 → x.2.2.1 ≤ y.2.1 ∧ ∀ i, i < x.2.2.1 → x.2.2.2 i = y.2.2.2 i)
def iv_P (S : vg_X → Prop) : Prop := ∀ x y, S x → S y → iv_pr x y
def iv_b (cap cl : Nat) (x : vg_X) : Prop := x.2.2.1 ≤ x.2.1 ∧ x.2.1 ≤ cap ∧ ∀ i, i < x.2.1 → (∃ k, k < cl ∧ (x.2.2.2 i).1 = nI k) ∧ 1 ≤ (x.2.2.2 i).2.1
def iv_B (cap cl : Nat) (S : vg_X → Prop) : Prop := ∀ x, S x → iv_b cap cl x
/-- a primary of its view has the longest log of the view and the greatest commit number so far -/
def iv_l (p : vg_R) (x : vg_X) : Prop := (x.1 = p.2.1 → x.2.1 ≤ p.2.2.2.2.1) ∧ (x.1 ≤ p.2.1 → x.2.2.1 ≤ p.2.2.2.2.2.1)
def iv_L (H : Nat → vg_R) (S : vg_X → Prop) : Prop := ∀ p, p < 5 → (H p).1 = 0 → (H p).2.1 % 5 = p → ∀ x, S x → iv_l (H p) x
def iv_s (re : Nat) (x : vg_R) : Prop := (x.1 = 0 → x.2.2.1 = x.2.1) ∧ (x.1 = 1 → x.2.2.1 < x.2.1) ∧ (2 ≤ x.1 → x.2.1 = 0 ∧ x.2.2.1 = 0 ∧ x.2.2.2.2.1 = 0 ∧ x.2.2.2.2.2.1 = 0) ∧ (x.1 ≠ 2 → x.2.2.2.1 = 0) ∧ x.2.2.2.1 ≤ re
def iv_S (re : Nat) (H : Nat → vg_R) : Prop := ∀ b, b < 5 → iv_s re (H b)
def iv_t (re le : Nat) (H : Nat → vg_R) (s : Nat) (x : vg_L) : Prop := x.2.2.2.1 ≤ re ∧ x.2.2.1 < 5 ∧ x.2.1 < 5 ∧ (x.1 ≠ 0 → s < le ∧ x.2.1 ≠ x.2.2.1 ∧ (x.2.2.2.2.2.1 = 1 ↔ x.2.1 = x.2.2.2.2.1 % 5)) ∧ (x.1 = 2 → (H x.2.2.1).1 = 2 ∧ x.2.2.2.1 = (H x.2.2.1).2.2.2.1)
def iv_T (re le : Nat) (T : Nat → vg_L) (H : Nat → vg_R) : Prop := (∀ s, s < 8 → iv_t re le H s (T s)) ∧ ∀ s s', s < 8 → s' < 8 → s ≠ s' → (T s).1 = 2 → (T s').1 = 2 → (T s).2.2.1 = (T s').2.2.1 → (T s).2.1 ≠ (T s').2.1
/-- E u: view u was started; Q u: who was in it then (or at the newest commit); V the newest; n the greatest commit number -/
def iv_V (S : vg_X → Prop) (V n : Nat) (Q : Nat → Nat → Bool) : Prop := (Q 0 0 = true ∧ Q V (V % 5) = true) ∧ ∀ x, S x → x.1 ≤ V ∧ x.2.2.1 ≤ n ∧ Q x.1 (x.1 % 5) = true
def iv_q (T : Nat → vg_L) (H : Nat → vg_R) (u : Nat) (Qu : Nat → Bool) : Prop := 3 ≤ cn_5 Qu ∧ ∀ b, b < 5 → Qu b = true →
  ((H b).1 ≤ 1 → u ≤ (H b).2.2.1) ∧ ((H b).1 = 2 → ∀ s, s < 8 → (T s).1 ≠ 0 → (T s).2.2.1 = b → (T s).2.2.2.1 = (H b).2.2.2.1 → Qu (T s).2.1 = true → u ≤ (T s).2.2.2.2.1)
def iv_Q (T : Nat → vg_L) (H : Nat → vg_R) (V : Nat) (Q : Nat → Nat → Bool) : Prop := ∀ u, Q u (u % 5) = true → u ≤ V ∧ iv_q T H u (Q u)
def iv_G (T : Nat → vg_L) (H : Nat → vg_R) (V n : Nat) (QV : Nat → Bool) : Prop := ∀ b, b < 5 → QV b = true →
  ((H b).1 ≤ 1 → n ≤ (H b).2.2.2.2.1) ∧ ((H b).1 = 2 → ∀ s, s < 8 → (T s).1 ≠ 0 → (T s).2.2.1 = b → (T s).2.2.2.1 = (H b).2.2.2.1 → (T s).2.2.2.2.2.1 = 1 → (T s).2.2.2.2.1 = V → n ≤ (T s).2.2.2.2.2.2.1)
def iv_gh (T : Nat → vg_L) (H : Nat → vg_R) : Prop := ∃ V n Q, iv_V (hs_in T H) V n Q ∧ iv_Q T H V Q ∧ iv_G T H V n (Q V)
def iv_I (Z : vg_Z) (H : Nat → vg_R) : Prop := iv_S Z.2.2.2.1 H ∧ iv_T Z.2.2.2.1 Z.2.2.1 Z.2.2.2.2.2 H ∧ iv_P (hs_in Z.2.2.2.2.2 H) ∧ iv_B Z.2.1 Z.1 (hs_in Z.2.2.2.2.2 H) ∧ iv_L H (hs_in Z.2.2.2.2.2 H) ∧ iv_gh Z.2.2.2.2.2 H
/-! two quorums meet -/
theorem qu_meet {f g : Nat → Bool} (h : 3 ≤ cn_5 f) (h2 : 3 ≤ cn_5 g) : ∃ b, b < 5 ∧ f b = true ∧ g b = true := by
  have k : ∀ b : Bool, b = false ∨ b = true := fun b => by cases b <;> simp
  by_cases c0 : f 0 = true ∧ g 0 = true
  · exact ⟨0, by decide, c0⟩
  by_cases c1 : f 1 = true ∧ g 1 = true
  · exact ⟨1, by decide, c1⟩
  by_cases c2 : f 2 = true ∧ g 2 = true
  · exact ⟨2, by decide, c2⟩
  by_cases c3 : f 3 = true ∧ g 3 = true
  · exact ⟨3, by decide, c3⟩
  by_cases c4 : f 4 = true ∧ g 4 = true
  · exact ⟨4, by decide, c4⟩
  exfalso
  unfold cn_5 at h h2
  have m : ∀ b c : Bool, ¬ (b = true ∧ c = true) → b.toNat + c.toNat ≤ 1 := by
    intro b c hb
    cases b <;> cases c <;> simp at hb ⊢
  have := m _ _ c0
  have := m _ _ c1
  have := m _ _ c2
  have := m _ _ c3
  have := m _ _ c4
  omega
/-! copies of hosts -/
def cl_in (S : vg_X → Prop) (x : vg_X) : Prop := (x.1 = 0 ∧ x.2.1 = 0 ∧ x.2.2.1 = 0) ∨ ∃ s, S s ∧ x.1 = s.1 ∧ x.2.1 = s.2.1 ∧ x.2.2.2 = s.2.2.2 ∧ (x.2.2.1 ≤ s.2.2.1 ∨ ∃ t, S t ∧ x.2.2.1 = t.2.2.1 ∧ t.1 ≤ s.1 ∧ x.2.2.1 ≤ s.2.1)
theorem cl_of {S : vg_X → Prop} {x : vg_X} (h : S x) : cl_in S x := Or.inr ⟨x, h, rfl, rfl, rfl, Or.inl (Nat.le_refl _)⟩
theorem cl_P {S : vg_X → Prop} {cap cl : Nat} (h : iv_P S) (hb : iv_B cap cl S) : iv_P (cl_in S) := by
  intro x y hx hy
  rcases hx with ⟨x1, x2, x3⟩ | ⟨s, s1, s2, s3, s4, s5⟩
  · exact ⟨fun _ i hi => absurd hi (by omega), fun _ => ⟨by omega, fun i hi => absurd hi (by omega)⟩⟩
  · rcases hy with ⟨y1, y2, y3⟩ | ⟨t, t1, t2, t3, t4, t5⟩
    · exact ⟨fun _ i _ hi => absurd hi (by omega), fun z => absurd z (by omega)⟩
    · rw [iv_pr, s2, s3, s4, t2, t3, t4]
      obtain ⟨p1, p2⟩ := h s t s1 t1
      refine ⟨p1, fun z => ?_⟩
      rcases s5 with e | ⟨v, v1, v2, v3, v4⟩
      · obtain ⟨q1, q2⟩ := p2 z
        exact ⟨by omega, fun i hi => q2 i (by omega)⟩
      · obtain ⟨q1, q2⟩ := (h v t v1 t1).2 (by omega)
        obtain ⟨r1, r2⟩ := h v s v1 s1
        have vb := (hb v v1).1
        refine ⟨by omega, fun i hi => ?_⟩
        rw [← q2 i (by omega)]
        by_cases e : v.1 = s.1
        · exact (r1 e i (by omega) (by omega)).symm
        · exact ((r2 (by omega)).2 i (by omega)).symm
theorem cl_B {S : vg_X → Prop} {cap cl : Nat} (hb : iv_B cap cl S) : iv_B cap cl (cl_in S) := by
  intro x hx
  rcases hx with ⟨x1, x2, x3⟩ | ⟨s, s1, s2, s3, s4, s5⟩
  · exact ⟨by omega, by omega, fun i hi => absurd hi (by omega)⟩
  · obtain ⟨b1, b2, b3⟩ := hb s s1
    rw [iv_b, s3, s4]
    refine ⟨?_, b2, b3⟩
    rcases s5 with e | ⟨v, v1, v2, v3, v4⟩ <;> omega
theorem cl_l {S : vg_X → Prop} {p : vg_R} (h : ∀ x, S x → iv_l p x) : ∀ x, cl_in S x → iv_l p x := by
  intro x hx
  rcases hx with ⟨x1, x2, x3⟩ | ⟨s, s1, s2, s3, s4, s5⟩
  · exact ⟨fun _ => by omega, fun _ => by omega⟩
  · obtain ⟨h1, h2⟩ := h s s1
    refine ⟨fun z => ?_, fun z => ?_⟩
    · have := h1 (by omega)
      omega
    · rcases s5 with e | ⟨v, v1, v2, v3, v4⟩
      · have := h2 (by omega)
        omega
      · have := (h v v1).2 (by omega)
        omega
theorem cl_V {S : vg_X → Prop} {V n : Nat} {Q : Nat → Nat → Bool} (h : iv_V S V n Q) : iv_V (cl_in S) V n Q := by
  refine ⟨h.1, fun x hx => ?_⟩
  rcases hx with ⟨x1, x2, x3⟩ | ⟨s, s1, s2, s3, s4, s5⟩
  · rw [x1]
    exact ⟨by omega, by omega, h.1.1⟩
  · obtain ⟨h1, h2, h3⟩ := h.2 s s1
    rw [s2]
    refine ⟨h1, ?_, h3⟩
    rcases s5 with e | ⟨v, v1, v2, v3, v4⟩
    · omega
    · have := (h.2 v v1).2.1
      omega
theorem iv_Psub {S S' : vg_X → Prop} (h : ∀ x, S' x → S x) (hp : iv_P S) : iv_P S' := fun x y hx hy => hp x y (h x hx) (h y hy)
end
section
/-! steps that only copy hosts -/
theorem iv_step {Z Z' : vg_Z} {H H' : Nat → vg_R} (I : iv_I Z H) (e1 : Z'.1 = Z.1) (e2 : Z'.2.1 = Z.2.1)
    (hs : ∀ x, hs_in Z'.2.2.2.2.2 H' x → cl_in (hs_in Z.2.2.2.2.2 H) x) (hS : iv_S Z'.2.2.2.1 H') (hT : iv_T Z'.2.2.2.1 Z'.2.2.1 Z'.2.2.2.2.2 H')
    (hL : ∀ p, p < 5 → (H' p).1 = 0 → (H' p).2.1 % 5 = p → (H p).1 = 0 ∧ (H p).2.1 = (H' p).2.1 ∧ (H p).2.2.2.2.1 ≤ (H' p).2.2.2.2.1 ∧ (H p).2.2.2.2.2.1 ≤ (H' p).2.2.2.2.2.1)
    (hQ : ∀ V n Q, iv_V (hs_in Z.2.2.2.2.2 H) V n Q → iv_V (hs_in Z'.2.2.2.2.2 H') V n Q → iv_Q Z.2.2.2.2.2 H V Q → iv_G Z.2.2.2.2.2 H V n (Q V) → iv_Q Z'.2.2.2.2.2 H' V Q ∧ iv_G Z'.2.2.2.2.2 H' V n (Q V)) : iv_I Z' H' := by
  obtain ⟨_, _, iP, iB, iL, V, n, Q, gV, gQ, gG⟩ := I
  have gV' : iv_V (hs_in Z'.2.2.2.2.2 H') V n Q := ⟨(cl_V gV).1, fun x hx => (cl_V gV).2 x (hs x hx)⟩
  obtain ⟨q1, q2⟩ := hQ V n Q gV gV' gQ gG
  refine ⟨hS, hT, iv_Psub hs (cl_P iP iB), ?_, ?_, V, n, Q, gV', q1, q2⟩
  · rw [e1, e2]
    exact fun x hx => cl_B iB x (hs x hx)
  · intro p p5 st vw x hx
    obtain ⟨a1, a2, a3, a4⟩ := hL p p5 st vw
    obtain ⟨l1, l2⟩ := cl_l (iL p p5 a1 (by rw [a2]; exact vw)) x (hs x hx)
    refine ⟨fun z => ?_, fun z => ?_⟩
    · have := l1 (by omega)
      omega
    · have := l2 (by omega)
      omega
theorem iv_Qk {T T' : Nat → vg_L} {H H' : Nat → vg_R} (k1 : ∀ b, b < 5 → (H' b).1 ≤ 1 → (H b).1 ≤ 1 ∧ (H b).2.2.1 ≤ (H' b).2.2.1 ∧ ((H' b).2.2.1 = (H b).2.2.1 → (H b).2.2.2.2.1 ≤ (H' b).2.2.2.2.1))
    (k2 : ∀ b, b < 5 → (H' b).1 = 2 → (H b).1 = 2 ∧ (H' b).2.2.2.1 = (H b).2.2.2.1) (k3 : ∀ s, s < 8 → (T' s).1 ≠ 0 → (T s).1 ≠ 0 ∧ (T' s).2 = (T s).2)
    {V n : Nat} {Q : Nat → Nat → Bool} (gV' : iv_V (hs_in T' H') V n Q) (gQ : iv_Q T H V Q) (gG : iv_G T H V n (Q V)) : iv_Q T' H' V Q ∧ iv_G T' H' V n (Q V) := by
  constructor
  · intro u hu
    obtain ⟨q1, q2, q3⟩ := gQ u hu
    refine ⟨q1, q2, fun b hb qb => ⟨fun z => ?_, fun z s hs s1 s2 s3 s4 => ?_⟩⟩
    · obtain ⟨a1, a2, a3⟩ := k1 b hb z
      have := (q3 b hb qb).1 a1
      omega
    · obtain ⟨a1, a2⟩ := k2 b hb z
      obtain ⟨a3, a4⟩ := k3 s hs s1
      rw [a4] at s2 s3 s4 ⊢
      rw [a2] at s3
      exact (q3 b hb qb).2 a1 s hs a3 s2 s3 s4
  · intro b hb qb
    obtain ⟨q1, q2⟩ := gG b hb qb
    have qq := (gQ V gV'.1.2).2.2 b hb qb
    refine ⟨fun z => ?_, fun z s hs s1 s2 s3 s4 s5 => ?_⟩
    · obtain ⟨a1, a2, a3⟩ := k1 b hb z
      have b1 := q1 a1
      have b2 := qq.1 a1
      have b3 := (gV'.2 (hx_R (H' b)) (Or.inl ⟨b, hb, rfl⟩)).1
      have b4 : (H' b).2.2.1 ≤ V := b3
      have := a3 (by omega)
      omega
    · obtain ⟨a1, a2⟩ := k2 b hb z
      obtain ⟨a3, a4⟩ := k3 s hs s1
      rw [a4] at s2 s3 s4 s5 ⊢
      rw [a2] at s3
      exact q2 a1 s hs a3 s2 s3 s4 s5
/-- rows of H that are kept or erased, letters that are kept or dropped -/
theorem iv_keep {Z Z' : vg_Z} {H H' : Nat → vg_R}
    (kH : ∀ b, b < 5 → H' b = H b ∨ (2 ≤ (H' b).1 ∧ (H' b).2.2.1 = 0 ∧ (H' b).2.2.2.2.1 = 0 ∧ (H' b).2.2.2.2.2.1 = 0))
    (k3 : ∀ s, s < 8 → (Z'.2.2.2.2.2 s).1 ≠ 0 → (Z.2.2.2.2.2 s).1 ≠ 0 ∧ (Z'.2.2.2.2.2 s).2 = (Z.2.2.2.2.2 s).2) : ∀ x, hs_in Z'.2.2.2.2.2 H' x → cl_in (hs_in Z.2.2.2.2.2 H) x := by
  intro x hx
  rcases hx with ⟨b, hb, rfl⟩ | ⟨s, hs, s1, s2, rfl⟩
  · rcases kH b hb with e | ⟨_, e1, e2, e3⟩
    · rw [e]
      exact cl_of (Or.inl ⟨b, hb, rfl⟩)
    · exact Or.inl ⟨e1, e2, e3⟩
  · obtain ⟨a1, a2⟩ := k3 s hs s1
    refine cl_of (Or.inr ⟨s, hs, a1, ?_, ?_⟩)
    · rw [← a2]; exact s2
    · unfold hx_L
      rw [a2]
end
section
/-! crash, restart, letters, recovery -/
theorem td_cs (T : Nat → vg_L) (i r : Nat) (c : Nat → Bool) (s : Nat) : (td_drop T i r c s = T s ∧ ¬ (s < i ∧ (T s).1 = 2 ∧ (T s).2.2.1 = r ∧ c (T s).2.1 = true)) ∨ (td_drop T i r c s = tl_st (T s) 0) := by
  unfold td_drop
  by_cases z : s < i ∧ (T s).1 = 2 ∧ (T s).2.2.1 = r ∧ c (T s).2.1 = true
  · rw [if_pos z]; exact Or.inr rfl
  · rw [if_neg z]; exact Or.inl ⟨rfl, z⟩
theorem td_k3 (T : Nat → vg_L) (i r : Nat) (c : Nat → Bool) : ∀ s, s < 8 → (td_drop T i r c s).1 ≠ 0 → (T s).1 ≠ 0 ∧ (td_drop T i r c s).2 = (T s).2 := by
  intro s _ h
  rcases td_cs T i r c s with ⟨e, _⟩ | e
  · rw [e] at h ⊢
    exact ⟨h, rfl⟩
  · rw [e] at h
    exact absurd rfl h
/-- letters dropped, H changed at r alone, and r holds none of them any more -/
theorem iv_T_drop {re re' le r : Nat} {T : Nat → vg_L} {H H' : Nat → vg_R} (h : iv_T re le T H) (hre : re ≤ re') (hH : ∀ b, b ≠ r → H' b = H b) : iv_T re' le (td_drop T le r (fun _ => true)) H' := by
  obtain ⟨h1, h2⟩ := h
  constructor
  · intro s hs
    obtain ⟨a1, a2, a3, a4, a5⟩ := h1 s hs
    rcases td_cs T le r (fun _ => true) s with ⟨e, ne⟩ | e
    · rw [e]
      refine ⟨by omega, a2, a3, a4, fun z => ?_⟩
      have := a4 (by omega)
      have tr : (T s).2.2.1 ≠ r := fun q => ne ⟨this.1, z, q, rfl⟩
      rw [hH _ tr]
      exact a5 z
    · rw [e]
      exact ⟨Nat.le_trans a1 hre, a2, a3, fun z => absurd rfl z, fun z => absurd z (by show ¬ (0 : Nat) = 2; omega)⟩
  · intro s s' hs hs' hne z z' ht
    rcases td_cs T le r (fun _ => true) s with ⟨e, _⟩ | e
    · rcases td_cs T le r (fun _ => true) s' with ⟨e', _⟩ | e'
      · rw [e] at z ht ⊢
        rw [e'] at z' ht ⊢
        exact h2 s s' hs hs' hne z z' ht
      · rw [e'] at z'
        exact absurd z' (by show ¬ (0 : Nat) = 2; omega)
    · rw [e] at z
      exact absurd z (by show ¬ (0 : Nat) = 2; omega)
theorem iv_crash {Z : vg_Z} {H : Nat → vg_R} (I : iv_I Z H) {b : Nat} (hb : b < 5) : iv_I (zs_T Z (td_drop Z.2.2.2.2.2 Z.2.2.1 b (fun _ => true))) (fs_set H b (3, 0, 0, 0, 0, 0, (H b).2.2.2.2.2.2)) := by
  have hne : ∀ c, c ≠ b → fs_set H b (3, 0, 0, 0, 0, 0, (H b).2.2.2.2.2.2) c = H c := fun c hc => fs_ne hc
  have he : fs_set H b (3, 0, 0, 0, 0, 0, (H b).2.2.2.2.2.2) b = (3, 0, 0, 0, 0, 0, (H b).2.2.2.2.2.2) := fs_eq
  refine iv_step I rfl rfl (iv_keep (fun c hc => ?_) (td_k3 _ _ _ _)) (fun c hc => ?_) (iv_T_drop I.2.1 (Nat.le_refl _) hne) (fun p p5 st vw => ?_) (fun V n Q gV gV' gQ gG => iv_Qk (fun c hc z => ?_) (fun c hc z => ?_) (td_k3 _ _ _ _) gV' gQ gG)
  · by_cases e : c = b
    · rw [e, he]; exact Or.inr ⟨(by decide : 2 ≤ 3), rfl, rfl, rfl⟩
    · rw [hne c e]; exact Or.inl rfl
  · by_cases e : c = b
    · rw [e, he]
      exact ⟨fun z => absurd z (by decide : ¬ (3 : Nat) = 0), fun z => absurd z (by decide : ¬ (3 : Nat) = 1), fun _ => ⟨rfl, rfl, rfl, rfl⟩, fun _ => rfl, Nat.zero_le _⟩
    · rw [hne c e]; exact I.1 c hc
  · by_cases e : p = b
    · rw [e, he] at st; exact absurd st (by decide : ¬ (3 : Nat) = 0)
    · rw [hne p e]; exact ⟨by rw [hne p e] at st; exact st, rfl, Nat.le_refl _, Nat.le_refl _⟩
  · by_cases e : c = b
    · rw [e, he] at z; exact absurd z (by decide : ¬ (3 : Nat) ≤ 1)
    · rw [hne c e] at z ⊢; exact ⟨z, Nat.le_refl _, fun _ => Nat.le_refl _⟩
  · by_cases e : c = b
    · rw [e, he] at z; exact absurd z (by decide : ¬ (3 : Nat) = 2)
    · rw [hne c e] at z ⊢; exact ⟨z, rfl⟩
theorem iv_restart {Z : vg_Z} {H : Nat → vg_R} (I : iv_I Z H) {b : Nat} (hb : b < 5) (h3 : (H b).1 = 3) : iv_I (Z.1, Z.2.1, Z.2.2.1, Z.2.2.2.1 + 1, Z.2.2.2.2.1, Z.2.2.2.2.2) (fs_set H b (2, 0, 0, Z.2.2.2.1 + 1, 0, 0, (H b).2.2.2.2.2.2)) := by
  have hne : ∀ c, c ≠ b → fs_set H b (2, 0, 0, Z.2.2.2.1 + 1, 0, 0, (H b).2.2.2.2.2.2) c = H c := fun c hc => fs_ne hc
  have he : fs_set H b (2, 0, 0, Z.2.2.2.1 + 1, 0, 0, (H b).2.2.2.2.2.2) b = (2, 0, 0, Z.2.2.2.1 + 1, 0, 0, (H b).2.2.2.2.2.2) := fs_eq
  refine iv_step I rfl rfl (iv_keep (fun c hc => ?_) (fun s hs z => ⟨z, rfl⟩)) (fun c hc => ?_) ⟨fun s hs => ?_, I.2.1.2⟩ (fun p p5 st vw => ?_) (fun V n Q gV gV' gQ gG => ⟨fun u hu => ?_, fun c hc qc => ?_⟩)
  · by_cases e : c = b
    · rw [e, he]; exact Or.inr ⟨Nat.le_refl _, rfl, rfl, rfl⟩
    · rw [hne c e]; exact Or.inl rfl
  · by_cases e : c = b
    · rw [e, he]
      exact ⟨fun z => absurd z (by decide : ¬ (2 : Nat) = 0), fun z => absurd z (by decide : ¬ (2 : Nat) = 1), fun _ => ⟨rfl, rfl, rfl, rfl⟩, fun z => absurd rfl z, Nat.le_refl _⟩
    · rw [hne c e]
      obtain ⟨a1, a2, a3, a4, a5⟩ := I.1 c hc
      exact ⟨a1, a2, a3, a4, by show _ ≤ Z.2.2.2.1 + 1; omega⟩
  · obtain ⟨a1, a2, a3, a4, a5⟩ := I.2.1.1 s hs
    refine ⟨by show (Z.2.2.2.2.2 s).2.2.2.1 ≤ Z.2.2.2.1 + 1; omega, a2, a3, a4, fun z => ?_⟩
    have := a5 z
    rw [hne _ (fun q => by rw [q, h3] at this; exact absurd this.1 (by decide))]
    exact this
  · by_cases e : p = b
    · rw [e, he] at st; exact absurd st (by decide : ¬ (2 : Nat) = 0)
    · rw [hne p e]; exact ⟨by rw [hne p e] at st; exact st, rfl, Nat.le_refl _, Nat.le_refl _⟩
  · obtain ⟨q1, q2, q3⟩ := gQ u hu
    refine ⟨q1, q2, fun c hc qc => ?_⟩
    by_cases e : c = b
    · rw [e, he]
      refine ⟨fun z => absurd z (by decide : ¬ (2 : Nat) ≤ 1), fun _ s hs s1 s2 s3 => ?_⟩
      have := (I.2.1.1 s hs).1
      have s3' : (Z.2.2.2.2.2 s).2.2.2.1 = Z.2.2.2.1 + 1 := s3
      omega
    · rw [hne c e]; exact q3 c hc qc
  · by_cases e : c = b
    · rw [e, he]
      refine ⟨fun z => absurd z (by decide : ¬ (2 : Nat) ≤ 1), fun _ s hs s1 s2 s3 => ?_⟩
      have := (I.2.1.1 s hs).1
      have s3' : (Z.2.2.2.2.2 s).2.2.2.1 = Z.2.2.2.1 + 1 := s3
      omega
    · rw [hne c e]; exact gG c hc qc
/-- letters change their state alone -/
theorem iv_lets {Z : vg_Z} {H : Nat → vg_R} (I : iv_I Z H) {T' : Nat → vg_L} (k3 : ∀ s, s < 8 → (T' s).1 ≠ 0 → (Z.2.2.2.2.2 s).1 ≠ 0 ∧ (T' s).2 = (Z.2.2.2.2.2 s).2) (hT : iv_T Z.2.2.2.1 Z.2.2.1 T' H) : iv_I (zs_T Z T') H := by
  refine iv_step I rfl rfl (iv_keep (fun c hc => Or.inl rfl) k3) I.1 hT (fun p p5 st vw => ⟨st, rfl, Nat.le_refl _, Nat.le_refl _⟩) (fun V n Q gV gV' gQ gG => iv_Qk (fun c hc z => ⟨z, Nat.le_refl _, fun _ => Nat.le_refl _⟩) (fun c hc z => ⟨z, rfl⟩) k3 gV' gQ gG)
theorem iv_free {Z : vg_Z} {H : Nat → vg_R} (I : iv_I Z H) {s : Nat} : iv_I (zs_T Z (fs_set Z.2.2.2.2.2 s (tl_st (Z.2.2.2.2.2 s) 0))) H := by
  obtain ⟨h1, h2⟩ := I.2.1
  have e0 : ∀ c, c = s → fs_set Z.2.2.2.2.2 s (tl_st (Z.2.2.2.2.2 s) 0) c = tl_st (Z.2.2.2.2.2 s) 0 := fun c hc => by rw [hc, fs_eq]
  refine iv_lets I (fun c hc z => ?_) ⟨fun c hc => ?_, fun c c' hc hc' hne z z' ht => ?_⟩
  · by_cases e : c = s
    · rw [e0 c e] at z; exact absurd rfl z
    · rw [fs_ne e] at z ⊢; exact ⟨z, rfl⟩
  · by_cases e : c = s
    · subst e
      obtain ⟨a1, a2, a3, a4, a5⟩ := h1 c hc
      rw [fs_eq]
      exact ⟨a1, a2, a3, fun z => absurd rfl z, fun z => absurd z (by show ¬ (0 : Nat) = 2; omega)⟩
    · rw [fs_ne e]; exact h1 c hc
  · by_cases e : c = s
    · rw [e0 c e] at z; exact absurd z (by show ¬ (0 : Nat) = 2; omega)
    · by_cases e' : c' = s
      · rw [e0 c' e'] at z'; exact absurd z' (by show ¬ (0 : Nat) = 2; omega)
      · rw [fs_ne e] at z ht ⊢
        rw [fs_ne e'] at z' ht ⊢
        exact h2 c c' hc hc' hne z z' ht
theorem iv_dv {Z : vg_Z} {H : Nat → vg_R} (I : iv_I Z H) {s : Nat} (hs : s < Z.2.2.1) (hle : Z.2.2.1 ≤ 8) (h1 : (Z.2.2.2.2.2 s).1 = 1) (h2 : (H (Z.2.2.2.2.2 s).2.2.1).1 = 2) (h3 : (Z.2.2.2.2.2 s).2.2.2.1 = (H (Z.2.2.2.2.2 s).2.2.1).2.2.2.1) :
    iv_I (zs_T Z (dv_T Z.2.2.2.2.2 Z.2.2.1 s (Z.2.2.2.2.2 s).2.2.1)) H := by
  obtain ⟨t1, t2⟩ := I.2.1
  have e0 : dv_T Z.2.2.2.2.2 Z.2.2.1 s (Z.2.2.2.2.2 s).2.2.1 s = tl_st (Z.2.2.2.2.2 s) 2 := fs_eq
  have e1 : ∀ c, c ≠ s → dv_T Z.2.2.2.2.2 Z.2.2.1 s (Z.2.2.2.2.2 s).2.2.1 c = td_drop Z.2.2.2.2.2 Z.2.2.1 (Z.2.2.2.2.2 s).2.2.1 (fun a => decide (a = (Z.2.2.2.2.2 s).2.1)) c := fun c hc => fs_ne hc
  have cs := td_cs Z.2.2.2.2.2 Z.2.2.1 (Z.2.2.2.2.2 s).2.2.1 (fun a => decide (a = (Z.2.2.2.2.2 s).2.1))
  refine iv_lets I (fun c hc z => ?_) ⟨fun c hc => ?_, fun c c' hc hc' hne z z' ht => ?_⟩
  · by_cases e : c = s
    · rw [e, e0]; exact ⟨by omega, rfl⟩
    · rw [e1 c e] at z ⊢; exact td_k3 _ _ _ _ c hc z
  · obtain ⟨a1, a2, a3, a4, a5⟩ := t1 c hc
    by_cases e : c = s
    · subst e
      rw [e0]
      exact ⟨a1, a2, a3, fun _ => a4 (by omega), fun _ => ⟨h2, h3⟩⟩
    · rw [e1 c e]
      rcases cs c with ⟨y, _⟩ | y
      · rw [y]; exact ⟨a1, a2, a3, a4, a5⟩
      · rw [y]; exact ⟨a1, a2, a3, fun z => absurd rfl z, fun z => absurd z (by show ¬ (0 : Nat) = 2; omega)⟩
  · -- a held letter of the same receiver that is kept has another sender
    have oth : ∀ c, c < 8 → c ≠ s → (dv_T Z.2.2.2.2.2 Z.2.2.1 s (Z.2.2.2.2.2 s).2.2.1 c).1 = 2 → (dv_T Z.2.2.2.2.2 Z.2.2.1 s (Z.2.2.2.2.2 s).2.2.1 c) = Z.2.2.2.2.2 c ∧ ((Z.2.2.2.2.2 c).2.2.1 = (Z.2.2.2.2.2 s).2.2.1 → (Z.2.2.2.2.2 c).2.1 ≠ (Z.2.2.2.2.2 s).2.1) := by
      intro c hc e q
      rw [e1 c e] at q ⊢
      rcases cs c with ⟨y, ny⟩ | y
      · rw [y] at q ⊢
        refine ⟨rfl, fun w w2 => ny ⟨((t1 c hc).2.2.2.1 (by omega)).1, q, w, decide_eq_true w2⟩⟩
      · rw [y] at q; exact absurd q (by show ¬ (0 : Nat) = 2; omega)
    by_cases e : c = s
    · subst e
      obtain ⟨y1, y2⟩ := oth c' hc' (fun q => hne q.symm) z'
      rw [e0, y1] at ht ⊢
      exact fun q => y2 ht.symm q.symm
    · obtain ⟨y1, y2⟩ := oth c hc e z
      by_cases e' : c' = s
      · subst e'
        rw [e0, y1] at ht ⊢
        exact y2 ht
      · obtain ⟨y3, y4⟩ := oth c' hc' e' z'
        rw [y1] at z ht ⊢
        rw [y3] at z' ht ⊢
        exact t2 c c' hc hc' hne z z' ht
/-! recovery -/
theorem dl_max {T : Nat → vg_L} {r : Nat} : ∀ n s, s < n → dl_h T r s = true → (T s).2.2.2.2.1 ≤ (dl_cn T r n).2
  | 0, s, h, _ => absurd h (by omega)
  | n + 1, s, h, hh => by
    by_cases z : (T n).1 = 2 ∧ (T n).2.2.1 = r
    · by_cases z2 : (T n).2.2.2.2.1 ≤ (dl_cn T r n).2
      · rw [dl_c1 z z2]
        by_cases e : s = n
        · rw [e]; exact z2
        · exact dl_max n s (by omega) hh
      · rw [dl_c2 z z2]
        by_cases e : s = n
        · rw [e]; exact Nat.le_refl _
        · have := dl_max n s (by omega) hh
          show (T s).2.2.2.2.1 ≤ (T n).2.2.2.2.1
          omega
    · rw [dl_c0 z]
      by_cases e : s = n
      · rw [e] at hh; exact absurd (dl_h_iff.mp hh) z
      · exact dl_max n s (by omega) hh
theorem dl_ex {T : Nat → vg_L} {r : Nat} : ∀ n, 1 ≤ (dl_cn T r n).1 → ∃ s, s < n ∧ dl_h T r s = true ∧ (dl_cn T r s).1 + 1 = (dl_cn T r n).1
  | 0, h => absurd h (by show ¬ 1 ≤ 0; omega)
  | n + 1, h => by
    by_cases z : (T n).1 = 2 ∧ (T n).2.2.1 = r
    · refine ⟨n, by omega, dl_h_iff.mpr z, ?_⟩
      by_cases z2 : (T n).2.2.2.2.1 ≤ (dl_cn T r n).2
      · rw [dl_c1 z z2]
      · rw [dl_c2 z z2]
    · rw [dl_c0 z] at h ⊢
      obtain ⟨s, a, b, c⟩ := dl_ex n h
      exact ⟨s, by omega, b, c⟩
theorem cn_three {a b c : Nat} (ha : a < 5) (hb : b < 5) (hc : c < 5) (h1 : a ≠ b) (h2 : a ≠ c) (h3 : b ≠ c) : cn_5 (fs_set (fs_set (fs_set (fun _ => false) a true) b true) c true) = 3 := by
  rw [cn_set c hc (by rw [fs_ne h3.symm, fs_ne h2.symm]), cn_set b hb (by rw [fs_ne h1.symm]), cn_set a ha rfl]
  rfl
theorem iv_rec {Z : vg_Z} {H : Nat → vg_R} (I : iv_I Z H) {r e : Nat} (hr : r < 5) (hle : Z.2.2.1 ≤ 8) (he : e < Z.2.2.1) (h2 : (H r).1 = 2) (hc : 3 ≤ (dl_cn Z.2.2.2.2.2 r Z.2.2.1).1) (ho : dl_ok Z.2.2.2.2.2 r (dl_cn Z.2.2.2.2.2 r Z.2.2.1).2 e = true) :
    iv_I (zs_T Z (td_drop Z.2.2.2.2.2 Z.2.2.1 r (fun _ => true))) (fs_set H r (0, (dl_cn Z.2.2.2.2.2 r Z.2.2.1).2, (dl_cn Z.2.2.2.2.2 r Z.2.2.1).2, 0, (Z.2.2.2.2.2 e).2.2.2.2.2.2.1, (Z.2.2.2.2.2 e).2.2.2.2.2.2.2.1, (Z.2.2.2.2.2 e).2.2.2.2.2.2.2.2)) := by
  generalize hw : (dl_cn Z.2.2.2.2.2 r Z.2.2.1).2 = w at ho ⊢
  obtain ⟨⟨o1, o2⟩, o3, o4⟩ := dl_ok_iff.mp ho
  obtain ⟨t1, t2⟩ := I.2.1
  obtain ⟨_, _, _, te, _⟩ := t1 e (by omega)
  obtain ⟨_, te2, te3⟩ := te (by omega)
  have ld : (Z.2.2.2.2.2 e).2.2.2.2.2.1 = 1 := te3.mpr (by rw [o3, o4])
  have hE : hs_in Z.2.2.2.2.2 H (hx_L (Z.2.2.2.2.2 e)) := Or.inr ⟨e, by omega, by omega, ld, rfl⟩
  have hne : ∀ c, c ≠ r → fs_set H r (0, w, w, 0, (Z.2.2.2.2.2 e).2.2.2.2.2.2.1, (Z.2.2.2.2.2 e).2.2.2.2.2.2.2.1, (Z.2.2.2.2.2 e).2.2.2.2.2.2.2.2) c = H c := fun c hc => fs_ne hc
  have heq : fs_set H r (0, w, w, 0, (Z.2.2.2.2.2 e).2.2.2.2.2.2.1, (Z.2.2.2.2.2 e).2.2.2.2.2.2.2.1, (Z.2.2.2.2.2 e).2.2.2.2.2.2.2.2) r = (0, w, w, 0, (Z.2.2.2.2.2 e).2.2.2.2.2.2.1, (Z.2.2.2.2.2 e).2.2.2.2.2.2.2.1, (Z.2.2.2.2.2 e).2.2.2.2.2.2.2.2) := fs_eq
  -- three senders
  have key : ∀ u Qu, iv_q Z.2.2.2.2.2 H u Qu → Qu r = true → u ≤ w := by
    intro u Qu hq qr
    obtain ⟨c1, c2⟩ := hq
    obtain ⟨s1, a1, a2, a3⟩ := dl_ex (T := Z.2.2.2.2.2) (r := r) Z.2.2.1 (by omega)
    obtain ⟨s2, b1, b2, b3⟩ := dl_ex (T := Z.2.2.2.2.2) (r := r) s1 (by omega)
    obtain ⟨s3, d1, d2, d3⟩ := dl_ex (T := Z.2.2.2.2.2) (r := r) s2 (by omega)
    have A := dl_h_iff.mp a2
    have B := dl_h_iff.mp b2
    have D := dl_h_iff.mp d2
    have f12 := t2 s1 s2 (by omega) (by omega) (by omega) A.1 B.1 (A.2.trans B.2.symm)
    have f13 := t2 s1 s3 (by omega) (by omega) (by omega) A.1 D.1 (A.2.trans D.2.symm)
    have f23 := t2 s2 s3 (by omega) (by omega) (by omega) B.1 D.1 (B.2.trans D.2.symm)
    have l1 := t1 s1 (by omega)
    have l2 := t1 s2 (by omega)
    have l3 := t1 s3 (by omega)
    have c3 := cn_three l1.2.2.1 l2.2.2.1 l3.2.2.1 f12 f13 f23
    obtain ⟨b, hb, q1, q2⟩ := qu_meet (g := Qu) (Nat.le_of_eq c3.symm) c1
    have use : ∀ s, s < Z.2.2.1 → dl_h Z.2.2.2.2.2 r s = true → (Z.2.2.2.2.2 s).2.1 = b → u ≤ w := by
      intro s hs hh hf
      have S := dl_h_iff.mp hh
      have no := ((t1 s (by omega)).2.2.2.2 S.1).2
      rw [S.2] at no
      have := (c2 r hr qr).2 h2 s (by omega) (by omega) S.2 no (by rw [hf]; exact q2)
      have m := dl_max (T := Z.2.2.2.2.2) (r := r) Z.2.2.1 s hs hh
      omega
    by_cases e3 : b = (Z.2.2.2.2.2 s3).2.1
    · exact use s3 (by omega) d2 e3.symm
    · rw [fs_ne e3] at q1
      by_cases e2 : b = (Z.2.2.2.2.2 s2).2.1
      · exact use s2 (by omega) b2 e2.symm
      · rw [fs_ne e2] at q1
        by_cases e1 : b = (Z.2.2.2.2.2 s1).2.1
        · exact use s1 a1 a2 e1.symm
        · rw [fs_ne e1] at q1
          exact absurd q1 Bool.false_ne_true
  refine iv_step I rfl rfl (fun x hx => ?_) (fun c hc => ?_) (iv_T_drop I.2.1 (Nat.le_refl _) hne) (fun p p5 st vw => ?_) (fun V n Q gV gV' gQ gG => ⟨fun u hu => ?_, fun c hc qc => ?_⟩)
  · rcases hx with ⟨b, hb, rfl⟩ | ⟨s, hs, s1, s2, rfl⟩
    · by_cases y : b = r
      · rw [y, heq]
        refine Or.inr ⟨hx_L (Z.2.2.2.2.2 e), hE, ?_, rfl, rfl, Or.inl (Nat.le_refl _)⟩
        exact o3.symm
      · rw [hne b y]
        exact cl_of (Or.inl ⟨b, hb, rfl⟩)
    · obtain ⟨a1, a2⟩ := td_k3 _ _ _ _ s hs s1
      refine cl_of (Or.inr ⟨s, hs, a1, ?_, ?_⟩)
      · rw [← a2]; exact s2
      · unfold hx_L
        show _ = ((Z.2.2.2.2.2 s).2.2.2.2.1, _)
        rw [← a2]
        rfl
  · by_cases y : c = r
    · rw [y, heq]
      exact ⟨fun _ => rfl, fun z => absurd z (by decide : ¬ (0 : Nat) = 1), fun z => absurd z (by decide : ¬ 2 ≤ (0 : Nat)), fun _ => rfl, Nat.zero_le _⟩
    · rw [hne c y]; exact I.1 c hc
  · by_cases y : p = r
    · rw [y, heq] at vw
      have vw' : w % 5 = r := vw
      exact absurd (o4.trans (vw'.trans o2.symm)) te2
    · rw [hne p y]; exact ⟨by rw [hne p y] at st; exact st, rfl, Nat.le_refl _, Nat.le_refl _⟩
  · obtain ⟨q1, q2, q3⟩ := gQ u hu
    refine ⟨q1, q2, fun c hc qc => ?_⟩
    by_cases y : c = r
    · rw [y] at qc
      rw [y, heq]
      exact ⟨fun _ => key u (Q u) ⟨q2, q3⟩ qc, fun z => absurd z (by decide : ¬ (0 : Nat) = 2)⟩
    · rw [hne c y]
      refine ⟨(q3 c hc qc).1, fun z s hs s1 s2 s3 s4 => ?_⟩
      obtain ⟨a1, a2⟩ := td_k3 _ _ _ _ s hs s1
      have s2' : (td_drop Z.2.2.2.2.2 Z.2.2.1 r (fun _ => true) s).2.2.1 = c := s2
      have s3' : (td_drop Z.2.2.2.2.2 Z.2.2.1 r (fun _ => true) s).2.2.2.1 = (H c).2.2.2.1 := s3
      have s4' : Q u (td_drop Z.2.2.2.2.2 Z.2.2.1 r (fun _ => true) s).2.1 = true := s4
      rw [a2] at s2' s3' s4'
      show u ≤ (td_drop Z.2.2.2.2.2 Z.2.2.1 r (fun _ => true) s).2.2.2.2.1
      rw [a2]
      exact (q3 c hc qc).2 z s hs a1 s2' s3' s4'
  · obtain ⟨q1, q2⟩ := gG c hc qc
    by_cases y : c = r
    · rw [y] at qc q1 q2
      rw [y, heq]
      refine ⟨fun _ => ?_, fun z => absurd z (by decide : ¬ (0 : Nat) = 2)⟩
      have k1 := key V (Q V) (gQ V gV.1.2).2 qc
      have k2 : (Z.2.2.2.2.2 e).2.2.2.2.1 ≤ V := (gV.2 _ hE).1
      have no := ((t1 e (by omega)).2.2.2.2 o1).2
      rw [o2] at no
      exact q2 h2 e (by omega) (by omega) o2 no ld (by omega)
    · rw [hne c y]
      refine ⟨q1, fun z s hs s1 s2 s3 s4 s5 => ?_⟩
      obtain ⟨a1, a2⟩ := td_k3 _ _ _ _ s hs s1
      have s2' : (td_drop Z.2.2.2.2.2 Z.2.2.1 r (fun _ => true) s).2.2.1 = c := s2
      have s3' : (td_drop Z.2.2.2.2.2 Z.2.2.1 r (fun _ => true) s).2.2.2.1 = (H c).2.2.2.1 := s3
      have s4' : (td_drop Z.2.2.2.2.2 Z.2.2.1 r (fun _ => true) s).2.2.2.2.2.1 = 1 := s4
      have s5' : (td_drop Z.2.2.2.2.2 Z.2.2.1 r (fun _ => true) s).2.2.2.2.1 = V := s5
      rw [a2] at s2' s3' s4' s5'
      show n ≤ (td_drop Z.2.2.2.2.2 Z.2.2.1 r (fun _ => true) s).2.2.2.2.2.2.1
      rw [a2]
      exact q2 z s hs a1 s2' s3' s4' s5'
end
section
/-! ask, fetch, spread -/
theorem iv_ask1 {Z : vg_Z} {H : Nat → vg_R} (I : iv_I Z H) {r b s : Nat} (hr : r < 5) (hb : b < 5) (hrb : r ≠ b) (h2 : (H r).1 = 2) (h0 : (H b).1 = 0) (hs : s < Z.2.2.1) (hf : (Z.2.2.2.2.2 s).1 = 0) : iv_I (zs_T Z (fs_set Z.2.2.2.2.2 s (ak_let H r b))) H := by
  obtain ⟨t1, t2⟩ := I.2.1
  have le : ∀ c, c = s → fs_set Z.2.2.2.2.2 s (ak_let H r b) c = ak_let H r b := fun c hc => by rw [hc, fs_eq]
  have lt : (ak_let H r b).1 = 1 ∧ (ak_let H r b).2.1 = b ∧ (ak_let H r b).2.2.1 = r ∧ (ak_let H r b).2.2.2.1 = (H r).2.2.2.1 ∧ (ak_let H r b).2.2.2.2.1 = (H b).2.1 ∧ ((ak_let H r b).2.2.2.2.2.1 = 1 ↔ b = (H b).2.1 % 5) ∧ ((ak_let H r b).2.2.2.2.2.1 = 1 → (ak_let H r b).2.2.2.2.2.2.1 = (H b).2.2.2.2.1 ∧ hx_L (ak_let H r b) = ((H b).2.1, (H b).2.2.2.2.1, (H b).2.2.2.2.2.1, (H b).2.2.2.2.2.2)) := by
    unfold ak_let
    by_cases e : (H b).2.1 % 5 = b
    · rw [if_pos e]
      exact ⟨rfl, rfl, rfl, rfl, rfl, ⟨fun _ => e.symm, fun _ => rfl⟩, fun _ => ⟨rfl, rfl⟩⟩
    · rw [if_neg e]
      exact ⟨rfl, rfl, rfl, rfl, rfl, ⟨fun z => absurd z (by decide : ¬ (0 : Nat) = 1), fun z => absurd z.symm e⟩, fun z => absurd z (by decide : ¬ (0 : Nat) = 1)⟩
  obtain ⟨l1, l2, l3, l4, l5, l6, l7⟩ := lt
  have lsb : (H b).2.2.1 = (H b).2.1 := (I.1 b hb).1 h0
  refine iv_step I rfl rfl (fun x hx => ?_) I.1 ⟨fun c hc => ?_, fun c c' hc hc' hne z z' ht => ?_⟩ (fun p p5 st vw => ⟨st, rfl, Nat.le_refl _, Nat.le_refl _⟩) (fun V n Q gV gV' gQ gG => ⟨fun u hu => ?_, fun c hc qc => ?_⟩)
  · rcases hx with ⟨c, hc, rfl⟩ | ⟨c, hc, s1, s2, rfl⟩
    · exact cl_of (Or.inl ⟨c, hc, rfl⟩)
    · have s1' : (fs_set Z.2.2.2.2.2 s (ak_let H r b) c).1 ≠ 0 := s1
      have s2' : (fs_set Z.2.2.2.2.2 s (ak_let H r b) c).2.2.2.2.2.1 = 1 := s2
      show cl_in (hs_in Z.2.2.2.2.2 H) (hx_L (fs_set Z.2.2.2.2.2 s (ak_let H r b) c))
      by_cases e : c = s
      · rw [le c e] at s2' ⊢
        rw [(l7 s2').2]
        refine cl_of (Or.inl ⟨b, hb, ?_⟩)
        unfold hx_R
        rw [lsb]
      · rw [fs_ne e] at s1' s2' ⊢
        exact cl_of (Or.inr ⟨c, hc, s1', s2', rfl⟩)
  · show iv_t Z.2.2.2.1 Z.2.2.1 H c (fs_set Z.2.2.2.2.2 s (ak_let H r b) c)
    by_cases e : c = s
    · rw [le c e, iv_t, l1, l2, l3, l4, l5]
      refine ⟨(I.1 r hr).2.2.2.2, hr, hb, fun _ => ⟨by omega, hrb.symm, l6⟩, fun z => absurd z (by decide)⟩
    · rw [fs_ne e]; exact t1 c hc
  · have z1 : (fs_set Z.2.2.2.2.2 s (ak_let H r b) c).1 = 2 := z
    have z2 : (fs_set Z.2.2.2.2.2 s (ak_let H r b) c').1 = 2 := z'
    have z3 : (fs_set Z.2.2.2.2.2 s (ak_let H r b) c).2.2.1 = (fs_set Z.2.2.2.2.2 s (ak_let H r b) c').2.2.1 := ht
    show (fs_set Z.2.2.2.2.2 s (ak_let H r b) c).2.1 ≠ (fs_set Z.2.2.2.2.2 s (ak_let H r b) c').2.1
    by_cases e : c = s
    · rw [le c e] at z1; omega
    · by_cases e' : c' = s
      · rw [le c' e'] at z2; omega
      · rw [fs_ne e] at z1 z3 ⊢
        rw [fs_ne e'] at z2 z3 ⊢
        exact t2 c c' hc hc' hne z1 z2 z3
  · obtain ⟨q1, q2, q3⟩ := gQ u hu
    refine ⟨q1, q2, fun c hc qc => ⟨(q3 c hc qc).1, fun z d hd s1 s2 s3 s4 => ?_⟩⟩
    have s1' : (fs_set Z.2.2.2.2.2 s (ak_let H r b) d).1 ≠ 0 := s1
    have s2' : (fs_set Z.2.2.2.2.2 s (ak_let H r b) d).2.2.1 = c := s2
    have s3' : (fs_set Z.2.2.2.2.2 s (ak_let H r b) d).2.2.2.1 = (H c).2.2.2.1 := s3
    have s4' : Q u (fs_set Z.2.2.2.2.2 s (ak_let H r b) d).2.1 = true := s4
    show u ≤ (fs_set Z.2.2.2.2.2 s (ak_let H r b) d).2.2.2.2.1
    by_cases e : d = s
    · rw [le d e] at s4' ⊢
      rw [l2] at s4'
      have := (q3 b hb s4').1 (by omega)
      omega
    · rw [fs_ne e] at s1' s2' s3' s4' ⊢
      exact (q3 c hc qc).2 z d hd s1' s2' s3' s4'
  · obtain ⟨q1, q2⟩ := gG c hc qc
    refine ⟨q1, fun z d hd s1 s2 s3 s4 s5 => ?_⟩
    have s1' : (fs_set Z.2.2.2.2.2 s (ak_let H r b) d).1 ≠ 0 := s1
    have s2' : (fs_set Z.2.2.2.2.2 s (ak_let H r b) d).2.2.1 = c := s2
    have s3' : (fs_set Z.2.2.2.2.2 s (ak_let H r b) d).2.2.2.1 = (H c).2.2.2.1 := s3
    have s4' : (fs_set Z.2.2.2.2.2 s (ak_let H r b) d).2.2.2.2.2.1 = 1 := s4
    have s5' : (fs_set Z.2.2.2.2.2 s (ak_let H r b) d).2.2.2.2.1 = V := s5
    show n ≤ (fs_set Z.2.2.2.2.2 s (ak_let H r b) d).2.2.2.2.2.2.1
    by_cases e : d = s
    · rw [le d e] at s4' s5' ⊢
      rw [(l7 s4').1]
      have vb : b = V % 5 := by rw [← s5', l5]; exact l6.mp s4'
      have := gV.1.2
      rw [← vb] at this
      exact (gG b hb this).1 (by omega)
    · rw [fs_ne e] at s1' s2' s3' s4' s5' ⊢
      exact q2 z d hd s1' s2' s3' s4' s5'
theorem iv_ask {Z : vg_Z} {H : Nat → vg_R} (I : iv_I Z H) {r : Nat} (hr : r < 5) (h2 : (H r).1 = 2) : ∀ b, b ≤ 5 → iv_I (zs_T Z (ak_T H Z.2.2.2.2.1 r Z.2.2.1 Z.2.2.2.2.2 b).1) H
  | 0, _ => I
  | b + 1, hb => by
    have ih := iv_ask I hr h2 b (by omega)
    show iv_I (zs_T Z (if vg_tch H Z.2.2.2.2.1 r b = true ∧ (H b).1 = 0 ∧ ff_at (ak_T H Z.2.2.2.2.1 r Z.2.2.1 Z.2.2.2.2.2 b).1 Z.2.2.1 0 < Z.2.2.1 then (fs_set (ak_T H Z.2.2.2.2.1 r Z.2.2.1 Z.2.2.2.2.2 b).1 (ff_at (ak_T H Z.2.2.2.2.1 r Z.2.2.1 Z.2.2.2.2.2 b).1 Z.2.2.1 0) (ak_let H r b), (ak_T H Z.2.2.2.2.1 r Z.2.2.1 Z.2.2.2.2.2 b).2 + 1) else ak_T H Z.2.2.2.2.1 r Z.2.2.1 Z.2.2.2.2.2 b).1) H
    by_cases z : vg_tch H Z.2.2.2.2.1 r b = true ∧ (H b).1 = 0 ∧ ff_at (ak_T H Z.2.2.2.2.1 r Z.2.2.1 Z.2.2.2.2.2 b).1 Z.2.2.1 0 < Z.2.2.1
    · rw [if_pos z]
      exact iv_ask1 ih hr (by omega) (vg_tch_iff.mp z.1).1 h2 z.2.1 z.2.2 ((ff_le Z.2.2.1 0).2 (by omega))
    · rw [if_neg z]
      exact ih
/-! what a reader of s may rely on -/
theorem iv_lsvw {Z : vg_Z} {H : Nat → vg_R} (I : iv_I Z H) {b : Nat} (hb : b < 5) (h : (H b).1 ≤ 1) : (H b).2.2.1 ≤ (H b).2.1 := by
  obtain ⟨a1, a2, _⟩ := I.1 b hb
  have h' : (H b).1 = 0 ∨ (H b).1 = 1 := by omega
  rcases h' with e | e
  · have := a1 e; omega
  · have := a2 e; omega
theorem iv_agree {Z : vg_Z} {H : Nat → vg_R} (I : iv_I Z H) {r s : Nat} (hr : r < 5) (hs : s < 5) (h0 : (H s).1 = 0) (h1 : (H r).1 ≤ 1) (hv : (H r).2.1 ≤ (H s).2.1) (hn : ¬ ((H r).1 = 0 ∧ (H r).2.1 = (H s).2.1 ∧ (H s).2.2.2.2.1 ≤ (H r).2.2.2.2.1)) :
    (H r).2.2.2.2.2.1 ≤ (H s).2.2.2.2.1 ∧ ∀ i, i < (H r).2.2.2.2.2.1 → (H r).2.2.2.2.2.2 i = (H s).2.2.2.2.2.2 i := by
  have e1 := (I.1 s hs).1 h0
  have e2 := iv_lsvw I hr h1
  obtain ⟨p1, p2⟩ := I.2.2.1 _ _ (Or.inl ⟨r, hr, rfl⟩) (Or.inl ⟨s, hs, rfl⟩)
  have br : (H r).2.2.2.2.2.1 ≤ (H r).2.2.2.2.1 := (I.2.2.2.1 _ (Or.inl ⟨r, hr, rfl⟩)).1
  by_cases e : (H r).2.2.1 < (H s).2.2.1
  · exact p2 e
  · have e3 : (H r).2.2.1 = (H s).2.2.1 := by omega
    have e4 : (H r).1 = 0 := by
      by_cases z : (H r).1 = 1
      · have := (I.1 r hr).2.1 z
        omega
      · omega
    have e5 : (H r).2.2.2.2.1 < (H s).2.2.2.2.1 := by omega
    exact ⟨by omega, fun i hi => p1 e3 i (by show i < (H r).2.2.2.2.1; omega) (by show i < (H s).2.2.2.2.1; omega)⟩
theorem iv_fetch {Z : vg_Z} {H : Nat → vg_R} (I : iv_I Z H) {r s : Nat} (hr : r < 5) (hs : s < 5) (h0 : (H s).1 = 0) (h1 : (H r).1 ≤ 1) (hv : (H r).2.1 ≤ (H s).2.1) : iv_I Z (fs_set H r (vg_ns (H s) (H r))) := by
  have e1 := (I.1 s hs).1 h0
  have e2 := iv_lsvw I hr h1
  have hne : ∀ c, c ≠ r → fs_set H r (vg_ns (H s) (H r)) c = H c := fun c hc => fs_ne hc
  have heq : fs_set H r (vg_ns (H s) (H r)) r = vg_ns (H s) (H r) := fs_eq
  have ag := iv_agree I hr hs h0 h1 hv
  have inr : hs_in Z.2.2.2.2.2 H (hx_R (H r)) := Or.inl ⟨r, hr, rfl⟩
  have ins : hs_in Z.2.2.2.2.2 H (hx_R (H s)) := Or.inl ⟨s, hs, rfl⟩
  have br : (H r).2.2.2.2.2.1 ≤ (H r).2.2.2.2.1 := (I.2.2.2.1 _ inr).1
  have bs : (H s).2.2.2.2.2.1 ≤ (H s).2.2.2.2.1 := (I.2.2.2.1 _ ins).1
  have nf : (vg_ns (H s) (H r)).1 = 0 ∧ (vg_ns (H s) (H r)).2.1 = (H s).2.1 ∧ (vg_ns (H s) (H r)).2.2.1 = (H s).2.1 ∧ (vg_ns (H s) (H r)).2.2.2.1 = (H r).2.2.2.1 ∧ (vg_ns (H s) (H r)).2.2.2.2.2.1 = max (H r).2.2.2.2.2.1 (H s).2.2.2.2.2.1 ∧
      ((((H r).1 = 0 ∧ (H r).2.1 = (H s).2.1 ∧ (H s).2.2.2.2.1 ≤ (H r).2.2.2.2.1) ∧ (vg_ns (H s) (H r)).2.2.2.2.1 = (H r).2.2.2.2.1 ∧ (vg_ns (H s) (H r)).2.2.2.2.2.2 = (H r).2.2.2.2.2.2) ∨
       ((¬ ((H r).1 = 0 ∧ (H r).2.1 = (H s).2.1 ∧ (H s).2.2.2.2.1 ≤ (H r).2.2.2.2.1)) ∧ (vg_ns (H s) (H r)).2.2.2.2.1 = (H s).2.2.2.2.1 ∧ (vg_ns (H s) (H r)).2.2.2.2.2.2 = (H s).2.2.2.2.2.2)) := by
    unfold vg_ns
    by_cases z : (H r).1 = 0 ∧ (H r).2.1 = (H s).2.1 ∧ (H s).2.2.2.2.1 ≤ (H r).2.2.2.2.1
    · rw [if_pos z]; exact ⟨rfl, rfl, rfl, rfl, rfl, Or.inl ⟨z, rfl, rfl⟩⟩
    · rw [if_neg z]; exact ⟨rfl, rfl, rfl, rfl, rfl, Or.inr ⟨z, rfl, rfl⟩⟩
  obtain ⟨n1, n2, n3, n4, n5, n6⟩ := nf
  refine iv_step I rfl rfl (fun x hx => ?_) (fun c hc => ?_) ⟨fun c hc => ?_, I.2.1.2⟩ (fun p p5 st vw => ?_) (fun V n Q gV gV' gQ gG => iv_Qk (fun c hc z => ?_) (fun c hc z => ?_) (fun c hc z => ⟨z, rfl⟩) gV' gQ gG)
  · rcases hx with ⟨c, hc, rfl⟩ | ⟨c, hc, s1, s2, rfl⟩
    · by_cases y : c = r
      · rw [y, heq]
        rcases n6 with ⟨z, z1, z2⟩ | ⟨z, z1, z2⟩
        · refine Or.inr ⟨hx_R (H r), inr, ?_, z1, z2, ?_⟩
          · show (vg_ns (H s) (H r)).2.2.1 = (H r).2.2.1
            have := (I.1 r hr).1 z.1
            omega
          · by_cases q : (H s).2.2.2.2.2.1 ≤ (H r).2.2.2.2.2.1
            · exact Or.inl (by show (vg_ns (H s) (H r)).2.2.2.2.2.1 ≤ (H r).2.2.2.2.2.1; omega)
            · refine Or.inr ⟨hx_R (H s), ins, by show (vg_ns (H s) (H r)).2.2.2.2.2.1 = (H s).2.2.2.2.2.1; omega, ?_, by show (vg_ns (H s) (H r)).2.2.2.2.2.1 ≤ (H r).2.2.2.2.1; omega⟩
              show (H s).2.2.1 ≤ (H r).2.2.1
              have := (I.1 r hr).1 z.1
              omega
        · obtain ⟨ag1, ag2⟩ := ag z
          refine Or.inr ⟨hx_R (H s), ins, by show (vg_ns (H s) (H r)).2.2.1 = (H s).2.2.1; omega, z1, z2, ?_⟩
          by_cases q : (H r).2.2.2.2.2.1 ≤ (H s).2.2.2.2.2.1
          · exact Or.inl (by show (vg_ns (H s) (H r)).2.2.2.2.2.1 ≤ (H s).2.2.2.2.2.1; omega)
          · exact Or.inr ⟨hx_R (H r), inr, by show (vg_ns (H s) (H r)).2.2.2.2.2.1 = (H r).2.2.2.2.2.1; omega, by show (H r).2.2.1 ≤ (H s).2.2.1; omega, by show (vg_ns (H s) (H r)).2.2.2.2.2.1 ≤ (H s).2.2.2.2.1; omega⟩
      · rw [hne c y]
        exact cl_of (Or.inl ⟨c, hc, rfl⟩)
    · exact cl_of (Or.inr ⟨c, hc, s1, s2, rfl⟩)
  · by_cases y : c = r
    · rw [y, heq]
      obtain ⟨a1, a2, a3, a4, a5⟩ := I.1 r hr
      refine ⟨fun _ => by omega, fun z => absurd z (by omega), fun z => absurd z (by omega), fun _ => ?_, by omega⟩
      rw [n4]
      exact a4 (by omega)
    · rw [hne c y]; exact I.1 c hc
  · obtain ⟨a1, a2, a3, a4, a5⟩ := I.2.1.1 c hc
    refine ⟨a1, a2, a3, a4, fun z => ?_⟩
    have := a5 z
    rw [hne _ (fun q => by rw [q] at this; omega)]
    exact this
  · by_cases y : p = r
    · subst y
      rw [heq] at st vw ⊢
      rw [n2] at vw
      -- p was the primary already
      obtain ⟨V, n, Q, gV, gQ, gG⟩ := I.2.2.2.2.2
      have qs := (gV.2 _ ins).2.2
      have qs' : Q (H s).2.2.1 ((H s).2.2.1 % 5) = true := qs
      rw [e1, vw] at qs'
      have k := ((gQ (H s).2.1 (by rw [vw]; exact qs')).2.2 p hr qs').1 h1
      have st0 : (H p).1 = 0 := by
        by_cases z : (H p).1 = 1
        · have := (I.1 p hr).2.1 z
          omega
        · omega
      have vv : (H p).2.1 = (H s).2.1 := by omega
      obtain ⟨L1, L2⟩ := I.2.2.2.2.1 p hr st0 (by rw [vv]; exact vw) _ ins
      have L1' : (H s).2.2.2.2.1 ≤ (H p).2.2.2.2.1 := L1 (by show (H s).2.2.1 = (H p).2.1; omega)
      have L2' : (H s).2.2.2.2.2.1 ≤ (H p).2.2.2.2.2.1 := L2 (by show (H s).2.2.1 ≤ (H p).2.1; omega)
      refine ⟨st0, by omega, ?_, by omega⟩
      rcases n6 with ⟨_, z1, _⟩ | ⟨z, _⟩
      · omega
      · exact absurd ⟨st0, vv, L1'⟩ z
    · rw [hne p y] at st vw ⊢
      exact ⟨st, rfl, Nat.le_refl _, Nat.le_refl _⟩
  · by_cases y : c = r
    · rw [y, heq]
      refine ⟨h1, by omega, fun q => ?_⟩
      rcases n6 with ⟨_, z1, _⟩ | ⟨z, z1, _⟩
      · omega
      · have e4 : (H r).1 = 0 := by
          by_cases z : (H r).1 = 1
          · have := (I.1 r hr).2.1 z
            omega
          · omega
        have := (I.1 r hr).1 e4
        omega
    · rw [hne c y] at z ⊢
      exact ⟨z, Nat.le_refl _, fun _ => Nat.le_refl _⟩
  · by_cases y : c = r
    · rw [y, heq] at z; omega
    · rw [hne c y] at z ⊢; exact ⟨z, rfl⟩
end
section
/-! append, spread, commit -/
theorem iv_sp {Z : vg_Z} {H : Nat → vg_R} (I : iv_I Z H) {ce : Nat → Nat} {p b : Nat} (hp : p < 5) (hb : b < 5) (h0 : (H p).1 = 0) (hv : (H p).2.1 % 5 = p) (hf : vg_fol H ce p b = true) : sp_ok (H p) (H b) := by
  obtain ⟨_, f1, f2⟩ := vg_fol_iff.mp hf
  have e1 := (I.1 p hp).1 h0
  have e2 := iv_lsvw I hb f1
  have inb : hs_in Z.2.2.2.2.2 H (hx_R (H b)) := Or.inl ⟨b, hb, rfl⟩
  have inp : hs_in Z.2.2.2.2.2 H (hx_R (H p)) := Or.inl ⟨p, hp, rfl⟩
  obtain ⟨L1, L2⟩ := I.2.2.2.2.1 p hp h0 hv _ inb
  have bb : (H b).2.2.2.2.2.1 ≤ (H b).2.2.2.2.1 := (I.2.2.2.1 _ inb).1
  have bp : (H p).2.2.2.2.2.1 ≤ (H p).2.2.2.2.1 := (I.2.2.2.1 _ inp).1
  obtain ⟨p1, p2⟩ := I.2.2.1 _ _ inb inp
  have c1 : (H b).2.2.2.2.2.1 ≤ (H p).2.2.2.2.2.1 := L2 (by show (H b).2.2.1 ≤ (H p).2.1; omega)
  refine ⟨c1, fun i hi => ?_, (I.1 b hb).1, fun z z2 => ?_⟩
  · by_cases e : (H b).2.2.1 < (H p).2.2.1
    · exact (p2 e).2 i hi
    · exact p1 (by show (H b).2.2.1 = (H p).2.2.1; omega) i (by show i < (H b).2.2.2.2.1; omega) (by show i < (H p).2.2.2.2.1; omega)
  · have e3 := (I.1 b hb).1 z
    have l1 : (H b).2.2.2.2.1 ≤ (H p).2.2.2.2.1 := L1 (by show (H b).2.2.1 = (H p).2.1; omega)
    exact ⟨l1, fun i hi => p1 (by show (H b).2.2.1 = (H p).2.2.1; omega) i hi (by show i < (H p).2.2.2.2.1; omega)⟩
/-- the followers take the primary's log -/
theorem iv_cp {Z : vg_Z} {H : Nat → vg_R} (I : iv_I Z H) {ce : Nat → Nat} {p : Nat} (hp : p < 5) (h0 : (H p).1 = 0) (hv : (H p).2.1 % 5 = p) : iv_I Z (fun b => if vg_fol H ce p b = true then vg_cp (H p) (H b) else H b) := by
  have e1 := (I.1 p hp).1 h0
  have inp : hs_in Z.2.2.2.2.2 H (hx_R (H p)) := Or.inl ⟨p, hp, rfl⟩
  have hx : hx_R (vg_cp (H p) (H p)) = hx_R (H p) := by
    unfold hx_R vg_cp
    rw [e1]
  generalize hG : (fun b => if vg_fol H ce p b = true then vg_cp (H p) (H b) else H b) = G
  have hY : ∀ c, vg_fol H ce p c = true → G c = vg_cp (H p) (H c) := fun c y => by rw [← hG]; exact if_pos y
  have hN : ∀ c, ¬ vg_fol H ce p c = true → G c = H c := fun c y => by rw [← hG]; exact if_neg y
  refine iv_step I rfl rfl (fun x hx' => ?_) (fun c hc => ?_) ⟨fun c hc => ?_, I.2.1.2⟩ (fun q q5 st vw => ?_) (fun V n Q gV gV' gQ gG => iv_Qk (fun c hc z => ?_) (fun c hc z => ?_) (fun c hc z => ⟨z, rfl⟩) gV' gQ gG)
  · rcases hx' with ⟨c, hc, rfl⟩ | ⟨c, hc, s1, s2, rfl⟩
    · by_cases y : vg_fol H ce p c = true
      · rw [hY c y]
        have : hx_R (vg_cp (H p) (H c)) = hx_R (H p) := hx
        rw [this]
        exact cl_of inp
      · rw [hN c y]
        exact cl_of (Or.inl ⟨c, hc, rfl⟩)
    · exact cl_of (Or.inr ⟨c, hc, s1, s2, rfl⟩)
  · by_cases y : vg_fol H ce p c = true
    · rw [hY c y]
      have f1 := (vg_fol_iff.mp y).2.1
      obtain ⟨a1, a2, a3, a4, a5⟩ := I.1 c hc
      exact ⟨fun _ => rfl, fun z => absurd z (by decide : ¬ (0 : Nat) = 1), fun z => absurd z (by decide : ¬ 2 ≤ (0 : Nat)), fun _ => a4 (by omega), a5⟩
    · rw [hN c y]; exact I.1 c hc
  · obtain ⟨a1, a2, a3, a4, a5⟩ := I.2.1.1 c hc
    refine ⟨a1, a2, a3, a4, fun z => ?_⟩
    have := a5 z
    rw [hN _ (fun q => by have := (vg_fol_iff.mp q).2.1; omega)]
    exact this
  · by_cases y : vg_fol H ce p q = true
    · rw [hY q y] at vw
      have vw' : (H p).2.1 % 5 = q := vw
      exact absurd (hv.symm.trans vw') (vg_fol_iff.mp y).1.1
    · rw [hN q y] at st vw ⊢
      exact ⟨st, rfl, Nat.le_refl _, Nat.le_refl _⟩
  · by_cases y : vg_fol H ce p c = true
    · rw [hY c y]
      obtain ⟨_, f1, f2⟩ := vg_fol_iff.mp y
      have e2 := iv_lsvw I hc f1
      refine ⟨f1, by show (H c).2.2.1 ≤ (H p).2.1; omega, fun q => ?_⟩
      have q' : (H p).2.1 = (H c).2.2.1 := q
      exact (I.2.2.2.2.1 p hp h0 hv _ (Or.inl ⟨c, hc, rfl⟩)).1 q'.symm
    · rw [hN c y] at z ⊢
      exact ⟨z, Nat.le_refl _, fun _ => Nat.le_refl _⟩
  · by_cases y : vg_fol H ce p c = true
    · rw [hY c y] at z
      exact absurd z (by decide : ¬ (0 : Nat) = 2)
    · rw [hN c y] at z ⊢
      exact ⟨z, rfl⟩
/-- the primary with two followers commits its whole log -/
theorem iv_com {Z : vg_Z} {H : Nat → vg_R} (I : iv_I Z H) {p : Nat} (hp : p < 5) (h0 : (H p).1 = 0) (hv : (H p).2.1 % 5 = p) {F : Nat → Bool} (hF : 3 ≤ cn_5 F) (Fp : F p = true)
    (hb : ∀ b, b < 5 → F b = true → (H b).1 = 0 ∧ (H b).2.2.1 = (H p).2.1 ∧ (H b).2.2.2.2.1 = (H p).2.2.2.2.1) :
    iv_I Z (fs_set H p ((H p).1, (H p).2.1, (H p).2.2.1, (H p).2.2.2.1, (H p).2.2.2.2.1, (H p).2.2.2.2.1, (H p).2.2.2.2.2.2)) := by
  obtain ⟨iS, iT, iP, iB, iL, V, n, Q, gV, gQ, gG⟩ := I
  have e1 := (iS p hp).1 h0
  have inp : hs_in Z.2.2.2.2.2 H (hx_R (H p)) := Or.inl ⟨p, hp, rfl⟩
  obtain ⟨qV1, qV2, qV3⟩ := gQ V gV.1.2
  obtain ⟨b, b5, fb, qb⟩ := qu_meet hF qV2
  obtain ⟨z1, z2, z3⟩ := hb b b5 fb
  have v1 := (qV3 b b5 qb).1 (by omega)
  have v2 : (H p).2.2.1 ≤ V := (gV.2 _ inp).1
  have vV : (H p).2.1 = V := by omega
  have pV : V % 5 = p := by rw [← vV]; exact hv
  generalize hR : ((H p).1, (H p).2.1, (H p).2.2.1, (H p).2.2.2.1, (H p).2.2.2.2.1, (H p).2.2.2.2.1, (H p).2.2.2.2.2.2) = R
  have hne : ∀ c, c ≠ p → fs_set H p R c = H c := fun c hc => fs_ne hc
  have heq : fs_set H p R p = R := fs_eq
  have r1 : R.1 = (H p).1 := by rw [← hR]
  have r2 : R.2.1 = (H p).2.1 := by rw [← hR]
  have r3 : R.2.2.1 = (H p).2.2.1 := by rw [← hR]
  have r4 : R.2.2.2.1 = (H p).2.2.2.1 := by rw [← hR]
  have r5 : R.2.2.2.2.1 = (H p).2.2.2.2.1 := by rw [← hR]
  have r6 : R.2.2.2.2.2.1 = (H p).2.2.2.2.1 := by rw [← hR]
  have r7 : R.2.2.2.2.2.2 = (H p).2.2.2.2.2.2 := by rw [← hR]
  have same : ∀ c, (fs_set H p R c).1 = (H c).1 ∧ (fs_set H p R c).2.1 = (H c).2.1 ∧ (fs_set H p R c).2.2.1 = (H c).2.2.1 ∧ (fs_set H p R c).2.2.2.1 = (H c).2.2.2.1 ∧ (fs_set H p R c).2.2.2.2.1 = (H c).2.2.2.2.1 := by
    intro c
    by_cases y : c = p
    · rw [y, heq]; exact ⟨r1, r2, r3, r4, r5⟩
    · rw [hne c y]; exact ⟨rfl, rfl, rfl, rfl, rfl⟩
  -- a host is an old one, or the primary's
  have hst : ∀ x, hs_in Z.2.2.2.2.2 (fs_set H p R) x → hs_in Z.2.2.2.2.2 H x ∨ x = ((H p).2.2.1, (H p).2.2.2.2.1, (H p).2.2.2.2.1, (H p).2.2.2.2.2.2) := by
    intro x hx
    rcases hx with ⟨c, hc, rfl⟩ | h
    · by_cases y : c = p
      · rw [y, heq, ← hR]; exact Or.inr rfl
      · rw [hne c y]; exact Or.inl (Or.inl ⟨c, hc, rfl⟩)
    · exact Or.inl (Or.inr h)
  have bp := iB _ inp
  have bp1 : (H p).2.2.2.2.2.1 ≤ (H p).2.2.2.2.1 := bp.1
  have nle : ∀ x, hs_in Z.2.2.2.2.2 H x → x.2.2.1 ≤ (H p).2.2.2.2.2.1 := fun x hx => (iL p hp h0 hv x hx).2 (by have := (gV.2 x hx).1; omega)
  refine ⟨fun c hc => ?_, ⟨fun c hc => ?_, iT.2⟩, fun x y hx hy => ?_, fun x hx => ?_, fun q q5 st vw x hx => ?_, V, (H p).2.2.2.2.1, fs_set Q V F, ⟨⟨?_, ?_⟩, fun x hx => ?_⟩, fun u hu => ?_, fun c hc qc => ?_⟩
  · obtain ⟨a1, a2, a3, a4, a5⟩ := iS c hc
    by_cases y : c = p
    · rw [y, heq]
      rw [y] at a1 a2 a3 a4 a5
      exact ⟨fun _ => by omega, fun z => absurd z (by omega), fun z => absurd z (by omega), fun _ => by rw [r4]; exact a4 (by omega), by omega⟩
    · rw [hne c y]; exact ⟨a1, a2, a3, a4, a5⟩
  · obtain ⟨a1, a2, a3, a4, a5⟩ := iT.1 c hc
    refine ⟨a1, a2, a3, a4, fun z => ?_⟩
    rw [(same _).1, (same _).2.2.2.1]
    exact a5 z
  · rcases hst x hx with hx' | ex
    · rcases hst y hy with hy' | ey
      · exact iP x y hx' hy'
      · obtain ⟨a1, a2⟩ := iP x _ hx' inp
        rw [ey]
        exact ⟨a1, a2⟩
    · rcases hst y hy with hy' | ey
      · obtain ⟨a1, a2⟩ := iP _ y inp hy'
        rw [ex]
        refine ⟨a1, fun z => ?_⟩
        have z' : (H p).2.2.1 < y.1 := z
        have := (gV.2 y hy').1
        omega
      · rw [ex, ey]
        exact ⟨fun _ _ _ _ => rfl, fun z => absurd z (Nat.lt_irrefl _)⟩
  · rcases hst x hx with hx' | ex
    · exact iB x hx'
    · rw [ex]
      exact ⟨Nat.le_refl _, bp.2⟩
  · rw [(same q).1] at st
    rw [(same q).2.1] at vw
    by_cases y : q = p
    · rw [y, heq]
      rcases hst x hx with hx' | ex
      · have l1 := (iL p hp h0 hv x hx').1
        have l2 := nle x hx'
        exact ⟨fun z => by rw [r5]; exact l1 (by omega), fun z => by rw [r6]; omega⟩
      · rw [ex]
        exact ⟨fun _ => by rw [r5]; exact Nat.le_refl _, fun _ => by rw [r6]; exact Nat.le_refl _⟩
    · rw [hne q y]
      rcases hst x hx with hx' | ex
      · exact iL q q5 st vw x hx'
      · rw [ex]
        have e2 := (iS q q5).1 st
        have e3 : (H q).2.2.1 ≤ V := (gV.2 _ (Or.inl ⟨q, q5, rfl⟩)).1
        have no : ¬ V ≤ (H q).2.1 := by
          intro z
          have : (H q).2.1 = V := by omega
          rw [this] at vw
          exact y (vw.symm.trans pV)
        refine ⟨fun z => ?_, fun z => ?_⟩
        · have z' : (H p).2.2.1 = (H q).2.1 := z
          omega
        · have z' : (H p).2.2.1 ≤ (H q).2.1 := z
          omega
  · by_cases y : 0 = V
    · subst y
      rw [fs_eq]
      have : p = 0 := by rw [← pV]
      rw [← this]
      exact Fp
    · rw [fs_ne y]; exact gV.1.1
  · rw [fs_eq, pV]; exact Fp
  · have qq : ∀ u, Q u (u % 5) = true → fs_set Q V F u (u % 5) = true := by
      intro u hu
      by_cases y : u = V
      · rw [y, fs_eq, pV]; exact Fp
      · rw [fs_ne y]; exact hu
    rcases hst x hx with hx' | ex
    · obtain ⟨a1, a2, a3⟩ := gV.2 x hx'
      have := nle x hx'
      exact ⟨a1, by omega, qq _ a3⟩
    · rw [ex]
      exact ⟨v2, Nat.le_refl _, qq _ (gV.2 _ inp).2.2⟩
  · by_cases y : u = V
    · subst y
      rw [fs_eq] at hu ⊢
      refine ⟨Nat.le_refl _, hF, fun c hc fc => ?_⟩
      obtain ⟨w1, w2, w3⟩ := hb c hc fc
      rw [(same c).1, (same c).2.2.1]
      exact ⟨fun _ => by omega, fun z => absurd z (by omega)⟩
    · rw [fs_ne y] at hu ⊢
      obtain ⟨q1, q2, q3⟩ := gQ u hu
      refine ⟨q1, q2, fun c hc qc => ?_⟩
      rw [(same c).1, (same c).2.2.1, (same c).2.2.2.1]
      exact q3 c hc qc
  · rw [fs_eq] at qc
    obtain ⟨w1, w2, w3⟩ := hb c hc qc
    rw [(same c).1, (same c).2.2.2.2]
    exact ⟨fun _ => by omega, fun z => absurd z (by omega)⟩
theorem iv_spr {Z : vg_Z} {H : Nat → vg_R} (I : iv_I Z H) {ce : Nat → Nat} {p : Nat} (hp : p < 5) (h0 : (H p).1 = 0) (hv : (H p).2.1 % 5 = p) : iv_I Z (vg_spr H ce p) := by
  have I1 := iv_cp I (ce := ce) hp h0 hv
  have pp : (if vg_fol H ce p p = true then vg_cp (H p) (H p) else H p) = H p := by rw [fo_pp]; rfl
  by_cases z : 2 ≤ cn_5 (vg_fol H ce p)
  · have e1 := (I.1 p hp).1 h0
    have c3 := cn_set (D := vg_fol H ce p) p hp fo_pp
    have h := iv_com I1 (p := p) hp (by rw [pp]; exact h0) (by rw [pp]; exact hv) (F := fs_set (vg_fol H ce p) p true) (by omega) fs_eq ?_
    · have e : (fs_set (fun b => if vg_fol H ce p b = true then vg_cp (H p) (H b) else H b) p ((H p).1, (H p).2.1, (H p).2.2.1, (H p).2.2.2.1, (H p).2.2.2.2.1, (H p).2.2.2.2.1, (H p).2.2.2.2.2.2)) = vg_spr H ce p := by
        funext b
        unfold vg_spr
        by_cases y : b = p
        · subst y
          rw [fs_eq, fo_pp, if_neg Bool.false_ne_true, if_pos ⟨rfl, z⟩]
        · rw [fs_ne y]
          by_cases y2 : vg_fol H ce p b = true
          · rw [if_pos y2, if_pos y2]
          · rw [if_neg y2, if_neg y2, if_neg (fun q => y q.1)]
      rw [pp, e] at h
      exact h
    · intro b hb fb
      rw [pp]
      by_cases y : b = p
      · rw [y, pp]; exact ⟨h0, e1, rfl⟩
      · rw [fs_ne y] at fb
        rw [if_pos fb]
        exact ⟨rfl, rfl, rfl⟩
  · have e : (fun b => if vg_fol H ce p b = true then vg_cp (H p) (H b) else H b) = vg_spr H ce p := by
      funext b
      unfold vg_spr
      by_cases y2 : vg_fol H ce p b = true
      · rw [if_pos y2, if_pos y2]
      · rw [if_neg y2, if_neg y2, if_neg (fun q => z q.2)]
    rw [e] at I1
    exact I1
/-- the primary appends an entry -/
theorem iv_app {Z : vg_Z} {H : Nat → vg_R} (I : iv_I Z H) {p k : Nat} {a o : Int32} (hp : p < 5) (h0 : (H p).1 = 0) (hv : (H p).2.1 % 5 = p) (hk : k < Z.1) (ha : 1 ≤ a) (hl : (H p).2.2.2.2.1 < Z.2.1) :
    iv_I Z (fs_set H p ((H p).1, (H p).2.1, (H p).2.2.1, (H p).2.2.2.1, (H p).2.2.2.2.1 + 1, (H p).2.2.2.2.2.1, fs_set (H p).2.2.2.2.2.2 (H p).2.2.2.2.1 (nI k, a, o))) := by
  obtain ⟨iS, iT, iP, iB, iL, V, n, Q, gV, gQ, gG⟩ := I
  have e1 := (iS p hp).1 h0
  have inp : hs_in Z.2.2.2.2.2 H (hx_R (H p)) := Or.inl ⟨p, hp, rfl⟩
  have bp := iB _ inp
  have bp1 : (H p).2.2.2.2.2.1 ≤ (H p).2.2.2.2.1 := bp.1
  generalize hR : ((H p).1, (H p).2.1, (H p).2.2.1, (H p).2.2.2.1, (H p).2.2.2.2.1 + 1, (H p).2.2.2.2.2.1, fs_set (H p).2.2.2.2.2.2 (H p).2.2.2.2.1 (nI k, a, o)) = R
  have hne : ∀ c, c ≠ p → fs_set H p R c = H c := fun c hc => fs_ne hc
  have heq : fs_set H p R p = R := fs_eq
  have same : ∀ c, (fs_set H p R c).1 = (H c).1 ∧ (fs_set H p R c).2.1 = (H c).2.1 ∧ (fs_set H p R c).2.2.1 = (H c).2.2.1 ∧ (fs_set H p R c).2.2.2.1 = (H c).2.2.2.1 ∧ (fs_set H p R c).2.2.2.2.2.1 = (H c).2.2.2.2.2.1 ∧ (H c).2.2.2.2.1 ≤ (fs_set H p R c).2.2.2.2.1 := by
    intro c
    by_cases y : c = p
    · rw [y, heq, ← hR]; exact ⟨rfl, rfl, rfl, rfl, rfl, Nat.le_succ _⟩
    · rw [hne c y]; exact ⟨rfl, rfl, rfl, rfl, rfl, Nat.le_refl _⟩
  have hst : ∀ x, hs_in Z.2.2.2.2.2 (fs_set H p R) x → hs_in Z.2.2.2.2.2 H x ∨ x = ((H p).2.2.1, (H p).2.2.2.2.1 + 1, (H p).2.2.2.2.2.1, fs_set (H p).2.2.2.2.2.2 (H p).2.2.2.2.1 (nI k, a, o)) := by
    intro x hx
    rcases hx with ⟨c, hc, rfl⟩ | h
    · by_cases y : c = p
      · rw [y, heq, ← hR]; exact Or.inr rfl
      · rw [hne c y]; exact Or.inl (Or.inl ⟨c, hc, rfl⟩)
    · exact Or.inl (Or.inr h)
  have lg : ∀ i, i < (H p).2.2.2.2.1 → fs_set (H p).2.2.2.2.2.2 (H p).2.2.2.2.1 (nI k, a, o) i = (H p).2.2.2.2.2.2 i := fun i hi => fs_ne (by omega)
  refine ⟨fun c hc => ?_, ⟨fun c hc => ?_, iT.2⟩, fun x y hx hy => ?_, fun x hx => ?_, fun q q5 st vw x hx => ?_, V, n, Q, ⟨gV.1, fun x hx => ?_⟩, fun u hu => ?_, fun c hc qc => ?_⟩
  · obtain ⟨a1, a2, a3, a4, a5⟩ := iS c hc
    obtain ⟨s1, s2, s3, s4, s5, s6⟩ := same c
    rw [iv_s, s1, s2, s3, s4, s5]
    refine ⟨a1, a2, fun z => ?_, a4, a5⟩
    obtain ⟨b1, b2, b3, b4⟩ := a3 z
    refine ⟨b1, b2, ?_, b4⟩
    rw [hne c (fun q => by rw [q] at z; omega)]
    exact b3
  · obtain ⟨a1, a2, a3, a4, a5⟩ := iT.1 c hc
    refine ⟨a1, a2, a3, a4, fun z => ?_⟩
    rw [(same _).1, (same _).2.2.2.1]
    exact a5 z
  · rcases hst x hx with hx' | ex
    · rcases hst y hy with hy' | ey
      · exact iP x y hx' hy'
      · obtain ⟨a1, a2⟩ := iP x _ hx' inp
        have bx := (iB x hx').1
        rw [ey]
        refine ⟨fun z i hi hi2 => ?_, fun z => ?_⟩
        · have l1 : x.2.1 ≤ (H p).2.2.2.2.1 := (iL p hp h0 hv x hx').1 (by have z' : x.1 = (H p).2.2.1 := z; omega)
          show x.2.2.2 i = fs_set (H p).2.2.2.2.2.2 (H p).2.2.2.2.1 (nI k, a, o) i
          rw [lg i (by omega)]
          exact a1 z i hi (by show i < (H p).2.2.2.2.1; omega)
        · obtain ⟨c1, c2⟩ := a2 z
          have c1' : x.2.2.1 ≤ (H p).2.2.2.2.1 := c1
          refine ⟨by show x.2.2.1 ≤ (H p).2.2.2.2.1 + 1; omega, fun i hi => ?_⟩
          show x.2.2.2 i = fs_set (H p).2.2.2.2.2.2 (H p).2.2.2.2.1 (nI k, a, o) i
          rw [lg i (by omega)]
          exact c2 i hi
    · rcases hst y hy with hy' | ey
      · obtain ⟨a1, a2⟩ := iP _ y inp hy'
        rw [ex]
        refine ⟨fun z i hi hi2 => ?_, fun z => ?_⟩
        · have l1 : y.2.1 ≤ (H p).2.2.2.2.1 := (iL p hp h0 hv y hy').1 (by have z' : (H p).2.2.1 = y.1 := z; omega)
          show fs_set (H p).2.2.2.2.2.2 (H p).2.2.2.2.1 (nI k, a, o) i = y.2.2.2 i
          rw [lg i (by omega)]
          exact a1 z i (by show i < (H p).2.2.2.2.1; omega) hi2
        · obtain ⟨c1, c2⟩ := a2 z
          refine ⟨c1, fun i hi => ?_⟩
          have hi' : i < (H p).2.2.2.2.2.1 := hi
          show fs_set (H p).2.2.2.2.2.2 (H p).2.2.2.2.1 (nI k, a, o) i = y.2.2.2 i
          rw [lg i (by omega)]
          exact c2 i hi
      · rw [ex, ey]
        exact ⟨fun _ _ _ _ => rfl, fun z => absurd z (Nat.lt_irrefl _)⟩
  · rcases hst x hx with hx' | ex
    · exact iB x hx'
    · rw [ex]
      refine ⟨by show (H p).2.2.2.2.2.1 ≤ (H p).2.2.2.2.1 + 1; omega, by show (H p).2.2.2.2.1 + 1 ≤ Z.2.1; omega, fun i hi => ?_⟩
      have hi' : i < (H p).2.2.2.2.1 + 1 := hi
      show (∃ k', k' < Z.1 ∧ (fs_set (H p).2.2.2.2.2.2 (H p).2.2.2.2.1 (nI k, a, o) i).1 = nI k') ∧ 1 ≤ (fs_set (H p).2.2.2.2.2.2 (H p).2.2.2.2.1 (nI k, a, o) i).2.1
      by_cases y : i = (H p).2.2.2.2.1
      · rw [y, fs_eq]; exact ⟨⟨k, hk, rfl⟩, ha⟩
      · rw [lg i (by omega)]; exact bp.2.2 i (by show i < (H p).2.2.2.2.1; omega)
  · obtain ⟨s1, s2, s3, s4, s5, s6⟩ := same q
    rw [s1] at st
    rw [s2] at vw
    rcases hst x hx with hx' | ex
    · obtain ⟨l1, l2⟩ := iL q q5 st vw x hx'
      refine ⟨fun z => ?_, fun z => ?_⟩
      · rw [s2] at z
        have := l1 z
        omega
      · rw [s2] at z
        rw [s5]
        exact l2 z
    · rw [ex]
      by_cases y : q = p
      · rw [y, heq, ← hR]
        exact ⟨fun _ => Nat.le_refl _, fun _ => Nat.le_refl _⟩
      · obtain ⟨l1, l2⟩ := iL q q5 st vw _ inp
        rw [hne q y]
        refine ⟨fun z => ?_, fun z => l2 z⟩
        have z' : (H p).2.2.1 = (H q).2.1 := z
        rw [← z', e1] at vw
        exact absurd (vw.symm.trans hv) y
  · rcases hst x hx with hx' | ex
    · exact gV.2 x hx'
    · rw [ex]; exact gV.2 (hx_R (H p)) inp
  · obtain ⟨q1, q2, q3⟩ := gQ u hu
    refine ⟨q1, q2, fun c hc qc => ?_⟩
    rw [(same c).1, (same c).2.2.1, (same c).2.2.2.1]
    exact q3 c hc qc
  · obtain ⟨q1, q2⟩ := gG c hc qc
    obtain ⟨s1, s2, s3, s4, s5, s6⟩ := same c
    rw [s1, s4]
    refine ⟨fun z => ?_, q2⟩
    have := q1 z
    omega
end
section
/-! view changes -/
/-- some active rows leave for view w -/
theorem iv_mv {Z : vg_Z} {H G : Nat → vg_R} (I : iv_I Z H) {w : Nat} (hG : ∀ b, b < 5 → G b = H b ∨ (G b = ga_mv (H b) w ∧ (H b).1 ≤ 1 ∧ (H b).2.2.1 < w)) : iv_I Z G := by
  have same : ∀ b, b < 5 → (G b).2.2.1 = (H b).2.2.1 ∧ (G b).2.2.2.1 = (H b).2.2.2.1 ∧ (G b).2.2.2.2.1 = (H b).2.2.2.2.1 ∧ (G b).2.2.2.2.2.1 = (H b).2.2.2.2.2.1 ∧ (G b).2.2.2.2.2.2 = (H b).2.2.2.2.2.2 ∧ ((G b).1 = (H b).1 ∨ ((G b).1 = 1 ∧ (H b).1 ≤ 1)) := by
    intro b hb
    rcases hG b hb with e | ⟨e, e1, _⟩
    · rw [e]; exact ⟨rfl, rfl, rfl, rfl, rfl, Or.inl rfl⟩
    · rw [e]; exact ⟨rfl, rfl, rfl, rfl, rfl, Or.inr ⟨rfl, e1⟩⟩
  refine iv_step I rfl rfl (fun x hx => ?_) (fun c hc => ?_) ⟨fun c hc => ?_, I.2.1.2⟩ (fun p p5 st vw => ?_) (fun V n Q gV gV' gQ gG => iv_Qk (fun c hc z => ?_) (fun c hc z => ?_) (fun c hc z => ⟨z, rfl⟩) gV' gQ gG)
  · rcases hx with ⟨c, hc, rfl⟩ | ⟨c, hc, s1, s2, rfl⟩
    · obtain ⟨a1, a2, a3, a4, a5, a6⟩ := same c hc
      refine cl_of (Or.inl ⟨c, hc, ?_⟩)
      unfold hx_R
      rw [a1, a3, a4, a5]
    · exact cl_of (Or.inr ⟨c, hc, s1, s2, rfl⟩)
  · rcases hG c hc with e | ⟨e, e1, e2⟩
    · rw [e]; exact I.1 c hc
    · rw [e]
      obtain ⟨a1, a2, a3, a4, a5⟩ := I.1 c hc
      exact ⟨fun z => absurd z (by decide : ¬ (1 : Nat) = 0), fun _ => e2, fun z => absurd z (by decide : ¬ 2 ≤ (1 : Nat)), fun _ => a4 (by omega), a5⟩
  · obtain ⟨a1, a2, a3, a4, a5⟩ := I.2.1.1 c hc
    refine ⟨a1, a2, a3, a4, fun z => ?_⟩
    have := a5 z
    obtain ⟨b1, b2, b3, b4, b5, b6⟩ := same _ a2
    rw [b2]
    refine ⟨?_, this.2⟩
    rcases b6 with y | ⟨_, y⟩
    · rw [y]; exact this.1
    · omega
  · rcases hG p p5 with e | ⟨e, e1, e2⟩
    · rw [e] at st vw ⊢
      exact ⟨st, rfl, Nat.le_refl _, Nat.le_refl _⟩
    · rw [e] at st
      exact absurd st (by decide : ¬ (1 : Nat) = 0)
  · obtain ⟨b1, b2, b3, b4, b5, b6⟩ := same c hc
    refine ⟨?_, by omega, fun _ => by omega⟩
    rcases b6 with y | ⟨_, y⟩ <;> omega
  · obtain ⟨b1, b2, b3, b4, b5, b6⟩ := same c hc
    refine ⟨?_, b2⟩
    rcases b6 with y | ⟨y, _⟩ <;> omega
theorem iv_mls {Z : vg_Z} {H : Nat → vg_R} (I : iv_I Z H) {ce : Nat → Nat} {r w b : Nat} (hr : r < 5) (hb : b < 5) (h1 : (H r).1 = 1) (h2 : (H r).2.1 = w) (hm : vg_mem H ce r w b = true) : (H b).1 ≤ 1 ∧ (H b).2.2.1 < w := by
  rcases vg_mem_iff.mp hm with e | ⟨_, e1, e2⟩
  · rw [e]
    have := (I.1 r hr).2.1 h1
    omega
  · refine ⟨e1, ?_⟩
    have := iv_lsvw I hb e1
    rcases e2 with y | ⟨y, y2⟩
    · omega
    · have := (I.1 b hb).2.1 y
      omega
/-- what the start of a view may rely on -/
theorem iv_svok {Z : vg_Z} {H : Nat → vg_R} (I : iv_I Z H) {J : Nat → Bool} {k c : Nat} (hk : gb_is H J k c) : sv_ok H J k c := by
  obtain ⟨⟨k5, Jk, kb⟩, c1, c2⟩ := hk
  have ink : hs_in Z.2.2.2.2.2 H (hx_R (H k)) := Or.inl ⟨k, k5, rfl⟩
  have bk : (H k).2.2.2.2.2.1 ≤ (H k).2.2.2.2.1 := (I.2.2.2.1 _ ink).1
  have main : ∀ b, b < 5 → J b = true → (H b).2.2.2.2.2.1 ≤ (H k).2.2.2.2.1 ∧ (H b).2.2.2.2.2.1 ≤ (H b).2.2.2.2.1 ∧ ∀ i, i < (H b).2.2.2.2.2.1 → (H b).2.2.2.2.2.2 i = (H k).2.2.2.2.2.2 i := by
    intro b hb jb
    have inb : hs_in Z.2.2.2.2.2 H (hx_R (H b)) := Or.inl ⟨b, hb, rfl⟩
    have bb : (H b).2.2.2.2.2.1 ≤ (H b).2.2.2.2.1 := (I.2.2.2.1 _ inb).1
    by_cases e : b = k
    · rw [e]; exact ⟨bk, bk, fun _ _ => rfl⟩
    · have bt := kb b hb jb e
      unfold vg_bet at bt
      obtain ⟨p1, p2⟩ := I.2.2.1 _ _ inb ink
      by_cases y : (H b).2.2.1 < (H k).2.2.1
      · exact ⟨(p2 y).1, bb, (p2 y).2⟩
      · have e3 : (H b).2.2.1 = (H k).2.2.1 := by omega
        have e4 : (H b).2.2.2.2.1 ≤ (H k).2.2.2.2.1 := by omega
        exact ⟨by omega, bb, fun i hi => p1 e3 i (by show i < (H b).2.2.2.2.1; omega) (by show i < (H k).2.2.2.2.1; omega)⟩
  refine ⟨?_, fun b hb jb => ⟨c1 b hb jb, (main b hb jb).2⟩⟩
  rcases c2 with e | ⟨b, hb, jb, e⟩
  · omega
  · have := (main b hb jb).1
    omega
/-- a view starts -/
theorem iv_gat {Z : vg_Z} {H : Nat → vg_R} (I : iv_I Z H) {J : Nat → Bool} {w k c : Nat} (hJ : 3 ≤ cn_5 J) (Jq : J (w % 5) = true) (hk : gb_is H J k c) (hm : ∀ b, b < 5 → J b = true → (H b).1 ≤ 1 ∧ (H b).2.2.1 < w) :
    iv_I Z (vg_gat H J w k c) := by
  have ok := iv_svok I hk
  have ck := ok.1
  obtain ⟨iS, iT, iP, iB, iL, V, n, Q, gV, gQ, gG⟩ := I
  obtain ⟨⟨k5, Jk, kb⟩, c1, c2⟩ := hk
  have q5 : w % 5 < 5 := Nat.mod_lt _ (by decide)
  have ink : hs_in Z.2.2.2.2.2 H (hx_R (H k)) := Or.inl ⟨k, k5, rfl⟩
  have bk := iB _ ink
  -- the quorums meet
  obtain ⟨qV1, qV2, qV3⟩ := gQ V gV.1.2
  obtain ⟨b, b5, jb, qb⟩ := qu_meet hJ qV2
  obtain ⟨m1, m2⟩ := hm b b5 jb
  have v1 := (qV3 b b5 qb).1 m1
  have v2 := (gG b b5 qb).1 m1
  have v3 : (H k).2.2.1 ≤ V := (gV.2 _ ink).1
  have lk : (H k).2.2.1 = V ∧ n ≤ (H k).2.2.2.2.1 := by
    by_cases e : b = k
    · rw [← e]; exact ⟨by rw [← e] at v3; omega, v2⟩
    · have bt := kb b b5 jb e
      unfold vg_bet at bt
      omega
  have vw : V < w := by omega
  have hY : ∀ e, J e = true → vg_gat H J w k c e = (0, w, w, (H e).2.2.2.1, (H k).2.2.2.2.1, (if e = w % 5 then (H k).2.2.2.2.1 else c), (H k).2.2.2.2.2.2) := fun e y => if_pos y
  have hN : ∀ e, J e = false → vg_gat H J w k c e = H e := fun e y => if_neg (by rw [y]; exact Bool.false_ne_true)
  have cs : ∀ e, J e = true ∨ J e = false := fun e => by cases J e <;> simp
  -- a host is an old one or a new one
  have hst : ∀ x, hs_in Z.2.2.2.2.2 (vg_gat H J w k c) x → hs_in Z.2.2.2.2.2 H x ∨ (x.1 = w ∧ x.2.1 = (H k).2.2.2.2.1 ∧ x.2.2.2 = (H k).2.2.2.2.2.2 ∧ x.2.2.1 ≤ (H k).2.2.2.2.1) := by
    intro x hx
    rcases hx with ⟨e, he, rfl⟩ | h
    · rcases cs e with y | y
      · rw [hY e y]
        refine Or.inr ⟨rfl, rfl, rfl, ?_⟩
        show (if e = w % 5 then (H k).2.2.2.2.1 else c) ≤ (H k).2.2.2.2.1
        split <;> omega
      · rw [hN e y]; exact Or.inl (Or.inl ⟨e, he, rfl⟩)
    · exact Or.inl (Or.inr h)
  have old : ∀ x, hs_in Z.2.2.2.2.2 H x → x.2.2.1 ≤ (H k).2.2.2.2.1 ∧ ∀ i, i < x.2.2.1 → x.2.2.2 i = (H k).2.2.2.2.2.2 i := by
    intro x hx
    obtain ⟨a1, a2, a3⟩ := gV.2 x hx
    obtain ⟨p1, p2⟩ := iP x _ hx ink
    have bx := (iB x hx).1
    by_cases y : x.1 < V
    · exact p2 (by show x.1 < (H k).2.2.1; omega)
    · exact ⟨by omega, fun i hi => p1 (by show x.1 = (H k).2.2.1; omega) i (by omega) (by show i < (H k).2.2.2.2.1; omega)⟩
  have nE : ∀ u, Q u (u % 5) = true → u ≠ w := fun u hu e => by have := (gQ u hu).1; omega
  refine ⟨fun e he => ?_, ⟨fun e he => ?_, iT.2⟩, fun x y hx hy => ?_, fun x hx => ?_, fun p p5 st pv x hx => ?_, w, (H k).2.2.2.2.1, fs_set Q w J, ⟨⟨?_, ?_⟩, fun x hx => ?_⟩, fun u hu => ?_, fun e he qe => ?_⟩
  · rcases cs e with y | y
    · rw [hY e y]
      obtain ⟨a1, a2, a3, a4, a5⟩ := iS e he
      have := (hm e he y).1
      exact ⟨fun _ => rfl, fun z => absurd z (by decide : ¬ (0 : Nat) = 1), fun z => absurd z (by decide : ¬ 2 ≤ (0 : Nat)), fun _ => a4 (by omega), a5⟩
    · rw [hN e y]; exact iS e he
  · obtain ⟨a1, a2, a3, a4, a5⟩ := iT.1 e he
    refine ⟨a1, a2, a3, a4, fun z => ?_⟩
    have := a5 z
    rcases cs (Z.2.2.2.2.2 e).2.2.1 with y | y
    · have := (hm _ a2 y).1
      omega
    · rw [hN _ y]; exact this
  · rcases hst x hx with hx' | ⟨x1, x2, x3, x4⟩
    · rcases hst y hy with hy' | ⟨y1, y2, y3, y4⟩
      · exact iP x y hx' hy'
      · have a1 := (gV.2 x hx').1
        rw [iv_pr, y1, y2, y3]
        exact ⟨fun z => absurd z (by omega), fun _ => old x hx'⟩
    · rcases hst y hy with hy' | ⟨y1, y2, y3, y4⟩
      · have a1 := (gV.2 y hy').1
        rw [iv_pr, x1]
        exact ⟨fun z => absurd z (by omega), fun z => absurd z (by omega)⟩
      · rw [iv_pr, x1, x3, y1, y3]
        exact ⟨fun _ _ _ _ => rfl, fun z => absurd z (Nat.lt_irrefl _)⟩
  · rcases hst x hx with hx' | ⟨x1, x2, x3, x4⟩
    · exact iB x hx'
    · rw [iv_b, x2, x3]
      exact ⟨x4, bk.2⟩
  · rcases cs p with y | y
    · rw [hY p y] at st pv ⊢
      have pw : w % 5 = p := pv
      have e1 : (if p = w % 5 then (H k).2.2.2.2.1 else c) = (H k).2.2.2.2.1 := if_pos pw.symm
      rw [e1]
      rcases hst x hx with hx' | ⟨x1, x2, x3, x4⟩
      · have a1 := (gV.2 x hx').1
        exact ⟨fun z => absurd (show x.1 = w from z) (by omega), fun _ => (old x hx').1⟩
      · exact ⟨fun _ => by show x.2.1 ≤ (H k).2.2.2.2.1; omega, fun _ => x4⟩
    · rw [hN p y] at st pv ⊢
      rcases hst x hx with hx' | ⟨x1, x2, x3, x4⟩
      · exact iL p p5 st pv x hx'
      · have e2 := (iS p p5).1 st
        have e3 : (H p).2.2.1 ≤ V := (gV.2 _ (Or.inl ⟨p, p5, rfl⟩)).1
        exact ⟨fun z => absurd z (by omega), fun z => absurd z (by omega)⟩
  · rw [fs_ne (by omega)]; exact gV.1.1
  · rw [fs_eq]; exact Jq
  · rcases hst x hx with hx' | ⟨x1, x2, x3, x4⟩
    · obtain ⟨a1, a2, a3⟩ := gV.2 x hx'
      refine ⟨by omega, (old x hx').1, ?_⟩
      rw [fs_ne (nE _ a3)]; exact a3
    · refine ⟨by omega, x4, ?_⟩
      rw [x1, fs_eq]; exact Jq
  · by_cases y : u = w
    · subst y
      rw [fs_eq] at hu ⊢
      refine ⟨Nat.le_refl _, hJ, fun e he je => ?_⟩
      rw [hY e je]
      exact ⟨fun _ => Nat.le_refl _, fun z => absurd z (by decide : ¬ (0 : Nat) = 2)⟩
    · rw [fs_ne y] at hu ⊢
      obtain ⟨q1, q2, q3⟩ := gQ u hu
      refine ⟨by omega, q2, fun e he qe => ?_⟩
      rcases cs e with y2 | y2
      · rw [hY e y2]
        exact ⟨fun _ => by show u ≤ w; omega, fun z => absurd z (by decide : ¬ (0 : Nat) = 2)⟩
      · rw [hN e y2]; exact q3 e he qe
  · rw [fs_eq] at qe
    rw [hY e qe]
    exact ⟨fun _ => Nat.le_refl _, fun z => absurd z (by decide : ¬ (0 : Nat) = 2)⟩
/-! the beginning -/
theorem iv_0 {Z : vg_Z} {H : Nat → vg_R} (hH : ∀ b, H b = (0, 0, 0, 0, 0, 0, (H b).2.2.2.2.2.2)) (hT : ∀ s, (Z.2.2.2.2.2 s).1 = 0 ∧ (Z.2.2.2.2.2 s).2.2.2.1 = 0 ∧ (Z.2.2.2.2.2 s).2.2.1 = 0 ∧ (Z.2.2.2.2.2 s).2.1 = 0) : iv_I Z H := by
  have f : ∀ b, (H b).1 = 0 ∧ (H b).2.1 = 0 ∧ (H b).2.2.1 = 0 ∧ (H b).2.2.2.1 = 0 ∧ (H b).2.2.2.2.1 = 0 ∧ (H b).2.2.2.2.2.1 = 0 := by
    intro b
    rw [hH b]
    exact ⟨rfl, rfl, rfl, rfl, rfl, rfl⟩
  have hst : ∀ x, hs_in Z.2.2.2.2.2 H x → x.1 = 0 ∧ x.2.1 = 0 ∧ x.2.2.1 = 0 := by
    intro x hx
    rcases hx with ⟨b, hb, rfl⟩ | ⟨s, hs, s1, _⟩
    · exact ⟨(f b).2.2.1, (f b).2.2.2.2.1, (f b).2.2.2.2.2⟩
    · exact absurd (hT s).1 s1
  refine ⟨fun b hb => ?_, ⟨fun s hs => ?_, fun s s' hs hs' hne z => ?_⟩, fun x y hx hy => ?_, fun x hx => ?_, fun p hp st vw x hx => ?_, 0, 0, fun u _ => decide (u = 0), ⟨⟨rfl, rfl⟩, fun x hx => ?_⟩, fun u hu => ?_, fun b hb _ => ?_⟩
  · obtain ⟨a1, a2, a3, a4, a5, a6⟩ := f b
    exact ⟨fun _ => by omega, fun z => absurd z (by omega), fun z => absurd z (by omega), fun _ => a4, by omega⟩
  · obtain ⟨a1, a2, a3, a4⟩ := hT s
    exact ⟨by omega, by omega, by omega, fun z => absurd a1 z, fun z => absurd z (by omega)⟩
  · have := (hT s).1
    omega
  · obtain ⟨a1, a2, a3⟩ := hst x hx
    obtain ⟨b1, b2, b3⟩ := hst y hy
    exact ⟨fun _ i hi => absurd hi (by omega), fun z => absurd z (by omega)⟩
  · obtain ⟨a1, a2, a3⟩ := hst x hx
    exact ⟨by omega, by omega, fun i hi => absurd hi (by omega)⟩
  · obtain ⟨a1, a2, a3⟩ := hst x hx
    exact ⟨fun _ => by omega, fun _ => by omega⟩
  · obtain ⟨a1, a2, a3⟩ := hst x hx
    exact ⟨by omega, by omega, decide_eq_true a1⟩
  · have u0 : u = 0 := of_decide_eq_true hu
    subst u0
    refine ⟨Nat.le_refl _, (by decide : 3 ≤ cn_5 (fun _ => decide ((0 : Nat) = 0))), fun b hb _ => ?_⟩
    obtain ⟨a1, a2, a3, a4, a5, a6⟩ := f b
    exact ⟨fun _ => by omega, fun z => absurd z (by omega)⟩
  · obtain ⟨a1, a2, a3, a4, a5, a6⟩ := f b
    exact ⟨fun _ => by omega, fun z => absurd z (by omega)⟩
end
section
/-! THE RELATION -/
/-- both show one abstract state that keeps the invariant -/
def i_Rel (k : Nat) (u : SX) (v : SY) : Prop := ∃ Z H Q B M, iv_I Z H ∧ sx_R Z H 0 0 Q B u ∧ sy_R Z H M v
theorem i_up {k : Nat} {u : SX} {v : SY} (h : i_Rel k u v) : i_Rel (k + 5) u v := h
def vg_clp (x lo hi : Int32) : Int32 := if lo ≤ x then (if x ≤ hi then x else hi) else lo
theorem vg_clpN (x : Int32) {lo hi : Nat} (h : lo ≤ hi) (hh : hi < 2000) : ∃ n, lo ≤ n ∧ n ≤ hi ∧ vg_clp x (nI lo) (nI hi) = nI n := by
  unfold vg_clp
  by_cases z : nI lo ≤ x
  · rw [if_pos z]
    by_cases z2 : x ≤ nI hi
    · rw [if_pos z2]
      have nx : ¬ x < 0 := by
        rw [Int32.le_iff_toInt_le, nI_toInt (by omega)] at z
        rw [Int32.lt_iff_toInt_lt, show (0 : Int32).toInt = 0 from by decide]
        omega
      obtain ⟨j, hj, rfl⟩ := nI_of nx
      exact ⟨j, (nI_leI (by omega) hj).mp z, (nI_leI hj (by omega)).mp z2, rfl⟩
    · rw [if_neg z2]; exact ⟨hi, h, Nat.le_refl _, rfl⟩
  · rw [if_neg z]; exact ⟨lo, Nat.le_refl _, h, rfl⟩
theorem xm_clp {post : Int32 → Prop} (u : SX) (x lo hi : Int32) (h : post (vg_clp x lo hi)) : wpX_clamp post u x lo hi := by
  revert h
  refine sx_cs (P := fun u => post (vg_clp x lo hi) → wpX_clamp post u x lo hi) ?_ u
  intro f_PREPARE f_PREPARE_OK f_GET_STATE f_NEW_STATE f_START_VIEW_CHANGE f_DO_VIEW_CHANGE f_GET_LOG f_NEW_LOG f_START_VIEW f_clients f_capacity f_letters f_restarts f_mailHead f_mailTail f_acks f_votes f_bestVoter f_bestLast f_bestLength f_bestCommit a_status a_view a_last a_nonce a_cell a_length a_commit a_logClient a_logNumber a_logOp a_registers a_tableNumber a_tableResult a_mailKind a_mailFrom a_mailTo a_mailView a_mailLast a_mailCommit a_mailLength a_mailBase a_mailCount a_mailClient a_mailNumber a_mailOp a_voted a_voteCommit a_slotState a_slotFrom a_slotTo a_slotNonce a_slotView a_slotLeader a_slotLength a_slotCommit a_slotClient a_slotNumber a_slotOp h
  unfold vg_clp at h
  refine br_c (fun z => br_c (fun z2 => ?_) (fun z2 => ?_)) (fun z => ?_)
  · rw [if_pos z, if_pos z2] at h; exact h
  · rw [if_pos z, if_neg z2] at h; exact h
  · rw [if_neg z] at h; exact h
theorem ym_clp {post : Int32 → Prop} (u : SY) (x lo hi : Int32) (h : post (vg_clp x lo hi)) : wpY_clamp post u x lo hi := by
  revert h
  refine sy_cs (P := fun u => post (vg_clp x lo hi) → wpY_clamp post u x lo hi) ?_ u
  intro f_clients f_capacity f_slots f_restarts a_status a_last a_cell a_view a_nonce a_length a_commit a_log a_state a_from a_to a_leader a_member h
  unfold vg_clp at h
  refine br_c (fun z => br_c (fun z2 => ?_) (fun z2 => ?_)) (fun z => ?_)
  · rw [if_pos z, if_pos z2] at h; exact h
  · rw [if_pos z, if_neg z2] at h; exact h
  · rw [if_neg z] at h; exact h
theorem i_vc0 (k0 : Int32) (k1 : Int32) (k2 : Int32) : wpX_init (fun u => wpY_init (fun v => i_Rel 3 u v) k0 k1 k2) k0 k1 k2 := by
  obtain ⟨n1, a1, b1, e1⟩ := vg_clpN k0 (lo := 1) (hi := 4) (by decide) (by decide)
  obtain ⟨n2, a2, b2, e2⟩ := vg_clpN k1 (lo := 4) (hi := 32) (by decide) (by decide)
  obtain ⟨n3, a3, b3, e3⟩ := vg_clpN k2 (lo := 4) (hi := 8) (by decide) (by decide)
  unfold wpX_init
  refine xm_clp _ k0 1 4 (xm_clp _ k1 4 32 (xm_clp _ k2 4 8 ?_))
  unfold wpY_init
  refine ym_clp _ k0 1 4 (ym_clp _ k1 4 32 (ym_clp _ k2 4 8 ?_))
  have e1' : vg_clp k0 1 4 = nI n1 := e1
  have e2' : vg_clp k1 4 32 = nI n2 := e2
  have e3' : vg_clp k2 4 8 = nI n3 := e3
  rw [e1', e2', e3']
  have okR : rr_ok ((0, 0, 0, 0, 0, 0, fun _ => (0, 0, 0)) : vg_R) := ⟨by decide, fun i hi => absurd hi (Nat.not_lt_zero i)⟩
  have okL : rt_ok ((0, 0, 0, 0, 0, 0, 0, 0, fun _ => (0, 0, 0)) : vg_L) := ⟨by decide, fun i hi => absurd hi (Nat.not_lt_zero i)⟩
  have okZ : rz_ok ((n1, n2, n3, 0, fun _ => 0, fun _ => (0, 0, 0, 0, 0, 0, 0, 0, fun _ => (0, 0, 0))) : vg_Z) := ⟨a1, b1, a2, b2, a3, b3, Nat.zero_le _⟩
  refine ⟨(n1, n2, n3, 0, fun _ => 0, fun _ => (0, 0, 0, 0, 0, 0, 0, 0, fun _ => (0, 0, 0))), fun _ => (0, 0, 0, 0, 0, 0, fun _ => (0, 0, 0)), fun _ => (0, 0, 0, 0, (0, 0, 0, 0, 0, 0, fun _ => (0, 0, 0))), (0, 0, 0, 0, 0, 0, fun _ => 0, fun _ => 0), fun _ => 0, iv_0 (fun _ => rfl) (fun _ => ⟨rfl, rfl, rfl, rfl⟩), ?_, ?_⟩
  · refine sx_mk ⟨⟨rfl, rfl, rfl, rfl⟩, okZ, fun b hb => ⟨Nat.zero_le _, rfl⟩, fun s hs => ⟨okL, ⟨rfl, rfl, rfl, rfl, rfl, rfl, rfl, rfl⟩, fun i hi => absurd hi (Nat.not_lt_zero i)⟩⟩ (fun b hb => ⟨okR, ⟨rfl, rfl, rfl, rfl, rfl, rfl⟩, fun i hi => absurd hi (Nat.not_lt_zero i), fun i hi => ⟨rfl, rfl, rfl⟩⟩) ⟨⟨rfl, rfl, Nat.le_refl _, by decide⟩, fun m hm => absurd hm (Nat.not_lt_zero m)⟩ ⟨rfl, rfl, rfl, rfl, rfl, rfl, rfl, rfl⟩
  · refine sy_mk ⟨⟨rfl, rfl, rfl, rfl⟩, okZ, fun b hb => ⟨Nat.zero_le _, rfl⟩⟩ (fun b hb => ⟨okR, ⟨rfl, rfl, rfl, rfl, rfl, rfl⟩, fun i hi => absurd hi (Nat.not_lt_zero i)⟩) (fun s hs => ⟨okL, ⟨rfl, rfl, rfl, rfl, rfl, rfl, rfl, rfl⟩, fun i hi => absurd hi (Nat.not_lt_zero i)⟩) rfl
theorem ix_ne {x : Int32} {n : Nat} (h : x < 0 ∨ nI n ≤ x) (j : Nat) (hj : j < n) (hn : n < 2000) : ¬ x = nI j := by
  intro e
  rw [e] at h
  rcases h with h | h
  · exact nI_pos (by omega) h
  · exact nI_ge hj (by omega) h
theorem ix_spl (x : Int32) (n : Nat) (hn : n < 2000) : (x < 0 ∨ nI n ≤ x) ∨ ∃ j : Nat, j < n ∧ x = nI j := by
  rcases pk_ix x (n := n) (by omega) with h | h | h
  · exact Or.inl (Or.inl h)
  · exact Or.inl (Or.inr h)
  · exact Or.inr h
theorem i_vc_place {k : Nat} {u : SX} {v : SY} (I : i_Rel k u v) (hk : k + 5 ≤ 2563) (v1 : Int32) (v2 : Int32) : wpX_place (fun r u' => wpY_place (fun r' v' => r' = r ∧ i_Rel (k + 5) u' v') v v1 v2) u v1 v2 := by
  obtain ⟨Z, H, Q, B, M, I, hu, hv⟩ := I
  obtain ⟨f_PREPARE, f_PREPARE_OK, f_GET_STATE, f_NEW_STATE, f_START_VIEW_CHANGE, f_DO_VIEW_CHANGE, f_GET_LOG, f_NEW_LOG, f_START_VIEW, f_clients, f_capacity, f_letters, f_restarts, f_mailHead, f_mailTail, f_acks, f_votes, f_bestVoter, f_bestLast, f_bestLength, f_bestCommit, a_status, a_view, a_last, a_nonce, a_cell, a_length, a_commit, a_logClient, a_logNumber, a_logOp, a_registers, a_tableNumber, a_tableResult, a_mailKind, a_mailFrom, a_mailTo, a_mailView, a_mailLast, a_mailCommit, a_mailLength, a_mailBase, a_mailCount, a_mailClient, a_mailNumber, a_mailOp, a_voted, a_voteCommit, a_slotState, a_slotFrom, a_slotTo, a_slotNonce, a_slotView, a_slotLeader, a_slotLength, a_slotCommit, a_slotClient, a_slotNumber, a_slotOp⟩ := u
  obtain ⟨hZ, hR, hM, hB⟩ := hu
  have hx := sx_mk hZ hR hM hB (f_PREPARE := f_PREPARE) (f_PREPARE_OK := f_PREPARE_OK) (f_GET_STATE := f_GET_STATE) (f_NEW_STATE := f_NEW_STATE) (f_START_VIEW_CHANGE := f_START_VIEW_CHANGE) (f_DO_VIEW_CHANGE := f_DO_VIEW_CHANGE) (f_GET_LOG := f_GET_LOG) (f_NEW_LOG := f_NEW_LOG) (f_START_VIEW := f_START_VIEW)
  obtain ⟨f_clients_y, f_capacity_y, f_slots_y, f_restarts_y, a_status_y, a_last_y, a_cell_y, a_view_y, a_nonce_y, a_length_y, a_commit_y, a_log_y, a_state_y, a_from_y, a_to_y, a_leader_y, a_member_y⟩ := v
  obtain ⟨kZ, kR, kT, km⟩ := hv
  have hy := sy_mk kZ kR kT km
  have zk := hZ.2.1
  unfold rz_ok at zk
  unfold wpX_place
  rcases ix_spl v1 5 (by decide) with h1 | ⟨b, hb, rfl⟩
  · refine xm_rep_f h1 (br_t rfl ?_)
    unfold wpY_place
    refine ym_no (y := 5) h1 (br_f (by decide) ?_)
    exact ⟨rfl, Z, H, Q, B, M, I, hx, hy⟩
  · refine xm_rep_t hb (br_f (by decide) ?_)
    have g1 : ∀ post : Int32 → Prop, post 0 → wpY_outside post (f_clients_y, f_capacity_y, f_slots_y, f_restarts_y, a_status_y, a_last_y, a_cell_y, a_view_y, a_nonce_y, a_length_y, a_commit_y, a_log_y, a_state_y, a_from_y, a_to_y, a_leader_y, a_member_y) (nI b) 5 := fun post h => ym_in hb (by decide) h
    rcases ix_spl v2 5 (by decide) with h2 | ⟨c, hc, rfl⟩
    · have bad : wpY_place (fun r' v' => r' = -1 ∧ i_Rel (k + 5) (f_PREPARE, f_PREPARE_OK, f_GET_STATE, f_NEW_STATE, f_START_VIEW_CHANGE, f_DO_VIEW_CHANGE, f_GET_LOG, f_NEW_LOG, f_START_VIEW, f_clients, f_capacity, f_letters, f_restarts, f_mailHead, f_mailTail, f_acks, f_votes, f_bestVoter, f_bestLast, f_bestLength, f_bestCommit, a_status, a_view, a_last, a_nonce, a_cell, a_length, a_commit, a_logClient, a_logNumber, a_logOp, a_registers, a_tableNumber, a_tableResult, a_mailKind, a_mailFrom, a_mailTo, a_mailView, a_mailLast, a_mailCommit, a_mailLength, a_mailBase, a_mailCount, a_mailClient, a_mailNumber, a_mailOp, a_voted, a_voteCommit, a_slotState, a_slotFrom, a_slotTo, a_slotNonce, a_slotView, a_slotLeader, a_slotLength, a_slotCommit, a_slotClient, a_slotNumber, a_slotOp) v') (f_clients_y, f_capacity_y, f_slots_y, f_restarts_y, a_status_y, a_last_y, a_cell_y, a_view_y, a_nonce_y, a_length_y, a_commit_y, a_log_y, a_state_y, a_from_y, a_to_y, a_leader_y, a_member_y) (nI b) v2 := by
        unfold wpY_place
        refine g1 _ (br_t rfl (ym_no (y := 5) h2 (br_f (by decide) ?_)))
        exact ⟨rfl, Z, H, Q, B, M, I, hx, hy⟩
      refine br_c (fun z => bad) (fun z => br_c (fun z2 => ?_) (fun z2 => bad))
      rcases h2 with y | y
      · exact absurd y z
      · have y2 : nI 5 ≤ nI 4 := Int32.le_trans y z2
        exact absurd y2 (by decide)
    · refine br_f (nI_pos (by omega)) (br_t (nI_le (b := 4) (by omega) (by decide)) ⟨ix_5 hb, nm_e ?_⟩)
      unfold wpY_place
      refine g1 _ (br_t rfl (ym_in (c := 5) hc (by decide) (br_t rfl ⟨ix_5 hb, nm_e ?_⟩)))
      rw [ix_c (by omega)]
      have cc : ∀ aC : Nat → Int32, rz_C Z.2.2.2.2.1 aC → rz_C (fs_set Z.2.2.2.2.1 b c) (upd aC b (nI c)) := by
        intro aC h e he
        by_cases y : e = b
        · rw [y, fs_eq, pk_us]; exact ⟨by omega, rfl⟩
        · rw [fs_ne y, pk_un y]; exact h e he
      exact ⟨rfl, (Z.1, Z.2.1, Z.2.2.1, Z.2.2.2.1, fs_set Z.2.2.2.2.1 b c, Z.2.2.2.2.2), H, Q, B, M, I, sx_mk ⟨hZ.1, hZ.2.1, cc _ hZ.2.2.1, hZ.2.2.2⟩ hR hM hB, sy_mk ⟨kZ.1, kZ.2.1, cc _ kZ.2.2⟩ kR kT km⟩
end
section
/-! the calls that only read -/
theorem ym_ine {post : Int32 → Prop} {u : SY} {j c : Nat} {y : Int32} (ey : y = nI c) (hj : j < c) (hc : c < 2000) (h : post 0) : wpY_outside post u (nI j) y := by
  rw [ey]
  exact ym_in hj hc h
theorem i_vc_replica {k : Nat} {u : SX} {v : SY} (I : i_Rel k u v) (hk : k + 5 ≤ 2563) (v1 : Int32) (v2 : Int32) : wpX_replica (fun r => wpY_replica (fun r' => r' = r ∧ i_Rel (k + 5) u v) v v1 v2) u v1 v2 := by
  obtain ⟨Z, H, Q, B, M, I, hu, hv⟩ := I
  obtain ⟨f_PREPARE, f_PREPARE_OK, f_GET_STATE, f_NEW_STATE, f_START_VIEW_CHANGE, f_DO_VIEW_CHANGE, f_GET_LOG, f_NEW_LOG, f_START_VIEW, f_clients, f_capacity, f_letters, f_restarts, f_mailHead, f_mailTail, f_acks, f_votes, f_bestVoter, f_bestLast, f_bestLength, f_bestCommit, a_status, a_view, a_last, a_nonce, a_cell, a_length, a_commit, a_logClient, a_logNumber, a_logOp, a_registers, a_tableNumber, a_tableResult, a_mailKind, a_mailFrom, a_mailTo, a_mailView, a_mailLast, a_mailCommit, a_mailLength, a_mailBase, a_mailCount, a_mailClient, a_mailNumber, a_mailOp, a_voted, a_voteCommit, a_slotState, a_slotFrom, a_slotTo, a_slotNonce, a_slotView, a_slotLeader, a_slotLength, a_slotCommit, a_slotClient, a_slotNumber, a_slotOp⟩ := u
  obtain ⟨hZ, hR, hM, hB⟩ := hu
  have hx := sx_mk hZ hR hM hB (f_PREPARE := f_PREPARE) (f_PREPARE_OK := f_PREPARE_OK) (f_GET_STATE := f_GET_STATE) (f_NEW_STATE := f_NEW_STATE) (f_START_VIEW_CHANGE := f_START_VIEW_CHANGE) (f_DO_VIEW_CHANGE := f_DO_VIEW_CHANGE) (f_GET_LOG := f_GET_LOG) (f_NEW_LOG := f_NEW_LOG) (f_START_VIEW := f_START_VIEW)
  obtain ⟨f_clients_y, f_capacity_y, f_slots_y, f_restarts_y, a_status_y, a_last_y, a_cell_y, a_view_y, a_nonce_y, a_length_y, a_commit_y, a_log_y, a_state_y, a_from_y, a_to_y, a_leader_y, a_member_y⟩ := v
  obtain ⟨kZ, kR, kT, km⟩ := hv
  have hy := sy_mk kZ kR kT km
  have zk := hZ.2.1
  unfold rz_ok at zk
  have R : i_Rel (k + 5) (f_PREPARE, f_PREPARE_OK, f_GET_STATE, f_NEW_STATE, f_START_VIEW_CHANGE, f_DO_VIEW_CHANGE, f_GET_LOG, f_NEW_LOG, f_START_VIEW, f_clients, f_capacity, f_letters, f_restarts, f_mailHead, f_mailTail, f_acks, f_votes, f_bestVoter, f_bestLast, f_bestLength, f_bestCommit, a_status, a_view, a_last, a_nonce, a_cell, a_length, a_commit, a_logClient, a_logNumber, a_logOp, a_registers, a_tableNumber, a_tableResult, a_mailKind, a_mailFrom, a_mailTo, a_mailView, a_mailLast, a_mailCommit, a_mailLength, a_mailBase, a_mailCount, a_mailClient, a_mailNumber, a_mailOp, a_voted, a_voteCommit, a_slotState, a_slotFrom, a_slotTo, a_slotNonce, a_slotView, a_slotLeader, a_slotLength, a_slotCommit, a_slotClient, a_slotNumber, a_slotOp) (f_clients_y, f_capacity_y, f_slots_y, f_restarts_y, a_status_y, a_last_y, a_cell_y, a_view_y, a_nonce_y, a_length_y, a_commit_y, a_log_y, a_state_y, a_from_y, a_to_y, a_leader_y, a_member_y) := ⟨Z, H, Q, B, M, I, hx, hy⟩
  generalize i_Rel (k + 5) (f_PREPARE, f_PREPARE_OK, f_GET_STATE, f_NEW_STATE, f_START_VIEW_CHANGE, f_DO_VIEW_CHANGE, f_GET_LOG, f_NEW_LOG, f_START_VIEW, f_clients, f_capacity, f_letters, f_restarts, f_mailHead, f_mailTail, f_acks, f_votes, f_bestVoter, f_bestLast, f_bestLength, f_bestCommit, a_status, a_view, a_last, a_nonce, a_cell, a_length, a_commit, a_logClient, a_logNumber, a_logOp, a_registers, a_tableNumber, a_tableResult, a_mailKind, a_mailFrom, a_mailTo, a_mailView, a_mailLast, a_mailCommit, a_mailLength, a_mailBase, a_mailCount, a_mailClient, a_mailNumber, a_mailOp, a_voted, a_voteCommit, a_slotState, a_slotFrom, a_slotTo, a_slotNonce, a_slotView, a_slotLeader, a_slotLength, a_slotCommit, a_slotClient, a_slotNumber, a_slotOp) (f_clients_y, f_capacity_y, f_slots_y, f_restarts_y, a_status_y, a_last_y, a_cell_y, a_view_y, a_nonce_y, a_length_y, a_commit_y, a_log_y, a_state_y, a_from_y, a_to_y, a_leader_y, a_member_y) = P at R ⊢
  unfold wpX_replica
  rcases ix_spl v1 5 (by decide) with h1 | ⟨b, hb, rfl⟩
  · refine xm_rep_f h1 (br_t rfl ?_)
    unfold wpY_replica
    exact ym_no (y := 5) h1 (br_f (by decide) ⟨rfl, R⟩)
  · refine xm_rep_t hb (br_f (by decide) ?_)
    have i5 := ix_5 hb
    have i13 := ix_13 (by omega : b < 13)
    obtain ⟨_, ⟨s1, s2, s3, s4, s5, s6⟩, _⟩ := hR b hb
    obtain ⟨_, ⟨t1, t2, t3, t4, t5, t6⟩, _⟩ := kR b hb
    obtain ⟨_, c1⟩ := hZ.2.2.1 b hb
    obtain ⟨_, c2⟩ := kZ.2.2 b hb
    have go : ∀ (r : Int32) (j : Nat), j < 7 → (∀ post : Int32 → Prop, post r → ((2 < nI j → ((4 < nI j → ((nI j = 5 → (vp_in (nI b) 13 ∧ post (a_length_y (nI b).toNatClampNeg))) ∧ (¬ nI j = 5 → (vp_in (nI b) 13 ∧ post (a_commit_y (nI b).toNatClampNeg))))) ∧ (¬ 4 < nI j → ((nI j = 3 → (vp_in (nI b) 13 ∧ post (a_nonce_y (nI b).toNatClampNeg))) ∧ (¬ nI j = 3 → (vp_in (nI b) 5 ∧ post (a_cell_y (nI b).toNatClampNeg))))))) ∧ (¬ 2 < nI j → ((nI j = 0 → (vp_in (nI b) 5 ∧ post (a_status_y (nI b).toNatClampNeg))) ∧ (¬ nI j = 0 → ((nI j = 1 → (vp_in (nI b) 13 ∧ post (a_view_y (nI b).toNatClampNeg))) ∧ (¬ nI j = 1 → (vp_in (nI b) 5 ∧ post (a_last_y (nI b).toNatClampNeg))))))))) →
        wpY_replica (fun r' => r' = r ∧ P) (f_clients_y, f_capacity_y, f_slots_y, f_restarts_y, a_status_y, a_last_y, a_cell_y, a_view_y, a_nonce_y, a_length_y, a_commit_y, a_log_y, a_state_y, a_from_y, a_to_y, a_leader_y, a_member_y) (nI b) (nI j) := by
      intro r j hj h
      unfold wpY_replica
      refine ym_in (c := 5) hb (by decide) (br_t rfl (ym_in (c := 7) hj (by decide) (br_t rfl ?_)))
      exact h (fun r' => r' = r ∧ P) ⟨rfl, R⟩
    rcases ix_spl v2 7 (by decide) with h2 | ⟨j, hj, rfl⟩
    · refine br_f (ix_ne h2 0 (by decide) (by decide)) (br_f (ix_ne h2 1 (by decide) (by decide)) (br_f (ix_ne h2 2 (by decide) (by decide)) (br_f (ix_ne h2 3 (by decide) (by decide)) (br_f (ix_ne h2 4 (by decide) (by decide)) (br_f (ix_ne h2 5 (by decide) (by decide)) (br_f (ix_ne h2 6 (by decide) (by decide)) ?_))))))
      unfold wpY_replica
      exact ym_in (c := 5) hb (by decide) (br_t rfl (ym_no (y := 7) h2 (br_f (by decide) ⟨rfl, R⟩)))
    · have hj' : j = 0 ∨ j = 1 ∨ j = 2 ∨ j = 3 ∨ j = 4 ∨ j = 5 ∨ j = 6 := by omega
      rcases hj' with rfl | rfl | rfl | rfl | rfl | rfl | rfl
      · refine br_t rfl ⟨i5, go _ 0 (by decide) (fun post h => br_f (by decide) (br_t rfl ⟨i5, ?_⟩))⟩
        rw [ix_rd (by omega) t1, ← s1, ← ix_c (by omega : b < 2000)]
        rw [ix_c (by omega)] at h ⊢
        exact h
      · refine br_f (by decide) (br_t rfl ⟨i5, go _ 1 (by decide) (fun post h => br_f (by decide) (br_f (by decide) (br_t rfl ⟨i13, ?_⟩)))⟩)
        rw [ix_c (by omega)] at h ⊢
        rw [t2, ← s2]
        exact h
      · refine br_f (by decide) (br_f (by decide) (br_t rfl ⟨i5, go _ 2 (by decide) (fun post h => br_f (by decide) (br_f (by decide) (br_f (by decide) ⟨i5, ?_⟩)))⟩))
        rw [ix_c (by omega)] at h ⊢
        rw [t3, ← s3]
        exact h
      · refine br_f (by decide) (br_f (by decide) (br_f (by decide) (br_t rfl ⟨i5, go _ 3 (by decide) (fun post h => br_t (by decide) (br_f (by decide) (br_t rfl ⟨i13, ?_⟩)))⟩)))
        rw [ix_c (by omega)] at h ⊢
        rw [t4, ← s4]
        exact h
      · refine br_f (by decide) (br_f (by decide) (br_f (by decide) (br_f (by decide) (br_t rfl ⟨i5, go _ 4 (by decide) (fun post h => br_t (by decide) (br_f (by decide) (br_f (by decide) ⟨i5, ?_⟩)))⟩))))
        rw [ix_c (by omega)] at h ⊢
        rw [c2, ← c1]
        exact h
      · refine br_f (by decide) (br_f (by decide) (br_f (by decide) (br_f (by decide) (br_f (by decide) (br_t rfl ⟨i5, go _ 5 (by decide) (fun post h => br_t (by decide) (br_t (by decide) (br_t rfl ⟨i13, ?_⟩)))⟩)))))
        rw [ix_c (by omega)] at h ⊢
        rw [t5, ← s5]
        exact h
      · refine br_f (by decide) (br_f (by decide) (br_f (by decide) (br_f (by decide) (br_f (by decide) (br_f (by decide) (br_t rfl ⟨i5, go _ 6 (by decide) (fun post h => br_t (by decide) (br_t (by decide) (br_f (by decide) ⟨i13, ?_⟩)))⟩))))))
        rw [ix_c (by omega)] at h ⊢
        rw [t6, ← s6]
        exact h
theorem i_vc_entry {k : Nat} {u : SX} {v : SY} (I : i_Rel k u v) (hk : k + 5 ≤ 2563) (v1 : Int32) (v2 : Int32) (v3 : Int32) : wpX_entry (fun r => wpY_entry (fun r' => r' = r ∧ i_Rel (k + 5) u v) v v1 v2 v3) u v1 v2 v3 := by
  obtain ⟨Z, H, Q, B, M, I, hu, hv⟩ := I
  obtain ⟨f_PREPARE, f_PREPARE_OK, f_GET_STATE, f_NEW_STATE, f_START_VIEW_CHANGE, f_DO_VIEW_CHANGE, f_GET_LOG, f_NEW_LOG, f_START_VIEW, f_clients, f_capacity, f_letters, f_restarts, f_mailHead, f_mailTail, f_acks, f_votes, f_bestVoter, f_bestLast, f_bestLength, f_bestCommit, a_status, a_view, a_last, a_nonce, a_cell, a_length, a_commit, a_logClient, a_logNumber, a_logOp, a_registers, a_tableNumber, a_tableResult, a_mailKind, a_mailFrom, a_mailTo, a_mailView, a_mailLast, a_mailCommit, a_mailLength, a_mailBase, a_mailCount, a_mailClient, a_mailNumber, a_mailOp, a_voted, a_voteCommit, a_slotState, a_slotFrom, a_slotTo, a_slotNonce, a_slotView, a_slotLeader, a_slotLength, a_slotCommit, a_slotClient, a_slotNumber, a_slotOp⟩ := u
  obtain ⟨hZ, hR, hM, hB⟩ := hu
  have hx := sx_mk hZ hR hM hB (f_PREPARE := f_PREPARE) (f_PREPARE_OK := f_PREPARE_OK) (f_GET_STATE := f_GET_STATE) (f_NEW_STATE := f_NEW_STATE) (f_START_VIEW_CHANGE := f_START_VIEW_CHANGE) (f_DO_VIEW_CHANGE := f_DO_VIEW_CHANGE) (f_GET_LOG := f_GET_LOG) (f_NEW_LOG := f_NEW_LOG) (f_START_VIEW := f_START_VIEW)
  obtain ⟨f_clients_y, f_capacity_y, f_slots_y, f_restarts_y, a_status_y, a_last_y, a_cell_y, a_view_y, a_nonce_y, a_length_y, a_commit_y, a_log_y, a_state_y, a_from_y, a_to_y, a_leader_y, a_member_y⟩ := v
  obtain ⟨kZ, kR, kT, km⟩ := hv
  have hy := sy_mk kZ kR kT km
  have zk := hZ.2.1
  unfold rz_ok at zk
  have R : i_Rel (k + 5) (f_PREPARE, f_PREPARE_OK, f_GET_STATE, f_NEW_STATE, f_START_VIEW_CHANGE, f_DO_VIEW_CHANGE, f_GET_LOG, f_NEW_LOG, f_START_VIEW, f_clients, f_capacity, f_letters, f_restarts, f_mailHead, f_mailTail, f_acks, f_votes, f_bestVoter, f_bestLast, f_bestLength, f_bestCommit, a_status, a_view, a_last, a_nonce, a_cell, a_length, a_commit, a_logClient, a_logNumber, a_logOp, a_registers, a_tableNumber, a_tableResult, a_mailKind, a_mailFrom, a_mailTo, a_mailView, a_mailLast, a_mailCommit, a_mailLength, a_mailBase, a_mailCount, a_mailClient, a_mailNumber, a_mailOp, a_voted, a_voteCommit, a_slotState, a_slotFrom, a_slotTo, a_slotNonce, a_slotView, a_slotLeader, a_slotLength, a_slotCommit, a_slotClient, a_slotNumber, a_slotOp) (f_clients_y, f_capacity_y, f_slots_y, f_restarts_y, a_status_y, a_last_y, a_cell_y, a_view_y, a_nonce_y, a_length_y, a_commit_y, a_log_y, a_state_y, a_from_y, a_to_y, a_leader_y, a_member_y) := ⟨Z, H, Q, B, M, I, hx, hy⟩
  generalize i_Rel (k + 5) (f_PREPARE, f_PREPARE_OK, f_GET_STATE, f_NEW_STATE, f_START_VIEW_CHANGE, f_DO_VIEW_CHANGE, f_GET_LOG, f_NEW_LOG, f_START_VIEW, f_clients, f_capacity, f_letters, f_restarts, f_mailHead, f_mailTail, f_acks, f_votes, f_bestVoter, f_bestLast, f_bestLength, f_bestCommit, a_status, a_view, a_last, a_nonce, a_cell, a_length, a_commit, a_logClient, a_logNumber, a_logOp, a_registers, a_tableNumber, a_tableResult, a_mailKind, a_mailFrom, a_mailTo, a_mailView, a_mailLast, a_mailCommit, a_mailLength, a_mailBase, a_mailCount, a_mailClient, a_mailNumber, a_mailOp, a_voted, a_voteCommit, a_slotState, a_slotFrom, a_slotTo, a_slotNonce, a_slotView, a_slotLeader, a_slotLength, a_slotCommit, a_slotClient, a_slotNumber, a_slotOp) (f_clients_y, f_capacity_y, f_slots_y, f_restarts_y, a_status_y, a_last_y, a_cell_y, a_view_y, a_nonce_y, a_length_y, a_commit_y, a_log_y, a_state_y, a_from_y, a_to_y, a_leader_y, a_member_y) = P at R ⊢
  unfold wpX_entry
  rcases ix_spl v1 5 (by decide) with h1 | ⟨b, hb, rfl⟩
  · refine xm_rep_f h1 (br_t rfl ?_)
    unfold wpY_entry
    exact ym_no (y := 5) h1 (br_f (by decide) ⟨rfl, R⟩)
  · refine xm_rep_t hb (br_f (by decide) ?_)
    have i5 := ix_5 hb
    have i13 := ix_13 (by omega : b < 13)
    obtain ⟨ok, ⟨s1, s2, s3, s4, s5, s6⟩, l, _⟩ := hR b hb
    obtain ⟨_, ⟨t1, t2, t3, t4, t5, t6⟩, ly⟩ := kR b hb
    have ok1 := ok.1
    have r5 := ix_rd (by omega : b < 2000) s5
    have r5y := ix_rd (by omega : b < 2000) t5
    rcases ix_spl v2 (H b).2.2.2.2.1 (by omega) with h2 | ⟨i, hi, rfl⟩
    · have bad : wpY_entry (fun r' => r' = -1 ∧ P) (f_clients_y, f_capacity_y, f_slots_y, f_restarts_y, a_status_y, a_last_y, a_cell_y, a_view_y, a_nonce_y, a_length_y, a_commit_y, a_log_y, a_state_y, a_from_y, a_to_y, a_leader_y, a_member_y) (nI b) v2 v3 := by
        unfold wpY_entry
        refine ym_in (c := 5) hb (by decide) (br_t rfl ⟨i13, ?_⟩)
        rw [r5y]
        exact ym_no h2 (br_f (by decide) ⟨rfl, R⟩)
      refine br_c (fun _ => bad) (fun z => ⟨i5, br_f ?_ bad⟩)
      rw [r5]
      exact Int32.not_lt.mpr (h2.resolve_left z)
    · refine br_f (nI_pos (by omega)) ⟨i5, br_t (by rw [r5]; exact nI_lt hi (by omega)) (nm_r (ix_m32 b i) ?_)⟩
      have i160 : vp_in (nI (b * 32 + i)) 160 := ix_160 (by omega)
      have cc : (nI (b * 32 + i)).toNatClampNeg = b * 32 + i := ix_c (by omega)
      obtain ⟨l1, l2, l3⟩ := l i hi
      have yy : ∀ (f : Nat) (r : Int32), f < 3 → (f = 0 → ((H b).2.2.2.2.2.2 i).1 = r) → (f = 1 → ((H b).2.2.2.2.2.2 i).2.1 = r) → (f = 2 → ((H b).2.2.2.2.2.2 i).2.2 = r) → wpY_entry (fun r' => r' = r ∧ P) (f_clients_y, f_capacity_y, f_slots_y, f_restarts_y, a_status_y, a_last_y, a_cell_y, a_view_y, a_nonce_y, a_length_y, a_commit_y, a_log_y, a_state_y, a_from_y, a_to_y, a_leader_y, a_member_y) (nI b) (nI i) (nI f) := by
        intro f r hf h0 h1 h2
        unfold wpY_entry
        refine ym_in (c := 5) hb (by decide) (br_t rfl ⟨i13, ?_⟩)
        rw [r5y]
        refine ym_in hi (by omega) (br_t rfl (ym_in (c := 3) hf (by decide) (br_t rfl ?_)))
        exact ym_ent hy hb hi hf (fun z => ⟨h0 z, R⟩) (fun z => ⟨h1 z, R⟩) (fun z => ⟨h2 z, R⟩)
      rcases ix_spl v3 3 (by decide) with h3 | ⟨j, hj, rfl⟩
      · refine br_f (ix_ne h3 0 (by decide) (by decide)) (br_f (ix_ne h3 1 (by decide) (by decide)) (br_f (ix_ne h3 2 (by decide) (by decide)) ?_))
        unfold wpY_entry
        refine ym_in (c := 5) hb (by decide) (br_t rfl ⟨i13, ?_⟩)
        rw [r5y]
        exact ym_in hi (by omega) (br_t rfl (ym_no (y := 3) h3 (br_f (by decide) ⟨rfl, R⟩)))
      · have hj' : j = 0 ∨ j = 1 ∨ j = 2 := by omega
        rcases hj' with rfl | rfl | rfl
        · refine br_t rfl ⟨i160, ?_⟩
          rw [cc, l1]
          exact yy 0 _ (by decide) (fun _ => rfl) (fun z => absurd z (by decide)) (fun z => absurd z (by decide))
        · refine br_f (by decide) (br_t rfl ⟨i160, ?_⟩)
          rw [cc, l2]
          exact yy 1 _ (by decide) (fun z => absurd z (by decide)) (fun _ => rfl) (fun z => absurd z (by decide))
        · refine br_f (by decide) (br_f (by decide) (br_t rfl ⟨i160, ?_⟩))
          rw [cc, l3]
          exact yy 2 _ (by decide) (fun z => absurd z (by decide)) (fun z => absurd z (by decide)) (fun _ => rfl)
theorem i_vc_register {k : Nat} {u : SX} {v : SY} (I : i_Rel k u v) (hk : k + 5 ≤ 2563) (v1 : Int32) (v2 : Int32) : wpX_register (fun r => wpY_register (fun r' => r' = r ∧ i_Rel (k + 5) u v) v v1 v2) u v1 v2 := by
  obtain ⟨Z, H, Q, B, M, I, hu, hv⟩ := I
  obtain ⟨f_PREPARE, f_PREPARE_OK, f_GET_STATE, f_NEW_STATE, f_START_VIEW_CHANGE, f_DO_VIEW_CHANGE, f_GET_LOG, f_NEW_LOG, f_START_VIEW, f_clients, f_capacity, f_letters, f_restarts, f_mailHead, f_mailTail, f_acks, f_votes, f_bestVoter, f_bestLast, f_bestLength, f_bestCommit, a_status, a_view, a_last, a_nonce, a_cell, a_length, a_commit, a_logClient, a_logNumber, a_logOp, a_registers, a_tableNumber, a_tableResult, a_mailKind, a_mailFrom, a_mailTo, a_mailView, a_mailLast, a_mailCommit, a_mailLength, a_mailBase, a_mailCount, a_mailClient, a_mailNumber, a_mailOp, a_voted, a_voteCommit, a_slotState, a_slotFrom, a_slotTo, a_slotNonce, a_slotView, a_slotLeader, a_slotLength, a_slotCommit, a_slotClient, a_slotNumber, a_slotOp⟩ := u
  obtain ⟨hZ, hR, hM, hB⟩ := hu
  have hx := sx_mk hZ hR hM hB (f_PREPARE := f_PREPARE) (f_PREPARE_OK := f_PREPARE_OK) (f_GET_STATE := f_GET_STATE) (f_NEW_STATE := f_NEW_STATE) (f_START_VIEW_CHANGE := f_START_VIEW_CHANGE) (f_DO_VIEW_CHANGE := f_DO_VIEW_CHANGE) (f_GET_LOG := f_GET_LOG) (f_NEW_LOG := f_NEW_LOG) (f_START_VIEW := f_START_VIEW)
  obtain ⟨f_clients_y, f_capacity_y, f_slots_y, f_restarts_y, a_status_y, a_last_y, a_cell_y, a_view_y, a_nonce_y, a_length_y, a_commit_y, a_log_y, a_state_y, a_from_y, a_to_y, a_leader_y, a_member_y⟩ := v
  obtain ⟨kZ, kR, kT, km⟩ := hv
  have hy := sy_mk kZ kR kT km
  have zk := hZ.2.1
  unfold rz_ok at zk
  have R : i_Rel (k + 5) (f_PREPARE, f_PREPARE_OK, f_GET_STATE, f_NEW_STATE, f_START_VIEW_CHANGE, f_DO_VIEW_CHANGE, f_GET_LOG, f_NEW_LOG, f_START_VIEW, f_clients, f_capacity, f_letters, f_restarts, f_mailHead, f_mailTail, f_acks, f_votes, f_bestVoter, f_bestLast, f_bestLength, f_bestCommit, a_status, a_view, a_last, a_nonce, a_cell, a_length, a_commit, a_logClient, a_logNumber, a_logOp, a_registers, a_tableNumber, a_tableResult, a_mailKind, a_mailFrom, a_mailTo, a_mailView, a_mailLast, a_mailCommit, a_mailLength, a_mailBase, a_mailCount, a_mailClient, a_mailNumber, a_mailOp, a_voted, a_voteCommit, a_slotState, a_slotFrom, a_slotTo, a_slotNonce, a_slotView, a_slotLeader, a_slotLength, a_slotCommit, a_slotClient, a_slotNumber, a_slotOp) (f_clients_y, f_capacity_y, f_slots_y, f_restarts_y, a_status_y, a_last_y, a_cell_y, a_view_y, a_nonce_y, a_length_y, a_commit_y, a_log_y, a_state_y, a_from_y, a_to_y, a_leader_y, a_member_y) := ⟨Z, H, Q, B, M, I, hx, hy⟩
  generalize i_Rel (k + 5) (f_PREPARE, f_PREPARE_OK, f_GET_STATE, f_NEW_STATE, f_START_VIEW_CHANGE, f_DO_VIEW_CHANGE, f_GET_LOG, f_NEW_LOG, f_START_VIEW, f_clients, f_capacity, f_letters, f_restarts, f_mailHead, f_mailTail, f_acks, f_votes, f_bestVoter, f_bestLast, f_bestLength, f_bestCommit, a_status, a_view, a_last, a_nonce, a_cell, a_length, a_commit, a_logClient, a_logNumber, a_logOp, a_registers, a_tableNumber, a_tableResult, a_mailKind, a_mailFrom, a_mailTo, a_mailView, a_mailLast, a_mailCommit, a_mailLength, a_mailBase, a_mailCount, a_mailClient, a_mailNumber, a_mailOp, a_voted, a_voteCommit, a_slotState, a_slotFrom, a_slotTo, a_slotNonce, a_slotView, a_slotLeader, a_slotLength, a_slotCommit, a_slotClient, a_slotNumber, a_slotOp) (f_clients_y, f_capacity_y, f_slots_y, f_restarts_y, a_status_y, a_last_y, a_cell_y, a_view_y, a_nonce_y, a_length_y, a_commit_y, a_log_y, a_state_y, a_from_y, a_to_y, a_leader_y, a_member_y) = P at R ⊢
  unfold wpX_register
  rcases ix_spl v1 5 (by decide) with h1 | ⟨b, hb, rfl⟩
  · refine xm_rep_f h1 (br_t rfl ?_)
    unfold wpY_register
    exact ym_no (y := 5) h1 (br_f (by decide) ⟨rfl, R⟩)
  · refine xm_rep_t hb (br_f (by decide) ?_)
    obtain ⟨ok, ⟨s1, s2, s3, s4, s5, s6⟩, l, x⟩ := hR b hb
    obtain ⟨_, ⟨t1, t2, t3, t4, t5, t6⟩, ly⟩ := kR b hb
    have ok1 := ok.1
    rcases ix_spl v2 4 (by decide) with h2 | ⟨j, hj, rfl⟩
    · have bad : wpY_register (fun r' => r' = -1 ∧ P) (f_clients_y, f_capacity_y, f_slots_y, f_restarts_y, a_status_y, a_last_y, a_cell_y, a_view_y, a_nonce_y, a_length_y, a_commit_y, a_log_y, a_state_y, a_from_y, a_to_y, a_leader_y, a_member_y) (nI b) v2 := by
        unfold wpY_register
        exact ym_in (c := 5) hb (by decide) (br_t rfl (ym_no (y := 4) h2 (br_f (by decide) ⟨rfl, R⟩)))
      refine br_c (fun _ => bad) (fun z => br_f ?_ bad)
      intro z2
      have y2 : nI 4 ≤ nI 3 := Int32.le_trans (h2.resolve_left z) z2
      exact absurd y2 (by decide)
    · refine br_f (nI_pos (by omega)) (br_t (nI_le (b := 3) (by omega) (by decide)) ?_)
      rw [ix_m4, ix_c (by omega), (x j hj).1]
      refine ⟨ix_20 (by omega), ?_⟩
      unfold wpY_register
      refine ym_in (c := 5) hb (by decide) (br_t rfl (ym_in (c := 4) hj (by decide) (br_t rfl ⟨ix_13 (by omega), ?_⟩)))
      rw [ix_rd (by omega) t6]
      exact ym_val hy hb ok1.2.2.2.2.2 ⟨rfl, R⟩
theorem i_vc_table {k : Nat} {u : SX} {v : SY} (I : i_Rel k u v) (hk : k + 5 ≤ 2563) (v1 : Int32) (v2 : Int32) (v3 : Int32) : wpX_table (fun r => wpY_table (fun r' => r' = r ∧ i_Rel (k + 5) u v) v v1 v2 v3) u v1 v2 v3 := by
  obtain ⟨Z, H, Q, B, M, I, hu, hv⟩ := I
  obtain ⟨f_PREPARE, f_PREPARE_OK, f_GET_STATE, f_NEW_STATE, f_START_VIEW_CHANGE, f_DO_VIEW_CHANGE, f_GET_LOG, f_NEW_LOG, f_START_VIEW, f_clients, f_capacity, f_letters, f_restarts, f_mailHead, f_mailTail, f_acks, f_votes, f_bestVoter, f_bestLast, f_bestLength, f_bestCommit, a_status, a_view, a_last, a_nonce, a_cell, a_length, a_commit, a_logClient, a_logNumber, a_logOp, a_registers, a_tableNumber, a_tableResult, a_mailKind, a_mailFrom, a_mailTo, a_mailView, a_mailLast, a_mailCommit, a_mailLength, a_mailBase, a_mailCount, a_mailClient, a_mailNumber, a_mailOp, a_voted, a_voteCommit, a_slotState, a_slotFrom, a_slotTo, a_slotNonce, a_slotView, a_slotLeader, a_slotLength, a_slotCommit, a_slotClient, a_slotNumber, a_slotOp⟩ := u
  obtain ⟨hZ, hR, hM, hB⟩ := hu
  have hx := sx_mk hZ hR hM hB (f_PREPARE := f_PREPARE) (f_PREPARE_OK := f_PREPARE_OK) (f_GET_STATE := f_GET_STATE) (f_NEW_STATE := f_NEW_STATE) (f_START_VIEW_CHANGE := f_START_VIEW_CHANGE) (f_DO_VIEW_CHANGE := f_DO_VIEW_CHANGE) (f_GET_LOG := f_GET_LOG) (f_NEW_LOG := f_NEW_LOG) (f_START_VIEW := f_START_VIEW)
  obtain ⟨f_clients_y, f_capacity_y, f_slots_y, f_restarts_y, a_status_y, a_last_y, a_cell_y, a_view_y, a_nonce_y, a_length_y, a_commit_y, a_log_y, a_state_y, a_from_y, a_to_y, a_leader_y, a_member_y⟩ := v
  obtain ⟨kZ, kR, kT, km⟩ := hv
  have hy := sy_mk kZ kR kT km
  have zk := hZ.2.1
  unfold rz_ok at zk
  have R : i_Rel (k + 5) (f_PREPARE, f_PREPARE_OK, f_GET_STATE, f_NEW_STATE, f_START_VIEW_CHANGE, f_DO_VIEW_CHANGE, f_GET_LOG, f_NEW_LOG, f_START_VIEW, f_clients, f_capacity, f_letters, f_restarts, f_mailHead, f_mailTail, f_acks, f_votes, f_bestVoter, f_bestLast, f_bestLength, f_bestCommit, a_status, a_view, a_last, a_nonce, a_cell, a_length, a_commit, a_logClient, a_logNumber, a_logOp, a_registers, a_tableNumber, a_tableResult, a_mailKind, a_mailFrom, a_mailTo, a_mailView, a_mailLast, a_mailCommit, a_mailLength, a_mailBase, a_mailCount, a_mailClient, a_mailNumber, a_mailOp, a_voted, a_voteCommit, a_slotState, a_slotFrom, a_slotTo, a_slotNonce, a_slotView, a_slotLeader, a_slotLength, a_slotCommit, a_slotClient, a_slotNumber, a_slotOp) (f_clients_y, f_capacity_y, f_slots_y, f_restarts_y, a_status_y, a_last_y, a_cell_y, a_view_y, a_nonce_y, a_length_y, a_commit_y, a_log_y, a_state_y, a_from_y, a_to_y, a_leader_y, a_member_y) := ⟨Z, H, Q, B, M, I, hx, hy⟩
  generalize i_Rel (k + 5) (f_PREPARE, f_PREPARE_OK, f_GET_STATE, f_NEW_STATE, f_START_VIEW_CHANGE, f_DO_VIEW_CHANGE, f_GET_LOG, f_NEW_LOG, f_START_VIEW, f_clients, f_capacity, f_letters, f_restarts, f_mailHead, f_mailTail, f_acks, f_votes, f_bestVoter, f_bestLast, f_bestLength, f_bestCommit, a_status, a_view, a_last, a_nonce, a_cell, a_length, a_commit, a_logClient, a_logNumber, a_logOp, a_registers, a_tableNumber, a_tableResult, a_mailKind, a_mailFrom, a_mailTo, a_mailView, a_mailLast, a_mailCommit, a_mailLength, a_mailBase, a_mailCount, a_mailClient, a_mailNumber, a_mailOp, a_voted, a_voteCommit, a_slotState, a_slotFrom, a_slotTo, a_slotNonce, a_slotView, a_slotLeader, a_slotLength, a_slotCommit, a_slotClient, a_slotNumber, a_slotOp) (f_clients_y, f_capacity_y, f_slots_y, f_restarts_y, a_status_y, a_last_y, a_cell_y, a_view_y, a_nonce_y, a_length_y, a_commit_y, a_log_y, a_state_y, a_from_y, a_to_y, a_leader_y, a_member_y) = P at R ⊢
  unfold wpX_table
  have ecl : f_clients_y = nI Z.1 := kZ.1.1
  rcases ix_spl v1 5 (by decide) with h1 | ⟨b, hb, rfl⟩
  · refine xm_rep_f h1 (br_t rfl ?_)
    unfold wpY_table
    exact ym_no (y := 5) h1 (br_f (by decide) ⟨rfl, R⟩)
  · refine xm_rep_t hb (br_f (by decide) ?_)
    obtain ⟨ok, ⟨s1, s2, s3, s4, s5, s6⟩, l, x⟩ := hR b hb
    obtain ⟨_, ⟨t1, t2, t3, t4, t5, t6⟩, ly⟩ := kR b hb
    have ok1 := ok.1
    rcases ix_spl v2 Z.1 (by omega) with h2 | ⟨j, hj, rfl⟩
    · refine xm_cl_f hx h2 (br_t rfl ?_)
      unfold wpY_table
      exact ym_in (c := 5) hb (by decide) (br_t rfl (ym_no (by rw [ecl]; exact h2) (br_f (by decide) ⟨rfl, R⟩)))
    · refine xm_cl_t hx hj (br_f (by decide) ?_)
      obtain ⟨x1, x2, x3⟩ := x j (by omega)
      have ll := vl_lat_le (g := (H b).2.2.2.2.2.2) (c := nI j) (H b).2.2.2.2.2.1
      have yy : ∀ (f : Nat) (r : Int32), f < 2 → (f = 0 → r = vl_num (H b).2.2.2.2.2.2 (H b).2.2.2.2.2.1 (nI j)) → (f = 1 → r = vl_rs (H b).2.2.2.2.2.2 (H b).2.2.2.2.2.1 (nI j)) → wpY_table (fun r' => r' = r ∧ P) (f_clients_y, f_capacity_y, f_slots_y, f_restarts_y, a_status_y, a_last_y, a_cell_y, a_view_y, a_nonce_y, a_length_y, a_commit_y, a_log_y, a_state_y, a_from_y, a_to_y, a_leader_y, a_member_y) (nI b) (nI j) (nI f) := by
        intro f r hf h0 h1
        unfold wpY_table
        refine ym_in (c := 5) hb (by decide) (br_t rfl ?_)
        refine ym_ine ecl hj (by omega) (br_t rfl (ym_in (c := 2) hf (by decide) (br_t rfl ⟨ix_13 (by omega), ?_⟩)))
        rw [ix_rd (by omega) t6]
        refine ym_lat hy hb ok1.2.2.2.2.2 ?_
        rw [vl_num_lat] at h0
        rw [vl_rs_lat] at h1
        by_cases z : vl_lat (H b).2.2.2.2.2.2 (H b).2.2.2.2.2.1 (nI j) = 0
        · rw [z] at h0 h1 ⊢
          refine br_f (by decide) ⟨?_, R⟩
          have hf' : f = 0 ∨ f = 1 := by omega
          rcases hf' with e | e
          · rw [h0 e]; rfl
          · rw [h1 e]; rfl
        · obtain ⟨m, hm⟩ : ∃ m, vl_lat (H b).2.2.2.2.2.2 (H b).2.2.2.2.2.1 (nI j) = m + 1 := ⟨_, (Nat.succ_pred_eq_of_ne_zero z).symm⟩
          rw [hm] at h0 h1 ll ⊢
          rw [nI_pred]
          rw [if_neg (by omega), Nat.add_sub_cancel] at h0 h1
          refine br_t (nI_pos' (by omega)) (pk_eq f 0 (fun e => ?_) (fun e => ?_))
          · exact ym_ent (f := 1) hy hb (by omega) (by decide) (fun z => absurd z (by decide)) (fun _ => ⟨(h0 e).symm, R⟩) (fun z => absurd z (by decide))
          · refine ym_ent (f := 2) hy hb (by omega) (by decide) (fun z => absurd z (by decide)) (fun z => absurd z (by decide)) (fun _ => ?_)
            refine ym_val hy hb (by omega) ?_
            refine ym_result _ _ _ _ ⟨(h1 (by omega)).symm, R⟩
      rcases ix_spl v3 2 (by decide) with h3 | ⟨f, hf, rfl⟩
      · refine br_f (ix_ne h3 0 (by decide) (by decide)) (br_f (ix_ne h3 1 (by decide) (by decide)) ?_)
        unfold wpY_table
        refine ym_in (c := 5) hb (by decide) (br_t rfl ?_)
        exact ym_ine ecl hj (by omega) (br_t rfl (ym_no (y := 2) h3 (br_f (by decide) ⟨rfl, R⟩)))
      · have hf' : f = 0 ∨ f = 1 := by omega
        rcases hf' with rfl | rfl
        · refine br_t rfl ?_
          rw [ix_m4, ix_c (by omega), x2]
          exact ⟨ix_20 (by omega), yy 0 _ (by decide) (fun _ => rfl) (fun z => absurd z (by decide))⟩
        · refine br_f (by decide) (br_t rfl ?_)
          rw [ix_m4, ix_c (by omega), x3]
          exact ⟨ix_20 (by omega), yy 1 _ (by decide) (fun z => absurd z (by decide)) (fun _ => rfl)⟩
end
section
/-! letters read; discard, crash, restart -/
theorem i_vc_letter {k : Nat} {u : SX} {v : SY} (I : i_Rel k u v) (hk : k + 5 ≤ 2563) (v1 : Int32) (v2 : Int32) : wpX_letter (fun r => wpY_letter (fun r' => r' = r ∧ i_Rel (k + 5) u v) v v1 v2) u v1 v2 := by
  obtain ⟨Z, H, Q, B, M, I, hu, hv⟩ := I
  obtain ⟨f_PREPARE, f_PREPARE_OK, f_GET_STATE, f_NEW_STATE, f_START_VIEW_CHANGE, f_DO_VIEW_CHANGE, f_GET_LOG, f_NEW_LOG, f_START_VIEW, f_clients, f_capacity, f_letters, f_restarts, f_mailHead, f_mailTail, f_acks, f_votes, f_bestVoter, f_bestLast, f_bestLength, f_bestCommit, a_status, a_view, a_last, a_nonce, a_cell, a_length, a_commit, a_logClient, a_logNumber, a_logOp, a_registers, a_tableNumber, a_tableResult, a_mailKind, a_mailFrom, a_mailTo, a_mailView, a_mailLast, a_mailCommit, a_mailLength, a_mailBase, a_mailCount, a_mailClient, a_mailNumber, a_mailOp, a_voted, a_voteCommit, a_slotState, a_slotFrom, a_slotTo, a_slotNonce, a_slotView, a_slotLeader, a_slotLength, a_slotCommit, a_slotClient, a_slotNumber, a_slotOp⟩ := u
  obtain ⟨hZ, hR, hM, hB⟩ := hu
  have hx := sx_mk hZ hR hM hB (f_PREPARE := f_PREPARE) (f_PREPARE_OK := f_PREPARE_OK) (f_GET_STATE := f_GET_STATE) (f_NEW_STATE := f_NEW_STATE) (f_START_VIEW_CHANGE := f_START_VIEW_CHANGE) (f_DO_VIEW_CHANGE := f_DO_VIEW_CHANGE) (f_GET_LOG := f_GET_LOG) (f_NEW_LOG := f_NEW_LOG) (f_START_VIEW := f_START_VIEW)
  obtain ⟨f_clients_y, f_capacity_y, f_slots_y, f_restarts_y, a_status_y, a_last_y, a_cell_y, a_view_y, a_nonce_y, a_length_y, a_commit_y, a_log_y, a_state_y, a_from_y, a_to_y, a_leader_y, a_member_y⟩ := v
  obtain ⟨kZ, kR, kT, km⟩ := hv
  have hy := sy_mk kZ kR kT km
  have zk := hZ.2.1
  unfold rz_ok at zk
  have R : i_Rel (k + 5) (f_PREPARE, f_PREPARE_OK, f_GET_STATE, f_NEW_STATE, f_START_VIEW_CHANGE, f_DO_VIEW_CHANGE, f_GET_LOG, f_NEW_LOG, f_START_VIEW, f_clients, f_capacity, f_letters, f_restarts, f_mailHead, f_mailTail, f_acks, f_votes, f_bestVoter, f_bestLast, f_bestLength, f_bestCommit, a_status, a_view, a_last, a_nonce, a_cell, a_length, a_commit, a_logClient, a_logNumber, a_logOp, a_registers, a_tableNumber, a_tableResult, a_mailKind, a_mailFrom, a_mailTo, a_mailView, a_mailLast, a_mailCommit, a_mailLength, a_mailBase, a_mailCount, a_mailClient, a_mailNumber, a_mailOp, a_voted, a_voteCommit, a_slotState, a_slotFrom, a_slotTo, a_slotNonce, a_slotView, a_slotLeader, a_slotLength, a_slotCommit, a_slotClient, a_slotNumber, a_slotOp) (f_clients_y, f_capacity_y, f_slots_y, f_restarts_y, a_status_y, a_last_y, a_cell_y, a_view_y, a_nonce_y, a_length_y, a_commit_y, a_log_y, a_state_y, a_from_y, a_to_y, a_leader_y, a_member_y) := ⟨Z, H, Q, B, M, I, hx, hy⟩
  generalize i_Rel (k + 5) (f_PREPARE, f_PREPARE_OK, f_GET_STATE, f_NEW_STATE, f_START_VIEW_CHANGE, f_DO_VIEW_CHANGE, f_GET_LOG, f_NEW_LOG, f_START_VIEW, f_clients, f_capacity, f_letters, f_restarts, f_mailHead, f_mailTail, f_acks, f_votes, f_bestVoter, f_bestLast, f_bestLength, f_bestCommit, a_status, a_view, a_last, a_nonce, a_cell, a_length, a_commit, a_logClient, a_logNumber, a_logOp, a_registers, a_tableNumber, a_tableResult, a_mailKind, a_mailFrom, a_mailTo, a_mailView, a_mailLast, a_mailCommit, a_mailLength, a_mailBase, a_mailCount, a_mailClient, a_mailNumber, a_mailOp, a_voted, a_voteCommit, a_slotState, a_slotFrom, a_slotTo, a_slotNonce, a_slotView, a_slotLeader, a_slotLength, a_slotCommit, a_slotClient, a_slotNumber, a_slotOp) (f_clients_y, f_capacity_y, f_slots_y, f_restarts_y, a_status_y, a_last_y, a_cell_y, a_view_y, a_nonce_y, a_length_y, a_commit_y, a_log_y, a_state_y, a_from_y, a_to_y, a_leader_y, a_member_y) = P at R ⊢
  unfold wpX_letter
  have esl : f_slots_y = nI Z.2.2.1 := kZ.1.2.2.1
  rcases ix_spl v1 Z.2.2.1 (by omega) with h1 | ⟨s, hs, rfl⟩
  · refine xm_sl_f hx h1 (br_t rfl ?_)
    unfold wpY_letter
    exact ym_no (by rw [esl]; exact h1) (br_f (by decide) ⟨rfl, R⟩)
  · refine xm_sl_t hx hs (br_f (by decide) ?_)
    have i8 := ix_8 (by omega : s < 8)
    have j13 : vp_in (5 + nI s) 13 := by rw [ix_p5]; exact ix_13 (by omega)
    have c13 : (5 + nI s).toNatClampNeg = 5 + s := by rw [ix_p5]; exact ix_c (by omega)
    have c8 : (nI s).toNatClampNeg = s := ix_c (by omega)
    obtain ⟨ok, ⟨s1, s2, s3, s4, s5, s6, s7, s8⟩, _⟩ := hZ.2.2.2 s (by omega)
    obtain ⟨_, ⟨t1, t2, t3, t4, t5, t6, t7, t8⟩, _⟩ := kT s (by omega)
    have ok1 := ok.1
    have e1 : a_slotState (nI s).toNatClampNeg = nI (Z.2.2.2.2.2 s).1 := ix_rd (by omega) s1
    have e1y : a_state_y (nI s).toNatClampNeg = nI (Z.2.2.2.2.2 s).1 := ix_rd (by omega) t1
    rcases ix_spl v2 8 (by decide) with h2 | ⟨j, hj, rfl⟩
    · have bad : wpY_letter (fun r' => r' = -1 ∧ P) (f_clients_y, f_capacity_y, f_slots_y, f_restarts_y, a_status_y, a_last_y, a_cell_y, a_view_y, a_nonce_y, a_length_y, a_commit_y, a_log_y, a_state_y, a_from_y, a_to_y, a_leader_y, a_member_y) (nI s) v2 := by
        unfold wpY_letter
        exact ym_ine esl hs (by omega) (br_t rfl (ym_no (y := 8) h2 (br_f (by decide) ⟨rfl, R⟩)))
      exact br_f (ix_ne h2 0 (by decide) (by decide)) ⟨i8, br_c (fun _ => bad) (fun _ => br_f (ix_ne h2 1 (by decide) (by decide)) (br_f (ix_ne h2 2 (by decide) (by decide)) (br_f (ix_ne h2 3 (by decide) (by decide)) (br_f (ix_ne h2 4 (by decide) (by decide)) (br_f (ix_ne h2 5 (by decide) (by decide)) (br_f (ix_ne h2 6 (by decide) (by decide)) (br_f (ix_ne h2 7 (by decide) (by decide)) bad)))))))⟩
    · have op : ∀ (r : Int32), ((nI j = 0 → (vp_in (nI s) 8 ∧ (a_state_y (nI s).toNatClampNeg = r ∧ P))) ∧ (¬ nI j = 0 → (vp_in (nI s) 8 ∧ ((a_state_y (nI s).toNatClampNeg = 0 → (-1 = r ∧ P)) ∧ (¬ a_state_y (nI s).toNatClampNeg = 0 → ((3 < nI j → ((5 < nI j → ((nI j = 6 → (vp_in (5 + nI s) 13 ∧ (a_length_y (5 + nI s).toNatClampNeg = r ∧ P))) ∧ (¬ nI j = 6 → (vp_in (5 + nI s) 13 ∧ (a_commit_y (5 + nI s).toNatClampNeg = r ∧ P))))) ∧ (¬ 5 < nI j → ((nI j = 4 → (vp_in (5 + nI s) 13 ∧ (a_view_y (5 + nI s).toNatClampNeg = r ∧ P))) ∧ (¬ nI j = 4 → (vp_in (nI s) 8 ∧ (a_leader_y (nI s).toNatClampNeg = r ∧ P))))))) ∧ (¬ 3 < nI j → ((nI j = 1 → (vp_in (nI s) 8 ∧ (a_from_y (nI s).toNatClampNeg = r ∧ P))) ∧ (¬ nI j = 1 → ((nI j = 2 → (vp_in (nI s) 8 ∧ (a_to_y (nI s).toNatClampNeg = r ∧ P))) ∧ (¬ nI j = 2 → (vp_in (5 + nI s) 13 ∧ (a_nonce_y (5 + nI s).toNatClampNeg = r ∧ P))))))))))))) →
          wpY_letter (fun r' => r' = r ∧ P) (f_clients_y, f_capacity_y, f_slots_y, f_restarts_y, a_status_y, a_last_y, a_cell_y, a_view_y, a_nonce_y, a_length_y, a_commit_y, a_log_y, a_state_y, a_from_y, a_to_y, a_leader_y, a_member_y) (nI s) (nI j) := by
        intro r h
        unfold wpY_letter
        exact ym_ine esl hs (by omega) (br_t rfl (ym_in (c := 8) hj (by decide) (br_t rfl h)))
      rw [c13, c8] at op
      rw [c8] at e1 e1y
      have hj' : j = 0 ∨ j = 1 ∨ j = 2 ∨ j = 3 ∨ j = 4 ∨ j = 5 ∨ j = 6 ∨ j = 7 := by omega
      have fr : (Z.2.2.2.2.2 s).1 = 0 → ¬ nI j = 0 → wpY_letter (fun r' => r' = -1 ∧ P) (f_clients_y, f_capacity_y, f_slots_y, f_restarts_y, a_status_y, a_last_y, a_cell_y, a_view_y, a_nonce_y, a_length_y, a_commit_y, a_log_y, a_state_y, a_from_y, a_to_y, a_leader_y, a_member_y) (nI s) (nI j) := fun z nz => op _ (br_f nz ⟨i8, br_t (by rw [e1y, z]; rfl) ⟨rfl, R⟩⟩)
      have nf : (Z.2.2.2.2.2 s).1 ≠ 0 → ¬ a_state_y s = 0 := by
        intro z
        rw [e1y]
        exact nI_ne0 (by omega) (by omega)
      rw [c8]
      rcases hj' with rfl | rfl | rfl | rfl | rfl | rfl | rfl | rfl
      · exact br_t rfl ⟨i8, op _ (br_t rfl ⟨i8, t1.trans s1.symm, R⟩)⟩
      · exact br_f (by decide) ⟨i8, pk_eq (Z.2.2.2.2.2 s).1 0 (fun z => fr z (by decide)) (fun z => br_t rfl ⟨i8, op _ (br_f (by decide) ⟨i8, br_f (nf z) (br_f (by decide) (br_t rfl ⟨i8, t2.trans s2.symm, R⟩))⟩)⟩) (hx := e1)⟩
      · exact br_f (by decide) ⟨i8, pk_eq (Z.2.2.2.2.2 s).1 0 (fun z => fr z (by decide)) (fun z => br_f (by decide) (br_t rfl ⟨i8, op _ (br_f (by decide) ⟨i8, br_f (nf z) (br_f (by decide) (br_f (by decide) (br_t rfl ⟨i8, t3.trans s3.symm, R⟩)))⟩)⟩)) (hx := e1)⟩
      · exact br_f (by decide) ⟨i8, pk_eq (Z.2.2.2.2.2 s).1 0 (fun z => fr z (by decide)) (fun z => br_f (by decide) (br_f (by decide) (br_t rfl ⟨i8, op _ (br_f (by decide) ⟨i8, br_f (nf z) (br_f (by decide) (br_f (by decide) (br_f (by decide) ⟨j13, t4.trans s4.symm, R⟩)))⟩)⟩))) (hx := e1)⟩
      · exact br_f (by decide) ⟨i8, pk_eq (Z.2.2.2.2.2 s).1 0 (fun z => fr z (by decide)) (fun z => br_f (by decide) (br_f (by decide) (br_f (by decide) (br_t rfl ⟨i8, op _ (br_f (by decide) ⟨i8, br_f (nf z) (br_t (by decide) (br_f (by decide) (br_t rfl ⟨j13, t5.trans s5.symm, R⟩)))⟩)⟩)))) (hx := e1)⟩
      · exact br_f (by decide) ⟨i8, pk_eq (Z.2.2.2.2.2 s).1 0 (fun z => fr z (by decide)) (fun z => br_f (by decide) (br_f (by decide) (br_f (by decide) (br_f (by decide) (br_t rfl ⟨i8, op _ (br_f (by decide) ⟨i8, br_f (nf z) (br_t (by decide) (br_f (by decide) (br_f (by decide) ⟨i8, t6.trans s6.symm, R⟩)))⟩)⟩))))) (hx := e1)⟩
      · exact br_f (by decide) ⟨i8, pk_eq (Z.2.2.2.2.2 s).1 0 (fun z => fr z (by decide)) (fun z => br_f (by decide) (br_f (by decide) (br_f (by decide) (br_f (by decide) (br_f (by decide) (br_t rfl ⟨i8, op _ (br_f (by decide) ⟨i8, br_f (nf z) (br_t (by decide) (br_t (by decide) (br_t rfl ⟨j13, t7.trans s7.symm, R⟩)))⟩)⟩)))))) (hx := e1)⟩
      · exact br_f (by decide) ⟨i8, pk_eq (Z.2.2.2.2.2 s).1 0 (fun z => fr z (by decide)) (fun z => br_f (by decide) (br_f (by decide) (br_f (by decide) (br_f (by decide) (br_f (by decide) (br_f (by decide) (br_t rfl ⟨i8, op _ (br_f (by decide) ⟨i8, br_f (nf z) (br_t (by decide) (br_t (by decide) (br_f (by decide) ⟨j13, t8.trans s8.symm, R⟩)))⟩)⟩))))))) (hx := e1)⟩
theorem i_vc_letterEntry {k : Nat} {u : SX} {v : SY} (I : i_Rel k u v) (hk : k + 5 ≤ 2563) (v1 : Int32) (v2 : Int32) (v3 : Int32) : wpX_letterEntry (fun r => wpY_letterEntry (fun r' => r' = r ∧ i_Rel (k + 5) u v) v v1 v2 v3) u v1 v2 v3 := by
  obtain ⟨Z, H, Q, B, M, I, hu, hv⟩ := I
  obtain ⟨f_PREPARE, f_PREPARE_OK, f_GET_STATE, f_NEW_STATE, f_START_VIEW_CHANGE, f_DO_VIEW_CHANGE, f_GET_LOG, f_NEW_LOG, f_START_VIEW, f_clients, f_capacity, f_letters, f_restarts, f_mailHead, f_mailTail, f_acks, f_votes, f_bestVoter, f_bestLast, f_bestLength, f_bestCommit, a_status, a_view, a_last, a_nonce, a_cell, a_length, a_commit, a_logClient, a_logNumber, a_logOp, a_registers, a_tableNumber, a_tableResult, a_mailKind, a_mailFrom, a_mailTo, a_mailView, a_mailLast, a_mailCommit, a_mailLength, a_mailBase, a_mailCount, a_mailClient, a_mailNumber, a_mailOp, a_voted, a_voteCommit, a_slotState, a_slotFrom, a_slotTo, a_slotNonce, a_slotView, a_slotLeader, a_slotLength, a_slotCommit, a_slotClient, a_slotNumber, a_slotOp⟩ := u
  obtain ⟨hZ, hR, hM, hB⟩ := hu
  have hx := sx_mk hZ hR hM hB (f_PREPARE := f_PREPARE) (f_PREPARE_OK := f_PREPARE_OK) (f_GET_STATE := f_GET_STATE) (f_NEW_STATE := f_NEW_STATE) (f_START_VIEW_CHANGE := f_START_VIEW_CHANGE) (f_DO_VIEW_CHANGE := f_DO_VIEW_CHANGE) (f_GET_LOG := f_GET_LOG) (f_NEW_LOG := f_NEW_LOG) (f_START_VIEW := f_START_VIEW)
  obtain ⟨f_clients_y, f_capacity_y, f_slots_y, f_restarts_y, a_status_y, a_last_y, a_cell_y, a_view_y, a_nonce_y, a_length_y, a_commit_y, a_log_y, a_state_y, a_from_y, a_to_y, a_leader_y, a_member_y⟩ := v
  obtain ⟨kZ, kR, kT, km⟩ := hv
  have hy := sy_mk kZ kR kT km
  have zk := hZ.2.1
  unfold rz_ok at zk
  have R : i_Rel (k + 5) (f_PREPARE, f_PREPARE_OK, f_GET_STATE, f_NEW_STATE, f_START_VIEW_CHANGE, f_DO_VIEW_CHANGE, f_GET_LOG, f_NEW_LOG, f_START_VIEW, f_clients, f_capacity, f_letters, f_restarts, f_mailHead, f_mailTail, f_acks, f_votes, f_bestVoter, f_bestLast, f_bestLength, f_bestCommit, a_status, a_view, a_last, a_nonce, a_cell, a_length, a_commit, a_logClient, a_logNumber, a_logOp, a_registers, a_tableNumber, a_tableResult, a_mailKind, a_mailFrom, a_mailTo, a_mailView, a_mailLast, a_mailCommit, a_mailLength, a_mailBase, a_mailCount, a_mailClient, a_mailNumber, a_mailOp, a_voted, a_voteCommit, a_slotState, a_slotFrom, a_slotTo, a_slotNonce, a_slotView, a_slotLeader, a_slotLength, a_slotCommit, a_slotClient, a_slotNumber, a_slotOp) (f_clients_y, f_capacity_y, f_slots_y, f_restarts_y, a_status_y, a_last_y, a_cell_y, a_view_y, a_nonce_y, a_length_y, a_commit_y, a_log_y, a_state_y, a_from_y, a_to_y, a_leader_y, a_member_y) := ⟨Z, H, Q, B, M, I, hx, hy⟩
  generalize i_Rel (k + 5) (f_PREPARE, f_PREPARE_OK, f_GET_STATE, f_NEW_STATE, f_START_VIEW_CHANGE, f_DO_VIEW_CHANGE, f_GET_LOG, f_NEW_LOG, f_START_VIEW, f_clients, f_capacity, f_letters, f_restarts, f_mailHead, f_mailTail, f_acks, f_votes, f_bestVoter, f_bestLast, f_bestLength, f_bestCommit, a_status, a_view, a_last, a_nonce, a_cell, a_length, a_commit, a_logClient, a_logNumber, a_logOp, a_registers, a_tableNumber, a_tableResult, a_mailKind, a_mailFrom, a_mailTo, a_mailView, a_mailLast, a_mailCommit, a_mailLength, a_mailBase, a_mailCount, a_mailClient, a_mailNumber, a_mailOp, a_voted, a_voteCommit, a_slotState, a_slotFrom, a_slotTo, a_slotNonce, a_slotView, a_slotLeader, a_slotLength, a_slotCommit, a_slotClient, a_slotNumber, a_slotOp) (f_clients_y, f_capacity_y, f_slots_y, f_restarts_y, a_status_y, a_last_y, a_cell_y, a_view_y, a_nonce_y, a_length_y, a_commit_y, a_log_y, a_state_y, a_from_y, a_to_y, a_leader_y, a_member_y) = P at R ⊢
  unfold wpX_letterEntry
  have esl : f_slots_y = nI Z.2.2.1 := kZ.1.2.2.1
  rcases ix_spl v1 Z.2.2.1 (by omega) with h1 | ⟨s, hs, rfl⟩
  · refine xm_sl_f hx h1 (br_t rfl ?_)
    unfold wpY_letterEntry
    exact ym_no (by rw [esl]; exact h1) (br_f (by decide) ⟨rfl, R⟩)
  · refine xm_sl_t hx hs (br_f (by decide) ?_)
    have i8 := ix_8 (by omega : s < 8)
    have j13 : vp_in (5 + nI s) 13 := by rw [ix_p5]; exact ix_13 (by omega)
    obtain ⟨ok, ⟨s1, s2, s3, s4, s5, s6, s7, s8⟩, l⟩ := hZ.2.2.2 s (by omega)
    obtain ⟨_, ⟨t1, t2, t3, t4, t5, t6, t7, t8⟩, ly⟩ := kT s (by omega)
    have ok1 := ok.1
    have e1 : a_slotState (nI s).toNatClampNeg = nI (Z.2.2.2.2.2 s).1 := ix_rd (by omega) s1
    have e1y : a_state_y (nI s).toNatClampNeg = nI (Z.2.2.2.2.2 s).1 := ix_rd (by omega) t1
    have e7 : a_slotLength (nI s).toNatClampNeg = nI (Z.2.2.2.2.2 s).2.2.2.2.2.2.1 := ix_rd (by omega) s7
    have e7y : a_length_y (5 + nI s).toNatClampNeg = nI (Z.2.2.2.2.2 s).2.2.2.2.2.2.1 := by rw [ix_p5]; exact ix_rd (by omega) t7
    refine ⟨i8, pk_eq (Z.2.2.2.2.2 s).1 0 (fun z => ?_) (fun z => ?_) (hx := e1)⟩
    · unfold wpY_letterEntry
      exact ym_ine esl hs (by omega) (br_t rfl ⟨i8, br_t (by rw [e1y, z]; rfl) ⟨rfl, R⟩⟩)
    · have nf : ¬ a_state_y (nI s).toNatClampNeg = 0 := by rw [e1y]; exact nI_ne0 (by omega) (by omega)
      rcases ix_spl v2 (Z.2.2.2.2.2 s).2.2.2.2.2.2.1 (by omega) with h2 | ⟨i, hi, rfl⟩
      · have bad : wpY_letterEntry (fun r' => r' = -1 ∧ P) (f_clients_y, f_capacity_y, f_slots_y, f_restarts_y, a_status_y, a_last_y, a_cell_y, a_view_y, a_nonce_y, a_length_y, a_commit_y, a_log_y, a_state_y, a_from_y, a_to_y, a_leader_y, a_member_y) (nI s) v2 v3 := by
          unfold wpY_letterEntry
          exact ym_ine esl hs (by omega) (br_t rfl ⟨i8, br_f nf ⟨j13, ym_no (by rw [e7y]; exact h2) (br_f (by decide) ⟨rfl, R⟩)⟩⟩)
        refine br_c (fun _ => bad) (fun z => ⟨i8, br_f ?_ bad⟩)
        rw [e7]
        exact Int32.not_lt.mpr (h2.resolve_left z)
      · refine br_f (nI_pos (by omega)) ⟨i8, br_t (by rw [e7]; exact nI_lt hi (by omega)) (nm_r (ix_m32 s i) ?_)⟩
        have i256 : vp_in (nI (s * 32 + i)) 256 := ix_256 (by omega)
        have cc : (nI (s * 32 + i)).toNatClampNeg = s * 32 + i := ix_c (by omega)
        obtain ⟨l1, l2, l3⟩ := l i hi
        obtain ⟨m1, m2, m3⟩ := ly i hi
        have yy : ∀ (f : Nat) (r : Int32), f < 3 → a_log_y (((5 + s) * 32 + i) * 3 + f) = r → wpY_letterEntry (fun r' => r' = r ∧ P) (f_clients_y, f_capacity_y, f_slots_y, f_restarts_y, a_status_y, a_last_y, a_cell_y, a_view_y, a_nonce_y, a_length_y, a_commit_y, a_log_y, a_state_y, a_from_y, a_to_y, a_leader_y, a_member_y) (nI s) (nI i) (nI f) := by
          intro f r hf h0
          unfold wpY_letterEntry
          refine ym_ine esl hs (by omega) (br_t rfl ⟨i8, br_f nf ⟨j13, ym_ine e7y hi (by omega) (br_t rfl (ym_in (c := 3) hf (by decide) (br_t rfl ?_)))⟩⟩)
          rw [ix_p5]
          exact ym_ef (by omega) (by omega) hf ⟨h0, R⟩
        rcases ix_spl v3 3 (by decide) with h3 | ⟨j, hj, rfl⟩
        · refine br_f (ix_ne h3 0 (by decide) (by decide)) (br_f (ix_ne h3 1 (by decide) (by decide)) (br_f (ix_ne h3 2 (by decide) (by decide)) ?_))
          unfold wpY_letterEntry
          exact ym_ine esl hs (by omega) (br_t rfl ⟨i8, br_f nf ⟨j13, ym_ine e7y hi (by omega) (br_t rfl (ym_no (y := 3) h3 (br_f (by decide) ⟨rfl, R⟩)))⟩⟩)
        · have hj' : j = 0 ∨ j = 1 ∨ j = 2 := by omega
          rcases hj' with rfl | rfl | rfl
          · refine br_t rfl ⟨i256, ?_⟩
            rw [cc, l1]
            exact yy 0 _ (by decide) m1
          · refine br_f (by decide) (br_t rfl ⟨i256, ?_⟩)
            rw [cc, l2]
            exact yy 1 _ (by decide) m2
          · refine br_f (by decide) (br_f (by decide) (br_t rfl ⟨i256, ?_⟩))
            rw [cc, l3]
            exact yy 2 _ (by decide) m3
/-! the check of a slot -/
section
variable {Z : vg_Z} {H : Nat → vg_R} {Q : Nat → vg_M} {B : vg_B} {M : Nat → Int32} {post : Int32 → Prop}
theorem xm_cu {u : SX} (hu : sx_R Z H 0 0 Q B u) (x : Int32) (h1 : (x < 0 ∨ nI Z.2.2.1 ≤ x) → post (-1)) (h2 : ∀ s, s < Z.2.2.1 → x = nI s → (Z.2.2.2.2.2 s).1 = 0 → post (-7)) (h3 : ∀ s, s < Z.2.2.1 → x = nI s → (Z.2.2.2.2.2 s).1 = 2 → post (-2)) (h4 : ∀ s, s < Z.2.2.1 → x = nI s → (Z.2.2.2.2.2 s).1 = 1 → post 0) : wpX_checkUnderway post u x := by
  refine sx_el (P := fun u => wpX_checkUnderway post u x) ?_ hu
  intro f_PREPARE f_PREPARE_OK f_GET_STATE f_NEW_STATE f_START_VIEW_CHANGE f_DO_VIEW_CHANGE f_GET_LOG f_NEW_LOG f_START_VIEW f_clients f_capacity f_letters f_restarts f_mailHead f_mailTail f_acks f_votes f_bestVoter f_bestLast f_bestLength f_bestCommit a_status a_view a_last a_nonce a_cell a_length a_commit a_logClient a_logNumber a_logOp a_registers a_tableNumber a_tableResult a_mailKind a_mailFrom a_mailTo a_mailView a_mailLast a_mailCommit a_mailLength a_mailBase a_mailCount a_mailClient a_mailNumber a_mailOp a_voted a_voteCommit a_slotState a_slotFrom a_slotTo a_slotNonce a_slotView a_slotLeader a_slotLength a_slotCommit a_slotClient a_slotNumber a_slotOp hZ hR hM hB
  have hx := sx_mk hZ hR hM hB (f_PREPARE := f_PREPARE) (f_PREPARE_OK := f_PREPARE_OK) (f_GET_STATE := f_GET_STATE) (f_NEW_STATE := f_NEW_STATE) (f_START_VIEW_CHANGE := f_START_VIEW_CHANGE) (f_DO_VIEW_CHANGE := f_DO_VIEW_CHANGE) (f_GET_LOG := f_GET_LOG) (f_NEW_LOG := f_NEW_LOG) (f_START_VIEW := f_START_VIEW)
  have zk := hZ.2.1
  unfold rz_ok at zk
  unfold wpX_checkUnderway
  rcases ix_spl x Z.2.2.1 (by omega) with h | ⟨s, hs, rfl⟩
  · exact xm_sl_f hx h (br_t rfl (h1 h))
  · have i8 := ix_8 (by omega : s < 8)
    obtain ⟨ok, ⟨s1, _⟩, _⟩ := hZ.2.2.2 s (by omega)
    have ok1 := ok.1
    have e1 : a_slotState (nI s).toNatClampNeg = nI (Z.2.2.2.2.2 s).1 := ix_rd (by omega) s1
    exact xm_sl_t hx hs (br_f (by decide) ⟨i8, pk_eq (Z.2.2.2.2.2 s).1 0 (fun z => h2 s hs rfl z) (fun z => ⟨i8, pk_eq (Z.2.2.2.2.2 s).1 2 (fun z2 => h3 s hs rfl z2) (fun z2 => h4 s hs rfl (by omega)) (hx := e1)⟩) (hx := e1)⟩)
theorem ym_cu {u : SY} (hu : sy_R Z H M u) (x : Int32) (h1 : (x < 0 ∨ nI Z.2.2.1 ≤ x) → post (-1)) (h2 : ∀ s, s < Z.2.2.1 → x = nI s → (Z.2.2.2.2.2 s).1 = 0 → post (-7)) (h3 : ∀ s, s < Z.2.2.1 → x = nI s → (Z.2.2.2.2.2 s).1 = 2 → post (-2)) (h4 : ∀ s, s < Z.2.2.1 → x = nI s → (Z.2.2.2.2.2 s).1 = 1 → post 0) : wpY_slotRefusal post u x := by
  refine sy_el (P := fun u => wpY_slotRefusal post u x) ?_ hu
  intro f_clients f_capacity f_slots f_restarts a_status a_last a_cell a_view a_nonce a_length a_commit a_log a_state a_from a_to a_leader a_member hZ hR hT hm
  have zk := hZ.2.1
  unfold rz_ok at zk
  unfold wpY_slotRefusal
  have esl : f_slots = nI Z.2.2.1 := hZ.1.2.2.1
  rcases ix_spl x Z.2.2.1 (by omega) with h | ⟨s, hs, rfl⟩
  · exact ym_no (by rw [esl]; exact h) (br_f (by decide) (h1 h))
  · have i8 := ix_8 (by omega : s < 8)
    obtain ⟨ok, ⟨s1, _⟩, _⟩ := hT s (by omega)
    have ok1 := ok.1
    have e1 : a_state (nI s).toNatClampNeg = nI (Z.2.2.2.2.2 s).1 := ix_rd (by omega) s1
    exact ym_ine esl hs (by omega) (br_t rfl ⟨i8, pk_eq (Z.2.2.2.2.2 s).1 0 (fun z => h2 s hs rfl z) (fun z => ⟨i8, pk_eq (Z.2.2.2.2.2 s).1 2 (fun z2 => h3 s hs rfl z2) (fun z2 => h4 s hs rfl (by omega)) (hx := e1)⟩) (hx := e1)⟩)
end
theorem i_vc_discard {k : Nat} {u : SX} {v : SY} (I : i_Rel k u v) (hk : k + 5 ≤ 2563) (v1 : Int32) : wpX_discard (fun r u' => wpY_discard (fun r' v' => r' = r ∧ i_Rel (k + 5) u' v') v v1) u v1 := by
  obtain ⟨Z, H, Q, B, M, I, hu, hv⟩ := I
  obtain ⟨f_PREPARE, f_PREPARE_OK, f_GET_STATE, f_NEW_STATE, f_START_VIEW_CHANGE, f_DO_VIEW_CHANGE, f_GET_LOG, f_NEW_LOG, f_START_VIEW, f_clients, f_capacity, f_letters, f_restarts, f_mailHead, f_mailTail, f_acks, f_votes, f_bestVoter, f_bestLast, f_bestLength, f_bestCommit, a_status, a_view, a_last, a_nonce, a_cell, a_length, a_commit, a_logClient, a_logNumber, a_logOp, a_registers, a_tableNumber, a_tableResult, a_mailKind, a_mailFrom, a_mailTo, a_mailView, a_mailLast, a_mailCommit, a_mailLength, a_mailBase, a_mailCount, a_mailClient, a_mailNumber, a_mailOp, a_voted, a_voteCommit, a_slotState, a_slotFrom, a_slotTo, a_slotNonce, a_slotView, a_slotLeader, a_slotLength, a_slotCommit, a_slotClient, a_slotNumber, a_slotOp⟩ := u
  obtain ⟨hZ, hR, hM, hB⟩ := hu
  have hx := sx_mk hZ hR hM hB (f_PREPARE := f_PREPARE) (f_PREPARE_OK := f_PREPARE_OK) (f_GET_STATE := f_GET_STATE) (f_NEW_STATE := f_NEW_STATE) (f_START_VIEW_CHANGE := f_START_VIEW_CHANGE) (f_DO_VIEW_CHANGE := f_DO_VIEW_CHANGE) (f_GET_LOG := f_GET_LOG) (f_NEW_LOG := f_NEW_LOG) (f_START_VIEW := f_START_VIEW)
  obtain ⟨f_clients_y, f_capacity_y, f_slots_y, f_restarts_y, a_status_y, a_last_y, a_cell_y, a_view_y, a_nonce_y, a_length_y, a_commit_y, a_log_y, a_state_y, a_from_y, a_to_y, a_leader_y, a_member_y⟩ := v
  obtain ⟨kZ, kR, kT, km⟩ := hv
  have hy := sy_mk kZ kR kT km
  have zk := hZ.2.1
  unfold rz_ok at zk
  unfold wpX_discard
  have no : ∀ s s', nI s = nI s' → s < 8 → s' < 8 → s = s' := fun s s' e h h' => (nI_eq (by omega) (by omega)).mp e
  have bad : ∀ r : Int32, (∀ post : Int32 → Prop, post r → wpY_slotRefusal post (f_clients_y, f_capacity_y, f_slots_y, f_restarts_y, a_status_y, a_last_y, a_cell_y, a_view_y, a_nonce_y, a_length_y, a_commit_y, a_log_y, a_state_y, a_from_y, a_to_y, a_leader_y, a_member_y) v1) → ¬ r = 0 → wpY_discard (fun r' v' => r' = r ∧ i_Rel (k + 5) (f_PREPARE, f_PREPARE_OK, f_GET_STATE, f_NEW_STATE, f_START_VIEW_CHANGE, f_DO_VIEW_CHANGE, f_GET_LOG, f_NEW_LOG, f_START_VIEW, f_clients, f_capacity, f_letters, f_restarts, f_mailHead, f_mailTail, f_acks, f_votes, f_bestVoter, f_bestLast, f_bestLength, f_bestCommit, a_status, a_view, a_last, a_nonce, a_cell, a_length, a_commit, a_logClient, a_logNumber, a_logOp, a_registers, a_tableNumber, a_tableResult, a_mailKind, a_mailFrom, a_mailTo, a_mailView, a_mailLast, a_mailCommit, a_mailLength, a_mailBase, a_mailCount, a_mailClient, a_mailNumber, a_mailOp, a_voted, a_voteCommit, a_slotState, a_slotFrom, a_slotTo, a_slotNonce, a_slotView, a_slotLeader, a_slotLength, a_slotCommit, a_slotClient, a_slotNumber, a_slotOp) v') (f_clients_y, f_capacity_y, f_slots_y, f_restarts_y, a_status_y, a_last_y, a_cell_y, a_view_y, a_nonce_y, a_length_y, a_commit_y, a_log_y, a_state_y, a_from_y, a_to_y, a_leader_y, a_member_y) v1 := by
    intro r h hr
    unfold wpY_discard
    exact h _ (br_f hr ⟨rfl, Z, H, Q, B, M, I, hx, hy⟩)
  refine xm_cu hx v1 (fun h => br_f (by decide) (bad _ (fun post hp => ym_cu hy v1 (fun _ => hp) (fun s hs e _ => ?_) (fun s hs e _ => ?_) (fun s hs e _ => ?_)) (by decide))) (fun s hs e st => br_f (by decide) (bad _ (fun post hp => ym_cu hy v1 (fun h => ?_) (fun _ _ _ _ => hp) (fun s' hs' e' st' => ?_) (fun s' hs' e' st' => ?_)) (by decide))) (fun s hs e st => br_f (by decide) (bad _ (fun post hp => ym_cu hy v1 (fun h => ?_) (fun s' hs' e' st' => ?_) (fun _ _ _ _ => hp) (fun s' hs' e' st' => ?_)) (by decide))) (fun s hs e st => br_t rfl ⟨?_, nm_e ?_⟩)
  · exact absurd e (ix_ne h s hs (by omega))
  · exact absurd e (ix_ne h s hs (by omega))
  · exact absurd e (ix_ne h s hs (by omega))
  · exact absurd e (ix_ne h s hs (by omega))
  · have := no s s' (e.symm.trans e') (by omega) (by omega)
    rw [this] at st
    omega
  · have := no s s' (e.symm.trans e') (by omega) (by omega)
    rw [this] at st
    omega
  · exact absurd e (ix_ne h s hs (by omega))
  · have := no s s' (e.symm.trans e') (by omega) (by omega)
    rw [this] at st
    omega
  · have := no s s' (e.symm.trans e') (by omega) (by omega)
    rw [this] at st
    omega
  · rw [e]; exact ix_8 (by omega)
  · have hv2 : (∀ post : Int32 → Prop, post 0 → wpY_slotRefusal post (f_clients_y, f_capacity_y, f_slots_y, f_restarts_y, a_status_y, a_last_y, a_cell_y, a_view_y, a_nonce_y, a_length_y, a_commit_y, a_log_y, a_state_y, a_from_y, a_to_y, a_leader_y, a_member_y) v1) := by
      intro post hp
      refine ym_cu hy v1 (fun h => absurd e (ix_ne h s hs (by omega))) (fun s' hs' e' st' => ?_) (fun s' hs' e' st' => ?_) (fun _ _ _ _ => hp)
      · have := no s s' (e.symm.trans e') (by omega) (by omega)
        rw [this] at st
        omega
      · have := no s s' (e.symm.trans e') (by omega) (by omega)
        rw [this] at st
        omega
    unfold wpY_discard
    refine hv2 _ (br_t rfl ⟨by rw [e]; exact ix_8 (by omega), nm_e ?_⟩)
    rw [e, ix_c (by omega)]
    exact ⟨rfl, zs_T Z (fs_set Z.2.2.2.2.2 s (tl_st (Z.2.2.2.2.2 s) 0)), H, Q, B, M, iv_free I, sx_mk ⟨hZ.1, hZ.2.1, hZ.2.2.1, rz_st (v := 0) hZ.2.2.2 (by omega)⟩ hR hM hB, sy_mk kZ kR (ry_st (v := 0) kT (by omega)) km⟩
end
section
/-! crash, restart, heartbeat, ask -/
theorem i_vc_crash {k : Nat} {u : SX} {v : SY} (I : i_Rel k u v) (hk : k + 5 ≤ 2563) (v1 : Int32) : wpX_crash (fun r u' => wpY_crash (fun r' v' => r' = r ∧ i_Rel (k + 5) u' v') v v1) u v1 := by
  obtain ⟨Z, H, Q, B, M, I, hu, hv⟩ := I
  obtain ⟨f_PREPARE, f_PREPARE_OK, f_GET_STATE, f_NEW_STATE, f_START_VIEW_CHANGE, f_DO_VIEW_CHANGE, f_GET_LOG, f_NEW_LOG, f_START_VIEW, f_clients, f_capacity, f_letters, f_restarts, f_mailHead, f_mailTail, f_acks, f_votes, f_bestVoter, f_bestLast, f_bestLength, f_bestCommit, a_status, a_view, a_last, a_nonce, a_cell, a_length, a_commit, a_logClient, a_logNumber, a_logOp, a_registers, a_tableNumber, a_tableResult, a_mailKind, a_mailFrom, a_mailTo, a_mailView, a_mailLast, a_mailCommit, a_mailLength, a_mailBase, a_mailCount, a_mailClient, a_mailNumber, a_mailOp, a_voted, a_voteCommit, a_slotState, a_slotFrom, a_slotTo, a_slotNonce, a_slotView, a_slotLeader, a_slotLength, a_slotCommit, a_slotClient, a_slotNumber, a_slotOp⟩ := u
  obtain ⟨hZ, hR, hM, hB⟩ := hu
  have hx := sx_mk hZ hR hM hB (f_PREPARE := f_PREPARE) (f_PREPARE_OK := f_PREPARE_OK) (f_GET_STATE := f_GET_STATE) (f_NEW_STATE := f_NEW_STATE) (f_START_VIEW_CHANGE := f_START_VIEW_CHANGE) (f_DO_VIEW_CHANGE := f_DO_VIEW_CHANGE) (f_GET_LOG := f_GET_LOG) (f_NEW_LOG := f_NEW_LOG) (f_START_VIEW := f_START_VIEW)
  obtain ⟨f_clients_y, f_capacity_y, f_slots_y, f_restarts_y, a_status_y, a_last_y, a_cell_y, a_view_y, a_nonce_y, a_length_y, a_commit_y, a_log_y, a_state_y, a_from_y, a_to_y, a_leader_y, a_member_y⟩ := v
  obtain ⟨kZ, kR, kT, km⟩ := hv
  have hy := sy_mk kZ kR kT km
  have zk := hZ.2.1
  unfold rz_ok at zk
  unfold wpX_crash
  rcases ix_spl v1 5 (by decide) with h1 | ⟨b, hb, rfl⟩
  · refine xm_rep_f h1 (br_t rfl ?_)
    unfold wpY_crash
    exact ym_no (y := 5) h1 (br_f (by decide) ⟨rfl, Z, H, Q, B, M, I, hx, hy⟩)
  · obtain ⟨ok, ⟨s1, _⟩, _⟩ := hR b hb
    obtain ⟨_, ⟨t1, _⟩, _⟩ := kR b hb
    have ok1 := ok.1
    have r1 := ix_rd (by omega : b < 2000) s1
    have r1y := ix_rd (by omega : b < 2000) t1
    have i5 := ix_5 hb
    refine xm_rep_t hb (br_f (by decide) ⟨i5, pk_eq (H b).1 3 (fun z => ?_) (fun z => ?_) (hx := r1)⟩)
    · unfold wpY_crash
      exact ym_in (c := 5) hb (by decide) (br_t rfl ⟨i5, br_t (by rw [r1y, z]; rfl) ⟨rfl, Z, H, Q, B, M, I, hx, hy⟩⟩)
    · refine xm_erase hx hb (fun u1 hu1 => ?_)
      clear hZ hR hM hB hx s1 r1
      obtain ⟨f_PREPARE, f_PREPARE_OK, f_GET_STATE, f_NEW_STATE, f_START_VIEW_CHANGE, f_DO_VIEW_CHANGE, f_GET_LOG, f_NEW_LOG, f_START_VIEW, f_clients, f_capacity, f_letters, f_restarts, f_mailHead, f_mailTail, f_acks, f_votes, f_bestVoter, f_bestLast, f_bestLength, f_bestCommit, a_status, a_view, a_last, a_nonce, a_cell, a_length, a_commit, a_logClient, a_logNumber, a_logOp, a_registers, a_tableNumber, a_tableResult, a_mailKind, a_mailFrom, a_mailTo, a_mailView, a_mailLast, a_mailCommit, a_mailLength, a_mailBase, a_mailCount, a_mailClient, a_mailNumber, a_mailOp, a_voted, a_voteCommit, a_slotState, a_slotFrom, a_slotTo, a_slotNonce, a_slotView, a_slotLeader, a_slotLength, a_slotCommit, a_slotClient, a_slotNumber, a_slotOp⟩ := u1
      obtain ⟨hZ, hR, hM, hB⟩ := hu1
      refine ⟨i5, nm_e ?_⟩
      rw [ix_c (by omega)]
      have hx2 : sx_R Z (fs_set H b (3, 0, 0, 0, 0, 0, (H b).2.2.2.2.2.2)) 0 0 Q B (f_PREPARE, f_PREPARE_OK, f_GET_STATE, f_NEW_STATE, f_START_VIEW_CHANGE, f_DO_VIEW_CHANGE, f_GET_LOG, f_NEW_LOG, f_START_VIEW, f_clients, f_capacity, f_letters, f_restarts, f_mailHead, f_mailTail, f_acks, f_votes, f_bestVoter, f_bestLast, f_bestLength, f_bestCommit, upd a_status b 3, a_view, a_last, a_nonce, a_cell, a_length, a_commit, a_logClient, a_logNumber, a_logOp, a_registers, a_tableNumber, a_tableResult, a_mailKind, a_mailFrom, a_mailTo, a_mailView, a_mailLast, a_mailCommit, a_mailLength, a_mailBase, a_mailCount, a_mailClient, a_mailNumber, a_mailOp, a_voted, a_voteCommit, a_slotState, a_slotFrom, a_slotTo, a_slotNonce, a_slotView, a_slotLeader, a_slotLength, a_slotCommit, a_slotClient, a_slotNumber, a_slotOp) := by
        refine sx_mk hZ ?_ hM hB
        have q := hR b hb
        rw [fs_eq] at q
        obtain ⟨ok, ⟨e1, e2, e3, e4, e5, e6⟩, l, x⟩ := q
        have ok1 := ok.1
        have h := rr_set (x := (3, 0, 0, 0, 0, 0, (H b).2.2.2.2.2.2)) (sS' := upd a_status b 3) hR ⟨by dsimp only at ok1 ⊢; omega, ok.2⟩ ⟨⟨pk_us, e2, e3, e4, e5, e6⟩, l, x⟩ (fun j hj => ⟨pk_un hj, rfl, rfl, rfl, rfl, rfl⟩) (fun j hj => ⟨rfl, rfl, rfl⟩) (fun j hj => ⟨rfl, rfl, rfl⟩)
        rw [fs_fs] at h
        exact h
      refine xm_drop hx2 hb (Or.inl ⟨by decide, rfl⟩) (fun u2 hu2 => ?_)
      clear hZ hR hM hB hx2
      obtain ⟨f_PREPARE, f_PREPARE_OK, f_GET_STATE, f_NEW_STATE, f_START_VIEW_CHANGE, f_DO_VIEW_CHANGE, f_GET_LOG, f_NEW_LOG, f_START_VIEW, f_clients, f_capacity, f_letters, f_restarts, f_mailHead, f_mailTail, f_acks, f_votes, f_bestVoter, f_bestLast, f_bestLength, f_bestCommit, a_status, a_view, a_last, a_nonce, a_cell, a_length, a_commit, a_logClient, a_logNumber, a_logOp, a_registers, a_tableNumber, a_tableResult, a_mailKind, a_mailFrom, a_mailTo, a_mailView, a_mailLast, a_mailCommit, a_mailLength, a_mailBase, a_mailCount, a_mailClient, a_mailNumber, a_mailOp, a_voted, a_voteCommit, a_slotState, a_slotFrom, a_slotTo, a_slotNonce, a_slotView, a_slotLeader, a_slotLength, a_slotCommit, a_slotClient, a_slotNumber, a_slotOp⟩ := u2
      show wpY_crash (fun r' v' => r' = 0 ∧ i_Rel (k + 5) (f_PREPARE, f_PREPARE_OK, f_GET_STATE, f_NEW_STATE, f_START_VIEW_CHANGE, f_DO_VIEW_CHANGE, f_GET_LOG, f_NEW_LOG, f_START_VIEW, f_clients, f_capacity, f_letters, f_restarts, f_mailHead, f_mailTail, f_acks, f_votes, f_bestVoter, f_bestLast, f_bestLength, f_bestCommit, a_status, a_view, a_last, a_nonce, a_cell, a_length, a_commit, a_logClient, a_logNumber, a_logOp, a_registers, a_tableNumber, a_tableResult, a_mailKind, a_mailFrom, a_mailTo, a_mailView, a_mailLast, a_mailCommit, a_mailLength, a_mailBase, a_mailCount, a_mailClient, a_mailNumber, a_mailOp, a_voted, a_voteCommit, a_slotState, a_slotFrom, a_slotTo, a_slotNonce, a_slotView, a_slotLeader, a_slotLength, a_slotCommit, a_slotClient, a_slotNumber, a_slotOp) v') (f_clients_y, f_capacity_y, f_slots_y, f_restarts_y, a_status_y, a_last_y, a_cell_y, a_view_y, a_nonce_y, a_length_y, a_commit_y, a_log_y, a_state_y, a_from_y, a_to_y, a_leader_y, a_member_y) (nI b)
      unfold wpY_crash
      refine ym_in (c := 5) hb (by decide) (br_t rfl ⟨i5, br_f (by rw [r1y]; exact fun q => z ((nI_eq (b := 3) (by omega) (by decide)).mp q)) ?_⟩)
      refine ym_wipe (s := 3) hy hb (by decide) (fun w hw => ?_)
      clear kZ kR kT km hy t1 r1y
      obtain ⟨f_clients_y, f_capacity_y, f_slots_y, f_restarts_y, a_status_y, a_last_y, a_cell_y, a_view_y, a_nonce_y, a_length_y, a_commit_y, a_log_y, a_state_y, a_from_y, a_to_y, a_leader_y, a_member_y⟩ := w
      refine ym_drop hw hb (fun w2 hw2 => ?_)
      clear hw
      obtain ⟨f_clients_y, f_capacity_y, f_slots_y, f_restarts_y, a_status_y, a_last_y, a_cell_y, a_view_y, a_nonce_y, a_length_y, a_commit_y, a_log_y, a_state_y, a_from_y, a_to_y, a_leader_y, a_member_y⟩ := w2
      exact ⟨rfl, _, _, _, _, _, iv_crash I hb, hu2, hw2⟩
theorem i_vc_restart {k : Nat} {u : SX} {v : SY} (I : i_Rel k u v) (hk : k + 5 ≤ 2563) (v1 : Int32) : wpX_restart (fun r u' => wpY_restart (fun r' v' => r' = r ∧ i_Rel (k + 5) u' v') v v1) u v1 := by
  obtain ⟨Z, H, Q, B, M, I, hu, hv⟩ := I
  obtain ⟨f_PREPARE, f_PREPARE_OK, f_GET_STATE, f_NEW_STATE, f_START_VIEW_CHANGE, f_DO_VIEW_CHANGE, f_GET_LOG, f_NEW_LOG, f_START_VIEW, f_clients, f_capacity, f_letters, f_restarts, f_mailHead, f_mailTail, f_acks, f_votes, f_bestVoter, f_bestLast, f_bestLength, f_bestCommit, a_status, a_view, a_last, a_nonce, a_cell, a_length, a_commit, a_logClient, a_logNumber, a_logOp, a_registers, a_tableNumber, a_tableResult, a_mailKind, a_mailFrom, a_mailTo, a_mailView, a_mailLast, a_mailCommit, a_mailLength, a_mailBase, a_mailCount, a_mailClient, a_mailNumber, a_mailOp, a_voted, a_voteCommit, a_slotState, a_slotFrom, a_slotTo, a_slotNonce, a_slotView, a_slotLeader, a_slotLength, a_slotCommit, a_slotClient, a_slotNumber, a_slotOp⟩ := u
  obtain ⟨hZ, hR, hM, hB⟩ := hu
  have hx := sx_mk hZ hR hM hB (f_PREPARE := f_PREPARE) (f_PREPARE_OK := f_PREPARE_OK) (f_GET_STATE := f_GET_STATE) (f_NEW_STATE := f_NEW_STATE) (f_START_VIEW_CHANGE := f_START_VIEW_CHANGE) (f_DO_VIEW_CHANGE := f_DO_VIEW_CHANGE) (f_GET_LOG := f_GET_LOG) (f_NEW_LOG := f_NEW_LOG) (f_START_VIEW := f_START_VIEW)
  obtain ⟨f_clients_y, f_capacity_y, f_slots_y, f_restarts_y, a_status_y, a_last_y, a_cell_y, a_view_y, a_nonce_y, a_length_y, a_commit_y, a_log_y, a_state_y, a_from_y, a_to_y, a_leader_y, a_member_y⟩ := v
  obtain ⟨kZ, kR, kT, km⟩ := hv
  have hy := sy_mk kZ kR kT km
  have zk := hZ.2.1
  unfold rz_ok at zk
  unfold wpX_restart
  rcases ix_spl v1 5 (by decide) with h1 | ⟨b, hb, rfl⟩
  · refine xm_rep_f h1 (br_t rfl ?_)
    unfold wpY_restart
    exact ym_no (y := 5) h1 (br_f (by decide) ⟨rfl, Z, H, Q, B, M, I, hx, hy⟩)
  · obtain ⟨ok, ⟨s1, _⟩, _⟩ := hR b hb
    obtain ⟨_, ⟨t1, _⟩, _⟩ := kR b hb
    have ok1 := ok.1
    have r1 := ix_rd (by omega : b < 2000) s1
    have r1y := ix_rd (by omega : b < 2000) t1
    have i5 := ix_5 hb
    have er : f_restarts = nI Z.2.2.2.1 := hZ.1.2.2.2
    have ery : f_restarts_y = nI Z.2.2.2.1 := kZ.1.2.2.2
    refine xm_rep_t hb (br_f (by decide) ⟨i5, pk_eq (H b).1 3 (fun z => ?_) (fun z => ?_) (hx := r1)⟩)
    · refine pk_lt Z.2.2.2.1 999 (fun y => nm_e ?_) (fun y => ?_) (hx := er)
      · have hx1 : sx_R (Z.1, Z.2.1, Z.2.2.1, Z.2.2.2.1 + 1, Z.2.2.2.2.1, Z.2.2.2.2.2) H 0 0 Q B (f_PREPARE, f_PREPARE_OK, f_GET_STATE, f_NEW_STATE, f_START_VIEW_CHANGE, f_DO_VIEW_CHANGE, f_GET_LOG, f_NEW_LOG, f_START_VIEW, f_clients, f_capacity, f_letters, f_restarts + 1, f_mailHead, f_mailTail, f_acks, f_votes, f_bestVoter, f_bestLast, f_bestLength, f_bestCommit, a_status, a_view, a_last, a_nonce, a_cell, a_length, a_commit, a_logClient, a_logNumber, a_logOp, a_registers, a_tableNumber, a_tableResult, a_mailKind, a_mailFrom, a_mailTo, a_mailView, a_mailLast, a_mailCommit, a_mailLength, a_mailBase, a_mailCount, a_mailClient, a_mailNumber, a_mailOp, a_voted, a_voteCommit, a_slotState, a_slotFrom, a_slotTo, a_slotNonce, a_slotView, a_slotLeader, a_slotLength, a_slotCommit, a_slotClient, a_slotNumber, a_slotOp) := sx_mk ⟨⟨hZ.1.1, hZ.1.2.1, hZ.1.2.2.1, by rw [er, nI_1]⟩, ⟨zk.1, zk.2.1, zk.2.2.1, zk.2.2.2.1, zk.2.2.2.2.1, zk.2.2.2.2.2.1, y⟩, hZ.2.2.1, hZ.2.2.2⟩ hR hM hB
        refine xm_erase hx1 hb (fun u1 hu1 => ?_)
        clear hZ hR hM hB hx s1 r1 er hx1
        obtain ⟨f_PREPARE, f_PREPARE_OK, f_GET_STATE, f_NEW_STATE, f_START_VIEW_CHANGE, f_DO_VIEW_CHANGE, f_GET_LOG, f_NEW_LOG, f_START_VIEW, f_clients, f_capacity, f_letters, f_restarts, f_mailHead, f_mailTail, f_acks, f_votes, f_bestVoter, f_bestLast, f_bestLength, f_bestCommit, a_status, a_view, a_last, a_nonce, a_cell, a_length, a_commit, a_logClient, a_logNumber, a_logOp, a_registers, a_tableNumber, a_tableResult, a_mailKind, a_mailFrom, a_mailTo, a_mailView, a_mailLast, a_mailCommit, a_mailLength, a_mailBase, a_mailCount, a_mailClient, a_mailNumber, a_mailOp, a_voted, a_voteCommit, a_slotState, a_slotFrom, a_slotTo, a_slotNonce, a_slotView, a_slotLeader, a_slotLength, a_slotCommit, a_slotClient, a_slotNumber, a_slotOp⟩ := u1
        obtain ⟨hZ, hR, hM, hB⟩ := hu1
        have er : f_restarts = nI (Z.2.2.2.1 + 1) := hZ.1.2.2.2
        refine ⟨i5, nm_e ⟨i5, nm_e ?_⟩⟩
        rw [ix_c (by omega)]
        have hx2 : sx_R (Z.1, Z.2.1, Z.2.2.1, Z.2.2.2.1 + 1, Z.2.2.2.2.1, Z.2.2.2.2.2) (fs_set H b (2, 0, 0, Z.2.2.2.1 + 1, 0, 0, (H b).2.2.2.2.2.2)) 0 0 Q B (f_PREPARE, f_PREPARE_OK, f_GET_STATE, f_NEW_STATE, f_START_VIEW_CHANGE, f_DO_VIEW_CHANGE, f_GET_LOG, f_NEW_LOG, f_START_VIEW, f_clients, f_capacity, f_letters, f_restarts, f_mailHead, f_mailTail, f_acks, f_votes, f_bestVoter, f_bestLast, f_bestLength, f_bestCommit, upd a_status b 2, a_view, a_last, upd a_nonce b f_restarts, a_cell, a_length, a_commit, a_logClient, a_logNumber, a_logOp, a_registers, a_tableNumber, a_tableResult, a_mailKind, a_mailFrom, a_mailTo, a_mailView, a_mailLast, a_mailCommit, a_mailLength, a_mailBase, a_mailCount, a_mailClient, a_mailNumber, a_mailOp, a_voted, a_voteCommit, a_slotState, a_slotFrom, a_slotTo, a_slotNonce, a_slotView, a_slotLeader, a_slotLength, a_slotCommit, a_slotClient, a_slotNumber, a_slotOp) := by
          refine sx_mk hZ ?_ hM hB
          have q := hR b hb
          rw [fs_eq] at q
          obtain ⟨ok, ⟨e1, e2, e3, e4, e5, e6⟩, l, x⟩ := q
          have ok1 := ok.1
          have h := rr_set (x := (2, 0, 0, Z.2.2.2.1 + 1, 0, 0, (H b).2.2.2.2.2.2)) (sS' := upd a_status b 2) (sN' := upd a_nonce b f_restarts) hR ⟨by dsimp only at ok1 ⊢; omega, ok.2⟩ ⟨⟨pk_us, e2, e3, pk_us.trans er, e5, e6⟩, l, x⟩ (fun j hj => ⟨pk_un hj, rfl, rfl, pk_un hj, rfl, rfl⟩) (fun j hj => ⟨rfl, rfl, rfl⟩) (fun j hj => ⟨rfl, rfl, rfl⟩)
          rw [fs_fs] at h
          exact h
        show wpY_restart (fun r' v' => r' = f_restarts ∧ i_Rel (k + 5) (f_PREPARE, f_PREPARE_OK, f_GET_STATE, f_NEW_STATE, f_START_VIEW_CHANGE, f_DO_VIEW_CHANGE, f_GET_LOG, f_NEW_LOG, f_START_VIEW, f_clients, f_capacity, f_letters, f_restarts, f_mailHead, f_mailTail, f_acks, f_votes, f_bestVoter, f_bestLast, f_bestLength, f_bestCommit, upd a_status b 2, a_view, a_last, upd a_nonce b f_restarts, a_cell, a_length, a_commit, a_logClient, a_logNumber, a_logOp, a_registers, a_tableNumber, a_tableResult, a_mailKind, a_mailFrom, a_mailTo, a_mailView, a_mailLast, a_mailCommit, a_mailLength, a_mailBase, a_mailCount, a_mailClient, a_mailNumber, a_mailOp, a_voted, a_voteCommit, a_slotState, a_slotFrom, a_slotTo, a_slotNonce, a_slotView, a_slotLeader, a_slotLength, a_slotCommit, a_slotClient, a_slotNumber, a_slotOp) v') (f_clients_y, f_capacity_y, f_slots_y, f_restarts_y, a_status_y, a_last_y, a_cell_y, a_view_y, a_nonce_y, a_length_y, a_commit_y, a_log_y, a_state_y, a_from_y, a_to_y, a_leader_y, a_member_y) (nI b)
        unfold wpY_restart
        refine ym_in (c := 5) hb (by decide) (br_t rfl ⟨i5, br_t (by rw [r1y, z]; rfl) (br_t (by rw [ery]; exact nI_lt (b := 999) y (by decide)) (nm_e ?_))⟩)
        have hy1 : sy_R (Z.1, Z.2.1, Z.2.2.1, Z.2.2.2.1 + 1, Z.2.2.2.2.1, Z.2.2.2.2.2) H M (f_clients_y, f_capacity_y, f_slots_y, f_restarts_y + 1, a_status_y, a_last_y, a_cell_y, a_view_y, a_nonce_y, a_length_y, a_commit_y, a_log_y, a_state_y, a_from_y, a_to_y, a_leader_y, a_member_y) := sy_mk ⟨⟨kZ.1.1, kZ.1.2.1, kZ.1.2.2.1, by rw [ery, nI_1]⟩, ⟨zk.1, zk.2.1, zk.2.2.1, zk.2.2.2.1, zk.2.2.2.2.1, zk.2.2.2.2.2.1, y⟩, kZ.2.2⟩ kR kT km
        refine ym_wipe (s := 2) hy1 hb (by decide) (fun w hw => ?_)
        clear kZ kR kT km hy hy1 t1 r1y ery
        obtain ⟨f_clients_y, f_capacity_y, f_slots_y, f_restarts_y, a_status_y, a_last_y, a_cell_y, a_view_y, a_nonce_y, a_length_y, a_commit_y, a_log_y, a_state_y, a_from_y, a_to_y, a_leader_y, a_member_y⟩ := w
        obtain ⟨kZ, kR, kT, km⟩ := hw
        have ery : f_restarts_y = nI (Z.2.2.2.1 + 1) := kZ.1.2.2.2
        refine ⟨ix_13 (by omega), nm_e ⟨ery.trans er.symm, _, _, _, _, M, iv_restart I hb z, hx2, ?_⟩⟩
        rw [ix_c (by omega)]
        have q := kR b hb
        rw [fs_eq] at q
        obtain ⟨ok, ⟨e1, e2, e3, e4, e5, e6⟩, l⟩ := q
        have ok1 := ok.1
        have h := ry_set (x := (2, 0, 0, Z.2.2.2.1 + 1, 0, 0, (H b).2.2.2.2.2.2)) (aN' := upd a_nonce_y b f_restarts_y) kR ⟨by dsimp only at ok1 ⊢; omega, ok.2⟩ ⟨⟨e1, e2, e3, pk_us.trans ery, e5, e6⟩, l⟩ (fun j hj => ⟨rfl, rfl, rfl, pk_un hj, rfl, rfl⟩) (fun j hj => rfl)
        rw [fs_fs] at h
        exact sy_mk kZ h (ry_keepT hb kT (fun j hj => ⟨rfl, pk_un hj, rfl, rfl⟩) (fun j hj => rfl)) km
      · unfold wpY_restart
        exact ym_in (c := 5) hb (by decide) (br_t rfl ⟨i5, br_t (by rw [r1y, z]; rfl) (br_f (by rw [ery]; exact nI_nlt (b := 999) y (by omega)) ⟨rfl, Z, H, Q, B, M, I, hx, hy⟩)⟩)
    · unfold wpY_restart
      exact ym_in (c := 5) hb (by decide) (br_t rfl ⟨i5, br_f (by rw [r1y]; exact fun q => z ((nI_eq (b := 3) (by omega) (by decide)).mp q)) ⟨rfl, Z, H, Q, B, M, I, hx, hy⟩⟩)
theorem i_vc_heartbeat {k : Nat} {u : SX} {v : SY} (I : i_Rel k u v) (hk : k + 5 ≤ 2563) (v1 : Int32) : wpX_heartbeat (fun r u' => wpY_heartbeat (fun r' v' => r' = r ∧ i_Rel (k + 5) u' v') v v1) u v1 := by
  obtain ⟨Z, H, Q, B, M, I, hu, hv⟩ := I
  obtain ⟨f_PREPARE, f_PREPARE_OK, f_GET_STATE, f_NEW_STATE, f_START_VIEW_CHANGE, f_DO_VIEW_CHANGE, f_GET_LOG, f_NEW_LOG, f_START_VIEW, f_clients, f_capacity, f_letters, f_restarts, f_mailHead, f_mailTail, f_acks, f_votes, f_bestVoter, f_bestLast, f_bestLength, f_bestCommit, a_status, a_view, a_last, a_nonce, a_cell, a_length, a_commit, a_logClient, a_logNumber, a_logOp, a_registers, a_tableNumber, a_tableResult, a_mailKind, a_mailFrom, a_mailTo, a_mailView, a_mailLast, a_mailCommit, a_mailLength, a_mailBase, a_mailCount, a_mailClient, a_mailNumber, a_mailOp, a_voted, a_voteCommit, a_slotState, a_slotFrom, a_slotTo, a_slotNonce, a_slotView, a_slotLeader, a_slotLength, a_slotCommit, a_slotClient, a_slotNumber, a_slotOp⟩ := u
  obtain ⟨hZ, hR, hM, hB⟩ := hu
  have hx := sx_mk hZ hR hM hB (f_PREPARE := f_PREPARE) (f_PREPARE_OK := f_PREPARE_OK) (f_GET_STATE := f_GET_STATE) (f_NEW_STATE := f_NEW_STATE) (f_START_VIEW_CHANGE := f_START_VIEW_CHANGE) (f_DO_VIEW_CHANGE := f_DO_VIEW_CHANGE) (f_GET_LOG := f_GET_LOG) (f_NEW_LOG := f_NEW_LOG) (f_START_VIEW := f_START_VIEW)
  obtain ⟨f_clients_y, f_capacity_y, f_slots_y, f_restarts_y, a_status_y, a_last_y, a_cell_y, a_view_y, a_nonce_y, a_length_y, a_commit_y, a_log_y, a_state_y, a_from_y, a_to_y, a_leader_y, a_member_y⟩ := v
  obtain ⟨kZ, kR, kT, km⟩ := hv
  have hy := sy_mk kZ kR kT km
  have zk := hZ.2.1
  unfold rz_ok at zk
  unfold wpX_heartbeat
  rcases ix_spl v1 5 (by decide) with h1 | ⟨b, hb, rfl⟩
  · refine xm_rep_f h1 (br_t rfl ?_)
    unfold wpY_heartbeat
    exact ym_no (y := 5) h1 (br_f (by decide) ⟨rfl, Z, H, Q, B, M, I, hx, hy⟩)
  · obtain ⟨ok, ⟨s1, _⟩, _⟩ := hR b hb
    obtain ⟨_, ⟨t1, _⟩, _⟩ := kR b hb
    have ok1 := ok.1
    have r1 := ix_rd (by omega : b < 2000) s1
    have r1y := ix_rd (by omega : b < 2000) t1
    have i5 := ix_5 hb
    refine xm_rep_t hb (br_f (by decide) ⟨i5, pk_eq (H b).1 0 (fun z => ?_) (fun z => ?_) (hx := r1)⟩)
    · have e0 : a_status_y (nI b).toNatClampNeg = 0 := by rw [r1y, z]; rfl
      refine xm_leads hx hb (fun y => br_f (by decide) ?_) (fun y => br_t rfl ?_)
      · refine xm_spread (fr := 0) (H0 := H) hb ⟨z, y⟩ (Nat.zero_le _) (fun c hc fc => iv_sp I hb hc z y fc) hx (fun u1 Q1 B1 hu1 => ?_)
        clear hZ hR hM hB hx s1 r1
        obtain ⟨f_PREPARE, f_PREPARE_OK, f_GET_STATE, f_NEW_STATE, f_START_VIEW_CHANGE, f_DO_VIEW_CHANGE, f_GET_LOG, f_NEW_LOG, f_START_VIEW, f_clients, f_capacity, f_letters, f_restarts, f_mailHead, f_mailTail, f_acks, f_votes, f_bestVoter, f_bestLast, f_bestLength, f_bestCommit, a_status, a_view, a_last, a_nonce, a_cell, a_length, a_commit, a_logClient, a_logNumber, a_logOp, a_registers, a_tableNumber, a_tableResult, a_mailKind, a_mailFrom, a_mailTo, a_mailView, a_mailLast, a_mailCommit, a_mailLength, a_mailBase, a_mailCount, a_mailClient, a_mailNumber, a_mailOp, a_voted, a_voteCommit, a_slotState, a_slotFrom, a_slotTo, a_slotNonce, a_slotView, a_slotLeader, a_slotLength, a_slotCommit, a_slotClient, a_slotNumber, a_slotOp⟩ := u1
        show wpY_heartbeat (fun r' v' => r' = 1 + nI (cn_5 (vg_fol H Z.2.2.2.2.1 b)) ∧ i_Rel (k + 5) (f_PREPARE, f_PREPARE_OK, f_GET_STATE, f_NEW_STATE, f_START_VIEW_CHANGE, f_DO_VIEW_CHANGE, f_GET_LOG, f_NEW_LOG, f_START_VIEW, f_clients, f_capacity, f_letters, f_restarts, f_mailHead, f_mailTail, f_acks, f_votes, f_bestVoter, f_bestLast, f_bestLength, f_bestCommit, a_status, a_view, a_last, a_nonce, a_cell, a_length, a_commit, a_logClient, a_logNumber, a_logOp, a_registers, a_tableNumber, a_tableResult, a_mailKind, a_mailFrom, a_mailTo, a_mailView, a_mailLast, a_mailCommit, a_mailLength, a_mailBase, a_mailCount, a_mailClient, a_mailNumber, a_mailOp, a_voted, a_voteCommit, a_slotState, a_slotFrom, a_slotTo, a_slotNonce, a_slotView, a_slotLeader, a_slotLength, a_slotCommit, a_slotClient, a_slotNumber, a_slotOp) v') (f_clients_y, f_capacity_y, f_slots_y, f_restarts_y, a_status_y, a_last_y, a_cell_y, a_view_y, a_nonce_y, a_length_y, a_commit_y, a_log_y, a_state_y, a_from_y, a_to_y, a_leader_y, a_member_y) (nI b)
        unfold wpY_heartbeat
        refine ym_in (c := 5) hb (by decide) (br_t rfl ⟨i5, br_t e0 (ym_np hy hb (fun y2 => br_f (by decide) ?_) (fun y2 => absurd ⟨z, y⟩ y2))⟩)
        refine ym_spread (H0 := H) hb ⟨z, by omega⟩ hy (fun w hw => ?_)
        obtain ⟨f_clients_z, f_capacity_z, f_slots_z, f_restarts_z, a_status_z, a_last_z, a_cell_z, a_view_z, a_nonce_z, a_length_z, a_commit_z, a_log_z, a_state_z, a_from_z, a_to_z, a_leader_z, a_member_z⟩ := w
        exact ⟨rfl, _, _, _, _, _, iv_spr I hb z y, hu1, hw⟩
      · unfold wpY_heartbeat
        exact ym_in (c := 5) hb (by decide) (br_t rfl ⟨i5, br_t e0 (ym_np hy hb (fun y2 => absurd y2.2 y) (fun y2 => br_t rfl ⟨rfl, Z, H, Q, B, M, I, hx, hy⟩))⟩)
    · unfold wpY_heartbeat
      exact ym_in (c := 5) hb (by decide) (br_t rfl ⟨i5, br_f (by rw [r1y]; exact fun q => z ((nI_eq (b := 0) (by omega) (by decide)).mp q)) ⟨rfl, Z, H, Q, B, M, I, hx, hy⟩⟩)
theorem i_vc_ask {k : Nat} {u : SX} {v : SY} (I : i_Rel k u v) (hk : k + 5 ≤ 2563) (v1 : Int32) : wpX_ask (fun r u' => wpY_ask (fun r' v' => r' = r ∧ i_Rel (k + 5) u' v') v v1) u v1 := by
  obtain ⟨Z, H, Q, B, M, I, hu, hv⟩ := I
  obtain ⟨f_PREPARE, f_PREPARE_OK, f_GET_STATE, f_NEW_STATE, f_START_VIEW_CHANGE, f_DO_VIEW_CHANGE, f_GET_LOG, f_NEW_LOG, f_START_VIEW, f_clients, f_capacity, f_letters, f_restarts, f_mailHead, f_mailTail, f_acks, f_votes, f_bestVoter, f_bestLast, f_bestLength, f_bestCommit, a_status, a_view, a_last, a_nonce, a_cell, a_length, a_commit, a_logClient, a_logNumber, a_logOp, a_registers, a_tableNumber, a_tableResult, a_mailKind, a_mailFrom, a_mailTo, a_mailView, a_mailLast, a_mailCommit, a_mailLength, a_mailBase, a_mailCount, a_mailClient, a_mailNumber, a_mailOp, a_voted, a_voteCommit, a_slotState, a_slotFrom, a_slotTo, a_slotNonce, a_slotView, a_slotLeader, a_slotLength, a_slotCommit, a_slotClient, a_slotNumber, a_slotOp⟩ := u
  obtain ⟨hZ, hR, hM, hB⟩ := hu
  have hx := sx_mk hZ hR hM hB (f_PREPARE := f_PREPARE) (f_PREPARE_OK := f_PREPARE_OK) (f_GET_STATE := f_GET_STATE) (f_NEW_STATE := f_NEW_STATE) (f_START_VIEW_CHANGE := f_START_VIEW_CHANGE) (f_DO_VIEW_CHANGE := f_DO_VIEW_CHANGE) (f_GET_LOG := f_GET_LOG) (f_NEW_LOG := f_NEW_LOG) (f_START_VIEW := f_START_VIEW)
  obtain ⟨f_clients_y, f_capacity_y, f_slots_y, f_restarts_y, a_status_y, a_last_y, a_cell_y, a_view_y, a_nonce_y, a_length_y, a_commit_y, a_log_y, a_state_y, a_from_y, a_to_y, a_leader_y, a_member_y⟩ := v
  obtain ⟨kZ, kR, kT, km⟩ := hv
  have hy := sy_mk kZ kR kT km
  have zk := hZ.2.1
  unfold rz_ok at zk
  unfold wpX_ask
  rcases ix_spl v1 5 (by decide) with h1 | ⟨b, hb, rfl⟩
  · refine xm_rep_f h1 (br_t rfl ?_)
    unfold wpY_ask
    exact ym_no (y := 5) h1 (br_f (by decide) ⟨rfl, Z, H, Q, B, M, I, hx, hy⟩)
  · obtain ⟨ok, ⟨s1, _⟩, _⟩ := hR b hb
    obtain ⟨_, ⟨t1, _⟩, _⟩ := kR b hb
    have ok1 := ok.1
    have r1 := ix_rd (by omega : b < 2000) s1
    have r1y := ix_rd (by omega : b < 2000) t1
    have i5 := ix_5 hb
    refine xm_rep_t hb (br_f (by decide) ⟨i5, pk_eq (H b).1 2 (fun z => ⟨6, ?_⟩) (fun z => ?_) (hx := r1)⟩)
    · have h := xa_loop (Z := Z) (H := H) (hd := 0) (tl := 0) (Q := Q) (B := B) (post := fun r u' => wpY_ask (fun r' v' => r' = r ∧ i_Rel (k + 5) u' v') (f_clients_y, f_capacity_y, f_slots_y, f_restarts_y, a_status_y, a_last_y, a_cell_y, a_view_y, a_nonce_y, a_length_y, a_commit_y, a_log_y, a_state_y, a_from_y, a_to_y, a_leader_y, a_member_y) (nI b)) hb ?_ 5 0 6 (f_PREPARE, f_PREPARE_OK, f_GET_STATE, f_NEW_STATE, f_START_VIEW_CHANGE, f_DO_VIEW_CHANGE, f_GET_LOG, f_NEW_LOG, f_START_VIEW, f_clients, f_capacity, f_letters, f_restarts, f_mailHead, f_mailTail, f_acks, f_votes, f_bestVoter, f_bestLast, f_bestLength, f_bestCommit, a_status, a_view, a_last, a_nonce, a_cell, a_length, a_commit, a_logClient, a_logNumber, a_logOp, a_registers, a_tableNumber, a_tableResult, a_mailKind, a_mailFrom, a_mailTo, a_mailView, a_mailLast, a_mailCommit, a_mailLength, a_mailBase, a_mailCount, a_mailClient, a_mailNumber, a_mailOp, a_voted, a_voteCommit, a_slotState, a_slotFrom, a_slotTo, a_slotNonce, a_slotView, a_slotLeader, a_slotLength, a_slotCommit, a_slotClient, a_slotNumber, a_slotOp) (by omega) (by omega) hx
      · exact h
      · intro u1 hu1
        unfold wpY_ask
        refine ym_in (c := 5) hb (by decide) (br_t rfl ⟨i5, br_t (by rw [r1y, z]; rfl) ⟨6, ?_⟩⟩)
        have h2 := ya_loop (Z := Z) (H := H) (M := M) (post := fun r' v' => r' = nI (ak_T H Z.2.2.2.2.1 b Z.2.2.1 Z.2.2.2.2.2 5).2 ∧ i_Rel (k + 5) u1 v') hb ?_ 5 0 6 (f_clients_y, f_capacity_y, f_slots_y, f_restarts_y, a_status_y, a_last_y, a_cell_y, a_view_y, a_nonce_y, a_length_y, a_commit_y, a_log_y, a_state_y, a_from_y, a_to_y, a_leader_y, a_member_y) (by omega) (by omega) hy
        · exact h2
        · intro w hw
          exact ⟨rfl, _, _, _, _, _, iv_ask I hb z 5 (by omega), hu1, hw⟩
    · unfold wpY_ask
      exact ym_in (c := 5) hb (by decide) (br_t rfl ⟨i5, br_f (by rw [r1y]; exact fun q => z ((nI_eq (b := 2) (by omega) (by decide)).mp q)) ⟨rfl, Z, H, Q, B, M, I, hx, hy⟩⟩)
end
section
/-! timeout, resend -/
theorem iv_lv {Z : vg_Z} {H : Nat → vg_R} (I : iv_I Z H) {b : Nat} (hb : b < 5) (h : (H b).1 ≤ 1) : iv_I Z (fs_set H b (ga_mv (H b) ((H b).2.1 + 1))) := by
  refine iv_mv I (w := (H b).2.1 + 1) (fun c hc => ?_)
  by_cases e : c = b
  · rw [e, fs_eq]
    have := iv_lsvw I hb h
    exact Or.inr ⟨rfl, h, by omega⟩
  · rw [fs_ne e]; exact Or.inl rfl
theorem iv_mem {Z : vg_Z} {H : Nat → vg_R} (I : iv_I Z H) {ce : Nat → Nat} {r w : Nat} (hr : r < 5) (h1 : (H r).1 = 1) (h2 : (H r).2.1 = w) : iv_I Z (fun b => if vg_mem H ce r w b = true then ga_mv (H b) w else H b) := by
  refine iv_mv I (w := w) (fun c hc => ?_)
  by_cases e : vg_mem H ce r w c = true
  · rw [if_pos e]; exact Or.inr ⟨rfl, iv_mls I hr hc h1 h2 e⟩
  · rw [if_neg e]; exact Or.inl rfl
/-- X gathers, then Y gathers -/
theorem gt_both {Z : vg_Z} {H : Nat → vg_R} {Q : Nat → vg_M} {B : vg_B} {M : Nat → Int32} {k r w : Nat} {u : SX} {v : SY} (I : iv_I Z H) (hr : r < 5) (h : (H r).1 = 1 ∧ (H r).2.1 = w) (hw : w ≤ 999) (hu : sx_R Z H 0 0 Q B u) (hv : sy_R Z H M v)
    {post : Int32 → SX → Prop} (hp : ∀ (a : Int32) (u' : SX), (∀ post' : Int32 → SY → Prop, (∀ v', i_Rel k u' v' → post' a v') → wpY_gather post' v (nI r) (nI w)) → post a u') : wpX_gather post u (nI r) := by
  refine xm_gather hr h hw hu (fun _ _ c d g => iv_svok I g) (fun z u' Q' B' hu' => hp 0 u' (fun post' hp' => ?_)) (fun z zq a c g u' Q' B' hu' => hp 1 u' (fun post' hp' => ?_))
  · refine ym_gather hv hr hw (fun _ _ c d g => (iv_svok I g).1) (fun _ v' M' hv' => hp' v' ⟨_, _, _, _, _, iv_mem I hr h.1 h.2, hu', hv'⟩) (fun y yq => absurd ⟨y, yq⟩ z)
  · refine ym_gather hv hr hw (fun _ _ c d g => (iv_svok I g).1) (fun y => absurd ⟨z, zq⟩ y) (fun _ _ a' c' g' v' M' hv' => hp' v' ?_)
    obtain ⟨e1, e2⟩ := gb_uni g g'
    rw [← e1, ← e2] at hv'
    exact ⟨_, _, _, _, _, iv_gat I z zq g (fun b hb jb => iv_mls I hr hb h.1 h.2 jb), hu', hv'⟩
theorem i_vc_resend {k : Nat} {u : SX} {v : SY} (I : i_Rel k u v) (hk : k + 5 ≤ 2563) (v1 : Int32) : wpX_resend (fun r u' => wpY_resend (fun r' v' => r' = r ∧ i_Rel (k + 5) u' v') v v1) u v1 := by
  obtain ⟨Z, H, Q, B, M, I, hu, hv⟩ := I
  obtain ⟨f_PREPARE, f_PREPARE_OK, f_GET_STATE, f_NEW_STATE, f_START_VIEW_CHANGE, f_DO_VIEW_CHANGE, f_GET_LOG, f_NEW_LOG, f_START_VIEW, f_clients, f_capacity, f_letters, f_restarts, f_mailHead, f_mailTail, f_acks, f_votes, f_bestVoter, f_bestLast, f_bestLength, f_bestCommit, a_status, a_view, a_last, a_nonce, a_cell, a_length, a_commit, a_logClient, a_logNumber, a_logOp, a_registers, a_tableNumber, a_tableResult, a_mailKind, a_mailFrom, a_mailTo, a_mailView, a_mailLast, a_mailCommit, a_mailLength, a_mailBase, a_mailCount, a_mailClient, a_mailNumber, a_mailOp, a_voted, a_voteCommit, a_slotState, a_slotFrom, a_slotTo, a_slotNonce, a_slotView, a_slotLeader, a_slotLength, a_slotCommit, a_slotClient, a_slotNumber, a_slotOp⟩ := u
  obtain ⟨hZ, hR, hM, hB⟩ := hu
  have hx := sx_mk hZ hR hM hB (f_PREPARE := f_PREPARE) (f_PREPARE_OK := f_PREPARE_OK) (f_GET_STATE := f_GET_STATE) (f_NEW_STATE := f_NEW_STATE) (f_START_VIEW_CHANGE := f_START_VIEW_CHANGE) (f_DO_VIEW_CHANGE := f_DO_VIEW_CHANGE) (f_GET_LOG := f_GET_LOG) (f_NEW_LOG := f_NEW_LOG) (f_START_VIEW := f_START_VIEW)
  obtain ⟨f_clients_y, f_capacity_y, f_slots_y, f_restarts_y, a_status_y, a_last_y, a_cell_y, a_view_y, a_nonce_y, a_length_y, a_commit_y, a_log_y, a_state_y, a_from_y, a_to_y, a_leader_y, a_member_y⟩ := v
  obtain ⟨kZ, kR, kT, km⟩ := hv
  have hy := sy_mk kZ kR kT km
  have zk := hZ.2.1
  unfold rz_ok at zk
  unfold wpX_resend
  rcases ix_spl v1 5 (by decide) with h1 | ⟨b, hb, rfl⟩
  · refine xm_rep_f h1 (br_t rfl ?_)
    unfold wpY_resend
    exact ym_no (y := 5) h1 (br_f (by decide) ⟨rfl, Z, H, Q, B, M, I, hx, hy⟩)
  · obtain ⟨ok, ⟨s1, _⟩, _⟩ := hR b hb
    obtain ⟨_, ⟨t1, t2, _⟩, _⟩ := kR b hb
    have ok1 := ok.1
    have r1 := ix_rd (by omega : b < 2000) s1
    have r1y := ix_rd (by omega : b < 2000) t1
    have r2y := ix_rd (by omega : b < 2000) t2
    have i5 := ix_5 hb
    refine xm_rep_t hb (br_f (by decide) ⟨i5, pk_eq (H b).1 1 (fun z => ?_) (fun z => ?_) (hx := r1)⟩)
    · refine gt_both (k := k + 5) I hb ⟨z, rfl⟩ (by omega) hx hy (fun a u' h => ?_)
      obtain ⟨f_PREPARE, f_PREPARE_OK, f_GET_STATE, f_NEW_STATE, f_START_VIEW_CHANGE, f_DO_VIEW_CHANGE, f_GET_LOG, f_NEW_LOG, f_START_VIEW, f_clients, f_capacity, f_letters, f_restarts, f_mailHead, f_mailTail, f_acks, f_votes, f_bestVoter, f_bestLast, f_bestLength, f_bestCommit, a_status, a_view, a_last, a_nonce, a_cell, a_length, a_commit, a_logClient, a_logNumber, a_logOp, a_registers, a_tableNumber, a_tableResult, a_mailKind, a_mailFrom, a_mailTo, a_mailView, a_mailLast, a_mailCommit, a_mailLength, a_mailBase, a_mailCount, a_mailClient, a_mailNumber, a_mailOp, a_voted, a_voteCommit, a_slotState, a_slotFrom, a_slotTo, a_slotNonce, a_slotView, a_slotLeader, a_slotLength, a_slotCommit, a_slotClient, a_slotNumber, a_slotOp⟩ := u'
      show wpY_resend (fun r' v' => r' = a ∧ i_Rel (k + 5) (f_PREPARE, f_PREPARE_OK, f_GET_STATE, f_NEW_STATE, f_START_VIEW_CHANGE, f_DO_VIEW_CHANGE, f_GET_LOG, f_NEW_LOG, f_START_VIEW, f_clients, f_capacity, f_letters, f_restarts, f_mailHead, f_mailTail, f_acks, f_votes, f_bestVoter, f_bestLast, f_bestLength, f_bestCommit, a_status, a_view, a_last, a_nonce, a_cell, a_length, a_commit, a_logClient, a_logNumber, a_logOp, a_registers, a_tableNumber, a_tableResult, a_mailKind, a_mailFrom, a_mailTo, a_mailView, a_mailLast, a_mailCommit, a_mailLength, a_mailBase, a_mailCount, a_mailClient, a_mailNumber, a_mailOp, a_voted, a_voteCommit, a_slotState, a_slotFrom, a_slotTo, a_slotNonce, a_slotView, a_slotLeader, a_slotLength, a_slotCommit, a_slotClient, a_slotNumber, a_slotOp) v') (f_clients_y, f_capacity_y, f_slots_y, f_restarts_y, a_status_y, a_last_y, a_cell_y, a_view_y, a_nonce_y, a_length_y, a_commit_y, a_log_y, a_state_y, a_from_y, a_to_y, a_leader_y, a_member_y) (nI b)
      unfold wpY_resend
      refine ym_in (c := 5) hb (by decide) (br_t rfl ⟨i5, br_t (by rw [r1y, z]; rfl) ⟨ix_13 (by omega), ?_⟩⟩)
      rw [r2y]
      refine h _ (fun v' hv' => ?_)
      obtain ⟨f_clients_z, f_capacity_z, f_slots_z, f_restarts_z, a_status_z, a_last_z, a_cell_z, a_view_z, a_nonce_z, a_length_z, a_commit_z, a_log_z, a_state_z, a_from_z, a_to_z, a_leader_z, a_member_z⟩ := v'
      exact ⟨rfl, hv'⟩
    · unfold wpY_resend
      exact ym_in (c := 5) hb (by decide) (br_t rfl ⟨i5, br_f (by rw [r1y]; exact fun q => z ((nI_eq (b := 1) (by omega) (by decide)).mp q)) ⟨rfl, Z, H, Q, B, M, I, hx, hy⟩⟩)
theorem i_vc_timeout {k : Nat} {u : SX} {v : SY} (I : i_Rel k u v) (hk : k + 5 ≤ 2563) (v1 : Int32) : wpX_timeout (fun r u' => wpY_timeout (fun r' v' => r' = r ∧ i_Rel (k + 5) u' v') v v1) u v1 := by
  obtain ⟨Z, H, Q, B, M, I, hu, hv⟩ := I
  obtain ⟨f_PREPARE, f_PREPARE_OK, f_GET_STATE, f_NEW_STATE, f_START_VIEW_CHANGE, f_DO_VIEW_CHANGE, f_GET_LOG, f_NEW_LOG, f_START_VIEW, f_clients, f_capacity, f_letters, f_restarts, f_mailHead, f_mailTail, f_acks, f_votes, f_bestVoter, f_bestLast, f_bestLength, f_bestCommit, a_status, a_view, a_last, a_nonce, a_cell, a_length, a_commit, a_logClient, a_logNumber, a_logOp, a_registers, a_tableNumber, a_tableResult, a_mailKind, a_mailFrom, a_mailTo, a_mailView, a_mailLast, a_mailCommit, a_mailLength, a_mailBase, a_mailCount, a_mailClient, a_mailNumber, a_mailOp, a_voted, a_voteCommit, a_slotState, a_slotFrom, a_slotTo, a_slotNonce, a_slotView, a_slotLeader, a_slotLength, a_slotCommit, a_slotClient, a_slotNumber, a_slotOp⟩ := u
  obtain ⟨hZ, hR, hM, hB⟩ := hu
  have hx := sx_mk hZ hR hM hB (f_PREPARE := f_PREPARE) (f_PREPARE_OK := f_PREPARE_OK) (f_GET_STATE := f_GET_STATE) (f_NEW_STATE := f_NEW_STATE) (f_START_VIEW_CHANGE := f_START_VIEW_CHANGE) (f_DO_VIEW_CHANGE := f_DO_VIEW_CHANGE) (f_GET_LOG := f_GET_LOG) (f_NEW_LOG := f_NEW_LOG) (f_START_VIEW := f_START_VIEW)
  obtain ⟨f_clients_y, f_capacity_y, f_slots_y, f_restarts_y, a_status_y, a_last_y, a_cell_y, a_view_y, a_nonce_y, a_length_y, a_commit_y, a_log_y, a_state_y, a_from_y, a_to_y, a_leader_y, a_member_y⟩ := v
  obtain ⟨kZ, kR, kT, km⟩ := hv
  have hy := sy_mk kZ kR kT km
  have zk := hZ.2.1
  unfold rz_ok at zk
  unfold wpX_timeout
  rcases ix_spl v1 5 (by decide) with h1 | ⟨b, hb, rfl⟩
  · refine xm_rep_f h1 (br_t rfl ?_)
    unfold wpY_timeout
    exact ym_no (y := 5) h1 (br_f (by decide) ⟨rfl, Z, H, Q, B, M, I, hx, hy⟩)
  · obtain ⟨ok, ⟨s1, s2, _⟩, _⟩ := hR b hb
    obtain ⟨_, ⟨t1, t2, t3, t4, t5, t6⟩, ly⟩ := kR b hb
    have ok1 := ok.1
    have r1 := ix_rd (by omega : b < 2000) s1
    have r2 := ix_rd (by omega : b < 2000) s2
    have r2y := ix_rd (by omega : b < 2000) t2
    have i5 := ix_5 hb
    have i13 := ix_13 (by omega : b < 13)
    have main : (H b).1 ≤ 1 → ¬ ((H b).1 = 0 ∧ (H b).2.1 % 5 = b) → wX_timeout_41 (fun r u' => wpY_timeout (fun r' v' => r' = r ∧ i_Rel (k + 5) u' v') (f_clients_y, f_capacity_y, f_slots_y, f_restarts_y, a_status_y, a_last_y, a_cell_y, a_view_y, a_nonce_y, a_length_y, a_commit_y, a_log_y, a_state_y, a_from_y, a_to_y, a_leader_y, a_member_y) (nI b)) (nI b) f_PREPARE f_PREPARE_OK f_GET_STATE f_NEW_STATE f_START_VIEW_CHANGE f_DO_VIEW_CHANGE f_GET_LOG f_NEW_LOG f_START_VIEW f_clients f_capacity f_letters f_restarts f_mailHead f_mailTail f_acks f_votes f_bestVoter f_bestLast f_bestLength f_bestCommit a_status a_view a_last a_nonce a_cell a_length a_commit a_logClient a_logNumber a_logOp a_registers a_tableNumber a_tableResult a_mailKind a_mailFrom a_mailTo a_mailView a_mailLast a_mailCommit a_mailLength a_mailBase a_mailCount a_mailClient a_mailNumber a_mailOp a_voted a_voteCommit a_slotState a_slotFrom a_slotTo a_slotNonce a_slotView a_slotLeader a_slotLength a_slotCommit a_slotClient a_slotNumber a_slotOp := by
      intro y1 y2
      refine ⟨i5, pk_lt (H b).2.1 999 (fun z => ⟨i5, ?_⟩) (fun z => ?_) (hx := r2)⟩
      · rw [r2, nI_1]
        refine xm_leave hx hb (by omega) (fun u1 hu1 => ?_)
        have hu2 : sx_R Z (fs_set H b (ga_mv (H b) ((H b).2.1 + 1))) 0 0 Q B u1 := hu1
        have hy1 : sy_R Z (fs_set H b (ga_mv (H b) ((H b).2.1 + 1))) M (f_clients_y, f_capacity_y, f_slots_y, f_restarts_y, upd a_status_y b 1, a_last_y, a_cell_y, upd a_view_y b (nI ((H b).2.1 + 1)), a_nonce_y, a_length_y, a_commit_y, a_log_y, a_state_y, a_from_y, a_to_y, a_leader_y, a_member_y) := by
          refine sy_mk kZ ?_ (ry_keepT hb kT (fun j hj => ⟨pk_un hj, rfl, rfl, rfl⟩) (fun j hj => rfl)) km
          exact ry_set kR ⟨by unfold ga_mv; dsimp only; omega, ok.2⟩ ⟨⟨pk_us, pk_us, t3, t4, t5, t6⟩, ly⟩ (fun j hj => ⟨pk_un hj, pk_un hj, rfl, rfl, rfl, rfl⟩) (fun j hj => rfl)
        have g := @gt_both Z (fs_set H b (ga_mv (H b) ((H b).2.1 + 1))) Q B M (k + 5) b ((H b).2.1 + 1) u1 _ (iv_lv I hb y1) hb (by rw [fs_eq]; exact ⟨rfl, rfl⟩) (by omega) hu2 hy1
        clear hZ hR hM hB hx s1 s2 r1 r2 hu1 hu2
        obtain ⟨f_PREPARE, f_PREPARE_OK, f_GET_STATE, f_NEW_STATE, f_START_VIEW_CHANGE, f_DO_VIEW_CHANGE, f_GET_LOG, f_NEW_LOG, f_START_VIEW, f_clients, f_capacity, f_letters, f_restarts, f_mailHead, f_mailTail, f_acks, f_votes, f_bestVoter, f_bestLast, f_bestLength, f_bestCommit, a_status, a_view, a_last, a_nonce, a_cell, a_length, a_commit, a_logClient, a_logNumber, a_logOp, a_registers, a_tableNumber, a_tableResult, a_mailKind, a_mailFrom, a_mailTo, a_mailView, a_mailLast, a_mailCommit, a_mailLength, a_mailBase, a_mailCount, a_mailClient, a_mailNumber, a_mailOp, a_voted, a_voteCommit, a_slotState, a_slotFrom, a_slotTo, a_slotNonce, a_slotView, a_slotLeader, a_slotLength, a_slotCommit, a_slotClient, a_slotNumber, a_slotOp⟩ := u1
        refine g (fun a u' h => ?_)
        clear g
        obtain ⟨f_PREPARE, f_PREPARE_OK, f_GET_STATE, f_NEW_STATE, f_START_VIEW_CHANGE, f_DO_VIEW_CHANGE, f_GET_LOG, f_NEW_LOG, f_START_VIEW, f_clients, f_capacity, f_letters, f_restarts, f_mailHead, f_mailTail, f_acks, f_votes, f_bestVoter, f_bestLast, f_bestLength, f_bestCommit, a_status, a_view, a_last, a_nonce, a_cell, a_length, a_commit, a_logClient, a_logNumber, a_logOp, a_registers, a_tableNumber, a_tableResult, a_mailKind, a_mailFrom, a_mailTo, a_mailView, a_mailLast, a_mailCommit, a_mailLength, a_mailBase, a_mailCount, a_mailClient, a_mailNumber, a_mailOp, a_voted, a_voteCommit, a_slotState, a_slotFrom, a_slotTo, a_slotNonce, a_slotView, a_slotLeader, a_slotLength, a_slotCommit, a_slotClient, a_slotNumber, a_slotOp⟩ := u'
        show wpY_timeout (fun r' v' => r' = a ∧ i_Rel (k + 5) (f_PREPARE, f_PREPARE_OK, f_GET_STATE, f_NEW_STATE, f_START_VIEW_CHANGE, f_DO_VIEW_CHANGE, f_GET_LOG, f_NEW_LOG, f_START_VIEW, f_clients, f_capacity, f_letters, f_restarts, f_mailHead, f_mailTail, f_acks, f_votes, f_bestVoter, f_bestLast, f_bestLength, f_bestCommit, a_status, a_view, a_last, a_nonce, a_cell, a_length, a_commit, a_logClient, a_logNumber, a_logOp, a_registers, a_tableNumber, a_tableResult, a_mailKind, a_mailFrom, a_mailTo, a_mailView, a_mailLast, a_mailCommit, a_mailLength, a_mailBase, a_mailCount, a_mailClient, a_mailNumber, a_mailOp, a_voted, a_voteCommit, a_slotState, a_slotFrom, a_slotTo, a_slotNonce, a_slotView, a_slotLeader, a_slotLength, a_slotCommit, a_slotClient, a_slotNumber, a_slotOp) v') (f_clients_y, f_capacity_y, f_slots_y, f_restarts_y, a_status_y, a_last_y, a_cell_y, a_view_y, a_nonce_y, a_length_y, a_commit_y, a_log_y, a_state_y, a_from_y, a_to_y, a_leader_y, a_member_y) (nI b)
        unfold wpY_timeout
        refine ym_in (c := 5) hb (by decide) (br_t rfl (ym_act hy hb (fun _ => br_f (by decide) (ym_np hy hb (fun q => absurd q y2) (fun _ => br_t rfl ⟨i13, br_t (by rw [r2y]; exact nI_lt (b := 999) z (by decide)) ⟨i5, nm_e ⟨i13, i13, nm_e ⟨i13, ?_⟩⟩⟩⟩))) (fun q => absurd y1 (by omega))))
        rw [r2y, nI_1, ix_c (by omega), pk_us]
        refine h _ (fun v' hv' => ?_)
        obtain ⟨f_clients_z, f_capacity_z, f_slots_z, f_restarts_z, a_status_z, a_last_z, a_cell_z, a_view_z, a_nonce_z, a_length_z, a_commit_z, a_log_z, a_state_z, a_from_z, a_to_z, a_leader_z, a_member_z⟩ := v'
        exact ⟨rfl, hv'⟩
      · show wpY_timeout (fun r' v' => r' = -6 ∧ i_Rel (k + 5) (f_PREPARE, f_PREPARE_OK, f_GET_STATE, f_NEW_STATE, f_START_VIEW_CHANGE, f_DO_VIEW_CHANGE, f_GET_LOG, f_NEW_LOG, f_START_VIEW, f_clients, f_capacity, f_letters, f_restarts, f_mailHead, f_mailTail, f_acks, f_votes, f_bestVoter, f_bestLast, f_bestLength, f_bestCommit, a_status, a_view, a_last, a_nonce, a_cell, a_length, a_commit, a_logClient, a_logNumber, a_logOp, a_registers, a_tableNumber, a_tableResult, a_mailKind, a_mailFrom, a_mailTo, a_mailView, a_mailLast, a_mailCommit, a_mailLength, a_mailBase, a_mailCount, a_mailClient, a_mailNumber, a_mailOp, a_voted, a_voteCommit, a_slotState, a_slotFrom, a_slotTo, a_slotNonce, a_slotView, a_slotLeader, a_slotLength, a_slotCommit, a_slotClient, a_slotNumber, a_slotOp) v') (f_clients_y, f_capacity_y, f_slots_y, f_restarts_y, a_status_y, a_last_y, a_cell_y, a_view_y, a_nonce_y, a_length_y, a_commit_y, a_log_y, a_state_y, a_from_y, a_to_y, a_leader_y, a_member_y) (nI b)
        unfold wpY_timeout
        exact ym_in (c := 5) hb (by decide) (br_t rfl (ym_act hy hb (fun _ => br_f (by decide) (ym_np hy hb (fun q => absurd q y2) (fun _ => br_t rfl ⟨i13, br_f (by rw [r2y]; exact nI_nlt (b := 999) z (by omega)) ⟨rfl, Z, H, Q, B, M, I, hx, hy⟩⟩))) (fun q => absurd y1 (by omega))))
    refine xm_rep_t hb (br_f (by decide) (xm_act hx hb (fun y1 => br_f (by decide) ⟨i5, pk_eq (H b).1 0 (fun z => ?_) (fun z => main y1 (fun q => z q.1)) (hx := r1)⟩) (fun y1 => br_t rfl ?_)))
    · refine xm_leads hx hb (fun y => br_f (by decide) ?_) (fun y => br_t rfl (main y1 (fun q => y q.2)))
      unfold wpY_timeout
      exact ym_in (c := 5) hb (by decide) (br_t rfl (ym_act hy hb (fun _ => br_f (by decide) (ym_np hy hb (fun _ => br_f (by decide) ⟨rfl, Z, H, Q, B, M, I, hx, hy⟩) (fun q => absurd ⟨z, y⟩ q))) (fun q => absurd y1 (by omega))))
    · unfold wpY_timeout
      exact ym_in (c := 5) hb (by decide) (br_t rfl (ym_act hy hb (fun q => absurd q (by omega)) (fun _ => br_t rfl ⟨rfl, Z, H, Q, B, M, I, hx, hy⟩)))
end
section
/-! fetch -/
section
variable {f_clients f_capacity f_slots f_restarts : Int32} {a_status a_last a_cell a_view a_nonce a_length a_commit a_log a_state a_from a_to a_leader a_member : Nat → Int32} {Z : vg_Z} {H : Nat → vg_R} {M : Nat → Int32} {post : Int32 → SY → Prop}
theorem yf_151 {r c : Nat} {x : vg_R} (hu : sy_R Z (fs_set H r x) M (f_clients, f_capacity, f_slots, f_restarts, a_status, a_last, a_cell, a_view, a_nonce, a_length, a_commit, a_log, a_state, a_from, a_to, a_leader, a_member)) (hr : r < 5) (hc : c ≤ x.2.2.2.2.1)
    (hp : ∀ u', sy_R Z (fs_set H r (x.1, x.2.1, x.2.2.1, x.2.2.2.1, x.2.2.2.2.1, c, x.2.2.2.2.2.2)) M u' → post (nI x.2.2.2.2.1) u') : wY_fetch_151 post (nI r) (nI c) f_clients f_capacity f_slots f_restarts a_status a_last a_cell a_view a_nonce a_length a_commit a_log a_state a_from a_to a_leader a_member := by
  obtain ⟨hZ, hR, hT, hm⟩ := hu
  have q := hR r hr
  rw [fs_eq] at q
  obtain ⟨ok, ⟨s1, s2, s3, s4, s5, s6⟩, l⟩ := q
  have ok1 := ok.1
  have i13 := ix_13 (by omega : r < 13)
  refine ⟨i13, nm_e ⟨i13, ?_⟩⟩
  rw [ix_c (by omega), s5]
  refine hp _ (sy_mk hZ ?_ (ry_keepT hr hT (fun j hj => ⟨rfl, rfl, rfl, pk_un hj⟩) (fun j hj => rfl)) hm)
  have h := ry_set (x := (x.1, x.2.1, x.2.2.1, x.2.2.2.1, x.2.2.2.2.1, c, x.2.2.2.2.2.2)) (aC' := upd a_commit r (nI c)) hR ⟨by dsimp only; omega, ok.2⟩ ⟨⟨s1, s2, s3, s4, s5, pk_us⟩, l⟩ (fun j hj => ⟨rfl, rfl, rfl, rfl, rfl, pk_un hj⟩) (fun j hj => rfl)
  rw [fs_fs] at h
  exact h
theorem yf_105 {r s c : Nat} (hu : sy_R Z H M (f_clients, f_capacity, f_slots, f_restarts, a_status, a_last, a_cell, a_view, a_nonce, a_length, a_commit, a_log, a_state, a_from, a_to, a_leader, a_member)) (hr : r < 5) (hs : s < 5) (hl : (H r).1 = 0 → (H r).2.2.1 = (H r).2.1) (ec : c = max (H r).2.2.2.2.2.1 (H s).2.2.2.2.2.1)
    (h1 : (H r).1 = 0 ∧ (H r).2.1 = (H s).2.1 ∧ (H s).2.2.2.2.1 ≤ (H r).2.2.2.2.1 → c ≤ (H r).2.2.2.2.1) (h2 : ¬ ((H r).1 = 0 ∧ (H r).2.1 = (H s).2.1 ∧ (H s).2.2.2.2.1 ≤ (H r).2.2.2.2.1) → c ≤ (H s).2.2.2.2.1)
    (hp : ∀ u', sy_R Z (fs_set H r (vg_ns (H s) (H r))) M u' → post (nI (vg_ns (H s) (H r)).2.2.2.2.1) u') : wY_fetch_105 post (nI r) (nI s) (nI c) f_clients f_capacity f_slots f_restarts a_status a_last a_cell a_view a_nonce a_length a_commit a_log a_state a_from a_to a_leader a_member := by
  have hu' := hu
  obtain ⟨hZ, hR, hT, hm⟩ := hu
  obtain ⟨okr, ⟨s1, s2, s3, s4, s5, s6⟩, l⟩ := hR r hr
  obtain ⟨oks, ⟨t1, t2, t3, t4, t5, t6⟩, ls⟩ := hR s hs
  have okr1 := okr.1
  have oks1 := oks.1
  have i5 := ix_5 hr
  have ir := ix_13 (by omega : r < 13)
  have is := ix_13 (by omega : s < 13)
  have e1 := ix_rd (by omega : r < 2000) s1
  have e2 := ix_rd (by omega : r < 2000) s2
  have e5 := ix_rd (by omega : r < 2000) s5
  have f2 := ix_rd (by omega : s < 2000) t2
  have f5 := ix_rd (by omega : s < 2000) t5
  have k161 : ¬ ((H r).1 = 0 ∧ (H r).2.1 = (H s).2.1) → wY_fetch_161 post (nI r) (nI s) (nI c) f_clients f_capacity f_slots f_restarts a_status a_last a_cell a_view a_nonce a_length a_commit a_log a_state a_from a_to a_leader a_member := by
    intro z
    have z' : ¬ ((H r).1 = 0 ∧ (H r).2.1 = (H s).2.1 ∧ (H s).2.2.2.2.1 ≤ (H r).2.2.2.2.1) := fun q => z ⟨q.1, q.2.1⟩
    refine And.intro is ?_
    rw [f2]
    refine ym_mn hu' hr (by omega) (Or.inl ⟨hs, rfl, rfl⟩ : hs_is Z H s (H s).2.2.2.2.1 (H s).2.2.2.2.2.2) (h2 z') (fun u1 hu1 => ?_)
    have en : vg_ns (H s) (H r) = (0, (H s).2.1, (H s).2.1, (H r).2.2.2.1, (H s).2.2.2.2.1, c, (H s).2.2.2.2.2.2) := by
      unfold vg_ns
      rw [if_neg z', ec]
    rw [en] at hp
    have nx := hp u1 hu1
    clear hZ hR hT hm l ls s1 s2 s3 s4 s5 s6 t1 t2 t3 t4 t5 t6 e1 e2 e5 f2 f5 hu'
    obtain ⟨f_clients, f_capacity, f_slots, f_restarts, a_status, a_last, a_cell, a_view, a_nonce, a_length, a_commit, a_log, a_state, a_from, a_to, a_leader, a_member⟩ := u1
    obtain ⟨kZ, kR, kT, km⟩ := hu1
    have q := kR r hr
    rw [fs_eq] at q
    have q5 := q.2.1.2.2.2.2.1
    refine ⟨ir, ?_⟩
    rw [ix_rd (by omega) q5]
    exact nx
  refine And.intro i5 (pk_eq (H r).1 0 (fun z => ⟨is, ir, pk_eq (H s).2.1 (H r).2.1 (fun z2 => ⟨is, ir, pk_le (H s).2.2.2.2.1 (H r).2.2.2.2.1 (fun z3 => ?_) (fun z3 => ?_) (hx := f5) (hy := e5)⟩) (fun z2 => k161 (fun q => z2 q.2.symm)) (hx := f2) (hy := e2)⟩) (fun z => k161 (fun q => z q.1)) (hx := e1))
  · have en : vg_ns (H s) (H r) = ((H r).1, (H r).2.1, (H r).2.2.1, (H r).2.2.2.1, (H r).2.2.2.2.1, c, (H r).2.2.2.2.2.2) := by
      unfold vg_ns
      rw [if_pos ⟨z, z2.symm, z3⟩, ec, hl z, z, z2]
    rw [en] at hp
    refine yf_151 (x := H r) (by rw [fs_id]; exact hu') hr (h1 ⟨z, z2.symm, z3⟩) hp
  · have z' : ¬ ((H r).1 = 0 ∧ (H r).2.1 = (H s).2.1 ∧ (H s).2.2.2.2.1 ≤ (H r).2.2.2.2.1) := by omega
    have en : vg_ns (H s) (H r) = ((H r).1, (H r).2.1, (H r).2.2.1, (H r).2.2.2.1, (H s).2.2.2.2.1, c, (H s).2.2.2.2.2.2) := by
      unfold vg_ns
      rw [if_neg z', ec, hl z, z, z2]
    rw [en] at hp
    refine ym_cp (by omega) (by omega) ?_
    refine yf_151 (H := H) (x := ((H r).1, (H r).2.1, (H r).2.2.1, (H r).2.2.2.1, (H s).2.2.2.2.1, (H r).2.2.2.2.2.1, (H s).2.2.2.2.2.2)) ?_ hr (h2 z') hp
    rw [t5]
    have := h2 z'
    refine sy_mk hZ ?_ (ry_keepT hr hT (fun j hj => ⟨rfl, rfl, pk_un hj, rfl⟩) (fun j hj => cp_out hj)) hm
    exact ry_set hR ⟨by dsimp only; omega, oks.2⟩ ⟨⟨s1, s2, s3, s4, pk_us, s6⟩, cp_log (show (H s).2.2.2.2.1 ≤ 32 by omega) ls⟩ (fun j hj => ⟨rfl, rfl, rfl, rfl, pk_un hj, rfl⟩) (fun j hj => cp_out hj)
end
theorem i_vc_fetch {k : Nat} {u : SX} {v : SY} (I : i_Rel k u v) (hk : k + 5 ≤ 2563) (v1 : Int32) (v2 : Int32) : wpX_fetch (fun r u' => wpY_fetch (fun r' v' => r' = r ∧ i_Rel (k + 5) u' v') v v1 v2) u v1 v2 := by
  obtain ⟨Z, H, Q, B, M, I, hu, hv⟩ := I
  obtain ⟨f_PREPARE, f_PREPARE_OK, f_GET_STATE, f_NEW_STATE, f_START_VIEW_CHANGE, f_DO_VIEW_CHANGE, f_GET_LOG, f_NEW_LOG, f_START_VIEW, f_clients, f_capacity, f_letters, f_restarts, f_mailHead, f_mailTail, f_acks, f_votes, f_bestVoter, f_bestLast, f_bestLength, f_bestCommit, a_status, a_view, a_last, a_nonce, a_cell, a_length, a_commit, a_logClient, a_logNumber, a_logOp, a_registers, a_tableNumber, a_tableResult, a_mailKind, a_mailFrom, a_mailTo, a_mailView, a_mailLast, a_mailCommit, a_mailLength, a_mailBase, a_mailCount, a_mailClient, a_mailNumber, a_mailOp, a_voted, a_voteCommit, a_slotState, a_slotFrom, a_slotTo, a_slotNonce, a_slotView, a_slotLeader, a_slotLength, a_slotCommit, a_slotClient, a_slotNumber, a_slotOp⟩ := u
  obtain ⟨hZ, hR, hM, hB⟩ := hu
  have hx := sx_mk hZ hR hM hB (f_PREPARE := f_PREPARE) (f_PREPARE_OK := f_PREPARE_OK) (f_GET_STATE := f_GET_STATE) (f_NEW_STATE := f_NEW_STATE) (f_START_VIEW_CHANGE := f_START_VIEW_CHANGE) (f_DO_VIEW_CHANGE := f_DO_VIEW_CHANGE) (f_GET_LOG := f_GET_LOG) (f_NEW_LOG := f_NEW_LOG) (f_START_VIEW := f_START_VIEW)
  obtain ⟨f_clients_y, f_capacity_y, f_slots_y, f_restarts_y, a_status_y, a_last_y, a_cell_y, a_view_y, a_nonce_y, a_length_y, a_commit_y, a_log_y, a_state_y, a_from_y, a_to_y, a_leader_y, a_member_y⟩ := v
  obtain ⟨kZ, kR, kT, km⟩ := hv
  have hy := sy_mk kZ kR kT km
  have zk := hZ.2.1
  unfold rz_ok at zk
  unfold wpX_fetch
  rcases ix_spl v1 5 (by decide) with h1 | ⟨r, hr, rfl⟩
  · refine xm_rep_f h1 (br_t rfl ?_)
    unfold wpY_fetch
    exact ym_no (y := 5) h1 (br_f (by decide) ⟨rfl, Z, H, Q, B, M, I, hx, hy⟩)
  refine xm_rep_t hr (br_f (by decide) ?_)
  rcases ix_spl v2 5 (by decide) with h2 | ⟨s, hs, rfl⟩
  · refine xm_rep_f h2 (br_t rfl ?_)
    unfold wpY_fetch
    exact ym_in (c := 5) hr (by decide) (br_t rfl (ym_no (y := 5) h2 (br_f (by decide) ⟨rfl, Z, H, Q, B, M, I, hx, hy⟩)))
  refine xm_rep_t hs (br_f (by decide) ?_)
  obtain ⟨okr, ⟨r1, r2, _⟩, _⟩ := hR r hr
  obtain ⟨oks, ⟨s1, s2, _⟩, _⟩ := hR s hs
  obtain ⟨_, ⟨p1, p2, p3, p4, p5, p6⟩, _⟩ := kR r hr
  obtain ⟨_, ⟨q1, q2, q3, q4, q5, q6⟩, _⟩ := kR s hs
  have okr1 := okr.1
  have oks1 := oks.1
  have ir := ix_5 hr
  have is := ix_5 hs
  have jr := ix_13 (by omega : r < 13)
  have js := ix_13 (by omega : s < 13)
  have x1 := ix_rd (by omega : s < 2000) s1
  have x2 := ix_rd (by omega : r < 2000) r2
  have x3 := ix_rd (by omega : s < 2000) s2
  have y1 := ix_rd (by omega : s < 2000) q1
  have y2 := ix_rd (by omega : r < 2000) p2
  have y3 := ix_rd (by omega : s < 2000) q2
  have y6 := ix_rd (by omega : r < 2000) p6
  have y7 := ix_rd (by omega : s < 2000) q6
  have yo : ∀ post : Int32 → SY → Prop, ((nI r = nI s → post (-1) (f_clients_y, f_capacity_y, f_slots_y, f_restarts_y, a_status_y, a_last_y, a_cell_y, a_view_y, a_nonce_y, a_length_y, a_commit_y, a_log_y, a_state_y, a_from_y, a_to_y, a_leader_y, a_member_y)) ∧ (¬ nI r = nI s → (wpY_touch (fun r_40 => (((r_40 = 0 → (post (-2) (f_clients_y, f_capacity_y, f_slots_y, f_restarts_y, a_status_y, a_last_y, a_cell_y, a_view_y, a_nonce_y, a_length_y, a_commit_y, a_log_y, a_state_y, a_from_y, a_to_y, a_leader_y, a_member_y))) ∧ (¬ r_40 = 0 → (wpY_active (fun r_59 => (((r_59 = 0 → (post (-2) (f_clients_y, f_capacity_y, f_slots_y, f_restarts_y, a_status_y, a_last_y, a_cell_y, a_view_y, a_nonce_y, a_length_y, a_commit_y, a_log_y, a_state_y, a_from_y, a_to_y, a_leader_y, a_member_y))) ∧ (¬ r_59 = 0 → (vp_in (nI s) 5 ∧ ((((a_status_y (nI s).toNatClampNeg) = 0 → (vp_in (nI s) 13 ∧ (vp_in (nI r) 13 ∧ ((((a_view_y (nI r).toNatClampNeg) ≤ (a_view_y (nI s).toNatClampNeg) → (vp_in (nI r) 13 ∧ (vp_in (nI s) 13 ∧ ((((a_commit_y (nI r).toNatClampNeg) ≤ (a_commit_y (nI s).toNatClampNeg) → (vp_in (nI s) 13 ∧ (wY_fetch_105 post (nI r) (nI s) (a_commit_y (nI s).toNatClampNeg) f_clients_y f_capacity_y f_slots_y f_restarts_y a_status_y a_last_y a_cell_y a_view_y a_nonce_y a_length_y a_commit_y a_log_y a_state_y a_from_y a_to_y a_leader_y a_member_y))) ∧ (¬ (a_commit_y (nI r).toNatClampNeg) ≤ (a_commit_y (nI s).toNatClampNeg) → (vp_in (nI r) 13 ∧ (wY_fetch_105 post (nI r) (nI s) (a_commit_y (nI r).toNatClampNeg) f_clients_y f_capacity_y f_slots_y f_restarts_y a_status_y a_last_y a_cell_y a_view_y a_nonce_y a_length_y a_commit_y a_log_y a_state_y a_from_y a_to_y a_leader_y a_member_y)))))))) ∧ (¬ (a_view_y (nI r).toNatClampNeg) ≤ (a_view_y (nI s).toNatClampNeg) → (post (-4) (f_clients_y, f_capacity_y, f_slots_y, f_restarts_y, a_status_y, a_last_y, a_cell_y, a_view_y, a_nonce_y, a_length_y, a_commit_y, a_log_y, a_state_y, a_from_y, a_to_y, a_leader_y, a_member_y)))))))) ∧ (¬ (a_status_y (nI s).toNatClampNeg) = 0 → (post (-2) (f_clients_y, f_capacity_y, f_slots_y, f_restarts_y, a_status_y, a_last_y, a_cell_y, a_view_y, a_nonce_y, a_length_y, a_commit_y, a_log_y, a_state_y, a_from_y, a_to_y, a_leader_y, a_member_y)))))))))) (f_clients_y, f_capacity_y, f_slots_y, f_restarts_y, a_status_y, a_last_y, a_cell_y, a_view_y, a_nonce_y, a_length_y, a_commit_y, a_log_y, a_state_y, a_from_y, a_to_y, a_leader_y, a_member_y) (nI r)))))) (f_clients_y, f_capacity_y, f_slots_y, f_restarts_y, a_status_y, a_last_y, a_cell_y, a_view_y, a_nonce_y, a_length_y, a_commit_y, a_log_y, a_state_y, a_from_y, a_to_y, a_leader_y, a_member_y) (nI r) (nI s)))) → wpY_fetch post (f_clients_y, f_capacity_y, f_slots_y, f_restarts_y, a_status_y, a_last_y, a_cell_y, a_view_y, a_nonce_y, a_length_y, a_commit_y, a_log_y, a_state_y, a_from_y, a_to_y, a_leader_y, a_member_y) (nI r) (nI s) := by
    intro post h
    unfold wpY_fetch
    exact ym_in (c := 5) hr (by decide) (br_t rfl (ym_in (c := 5) hs (by decide) (br_t rfl h)))
  refine pk_eq r s (fun e => yo _ (br_t (by rw [e]) ⟨rfl, Z, H, Q, B, M, I, hx, hy⟩)) (fun e => ?_)
  have ne : ¬ nI r = nI s := fun q => e ((nI_eq (by omega) (by omega)).mp q)
  refine xm_touch hx hr hs (fun t => br_f (by decide) ?_) (fun t => br_t rfl (yo _ (br_f ne (ym_touch hy hr hs (fun t2 => nt_f t2 t) (fun _ => br_t rfl ⟨rfl, Z, H, Q, B, M, I, hx, hy⟩)))))
  refine xm_act hx hr (fun a => br_f (by decide) ⟨is, ?_⟩) (fun a => br_t rfl (yo _ (br_f ne (ym_touch hy hr hs (fun _ => br_f (by decide) (ym_act hy hr (fun a2 => absurd a2 (by omega)) (fun _ => br_t rfl ⟨rfl, Z, H, Q, B, M, I, hx, hy⟩))) (fun t2 => nt_f t t2)))))
  refine pk_eq (H s).1 0 (fun z => ⟨is, ir, pk_le (H r).2.1 (H s).2.1 (fun z2 => ?_) (fun z2 => ?_) (hx := x2) (hy := x3)⟩) (fun z => yo _ (br_f ne (ym_touch hy hr hs (fun _ => br_f (by decide) (ym_act hy hr (fun _ => br_f (by decide) ⟨is, br_f (by rw [y1]; exact fun q => z ((nI_eq (b := 0) (by omega) (by decide)).mp q)) ⟨rfl, Z, H, Q, B, M, I, hx, hy⟩⟩) (fun a2 => absurd a (by omega)))) (fun t2 => nt_f t t2)))) (hx := x1)
  · refine xm_post (k := 3) hx hr hs (by omega) (fun _ u1 hu1 => ?_) (fun t2 => nt_f t t2)
    have ag := iv_agree I hr hs z a z2
    have fin : ∀ (u' : SX) (Q' : Nat → vg_M) (B' : vg_B), sx_R Z (fs_set H r (vg_ns (H s) (H r))) 0 0 Q' B' u' → wpY_fetch (fun r' v' => r' = nI (vg_ns (H s) (H r)).2.2.2.2.1 ∧ i_Rel (k + 5) u' v') (f_clients_y, f_capacity_y, f_slots_y, f_restarts_y, a_status_y, a_last_y, a_cell_y, a_view_y, a_nonce_y, a_length_y, a_commit_y, a_log_y, a_state_y, a_from_y, a_to_y, a_leader_y, a_member_y) (nI r) (nI s) := by
      intro u' Q' B' hu'
      have br := (I.2.2.2.1 _ (Or.inl ⟨r, hr, rfl⟩)).1
      have bs := (I.2.2.2.1 _ (Or.inl ⟨s, hs, rfl⟩)).1
      have br' : (H r).2.2.2.2.2.1 ≤ (H r).2.2.2.2.1 := br
      have bs' : (H s).2.2.2.2.2.1 ≤ (H s).2.2.2.2.1 := bs
      have g : ∀ c, c = max (H r).2.2.2.2.2.1 (H s).2.2.2.2.2.1 → wY_fetch_105 (fun r' v' => r' = nI (vg_ns (H s) (H r)).2.2.2.2.1 ∧ i_Rel (k + 5) u' v') (nI r) (nI s) (nI c) f_clients_y f_capacity_y f_slots_y f_restarts_y a_status_y a_last_y a_cell_y a_view_y a_nonce_y a_length_y a_commit_y a_log_y a_state_y a_from_y a_to_y a_leader_y a_member_y := by
        intro c ec
        refine yf_105 hy hr hs (I.1 r hr).1 ec (fun q => by omega) (fun q => ?_) (fun w hw => ⟨rfl, _, _, _, _, _, iv_fetch I hr hs z a z2, hu', hw⟩)
        have := (ag q).1
        omega
      refine yo _ (br_f ne (ym_touch hy hr hs (fun _ => br_f (by decide) (ym_act hy hr (fun _ => br_f (by decide) ⟨is, br_t (by rw [y1, z]; rfl) ⟨js, jr, br_t (by rw [y2, y3]; exact nI_le z2 (by omega)) ⟨jr, js, pk_le (H r).2.2.2.2.2.1 (H s).2.2.2.2.2.1 (fun y => ⟨js, ?_⟩) (fun y => ⟨jr, ?_⟩) (hx := y6) (hy := y7)⟩⟩⟩) (fun a2 => absurd a (by omega)))) (fun t2 => nt_f t t2)))
      · rw [y7]; exact g _ (by omega)
      · rw [y6]; exact g _ (by omega)
    have ex := @xe_fetch Z H Q B u1 (fun u => match u with | (f_PREPARE_z, f_PREPARE_OK_z, f_GET_STATE_z, f_NEW_STATE_z, f_START_VIEW_CHANGE_z, f_DO_VIEW_CHANGE_z, f_GET_LOG_z, f_NEW_LOG_z, f_START_VIEW_z, f_clients_z, f_capacity_z, f_letters_z, f_restarts_z, f_mailHead_z, f_mailTail_z, f_acks_z, f_votes_z, f_bestVoter_z, f_bestLast_z, f_bestLength_z, f_bestCommit_z, a_status_z, a_view_z, a_last_z, a_nonce_z, a_cell_z, a_length_z, a_commit_z, a_logClient_z, a_logNumber_z, a_logOp_z, a_registers_z, a_tableNumber_z, a_tableResult_z, a_mailKind_z, a_mailFrom_z, a_mailTo_z, a_mailView_z, a_mailLast_z, a_mailCommit_z, a_mailLength_z, a_mailBase_z, a_mailCount_z, a_mailClient_z, a_mailNumber_z, a_mailOp_z, a_voted_z, a_voteCommit_z, a_slotState_z, a_slotFrom_z, a_slotTo_z, a_slotNonce_z, a_slotView_z, a_slotLeader_z, a_slotLength_z, a_slotCommit_z, a_slotClient_z, a_slotNumber_z, a_slotOp_z) => (vp_in (nI r) 5 ∧ ((fun rr u' => wpY_fetch (fun r' v' => r' = rr ∧ i_Rel (k + 5) u' v') (f_clients_y, f_capacity_y, f_slots_y, f_restarts_y, a_status_y, a_last_y, a_cell_y, a_view_y, a_nonce_y, a_length_y, a_commit_y, a_log_y, a_state_y, a_from_y, a_to_y, a_leader_y, a_member_y) (nI r) (nI s)) (a_length_z (nI r).toNatClampNeg) (f_PREPARE_z, f_PREPARE_OK_z, f_GET_STATE_z, f_NEW_STATE_z, f_START_VIEW_CHANGE_z, f_DO_VIEW_CHANGE_z, f_GET_LOG_z, f_NEW_LOG_z, f_START_VIEW_z, f_clients_z, f_capacity_z, f_letters_z, f_restarts_z, f_mailHead_z, f_mailTail_z, f_acks_z, f_votes_z, f_bestVoter_z, f_bestLast_z, f_bestLength_z, f_bestCommit_z, a_status_z, a_view_z, a_last_z, a_nonce_z, a_cell_z, a_length_z, a_commit_z, a_logClient_z, a_logNumber_z, a_logOp_z, a_registers_z, a_tableNumber_z, a_tableResult_z, a_mailKind_z, a_mailFrom_z, a_mailTo_z, a_mailView_z, a_mailLast_z, a_mailCommit_z, a_mailLength_z, a_mailBase_z, a_mailCount_z, a_mailClient_z, a_mailNumber_z, a_mailOp_z, a_voted_z, a_voteCommit_z, a_slotState_z, a_slotFrom_z, a_slotTo_z, a_slotNonce_z, a_slotView_z, a_slotLeader_z, a_slotLength_z, a_slotCommit_z, a_slotClient_z, a_slotNumber_z, a_slotOp_z)))) r s hr hs hu1 t z z2 a ag (fun u' Q' B' hu' => ?_)
    · clear hZ hR hM hB hx r1 r2 s1 s2 x1 x2 x3 hu1
      obtain ⟨f_PREPARE, f_PREPARE_OK, f_GET_STATE, f_NEW_STATE, f_START_VIEW_CHANGE, f_DO_VIEW_CHANGE, f_GET_LOG, f_NEW_LOG, f_START_VIEW, f_clients, f_capacity, f_letters, f_restarts, f_mailHead, f_mailTail, f_acks, f_votes, f_bestVoter, f_bestLast, f_bestLength, f_bestCommit, a_status, a_view, a_last, a_nonce, a_cell, a_length, a_commit, a_logClient, a_logNumber, a_logOp, a_registers, a_tableNumber, a_tableResult, a_mailKind, a_mailFrom, a_mailTo, a_mailView, a_mailLast, a_mailCommit, a_mailLength, a_mailBase, a_mailCount, a_mailClient, a_mailNumber, a_mailOp, a_voted, a_voteCommit, a_slotState, a_slotFrom, a_slotTo, a_slotNonce, a_slotView, a_slotLeader, a_slotLength, a_slotCommit, a_slotClient, a_slotNumber, a_slotOp⟩ := u1
      exact ex
    · have f := fin u' Q' B' hu'
      clear hZ hR hM hB hx r1 r2 s1 s2 x1 x2 x3 hu1
      obtain ⟨f_PREPARE, f_PREPARE_OK, f_GET_STATE, f_NEW_STATE, f_START_VIEW_CHANGE, f_DO_VIEW_CHANGE, f_GET_LOG, f_NEW_LOG, f_START_VIEW, f_clients, f_capacity, f_letters, f_restarts, f_mailHead, f_mailTail, f_acks, f_votes, f_bestVoter, f_bestLast, f_bestLength, f_bestCommit, a_status, a_view, a_last, a_nonce, a_cell, a_length, a_commit, a_logClient, a_logNumber, a_logOp, a_registers, a_tableNumber, a_tableResult, a_mailKind, a_mailFrom, a_mailTo, a_mailView, a_mailLast, a_mailCommit, a_mailLength, a_mailBase, a_mailCount, a_mailClient, a_mailNumber, a_mailOp, a_voted, a_voteCommit, a_slotState, a_slotFrom, a_slotTo, a_slotNonce, a_slotView, a_slotLeader, a_slotLength, a_slotCommit, a_slotClient, a_slotNumber, a_slotOp⟩ := u'
      obtain ⟨hZ, hR, hM, hB⟩ := hu'
      have q := hR r hr
      rw [fs_eq] at q
      have q5 := q.2.1.2.2.2.2.1
      refine ⟨ir, ?_⟩
      rw [ix_rd (by omega) q5]
      exact f
  · refine yo _ (br_f ne (ym_touch hy hr hs (fun _ => br_f (by decide) (ym_act hy hr (fun _ => br_f (by decide) ⟨is, br_t (by rw [y1, z]; rfl) ⟨js, jr, br_f (by rw [y2, y3]; exact nI_ge z2 (by omega)) ⟨rfl, Z, H, Q, B, M, I, hx, hy⟩⟩⟩) (fun a2 => absurd a (by omega)))) (fun t2 => nt_f t t2)))
end
section
/-! deliver -/
theorem i_vc_deliver {k : Nat} {u : SX} {v : SY} (I : i_Rel k u v) (hk : k + 5 ≤ 2563) (v1 : Int32) : wpX_deliver (fun r u' => wpY_deliver (fun r' v' => r' = r ∧ i_Rel (k + 5) u' v') v v1) u v1 := by
  obtain ⟨Z, H, Q, B, M, I, hu, hv⟩ := I
  obtain ⟨f_PREPARE, f_PREPARE_OK, f_GET_STATE, f_NEW_STATE, f_START_VIEW_CHANGE, f_DO_VIEW_CHANGE, f_GET_LOG, f_NEW_LOG, f_START_VIEW, f_clients, f_capacity, f_letters, f_restarts, f_mailHead, f_mailTail, f_acks, f_votes, f_bestVoter, f_bestLast, f_bestLength, f_bestCommit, a_status, a_view, a_last, a_nonce, a_cell, a_length, a_commit, a_logClient, a_logNumber, a_logOp, a_registers, a_tableNumber, a_tableResult, a_mailKind, a_mailFrom, a_mailTo, a_mailView, a_mailLast, a_mailCommit, a_mailLength, a_mailBase, a_mailCount, a_mailClient, a_mailNumber, a_mailOp, a_voted, a_voteCommit, a_slotState, a_slotFrom, a_slotTo, a_slotNonce, a_slotView, a_slotLeader, a_slotLength, a_slotCommit, a_slotClient, a_slotNumber, a_slotOp⟩ := u
  obtain ⟨hZ, hR, hM, hB⟩ := hu
  have hx := sx_mk hZ hR hM hB (f_PREPARE := f_PREPARE) (f_PREPARE_OK := f_PREPARE_OK) (f_GET_STATE := f_GET_STATE) (f_NEW_STATE := f_NEW_STATE) (f_START_VIEW_CHANGE := f_START_VIEW_CHANGE) (f_DO_VIEW_CHANGE := f_DO_VIEW_CHANGE) (f_GET_LOG := f_GET_LOG) (f_NEW_LOG := f_NEW_LOG) (f_START_VIEW := f_START_VIEW)
  obtain ⟨f_clients_y, f_capacity_y, f_slots_y, f_restarts_y, a_status_y, a_last_y, a_cell_y, a_view_y, a_nonce_y, a_length_y, a_commit_y, a_log_y, a_state_y, a_from_y, a_to_y, a_leader_y, a_member_y⟩ := v
  obtain ⟨kZ, kR, kT, km⟩ := hv
  have hy := sy_mk kZ kR kT km
  have zk := hZ.2.1
  unfold rz_ok at zk
  unfold wpX_deliver
  have no : ∀ s s', nI s = nI s' → s < 8 → s' < 8 → s = s' := fun s s' e h h' => (nI_eq (by omega) (by omega)).mp e
  have bad : ∀ r : Int32, (∀ post : Int32 → Prop, post r → wpY_slotRefusal post (f_clients_y, f_capacity_y, f_slots_y, f_restarts_y, a_status_y, a_last_y, a_cell_y, a_view_y, a_nonce_y, a_length_y, a_commit_y, a_log_y, a_state_y, a_from_y, a_to_y, a_leader_y, a_member_y) v1) → ¬ 0 ≤ r → wpY_deliver (fun r' v' => r' = r ∧ i_Rel (k + 5) (f_PREPARE, f_PREPARE_OK, f_GET_STATE, f_NEW_STATE, f_START_VIEW_CHANGE, f_DO_VIEW_CHANGE, f_GET_LOG, f_NEW_LOG, f_START_VIEW, f_clients, f_capacity, f_letters, f_restarts, f_mailHead, f_mailTail, f_acks, f_votes, f_bestVoter, f_bestLast, f_bestLength, f_bestCommit, a_status, a_view, a_last, a_nonce, a_cell, a_length, a_commit, a_logClient, a_logNumber, a_logOp, a_registers, a_tableNumber, a_tableResult, a_mailKind, a_mailFrom, a_mailTo, a_mailView, a_mailLast, a_mailCommit, a_mailLength, a_mailBase, a_mailCount, a_mailClient, a_mailNumber, a_mailOp, a_voted, a_voteCommit, a_slotState, a_slotFrom, a_slotTo, a_slotNonce, a_slotView, a_slotLeader, a_slotLength, a_slotCommit, a_slotClient, a_slotNumber, a_slotOp) v') (f_clients_y, f_capacity_y, f_slots_y, f_restarts_y, a_status_y, a_last_y, a_cell_y, a_view_y, a_nonce_y, a_length_y, a_commit_y, a_log_y, a_state_y, a_from_y, a_to_y, a_leader_y, a_member_y) v1 := by
    intro r h hr
    unfold wpY_deliver
    exact h _ (br_f hr ⟨rfl, Z, H, Q, B, M, I, hx, hy⟩)
  refine xm_cu hx v1 (fun h => br_f (by decide) (bad _ (fun post hp => ym_cu hy v1 (fun _ => hp) (fun s hs e _ => ?_) (fun s hs e _ => ?_) (fun s hs e _ => ?_)) (by decide))) (fun s hs e st => br_f (by decide) (bad _ (fun post hp => ym_cu hy v1 (fun h => ?_) (fun _ _ _ _ => hp) (fun s' hs' e' st' => ?_) (fun s' hs' e' st' => ?_)) (by decide))) (fun s hs e st => br_f (by decide) (bad _ (fun post hp => ym_cu hy v1 (fun h => ?_) (fun s' hs' e' st' => ?_) (fun _ _ _ _ => hp) (fun s' hs' e' st' => ?_)) (by decide))) (fun s hs e st => br_t rfl ?_)
  · exact absurd e (ix_ne h s hs (by omega))
  · exact absurd e (ix_ne h s hs (by omega))
  · exact absurd e (ix_ne h s hs (by omega))
  · exact absurd e (ix_ne h s hs (by omega))
  · have := no s s' (e.symm.trans e') (by omega) (by omega)
    rw [this] at st
    omega
  · have := no s s' (e.symm.trans e') (by omega) (by omega)
    rw [this] at st
    omega
  · exact absurd e (ix_ne h s hs (by omega))
  · have := no s s' (e.symm.trans e') (by omega) (by omega)
    rw [this] at st
    omega
  · have := no s s' (e.symm.trans e') (by omega) (by omega)
    rw [this] at st
    omega
  · have sr : (∀ post : Int32 → Prop, post 0 → wpY_slotRefusal post (f_clients_y, f_capacity_y, f_slots_y, f_restarts_y, a_status_y, a_last_y, a_cell_y, a_view_y, a_nonce_y, a_length_y, a_commit_y, a_log_y, a_state_y, a_from_y, a_to_y, a_leader_y, a_member_y) v1) := by
      intro post hp
      refine ym_cu hy v1 (fun h => absurd e (ix_ne h s hs (by omega))) (fun s' hs' e' st' => ?_) (fun s' hs' e' st' => ?_) (fun _ _ _ _ => hp)
      · have := no s s' (e.symm.trans e') (by omega) (by omega)
        rw [this] at st
        omega
      · have := no s s' (e.symm.trans e') (by omega) (by omega)
        rw [this] at st
        omega
    clear bad
    subst e
    obtain ⟨okt, ⟨s1, s2, s3, s4, s5, s6, s7, s8⟩, _⟩ := hZ.2.2.2 s (by omega)
    obtain ⟨_, ⟨t1, t2, t3, t4, t5, t6, t7, t8⟩, _⟩ := kT s (by omega)
    have okt1 := okt.1
    have i8 := ix_8 (by omega : s < 8)
    have j13 : vp_in (5 + nI s) 13 := by rw [ix_p5]; exact ix_13 (by omega)
    generalize hrr : (Z.2.2.2.2.2 s).2.2.1 = r at *
    have hr : r < 5 := by omega
    have ir := ix_5 hr
    have jr := ix_13 (by omega : r < 13)
    obtain ⟨okr, ⟨p1, p2, p3, p4, _⟩, _⟩ := hR r hr
    obtain ⟨_, ⟨q1, q2, q3, q4, _⟩, _⟩ := kR r hr
    have okr1 := okr.1
    have e3 := ix_rd (by omega : s < 2000) s3
    have e2 := ix_rd (by omega : s < 2000) s2
    have e4 := ix_rd (by omega : s < 2000) s4
    have e3y := ix_rd (by omega : s < 2000) t3
    have e4y : a_nonce_y (5 + nI s).toNatClampNeg = nI (Z.2.2.2.2.2 s).2.2.2.1 := by rw [ix_p5]; exact ix_rd (by omega) t4
    have x1 := ix_rd (by omega : r < 2000) p1
    have x4 := ix_rd (by omega : r < 2000) p4
    have y1 := ix_rd (by omega : r < 2000) q1
    have y4 := ix_rd (by omega : r < 2000) q4
    have c8 : (nI s).toNatClampNeg = s := ix_c (by omega)
    -- the stale letter
    have stale : ∀ (u' : SX), u' = (f_PREPARE, f_PREPARE_OK, f_GET_STATE, f_NEW_STATE, f_START_VIEW_CHANGE, f_DO_VIEW_CHANGE, f_GET_LOG, f_NEW_LOG, f_START_VIEW, f_clients, f_capacity, f_letters, f_restarts, f_mailHead, f_mailTail, f_acks, f_votes, f_bestVoter, f_bestLast, f_bestLength, f_bestCommit, a_status, a_view, a_last, a_nonce, a_cell, a_length, a_commit, a_logClient, a_logNumber, a_logOp, a_registers, a_tableNumber, a_tableResult, a_mailKind, a_mailFrom, a_mailTo, a_mailView, a_mailLast, a_mailCommit, a_mailLength, a_mailBase, a_mailCount, a_mailClient, a_mailNumber, a_mailOp, a_voted, a_voteCommit, upd a_slotState s 0, a_slotFrom, a_slotTo, a_slotNonce, a_slotView, a_slotLeader, a_slotLength, a_slotCommit, a_slotClient, a_slotNumber, a_slotOp) → ∀ v' : SY, v' = (f_clients_y, f_capacity_y, f_slots_y, f_restarts_y, a_status_y, a_last_y, a_cell_y, a_view_y, a_nonce_y, a_length_y, a_commit_y, a_log_y, upd a_state_y s 0, a_from_y, a_to_y, a_leader_y, a_member_y) → i_Rel (k + 5) u' v' := by
      intro u' eu v' ev
      rw [eu, ev]
      exact ⟨zs_T Z (fs_set Z.2.2.2.2.2 s (tl_st (Z.2.2.2.2.2 s) 0)), H, Q, B, M, iv_free I, sx_mk ⟨hZ.1, hZ.2.1, hZ.2.2.1, rz_st (v := 0) hZ.2.2.2 (by omega)⟩ hR hM hB, sy_mk kZ kR (ry_st (v := 0) kT (by omega)) km⟩
    refine ⟨i8, nm_r e3 ⟨ir, pk_eq (H r).1 2 (fun z => ⟨i8, ir, pk_eq (Z.2.2.2.2.2 s).2.2.2.1 (H r).2.2.2.1 (fun z2 => ⟨i8, ?_⟩) (fun z2 => ⟨i8, nm_e ?_⟩) (hx := e4) (hy := x4)⟩) (fun z => ⟨i8, nm_e ?_⟩) (hx := x1)⟩⟩
    · -- it is taken
      rw [e2]
      have I1 : iv_I (zs_T Z (dv_T Z.2.2.2.2.2 Z.2.2.1 s r)) H := by
        have := iv_dv I (s := s) hs (by omega) st (by rw [hrr]; exact z) (by rw [hrr]; exact z2)
        rw [hrr] at this
        exact this
      have eS : td_drop Z.2.2.2.2.2 Z.2.2.1 r (fun a => decide (a = (Z.2.2.2.2.2 s).2.1)) s = Z.2.2.2.2.2 s := if_neg (by omega)
      have yop : ∀ (post : Int32 → SY → Prop), (∃ n58 : Nat, wY_deliver_58 post (nI s) (nI r) f_clients_y f_capacity_y f_slots_y f_restarts_y n58 0 a_status_y a_last_y a_cell_y a_view_y a_nonce_y a_length_y a_commit_y a_log_y a_state_y a_from_y a_to_y a_leader_y a_member_y) → wpY_deliver post (f_clients_y, f_capacity_y, f_slots_y, f_restarts_y, a_status_y, a_last_y, a_cell_y, a_view_y, a_nonce_y, a_length_y, a_commit_y, a_log_y, a_state_y, a_from_y, a_to_y, a_leader_y, a_member_y) (nI s) := by
        intro post h
        unfold wpY_deliver
        exact sr _ (br_t (by decide) ⟨i8, nm_r e3y ⟨ir, br_t (by rw [y1, z]; rfl) ⟨j13, jr, br_t (by rw [e4y, y4, z2]) h⟩⟩⟩)
      have y58 : ∀ (post : Int32 → SY → Prop),
          (((dl_cn (dv_T Z.2.2.2.2.2 Z.2.2.1 s r) r Z.2.2.1).1 < 3 ∨ ∀ j, j < Z.2.2.1 → dl_ok (dv_T Z.2.2.2.2.2 Z.2.2.1 s r) r (dl_cn (dv_T Z.2.2.2.2.2 Z.2.2.1 s r) r Z.2.2.1).2 j = false) → ∀ u', sy_R (zs_T Z (dv_T Z.2.2.2.2.2 Z.2.2.1 s r)) H M u' → post 1 u') →
          (3 ≤ (dl_cn (dv_T Z.2.2.2.2.2 Z.2.2.1 s r) r Z.2.2.1).1 → ∀ e, e < Z.2.2.1 → dl_ok (dv_T Z.2.2.2.2.2 Z.2.2.1 s r) r (dl_cn (dv_T Z.2.2.2.2.2 Z.2.2.1 s r) r Z.2.2.1).2 e = true → ∀ u', sy_R (zs_T Z (td_drop (dv_T Z.2.2.2.2.2 Z.2.2.1 s r) Z.2.2.1 r (fun _ => true))) (fs_set H r (0, (dl_cn (dv_T Z.2.2.2.2.2 Z.2.2.1 s r) r Z.2.2.1).2, (dl_cn (dv_T Z.2.2.2.2.2 Z.2.2.1 s r) r Z.2.2.1).2, 0, (dv_T Z.2.2.2.2.2 Z.2.2.1 s r e).2.2.2.2.2.2.1, (dv_T Z.2.2.2.2.2 Z.2.2.1 s r e).2.2.2.2.2.2.2.1, (dv_T Z.2.2.2.2.2 Z.2.2.1 s r e).2.2.2.2.2.2.2.2)) M u' → post 2 u') →
          wpY_deliver post (f_clients_y, f_capacity_y, f_slots_y, f_restarts_y, a_status_y, a_last_y, a_cell_y, a_view_y, a_nonce_y, a_length_y, a_commit_y, a_log_y, a_state_y, a_from_y, a_to_y, a_leader_y, a_member_y) (nI s) := by
        intro post a1 a2
        refine yop post ⟨Z.2.2.1 + 1, ?_⟩
        have h := yv_58l (post := post) hs hr st a1 a2 Z.2.2.1 0 (Z.2.2.1 + 1) (f_clients_y, f_capacity_y, f_slots_y, f_restarts_y, a_status_y, a_last_y, a_cell_y, a_view_y, a_nonce_y, a_length_y, a_commit_y, a_log_y, a_state_y, a_from_y, a_to_y, a_leader_y, a_member_y) (by omega) (by omega) (by rw [td_0]; exact hy)
        exact h
      clear yop
      refine xm_drop hx hr (Or.inr ⟨(Z.2.2.2.2.2 s).2.1, okt1.2.1, rfl, rfl⟩) (fun u1 hu1 => ?_)
      clear hZ hR hM hB hx stale s1 s2 s3 s4 s5 s6 s7 s8 p1 p2 p3 p4 e3 e2 e4 x1 x4
      obtain ⟨f_PREPARE, f_PREPARE_OK, f_GET_STATE, f_NEW_STATE, f_START_VIEW_CHANGE, f_DO_VIEW_CHANGE, f_GET_LOG, f_NEW_LOG, f_START_VIEW, f_clients, f_capacity, f_letters, f_restarts, f_mailHead, f_mailTail, f_acks, f_votes, f_bestVoter, f_bestLast, f_bestLength, f_bestCommit, a_status, a_view, a_last, a_nonce, a_cell, a_length, a_commit, a_logClient, a_logNumber, a_logOp, a_registers, a_tableNumber, a_tableResult, a_mailKind, a_mailFrom, a_mailTo, a_mailView, a_mailLast, a_mailCommit, a_mailLength, a_mailBase, a_mailCount, a_mailClient, a_mailNumber, a_mailOp, a_voted, a_voteCommit, a_slotState, a_slotFrom, a_slotTo, a_slotNonce, a_slotView, a_slotLeader, a_slotLength, a_slotCommit, a_slotClient, a_slotNumber, a_slotOp⟩ := u1
      obtain ⟨hZ, hR, hM, hB⟩ := hu1
      refine ⟨i8, nm_e ?_⟩
      rw [c8]
      have hx2 : sx_R (zs_T Z (dv_T Z.2.2.2.2.2 Z.2.2.1 s r)) H 0 0 Q B (f_PREPARE, f_PREPARE_OK, f_GET_STATE, f_NEW_STATE, f_START_VIEW_CHANGE, f_DO_VIEW_CHANGE, f_GET_LOG, f_NEW_LOG, f_START_VIEW, f_clients, f_capacity, f_letters, f_restarts, f_mailHead, f_mailTail, f_acks, f_votes, f_bestVoter, f_bestLast, f_bestLength, f_bestCommit, a_status, a_view, a_last, a_nonce, a_cell, a_length, a_commit, a_logClient, a_logNumber, a_logOp, a_registers, a_tableNumber, a_tableResult, a_mailKind, a_mailFrom, a_mailTo, a_mailView, a_mailLast, a_mailCommit, a_mailLength, a_mailBase, a_mailCount, a_mailClient, a_mailNumber, a_mailOp, a_voted, a_voteCommit, upd a_slotState s 2, a_slotFrom, a_slotTo, a_slotNonce, a_slotView, a_slotLeader, a_slotLength, a_slotCommit, a_slotClient, a_slotNumber, a_slotOp) := by
        have h := rz_st (s := s) (v := 2) hZ.2.2.2 (by omega)
        have e : (zs_T Z (td_drop Z.2.2.2.2.2 Z.2.2.1 r (fun a => decide (a = (Z.2.2.2.2.2 s).2.1)))).2.2.2.2.2 s = Z.2.2.2.2.2 s := eS
        rw [e] at h
        exact sx_mk ⟨hZ.1, hZ.2.1, hZ.2.2.1, h⟩ hR hM hB
      refine xm_deci hx2 hr (fun c3 e he hok hmin => br_t (nI_pos' (by have : e < Z.2.2.1 := he; omega)) ?_) (fun hno => br_f (by decide) ?_)
      · have he' : e < Z.2.2.1 := he
        refine xm_recover hx2 hr (by omega) ((I.1 r hr).2.2.1 (by omega)).2.2.2 (fun u2 hu2 => ?_)
        clear hZ hR hM hB hx2
        obtain ⟨f_PREPARE, f_PREPARE_OK, f_GET_STATE, f_NEW_STATE, f_START_VIEW_CHANGE, f_DO_VIEW_CHANGE, f_GET_LOG, f_NEW_LOG, f_START_VIEW, f_clients, f_capacity, f_letters, f_restarts, f_mailHead, f_mailTail, f_acks, f_votes, f_bestVoter, f_bestLast, f_bestLength, f_bestCommit, a_status, a_view, a_last, a_nonce, a_cell, a_length, a_commit, a_logClient, a_logNumber, a_logOp, a_registers, a_tableNumber, a_tableResult, a_mailKind, a_mailFrom, a_mailTo, a_mailView, a_mailLast, a_mailCommit, a_mailLength, a_mailBase, a_mailCount, a_mailClient, a_mailNumber, a_mailOp, a_voted, a_voteCommit, a_slotState, a_slotFrom, a_slotTo, a_slotNonce, a_slotView, a_slotLeader, a_slotLength, a_slotCommit, a_slotClient, a_slotNumber, a_slotOp⟩ := u2
        refine xm_drop hu2 hr (Or.inl ⟨by decide, rfl⟩) (fun u3 hu3 => ?_)
        clear hu2
        obtain ⟨f_PREPARE, f_PREPARE_OK, f_GET_STATE, f_NEW_STATE, f_START_VIEW_CHANGE, f_DO_VIEW_CHANGE, f_GET_LOG, f_NEW_LOG, f_START_VIEW, f_clients, f_capacity, f_letters, f_restarts, f_mailHead, f_mailTail, f_acks, f_votes, f_bestVoter, f_bestLast, f_bestLength, f_bestCommit, a_status, a_view, a_last, a_nonce, a_cell, a_length, a_commit, a_logClient, a_logNumber, a_logOp, a_registers, a_tableNumber, a_tableResult, a_mailKind, a_mailFrom, a_mailTo, a_mailView, a_mailLast, a_mailCommit, a_mailLength, a_mailBase, a_mailCount, a_mailClient, a_mailNumber, a_mailOp, a_voted, a_voteCommit, a_slotState, a_slotFrom, a_slotTo, a_slotNonce, a_slotView, a_slotLeader, a_slotLength, a_slotCommit, a_slotClient, a_slotNumber, a_slotOp⟩ := u3
        show wpY_deliver (fun r' v' => r' = 2 ∧ i_Rel (k + 5) (f_PREPARE, f_PREPARE_OK, f_GET_STATE, f_NEW_STATE, f_START_VIEW_CHANGE, f_DO_VIEW_CHANGE, f_GET_LOG, f_NEW_LOG, f_START_VIEW, f_clients, f_capacity, f_letters, f_restarts, f_mailHead, f_mailTail, f_acks, f_votes, f_bestVoter, f_bestLast, f_bestLength, f_bestCommit, a_status, a_view, a_last, a_nonce, a_cell, a_length, a_commit, a_logClient, a_logNumber, a_logOp, a_registers, a_tableNumber, a_tableResult, a_mailKind, a_mailFrom, a_mailTo, a_mailView, a_mailLast, a_mailCommit, a_mailLength, a_mailBase, a_mailCount, a_mailClient, a_mailNumber, a_mailOp, a_voted, a_voteCommit, a_slotState, a_slotFrom, a_slotTo, a_slotNonce, a_slotView, a_slotLeader, a_slotLength, a_slotCommit, a_slotClient, a_slotNumber, a_slotOp) v') (f_clients_y, f_capacity_y, f_slots_y, f_restarts_y, a_status_y, a_last_y, a_cell_y, a_view_y, a_nonce_y, a_length_y, a_commit_y, a_log_y, a_state_y, a_from_y, a_to_y, a_leader_y, a_member_y) (nI s)
        have hvw : (dv_T Z.2.2.2.2.2 Z.2.2.1 s r e).2.2.2.2.1 = (dl_cn (dv_T Z.2.2.2.2.2 Z.2.2.1 s r) r Z.2.2.1).2 := (dl_ok_iff.mp hok).2.1
        have hu4 : sx_R (zs_T Z (td_drop (dv_T Z.2.2.2.2.2 Z.2.2.1 s r) Z.2.2.1 r (fun _ => true))) (fs_set H r (0, (dv_T Z.2.2.2.2.2 Z.2.2.1 s r e).2.2.2.2.1, (dv_T Z.2.2.2.2.2 Z.2.2.1 s r e).2.2.2.2.1, 0, (dv_T Z.2.2.2.2.2 Z.2.2.1 s r e).2.2.2.2.2.2.1, (dv_T Z.2.2.2.2.2 Z.2.2.1 s r e).2.2.2.2.2.2.2.1, (dv_T Z.2.2.2.2.2 Z.2.2.1 s r e).2.2.2.2.2.2.2.2)) 0 0 Q B (f_PREPARE, f_PREPARE_OK, f_GET_STATE, f_NEW_STATE, f_START_VIEW_CHANGE, f_DO_VIEW_CHANGE, f_GET_LOG, f_NEW_LOG, f_START_VIEW, f_clients, f_capacity, f_letters, f_restarts, f_mailHead, f_mailTail, f_acks, f_votes, f_bestVoter, f_bestLast, f_bestLength, f_bestCommit, a_status, a_view, a_last, a_nonce, a_cell, a_length, a_commit, a_logClient, a_logNumber, a_logOp, a_registers, a_tableNumber, a_tableResult, a_mailKind, a_mailFrom, a_mailTo, a_mailView, a_mailLast, a_mailCommit, a_mailLength, a_mailBase, a_mailCount, a_mailClient, a_mailNumber, a_mailOp, a_voted, a_voteCommit, a_slotState, a_slotFrom, a_slotTo, a_slotNonce, a_slotView, a_slotLeader, a_slotLength, a_slotCommit, a_slotClient, a_slotNumber, a_slotOp) := hu3
        rw [hvw] at hu4
        refine y58 _ (fun q => ?_) (fun _ e' he2 hok2 v' hv' => ?_)
        · rcases q with q | q
          · exact absurd c3 (by show ¬ 3 ≤ (dl_cn (dv_T Z.2.2.2.2.2 Z.2.2.1 s r) r Z.2.2.1).1; omega)
          · exact nt_f hok (q e he')
        · have ee : e' = e := by
            by_cases y : e' = e
            · exact y
            · have A := dl_ok_iff.mp hok
              have A' := dl_ok_iff.mp hok2
              exact absurd (A'.2.2.trans A.2.2.symm) (I1.2.1.2 e' e (by omega) (by omega) y A'.1.1 A.1.1 (A'.1.2.trans A.1.2.symm))
          rw [ee] at hv'
          exact ⟨rfl, _, _, _, _, _, iv_rec I1 hr (by show Z.2.2.1 ≤ 8; omega) he z c3 hok, hu4, hv'⟩
      · show wpY_deliver (fun r' v' => r' = 1 ∧ i_Rel (k + 5) (f_PREPARE, f_PREPARE_OK, f_GET_STATE, f_NEW_STATE, f_START_VIEW_CHANGE, f_DO_VIEW_CHANGE, f_GET_LOG, f_NEW_LOG, f_START_VIEW, f_clients, f_capacity, f_letters, f_restarts, f_mailHead, f_mailTail, f_acks, f_votes, f_bestVoter, f_bestLast, f_bestLength, f_bestCommit, a_status, a_view, a_last, a_nonce, a_cell, a_length, a_commit, a_logClient, a_logNumber, a_logOp, a_registers, a_tableNumber, a_tableResult, a_mailKind, a_mailFrom, a_mailTo, a_mailView, a_mailLast, a_mailCommit, a_mailLength, a_mailBase, a_mailCount, a_mailClient, a_mailNumber, a_mailOp, a_voted, a_voteCommit, upd a_slotState s 2, a_slotFrom, a_slotTo, a_slotNonce, a_slotView, a_slotLeader, a_slotLength, a_slotCommit, a_slotClient, a_slotNumber, a_slotOp) v') (f_clients_y, f_capacity_y, f_slots_y, f_restarts_y, a_status_y, a_last_y, a_cell_y, a_view_y, a_nonce_y, a_length_y, a_commit_y, a_log_y, a_state_y, a_from_y, a_to_y, a_leader_y, a_member_y) (nI s)
        refine y58 _ (fun _ v' hv' => ⟨rfl, _, _, _, _, _, I1, hx2, hv'⟩) (fun c3 e he hok => ?_)
        rcases hno with q | q
        · exact absurd q (by show ¬ (dl_cn (dv_T Z.2.2.2.2.2 Z.2.2.1 s r) r Z.2.2.1).1 < 3; omega)
        · exact nt_f hok (q e he)
    · rw [c8]
      unfold wpY_deliver
      refine sr _ (br_t (by decide) ⟨i8, nm_r e3y ⟨ir, br_t (by rw [y1, z]; rfl) ⟨j13, jr, br_f (by rw [e4y, y4]; exact fun q => z2 ((nI_eq (by omega) (by omega)).mp q)) ⟨i8, nm_e ⟨rfl, ?_⟩⟩⟩⟩⟩)
      rw [c8]
      exact stale _ rfl _ rfl
    · rw [c8]
      unfold wpY_deliver
      refine sr _ (br_t (by decide) ⟨i8, nm_r e3y ⟨ir, br_f (by rw [y1]; exact fun q => z ((nI_eq (b := 2) (by omega) (by decide)).mp q)) ⟨i8, nm_e ⟨rfl, ?_⟩⟩⟩⟩)
      rw [c8]
      exact stale _ rfl _ rfl
end
section
/-! submit -/
def sb_num (g : Nat → vg_E) (lt : Nat) : Int32 := if lt = 0 then 0 else (g (lt - 1)).2.1
/-- Y appends -/
theorem ya_app {Z : vg_Z} {H : Nat → vg_R} {M : Nat → Int32} {f_clients f_capacity f_slots f_restarts : Int32} {a_status a_last a_cell a_view a_nonce a_length a_commit a_log a_state a_from a_to a_leader a_member : Nat → Int32} (hu : sy_R Z H M (f_clients, f_capacity, f_slots, f_restarts, a_status, a_last, a_cell, a_view, a_nonce, a_length, a_commit, a_log, a_state, a_from, a_to, a_leader, a_member)) {b j : Nat} {a o : Int32} (hb : b < 5) (hj : j < 4) (hl : (H b).2.2.2.2.1 < 32) :
    sy_R Z (fs_set H b ((H b).1, (H b).2.1, (H b).2.2.1, (H b).2.2.2.1, (H b).2.2.2.2.1 + 1, (H b).2.2.2.2.2.1, fs_set (H b).2.2.2.2.2.2 (H b).2.2.2.2.1 (nI j, a, o))) M (f_clients, f_capacity, f_slots, f_restarts, a_status, a_last, a_cell, a_view, a_nonce, upd a_length b (nI ((H b).2.2.2.2.1 + 1)), a_commit, upd (upd (upd a_log ((b * 32 + (H b).2.2.2.2.1) * 3) (nI j)) ((b * 32 + (H b).2.2.2.2.1) * 3 + 1) a) ((b * 32 + (H b).2.2.2.2.1) * 3 + 2) o, a_state, a_from, a_to, a_leader, a_member) := by
  obtain ⟨hZ, hR, hT, hm⟩ := hu
  obtain ⟨ok, ⟨s1, s2, s3, s4, s5, s6⟩, l⟩ := hR b hb
  have ok1 := ok.1
  refine sy_mk hZ ?_ (ry_keepT hb hT (fun e he => ⟨rfl, rfl, pk_un he, rfl⟩) (fun e he => ?_)) hm
  · refine ry_set hR ⟨by dsimp only; omega, ?_⟩ ⟨⟨s1, s2, s3, s4, pk_us, s6⟩, ?_⟩ (fun e he => ⟨rfl, rfl, rfl, rfl, pk_un he, rfl⟩) (fun e he => ?_)
    · intro i hi
      dsimp only at hi ⊢
      by_cases h : i = (H b).2.2.2.2.1
      · subst h
        rw [fs_eq]
        exact ⟨j, hj, rfl⟩
      · rw [fs_ne h]
        exact ok.2 i (by omega)
    · intro i hi
      dsimp only at hi ⊢
      by_cases h : i = (H b).2.2.2.2.1
      · rw [h, fs_eq]
        refine ⟨?_, ?_, pk_us⟩
        · rw [pk_un (by omega), pk_un (by omega), pk_us]
        · rw [pk_un (by omega), pk_us]
      · rw [fs_ne h]
        obtain ⟨m1, m2, m3⟩ := l i (by omega)
        refine ⟨?_, ?_, ?_⟩
        · rw [pk_un (by omega), pk_un (by omega), pk_un (by omega)]; exact m1
        · rw [pk_un (by omega), pk_un (by omega), pk_un (by omega)]; exact m2
        · rw [pk_un (by omega), pk_un (by omega), pk_un (by omega)]; exact m3
    · rw [pk_un (by omega), pk_un (by omega), pk_un (by omega)]
  · rw [pk_un (by omega), pk_un (by omega), pk_un (by omega)]
theorem i_vc_submit {k : Nat} {u : SX} {v : SY} (I : i_Rel k u v) (hk : k + 5 ≤ 2563) (v1 : Int32) (v2 : Int32) (v3 : Int32) (v4 : Int32) : wpX_submit (fun r u' => wpY_submit (fun r' v' => r' = r ∧ i_Rel (k + 5) u' v') v v1 v2 v3 v4) u v1 v2 v3 v4 := by
  obtain ⟨Z, H, Q, B, M, I, hu, hv⟩ := I
  obtain ⟨f_PREPARE, f_PREPARE_OK, f_GET_STATE, f_NEW_STATE, f_START_VIEW_CHANGE, f_DO_VIEW_CHANGE, f_GET_LOG, f_NEW_LOG, f_START_VIEW, f_clients, f_capacity, f_letters, f_restarts, f_mailHead, f_mailTail, f_acks, f_votes, f_bestVoter, f_bestLast, f_bestLength, f_bestCommit, a_status, a_view, a_last, a_nonce, a_cell, a_length, a_commit, a_logClient, a_logNumber, a_logOp, a_registers, a_tableNumber, a_tableResult, a_mailKind, a_mailFrom, a_mailTo, a_mailView, a_mailLast, a_mailCommit, a_mailLength, a_mailBase, a_mailCount, a_mailClient, a_mailNumber, a_mailOp, a_voted, a_voteCommit, a_slotState, a_slotFrom, a_slotTo, a_slotNonce, a_slotView, a_slotLeader, a_slotLength, a_slotCommit, a_slotClient, a_slotNumber, a_slotOp⟩ := u
  obtain ⟨hZ, hR, hM, hB⟩ := hu
  have hx := sx_mk hZ hR hM hB (f_PREPARE := f_PREPARE) (f_PREPARE_OK := f_PREPARE_OK) (f_GET_STATE := f_GET_STATE) (f_NEW_STATE := f_NEW_STATE) (f_START_VIEW_CHANGE := f_START_VIEW_CHANGE) (f_DO_VIEW_CHANGE := f_DO_VIEW_CHANGE) (f_GET_LOG := f_GET_LOG) (f_NEW_LOG := f_NEW_LOG) (f_START_VIEW := f_START_VIEW)
  obtain ⟨f_clients_y, f_capacity_y, f_slots_y, f_restarts_y, a_status_y, a_last_y, a_cell_y, a_view_y, a_nonce_y, a_length_y, a_commit_y, a_log_y, a_state_y, a_from_y, a_to_y, a_leader_y, a_member_y⟩ := v
  obtain ⟨kZ, kR, kT, km⟩ := hv
  have hy := sy_mk kZ kR kT km
  have zk := hZ.2.1
  unfold rz_ok at zk
  unfold wpX_submit
  have ecl : f_clients_y = nI Z.1 := kZ.1.1
  have ecap : f_capacity = nI Z.2.1 := hZ.1.2.1
  have ecapy : f_capacity_y = nI Z.2.1 := kZ.1.2.1
  rcases ix_spl v1 5 (by decide) with h1 | ⟨b, hb, rfl⟩
  · refine xm_rep_f h1 (br_t rfl ?_)
    unfold wpY_submit
    exact ym_no (y := 5) h1 (br_f (by decide) ⟨rfl, Z, H, Q, B, M, I, hx, hy⟩)
  refine xm_rep_t hb (br_f (by decide) ?_)
  rcases ix_spl v2 Z.1 (by omega) with h2 | ⟨j, hj, rfl⟩
  · refine xm_cl_f hx h2 (br_t rfl ?_)
    unfold wpY_submit
    exact ym_in (c := 5) hb (by decide) (br_t rfl (ym_no (by rw [ecl]; exact h2) (br_f (by decide) ⟨rfl, Z, H, Q, B, M, I, hx, hy⟩)))
  refine xm_cl_t hx hj (br_f (by decide) ?_)
  obtain ⟨ok, ⟨s1, s2, s3, s4, s5, s6⟩, l, xe⟩ := hR b hb
  obtain ⟨_, ⟨t1, t2, t3, t4, t5, t6⟩, ly⟩ := kR b hb
  have ok1 := ok.1
  have r1 := ix_rd (by omega : b < 2000) s1
  have r1y := ix_rd (by omega : b < 2000) t1
  have r5 := ix_rd (by omega : b < 2000) s5
  have r5y := ix_rd (by omega : b < 2000) t5
  have r6y := ix_rd (by omega : b < 2000) t6
  have i5 := ix_5 hb
  have i13 := ix_13 (by omega : b < 13)
  have yo : ∀ post : Int32 → SY → Prop, (((1 ≤ v3 → (vp_in (nI b) 5 ∧ ((((a_status_y (nI b).toNatClampNeg) = 0 → (wpY_normalPrimary (fun r_42 => (((r_42 = 0 → (post (-3) (f_clients_y, f_capacity_y, f_slots_y, f_restarts_y, a_status_y, a_last_y, a_cell_y, a_view_y, a_nonce_y, a_length_y, a_commit_y, a_log_y, a_state_y, a_from_y, a_to_y, a_leader_y, a_member_y))) ∧ (¬ r_42 = 0 → (vp_in (nI b) 13 ∧ (wpY_latest (fun r_62 => (((0 ≤ r_62 → (wpY_entryField (fun r_81 => (wY_submit_82 post (nI b) (nI j) v3 v4 r_62 r_81 f_clients_y f_capacity_y f_slots_y f_restarts_y a_status_y a_last_y a_cell_y a_view_y a_nonce_y a_length_y a_commit_y a_log_y a_state_y a_from_y a_to_y a_leader_y a_member_y)) (f_clients_y, f_capacity_y, f_slots_y, f_restarts_y, a_status_y, a_last_y, a_cell_y, a_view_y, a_nonce_y, a_length_y, a_commit_y, a_log_y, a_state_y, a_from_y, a_to_y, a_leader_y, a_member_y) (nI b) r_62 1)) ∧ (¬ 0 ≤ r_62 → (wY_submit_82 post (nI b) (nI j) v3 v4 r_62 0 f_clients_y f_capacity_y f_slots_y f_restarts_y a_status_y a_last_y a_cell_y a_view_y a_nonce_y a_length_y a_commit_y a_log_y a_state_y a_from_y a_to_y a_leader_y a_member_y))))) (f_clients_y, f_capacity_y, f_slots_y, f_restarts_y, a_status_y, a_last_y, a_cell_y, a_view_y, a_nonce_y, a_length_y, a_commit_y, a_log_y, a_state_y, a_from_y, a_to_y, a_leader_y, a_member_y) (nI b) (nI j) (a_length_y (nI b).toNatClampNeg))))))) (f_clients_y, f_capacity_y, f_slots_y, f_restarts_y, a_status_y, a_last_y, a_cell_y, a_view_y, a_nonce_y, a_length_y, a_commit_y, a_log_y, a_state_y, a_from_y, a_to_y, a_leader_y, a_member_y) (nI b))) ∧ (¬ (a_status_y (nI b).toNatClampNeg) = 0 → (post (-2) (f_clients_y, f_capacity_y, f_slots_y, f_restarts_y, a_status_y, a_last_y, a_cell_y, a_view_y, a_nonce_y, a_length_y, a_commit_y, a_log_y, a_state_y, a_from_y, a_to_y, a_leader_y, a_member_y))))))) ∧ (¬ 1 ≤ v3 → (post (-1) (f_clients_y, f_capacity_y, f_slots_y, f_restarts_y, a_status_y, a_last_y, a_cell_y, a_view_y, a_nonce_y, a_length_y, a_commit_y, a_log_y, a_state_y, a_from_y, a_to_y, a_leader_y, a_member_y))))) → wpY_submit post (f_clients_y, f_capacity_y, f_slots_y, f_restarts_y, a_status_y, a_last_y, a_cell_y, a_view_y, a_nonce_y, a_length_y, a_commit_y, a_log_y, a_state_y, a_from_y, a_to_y, a_leader_y, a_member_y) (nI b) (nI j) v3 v4 := by
    intro post h
    unfold wpY_submit
    exact ym_in (c := 5) hb (by decide) (br_t rfl (ym_ine ecl hj (by omega) (br_t rfl h)))
  refine br_c (fun h3 => ⟨i5, pk_eq (H b).1 0 (fun z => ?_) (fun z => yo _ (br_t h3 ⟨i5, br_f (by rw [r1y]; exact fun q => z ((nI_eq (b := 0) (by omega) (by decide)).mp q)) ⟨rfl, Z, H, Q, B, M, I, hx, hy⟩⟩)) (hx := r1)⟩) (fun h3 => yo _ (br_f h3 ⟨rfl, Z, H, Q, B, M, I, hx, hy⟩))
  have e0y : a_status_y (nI b).toNatClampNeg = 0 := by rw [r1y, z]; rfl
  refine xm_leads hx hb (fun y => br_f (by decide) ?_) (fun y => br_t rfl (yo _ (br_t h3 ⟨i5, br_t e0y (ym_np hy hb (fun q => absurd q.2 y) (fun _ => br_t rfl ⟨rfl, Z, H, Q, B, M, I, hx, hy⟩))⟩)))
  -- the newest entry of the client
  have ent : ∀ i, i < (H b).2.2.2.2.1 → 1 ≤ ((H b).2.2.2.2.2.2 i).2.1 := fun i hi => ((I.2.2.2.1 _ (Or.inl ⟨b, hb, rfl⟩)).2.2 i hi).2
  have pos : ∀ a : Int32, 1 ≤ a → ¬ a = 0 := by
    intro a ha e
    rw [e] at ha
    exact absurd ha (by decide)
  have ll := vl_lat_le (g := (H b).2.2.2.2.2.2) (c := nI j) (H b).2.2.2.2.1
  have epen := vl_pen_lat (g := (H b).2.2.2.2.2.2) (c := nI j) (lo := (H b).2.2.2.2.2.1) (H b).2.2.2.2.1 (by omega)
  have elo := vl_lat_lo (g := (H b).2.2.2.2.2.2) (c := nI j) (lo := (H b).2.2.2.2.2.1) (H b).2.2.2.2.1 (by omega)
  have enum := vl_num_lat (g := (H b).2.2.2.2.2.2) (c := nI j) (H b).2.2.2.2.2.1
  generalize hlt : vl_lat (H b).2.2.2.2.2.2 (H b).2.2.2.2.1 (nI j) = lt at ll epen elo
  -- Y at its branch
  have y82 : ∀ post : Int32 → SY → Prop, wY_submit_82 post (nI b) (nI j) v3 v4 (nI lt - 1) (sb_num (H b).2.2.2.2.2.2 lt) f_clients_y f_capacity_y f_slots_y f_restarts_y a_status_y a_last_y a_cell_y a_view_y a_nonce_y a_length_y a_commit_y a_log_y a_state_y a_from_y a_to_y a_leader_y a_member_y → wpY_submit post (f_clients_y, f_capacity_y, f_slots_y, f_restarts_y, a_status_y, a_last_y, a_cell_y, a_view_y, a_nonce_y, a_length_y, a_commit_y, a_log_y, a_state_y, a_from_y, a_to_y, a_leader_y, a_member_y) (nI b) (nI j) v3 v4 := by
    intro post h
    refine yo post (br_t h3 ⟨i5, br_t e0y (ym_np hy hb (fun _ => br_f (by decide) ⟨i13, ?_⟩) (fun q => absurd ⟨z, y⟩ q))⟩)
    rw [r5y]
    refine ym_lat hy hb (Nat.le_refl _) ?_
    rw [hlt]
    unfold sb_num at h
    by_cases z0 : lt = 0
    · rw [if_pos z0] at h
      rw [z0] at h ⊢
      exact br_f (by decide) h
    · rw [if_neg z0] at h
      obtain ⟨m, rfl⟩ : ∃ m, lt = m + 1 := ⟨lt - 1, by omega⟩
      rw [nI_pred] at h ⊢
      rw [Nat.add_sub_cancel] at h
      exact br_t (nI_pos' (by omega)) (ym_ent (f := 1) hy hb (by omega) (by decide) (fun q => absurd q (by decide)) (fun _ => h) (fun q => absurd q (by decide)))
  have main : ∀ x5 : Int32, (x5 = 0 ↔ lt ≤ (H b).2.2.2.2.2.1) → wX_submit_75 (fun r u' => wpY_submit (fun r' v' => r' = r ∧ i_Rel (k + 5) u' v') (f_clients_y, f_capacity_y, f_slots_y, f_restarts_y, a_status_y, a_last_y, a_cell_y, a_view_y, a_nonce_y, a_length_y, a_commit_y, a_log_y, a_state_y, a_from_y, a_to_y, a_leader_y, a_member_y) (nI b) (nI j) v3 v4) (nI b) (nI j) v3 v4 x5 (sb_num (H b).2.2.2.2.2.2 lt) f_PREPARE f_PREPARE_OK f_GET_STATE f_NEW_STATE f_START_VIEW_CHANGE f_DO_VIEW_CHANGE f_GET_LOG f_NEW_LOG f_START_VIEW f_clients f_capacity f_letters f_restarts f_mailHead f_mailTail f_acks f_votes f_bestVoter f_bestLast f_bestLength f_bestCommit a_status a_view a_last a_nonce a_cell a_length a_commit a_logClient a_logNumber a_logOp a_registers a_tableNumber a_tableResult a_mailKind a_mailFrom a_mailTo a_mailView a_mailLast a_mailCommit a_mailLength a_mailBase a_mailCount a_mailClient a_mailNumber a_mailOp a_voted a_voteCommit a_slotState a_slotFrom a_slotTo a_slotNonce a_slotView a_slotLeader a_slotLength a_slotCommit a_slotClient a_slotNumber a_slotOp := by
    intro x5 hx5
    refine br_c (fun n1 => br_c (fun n2 => ?_) (fun n2 => ⟨i5, pk_lt (H b).2.2.2.2.1 Z.2.1 (fun n3 => ?_) (fun n3 => ?_) (hx := r5) (hy := ecap)⟩)) (fun n1 => ?_)
    · -- answered or pending
      have lt0 : lt ≠ 0 := by
        intro q
        unfold sb_num at n2
        rw [if_pos q] at n2
        exact pos v3 h3 n2
      obtain ⟨m, hm⟩ : ∃ m, lt = m + 1 := ⟨lt - 1, by omega⟩
      refine br_c (fun x0 => y82 _ (br_t n1 (br_t n2 ⟨i13, br_f ?_ ⟨rfl, Z, H, Q, B, M, I, hx, hy⟩⟩))) (fun x0 => y82 _ (br_t n1 (br_t n2 ⟨i13, br_t ?_ ⟨rfl, Z, H, Q, B, M, I, hx, hy⟩⟩)))
      · have := hx5.mp x0
        rw [r6y, hm, nI_pred]
        exact nI_ge (by omega) (by omega)
      · have nle : ¬ lt ≤ (H b).2.2.2.2.2.1 := fun q => x0 (hx5.mpr q)
        rw [r6y, hm, nI_pred]
        exact nI_le (by omega) (by omega)
    · -- a new entry
      have n2' : ¬ v3 = sb_num (H b).2.2.2.2.2.2 lt := n2
      have l32 : (H b).2.2.2.2.1 < 32 := by omega
      have Ia := iv_app (k := j) (a := v3) (o := v4) I hb z y hj h3 n3
      have hya := ya_app (a := v3) (o := v4) hy hb (by omega : j < 4) l32
      generalize hHa : fs_set H b ((H b).1, (H b).2.1, (H b).2.2.1, (H b).2.2.2.1, (H b).2.2.2.2.1 + 1, (H b).2.2.2.2.2.1, fs_set (H b).2.2.2.2.2.2 (H b).2.2.2.2.1 (nI j, v3, v4)) = Ha at Ia hya
      have hab : (Ha b).1 = 0 ∧ (Ha b).2.1 = (H b).2.1 ∧ (Ha b).2.2.2.2.1 = (H b).2.2.2.2.1 + 1 := by
        rw [← hHa, fs_eq]
        exact ⟨z, rfl, rfl⟩
      have hav : (Ha b).2.1 % 5 = b := by rw [hab.2.1]; exact y
      have fin : ∀ (a : Int32) (u' : SX) (Q' : Nat → vg_M) (B' : vg_B), sx_R Z (vg_spr Ha Z.2.2.2.2.1 b) 0 0 Q' B' u' → ((a = 2 ∧ (vg_spr Ha Z.2.2.2.2.1 b b).2.2.2.2.2.1 = (vg_spr Ha Z.2.2.2.2.1 b b).2.2.2.2.1) ∨ (a = 1 ∧ (vg_spr Ha Z.2.2.2.2.1 b b).2.2.2.2.2.1 ≠ (vg_spr Ha Z.2.2.2.2.1 b b).2.2.2.2.1)) → wpY_submit (fun r' v' => r' = a ∧ i_Rel (k + 5) u' v') (f_clients_y, f_capacity_y, f_slots_y, f_restarts_y, a_status_y, a_last_y, a_cell_y, a_view_y, a_nonce_y, a_length_y, a_commit_y, a_log_y, a_state_y, a_from_y, a_to_y, a_leader_y, a_member_y) (nI b) (nI j) v3 v4 := by
        intro a u' Q' B' hu' ha
        refine y82 _ (br_t n1 (br_f n2' ⟨i13, br_t (by rw [r5y, ecapy]; exact nI_lt n3 (by omega)) ⟨i13, ?_⟩⟩))
        have e7 : (nI b * 32 + a_length_y (nI b).toNatClampNeg) * 3 = nI ((b * 32 + (H b).2.2.2.2.1) * 3) := by
          rw [r5y, ix_m32, show (3 : Int32) = nI 3 from rfl, pk_mul]
        refine nm_r e7 ?_
        have e70 : nI ((b * 32 + (H b).2.2.2.2.1) * 3) + 0 = nI ((b * 32 + (H b).2.2.2.2.1) * 3) := Int32.add_zero _
        have e71 : nI ((b * 32 + (H b).2.2.2.2.1) * 3) + 1 = nI ((b * 32 + (H b).2.2.2.2.1) * 3 + 1) := nI_1 _
        have e72 : nI ((b * 32 + (H b).2.2.2.2.1) * 3) + 2 = nI ((b * 32 + (H b).2.2.2.2.1) * 3 + 2) := nI_add _ 2
        rw [e70, e71, e72, ix_c (b := (b * 32 + (H b).2.2.2.2.1) * 3) (by omega), ix_c (b := (b * 32 + (H b).2.2.2.2.1) * 3 + 1) (by omega), ix_c (b := (b * 32 + (H b).2.2.2.2.1) * 3 + 2) (by omega)]
        refine ⟨ix_1248 (by omega), nm_e ⟨ix_1248 (by omega), nm_e ⟨ix_1248 (by omega), nm_e ⟨i13, i13, nm_e ?_⟩⟩⟩⟩
        rw [r5y, nI_1, ix_c (b := b) (by omega)]
        refine ym_spread (H0 := Ha) hb ⟨hab.1, by rw [hab.2.1]; omega⟩ hya (fun w hw => ?_)
        clear hya kZ kR kT km hy yo y82 t1 t2 t3 t4 t5 t6 ly r1y r5y r6y e0y e7
        obtain ⟨f_clients_z, f_capacity_z, f_slots_z, f_restarts_z, a_status_z, a_last_z, a_cell_z, a_view_z, a_nonce_z, a_length_z, a_commit_z, a_log_z, a_state_z, a_from_z, a_to_z, a_leader_z, a_member_z⟩ := w
        have hw' := hw
        obtain ⟨kZ, kR, kT, km⟩ := hw
        obtain ⟨okw, ⟨_, _, _, _, w5, w6⟩, _⟩ := kR b hb
        have okw1 := okw.1
        refine ⟨i13, i13, pk_eq (vg_spr Ha Z.2.2.2.2.1 b b).2.2.2.2.2.1 (vg_spr Ha Z.2.2.2.2.1 b b).2.2.2.2.1 (fun q => ⟨?_, _, _, _, _, _, iv_spr Ia hb hab.1 hav, hu', hw'⟩) (fun q => ⟨?_, _, _, _, _, _, iv_spr Ia hb hab.1 hav, hu', hw'⟩) (hx := w6) (hy := w5)⟩
        · rcases ha with ⟨e, _⟩ | ⟨_, e⟩
          · exact e.symm
          · exact absurd q e
        · rcases ha with ⟨_, e⟩ | ⟨e, _⟩
          · exact absurd e q
          · exact e.symm
      refine xm_append hx hb (by omega) l32 (fun u1 hu1 => ?_)
      rw [hHa] at hu1
      have sp := @xm_spread Z Ha b 1 (fun rr u => match u with | (f_PREPARE_z, f_PREPARE_OK_z, f_GET_STATE_z, f_NEW_STATE_z, f_START_VIEW_CHANGE_z, f_DO_VIEW_CHANGE_z, f_GET_LOG_z, f_NEW_LOG_z, f_START_VIEW_z, f_clients_z, f_capacity_z, f_letters_z, f_restarts_z, f_mailHead_z, f_mailTail_z, f_acks_z, f_votes_z, f_bestVoter_z, f_bestLast_z, f_bestLength_z, f_bestCommit_z, a_status_z, a_view_z, a_last_z, a_nonce_z, a_cell_z, a_length_z, a_commit_z, a_logClient_z, a_logNumber_z, a_logOp_z, a_registers_z, a_tableNumber_z, a_tableResult_z, a_mailKind_z, a_mailFrom_z, a_mailTo_z, a_mailView_z, a_mailLast_z, a_mailCommit_z, a_mailLength_z, a_mailBase_z, a_mailCount_z, a_mailClient_z, a_mailNumber_z, a_mailOp_z, a_voted_z, a_voteCommit_z, a_slotState_z, a_slotFrom_z, a_slotTo_z, a_slotNonce_z, a_slotView_z, a_slotLeader_z, a_slotLength_z, a_slotCommit_z, a_slotClient_z, a_slotNumber_z, a_slotOp_z) => (vp_in (nI b) 5 ∧ (vp_in (nI b) 5 ∧ ((((a_commit_z (nI b).toNatClampNeg) = (a_length_z (nI b).toNatClampNeg) → ((fun r u' => wpY_submit (fun r' v' => r' = r ∧ i_Rel (k + 5) u' v') (f_clients_y, f_capacity_y, f_slots_y, f_restarts_y, a_status_y, a_last_y, a_cell_y, a_view_y, a_nonce_y, a_length_y, a_commit_y, a_log_y, a_state_y, a_from_y, a_to_y, a_leader_y, a_member_y) (nI b) (nI j) v3 v4) 2 (f_PREPARE_z, f_PREPARE_OK_z, f_GET_STATE_z, f_NEW_STATE_z, f_START_VIEW_CHANGE_z, f_DO_VIEW_CHANGE_z, f_GET_LOG_z, f_NEW_LOG_z, f_START_VIEW_z, f_clients_z, f_capacity_z, f_letters_z, f_restarts_z, f_mailHead_z, f_mailTail_z, f_acks_z, f_votes_z, f_bestVoter_z, f_bestLast_z, f_bestLength_z, f_bestCommit_z, a_status_z, a_view_z, a_last_z, a_nonce_z, a_cell_z, a_length_z, a_commit_z, a_logClient_z, a_logNumber_z, a_logOp_z, a_registers_z, a_tableNumber_z, a_tableResult_z, a_mailKind_z, a_mailFrom_z, a_mailTo_z, a_mailView_z, a_mailLast_z, a_mailCommit_z, a_mailLength_z, a_mailBase_z, a_mailCount_z, a_mailClient_z, a_mailNumber_z, a_mailOp_z, a_voted_z, a_voteCommit_z, a_slotState_z, a_slotFrom_z, a_slotTo_z, a_slotNonce_z, a_slotView_z, a_slotLeader_z, a_slotLength_z, a_slotCommit_z, a_slotClient_z, a_slotNumber_z, a_slotOp_z))) ∧ (¬ (a_commit_z (nI b).toNatClampNeg) = (a_length_z (nI b).toNatClampNeg) → ((fun r u' => wpY_submit (fun r' v' => r' = r ∧ i_Rel (k + 5) u' v') (f_clients_y, f_capacity_y, f_slots_y, f_restarts_y, a_status_y, a_last_y, a_cell_y, a_view_y, a_nonce_y, a_length_y, a_commit_y, a_log_y, a_state_y, a_from_y, a_to_y, a_leader_y, a_member_y) (nI b) (nI j) v3 v4) 1 (f_PREPARE_z, f_PREPARE_OK_z, f_GET_STATE_z, f_NEW_STATE_z, f_START_VIEW_CHANGE_z, f_DO_VIEW_CHANGE_z, f_GET_LOG_z, f_NEW_LOG_z, f_START_VIEW_z, f_clients_z, f_capacity_z, f_letters_z, f_restarts_z, f_mailHead_z, f_mailTail_z, f_acks_z, f_votes_z, f_bestVoter_z, f_bestLast_z, f_bestLength_z, f_bestCommit_z, a_status_z, a_view_z, a_last_z, a_nonce_z, a_cell_z, a_length_z, a_commit_z, a_logClient_z, a_logNumber_z, a_logOp_z, a_registers_z, a_tableNumber_z, a_tableResult_z, a_mailKind_z, a_mailFrom_z, a_mailTo_z, a_mailView_z, a_mailLast_z, a_mailCommit_z, a_mailLength_z, a_mailBase_z, a_mailCount_z, a_mailClient_z, a_mailNumber_z, a_mailOp_z, a_voted_z, a_voteCommit_z, a_slotState_z, a_slotFrom_z, a_slotTo_z, a_slotNonce_z, a_slotView_z, a_slotLeader_z, a_slotLength_z, a_slotCommit_z, a_slotClient_z, a_slotNumber_z, a_slotOp_z)))))))) hb ⟨hab.1, hav⟩ (by rw [hab.2.2]; omega) (fun c hc fc => iv_sp Ia hb hc hab.1 hav fc) B Q u1 hu1 (fun u2 Q2 B2 hu2 => ?_)
      · clear hZ hR hM hB hx l xe s1 s2 s3 s4 s5 s6 r1 r5 hu1 ecap
        obtain ⟨f_PREPARE, f_PREPARE_OK, f_GET_STATE, f_NEW_STATE, f_START_VIEW_CHANGE, f_DO_VIEW_CHANGE, f_GET_LOG, f_NEW_LOG, f_START_VIEW, f_clients, f_capacity, f_letters, f_restarts, f_mailHead, f_mailTail, f_acks, f_votes, f_bestVoter, f_bestLast, f_bestLength, f_bestCommit, a_status, a_view, a_last, a_nonce, a_cell, a_length, a_commit, a_logClient, a_logNumber, a_logOp, a_registers, a_tableNumber, a_tableResult, a_mailKind, a_mailFrom, a_mailTo, a_mailView, a_mailLast, a_mailCommit, a_mailLength, a_mailBase, a_mailCount, a_mailClient, a_mailNumber, a_mailOp, a_voted, a_voteCommit, a_slotState, a_slotFrom, a_slotTo, a_slotNonce, a_slotView, a_slotLeader, a_slotLength, a_slotCommit, a_slotClient, a_slotNumber, a_slotOp⟩ := u1
        exact sp
      · have f1 := fin 1 u2 Q2 B2 hu2
        have f2 := fin 2 u2 Q2 B2 hu2
        clear hZ hR hM hB hx l xe s1 s2 s3 s4 s5 s6 r1 r5 hu1 ecap fin
        obtain ⟨f_PREPARE, f_PREPARE_OK, f_GET_STATE, f_NEW_STATE, f_START_VIEW_CHANGE, f_DO_VIEW_CHANGE, f_GET_LOG, f_NEW_LOG, f_START_VIEW, f_clients, f_capacity, f_letters, f_restarts, f_mailHead, f_mailTail, f_acks, f_votes, f_bestVoter, f_bestLast, f_bestLength, f_bestCommit, a_status, a_view, a_last, a_nonce, a_cell, a_length, a_commit, a_logClient, a_logNumber, a_logOp, a_registers, a_tableNumber, a_tableResult, a_mailKind, a_mailFrom, a_mailTo, a_mailView, a_mailLast, a_mailCommit, a_mailLength, a_mailBase, a_mailCount, a_mailClient, a_mailNumber, a_mailOp, a_voted, a_voteCommit, a_slotState, a_slotFrom, a_slotTo, a_slotNonce, a_slotView, a_slotLeader, a_slotLength, a_slotCommit, a_slotClient, a_slotNumber, a_slotOp⟩ := u2
        obtain ⟨hZ, hR, hM, hB⟩ := hu2
        obtain ⟨okw, ⟨_, _, _, _, w5, w6⟩, _⟩ := hR b hb
        have okw1 := okw.1
        exact ⟨i5, i5, pk_eq (vg_spr Ha Z.2.2.2.2.1 b b).2.2.2.2.2.1 (vg_spr Ha Z.2.2.2.2.1 b b).2.2.2.2.1 (fun q => f2 (Or.inl ⟨rfl, q⟩)) (fun q => f1 (Or.inr ⟨rfl, q⟩)) (hx := ix_rd (by omega) w6) (hy := ix_rd (by omega) w5)⟩
    · exact y82 _ (br_t n1 (br_f n2 ⟨i13, br_f (by rw [r5y, ecapy]; exact nI_nlt n3 (by omega)) ⟨rfl, Z, H, Q, B, M, I, hx, hy⟩⟩))
    · exact y82 _ (br_f n1 ⟨rfl, Z, H, Q, B, M, I, hx, hy⟩)
  refine xm_pen hx hb ?_
  rw [epen]
  by_cases c : (H b).2.2.2.2.2.1 < lt
  · rw [if_pos c]
    have n0 : ¬ ((H b).2.2.2.2.2.2 (lt - 1)).2.1 = 0 := pos _ (ent (lt - 1) (by omega))
    refine br_f n0 ?_
    have h := main ((H b).2.2.2.2.2.2 (lt - 1)).2.1 ⟨fun q => absurd q n0, fun q => absurd q (by omega)⟩
    unfold sb_num at h
    rw [if_neg (by omega)] at h
    exact h
  · rw [if_neg c]
    have el := elo (by omega)
    rw [el] at enum
    refine br_t rfl ?_
    rw [ix_m4, ix_c (b := b * 4 + j) (by omega), (xe j (by omega)).2.1, enum]
    refine ⟨ix_20 (by omega), nm_e ?_⟩
    exact main 0 ⟨fun _ => by omega, fun _ => rfl⟩
end
