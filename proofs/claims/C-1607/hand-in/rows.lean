section
theorem pk_us {f : Nat → Int32} {k : Nat} {x : Int32} : upd f k x k = x := if_pos rfl
theorem pk_un {f : Nat → Int32} {k j : Nat} {x : Int32} (h : j ≠ k) : upd f k x j = f j := if_neg h
def bt (x : Int32) (i : Nat) : Bool := x.toBitVec.getLsbD i
theorem b_ext {x y : Int32} (h : ∀ i, i < 32 → bt x i = bt y i) : x = y := Int32.toBitVec_inj.mp (BitVec.eq_of_getLsbD_eq (fun i hi => h i hi))
theorem b_or (x y : Int32) (i : Nat) : bt (x ||| y) i = (bt x i || bt y i) := by unfold bt; rw [Int32.toBitVec_or, BitVec.getLsbD_or]
theorem b_and (x y : Int32) (i : Nat) : bt (x &&& y) i = (bt x i && bt y i) := by unfold bt; rw [Int32.toBitVec_and, BitVec.getLsbD_and]
theorem b_xor (x y : Int32) (i : Nat) : bt (x ^^^ y) i = (bt x i ^^ bt y i) := by unfold bt; rw [Int32.toBitVec_xor, BitVec.getLsbD_xor]
theorem b_big {x : Int32} {i : Nat} (h : 32 ≤ i) : bt x i = false := BitVec.getLsbD_of_ge _ _ h
theorem b_m1 : ∀ i, i < 32 → bt (-1) i = true := by decide +kernel
theorem b_0 (i : Nat) : bt 0 i = false := BitVec.getLsbD_zero
theorem s_l : ∀ n, n < 32 → ((nI n &&& 31).toBitVec.smod 32).toNat = n := by decide +kernel
theorem b_shl (n : Nat) (hn : n < 32) (x : Int32) {i : Nat} (hi : i < 32) : bt (x <<< (nI n &&& 31)) i = (decide (n ≤ i) && bt x (i - n)) := by
  unfold bt
  rw [Int32.toBitVec_shiftLeft]
  show (x.toBitVec <<< ((nI n &&& 31).toBitVec.smod 32).toNat).getLsbD i = _
  rw [s_l n hn, BitVec.getLsbD_shiftLeft]
  rcases Nat.lt_or_ge i n with h | h
  · simp [h, Nat.not_le.mpr h]
  · simp [hi, h, Nat.not_lt.mpr h]
theorem b_sshr (n : Nat) (hn : n < 32) (x : Int32) {i : Nat} (hi : i < 32) : bt (x >>> (nI n &&& 31)) i = if n + i < 32 then bt x (n + i) else bt x 31 := by
  unfold bt
  rw [Int32.toBitVec_shiftRight]
  show (x.toBitVec.sshiftRight ((nI n &&& 31).toBitVec.smod 32).toNat).getLsbD i = _
  rw [s_l n hn, BitVec.getLsbD_sshiftRight, BitVec.msb_eq_getLsbD_last]
  simp [hi]
/-! own rows on bits: a key's bit in a set of keys -/
/-- a truth as the byte code keeps it -/
def ls_b01 (b : Bool) : Int32 := if b then 1 else 0
theorem ls_b01_t : ls_b01 true = 1 := rfl
theorem ls_b01_f : ls_b01 false = 0 := rfl
theorem ls_br {b : Bool} {A B : Prop} (f : b = false → A) (t : b = true → B) : (ls_b01 b = 0 → A) ∧ (¬ ls_b01 b = 0 → B) := by
  cases b
  · exact ⟨fun _ => f rfl, fun h => absurd rfl h⟩
  · exact ⟨fun h => absurd h (by decide), fun _ => t rfl⟩
theorem ls_br1 {b : Bool} {A B : Prop} (t : b = true → A) (f : b = false → B) : (ls_b01 b = 1 → A) ∧ (¬ ls_b01 b = 1 → B) := by
  cases b
  · exact ⟨fun h => absurd h (by decide), fun _ => f rfl⟩
  · exact ⟨fun _ => t rfl, fun h => absurd rfl h⟩
theorem ls_bt1 : ∀ i, i < 32 → bt 1 i = decide (i = 0) := by decide +kernel
theorem ls_bit {K : Int32} {k : Nat} (hk : k < 32) : (K >>> (nI k &&& 31)) &&& 1 = ls_b01 (bt K k) := by
  apply b_ext
  intro i hi
  rw [b_and, b_sshr k hk K hi, ls_bt1 i hi]
  by_cases h : i = 0
  · subst h
    rw [if_pos (by omega)]
    cases bt K (k + 0) <;> rfl
  · rw [decide_eq_false h, Bool.and_false]
    cases bt K k
    · exact (b_0 i).symm
    · show false = bt 1 i
      rw [ls_bt1 i hi, decide_eq_false h]
theorem ls_one {k i : Nat} (hk : k < 32) (hi : i < 32) : bt ((1 : Int32) <<< (nI k &&& 31)) i = decide (i = k) := by
  rw [b_shl k hk 1 hi, ls_bt1 (i - k) (by omega)]
  by_cases h : i = k
  · subst h
    simp
  · rw [decide_eq_false h]
    by_cases h2 : k ≤ i
    · rw [decide_eq_false (show ¬ i - k = 0 by omega), Bool.and_false]
    · rw [decide_eq_false h2, Bool.false_and]
theorem ls_orb {K : Int32} {k i : Nat} (hk : k < 32) (hi : i < 32) : bt (K ||| ((1 : Int32) <<< (nI k &&& 31))) i = (bt K i || decide (i = k)) := by
  rw [b_or, ls_one hk hi]
theorem ls_clr {K : Int32} {k i : Nat} (hk : k < 32) (hi : i < 32) : bt (K &&& (((1 : Int32) <<< (nI k &&& 31)) ^^^ (-1))) i = (bt K i && !decide (i = k)) := by
  rw [b_and, b_xor, ls_one hk hi, b_m1 i hi, Bool.xor_true]
end
section
/-! the row of entries, in plain Lean -/
/-- an entry's number as the arrays keep it: 0 for none, j + 1 for entry j -/
def ls_en : Nat → Int32
  | 0 => -1
  | j + 1 => nI j
/-- the last entry of key k ahead of a place, plus one; 0 if there is none -/
def ls_la (key : Nat → Int32) (k : Nat) : Nat → Nat
  | 0 => 0
  | n + 1 => if key n = nI k then n + 1 else ls_la key k n
/-- what an entry says of its key -/
def ls_at (rem val : Nat → Int32) : Nat → Option Int32
  | 0 => none
  | j + 1 => if rem j = 0 then some (val j) else none
/-- what the row says of key k ahead of a place -/
def ls_vw (key rem val : Nat → Int32) (k p : Nat) : Option Int32 := ls_at rem val (ls_la key k p)
theorem ls_la_t {key : Nat → Int32} {k n : Nat} (h : key n = nI k) : ls_la key k (n + 1) = n + 1 := if_pos h
theorem ls_la_f {key : Nat → Int32} {k n : Nat} (h : ¬ key n = nI k) : ls_la key k (n + 1) = ls_la key k n := if_neg h
theorem ls_la_le (key : Nat → Int32) (k : Nat) : ∀ n, ls_la key k n ≤ n
  | 0 => Nat.le_refl 0
  | n + 1 => by
    by_cases h : key n = nI k
    · rw [ls_la_t h]; exact Nat.le_refl _
    · rw [ls_la_f h]; exact Nat.le_succ_of_le (ls_la_le key k n)
theorem ls_la_cut {key : Nat → Int32} {k : Nat} : ∀ {n p : Nat}, p ≤ n → ls_la key k n ≤ p → ls_la key k n = ls_la key k p
  | 0, p, h, _ => by
    have e : p = 0 := by omega
    rw [e]
  | n + 1, p, h, h2 => by
    by_cases e : p = n + 1
    · rw [e]
    · by_cases hk : key n = nI k
      · rw [ls_la_t hk] at h2
        omega
      · rw [ls_la_f hk] at h2 ⊢
        exact ls_la_cut (by omega) h2
theorem ls_la_key {key : Nat → Int32} {k j : Nat} : ∀ {n : Nat}, ls_la key k n = j + 1 → key j = nI k ∧ j < n
  | 0, h => by
    have h2 : (0 : Nat) = j + 1 := h
    omega
  | n + 1, h => by
    by_cases hk : key n = nI k
    · rw [ls_la_t hk] at h
      have e : j = n := by omega
      rw [e]
      exact ⟨hk, Nat.lt_succ_self n⟩
    · rw [ls_la_f hk] at h
      have ⟨a, b⟩ := ls_la_key h
      exact ⟨a, Nat.lt_succ_of_lt b⟩
theorem ls_la_cong {key key' : Nat → Int32} {k : Nat} : ∀ {n : Nat}, (∀ i, i < n → key' i = key i) → ls_la key' k n = ls_la key k n
  | 0, _ => rfl
  | n + 1, h => by
    have ih := ls_la_cong (key := key) (key' := key') (k := k) (n := n) (fun i hi => h i (Nat.lt_succ_of_lt hi))
    have e := h n (Nat.lt_succ_self n)
    by_cases hk : key n = nI k
    · rw [ls_la_t hk, ls_la_t (e.trans hk)]
    · rw [ls_la_f hk, ls_la_f (fun z => hk (e.symm.trans z)), ih]
theorem ls_at_cong {rem rem' val val' : Nat → Int32} {m n : Nat} (hm : m ≤ n) (hr : ∀ i, i < n → rem' i = rem i) (hv : ∀ i, i < n → val' i = val i) : ls_at rem' val' m = ls_at rem val m := by
  cases m with
  | zero => rfl
  | succ j =>
    show (if rem' j = 0 then some (val' j) else none) = (if rem j = 0 then some (val j) else none)
    rw [hr j (by omega), hv j (by omega)]
theorem ls_vw_cong {key key' rem rem' val val' : Nat → Int32} {k p n : Nat} (hp : p ≤ n) (hk : ∀ i, i < n → key' i = key i) (hr : ∀ i, i < n → rem' i = rem i) (hv : ∀ i, i < n → val' i = val i) : ls_vw key' rem' val' k p = ls_vw key rem val k p := by
  unfold ls_vw
  rw [ls_la_cong (fun i hi => hk i (by omega)), ls_at_cong (Nat.le_trans (ls_la_le key k p) hp) hr hv]
/-! the row's order: keys, links, flags, the latest of each key -/
def ls_ch (key ear : Nat → Int32) (n : Nat) : Prop := ∀ i, i < n → ∃ k, k < 16 ∧ key i = nI k ∧ ear i = ls_en (ls_la key k i)
def ls_bl (rem : Nat → Int32) (n : Nat) : Prop := ∀ i, i < n → rem i = 0 ∨ rem i = 1
def ls_lt (key lat : Nat → Int32) (n : Nat) : Prop := ∀ k, k < 16 → lat k = ls_en (ls_la key k n)
def ls_ok (key rem ear lat : Nat → Int32) (n : Nat) : Prop := ls_ch key ear n ∧ ls_bl rem n ∧ ls_lt key lat n
theorem ls_ch_le {key ear : Nat → Int32} {n p : Nat} (h : ls_ch key ear n) (hp : p ≤ n) : ls_ch key ear p := fun i hi => h i (by omega)
theorem ls_bl_le {rem : Nat → Int32} {n p : Nat} (h : ls_bl rem n) (hp : p ≤ n) : ls_bl rem p := fun i hi => h i (by omega)
/-- one more entry -/
theorem ls_ok_gen {key key' rem rem' ear ear' lat lat' : Nat → Int32} {n k : Nat} (h : ls_ok key rem ear lat n) (hk : k < 16)
    (k1 : ∀ i, i < n → key' i = key i) (k2 : key' n = nI k) (r1 : ∀ i, i < n → rem' i = rem i) (r2 : rem' n = 0 ∨ rem' n = 1)
    (e1 : ∀ i, i < n → ear' i = ear i) (e2 : ear' n = lat k) (l1 : ∀ j, j ≠ k → lat' j = lat j) (l2 : lat' k = nI n) : ls_ok key' rem' ear' lat' (n + 1) := by
  obtain ⟨hc, hb, hl⟩ := h
  refine ⟨fun i hi => ?_, fun i hi => ?_, fun j hj => ?_⟩
  · by_cases e : i = n
    · subst e
      exact ⟨k, hk, k2, by rw [e2, hl k hk, ls_la_cong k1]⟩
    · obtain ⟨c, hc1, hc2, hc3⟩ := hc i (by omega)
      exact ⟨c, hc1, (k1 i (by omega)).trans hc2, by rw [e1 i (by omega), hc3, ls_la_cong (fun q hq => k1 q (by omega))]⟩
  · by_cases e : i = n
    · subst e
      exact r2
    · rw [r1 i (by omega)]
      exact hb i (by omega)
  · by_cases e : j = k
    · subst e
      rw [l2, ls_la_t k2]
      rfl
    · have hne : ¬ key' n = nI j := by
        rw [k2, nI_eq (by omega) (by omega)]
        omega
      rw [l1 j e, hl j hj, ls_la_f hne, ls_la_cong k1]
theorem ls_up_lt {f : Nat → Int32} {n : Nat} {x : Int32} : ∀ i, i < n → upd f n x i = f i := fun _ hi => pk_un (by omega)
theorem ls_ok_ext {key rem ear lat : Nat → Int32} {n k : Nat} {b : Int32} (h : ls_ok key rem ear lat n) (hk : k < 16) (hb : b = 0 ∨ b = 1) : ls_ok (upd key n (nI k)) (upd rem n b) (upd ear n (lat k)) (upd lat k (nI n)) (n + 1) :=
  ls_ok_gen h hk ls_up_lt pk_us ls_up_lt (by rw [pk_us]; exact hb) ls_up_lt pk_us (fun _ hj => pk_un hj) pk_us
theorem ls_ok_re {key rem ear lat : Nat → Int32} {n k : Nat} (h : ls_ok key rem ear lat n) (hk : k < 16) (hkey : key n = nI k) (hb : rem n = 0 ∨ rem n = 1) : ls_ok key rem (upd ear n (lat k)) (upd lat k (nI n)) (n + 1) :=
  ls_ok_gen h hk (fun _ _ => rfl) hkey (fun _ _ => rfl) hb ls_up_lt pk_us (fun _ hj => pk_un hj) pk_us
theorem ls_ok_cong {key key' rem rem' ear ear' lat : Nat → Int32} {n : Nat} (h : ls_ok key rem ear lat n) (k1 : ∀ i, i < n → key' i = key i) (r1 : ∀ i, i < n → rem' i = rem i) (e1 : ∀ i, i < n → ear' i = ear i) : ls_ok key' rem' ear' lat n := by
  obtain ⟨hc, hb, hl⟩ := h
  refine ⟨fun i hi => ?_, fun i hi => ?_, fun j hj => ?_⟩
  · obtain ⟨c, hc1, hc2, hc3⟩ := hc i hi
    exact ⟨c, hc1, (k1 i hi).trans hc2, by rw [e1 i hi, hc3, ls_la_cong (fun q hq => k1 q (by omega))]⟩
  · rw [r1 i hi]
    exact hb i hi
  · rw [hl j hj, ls_la_cong k1]
theorem ls_vw_old {key rem val : Nat → Int32} {n j p : Nat} {x b v : Int32} (hp : p ≤ n) : ls_vw (upd key n x) (upd rem n b) (upd val n v) j p = ls_vw key rem val j p :=
  ls_vw_cong hp ls_up_lt ls_up_lt ls_up_lt
theorem ls_vw_new {key rem val : Nat → Int32} {n k : Nat} {b v : Int32} : ls_vw (upd key n (nI k)) (upd rem n b) (upd val n v) k (n + 1) = if b = 0 then some v else none := by
  unfold ls_vw
  rw [ls_la_t pk_us]
  show (if upd rem n b n = 0 then some (upd val n v n) else none) = _
  rw [pk_us, pk_us]
theorem ls_vw_oth {key rem val : Nat → Int32} {n k j : Nat} {b v : Int32} (hk : k < 16) (hj : j < 16) (h : j ≠ k) : ls_vw (upd key n (nI k)) (upd rem n b) (upd val n v) j (n + 1) = ls_vw key rem val j n := by
  have hne : ¬ upd key n (nI k) n = nI j := by
    rw [pk_us, nI_eq (by omega) (by omega)]
    omega
  have e : ls_vw (upd key n (nI k)) (upd rem n b) (upd val n v) j (n + 1) = ls_vw (upd key n (nI k)) (upd rem n b) (upd val n v) j n := by
    unfold ls_vw
    rw [ls_la_f hne]
  rw [e, ls_vw_old (Nat.le_refl n)]
/-! the numbers of entries as ints -/
theorem ls_en_lt {m p : Nat} (hm : m < 2 ^ 31) (hp : p < 2 ^ 31) : ls_en m < nI p ↔ m ≤ p := by
  cases m with
  | zero =>
    refine ⟨fun _ => Nat.zero_le p, fun _ => ?_⟩
    rw [Int32.lt_iff_toInt_lt, nI_toInt hp]
    have e : (ls_en 0).toInt = -1 := by decide
    omega
  | succ j =>
    show nI j < nI p ↔ _
    rw [nI_ltI (by omega) hp]
    omega
theorem ls_en_0 {m : Nat} (hm : m < 2 ^ 31) : ls_en m < 0 ↔ m = 0 := by
  have h := ls_en_lt (m := m) (p := 0) hm (by omega)
  rw [nI_0] at h
  rw [h]
  omega
theorem ls_enb : ∀ m, m < 97 → vp_nar .byte (ls_en m) = ls_en m := by decide +kernel
theorem ls_enc : ∀ m, m < 97 → (ls_en m).toInt8.toInt32 = ls_en m := by decide +kernel
theorem ls_nIb : ∀ m, m < 97 → vp_nar .byte (nI m).toInt8.toInt32 = nI m := by decide +kernel
theorem ls_nIv : ∀ m, m < 97 → vp_nar .byte (nI m) = nI m := by decide +kernel
theorem ls_m1 : vp_nar .byte (-1) = -1 := by decide +kernel
theorem ls_nb {b : Int32} (h : b = 0 ∨ b = 1) : vp_nar .boolean b = b := by
  rcases h with h | h
  · subst h; decide +kernel
  · subst h; decide +kernel
theorem ls_encn {m : Nat} (h : m < 97) : vp_nar .byte (ls_en m).toInt8.toInt32 = ls_en m := by
  rw [ls_enc m h, ls_enb m h]
theorem ls_16 : (16 : Int32) = nI 16 := by decide +kernel
theorem ls_96 : (96 : Int32) = nI 96 := by decide +kernel
theorem ls_ge16 {k : Nat} (h : k = 16) : (16 : Int32) ≤ nI k := by
  rw [ls_16, h]; exact nI_le (Nat.le_refl _) (by omega)
theorem ls_lt16 {k : Nat} (h : k < 16) : ¬ (16 : Int32) ≤ nI k := by
  rw [ls_16]; exact nI_ge h (by omega)
theorem ls_in16 {k : Nat} (h : k < 16) : vp_in (nI k) 16 := vp_in_nI h (by omega)
theorem ls_in96 {k : Nat} (h : k < 96) : vp_in (nI k) 96 := vp_in_nI h (by omega)
theorem ls_cl {k : Nat} (h : k < 97) : (nI k).toNatClampNeg = k := nI_clamp (by omega)
end
section
/-! the component against the abstract state: three views by key, a flag, a count -/
def ls_set (v : Nat → Option Int32) (k : Nat) (o : Option Int32) : Nat → Option Int32 := fun j => if j = k then o else v j
theorem ls_set_s {v : Nat → Option Int32} {k : Nat} {o : Option Int32} : ls_set v k o k = o := if_pos rfl
theorem ls_set_n {v : Nat → Option Int32} {k j : Nat} {o : Option Int32} (h : j ≠ k) : ls_set v k o j = v j := if_neg h
def ls_X (N : Nat) (u : SX) (vS vC vE : Nat → Option Int32) (op ch : Int32) : Prop := match u with
  | (f_end, f_safeEnd, f_open, f_openStart, f_openChanges, a_keyOf, a_removes, a_valueOf, a_earlier, a_latest, a_keptSafe, a_keptLater, a_keptOpen, a_newKey, a_newRemoves, a_newValue, a_newEarlier) => f_open = op ∧ f_openChanges = ch ∧ ∃ E S C : Nat, f_end = nI E ∧ f_safeEnd = nI S ∧ (op = 0 → C = E) ∧ (op ≠ 0 → f_openStart = nI C) ∧ S ≤ C ∧ C ≤ E ∧ E ≤ N ∧ ls_ok a_keyOf a_removes a_earlier a_latest E ∧ ∀ k, k < 16 → ls_vw a_keyOf a_removes a_valueOf k S = vS k ∧ ls_vw a_keyOf a_removes a_valueOf k C = vC k ∧ ls_vw a_keyOf a_removes a_valueOf k E = vE k
theorem ls_X_le {N M : Nat} {u : SX} {vS vC vE : Nat → Option Int32} {op ch : Int32} (h : ls_X N u vS vC vE op ch) (hN : N ≤ M) : ls_X M u vS vC vE op ch := by
  obtain ⟨f_end, f_safeEnd, f_open, f_openStart, f_openChanges, a_keyOf, a_removes, a_valueOf, a_earlier, a_latest, a_keptSafe, a_keptLater, a_keptOpen, a_newKey, a_newRemoves, a_newValue, a_newEarlier⟩ := u
  obtain ⟨h1, h2, E, S, C, h3, h4, h5, h6, h7, h8, h9, h10, h11⟩ := h
  exact ⟨h1, h2, E, S, C, h3, h4, h5, h6, h7, h8, by omega, h10, h11⟩
section LS3
variable {f_end f_safeEnd f_open f_openStart f_openChanges : Int32} {a_keyOf a_removes a_valueOf a_earlier a_latest a_keptSafe a_keptLater a_keptOpen a_newKey a_newRemoves a_newValue a_newEarlier : Nat → Int32} {post : Int32 → Prop}
theorem ls_keyc (x : Int32) : (x < 0 ∨ 16 ≤ x) ∨ ∃ k : Nat, k < 16 ∧ x = nI k := by
  by_cases h : x < 0
  · exact .inl (.inl h)
  · obtain ⟨j, hj, rfl⟩ := nI_of h
    by_cases h2 : j < 16
    · exact .inr ⟨j, h2, rfl⟩
    · exact .inl (.inr (by rw [ls_16]; exact nI_le (by omega) hj))
theorem ls_isKey {k : Nat} (hk : k < 16) (h : post 1) : wpX_isKey post (nI k) := br_f (nI_pos (by omega)) (br_f (ls_lt16 hk) h)
theorem ls_noKey {x : Int32} (hx : x < 0 ∨ 16 ≤ x) (h : post 0) : wpX_isKey post x :=
  br_c (fun _ => h) (fun hn => br_t (hx.resolve_left hn) h)
theorem ls_bf10 {E p k : Nat} (hc : ls_ch a_keyOf a_earlier E) (hE : E ≤ 96) (hk : k < 16) (hp : post (ls_en (ls_la a_keyOf k p))) : ∀ fuel m s : Nat, m ≤ E → p ≤ m → s + m ≤ 96 → m < fuel → wX_before_10 post (nI p) f_end f_safeEnd f_open f_openStart f_openChanges a_keyOf a_removes a_valueOf a_earlier a_latest a_keptSafe a_keptLater a_keptOpen a_newKey a_newRemoves a_newValue a_newEarlier fuel (ls_en (ls_la a_keyOf k m)) (nI s) := by
  intro fuel
  induction fuel with
  | zero => intro m s _ _ _ h; omega
  | succ f ih =>
    intro m s hm hpm hs hf
    have hle := ls_la_le a_keyOf k m
    by_cases h : ls_la a_keyOf k m ≤ p
    · rw [ls_la_cut hpm h]
      have hle2 := ls_la_le a_keyOf k p
      exact br_c (fun _ => hp) (fun _ => br_t ((ls_en_lt (by omega) (by omega)).mpr hle2) hp)
    · obtain ⟨j, e⟩ : ∃ j, ls_la a_keyOf k m = j + 1 := ⟨ls_la a_keyOf k m - 1, by omega⟩
      have ⟨e1, e2⟩ := ls_la_key e
      obtain ⟨c, c1, c2, c3⟩ := hc j (by omega)
      have ec : c = k := (nI_eq (by omega) (by omega)).mp (c2.symm.trans e1)
      subst ec
      rw [e]
      have h96 : ¬ (96 : Int32) ≤ nI s := by rw [ls_96]; exact nI_ge (by omega) (by omega)
      refine br_f h96 (br_f (fun z => h (by rw [e]; exact (ls_en_lt (by omega) (by omega)).mp z)) ?_)
      refine And.intro (ls_in96 (by omega)) (nm_r (e' := ls_en (ls_la a_keyOf c j)) ?_ (nm_r (nI_1 s) (ih j (s + 1) (by omega) (by omega) (by omega) (by omega))))
      show a_earlier (nI j).toNatClampNeg = _
      rw [ls_cl (by omega)]
      exact c3
theorem ls_before {E p k : Nat} (hc : ls_ch a_keyOf a_earlier E) (hE : E ≤ 96) (hk : k < 16) (hpE : p ≤ E) (hl : a_latest k = ls_en (ls_la a_keyOf k E)) (hp : post (ls_en (ls_la a_keyOf k p))) : wpX_before post (f_end, f_safeEnd, f_open, f_openStart, f_openChanges, a_keyOf, a_removes, a_valueOf, a_earlier, a_latest, a_keptSafe, a_keptLater, a_keptOpen, a_newKey, a_newRemoves, a_newValue, a_newEarlier) (nI k) (nI p) := by
  refine And.intro (ls_in16 hk) (nm_r (e' := ls_en (ls_la a_keyOf k E)) ?_ ⟨E + 1, ls_bf10 hc hE hk hp (E + 1) E 0 (Nat.le_refl _) hpE (by omega) (by omega)⟩)
  rw [ls_cl (by omega)]
  exact hl
theorem ls_holds {m : Nat} (hm : m ≤ 96) (h : post (ls_b01 (ls_at a_removes a_valueOf m).isSome)) : wpX_holds post (f_end, f_safeEnd, f_open, f_openStart, f_openChanges, a_keyOf, a_removes, a_valueOf, a_earlier, a_latest, a_keptSafe, a_keptLater, a_keptOpen, a_newKey, a_newRemoves, a_newValue, a_newEarlier) (ls_en m) := by
  cases m with
  | zero => exact br_t (show ls_en 0 < 0 by decide) h
  | succ j =>
    have e : (nI j).toNatClampNeg = j := ls_cl (by omega)
    refine br_f (show ¬ nI j < 0 from nI_pos (by omega)) (And.intro (ls_in96 (by omega)) ?_)
    have h' : post (ls_b01 (if a_removes j = 0 then some (a_valueOf j) else none).isSome) := h
    show (a_removes (nI j).toNatClampNeg = 0 → post 1) ∧ (¬ a_removes (nI j).toNatClampNeg = 0 → post 0)
    rw [e]
    by_cases z : a_removes j = 0
    · rw [if_pos z] at h'
      exact br_t z h'
    · rw [if_neg z] at h'
      exact br_f z h'
theorem ls_carry {post : Int32 → SX → Prop} {j k n m : Nat} (hj : j < 96) (hn : n < 96) (hk : k < 16) (hm : m < 97) (hkey : a_keyOf j = nI k) (hb : a_removes j = 0 ∨ a_removes j = 1) (hl : a_latest k = ls_en m)
    (h : post (nI (n + 1)) (f_end, f_safeEnd, f_open, f_openStart, f_openChanges, a_keyOf, a_removes, a_valueOf, a_earlier, upd a_latest k (nI n), a_keptSafe, a_keptLater, a_keptOpen, upd a_newKey n (nI k), upd a_newRemoves n (a_removes j), upd a_newValue n (a_valueOf j), upd a_newEarlier n (a_latest k))) : wpX_carryOver post (f_end, f_safeEnd, f_open, f_openStart, f_openChanges, a_keyOf, a_removes, a_valueOf, a_earlier, a_latest, a_keptSafe, a_keptLater, a_keptOpen, a_newKey, a_newRemoves, a_newValue, a_newEarlier) (nI j) (nI n) := by
  have ej : (nI j).toNatClampNeg = j := ls_cl (by omega)
  have en : (nI n).toNatClampNeg = n := ls_cl (by omega)
  have ek : (nI k).toNatClampNeg = k := ls_cl (by omega)
  unfold wpX_carryOver
  dsimp only
  rw [ej, en, hkey]
  refine And.intro (ls_in96 hj) (nm_e ?_)
  rw [ek, ls_nIb k (by omega), ls_nIb n (by omega), ls_nb hb, show vp_nar .byte (a_latest k) = a_latest k by rw [hl, ls_enb m hm]]
  refine And.intro (ls_in96 hn) (nm_e (And.intro (ls_in96 hj) (And.intro (ls_in96 hn) (nm_e (And.intro (ls_in96 hj) (And.intro (ls_in96 hn) (nm_e (And.intro (ls_in16 hk) (And.intro (ls_in96 hn) (nm_e (And.intro (ls_in16 hk) (nm_e ?_))))))))))))
  rw [nI_1]
  exact h
/-- an entry at the end of the row -/
theorem ls_app13 {post : SX → Prop} {k : Nat} {b v : Int32} {vS vC vE : Nat → Option Int32} {op ch : Int32} (hx : ls_X 95 (f_end, f_safeEnd, f_open, f_openStart, f_openChanges, a_keyOf, a_removes, a_valueOf, a_earlier, a_latest, a_keptSafe, a_keptLater, a_keptOpen, a_newKey, a_newRemoves, a_newValue, a_newEarlier) vS vC vE op ch) (hk : k < 16) (hb : b = 0 ∨ b = 1)
    (h0 : op = 0 → ∀ u', ls_X 96 u' vS (ls_set vE k (if b = 0 then some v else none)) (ls_set vE k (if b = 0 then some v else none)) op ch → post u')
    (h1 : op ≠ 0 → ∀ u', ls_X 96 u' vS vC (ls_set vE k (if b = 0 then some v else none)) op (ch + 1) → post u') : wX_append_13 post (nI k) b v f_end f_safeEnd f_open f_openStart f_openChanges a_keyOf a_removes a_valueOf a_earlier a_latest a_keptSafe a_keptLater a_keptOpen a_newKey a_newRemoves a_newValue a_newEarlier := by
  obtain ⟨rfl, rfl, E, S, C, rfl, rfl, hC0, hC1, hSC, hCE, hE, hok, hv⟩ := hx
  have eE : (nI E).toNatClampNeg = E := ls_cl (by omega)
  have ek : (nI k).toNatClampNeg = k := ls_cl (by omega)
  have hl := hok.2.2 k hk
  have hle := ls_la_le a_keyOf k E
  unfold wX_append_13
  rw [eE, ek, ls_nIb k (by omega), ls_nIb E (by omega), ls_nb hb, show vp_nar .byte (a_latest k) = a_latest k by rw [hl, ls_enb _ (by omega)]]
  have hok' := ls_ok_ext (k := k) (b := b) hok hk hb
  have hold : ∀ p j : Nat, p ≤ E → ls_vw (upd a_keyOf E (nI k)) (upd a_removes E b) (upd a_valueOf E v) j p = ls_vw a_keyOf a_removes a_valueOf j p := fun p j hp => ls_vw_old hp
  have hnew : ∀ j : Nat, j < 16 → ls_vw (upd a_keyOf E (nI k)) (upd a_removes E b) (upd a_valueOf E v) j (E + 1) = ls_set vE k (if b = 0 then some v else none) j := by
    intro j hj
    by_cases e : j = k
    · subst e
      rw [ls_vw_new, ls_set_s]
    · rw [ls_vw_oth hk hj e, ls_set_n e, (hv j hj).2.2]
  refine And.intro (ls_in96 (by omega)) (nm_e (And.intro (ls_in96 (by omega)) (nm_e (And.intro (ls_in96 (by omega)) (nm_e (And.intro (ls_in16 hk) (And.intro (ls_in96 (by omega)) (nm_e (And.intro (ls_in16 hk) (nm_e (nm_r (nI_1 E) ?_)))))))))))
  refine br_c (fun ho => h0 ho _ ?_) (fun ho => nm_e (h1 ho _ ?_))
  · exact ⟨rfl, rfl, E + 1, S, E + 1, rfl, rfl, fun _ => rfl, fun z => absurd ho z, by omega, by omega, by omega, hok', fun j hj => ⟨(hold S j (by omega)).trans (hv j hj).1, hnew j hj, hnew j hj⟩⟩
  · exact ⟨rfl, rfl, E + 1, S, C, rfl, rfl, fun z => absurd z ho, hC1, by omega, by omega, by omega, hok', fun j hj => ⟨(hold S j (by omega)).trans (hv j hj).1, (hold C j hCE).trans (hv j hj).2.1, hnew j hj⟩⟩
end LS3
end
section
/-! the row written anew -/
/-- an entry's number if it lies at p or behind, else none -/
def ls_hi (m p : Nat) : Nat := if m ≤ p then 0 else m
theorem ls_hi_t {m p : Nat} (h : m ≤ p) : ls_hi m p = 0 := if_pos h
theorem ls_hi_f {m p : Nat} (h : ¬ m ≤ p) : ls_hi m p = m := if_neg h
theorem ls_hi_le (m p : Nat) : ls_hi m p ≤ m := by
  by_cases h : m ≤ p
  · rw [ls_hi_t h]; omega
  · rw [ls_hi_f h]; omega
/-- what is kept, for the keys below k -/
def ls_K0 (key : Nat → Int32) (S C E k : Nat) (l ks kl ko : Nat → Int32) : Prop :=
  (∀ j, j < k → ks j = ls_en (ls_la key j S) ∧ kl j = ls_en (ls_hi (ls_la key j C) S) ∧ ko j = ls_en (ls_hi (ls_la key j E) C) ∧ l j = -1) ∧ ∀ j, k ≤ j → j < 16 → l j = ls_en (ls_la key j E)
theorem ls_K0_s {key : Nat → Int32} {S C E k : Nat} {l ks kl ko : Nat → Int32} (h : ls_K0 key S C E k l ks kl ko) : ls_K0 key S C E (k + 1) (upd l k (-1)) (upd ks k (ls_en (ls_la key k S))) (upd kl k (ls_en (ls_hi (ls_la key k C) S))) (upd ko k (ls_en (ls_hi (ls_la key k E) C))) := by
  refine ⟨fun j hj => ?_, fun j h1 h2 => ?_⟩
  · by_cases e : j = k
    · subst e
      rw [pk_us, pk_us, pk_us, pk_us]
      exact ⟨rfl, rfl, rfl, rfl⟩
    · rw [pk_un e, pk_un e, pk_un e, pk_un e]
      exact h.1 j (by omega)
  · rw [pk_un (by omega)]
    exact h.2 j (by omega) h2
/-- the new row while it grows: at keys below k it says what the old one says ahead of B, else what it says ahead of A -/
def ls_K (key rem val : Nat → Int32) (A B k n N : Nat) (nk nr nv ne l : Nat → Int32) : Prop :=
  ls_ok nk nr ne l n ∧ n ≤ N ∧ ∀ j, j < 16 → ls_vw nk nr nv j n = if j < k then ls_vw key rem val j B else ls_vw key rem val j A
/-- the new row ahead of s says what the old one says ahead of S -/
def ls_T (key rem val nk nr nv : Nat → Int32) (s S : Nat) : Prop := ∀ j, j < 16 → ls_vw nk nr nv j s = ls_vw key rem val j S
theorem ls_T_up {key rem val nk nr nv : Nat → Int32} {s S n : Nat} {x b v : Int32} (h : ls_T key rem val nk nr nv s S) (hs : s ≤ n) : ls_T key rem val (upd nk n x) (upd nr n b) (upd nv n v) s S :=
  fun j hj => (ls_vw_old hs).trans (h j hj)
theorem ls_K_T {key rem val nk nr nv ne l : Nat → Int32} {A B n N : Nat} (h : ls_K key rem val A B 16 n N nk nr nv ne l) : ls_T key rem val nk nr nv n B :=
  fun j hj => (h.2.2 j hj).trans (if_pos hj)
theorem ls_K_next {key rem val nk nr nv ne l : Nat → Int32} {A B D n N : Nat} (h : ls_K key rem val A B 16 n N nk nr nv ne l) : ls_K key rem val B D 0 n N nk nr nv ne l :=
  ⟨h.1, h.2.1, fun j hj => ((h.2.2 j hj).trans (if_pos hj)).trans (if_neg (by omega)).symm⟩
theorem ls_K_skip {key rem val nk nr nv ne l : Nat → Int32} {A B k n N : Nat} (h : ls_K key rem val A B k n N nk nr nv ne l) (e : ls_vw key rem val k B = ls_vw key rem val k A) : ls_K key rem val A B (k + 1) n (N + 1) nk nr nv ne l := by
  refine ⟨h.1, Nat.le_succ_of_le h.2.1, fun j hj => ?_⟩
  rw [h.2.2 j hj]
  by_cases c : j < k
  · rw [if_pos c, if_pos (by omega)]
  · rw [if_neg c]
    by_cases c2 : j = k
    · rw [c2, if_pos (by omega), e]
    · rw [if_neg (by omega)]
theorem ls_K_add {key rem val nk nr nv ne l : Nat → Int32} {A B k n N i : Nat} (h : ls_K key rem val A B k n N nk nr nv ne l) (hk : k < 16) (hb : rem i = 0 ∨ rem i = 1) (e : ls_la key k B = i + 1) : ls_K key rem val A B (k + 1) (n + 1) (N + 1) (upd nk n (nI k)) (upd nr n (rem i)) (upd nv n (val i)) (upd ne n (l k)) (upd l k (nI n)) := by
  refine ⟨ls_ok_ext h.1 hk hb, Nat.succ_le_succ h.2.1, fun j hj => ?_⟩
  by_cases c : j = k
  · subst c
    rw [ls_vw_new, if_pos (show j < j + 1 by omega)]
    unfold ls_vw
    rw [e]
    rfl
  · rw [ls_vw_oth hk hj c, h.2.2 j hj]
    by_cases c2 : j < k
    · rw [if_pos c2, if_pos (by omega)]
    · rw [if_neg c2, if_neg (by omega)]
section LS4
variable {f_end f_safeEnd f_open f_openStart f_openChanges : Int32} {a_keyOf a_removes a_valueOf a_earlier a_latest a_keptSafe a_keptLater a_keptOpen a_newKey a_newRemoves a_newValue a_newEarlier : Nat → Int32} {post : SX → Prop}
theorem ls_rw68 {J : Int32 → (Nat → Int32) → (Nat → Int32) → (Nat → Int32) → (Nat → Int32) → (Nat → Int32) → (Nat → Int32) → (Nat → Int32) → (Nat → Int32) → (Nat → Int32) → (Nat → Int32) → (Nat → Int32) → (Nat → Int32) → Prop} {m k q C : Nat} (hk : k < 16) (hm : m < 97) (hq : q < 97) (hC : C < 97) (hl : a_latest k = ls_en q)
    (h : J (nI (k + 1)) a_keyOf a_removes a_valueOf a_earlier (upd a_latest k (-1)) a_keptSafe (upd a_keptLater k (ls_en m)) (upd a_keptOpen k (ls_en (ls_hi q C))) a_newKey a_newRemoves a_newValue a_newEarlier) : wX_rewrite_68 post J (nI C) (nI k) (ls_en m) (nI k) f_end f_safeEnd f_open f_openStart f_openChanges a_keyOf a_removes a_valueOf a_earlier a_latest a_keptSafe a_keptLater a_keptOpen a_newKey a_newRemoves a_newValue a_newEarlier := by
  have ek : (nI k).toNatClampNeg = k := ls_cl (by omega)
  unfold wX_rewrite_68
  rw [ek, ls_encn hm, hl]
  refine And.intro (ls_in16 hk) (nm_e (And.intro (ls_in16 hk) (br_c (fun c => ?_) (fun c => And.intro (ls_in16 hk) ?_))))
  · have c2 : q ≤ C := (ls_en_lt (by omega) (by omega)).mp c
    rw [ls_hi_t c2] at h
    unfold wX_rewrite_95
    rw [ek, ls_m1]
    exact And.intro (ls_in16 hk) (nm_e (And.intro (ls_in16 hk) (nm_e (nm_r (nI_1 k) h))))
  · have c2 : ¬ q ≤ C := fun z => c ((ls_en_lt (by omega) (by omega)).mpr z)
    rw [ls_hi_f c2] at h
    unfold wX_rewrite_95
    rw [ek, ls_m1, ls_enb q hq]
    exact And.intro (ls_in16 hk) (nm_e (And.intro (ls_in16 hk) (nm_e (nm_r (nI_1 k) h))))
theorem ls_rw21 {S C E : Nat} (hc : ls_ch a_keyOf a_earlier E) (hSC : S ≤ C) (hCE : C ≤ E) (hE : E ≤ 96)
    (H : ∀ l ks kl ko : Nat → Int32, ls_K0 a_keyOf S C E 16 l ks kl ko → ∃ n : Nat, wX_rewrite_113 post n 0 0 f_end (nI S) f_open f_openStart f_openChanges a_keyOf a_removes a_valueOf a_earlier l ks kl ko a_newKey a_newRemoves a_newValue a_newEarlier) :
    ∀ d k : Nat, k + d = 16 → ∀ l ks kl ko : Nat → Int32, ls_K0 a_keyOf S C E k l ks kl ko → wX_rewrite_21 post (nI C) f_end (nI S) f_open f_openStart f_openChanges (d + 1) (nI k) a_keyOf a_removes a_valueOf a_earlier l ks kl ko a_newKey a_newRemoves a_newValue a_newEarlier := by
  intro d
  induction d with
  | zero =>
    intro k hk l ks kl ko hK
    have e : k = 16 := by omega
    subst e
    exact br_t (ls_ge16 rfl) (H l ks kl ko hK)
  | succ d ih =>
    intro k hk l ks kl ko hK
    have hk16 : k < 16 := by omega
    have ek : (nI k).toNatClampNeg = k := ls_cl (by omega)
    have hl := hK.2 k (Nat.le_refl k) hk16
    have l1 := ls_la_le a_keyOf k S
    have l2 := ls_la_le a_keyOf k C
    have l3 := ls_la_le a_keyOf k E
    refine br_f (ls_lt16 hk16) (ls_before hc hE hk16 (Nat.le_trans hSC hCE) hl ?_)
    rw [ek, ls_encn (by omega)]
    refine And.intro (ls_in16 hk16) (nm_e (ls_before hc hE hk16 hCE hl ?_))
    have hn := ih (k + 1) (by omega) _ _ _ _ (ls_K0_s hK)
    refine br_c (fun c => ?_) (fun c => ?_)
    · have c2 : ls_la a_keyOf k C ≤ S := (ls_en_lt (by omega) (by omega)).mp c
      rw [ls_hi_t c2] at hn
      exact ls_rw68 (m := 0) hk16 (by omega) (show ls_la a_keyOf k E < 97 by omega) (by omega) hl hn
    · have c2 : ¬ ls_la a_keyOf k C ≤ S := fun z => c ((ls_en_lt (by omega) (by omega)).mpr z)
      rw [ls_hi_f c2] at hn
      exact ls_rw68 (m := ls_la a_keyOf k C) hk16 (by omega) (show ls_la a_keyOf k E < 97 by omega) (by omega) hl hn
theorem ls_rw113 {S E : Nat} (hb : ls_bl a_removes E) (hSE : S ≤ E) (hE : E ≤ 96) (hks : ∀ j, j < 16 → a_keptSafe j = ls_en (ls_la a_keyOf j S))
    (H : ∀ (n : Nat) (l nk nr nv ne : Nat → Int32), ls_K a_keyOf a_removes a_valueOf 0 S 16 n 16 nk nr nv ne l → ∃ fu : Nat, wX_rewrite_161 post fu (nI n) 0 f_end (nI n) f_open f_openStart f_openChanges a_keyOf a_removes a_valueOf a_earlier l a_keptSafe a_keptLater a_keptOpen nk nr nv ne) :
    ∀ d k : Nat, k + d = 16 → ∀ (n : Nat) (l nk nr nv ne : Nat → Int32), ls_K a_keyOf a_removes a_valueOf 0 S k n k nk nr nv ne l → wX_rewrite_113 post (d + 1) (nI n) (nI k) f_end f_safeEnd f_open f_openStart f_openChanges a_keyOf a_removes a_valueOf a_earlier l a_keptSafe a_keptLater a_keptOpen nk nr nv ne := by
  intro d
  induction d with
  | zero =>
    intro k hk n l nk nr nv ne hK
    have e : k = 16 := by omega
    subst e
    exact br_t (ls_ge16 rfl) (H n l nk nr nv ne hK)
  | succ d ih =>
    intro k hk n l nk nr nv ne hK
    have hk16 : k < 16 := by omega
    have ek : (nI k).toNatClampNeg = k := ls_cl (by omega)
    have l1 := ls_la_le a_keyOf k S
    have hn := hK.2.1
    refine br_f (ls_lt16 hk16) (And.intro (ls_in16 hk16) ?_)
    rw [ek, hks k hk16]
    refine ls_holds (by omega) (ls_br (fun hf => nm_r (nI_1 k) (ih (k + 1) (by omega) n l nk nr nv ne (ls_K_skip hK ?_))) (fun ht => And.intro (ls_in16 hk16) ?_))
    · show ls_at a_removes a_valueOf (ls_la a_keyOf k S) = none
      exact Option.isSome_eq_false_iff.mp hf |> Option.isNone_iff_eq_none.mp
    · cases e : ls_la a_keyOf k S with
      | zero => rw [e] at ht; exact absurd ht Bool.false_ne_true
      | succ i =>
        have ⟨e1, e2⟩ := ls_la_key e
        have hbi := hb i (by omega)
        have hle := ls_la_le nk k n
        exact ls_carry (j := i) (n := n) (by omega) (by omega) hk16 (show ls_la nk k n < 97 by omega) e1 hbi (hK.1.2.2 k hk16) (nm_r (nI_1 k) (ih (k + 1) (by omega) (n + 1) _ _ _ _ _ (ls_K_add hK hk16 hbi e)))
theorem ls_skip_v {key rem val : Nat → Int32} {A B k : Nat} (hAB : A ≤ B) (h : ls_la key k B ≤ A) : ls_vw key rem val k B = ls_vw key rem val k A := by
  unfold ls_vw
  rw [ls_la_cut hAB h]
theorem ls_rw161 {S C E : Nat} {s : Nat} (hb : ls_bl a_removes E) (hSC : S ≤ C) (hCE : C ≤ E) (hE : E ≤ 96) (hkl : ∀ j, j < 16 → a_keptLater j = ls_en (ls_hi (ls_la a_keyOf j C) S))
    (H : ∀ (n : Nat) (l nk nr nv ne : Nat → Int32), s ≤ n → ls_T a_keyOf a_removes a_valueOf nk nr nv s S → ls_K a_keyOf a_removes a_valueOf S C 16 n 32 nk nr nv ne l → ∃ fu : Nat, wX_rewrite_205 post fu (nI n) 0 f_end f_safeEnd f_open (nI n) f_openChanges a_keyOf a_removes a_valueOf a_earlier l a_keptSafe a_keptLater a_keptOpen nk nr nv ne) :
    ∀ d k : Nat, k + d = 16 → ∀ (n : Nat) (l nk nr nv ne : Nat → Int32), s ≤ n → ls_T a_keyOf a_removes a_valueOf nk nr nv s S → ls_K a_keyOf a_removes a_valueOf S C k n (16 + k) nk nr nv ne l → wX_rewrite_161 post (d + 1) (nI n) (nI k) f_end f_safeEnd f_open f_openStart f_openChanges a_keyOf a_removes a_valueOf a_earlier l a_keptSafe a_keptLater a_keptOpen nk nr nv ne := by
  intro d
  induction d with
  | zero =>
    intro k hk n l nk nr nv ne hs hT hK
    have e : k = 16 := by omega
    subst e
    exact br_t (ls_ge16 rfl) (H n l nk nr nv ne hs hT hK)
  | succ d ih =>
    intro k hk n l nk nr nv ne hs hT hK
    have hk16 : k < 16 := by omega
    have ek : (nI k).toNatClampNeg = k := ls_cl (by omega)
    have l1 := ls_la_le a_keyOf k C
    have l2 := ls_hi_le (ls_la a_keyOf k C) S
    have hn := hK.2.1
    refine br_f (ls_lt16 hk16) (And.intro (ls_in16 hk16) ?_)
    rw [ek, hkl k hk16]
    by_cases c : ls_la a_keyOf k C ≤ S
    · rw [ls_hi_t c]
      exact br_t (show ls_en 0 < 0 by decide) (nm_r (nI_1 k) (ih (k + 1) (by omega) n l nk nr nv ne hs hT (ls_K_skip hK (ls_skip_v hSC c))))
    · rw [ls_hi_f c]
      obtain ⟨i, e⟩ : ∃ i, ls_la a_keyOf k C = i + 1 := ⟨ls_la a_keyOf k C - 1, by omega⟩
      have ⟨e1, e2⟩ := ls_la_key e
      have hbi := hb i (by omega)
      have hle := ls_la_le nk k n
      rw [e]
      exact br_f (show ¬ nI i < 0 from nI_pos (by omega)) (And.intro (ls_in16 hk16) (ls_carry (j := i) (n := n) (by omega) (by omega) hk16 (show ls_la nk k n < 97 by omega) e1 hbi (hK.1.2.2 k hk16) (nm_r (nI_1 k) (ih (k + 1) (by omega) (n + 1) _ _ _ _ _ (by omega) (ls_T_up hT hs) (ls_K_add hK hk16 hbi e)))))
theorem ls_rw205 {S C E : Nat} {s c : Nat} (hb : ls_bl a_removes E) (hCE : C ≤ E) (hE : E ≤ 96) (hko : ∀ j, j < 16 → a_keptOpen j = ls_en (ls_hi (ls_la a_keyOf j E) C))
    (H : ∀ (n : Nat) (l nk nr nv ne : Nat → Int32), c ≤ n → (C = E → n = c) → ls_T a_keyOf a_removes a_valueOf nk nr nv s S → ls_T a_keyOf a_removes a_valueOf nk nr nv c C → ls_K a_keyOf a_removes a_valueOf C E 16 n 48 nk nr nv ne l → ∃ fu : Nat, wX_rewrite_249 post (nI n) (nI n) f_safeEnd f_open f_openStart f_openChanges fu 0 a_keyOf a_removes a_valueOf a_earlier l a_keptSafe a_keptLater a_keptOpen nk nr nv ne) (hsc : s ≤ c) :
    ∀ d k : Nat, k + d = 16 → ∀ (n : Nat) (l nk nr nv ne : Nat → Int32), c ≤ n → (C = E → n = c) → ls_T a_keyOf a_removes a_valueOf nk nr nv s S → ls_T a_keyOf a_removes a_valueOf nk nr nv c C → ls_K a_keyOf a_removes a_valueOf C E k n (32 + k) nk nr nv ne l → wX_rewrite_205 post (d + 1) (nI n) (nI k) f_end f_safeEnd f_open f_openStart f_openChanges a_keyOf a_removes a_valueOf a_earlier l a_keptSafe a_keptLater a_keptOpen nk nr nv ne := by
  intro d
  induction d with
  | zero =>
    intro k hk n l nk nr nv ne hs hn hT hT2 hK
    have e : k = 16 := by omega
    subst e
    exact br_t (ls_ge16 rfl) (H n l nk nr nv ne hs hn hT hT2 hK)
  | succ d ih =>
    intro k hk n l nk nr nv ne hs hn hT hT2 hK
    have hk16 : k < 16 := by omega
    have ek : (nI k).toNatClampNeg = k := ls_cl (by omega)
    have l1 := ls_la_le a_keyOf k E
    have hnN := hK.2.1
    refine br_f (ls_lt16 hk16) (And.intro (ls_in16 hk16) ?_)
    rw [ek, hko k hk16]
    by_cases cc : ls_la a_keyOf k E ≤ C
    · rw [ls_hi_t cc]
      exact br_t (show ls_en 0 < 0 by decide) (nm_r (nI_1 k) (ih (k + 1) (by omega) n l nk nr nv ne hs hn hT hT2 (ls_K_skip hK (ls_skip_v hCE cc))))
    · rw [ls_hi_f cc]
      obtain ⟨i, e⟩ : ∃ i, ls_la a_keyOf k E = i + 1 := ⟨ls_la a_keyOf k E - 1, by omega⟩
      have ⟨e1, e2⟩ := ls_la_key e
      have hbi := hb i (by omega)
      have hle := ls_la_le nk k n
      rw [e]
      exact br_f (show ¬ nI i < 0 from nI_pos (by omega)) (And.intro (ls_in16 hk16) (ls_carry (j := i) (n := n) (by omega) (by omega) hk16 (show ls_la nk k n < 97 by omega) e1 hbi (hK.1.2.2 k hk16) (nm_r (nI_1 k) (ih (k + 1) (by omega) (n + 1) _ _ _ _ _ (by omega) (fun z => by omega) (ls_T_up hT (by omega)) (ls_T_up hT2 hs) (ls_K_add hK hk16 hbi e)))))
/-- what of the new row has been copied to the old place -/
def ls_cp (i : Nat) (f g : Nat → Int32) : Prop := ∀ j, j < i → f j = g j
theorem ls_cp_s {i : Nat} {f g : Nat → Int32} (h : ls_cp i f g) : ls_cp (i + 1) (upd f i (g i)) g := by
  intro j hj
  by_cases e : j = i
  · rw [e, pk_us]
  · rw [pk_un e]
    exact h j (by omega)
theorem ls_rw249 {n : Nat} (hn : n ≤ 96) (hok : ls_ok a_newKey a_newRemoves a_newEarlier a_latest n)
    (H : ∀ ky rm vl er : Nat → Int32, ls_cp n ky a_newKey → ls_cp n rm a_newRemoves → ls_cp n vl a_newValue → ls_cp n er a_newEarlier → post (f_end, f_safeEnd, f_open, f_openStart, f_openChanges, ky, rm, vl, er, a_latest, a_keptSafe, a_keptLater, a_keptOpen, a_newKey, a_newRemoves, a_newValue, a_newEarlier)) :
    ∀ d i : Nat, i + d = n → ∀ ky rm vl er : Nat → Int32, ls_cp i ky a_newKey → ls_cp i rm a_newRemoves → ls_cp i vl a_newValue → ls_cp i er a_newEarlier → wX_rewrite_249 post (nI n) f_end f_safeEnd f_open f_openStart f_openChanges (d + 1) (nI i) ky rm vl er a_latest a_keptSafe a_keptLater a_keptOpen a_newKey a_newRemoves a_newValue a_newEarlier := by
  intro d
  induction d with
  | zero =>
    intro i hi ky rm vl er h1 h2 h3 h4
    have e : i = n := by omega
    subst e
    exact br_t (nI_le (Nat.le_refl _) (by omega)) (H ky rm vl er h1 h2 h3 h4)
  | succ d ih =>
    intro i hi ky rm vl er h1 h2 h3 h4
    have ei : (nI i).toNatClampNeg = i := ls_cl (by omega)
    obtain ⟨c, c1, c2, c3⟩ := hok.1 i (by omega)
    have hle := ls_la_le a_newKey c i
    have b1 : vp_nar .byte (a_newKey i) = a_newKey i := by rw [c2, ls_nIv c (by omega)]
    have b2 : vp_nar .boolean (a_newRemoves i) = a_newRemoves i := ls_nb (hok.2.1 i (by omega))
    have b3 : vp_nar .byte (a_newEarlier i) = a_newEarlier i := by rw [c3, ls_enb _ (by omega)]
    refine br_f (nI_ge (by omega) (by omega)) ?_
    rw [ei, b1, b2, b3]
    have hin : vp_in (nI i) 96 := ls_in96 (by omega)
    exact And.intro hin (And.intro hin (nm_e (And.intro hin (And.intro hin (nm_e (And.intro hin (And.intro hin (nm_e (And.intro hin (And.intro hin (nm_e (nm_r (nI_1 i) (ih (i + 1) (by omega) _ _ _ _ (ls_cp_s h1) (ls_cp_s h2) (ls_cp_s h3) (ls_cp_s h4))))))))))))))
end LS4
end
section
/-! the component's storing methods against the abstract state -/
section LS5
variable {f_end f_safeEnd f_open f_openStart f_openChanges : Int32} {a_keyOf a_removes a_valueOf a_earlier a_latest a_keptSafe a_keptLater a_keptOpen a_newKey a_newRemoves a_newValue a_newEarlier : Nat → Int32} {post : SX → Prop} {vS vC vE : Nat → Option Int32} {op ch : Int32}
theorem ls_K_0 {key rem val nk nr nv ne l : Nat → Int32} {S : Nat} (h : ∀ j, j < 16 → l j = -1) : ls_K key rem val 0 S 0 0 0 nk nr nv ne l :=
  ⟨⟨fun i hi => absurd hi (by omega), fun i hi => absurd hi (by omega), fun k hk => h k hk⟩, Nat.le_refl 0, fun j _ => (if_neg (by omega)).symm⟩
theorem ls_rw_c {E S C : Nat} (hC0 : f_open = 0 → C = E) (hSC : S ≤ C) (hCE : C ≤ E) (hE : E ≤ 96) (hok : ls_ok a_keyOf a_removes a_earlier a_latest E)
    (hv : ∀ k, k < 16 → ls_vw a_keyOf a_removes a_valueOf k S = vS k ∧ ls_vw a_keyOf a_removes a_valueOf k C = vC k ∧ ls_vw a_keyOf a_removes a_valueOf k E = vE k)
    (H : ∀ u', ls_X 48 u' vS vC vE f_open f_openChanges → post u') : wX_rewrite_21 post (nI C) f_end (nI S) f_open f_openStart f_openChanges 17 (nI 0) a_keyOf a_removes a_valueOf a_earlier a_latest a_keptSafe a_keptLater a_keptOpen a_newKey a_newRemoves a_newValue a_newEarlier := by
  refine ls_rw21 hok.1 hSC hCE hE (fun l ks kl ko hK0 => ⟨17, ?_⟩) 16 0 rfl a_latest a_keptSafe a_keptLater a_keptOpen ⟨fun j hj => absurd hj (by omega), fun j _ hj => hok.2.2 j hj⟩
  refine ls_rw113 (S := S) (E := E) hok.2.1 (by omega) hE (fun j hj => (hK0.1 j hj).1) (fun n1 l1 nk nr nv ne hK1 => ⟨17, ?_⟩) 16 0 rfl 0 l a_newKey a_newRemoves a_newValue a_newEarlier (ls_K_0 (fun j hj => (hK0.1 j hj).2.2.2))
  refine ls_rw161 (S := S) (C := C) (E := E) (s := n1) hok.2.1 hSC hCE hE (fun j hj => (hK0.1 j hj).2.1) (fun n2 l2 nk nr nv ne hs hT hK2 => ⟨17, ?_⟩) 16 0 rfl n1 l1 nk nr nv ne (Nat.le_refl _) (ls_K_T hK1) (ls_K_next hK1)
  refine ls_rw205 (S := S) (C := C) (E := E) (s := n1) (c := n2) hok.2.1 hCE hE (fun j hj => (hK0.1 j hj).2.2.1) (fun n3 l3 nk nr nv ne hs3 hn3 hT3 hT4 hK3 => ⟨n3 + 1, ?_⟩) hs 16 0 rfl n2 l2 nk nr nv ne (Nat.le_refl _) (fun _ => rfl) hT (ls_K_T hK2) (ls_K_next hK2)
  have hn48 := hK3.2.1
  refine ls_rw249 (n := n3) (by omega) hK3.1 (fun ky rm vl er h1 h2 h3 h4 => H _ ?_) n3 0 (by omega) a_keyOf a_removes a_valueOf a_earlier (fun j hj => absurd hj (by omega)) (fun j hj => absurd hj (by omega)) (fun j hj => absurd hj (by omega)) (fun j hj => absurd hj (by omega))
  have hT5 := ls_K_T hK3
  exact ⟨rfl, rfl, n3, n1, n2, rfl, rfl, fun ho => (hn3 (hC0 ho)).symm, fun _ => rfl, hs, hs3, hn48, ls_ok_cong hK3.1 h1 h2 h4, fun k hk =>
    ⟨(ls_vw_cong (by omega) h1 h2 h3).trans ((hT3 k hk).trans (hv k hk).1), (ls_vw_cong hs3 h1 h2 h3).trans ((hT4 k hk).trans (hv k hk).2.1), (ls_vw_cong (Nat.le_refl n3) h1 h2 h3).trans ((hT5 k hk).trans (hv k hk).2.2)⟩⟩
theorem ls_rewrite {u : SX} (hx : ls_X 96 u vS vC vE op ch) (H : ∀ u', ls_X 48 u' vS vC vE op ch → post u') : wpX_rewrite post u := by
  obtain ⟨f_end, f_safeEnd, f_open, f_openStart, f_openChanges, a_keyOf, a_removes, a_valueOf, a_earlier, a_latest, a_keptSafe, a_keptLater, a_keptOpen, a_newKey, a_newRemoves, a_newValue, a_newEarlier⟩ := u
  obtain ⟨rfl, rfl, E, S, C, rfl, rfl, hC0, hC1, hSC, hCE, hE, hok, hv⟩ := hx
  have core := fun (fo : Int32) => ls_rw_c (f_end := nI E) (f_openStart := fo) (a_keptSafe := a_keptSafe) (a_keptLater := a_keptLater) (a_keptOpen := a_keptOpen) (a_newKey := a_newKey) (a_newRemoves := a_newRemoves) (a_newValue := a_newValue) (a_newEarlier := a_newEarlier) hC0 hSC hCE hE hok hv H
  refine br_c (fun ho => ⟨17, ?_⟩) (fun ho => ⟨17, ?_⟩)
  · have e := hC0 ho
    subst e
    exact core f_openStart
  · have e := hC1 ho
    subst e
    exact core (nI C)
theorem ls_append {u : SX} {k : Nat} {b v : Int32} (hx : ls_X 96 u vS vC vE op ch) (hk : k < 16) (hb : b = 0 ∨ b = 1)
    (h0 : op = 0 → ∀ u', ls_X 96 u' vS (ls_set vE k (if b = 0 then some v else none)) (ls_set vE k (if b = 0 then some v else none)) op ch → post u')
    (h1 : op ≠ 0 → ∀ u', ls_X 96 u' vS vC (ls_set vE k (if b = 0 then some v else none)) op (ch + 1) → post u') : wpX_append post u (nI k) b v := by
  obtain ⟨f_end, f_safeEnd, f_open, f_openStart, f_openChanges, a_keyOf, a_removes, a_valueOf, a_earlier, a_latest, a_keptSafe, a_keptLater, a_keptOpen, a_newKey, a_newRemoves, a_newValue, a_newEarlier⟩ := u
  unfold wpX_append
  dsimp only
  refine br_c (fun hl => ?_) (fun _ => ?_)
  · obtain ⟨a1, a2, E, S, C, rfl, a4, a5, a6, a7, a8, a9, a10, a11⟩ := hx
    rw [ls_96, nI_ltI (by omega) (by omega)] at hl
    exact ls_app13 ⟨a1, a2, E, S, C, rfl, a4, a5, a6, a7, a8, by omega, a10, a11⟩ hk hb h0 h1
  · refine ls_rewrite hx (fun u' hx' => ?_)
    obtain ⟨f_end, f_safeEnd, f_open, f_openStart, f_openChanges, a_keyOf, a_removes, a_valueOf, a_earlier, a_latest, a_keptSafe, a_keptLater, a_keptOpen, a_newKey, a_newRemoves, a_newValue, a_newEarlier⟩ := u'
    exact ls_app13 (ls_X_le hx' (by omega)) hk hb h0 h1
/-- every key goes back to its latest entry ahead of a place -/
theorem ls_cut2 {p E : Nat} (hc : ls_ch a_keyOf a_earlier E) (hpE : p ≤ E) (hE : E ≤ 96) (H : ∀ l : Nat → Int32, ls_lt a_keyOf l p → post (nI p, f_safeEnd, 0, f_openStart, 0, a_keyOf, a_removes, a_valueOf, a_earlier, l, a_keptSafe, a_keptLater, a_keptOpen, a_newKey, a_newRemoves, a_newValue, a_newEarlier)) :
    ∀ d k : Nat, k + d = 16 → ∀ l : Nat → Int32, (∀ j, j < k → l j = ls_en (ls_la a_keyOf j p)) → (∀ j, k ≤ j → j < 16 → l j = ls_en (ls_la a_keyOf j E)) → wX_cutTo_2 post (nI p) f_end f_safeEnd f_open f_openStart f_openChanges (d + 1) (nI k) a_keyOf a_removes a_valueOf a_earlier l a_keptSafe a_keptLater a_keptOpen a_newKey a_newRemoves a_newValue a_newEarlier := by
  intro d
  induction d with
  | zero =>
    intro k hk l h1 h2
    have e : k = 16 := by omega
    subst e
    exact br_t (ls_ge16 rfl) (H l h1)
  | succ d ih =>
    intro k hk l h1 h2
    have hk16 : k < 16 := by omega
    have ek : (nI k).toNatClampNeg = k := ls_cl (by omega)
    have l1 := ls_la_le a_keyOf k p
    refine br_f (ls_lt16 hk16) (ls_before hc hE hk16 hpE (h2 k (Nat.le_refl k) hk16) ?_)
    rw [ek, ls_encn (by omega)]
    refine And.intro (ls_in16 hk16) (nm_e (nm_r (nI_1 k) (ih (k + 1) (by omega) _ (fun j hj => ?_) (fun j hj hj2 => ?_))))
    · by_cases e : j = k
      · rw [e, pk_us]
      · rw [pk_un e]
        exact h1 j (by omega)
    · rw [pk_un (by omega)]
      exact h2 j (by omega) hj2
theorem ls_abortX {post : Int32 → SX → Prop} {u : SX} (hx : ls_X 96 u vS vC vE op ch) (ho : op ≠ 0) (H : ∀ u', ls_X 96 u' vS vC vC 0 0 → post 0 u') : wpX_abort post u := by
  obtain ⟨f_end, f_safeEnd, f_open, f_openStart, f_openChanges, a_keyOf, a_removes, a_valueOf, a_earlier, a_latest, a_keptSafe, a_keptLater, a_keptOpen, a_newKey, a_newRemoves, a_newValue, a_newEarlier⟩ := u
  obtain ⟨rfl, rfl, E, S, C, rfl, rfl, hC0, hC1, hSC, hCE, hE, hok, hv⟩ := hx
  have e := hC1 ho
  subst e
  unfold wpX_abort
  dsimp only
  refine br_f ho ?_
  unfold wpX_cutTo
  dsimp only
  refine ⟨17, ls_cut2 hok.1 hCE hE (fun l hl => H _ ?_) 16 0 rfl a_latest (fun j hj => absurd hj (by omega)) (fun j _ hj => hok.2.2 j hj)⟩
  exact ⟨rfl, rfl, C, S, C, rfl, rfl, fun _ => rfl, fun z => absurd rfl z, hSC, Nat.le_refl _, by omega, ⟨ls_ch_le hok.1 hCE, ls_bl_le hok.2.1 hCE, hl⟩, fun k hk => ⟨(hv k hk).1, (hv k hk).2.1, (hv k hk).2.1⟩⟩
/-- the row read from its beginning -/
theorem ls_cr41 {S : Nat} {er0 : Nat → Int32} (hc : ls_ch a_keyOf er0 S) (hb : ls_bl a_removes S) (hS : S ≤ 96) (H : ∀ er l : Nat → Int32, ls_ok a_keyOf a_removes er l S → post (nI S, f_safeEnd, f_open, f_openStart, f_openChanges, a_keyOf, a_removes, a_valueOf, er, l, a_keptSafe, a_keptLater, a_keptOpen, a_newKey, a_newRemoves, a_newValue, a_newEarlier)) :
    ∀ d i : Nat, i + d = S → ∀ er l : Nat → Int32, ls_ok a_keyOf a_removes er l i → wX_crash_41 post (nI S) f_safeEnd f_open f_openStart f_openChanges (d + 1) (nI i) a_keyOf a_removes a_valueOf er l a_keptSafe a_keptLater a_keptOpen a_newKey a_newRemoves a_newValue a_newEarlier := by
  intro d
  induction d with
  | zero =>
    intro i hi er l h
    have e : i = S := by omega
    subst e
    exact br_t (nI_le (Nat.le_refl _) (by omega)) (H er l h)
  | succ d ih =>
    intro i hi er l h
    have ei : (nI i).toNatClampNeg = i := ls_cl (by omega)
    obtain ⟨c, c1, c2, _⟩ := hc i (by omega)
    have ec : (nI c).toNatClampNeg = c := ls_cl (by omega)
    have hle := ls_la_le a_keyOf c i
    have b3 : vp_nar .byte (l c) = l c := by rw [h.2.2 c c1, ls_enb _ (by omega)]
    refine br_f (nI_ge (by omega) (by omega)) ?_
    rw [ei, c2, ls_nIb i (by omega)]
    refine And.intro (ls_in96 (by omega)) (nm_e ?_)
    rw [ec, b3]
    exact And.intro (ls_in16 c1) (And.intro (ls_in96 (by omega)) (nm_e (And.intro (ls_in16 c1) (nm_e (nm_r (nI_1 i) (ih (i + 1) (by omega) _ _ (ls_ok_re h c1 c2 (hb i (by omega)))))))))
theorem ls_gone_s {k : Nat} {l : Nat → Int32} (h : ∀ j, j < k → l j = -1) : ∀ j, j < k + 1 → upd l k (-1) j = -1 := by
  intro j hj
  by_cases e : j = k
  · rw [e, pk_us]
  · rw [pk_un e]
    exact h j (by omega)
theorem ls_cr20 (H : ∀ l : Nat → Int32, (∀ j, j < 16 → l j = -1) → ∃ n : Nat, wX_crash_41 post f_end f_safeEnd f_open f_openStart f_openChanges n 0 a_keyOf a_removes a_valueOf a_earlier l a_keptSafe a_keptLater a_keptOpen a_newKey a_newRemoves a_newValue a_newEarlier) :
    ∀ d k : Nat, k + d = 16 → ∀ l : Nat → Int32, (∀ j, j < k → l j = -1) → wX_crash_20 post f_end f_safeEnd f_open f_openStart f_openChanges (d + 1) (nI k) a_keyOf a_removes a_valueOf a_earlier l a_keptSafe a_keptLater a_keptOpen a_newKey a_newRemoves a_newValue a_newEarlier := by
  intro d
  induction d with
  | zero =>
    intro k hk l h
    have e : k = 16 := by omega
    subst e
    exact br_t (ls_ge16 rfl) (H l h)
  | succ d ih =>
    intro k hk l h
    have hk16 : k < 16 := by omega
    have ek : (nI k).toNatClampNeg = k := ls_cl (by omega)
    refine br_f (ls_lt16 hk16) ?_
    rw [ek, ls_m1]
    exact And.intro (ls_in16 hk16) (nm_e (nm_r (nI_1 k) (ih (k + 1) (by omega) _ (ls_gone_s h))))
theorem ls_crashX {u : SX} (hx : ls_X 96 u vS vC vE op ch) (H : ∀ u', ls_X 96 u' vS vS vS 0 0 → post u') : wpX_crash post u := by
  obtain ⟨f_end, f_safeEnd, f_open, f_openStart, f_openChanges, a_keyOf, a_removes, a_valueOf, a_earlier, a_latest, a_keptSafe, a_keptLater, a_keptOpen, a_newKey, a_newRemoves, a_newValue, a_newEarlier⟩ := u
  obtain ⟨rfl, rfl, E, S, C, rfl, rfl, hC0, hC1, hSC, hCE, hE, hok, hv⟩ := hx
  unfold wpX_crash
  dsimp only
  refine ⟨17, ls_cr20 (fun l hl => ⟨S + 1, ?_⟩) 16 0 rfl a_latest (fun j hj => absurd hj (by omega))⟩
  refine ls_cr41 (ls_ch_le hok.1 (by omega)) (ls_bl_le hok.2.1 (by omega)) (by omega) (fun er l2 h2 => H _ ?_) S 0 (by omega) a_earlier l ⟨fun i hi => absurd hi (by omega), fun i hi => absurd hi (by omega), fun k hk => hl k hk⟩
  exact ⟨rfl, rfl, S, S, S, rfl, rfl, fun _ => rfl, fun z => absurd rfl z, Nat.le_refl _, Nat.le_refl _, by omega, h2, fun k hk => ⟨(hv k hk).1, (hv k hk).1, (hv k hk).1⟩⟩
theorem ls_in102 (H : ∀ l : Nat → Int32, (∀ j, j < 16 → l j = -1) → post (f_end, f_safeEnd, f_open, f_openStart, f_openChanges, a_keyOf, a_removes, a_valueOf, a_earlier, l, a_keptSafe, a_keptLater, a_keptOpen, a_newKey, a_newRemoves, a_newValue, a_newEarlier)) :
    ∀ d k : Nat, k + d = 16 → ∀ l : Nat → Int32, (∀ j, j < k → l j = -1) → wX_init_102 post f_end f_safeEnd f_open f_openStart f_openChanges (d + 1) (nI k) a_keyOf a_removes a_valueOf a_earlier l a_keptSafe a_keptLater a_keptOpen a_newKey a_newRemoves a_newValue a_newEarlier := by
  intro d
  induction d with
  | zero =>
    intro k hk l h
    have e : k = 16 := by omega
    subst e
    exact br_t (ls_ge16 rfl) (H l h)
  | succ d ih =>
    intro k hk l h
    have hk16 : k < 16 := by omega
    have ek : (nI k).toNatClampNeg = k := ls_cl (by omega)
    refine br_f (ls_lt16 hk16) ?_
    rw [ek, ls_m1]
    exact And.intro (ls_in16 hk16) (nm_e (nm_r (nI_1 k) (ih (k + 1) (by omega) _ (ls_gone_s h))))
theorem ls_initX (H : ∀ u', ls_X 96 u' (fun _ => none) (fun _ => none) (fun _ => none) 0 0 → post u') : wpX_init post := by
  refine ⟨17, ls_in102 (fun l hl => H _ ?_) 16 0 rfl (fun _ => 0) (fun j hj => absurd hj (by omega))⟩
  exact ⟨rfl, rfl, 0, 0, 0, rfl, rfl, fun _ => rfl, fun z => absurd rfl z, Nat.le_refl _, Nat.le_refl _, by omega, ⟨fun i hi => absurd hi (by omega), fun i hi => absurd hi (by omega), fun k hk => hl k hk⟩, fun k hk => ⟨rfl, rfl, rfl⟩⟩
theorem ls_beginX0 {post : Int32 → SX → Prop} {u : SX} (hx : ls_X 96 u vS vC vE op ch) (ho : op = 0) (H : ∀ u', ls_X 96 u' vS vC vE 1 0 → post 0 u') : wpX_begin post u := by
  obtain ⟨f_end, f_safeEnd, f_open, f_openStart, f_openChanges, a_keyOf, a_removes, a_valueOf, a_earlier, a_latest, a_keptSafe, a_keptLater, a_keptOpen, a_newKey, a_newRemoves, a_newValue, a_newEarlier⟩ := u
  obtain ⟨rfl, rfl, E, S, C, rfl, rfl, hC0, hC1, hSC, hCE, hE, hok, hv⟩ := hx
  have e := hC0 ho
  refine br_t ho (H _ ?_)
  exact ⟨rfl, rfl, E, S, C, rfl, rfl, fun _ => e, fun _ => by rw [e], hSC, hCE, hE, hok, hv⟩
theorem ls_beginX1 {post : Int32 → SX → Prop} {u : SX} (hx : ls_X 96 u vS vC vE op ch) (ho : op ≠ 0) (H : post (-2) u) : wpX_begin post u := by
  obtain ⟨f_end, f_safeEnd, f_open, f_openStart, f_openChanges, a_keyOf, a_removes, a_valueOf, a_earlier, a_latest, a_keptSafe, a_keptLater, a_keptOpen, a_newKey, a_newRemoves, a_newValue, a_newEarlier⟩ := u
  obtain ⟨rfl, h⟩ := hx
  exact br_f ho H
theorem ls_commitX0 {post : Int32 → SX → Prop} {u : SX} (hx : ls_X 96 u vS vC vE op ch) (ho : op = 0) (H : post (-1) u) : wpX_commit post u := by
  obtain ⟨f_end, f_safeEnd, f_open, f_openStart, f_openChanges, a_keyOf, a_removes, a_valueOf, a_earlier, a_latest, a_keptSafe, a_keptLater, a_keptOpen, a_newKey, a_newRemoves, a_newValue, a_newEarlier⟩ := u
  obtain ⟨rfl, h⟩ := hx
  exact br_t ho H
theorem ls_commitX1 {post : Int32 → SX → Prop} {u : SX} (hx : ls_X 96 u vS vC vE op ch) (ho : op ≠ 0) (H : ∀ u', ls_X 96 u' vS vE vE 0 0 → post 0 u') : wpX_commit post u := by
  obtain ⟨f_end, f_safeEnd, f_open, f_openStart, f_openChanges, a_keyOf, a_removes, a_valueOf, a_earlier, a_latest, a_keptSafe, a_keptLater, a_keptOpen, a_newKey, a_newRemoves, a_newValue, a_newEarlier⟩ := u
  obtain ⟨rfl, rfl, E, S, C, rfl, rfl, hC0, hC1, hSC, hCE, hE, hok, hv⟩ := hx
  refine br_f ho (H _ ?_)
  exact ⟨rfl, rfl, E, S, E, rfl, rfl, fun _ => rfl, fun z => absurd rfl z, by omega, Nat.le_refl _, hE, hok, fun k hk => ⟨(hv k hk).1, (hv k hk).2.2, (hv k hk).2.2⟩⟩
theorem ls_abortX0 {post : Int32 → SX → Prop} {u : SX} (hx : ls_X 96 u vS vC vE op ch) (ho : op = 0) (H : post (-1) u) : wpX_abort post u := by
  obtain ⟨f_end, f_safeEnd, f_open, f_openStart, f_openChanges, a_keyOf, a_removes, a_valueOf, a_earlier, a_latest, a_keptSafe, a_keptLater, a_keptOpen, a_newKey, a_newRemoves, a_newValue, a_newEarlier⟩ := u
  obtain ⟨rfl, h⟩ := hx
  exact br_t ho H
theorem ls_syncX {u : SX} (hx : ls_X 96 u vS vC vE op ch) (H : ∀ u', ls_X 96 u' vC vC vE op ch → post u') : wpX_sync post u := by
  obtain ⟨f_end, f_safeEnd, f_open, f_openStart, f_openChanges, a_keyOf, a_removes, a_valueOf, a_earlier, a_latest, a_keptSafe, a_keptLater, a_keptOpen, a_newKey, a_newRemoves, a_newValue, a_newEarlier⟩ := u
  obtain ⟨rfl, rfl, E, S, C, rfl, rfl, hC0, hC1, hSC, hCE, hE, hok, hv⟩ := hx
  refine br_c (fun ho => H _ ?_) (fun ho => H _ ?_)
  · exact ⟨rfl, rfl, E, C, C, rfl, by rw [hC0 ho], hC0, hC1, Nat.le_refl _, hCE, hE, hok, fun k hk => ⟨(hv k hk).2.1, (hv k hk).2.1, (hv k hk).2.2⟩⟩
  · exact ⟨rfl, rfl, E, C, C, rfl, hC1 ho, hC0, hC1, Nat.le_refl _, hCE, hE, hok, fun k hk => ⟨(hv k hk).2.1, (hv k hk).2.1, (hv k hk).2.2⟩⟩
theorem ls_cleanX {u : SX} (hx : ls_X 96 u vS vC vE op ch) (H : ∀ u', ls_X 96 u' vS vC vE op ch → post u') : wpX_clean post u := by
  obtain ⟨f_end, f_safeEnd, f_open, f_openStart, f_openChanges, a_keyOf, a_removes, a_valueOf, a_earlier, a_latest, a_keptSafe, a_keptLater, a_keptOpen, a_newKey, a_newRemoves, a_newValue, a_newEarlier⟩ := u
  unfold wpX_clean
  dsimp only
  refine ls_rewrite hx (fun u' hx' => ?_)
  obtain ⟨f_end, f_safeEnd, f_open, f_openStart, f_openChanges, a_keyOf, a_removes, a_valueOf, a_earlier, a_latest, a_keptSafe, a_keptLater, a_keptOpen, a_newKey, a_newRemoves, a_newValue, a_newEarlier⟩ := u'
  exact H _ (ls_X_le hx' (by omega))
end LS5
end
section
/-! the component's reading methods against the abstract state -/
/-- the first key from i on, of d, that a set holds -/
def ls_nx (f : Nat → Bool) : Nat → Nat → Int32
  | 0, _ => -1
  | d + 1, i => if f i then nI i else ls_nx f d (i + 1)
/-- how many of the keys below k a set holds -/
def ls_cn (f : Nat → Bool) : Nat → Int32
  | 0 => 0
  | k + 1 => ls_cn f k + ls_b01 (f k)
theorem ls_nx_t {f : Nat → Bool} {d i : Nat} (h : f i = true) : ls_nx f (d + 1) i = nI i := if_pos h
theorem ls_nx_f {f : Nat → Bool} {d i : Nat} (h : f i = false) : ls_nx f (d + 1) i = ls_nx f d (i + 1) := if_neg (by rw [h]; decide)
/-- the int s is the set of those keys below k that g holds -/
def ls_bs (g : Nat → Bool) (k : Nat) (s : Int32) : Prop := ∀ j, j < 32 → bt s j = (decide (j < k) && g j)
theorem ls_bs_0 {g : Nat → Bool} : ls_bs g 0 0 := fun j _ => by rw [b_0, decide_eq_false (by omega), Bool.false_and]
theorem ls_bs_f {g : Nat → Bool} {k : Nat} {s : Int32} (h : ls_bs g k s) (hg : g k = false) : ls_bs g (k + 1) (s ||| 0) := by
  intro j hj
  rw [b_or, b_0, Bool.or_false, h j hj]
  by_cases e : j = k
  · rw [e, hg, Bool.and_false, Bool.and_false]
  · by_cases e2 : j < k
    · rw [decide_eq_true e2, decide_eq_true (show j < k + 1 by omega)]
    · rw [decide_eq_false e2, decide_eq_false (show ¬ j < k + 1 by omega)]
theorem ls_bs_t {g : Nat → Bool} {k : Nat} {s : Int32} (h : ls_bs g k s) (hk : k < 32) (hg : g k = true) : ls_bs g (k + 1) (s ||| ((1 : Int32) <<< (nI k &&& 31))) := by
  intro j hj
  rw [ls_orb hk hj, h j hj]
  by_cases e : j = k
  · rw [e, hg, decide_eq_true (show k < k + 1 by omega), decide_eq_true (show k = k from rfl), Bool.or_true, Bool.true_and]
  · rw [decide_eq_false e, Bool.or_false]
    by_cases e2 : j < k
    · rw [decide_eq_true e2, decide_eq_true (show j < k + 1 by omega)]
    · rw [decide_eq_false e2, decide_eq_false (show ¬ j < k + 1 by omega)]
theorem ls_at_some {rem val : Nat → Int32} {m : Nat} {x : Int32} (h : ls_at rem val m = some x) : ∃ i, m = i + 1 ∧ val i = x := by
  cases m with
  | zero => exact absurd h (by intro z; cases z)
  | succ i =>
    refine ⟨i, rfl, ?_⟩
    have h' : (if rem i = 0 then some (val i) else none) = some x := h
    by_cases z : rem i = 0
    · rw [if_pos z] at h'
      exact Option.some.inj h'
    · rw [if_neg z] at h'
      cases h'
section LS6
variable {f_end f_safeEnd f_open f_openStart f_openChanges : Int32} {a_keyOf a_removes a_valueOf a_earlier a_latest a_keptSafe a_keptLater a_keptOpen a_newKey a_newRemoves a_newValue a_newEarlier : Nat → Int32} {post : Int32 → Prop} {vS vC vE : Nat → Option Int32} {op ch : Int32}
theorem ls_hasX {u : SX} {k : Nat} (hx : ls_X 96 u vS vC vE op ch) (hk : k < 16) (h : post (ls_b01 (vE k).isSome)) : wpX_has post u (nI k) := by
  obtain ⟨f_end, f_safeEnd, f_open, f_openStart, f_openChanges, a_keyOf, a_removes, a_valueOf, a_earlier, a_latest, a_keptSafe, a_keptLater, a_keptOpen, a_newKey, a_newRemoves, a_newValue, a_newEarlier⟩ := u
  obtain ⟨rfl, rfl, E, S, C, rfl, rfl, hC0, hC1, hSC, hCE, hE, hok, hv⟩ := hx
  have ek : (nI k).toNatClampNeg = k := ls_cl (by omega)
  have hle := ls_la_le a_keyOf k E
  unfold wpX_has
  dsimp only
  refine ls_isKey hk (br_f (by decide) (And.intro (ls_in16 hk) ?_))
  rw [ek, hok.2.2 k hk]
  have e : ls_at a_removes a_valueOf (ls_la a_keyOf k E) = vE k := (hv k hk).2.2
  refine ls_holds (by omega) ?_
  rw [e]
  exact ls_br (fun z => by rw [z] at h; exact h) (fun z => by rw [z] at h; exact h)
theorem ls_hasX0 {u : SX} {x : Int32} (hk : x < 0 ∨ 16 ≤ x) (h : post 0) : wpX_has post u x := by
  obtain ⟨f_end, f_safeEnd, f_open, f_openStart, f_openChanges, a_keyOf, a_removes, a_valueOf, a_earlier, a_latest, a_keptSafe, a_keptLater, a_keptOpen, a_newKey, a_newRemoves, a_newValue, a_newEarlier⟩ := u
  unfold wpX_has
  dsimp only
  exact ls_noKey hk (br_t rfl h)
theorem ls_getX {u : SX} {k : Nat} (hx : ls_X 96 u vS vC vE op ch) (hk : k < 16) (h : post ((vE k).getD 0)) : wpX_get post u (nI k) := by
  have hx2 := hx
  obtain ⟨f_end, f_safeEnd, f_open, f_openStart, f_openChanges, a_keyOf, a_removes, a_valueOf, a_earlier, a_latest, a_keptSafe, a_keptLater, a_keptOpen, a_newKey, a_newRemoves, a_newValue, a_newEarlier⟩ := u
  unfold wpX_get
  dsimp only
  refine ls_hasX hx hk (ls_br (fun z => ?_) (fun z => ?_))
  · cases e : vE k with
    | none => rw [e] at h; exact h
    | some y => rw [e] at z; exact absurd z (by simp)
  · obtain ⟨rfl, rfl, E, S, C, rfl, rfl, hC0, hC1, hSC, hCE, hE, hok, hv⟩ := hx2
    have ek : (nI k).toNatClampNeg = k := ls_cl (by omega)
    have hle := ls_la_le a_keyOf k E
    have e : ls_at a_removes a_valueOf (ls_la a_keyOf k E) = vE k := (hv k hk).2.2
    obtain ⟨y, ey⟩ := Option.isSome_iff_exists.mp z
    obtain ⟨i, e1, e2⟩ := ls_at_some (e.trans ey)
    rw [ek, hok.2.2 k hk, e1]
    refine And.intro (ls_in16 hk) (And.intro (ls_in96 (by omega)) ?_)
    rw [ey] at h
    show post (a_valueOf (nI i).toNatClampNeg)
    rw [ls_cl (by omega), e2]
    exact h
theorem ls_getX0 {u : SX} {x : Int32} (hk : x < 0 ∨ 16 ≤ x) (h : post 0) : wpX_get post u x := by
  obtain ⟨f_end, f_safeEnd, f_open, f_openStart, f_openChanges, a_keyOf, a_removes, a_valueOf, a_earlier, a_latest, a_keptSafe, a_keptLater, a_keptOpen, a_newKey, a_newRemoves, a_newValue, a_newEarlier⟩ := u
  unfold wpX_get
  dsimp only
  exact ls_hasX0 hk (br_t rfl h)
theorem ls_nx10 (hx : ls_X 96 (f_end, f_safeEnd, f_open, f_openStart, f_openChanges, a_keyOf, a_removes, a_valueOf, a_earlier, a_latest, a_keptSafe, a_keptLater, a_keptOpen, a_newKey, a_newRemoves, a_newValue, a_newEarlier) vS vC vE op ch) : ∀ d i : Nat, i + d = 16 → post (ls_nx (fun j => (vE j).isSome) d i) → wX_next_10 post f_end f_safeEnd f_open f_openStart f_openChanges a_keyOf a_removes a_valueOf a_earlier a_latest a_keptSafe a_keptLater a_keptOpen a_newKey a_newRemoves a_newValue a_newEarlier (d + 1) (nI i) := by
  intro d
  induction d with
  | zero =>
    intro i hi h
    have e : i = 16 := by omega
    exact br_t (ls_ge16 e) h
  | succ d ih =>
    intro i hi h
    refine br_f (ls_lt16 (by omega)) (ls_hasX hx (by omega) (ls_br (fun z => nm_r (nI_1 i) (ih (i + 1) (by omega) ?_)) (fun z => ?_)))
    · rw [ls_nx_f z] at h
      exact h
    · rw [ls_nx_t z] at h
      exact h
/-- the key that a search begins with, 16 if none -/
def ls_st (x : Int32) (p : Nat) : Prop := p ≤ 16 ∧ ∀ i, i < 16 → (nI i < x ↔ i < p)
theorem ls_st_ex (x : Int32) : ∃ p, ls_st x p := by
  by_cases h : x < 0
  · refine ⟨0, by omega, fun i hi => ⟨fun z => ?_, fun z => absurd z (by omega)⟩⟩
    exact absurd (Int32.lt_trans z h) (nI_pos (by omega))
  · obtain ⟨q, hq, rfl⟩ := nI_of h
    by_cases c : q ≤ 16
    · exact ⟨q, c, fun i hi => nI_ltI (by omega) hq⟩
    · refine ⟨16, Nat.le_refl _, fun i hi => ?_⟩
      rw [nI_ltI (by omega) hq]
      omega
theorem ls_nextX {u : SX} {x : Int32} {p : Nat} (hx : ls_X 96 u vS vC vE op ch) (hp : ls_st x p) (h : post (ls_nx (fun j => (vE j).isSome) (16 - p) p)) : wpX_next post u x := by
  obtain ⟨f_end, f_safeEnd, f_open, f_openStart, f_openChanges, a_keyOf, a_removes, a_valueOf, a_earlier, a_latest, a_keptSafe, a_keptLater, a_keptOpen, a_newKey, a_newRemoves, a_newValue, a_newEarlier⟩ := u
  unfold wpX_next
  dsimp only
  refine br_c (fun h0 => ?_) (fun h0 => ?_)
  · obtain ⟨q, hq, rfl⟩ := nI_of (x := x) (Int32.not_lt.mpr h0)
    by_cases c : q < 16
    · have e : p = q := by
        have h1 := hp.2 q c
        rw [nI_ltI hq hq] at h1
        have h2 := hp.1
        by_cases c2 : p < q
        · have h3 := hp.2 p (by omega)
          rw [nI_ltI (by omega) hq] at h3
          omega
        · omega
      subst e
      exact ⟨16 - p + 1, ls_nx10 hx (16 - p) p (by omega) h⟩
    · have e : p = 16 := by
        have h1 := hp.2 15 (by omega)
        rw [nI_ltI (by omega) hq] at h1
        have h2 := hp.1
        omega
      subst e
      exact ⟨1, br_t (by rw [ls_16]; exact nI_le (by omega) hq) h⟩
  · have e : p = 0 := by
      have h1 := hp.2 0 (by omega)
      rw [nI_0] at h1
      have h2 : ¬ (0 : Int32) < x := fun z => h0 (Int32.le_of_lt z)
      have h3 : ¬ 0 < p := fun z => h2 (h1.mpr z)
      omega
    subst e
    exact ⟨17, ls_nx10 hx 16 0 rfl h⟩
theorem ls_cn4 (hx : ls_X 96 (f_end, f_safeEnd, f_open, f_openStart, f_openChanges, a_keyOf, a_removes, a_valueOf, a_earlier, a_latest, a_keptSafe, a_keptLater, a_keptOpen, a_newKey, a_newRemoves, a_newValue, a_newEarlier) vS vC vE op ch) (h : post (ls_cn (fun j => (vE j).isSome) 16)) : ∀ d k : Nat, k + d = 16 → wX_count_4 post f_end f_safeEnd f_open f_openStart f_openChanges a_keyOf a_removes a_valueOf a_earlier a_latest a_keptSafe a_keptLater a_keptOpen a_newKey a_newRemoves a_newValue a_newEarlier (d + 1) (ls_cn (fun j => (vE j).isSome) k) (nI k) := by
  intro d
  induction d with
  | zero =>
    intro k hk
    have e : k = 16 := by omega
    subst e
    exact br_t (ls_ge16 rfl) h
  | succ d ih =>
    intro k hk
    have hn := ih (k + 1) (by omega)
    have e : ls_cn (fun j => (vE j).isSome) (k + 1) = ls_cn (fun j => (vE j).isSome) k + ls_b01 (vE k).isSome := rfl
    refine br_f (ls_lt16 (by omega)) (ls_hasX hx (by omega) (ls_br (fun z => nm_r (e' := ls_cn (fun j => (vE j).isSome) (k + 1)) ?_ (nm_r (nI_1 k) hn)) (fun z => nm_r (e' := ls_cn (fun j => (vE j).isSome) (k + 1)) ?_ (nm_r (nI_1 k) hn))))
    · rw [e, z]; rfl
    · rw [e, z]; rfl
theorem ls_countX {u : SX} (hx : ls_X 96 u vS vC vE op ch) (h : post (ls_cn (fun j => (vE j).isSome) 16)) : wpX_count post u := by
  obtain ⟨f_end, f_safeEnd, f_open, f_openStart, f_openChanges, a_keyOf, a_removes, a_valueOf, a_earlier, a_latest, a_keptSafe, a_keptLater, a_keptOpen, a_newKey, a_newRemoves, a_newValue, a_newEarlier⟩ := u
  exact ⟨17, ls_cn4 hx h 16 0 rfl⟩
theorem ls_sk4 (hx : ls_X 96 (f_end, f_safeEnd, f_open, f_openStart, f_openChanges, a_keyOf, a_removes, a_valueOf, a_earlier, a_latest, a_keptSafe, a_keptLater, a_keptOpen, a_newKey, a_newRemoves, a_newValue, a_newEarlier) vS vC vE op ch) (h : ∀ s, ls_bs (fun j => (vS j).isSome) 16 s → post s) : ∀ d k : Nat, k + d = 16 → ∀ s, ls_bs (fun j => (vS j).isSome) k s → wX_safeKeys_4 post f_end f_safeEnd f_open f_openStart f_openChanges a_keyOf a_removes a_valueOf a_earlier a_latest a_keptSafe a_keptLater a_keptOpen a_newKey a_newRemoves a_newValue a_newEarlier (d + 1) s (nI k) := by
  obtain ⟨rfl, rfl, E, S, C, rfl, rfl, hC0, hC1, hSC, hCE, hE, hok, hv⟩ := hx
  intro d
  induction d with
  | zero =>
    intro k hk s hs
    have e : k = 16 := by omega
    subst e
    exact br_t (ls_ge16 rfl) (h s hs)
  | succ d ih =>
    intro k hk s hs
    have hk16 : k < 16 := by omega
    have hle := ls_la_le a_keyOf k S
    have e : ls_at a_removes a_valueOf (ls_la a_keyOf k S) = vS k := (hv k hk16).1
    refine br_f (ls_lt16 hk16) (ls_before hok.1 hE hk16 (by omega) (hok.2.2 k hk16) (ls_holds (by omega) ?_))
    rw [e]
    exact ls_br (fun z => nm_e (nm_r (nI_1 k) (ih (k + 1) (by omega) _ (ls_bs_f hs z)))) (fun z => nm_e (nm_r (nI_1 k) (ih (k + 1) (by omega) _ (ls_bs_t hs (by omega) z))))
theorem ls_safeKeysX {u : SX} (hx : ls_X 96 u vS vC vE op ch) (h : ∀ s, ls_bs (fun j => (vS j).isSome) 16 s → post s) : wpX_safeKeys post u := by
  obtain ⟨f_end, f_safeEnd, f_open, f_openStart, f_openChanges, a_keyOf, a_removes, a_valueOf, a_earlier, a_latest, a_keptSafe, a_keptLater, a_keptOpen, a_newKey, a_newRemoves, a_newValue, a_newEarlier⟩ := u
  exact ⟨17, ls_sk4 hx h 16 0 rfl 0 ls_bs_0⟩
theorem ls_safeValueX {u : SX} {k : Nat} (hx : ls_X 96 u vS vC vE op ch) (hk : k < 16) (h : post ((vS k).getD 0)) : wpX_safeValue post u (nI k) := by
  obtain ⟨f_end, f_safeEnd, f_open, f_openStart, f_openChanges, a_keyOf, a_removes, a_valueOf, a_earlier, a_latest, a_keptSafe, a_keptLater, a_keptOpen, a_newKey, a_newRemoves, a_newValue, a_newEarlier⟩ := u
  obtain ⟨rfl, rfl, E, S, C, rfl, rfl, hC0, hC1, hSC, hCE, hE, hok, hv⟩ := hx
  have hle := ls_la_le a_keyOf k S
  have e : ls_at a_removes a_valueOf (ls_la a_keyOf k S) = vS k := (hv k hk).1
  unfold wpX_safeValue
  dsimp only
  refine ls_isKey hk (br_f (by decide) (ls_before hok.1 hE hk (by omega) (hok.2.2 k hk) (ls_holds (by omega) ?_)))
  rw [e]
  refine ls_br (fun z => ?_) (fun z => ?_)
  · cases ey : vS k with
    | none => rw [ey] at h; exact h
    | some y => rw [ey] at z; exact absurd z (by simp)
  · obtain ⟨y, ey⟩ := Option.isSome_iff_exists.mp z
    obtain ⟨i, e1, e2⟩ := ls_at_some (e.trans ey)
    rw [e1]
    refine And.intro (ls_in96 (by omega)) ?_
    rw [ey] at h
    show post (a_valueOf (nI i).toNatClampNeg)
    rw [ls_cl (by omega), e2]
    exact h
theorem ls_safeValueX0 {u : SX} {x : Int32} (hk : x < 0 ∨ 16 ≤ x) (h : post 0) : wpX_safeValue post u x := by
  obtain ⟨f_end, f_safeEnd, f_open, f_openStart, f_openChanges, a_keyOf, a_removes, a_valueOf, a_earlier, a_latest, a_keptSafe, a_keptLater, a_keptOpen, a_newKey, a_newRemoves, a_newValue, a_newEarlier⟩ := u
  unfold wpX_safeValue
  dsimp only
  exact ls_noKey hk (br_t rfl h)
theorem ls_differsX {u : SX} {k : Nat} (hx : ls_X 96 u vS vC vE op ch) (hk : k < 16) (h : post (ls_b01 (decide (¬ vE k = vS k)))) : wpX_differs post u (nI k) := by
  obtain ⟨f_end, f_safeEnd, f_open, f_openStart, f_openChanges, a_keyOf, a_removes, a_valueOf, a_earlier, a_latest, a_keptSafe, a_keptLater, a_keptOpen, a_newKey, a_newRemoves, a_newValue, a_newEarlier⟩ := u
  obtain ⟨rfl, rfl, E, S, C, rfl, rfl, hC0, hC1, hSC, hCE, hE, hok, hv⟩ := hx
  have ek : (nI k).toNatClampNeg = k := ls_cl (by omega)
  have l1 := ls_la_le a_keyOf k S
  have l2 := ls_la_le a_keyOf k E
  have eS : ls_at a_removes a_valueOf (ls_la a_keyOf k S) = vS k := (hv k hk).1
  have eE : ls_at a_removes a_valueOf (ls_la a_keyOf k E) = vE k := (hv k hk).2.2
  unfold wpX_differs
  dsimp only
  refine ls_before hok.1 hE hk (by omega) (hok.2.2 k hk) (And.intro (ls_in16 hk) (nm_r (e' := ls_en (ls_la a_keyOf k E)) (by rw [ek]; exact hok.2.2 k hk) ?_))
  refine ls_holds (by omega) (ls_holds (by omega) ?_)
  rw [eS, eE]
  cases yS : vS k with
  | none =>
    cases yE : vE k with
    | none =>
      rw [yS, yE] at h
      refine br_t rfl (ls_holds (by omega) ?_)
      rw [eE, yE]
      exact br_t rfl h
    | some y =>
      rw [yS, yE] at h
      exact br_f (show ¬ (0 : Int32) = 1 by decide) h
  | some x =>
    cases yE : vE k with
    | none =>
      rw [yS, yE] at h
      exact br_f (show ¬ (1 : Int32) = 0 by decide) h
    | some y =>
      rw [yS, yE] at h
      refine br_t rfl (ls_holds (by omega) ?_)
      rw [eE, yE]
      obtain ⟨i, i1, i2⟩ := ls_at_some (eE.trans yE)
      obtain ⟨j, j1, j2⟩ := ls_at_some (eS.trans yS)
      rw [i1, j1]
      refine br_f (show ¬ (1 : Int32) = 0 by decide) (And.intro (ls_in96 (by omega)) (And.intro (ls_in96 (by omega)) ?_))
      show (a_valueOf (nI i).toNatClampNeg = a_valueOf (nI j).toNatClampNeg → post 0) ∧ (¬ a_valueOf (nI i).toNatClampNeg = a_valueOf (nI j).toNatClampNeg → post 1)
      rw [ls_cl (by omega), ls_cl (by omega), i2, j2]
      refine br_c (fun z => ?_) (fun z => ?_)
      · rw [z, decide_eq_false (fun n => n rfl)] at h
        exact h
      · rw [decide_eq_true (show ¬ some y = some x from fun n => z (Option.some.inj n))] at h
        exact h
theorem ls_us4 (hx : ls_X 96 (f_end, f_safeEnd, f_open, f_openStart, f_openChanges, a_keyOf, a_removes, a_valueOf, a_earlier, a_latest, a_keptSafe, a_keptLater, a_keptOpen, a_newKey, a_newRemoves, a_newValue, a_newEarlier) vS vC vE op ch) (h : ∀ s, ls_bs (fun j => decide (¬ vE j = vS j)) 16 s → post s) : ∀ d k : Nat, k + d = 16 → ∀ s, ls_bs (fun j => decide (¬ vE j = vS j)) k s → wX_unsafe_4 post f_end f_safeEnd f_open f_openStart f_openChanges a_keyOf a_removes a_valueOf a_earlier a_latest a_keptSafe a_keptLater a_keptOpen a_newKey a_newRemoves a_newValue a_newEarlier (d + 1) s (nI k) := by
  intro d
  induction d with
  | zero =>
    intro k hk s hs
    have e : k = 16 := by omega
    subst e
    exact br_t (ls_ge16 rfl) (h s hs)
  | succ d ih =>
    intro k hk s hs
    have hk16 : k < 16 := by omega
    refine br_f (ls_lt16 hk16) (ls_differsX hx hk16 ?_)
    exact ls_br (fun z => nm_e (nm_r (nI_1 k) (ih (k + 1) (by omega) _ (ls_bs_f hs z)))) (fun z => nm_e (nm_r (nI_1 k) (ih (k + 1) (by omega) _ (ls_bs_t hs (by omega) z))))
theorem ls_unsafeX {u : SX} (hx : ls_X 96 u vS vC vE op ch) (h : ∀ s, ls_bs (fun j => decide (¬ vE j = vS j)) 16 s → post s) : wpX_unsafe post u := by
  obtain ⟨f_end, f_safeEnd, f_open, f_openStart, f_openChanges, a_keyOf, a_removes, a_valueOf, a_earlier, a_latest, a_keptSafe, a_keptLater, a_keptOpen, a_newKey, a_newRemoves, a_newValue, a_newEarlier⟩ := u
  exact ⟨17, ls_us4 hx h 16 0 rfl 0 ls_bs_0⟩
theorem ls_pendingX {u : SX} (hx : ls_X 96 u vS vC vE op ch) (h : post ch) : wpX_pending post u := by
  obtain ⟨f_end, f_safeEnd, f_open, f_openStart, f_openChanges, a_keyOf, a_removes, a_valueOf, a_earlier, a_latest, a_keptSafe, a_keptLater, a_keptOpen, a_newKey, a_newRemoves, a_newValue, a_newEarlier⟩ := u
  obtain ⟨_, rfl, _⟩ := hx
  exact h
end LS6
end
section
/-! the reference against the abstract state -/
def ls_y (K : Int32) (a : Nat → Int32) (v : Nat → Option Int32) : Prop := (∀ j, 16 ≤ j → bt K j = false) ∧ ∀ k, k < 16 → v k = if bt K k then some (a k) else none
theorem ls_y_b {K : Int32} {a : Nat → Int32} {v : Nat → Option Int32} {k : Nat} (h : ls_y K a v) (hk : k < 16) : bt K k = (v k).isSome := by
  rw [h.2 k hk]
  cases bt K k <;> rfl
theorem ls_y_t {K : Int32} {a : Nat → Int32} {v : Nat → Option Int32} {k : Nat} (h : ls_y K a v) (hk : k < 16) (hb : bt K k = true) : v k = some (a k) := by
  rw [h.2 k hk, hb]
  rfl
theorem ls_y_f {K : Int32} {a : Nat → Int32} {v : Nat → Option Int32} {k : Nat} (h : ls_y K a v) (hk : k < 16) (hb : bt K k = false) : v k = none := by
  rw [h.2 k hk, hb]
  rfl
theorem ls_y_cp {K : Int32} {a b : Nat → Int32} {v : Nat → Option Int32} (h : ls_y K a v) (hb : ∀ j, j < 16 → b j = a j) : ls_y K b v :=
  ⟨h.1, fun k hk => by rw [hb k hk]; exact h.2 k hk⟩
theorem ls_y_0 {a : Nat → Int32} : ls_y 0 a (fun _ => none) := ⟨fun j _ => b_0 j, fun k _ => by rw [b_0]; rfl⟩
theorem ls_y_put {K : Int32} {a : Nat → Int32} {v : Nat → Option Int32} {k : Nat} {x : Int32} (h : ls_y K a v) (hk : k < 16) : ls_y (K ||| ((1 : Int32) <<< (nI k &&& 31))) (upd a k x) (ls_set v k (some x)) := by
  refine ⟨fun j hj => ?_, fun j hj => ?_⟩
  · by_cases c : j < 32
    · rw [ls_orb (by omega) c, h.1 j hj, decide_eq_false (by omega)]
      rfl
    · exact b_big (by omega)
  · rw [ls_orb (by omega) (by omega)]
    by_cases e : j = k
    · rw [e, ls_set_s, pk_us, decide_eq_true rfl, Bool.or_true]
      rfl
    · rw [ls_set_n e, pk_un e, decide_eq_false e, Bool.or_false]
      exact h.2 j hj
theorem ls_y_rem {K : Int32} {a : Nat → Int32} {v : Nat → Option Int32} {k : Nat} (h : ls_y K a v) (hk : k < 16) : ls_y (K &&& (((1 : Int32) <<< (nI k &&& 31)) ^^^ (-1))) a (ls_set v k none) := by
  refine ⟨fun j hj => ?_, fun j hj => ?_⟩
  · by_cases c : j < 32
    · rw [ls_clr (by omega) c, h.1 j hj]
      rfl
    · exact b_big (by omega)
  · rw [ls_clr (by omega) (by omega)]
    by_cases e : j = k
    · rw [e, ls_set_s, decide_eq_true rfl, Bool.not_true, Bool.and_false]
      rfl
    · rw [ls_set_n e, decide_eq_false e, Bool.not_false, Bool.and_true]
      exact h.2 j hj
def ls_Y (w : SY) (vS vC vE : Nat → Option Int32) (op ch : Int32) : Prop := match w with
  | (f_keys, f_baseKeys, f_keptKeys, f_open, f_changes, a_values, a_baseValues, a_keptValues) => f_open = op ∧ (op = 0 → ch = 0) ∧ (op ≠ 0 → f_changes = ch) ∧ ls_y f_keys a_values vE ∧ ls_y f_baseKeys a_baseValues vC ∧ ls_y f_keptKeys a_keptValues vS
theorem ls_cpy {a b : Nat → Int32} {k : Nat} (h : ∀ j, j < k → b j = a j) : ∀ j, j < k + 1 → upd b k (a k) j = a j := by
  intro j hj
  by_cases e : j = k
  · rw [e, pk_us]
  · rw [pk_un e]
    exact h j (by omega)
section LS7
variable {f_keys f_baseKeys f_keptKeys f_open f_changes : Int32} {a_values a_baseValues a_keptValues : Nat → Int32} {post : SY → Prop} {vS vC vE : Nat → Option Int32} {op ch : Int32}
theorem ls_se10 (H : ∀ b : Nat → Int32, (∀ j, j < 16 → b j = a_values j) → post (f_keys, f_baseKeys, f_keptKeys, f_open, f_changes, a_values, b, a_keptValues)) :
    ∀ d k : Nat, k + d = 16 → ∀ b : Nat → Int32, (∀ j, j < k → b j = a_values j) → wY_settle_10 post f_keys f_baseKeys f_keptKeys f_open f_changes (d + 1) (nI k) a_values b a_keptValues := by
  intro d
  induction d with
  | zero =>
    intro k hk b hb
    have e : k = 16 := by omega
    subst e
    exact br_t (ls_ge16 rfl) (H b hb)
  | succ d ih =>
    intro k hk b hb
    have hk16 : k < 16 := by omega
    refine br_f (ls_lt16 hk16) ?_
    rw [ls_cl (show k < 97 by omega)]
    exact And.intro (ls_in16 hk16) (And.intro (ls_in16 hk16) (nm_e (nm_r (nI_1 k) (ih (k + 1) (by omega) _ (ls_cpy hb)))))
theorem ls_settle (H : ∀ b : Nat → Int32, (∀ j, j < 16 → b j = a_values j) → post (f_keys, f_keys, f_keptKeys, f_open, f_changes, a_values, b, a_keptValues)) : wpY_settle post (f_keys, f_baseKeys, f_keptKeys, f_open, f_changes, a_values, a_baseValues, a_keptValues) :=
  ⟨17, ls_se10 H 16 0 rfl a_baseValues (fun j hj => absurd hj (by omega))⟩
theorem ls_ba10 (H : ∀ b : Nat → Int32, (∀ j, j < 16 → b j = a_baseValues j) → post (f_keys, f_baseKeys, f_keptKeys, f_open, f_changes, b, a_baseValues, a_keptValues)) :
    ∀ d k : Nat, k + d = 16 → ∀ b : Nat → Int32, (∀ j, j < k → b j = a_baseValues j) → wY_back_10 post f_keys f_baseKeys f_keptKeys f_open f_changes (d + 1) (nI k) b a_baseValues a_keptValues := by
  intro d
  induction d with
  | zero =>
    intro k hk b hb
    have e : k = 16 := by omega
    subst e
    exact br_t (ls_ge16 rfl) (H b hb)
  | succ d ih =>
    intro k hk b hb
    have hk16 : k < 16 := by omega
    refine br_f (ls_lt16 hk16) ?_
    rw [ls_cl (show k < 97 by omega)]
    exact And.intro (ls_in16 hk16) (And.intro (ls_in16 hk16) (nm_e (nm_r (nI_1 k) (ih (k + 1) (by omega) _ (ls_cpy hb)))))
theorem ls_back (H : ∀ b : Nat → Int32, (∀ j, j < 16 → b j = a_baseValues j) → post (f_baseKeys, f_baseKeys, f_keptKeys, f_open, f_changes, b, a_baseValues, a_keptValues)) : wpY_back post (f_keys, f_baseKeys, f_keptKeys, f_open, f_changes, a_values, a_baseValues, a_keptValues) :=
  ⟨17, ls_ba10 H 16 0 rfl a_values (fun j hj => absurd hj (by omega))⟩
theorem ls_sy10 (H : ∀ b : Nat → Int32, (∀ j, j < 16 → b j = a_baseValues j) → post (f_keys, f_baseKeys, f_keptKeys, f_open, f_changes, a_values, a_baseValues, b)) :
    ∀ d k : Nat, k + d = 16 → ∀ b : Nat → Int32, (∀ j, j < k → b j = a_baseValues j) → wY_sync_10 post f_keys f_baseKeys f_keptKeys f_open f_changes (d + 1) (nI k) a_values a_baseValues b := by
  intro d
  induction d with
  | zero =>
    intro k hk b hb
    have e : k = 16 := by omega
    subst e
    exact br_t (ls_ge16 rfl) (H b hb)
  | succ d ih =>
    intro k hk b hb
    have hk16 : k < 16 := by omega
    refine br_f (ls_lt16 hk16) ?_
    rw [ls_cl (show k < 97 by omega)]
    exact And.intro (ls_in16 hk16) (And.intro (ls_in16 hk16) (nm_e (nm_r (nI_1 k) (ih (k + 1) (by omega) _ (ls_cpy hb)))))
theorem ls_cr15 (H : ∀ b : Nat → Int32, (∀ j, j < 16 → b j = a_keptValues j) → wpY_back (fun u => match u with | (f_keys_3, f_baseKeys_4, f_keptKeys_5, f_open_6, f_changes_7, a_values_8, a_baseValues_9, a_keptValues_10) => post (f_keys_3, f_baseKeys_4, f_keptKeys_5, f_open_6, f_changes_7, a_values_8, a_baseValues_9, a_keptValues_10)) (f_keys, f_baseKeys, f_keptKeys, f_open, f_changes, a_values, b, a_keptValues)) :
    ∀ d k : Nat, k + d = 16 → ∀ b : Nat → Int32, (∀ j, j < k → b j = a_keptValues j) → wY_crash_15 post f_keys f_baseKeys f_keptKeys f_open f_changes (d + 1) (nI k) a_values b a_keptValues := by
  intro d
  induction d with
  | zero =>
    intro k hk b hb
    have e : k = 16 := by omega
    subst e
    exact br_t (ls_ge16 rfl) (H b hb)
  | succ d ih =>
    intro k hk b hb
    have hk16 : k < 16 := by omega
    refine br_f (ls_lt16 hk16) ?_
    rw [ls_cl (show k < 97 by omega)]
    exact And.intro (ls_in16 hk16) (And.intro (ls_in16 hk16) (nm_e (nm_r (nI_1 k) (ih (k + 1) (by omega) _ (ls_cpy hb)))))
theorem ls_syncY {w : SY} (hy : ls_Y w vS vC vE op ch) (H : ∀ w', ls_Y w' vC vC vE op ch → post w') : wpY_sync post w := by
  obtain ⟨f_keys, f_baseKeys, f_keptKeys, f_open, f_changes, a_values, a_baseValues, a_keptValues⟩ := w
  obtain ⟨rfl, h1, h2, h3, h4, h5⟩ := hy
  exact ⟨17, ls_sy10 (fun b hb => H _ ⟨rfl, h1, h2, h3, h4, ls_y_cp h4 hb⟩) 16 0 rfl a_keptValues (fun j hj => absurd hj (by omega))⟩
theorem ls_crashY {w : SY} (hy : ls_Y w vS vC vE op ch) (H : ∀ w', ls_Y w' vS vS vS 0 0 → post w') : wpY_crash post w := by
  obtain ⟨f_keys, f_baseKeys, f_keptKeys, f_open, f_changes, a_values, a_baseValues, a_keptValues⟩ := w
  obtain ⟨rfl, h1, h2, h3, h4, h5⟩ := hy
  refine ⟨17, ls_cr15 (fun b hb => ls_back (fun c hc => H _ ?_)) 16 0 rfl a_baseValues (fun j hj => absurd hj (by omega))⟩
  exact ⟨rfl, fun _ => rfl, fun z => absurd rfl z, ls_y_cp (ls_y_cp h5 hb) hc, ls_y_cp h5 hb, h5⟩
theorem ls_abortY {post : Int32 → SY → Prop} {w : SY} (hy : ls_Y w vS vC vE op ch) (ho : op ≠ 0) (H : ∀ w', ls_Y w' vS vC vC 0 0 → post 0 w') : wpY_abort post w := by
  obtain ⟨f_keys, f_baseKeys, f_keptKeys, f_open, f_changes, a_values, a_baseValues, a_keptValues⟩ := w
  obtain ⟨rfl, h1, h2, h3, h4, h5⟩ := hy
  unfold wpY_abort
  dsimp only
  exact br_f ho (ls_back (fun c hc => H _ ⟨rfl, fun _ => rfl, fun z => absurd rfl z, ls_y_cp h4 hc, h4, h5⟩))
theorem ls_abortY0 {post : Int32 → SY → Prop} {w : SY} (hy : ls_Y w vS vC vE op ch) (ho : op = 0) (H : post (-1) w) : wpY_abort post w := by
  obtain ⟨f_keys, f_baseKeys, f_keptKeys, f_open, f_changes, a_values, a_baseValues, a_keptValues⟩ := w
  obtain ⟨rfl, _⟩ := hy
  exact br_t ho H
theorem ls_commitY {post : Int32 → SY → Prop} {w : SY} (hy : ls_Y w vS vC vE op ch) (ho : op ≠ 0) (H : ∀ w', ls_Y w' vS vE vE 0 0 → post 0 w') : wpY_commit post w := by
  obtain ⟨f_keys, f_baseKeys, f_keptKeys, f_open, f_changes, a_values, a_baseValues, a_keptValues⟩ := w
  obtain ⟨rfl, h1, h2, h3, h4, h5⟩ := hy
  unfold wpY_commit
  dsimp only
  exact br_f ho (ls_settle (fun c hc => H _ ⟨rfl, fun _ => rfl, fun z => absurd rfl z, h3, ls_y_cp h3 hc, h5⟩))
theorem ls_commitY0 {post : Int32 → SY → Prop} {w : SY} (hy : ls_Y w vS vC vE op ch) (ho : op = 0) (H : post (-1) w) : wpY_commit post w := by
  obtain ⟨f_keys, f_baseKeys, f_keptKeys, f_open, f_changes, a_values, a_baseValues, a_keptValues⟩ := w
  obtain ⟨rfl, _⟩ := hy
  exact br_t ho H
theorem ls_beginY0 {post : Int32 → SY → Prop} {w : SY} (hy : ls_Y w vS vC vE op ch) (ho : op = 0) (H : ∀ w', ls_Y w' vS vC vE 1 0 → post 0 w') : wpY_begin post w := by
  obtain ⟨f_keys, f_baseKeys, f_keptKeys, f_open, f_changes, a_values, a_baseValues, a_keptValues⟩ := w
  obtain ⟨rfl, h1, h2, h3, h4, h5⟩ := hy
  exact br_t ho (H _ ⟨rfl, fun _ => rfl, fun _ => rfl, h3, h4, h5⟩)
theorem ls_beginY1 {post : Int32 → SY → Prop} {w : SY} (hy : ls_Y w vS vC vE op ch) (ho : op ≠ 0) (H : post (-2) w) : wpY_begin post w := by
  obtain ⟨f_keys, f_baseKeys, f_keptKeys, f_open, f_changes, a_values, a_baseValues, a_keptValues⟩ := w
  obtain ⟨rfl, _⟩ := hy
  exact br_f ho H
/-- a change has been made to the current state alone -/
theorem ls_change {v2 : Nat → Option Int32} (e : f_open = op) (h1 : op = 0 → ch = 0) (h2 : op ≠ 0 → f_changes = ch) (h3 : ls_y f_keys a_values v2) (h4 : ls_y f_baseKeys a_baseValues vC) (h5 : ls_y f_keptKeys a_keptValues vS)
    (H0 : op = 0 → ∀ w', ls_Y w' vS v2 v2 op ch → post w') (H1 : op ≠ 0 → ∀ w', ls_Y w' vS vC v2 op (ch + 1) → post w') : wpY_change post (f_keys, f_baseKeys, f_keptKeys, f_open, f_changes, a_values, a_baseValues, a_keptValues) := by
  subst e
  unfold wpY_change
  dsimp only
  refine br_c (fun ho => ls_settle (fun c hc => H0 ho _ ?_)) (fun ho => nm_e (H1 ho _ ?_))
  · exact ⟨rfl, h1, h2, h3, ls_y_cp h3 hc, h5⟩
  · exact ⟨rfl, fun z => absurd z ho, fun _ => by rw [h2 ho], h3, h4, h5⟩
theorem ls_keyY {post : Int32 → Prop} {w : SY} {k : Nat} (hk : k < 16) (h : post 1) : wpY_key post w (nI k) := by
  obtain ⟨f_keys, f_baseKeys, f_keptKeys, f_open, f_changes, a_values, a_baseValues, a_keptValues⟩ := w
  refine br_f (nI_pos (by omega)) (br_f ?_ h)
  show ¬ nI 15 < nI k
  exact nI_nlt (by omega) (by omega)
theorem ls_keyY0 {post : Int32 → Prop} {w : SY} {x : Int32} (hx : x < 0 ∨ 16 ≤ x) (h : post 0) : wpY_key post w x := by
  obtain ⟨f_keys, f_baseKeys, f_keptKeys, f_open, f_changes, a_values, a_baseValues, a_keptValues⟩ := w
  refine br_c (fun _ => h) (fun hn => br_t ?_ h)
  have h2 := hx.resolve_left hn
  exact Int32.lt_of_lt_of_le (by decide) h2
theorem ls_putY {post : Int32 → SY → Prop} {w : SY} {k : Nat} {x : Int32} (hy : ls_Y w vS vC vE op ch) (hk : k < 16)
    (H0 : op = 0 → ∀ w', ls_Y w' vS (ls_set vE k (some x)) (ls_set vE k (some x)) op ch → post 1 w') (H1 : op ≠ 0 → ∀ w', ls_Y w' vS vC (ls_set vE k (some x)) op (ch + 1) → post 1 w') : wpY_put post w (nI k) x := by
  obtain ⟨f_keys, f_baseKeys, f_keptKeys, f_open, f_changes, a_values, a_baseValues, a_keptValues⟩ := w
  obtain ⟨e, h1, h2, h3, h4, h5⟩ := hy
  unfold wpY_put
  dsimp only
  refine ls_keyY hk (br_f (by decide) (nm_e (And.intro (ls_in16 hk) ?_)))
  rw [ls_cl (show k < 97 by omega)]
  exact nm_e (ls_change e h1 h2 (ls_y_put h3 hk) h4 h5 H0 H1)
theorem ls_putY0 {post : Int32 → SY → Prop} {w : SY} {x y : Int32} (hx : x < 0 ∨ 16 ≤ x) (h : post 0 w) : wpY_put post w x y := by
  obtain ⟨f_keys, f_baseKeys, f_keptKeys, f_open, f_changes, a_values, a_baseValues, a_keptValues⟩ := w
  unfold wpY_put
  dsimp only
  exact ls_keyY0 hx (br_t rfl h)
theorem ls_hasY {post : Int32 → Prop} {w : SY} {k : Nat} (hy : ls_Y w vS vC vE op ch) (hk : k < 16) (h : post (ls_b01 (vE k).isSome)) : wpY_has post w (nI k) := by
  obtain ⟨f_keys, f_baseKeys, f_keptKeys, f_open, f_changes, a_values, a_baseValues, a_keptValues⟩ := w
  obtain ⟨e, h1, h2, h3, h4, h5⟩ := hy
  unfold wpY_has
  dsimp only
  refine ls_keyY hk (br_f (by decide) ?_)
  rw [ls_bit (by omega), ls_y_b h3 hk]
  exact ls_br1 (fun z => by rw [z] at h; exact h) (fun z => by rw [z] at h; exact h)
theorem ls_hasY0 {post : Int32 → Prop} {w : SY} {x : Int32} (hx : x < 0 ∨ 16 ≤ x) (h : post 0) : wpY_has post w x := by
  obtain ⟨f_keys, f_baseKeys, f_keptKeys, f_open, f_changes, a_values, a_baseValues, a_keptValues⟩ := w
  unfold wpY_has
  dsimp only
  exact ls_keyY0 hx (br_t rfl h)
theorem ls_removeY {post : Int32 → SY → Prop} {w : SY} {k : Nat} (hy : ls_Y w vS vC vE op ch) (hk : k < 16) (ht : (vE k).isSome = true)
    (H0 : op = 0 → ∀ w', ls_Y w' vS (ls_set vE k none) (ls_set vE k none) op ch → post 1 w') (H1 : op ≠ 0 → ∀ w', ls_Y w' vS vC (ls_set vE k none) op (ch + 1) → post 1 w') : wpY_remove post w (nI k) := by
  obtain ⟨f_keys, f_baseKeys, f_keptKeys, f_open, f_changes, a_values, a_baseValues, a_keptValues⟩ := w
  have hy2 := hy
  obtain ⟨e, h1, h2, h3, h4, h5⟩ := hy
  unfold wpY_remove
  dsimp only
  refine ls_hasY hy2 hk ?_
  rw [ht]
  exact br_f (by decide) (nm_e (ls_change e h1 h2 (ls_y_rem h3 hk) h4 h5 H0 H1))
theorem ls_removeY1 {post : Int32 → SY → Prop} {w : SY} {k : Nat} (hy : ls_Y w vS vC vE op ch) (hk : k < 16) (ht : (vE k).isSome = false) (h : post 0 w) : wpY_remove post w (nI k) := by
  obtain ⟨f_keys, f_baseKeys, f_keptKeys, f_open, f_changes, a_values, a_baseValues, a_keptValues⟩ := w
  unfold wpY_remove
  dsimp only
  refine ls_hasY hy hk ?_
  rw [ht]
  exact br_t rfl h
theorem ls_removeY0 {post : Int32 → SY → Prop} {w : SY} {x : Int32} (hx : x < 0 ∨ 16 ≤ x) (h : post 0 w) : wpY_remove post w x := by
  obtain ⟨f_keys, f_baseKeys, f_keptKeys, f_open, f_changes, a_values, a_baseValues, a_keptValues⟩ := w
  unfold wpY_remove
  dsimp only
  exact ls_hasY0 hx (br_t rfl h)
theorem ls_getY {post : Int32 → Prop} {w : SY} {k : Nat} (hy : ls_Y w vS vC vE op ch) (hk : k < 16) (h : post ((vE k).getD 0)) : wpY_get post w (nI k) := by
  obtain ⟨f_keys, f_baseKeys, f_keptKeys, f_open, f_changes, a_values, a_baseValues, a_keptValues⟩ := w
  have hy2 := hy
  obtain ⟨e, h1, h2, h3, h4, h5⟩ := hy
  unfold wpY_get
  dsimp only
  refine ls_hasY hy2 hk (ls_br (fun z => ?_) (fun z => And.intro (ls_in16 hk) ?_))
  · rw [← ls_y_b h3 hk] at z
    rw [ls_y_f h3 hk z] at h
    exact h
  · rw [← ls_y_b h3 hk] at z
    rw [ls_y_t h3 hk z] at h
    rw [ls_cl (show k < 97 by omega)]
    exact h
theorem ls_getY0 {post : Int32 → Prop} {w : SY} {x : Int32} (hx : x < 0 ∨ 16 ≤ x) (h : post 0) : wpY_get post w x := by
  obtain ⟨f_keys, f_baseKeys, f_keptKeys, f_open, f_changes, a_values, a_baseValues, a_keptValues⟩ := w
  unfold wpY_get
  dsimp only
  exact ls_hasY0 hx (br_t rfl h)
theorem ls_ny2 {post : Int32 → Prop} {x : Int32} {p : Nat} (h3 : ls_y f_keys a_values vE) (hp : ls_st x p) : ∀ d i : Nat, i + d = 16 → p ≤ i → post (ls_nx (fun j => (vE j).isSome) d i) → wY_next_2 post x f_keys f_baseKeys f_keptKeys f_open f_changes a_values a_baseValues a_keptValues (d + 1) (nI i) := by
  intro d
  induction d with
  | zero =>
    intro i hi hpi h
    have e : i = 16 := by omega
    exact br_t (ls_ge16 e) h
  | succ d ih =>
    intro i hi hpi h
    refine br_f (ls_lt16 (by omega)) (br_f (fun z => ?_) ?_)
    · have := (hp.2 i (by omega)).mp z
      omega
    · rw [ls_bit (by omega), ls_y_b h3 (by omega)]
      refine ls_br1 (fun z => ?_) (fun z => nm_r (nI_1 i) (ih (i + 1) (by omega) (by omega) ?_))
      · rw [ls_nx_t z] at h
        exact h
      · rw [ls_nx_f z] at h
        exact h
theorem ls_ny1 {post : Int32 → Prop} {x : Int32} {p : Nat} (h3 : ls_y f_keys a_values vE) (hp : ls_st x p) (h : post (ls_nx (fun j => (vE j).isSome) (16 - p) p)) : ∀ d i : Nat, i + d = 16 → i ≤ p → wY_next_2 post x f_keys f_baseKeys f_keptKeys f_open f_changes a_values a_baseValues a_keptValues (d + 1) (nI i) := by
  intro d
  induction d with
  | zero =>
    intro i hi hpi
    have e : i = 16 := by omega
    have e2 : p = 16 := by have := hp.1; omega
    subst e2
    exact br_t (ls_ge16 e) h
  | succ d ih =>
    intro i hi hpi
    by_cases c : i = p
    · subst c
      have e : d + 1 = 16 - i := by omega
      rw [e]
      exact ls_ny2 h3 hp (16 - i) i (by omega) (Nat.le_refl i) h
    · exact br_f (ls_lt16 (by omega)) (br_t ((hp.2 i (by omega)).mpr (by omega)) (nm_r (nI_1 i) (ih (i + 1) (by omega) (by omega))))
theorem ls_nextY {post : Int32 → Prop} {w : SY} {x : Int32} {p : Nat} (hy : ls_Y w vS vC vE op ch) (hp : ls_st x p) (h : post (ls_nx (fun j => (vE j).isSome) (16 - p) p)) : wpY_next post w x := by
  obtain ⟨f_keys, f_baseKeys, f_keptKeys, f_open, f_changes, a_values, a_baseValues, a_keptValues⟩ := w
  obtain ⟨e, h1, h2, h3, h4, h5⟩ := hy
  exact ⟨17, ls_ny1 h3 hp h 16 0 rfl (Nat.zero_le p)⟩
theorem ls_cy4 {post : Int32 → Prop} (h3 : ls_y f_keys a_values vE) (h : post (ls_cn (fun j => (vE j).isSome) 16)) : ∀ d k : Nat, k + d = 16 → wY_count_4 post f_keys f_baseKeys f_keptKeys f_open f_changes a_values a_baseValues a_keptValues (d + 1) (ls_cn (fun j => (vE j).isSome) k) (nI k) := by
  intro d
  induction d with
  | zero =>
    intro k hk
    have e : k = 16 := by omega
    subst e
    exact br_t (ls_ge16 rfl) h
  | succ d ih =>
    intro k hk
    refine br_f (ls_lt16 (by omega)) ?_
    rw [ls_bit (by omega), ls_y_b h3 (by omega)]
    exact nm_r (e' := ls_cn (fun j => (vE j).isSome) (k + 1)) rfl (nm_r (nI_1 k) (ih (k + 1) (by omega)))
theorem ls_countY {post : Int32 → Prop} {w : SY} (hy : ls_Y w vS vC vE op ch) (h : post (ls_cn (fun j => (vE j).isSome) 16)) : wpY_count post w := by
  obtain ⟨f_keys, f_baseKeys, f_keptKeys, f_open, f_changes, a_values, a_baseValues, a_keptValues⟩ := w
  obtain ⟨e, h1, h2, h3, h4, h5⟩ := hy
  exact ⟨17, ls_cy4 h3 h 16 0 rfl⟩
theorem ls_bs_y {K s : Int32} {a : Nat → Int32} {v : Nat → Option Int32} (h : ls_y K a v) (hs : ls_bs (fun j => (v j).isSome) 16 s) : K = s := by
  apply b_ext
  intro j hj
  rw [hs j hj]
  by_cases c : j < 16
  · rw [decide_eq_true c, Bool.true_and, ls_y_b h c]
  · rw [decide_eq_false c, Bool.false_and, h.1 j (by omega)]
theorem ls_safeKeysY {post : Int32 → Prop} {w : SY} {s : Int32} (hy : ls_Y w vS vC vE op ch) (hs : ls_bs (fun j => (vS j).isSome) 16 s) (h : post s) : wpY_safeKeys post w := by
  obtain ⟨f_keys, f_baseKeys, f_keptKeys, f_open, f_changes, a_values, a_baseValues, a_keptValues⟩ := w
  obtain ⟨e, h1, h2, h3, h4, h5⟩ := hy
  show post f_keptKeys
  rw [ls_bs_y h5 hs]
  exact h
theorem ls_safeValueY {post : Int32 → Prop} {w : SY} {k : Nat} (hy : ls_Y w vS vC vE op ch) (hk : k < 16) (h : post ((vS k).getD 0)) : wpY_safeValue post w (nI k) := by
  obtain ⟨f_keys, f_baseKeys, f_keptKeys, f_open, f_changes, a_values, a_baseValues, a_keptValues⟩ := w
  obtain ⟨e, h1, h2, h3, h4, h5⟩ := hy
  unfold wpY_safeValue
  dsimp only
  refine ls_keyY hk (br_f (by decide) ?_)
  rw [ls_bit (by omega), ls_cl (show k < 97 by omega)]
  refine ls_br1 (fun z => And.intro (ls_in16 hk) ?_) (fun z => ?_)
  · rw [ls_y_t h5 hk z] at h
    exact h
  · rw [ls_y_f h5 hk z] at h
    exact h
theorem ls_safeValueY0 {post : Int32 → Prop} {w : SY} {x : Int32} (hx : x < 0 ∨ 16 ≤ x) (h : post 0) : wpY_safeValue post w x := by
  obtain ⟨f_keys, f_baseKeys, f_keptKeys, f_open, f_changes, a_values, a_baseValues, a_keptValues⟩ := w
  unfold wpY_safeValue
  dsimp only
  exact ls_keyY0 hx (br_t rfl h)
/-- the reference's set of differing keys while it grows -/
def ls_ds (K L : Int32) (a b : Nat → Int32) (k : Nat) (s : Int32) : Prop := ∀ j, j < 32 → bt s j = ((bt K j ^^ bt L j) || (decide (j < k) && (bt K j && bt L j && !decide (a j = b j))))
theorem ls_ds_f {K L s : Int32} {a b : Nat → Int32} {k : Nat} (h : ls_ds K L a b k s) (hf : (bt K k && bt L k && !decide (a k = b k)) = false) : ls_ds K L a b (k + 1) s := by
  intro j hj
  rw [h j hj]
  by_cases e : j = k
  · rw [e, hf, Bool.and_false, Bool.and_false]
  · by_cases e2 : j < k
    · rw [decide_eq_true e2, decide_eq_true (show j < k + 1 by omega)]
    · rw [decide_eq_false e2, decide_eq_false (show ¬ j < k + 1 by omega)]
theorem ls_ds_t {K L s : Int32} {a b : Nat → Int32} {k : Nat} (h : ls_ds K L a b k s) (hk : k < 32) (ht : (bt K k && bt L k && !decide (a k = b k)) = true) : ls_ds K L a b (k + 1) (s ||| ((1 : Int32) <<< (nI k &&& 31))) := by
  intro j hj
  rw [ls_orb hk hj, h j hj]
  by_cases e : j = k
  · rw [e, ht, decide_eq_true (show k < k + 1 by omega), decide_eq_true (show k = k from rfl), Bool.or_true, Bool.true_and, Bool.or_true]
  · rw [decide_eq_false e, Bool.or_false]
    by_cases e2 : j < k
    · rw [decide_eq_true e2, decide_eq_true (show j < k + 1 by omega)]
    · rw [decide_eq_false e2, decide_eq_false (show ¬ j < k + 1 by omega)]
theorem ls_uy12 {post : Int32 → Prop} (h : ∀ s, ls_ds f_keys f_keptKeys a_values a_keptValues 16 s → post s) : ∀ d k : Nat, k + d = 16 → ∀ s, ls_ds f_keys f_keptKeys a_values a_keptValues k s → wY_unsafe_12 post f_keys f_baseKeys f_keptKeys f_open f_changes a_values a_baseValues a_keptValues (d + 1) s (nI k) := by
  intro d
  induction d with
  | zero =>
    intro k hk s hs
    have e : k = 16 := by omega
    subst e
    exact br_t (ls_ge16 rfl) (h s hs)
  | succ d ih =>
    intro k hk s hs
    have hk16 : k < 16 := by omega
    have ek : (nI k).toNatClampNeg = k := ls_cl (by omega)
    have skip : (bt f_keys k && bt f_keptKeys k && !decide (a_values k = a_keptValues k)) = false → wY_unsafe_12 post f_keys f_baseKeys f_keptKeys f_open f_changes a_values a_baseValues a_keptValues (d + 1) s (nI (k + 1)) := fun z => ih (k + 1) (by omega) s (ls_ds_f hs z)
    have j46 : (bt f_keys k && bt f_keptKeys k && !decide (a_values k = a_keptValues k)) = false → wY_unsafe_46 post (wY_unsafe_12 post f_keys f_baseKeys f_keptKeys f_open f_changes a_values a_baseValues a_keptValues (d + 1)) s (nI k) f_keys f_baseKeys f_keptKeys f_open f_changes a_values a_baseValues a_keptValues := fun z => br_t (show (0 : Int32) = 0 from rfl) (nm_r (nI_1 k) (skip z))
    refine br_f (ls_lt16 hk16) ?_
    rw [ls_bit (by omega), ls_bit (by omega)]
    refine ls_br1 (fun z1 => ls_br1 (fun z2 => ?_) (fun z2 => j46 (by rw [z2, Bool.and_false, Bool.false_and]))) (fun z1 => j46 (by rw [z1, Bool.false_and, Bool.false_and]))
    unfold wY_unsafe_47
    rw [ek]
    refine br_f (by decide) (And.intro (ls_in16 hk16) (And.intro (ls_in16 hk16) (br_c (fun c => nm_r (nI_1 k) (skip ?_)) (fun c => nm_e (nm_r (nI_1 k) (ih (k + 1) (by omega) _ (ls_ds_t hs (by omega) ?_)))))))
    · rw [decide_eq_true c, Bool.not_true, Bool.and_false]
    · rw [decide_eq_false c, z1, z2]
      rfl
theorem ls_ds_bs {K L s t : Int32} {a b : Nat → Int32} {v v' : Nat → Option Int32} (h : ls_y K a v) (h' : ls_y L b v') (hs : ls_ds K L a b 16 s) (ht : ls_bs (fun j => decide (¬ v j = v' j)) 16 t) : s = t := by
  apply b_ext
  intro j hj
  rw [hs j hj, ht j hj]
  by_cases c : j < 16
  · rw [decide_eq_true c, Bool.true_and, Bool.true_and]
    dsimp only
    cases z1 : bt K j with
    | false =>
      rw [ls_y_f h c z1]
      cases z2 : bt L j with
      | false => rw [ls_y_f h' c z2]; rfl
      | true => rw [ls_y_t h' c z2]; simp
    | true =>
      rw [ls_y_t h c z1]
      cases z2 : bt L j with
      | false => rw [ls_y_f h' c z2]; simp
      | true => rw [ls_y_t h' c z2]; simp
  · rw [decide_eq_false c, Bool.false_and, Bool.false_and, Bool.or_false, h.1 j (by omega), h'.1 j (by omega)]
    rfl
theorem ls_unsafeY {post : Int32 → Prop} {w : SY} {s : Int32} (hy : ls_Y w vS vC vE op ch) (hs : ls_bs (fun j => decide (¬ vE j = vS j)) 16 s) (h : post s) : wpY_unsafe post w := by
  obtain ⟨f_keys, f_baseKeys, f_keptKeys, f_open, f_changes, a_values, a_baseValues, a_keptValues⟩ := w
  obtain ⟨e, h1, h2, h3, h4, h5⟩ := hy
  unfold wpY_unsafe
  dsimp only
  refine nm_e ⟨17, ls_uy12 (fun t ht => ?_) 16 0 rfl _ (fun j hj => ?_)⟩
  · rw [ls_ds_bs h3 h5 ht hs]
    exact h
  · rw [b_xor, decide_eq_false (by omega), Bool.false_and, Bool.or_false]
theorem ls_pendingY {post : Int32 → Prop} {w : SY} (hy : ls_Y w vS vC vE op ch) (h : post ch) : wpY_pending post w := by
  obtain ⟨f_keys, f_baseKeys, f_keptKeys, f_open, f_changes, a_values, a_baseValues, a_keptValues⟩ := w
  obtain ⟨rfl, h1, h2, h3, h4, h5⟩ := hy
  refine br_c (fun ho => ?_) (fun ho => ?_)
  · rw [h1 ho] at h
    exact h
  · rw [← h2 ho] at h
    exact h
end LS7
end
section
/-- the relation: one abstract state of both -/
def i_Rel (k : Nat) (u : SX) (v : SY) : Prop := ∃ (vS vC vE : Nat → Option Int32) (op ch : Int32), ls_X 96 u vS vC vE op ch ∧ ls_Y v vS vC vE op ch
theorem i_up {k : Nat} {u : SX} {v : SY} (h : i_Rel k u v) : i_Rel (k + 3) u v := h
theorem i_vc0 : wpX_init (fun u => wpY_init (fun v => i_Rel 0 u v)) :=
  ls_initX (fun _ hu => ⟨_, _, _, _, _, hu, rfl, fun _ => rfl, fun z => absurd rfl z, ls_y_0, ls_y_0, ls_y_0⟩)
theorem i_vc_begin {k : Nat} {u : SX} {v : SY} (I : i_Rel k u v) (hk : k + 3 ≤ 1536) : wpX_begin (fun r u' => wpY_begin (fun r' v' => r' = r ∧ i_Rel (k + 3) u' v') v) u := by
  obtain ⟨vS, vC, vE, op, ch, hX, hY⟩ := I
  by_cases ho : op = 0
  · exact ls_beginX0 hX ho (fun u' hu => ls_beginY0 hY ho (fun v' hv => ⟨rfl, _, _, _, _, _, hu, hv⟩))
  · exact ls_beginX1 hX ho (ls_beginY1 hY ho ⟨rfl, _, _, _, _, _, hX, hY⟩)
theorem i_vc_put {k : Nat} {u : SX} {v : SY} (I : i_Rel k u v) (hk : k + 3 ≤ 1536) (v1 : Int32) (v2 : Int32) : wpX_put (fun r u' => wpY_put (fun r' v' => r' = r ∧ i_Rel (k + 3) u' v') v v1 v2) u v1 v2 := by
  obtain ⟨vS, vC, vE, op, ch, hX, hY⟩ := I
  rcases ls_keyc v1 with h | ⟨k, hk, rfl⟩
  · obtain ⟨f_end, f_safeEnd, f_open, f_openStart, f_openChanges, a_keyOf, a_removes, a_valueOf, a_earlier, a_latest, a_keptSafe, a_keptLater, a_keptOpen, a_newKey, a_newRemoves, a_newValue, a_newEarlier⟩ := u
    unfold wpX_put
    dsimp only
    exact ls_noKey h (br_t rfl (ls_putY0 h ⟨rfl, _, _, _, _, _, hX, hY⟩))
  · obtain ⟨f_end, f_safeEnd, f_open, f_openStart, f_openChanges, a_keyOf, a_removes, a_valueOf, a_earlier, a_latest, a_keptSafe, a_keptLater, a_keptOpen, a_newKey, a_newRemoves, a_newValue, a_newEarlier⟩ := u
    unfold wpX_put
    dsimp only
    refine ls_isKey hk (br_f (by decide) (ls_append hX hk (.inl rfl) (fun ho u' hu => ?_) (fun ho u' hu => ?_)))
    · obtain ⟨f_end, f_safeEnd, f_open, f_openStart, f_openChanges, a_keyOf, a_removes, a_valueOf, a_earlier, a_latest, a_keptSafe, a_keptLater, a_keptOpen, a_newKey, a_newRemoves, a_newValue, a_newEarlier⟩ := u'
      exact ls_putY hY hk (fun _ v' hv => ⟨rfl, _, _, _, _, _, hu, hv⟩) (fun z => absurd ho z)
    · obtain ⟨f_end, f_safeEnd, f_open, f_openStart, f_openChanges, a_keyOf, a_removes, a_valueOf, a_earlier, a_latest, a_keptSafe, a_keptLater, a_keptOpen, a_newKey, a_newRemoves, a_newValue, a_newEarlier⟩ := u'
      exact ls_putY hY hk (fun z => absurd z ho) (fun _ v' hv => ⟨rfl, _, _, _, _, _, hu, hv⟩)
theorem i_vc_remove {k : Nat} {u : SX} {v : SY} (I : i_Rel k u v) (hk : k + 3 ≤ 1536) (v1 : Int32) : wpX_remove (fun r u' => wpY_remove (fun r' v' => r' = r ∧ i_Rel (k + 3) u' v') v v1) u v1 := by
  obtain ⟨vS, vC, vE, op, ch, hX, hY⟩ := I
  rcases ls_keyc v1 with h | ⟨k, hk, rfl⟩
  · obtain ⟨f_end, f_safeEnd, f_open, f_openStart, f_openChanges, a_keyOf, a_removes, a_valueOf, a_earlier, a_latest, a_keptSafe, a_keptLater, a_keptOpen, a_newKey, a_newRemoves, a_newValue, a_newEarlier⟩ := u
    unfold wpX_remove
    dsimp only
    exact ls_hasX0 h (br_t rfl (ls_removeY0 h ⟨rfl, _, _, _, _, _, hX, hY⟩))
  · obtain ⟨f_end, f_safeEnd, f_open, f_openStart, f_openChanges, a_keyOf, a_removes, a_valueOf, a_earlier, a_latest, a_keptSafe, a_keptLater, a_keptOpen, a_newKey, a_newRemoves, a_newValue, a_newEarlier⟩ := u
    unfold wpX_remove
    dsimp only
    refine ls_hasX hX hk (ls_br (fun z => ls_removeY1 hY hk z ⟨rfl, _, _, _, _, _, hX, hY⟩) (fun z => ls_append hX hk (.inr rfl) (fun ho u' hu => ?_) (fun ho u' hu => ?_)))
    · obtain ⟨f_end, f_safeEnd, f_open, f_openStart, f_openChanges, a_keyOf, a_removes, a_valueOf, a_earlier, a_latest, a_keptSafe, a_keptLater, a_keptOpen, a_newKey, a_newRemoves, a_newValue, a_newEarlier⟩ := u'
      exact ls_removeY hY hk z (fun _ v' hv => ⟨rfl, _, _, _, _, _, hu, hv⟩) (fun z => absurd ho z)
    · obtain ⟨f_end, f_safeEnd, f_open, f_openStart, f_openChanges, a_keyOf, a_removes, a_valueOf, a_earlier, a_latest, a_keptSafe, a_keptLater, a_keptOpen, a_newKey, a_newRemoves, a_newValue, a_newEarlier⟩ := u'
      exact ls_removeY hY hk z (fun z => absurd z ho) (fun _ v' hv => ⟨rfl, _, _, _, _, _, hu, hv⟩)
theorem i_vc_commit {k : Nat} {u : SX} {v : SY} (I : i_Rel k u v) (hk : k + 3 ≤ 1536) : wpX_commit (fun r u' => wpY_commit (fun r' v' => r' = r ∧ i_Rel (k + 3) u' v') v) u := by
  obtain ⟨vS, vC, vE, op, ch, hX, hY⟩ := I
  by_cases ho : op = 0
  · exact ls_commitX0 hX ho (ls_commitY0 hY ho ⟨rfl, _, _, _, _, _, hX, hY⟩)
  · exact ls_commitX1 hX ho (fun u' hu => ls_commitY hY ho (fun v' hv => ⟨rfl, _, _, _, _, _, hu, hv⟩))
theorem i_vc_abort {k : Nat} {u : SX} {v : SY} (I : i_Rel k u v) (hk : k + 3 ≤ 1536) : wpX_abort (fun r u' => wpY_abort (fun r' v' => r' = r ∧ i_Rel (k + 3) u' v') v) u := by
  obtain ⟨vS, vC, vE, op, ch, hX, hY⟩ := I
  by_cases ho : op = 0
  · exact ls_abortX0 hX ho (ls_abortY0 hY ho ⟨rfl, _, _, _, _, _, hX, hY⟩)
  · exact ls_abortX hX ho (fun u' hu => ls_abortY hY ho (fun v' hv => ⟨rfl, _, _, _, _, _, hu, hv⟩))
theorem i_vc_sync {k : Nat} {u : SX} {v : SY} (I : i_Rel k u v) (hk : k + 3 ≤ 1536) : wpX_sync (fun u' => wpY_sync (fun v' => i_Rel (k + 3) u' v') v) u := by
  obtain ⟨vS, vC, vE, op, ch, hX, hY⟩ := I
  exact ls_syncX hX (fun u' hu => ls_syncY hY (fun v' hv => ⟨_, _, _, _, _, hu, hv⟩))
theorem i_vc_clean {k : Nat} {u : SX} {v : SY} (I : i_Rel k u v) (hk : k + 3 ≤ 1536) : wpX_clean (fun u' => wpY_clean (fun v' => i_Rel (k + 3) u' v') v) u := by
  obtain ⟨vS, vC, vE, op, ch, hX, hY⟩ := I
  refine ls_cleanX hX (fun u' hu => ?_)
  obtain ⟨f_keys, f_baseKeys, f_keptKeys, f_open, f_changes, a_values, a_baseValues, a_keptValues⟩ := v
  exact ⟨_, _, _, _, _, hu, hY⟩
theorem i_vc_crash {k : Nat} {u : SX} {v : SY} (I : i_Rel k u v) (hk : k + 3 ≤ 1536) : wpX_crash (fun u' => wpY_crash (fun v' => i_Rel (k + 3) u' v') v) u := by
  obtain ⟨vS, vC, vE, op, ch, hX, hY⟩ := I
  exact ls_crashX hX (fun u' hu => ls_crashY hY (fun v' hv => ⟨_, _, _, _, _, hu, hv⟩))
theorem i_vc_has {k : Nat} {u : SX} {v : SY} (I : i_Rel k u v) (hk : k + 3 ≤ 1536) (v1 : Int32) : wpX_has (fun r => wpY_has (fun r' => r' = r ∧ i_Rel (k + 3) u v) v v1) u v1 := by
  obtain ⟨vS, vC, vE, op, ch, hX, hY⟩ := I
  rcases ls_keyc v1 with h | ⟨k, hk, rfl⟩
  · exact ls_hasX0 h (ls_hasY0 h ⟨rfl, _, _, _, _, _, hX, hY⟩)
  · exact ls_hasX hX hk (ls_hasY hY hk ⟨rfl, _, _, _, _, _, hX, hY⟩)
theorem i_vc_get {k : Nat} {u : SX} {v : SY} (I : i_Rel k u v) (hk : k + 3 ≤ 1536) (v1 : Int32) : wpX_get (fun r => wpY_get (fun r' => r' = r ∧ i_Rel (k + 3) u v) v v1) u v1 := by
  obtain ⟨vS, vC, vE, op, ch, hX, hY⟩ := I
  rcases ls_keyc v1 with h | ⟨k, hk, rfl⟩
  · exact ls_getX0 h (ls_getY0 h ⟨rfl, _, _, _, _, _, hX, hY⟩)
  · exact ls_getX hX hk (ls_getY hY hk ⟨rfl, _, _, _, _, _, hX, hY⟩)
theorem i_vc_next {k : Nat} {u : SX} {v : SY} (I : i_Rel k u v) (hk : k + 3 ≤ 1536) (v1 : Int32) : wpX_next (fun r => wpY_next (fun r' => r' = r ∧ i_Rel (k + 3) u v) v v1) u v1 := by
  obtain ⟨vS, vC, vE, op, ch, hX, hY⟩ := I
  obtain ⟨p, hp⟩ := ls_st_ex v1
  exact ls_nextX hX hp (ls_nextY hY hp ⟨rfl, _, _, _, _, _, hX, hY⟩)
theorem i_vc_count {k : Nat} {u : SX} {v : SY} (I : i_Rel k u v) (hk : k + 3 ≤ 1536) : wpX_count (fun r => wpY_count (fun r' => r' = r ∧ i_Rel (k + 3) u v) v) u := by
  obtain ⟨vS, vC, vE, op, ch, hX, hY⟩ := I
  exact ls_countX hX (ls_countY hY ⟨rfl, _, _, _, _, _, hX, hY⟩)
theorem i_vc_safeKeys {k : Nat} {u : SX} {v : SY} (I : i_Rel k u v) (hk : k + 3 ≤ 1536) : wpX_safeKeys (fun r => wpY_safeKeys (fun r' => r' = r ∧ i_Rel (k + 3) u v) v) u := by
  obtain ⟨vS, vC, vE, op, ch, hX, hY⟩ := I
  exact ls_safeKeysX hX (fun s hs => ls_safeKeysY hY hs ⟨rfl, _, _, _, _, _, hX, hY⟩)
theorem i_vc_safeValue {k : Nat} {u : SX} {v : SY} (I : i_Rel k u v) (hk : k + 3 ≤ 1536) (v1 : Int32) : wpX_safeValue (fun r => wpY_safeValue (fun r' => r' = r ∧ i_Rel (k + 3) u v) v v1) u v1 := by
  obtain ⟨vS, vC, vE, op, ch, hX, hY⟩ := I
  rcases ls_keyc v1 with h | ⟨k, hk, rfl⟩
  · exact ls_safeValueX0 h (ls_safeValueY0 h ⟨rfl, _, _, _, _, _, hX, hY⟩)
  · exact ls_safeValueX hX hk (ls_safeValueY hY hk ⟨rfl, _, _, _, _, _, hX, hY⟩)
theorem i_vc_unsafe {k : Nat} {u : SX} {v : SY} (I : i_Rel k u v) (hk : k + 3 ≤ 1536) : wpX_unsafe (fun r => wpY_unsafe (fun r' => r' = r ∧ i_Rel (k + 3) u v) v) u := by
  obtain ⟨vS, vC, vE, op, ch, hX, hY⟩ := I
  exact ls_unsafeX hX (fun s hs => ls_unsafeY hY hs ⟨rfl, _, _, _, _, _, hX, hY⟩)
theorem i_vc_pending {k : Nat} {u : SX} {v : SY} (I : i_Rel k u v) (hk : k + 3 ≤ 1536) : wpX_pending (fun r => wpY_pending (fun r' => r' = r ∧ i_Rel (k + 3) u v) v) u := by
  obtain ⟨vS, vC, vE, op, ch, hX, hY⟩ := I
  exact ls_pendingX hX (ls_pendingY hY ⟨rfl, _, _, _, _, _, hX, hY⟩)
end
