section
/-! nI under the bit operations -/
theorem sm_and (a b : Nat) : nI a &&& nI b = nI (a &&& b) := by
  apply Int32.toBitVec_inj.1
  show BitVec.ofNat 32 a &&& BitVec.ofNat 32 b = BitVec.ofNat 32 (a &&& b)
  apply BitVec.eq_of_getLsbD_eq
  intro i hi
  simp [hi]
theorem sm_or (a b : Nat) : nI a ||| nI b = nI (a ||| b) := by
  apply Int32.toBitVec_inj.1
  show BitVec.ofNat 32 a ||| BitVec.ofNat 32 b = BitVec.ofNat 32 (a ||| b)
  apply BitVec.eq_of_getLsbD_eq
  intro i hi
  simp [hi]
theorem sm_xor (a b : Nat) : nI a ^^^ nI b = nI (a ^^^ b) := by
  apply Int32.toBitVec_inj.1
  show BitVec.ofNat 32 a ^^^ BitVec.ofNat 32 b = BitVec.ofNat 32 (a ^^^ b)
  apply BitVec.eq_of_getLsbD_eq
  intro i hi
  simp [hi]
theorem sm_m1 : (-1 : Int32) = nI 4294967295 := by decide +kernel
theorem sm_not (x y : Nat) : nI x &&& (nI y ^^^ (-1)) = nI (x &&& (y ^^^ 4294967295)) := by
  rw [sm_m1, sm_xor, sm_and]
/-- v is 0 as an int -/
def sm_z (v : Nat) : Bool := Nat.beq (v % 4294967296) 0
theorem sm_z0 (v : Nat) : nI v = 0 ↔ sm_z v = true := by
  unfold sm_z
  rw [Nat.beq_eq]
  constructor
  · intro h
    have h2 : (nI v).toBitVec.toNat = (0 : Int32).toBitVec.toNat := by rw [h]
    have h3 : (BitVec.ofNat 32 v).toNat = 0 := h2
    rw [BitVec.toNat_ofNat] at h3
    exact h3
  · intro h
    apply Int32.toBitVec_inj.1
    show BitVec.ofNat 32 v = 0#32
    apply BitVec.eq_of_toNat_eq
    rw [BitVec.toNat_ofNat]
    exact h
theorem sm_zt {v : Nat} (h : nI v = 0) : sm_z v = true := (sm_z0 v).mp h
theorem sm_zf {v : Nat} (h : ¬ nI v = 0) : sm_z v = false := by
  cases e : sm_z v with
  | false => rfl
  | true => exact absurd ((sm_z0 v).mpr e) h
/-- bit k of s -/
def sm_t (s k : Nat) : Bool := Nat.beq ((s >>> k) &&& 1) 1
theorem sm_sl : ∀ n, n < 32 → ((nI n &&& 31).toBitVec.smod 32).toNat = n := by decide +kernel
theorem sm_bv (s : Nat) {k : Nat} (hk : k < 32) : (nI s >>> (nI k &&& 31)) &&& 1 = nI ((s >>> k) &&& 1) := by
  apply Int32.toBitVec_inj.1
  rw [Int32.toBitVec_and, Int32.toBitVec_shiftRight]
  show ((BitVec.ofNat 32 s).sshiftRight ((nI k &&& 31).toBitVec.smod 32).toNat) &&& 1#32 = BitVec.ofNat 32 ((s >>> k) &&& 1)
  rw [sm_sl k hk]
  apply BitVec.eq_of_getLsbD_eq
  intro i hi
  cases i with
  | zero =>
    rw [BitVec.getLsbD_and, BitVec.getLsbD_sshiftRight, BitVec.getLsbD_ofNat, BitVec.getLsbD_ofNat, BitVec.getLsbD_ofNat, Nat.testBit_and, Nat.testBit_shiftRight]
    simp [hk]
  | succ i => simp [BitVec.getLsbD_ofNat, Nat.testBit_and, Nat.testBit_succ]
theorem sm_and1 (x : Nat) : x &&& 1 = 0 ∨ x &&& 1 = 1 := by
  rw [Nat.and_one_is_mod]
  omega
theorem sm_bitE (s : Nat) {k : Nat} (hk : k < 32) : ((nI s >>> (nI k &&& 31)) &&& 1) = 0 ↔ sm_t s k = false := by
  rw [sm_bv s hk]
  unfold sm_t
  rcases sm_and1 (s >>> k) with h | h
  · rw [h]
    exact ⟨fun _ => rfl, fun _ => rfl⟩
  · rw [h]
    exact ⟨fun z => absurd z (by decide +kernel), fun z => absurd z (by decide)⟩
theorem sm_t0 {s k : Nat} (hk : k < 32) (h : ((nI s >>> (nI k &&& 31)) &&& 1) = 0) : sm_t s k = false := (sm_bitE s hk).mp h
theorem sm_t1 {s k : Nat} (hk : k < 32) (h : ¬ ((nI s >>> (nI k &&& 31)) &&& 1) = 0) : sm_t s k = true := by
  cases e : sm_t s k with
  | true => rfl
  | false => exact absurd ((sm_bitE s hk).mpr e) h
theorem sm_shl : ∀ k, k < 32 → (1 : Int32) <<< (nI k &&& 31) = nI (1 <<< k) := by decide +kernel
theorem sm_by : ∀ v, v < 128 → (nI v).toInt8.toInt32 = nI v := by decide +kernel
/-- a boolean as an int -/
def sm_b (b : Bool) : Int32 := cond b 1 0
theorem sm_b0 {b : Bool} (h : sm_b b = 0) : b = false := by
  cases b with
  | false => rfl
  | true => exact absurd h (by decide)
theorem sm_b1 {b : Bool} (h : ¬ sm_b b = 0) : b = true := by
  cases b with
  | false => exact absurd rfl h
  | true => rfl
theorem sm_nb (b : Bool) : narrow .boolean (.int (sm_b b)) = .int (sm_b b) ∧ fits .boolean (.int (sm_b b)) = true := by
  cases b <;> exact ⟨rfl, rfl⟩
theorem sm_bo0 (b : Bool) : sm_b b ||| 0 = sm_b b := by
  cases b <;> decide
theorem sm_bo1 (b : Bool) : sm_b b ||| 1 = sm_b true := by
  cases b <;> decide
/-! longs -/
theorem sm_lor (a b : Nat) : lN a ||| lN b = lN (a ||| b) := by
  apply Int64.toBitVec_inj.1
  show BitVec.ofNat 64 a ||| BitVec.ofNat 64 b = BitVec.ofNat 64 (a ||| b)
  apply BitVec.eq_of_getLsbD_eq
  intro i hi
  simp [hi]
theorem sm_lsh : ∀ k, k < 64 → (1 : Int64) <<< ((nI k).toInt64 &&& 63) = lN (1 <<< k) := by decide +kernel
theorem sm_lcu : ∀ k, k < 64 → ((nI k).toInt64.toUInt64 &&& Int64.toUInt64 63).toNat = k := by decide +kernel
theorem sm_lts {w : Int64} {s : UInt64} {j : Nat} (hj : j < 64) (hs : s.toNat = j) : ((w.toUInt64 >>> s).toInt64 &&& 1) = 0 ↔ w.toBitVec.getLsbD j = false := by
  have e : (w.toUInt64 >>> s).toInt64.toBitVec = w.toBitVec >>> j := by
    apply BitVec.eq_of_toNat_eq
    show (w.toUInt64 >>> s).toNat = _
    rw [UInt64.toNat_shiftRight, hs, Nat.mod_eq_of_lt hj, BitVec.toNat_ushiftRight]
    rfl
  rw [← Int64.toBitVec_inj, Int64.toBitVec_and, e]
  show w.toBitVec >>> j &&& 1#64 = 0#64 ↔ _
  constructor
  · intro h
    have t := congrArg (fun x => x.getLsbD 0) h
    simpa using t
  · intro h
    apply BitVec.eq_of_getLsbD_eq
    intro i hi
    cases i with
    | zero => simp [h]
    | succ i => simp
theorem sm_lbit (m : Nat) {k : Nat} (hk : k < 64) : ((((lN m).toUInt64 >>> ((nI k).toInt64.toUInt64 &&& Int64.toUInt64 63)).toInt64) &&& 1) = 0 ↔ sm_t m k = false := by
  rw [sm_lts hk (sm_lcu k hk)]
  show (BitVec.ofNat 64 m).getLsbD k = false ↔ _
  rw [BitVec.getLsbD_ofNat]
  unfold sm_t
  have e : m.testBit k = Nat.beq ((m >>> k) &&& 1) 1 := by
    unfold Nat.testBit
    rw [Nat.and_comm]
    rcases sm_and1 (m >>> k) with h | h
    · rw [h]
      rfl
    · rw [h]
      rfl
  rw [e]
  simp [hk]
end
section
/-! the pure machine: (in, out, broken, moved) -/
abbrev sm_P : Type := Nat × Nat × Bool × Bool
/-- putIn x -/
def sm_pI (x : Nat) (s : sm_P) : sm_P :=
  cond (sm_z (x &&& (s.1 ^^^ 4294967295)))
    (s.1, s.2.1, s.2.2.1 || !(sm_z (s.1 &&& s.2.1)), s.2.2.2)
    (s.1 ||| x, s.2.1, s.2.2.1 || !(sm_z ((s.1 ||| x) &&& s.2.1)), true)
/-- putOut x -/
def sm_pO (x : Nat) (s : sm_P) : sm_P :=
  cond (sm_z (x &&& (s.2.1 ^^^ 4294967295)))
    (s.1, s.2.1, s.2.2.1 || !(sm_z (s.1 &&& s.2.1)), s.2.2.2)
    (s.1, s.2.1 ||| x, s.2.2.1 || !(sm_z (s.1 &&& (s.2.1 ||| x))), true)
/-- ones -/
def sm_on (v : Nat) : Nat := ((((((0 + ((v >>> 0) &&& 1)) + ((v >>> 1) &&& 1)) + ((v >>> 2) &&& 1)) + ((v >>> 3) &&& 1)) + ((v >>> 4) &&& 1)) + ((v >>> 5) &&& 1))
/-- forward, a rule of head h and negative set n -/
def sm_fw (h n : Nat) (s : sm_P) : sm_P :=
  cond (sm_z (n &&& (s.2.1 ^^^ 4294967295))) (sm_pI (1 <<< h) s)
    (cond (sm_t s.2.1 h)
      (cond (sm_z (n &&& s.1))
        (cond (Nat.beq (sm_on (n &&& (s.2.1 ^^^ 4294967295))) 1)
          (sm_pI (n &&& (s.2.1 ^^^ 4294967295)) (sm_pO 0 s)) s) s) s)
/-- backward, atom a -/
def sm_bw (h0 n0 h1 n1 a : Nat) (s : sm_P) : sm_P :=
  cond (sm_t s.1 a)
    (cond (Nat.beq h0 a && sm_z (n0 &&& s.1))
      (cond (Nat.beq h1 a && sm_z (n1 &&& s.1)) s (sm_pO n0 (sm_pI 0 s)))
      (cond (Nat.beq h1 a && sm_z (n1 &&& s.1)) (sm_pO n1 (sm_pI 0 s)) (s.1, s.2.1, true, s.2.2.2)))
    s
/-- what one rule founds -/
def sm_f1 (h n : Nat) (s : sm_P) : Nat := cond (sm_z (n &&& s.1) && !(sm_t s.2.1 h)) (1 <<< h) 0
def sm_fo (h0 n0 h1 n1 : Nat) (s : sm_P) : Nat := sm_f1 h0 n0 s ||| sm_f1 h1 n1 s
/-- all atoms backward -/
def sm_ba (h0 n0 h1 n1 : Nat) (s : sm_P) : sm_P :=
  sm_bw h0 n0 h1 n1 5 (sm_bw h0 n0 h1 n1 4 (sm_bw h0 n0 h1 n1 3 (sm_bw h0 n0 h1 n1 2 (sm_bw h0 n0 h1 n1 1 (sm_bw h0 n0 h1 n1 0 s)))))
/-- the floating ones out -/
def sm_fl (h0 n0 h1 n1 : Nat) (s : sm_P) : sm_P := sm_pO (63 &&& (sm_fo h0 n0 h1 n1 s ^^^ 4294967295)) s
/-- one round of conclude -/
def sm_rd (h0 n0 h1 n1 : Nat) (s : sm_P) : sm_P := sm_fl h0 n0 h1 n1 (sm_ba h0 n0 h1 n1 (sm_fw h1 n1 (sm_fw h0 n0 s)))
def sm_cl (h0 n0 h1 n1 : Nat) : Nat → sm_P → sm_P
  | 0, s => s
  | n + 1, s => cond s.2.2.2 (cond s.2.2.1 s (sm_cl h0 n0 h1 n1 n (sm_rd h0 n0 h1 n1 (s.1, s.2.1, s.2.2.1, false)))) s
/-- conclude -/
def sm_co (h0 n0 h1 n1 : Nat) (s : sm_P) : sm_P := sm_cl h0 n0 h1 n1 14 (s.1, s.2.1, s.2.2.1, true)
/-- the first open atom, n tries from k on -/
def sm_fa (v : Nat) : Nat → Nat → Nat
  | 0, _ => 99
  | n + 1, k => cond (sm_t v k) (sm_fa v n (k + 1)) k
/-- a level: in, out, atom, turn -/
abbrev sm_L : Type := Nat × Nat × Nat × Nat
def sm_pop : List sm_L → List sm_L
  | [] => []
  | l :: r => cond (Nat.beq l.2.2.2 2) (sm_pop r) (l :: r)
/-- where a level goes on -/
def sm_nx (l : sm_L) : sm_P := cond (Nat.beq l.2.2.2 0) (l.1, l.2.1 ||| (1 <<< l.2.2.1), false, true) (l.1 ||| (1 <<< l.2.2.1), l.2.1, false, true)
/-- search: n rounds at most, the levels (top first), the state, the models so far -/
def sm_se (h0 n0 h1 n1 : Nat) : Nat → List sm_L → sm_P → Nat → Option Nat
  | 0, _, _, _ => none
  | n + 1, st, s, m =>
    cond (Nat.blt s.1 64 && Nat.blt s.2.1 64)
      (cond s.2.2.1
        (match sm_pop st with
          | [] => some m
          | l :: r => sm_se h0 n0 h1 n1 n ((l.1, l.2.1, l.2.2.1, l.2.2.2 + 1) :: r) (sm_co h0 n0 h1 n1 (sm_nx l)) m)
        (cond (Nat.beq (s.1 ||| s.2.1) 63)
          (match sm_pop st with
            | [] => some (m ||| (1 <<< s.1))
            | l :: r => sm_se h0 n0 h1 n1 n ((l.1, l.2.1, l.2.2.1, l.2.2.2 + 1) :: r) (sm_co h0 n0 h1 n1 (sm_nx l)) (m ||| (1 <<< s.1)))
          (cond (Nat.blt st.length 8 && Nat.blt (sm_fa (s.1 ||| s.2.1) 6 0) 6)
            (sm_se h0 n0 h1 n1 n ((s.1, s.2.1, sm_fa (s.1 ||| s.2.1) 6 0, 1) :: st) (sm_co h0 n0 h1 n1 (sm_nx (s.1, s.2.1, sm_fa (s.1 ||| s.2.1) 6 0, 0))) m)
            none)))
      none
/-- the search of a fresh object -/
def sm_all (h0 n0 h1 n1 : Nat) : Option Nat := sm_se h0 n0 h1 n1 12 [] (sm_co h0 n0 h1 n1 (0, 0, false, true)) 0
/-! the answers out of the model set -/
def sm_ct (m : Nat) : Nat → Nat → Nat → Nat
  | 0, _, c => c
  | n + 1, k, c => sm_ct m n (k + 1) (c + cond (sm_t m k) 1 0)
def sm_fi (m : Nat) : Nat → Nat → Nat
  | 0, _ => 99
  | n + 1, k => cond (sm_t m k) k (sm_fi m n (k + 1))
def sm_br (m : Nat) : Nat → Nat → Nat → Nat
  | 0, _, c => c
  | n + 1, k, c => sm_br m n (k + 1) (c ||| cond (sm_t m k) k 0)
/-- the models that are due -/
def sm_du (a b c d : Nat) : Nat :=
  cond (Nat.beq a b)
    (cond (Nat.beq c a && !(Nat.beq c d)) (1 <<< (1 <<< a)) 0)
    (cond (Nat.beq c d)
      (cond (Nat.beq a c) (1 <<< (1 <<< a)) 0)
      (cond (Nat.beq b c)
        (cond (Nat.beq a d) ((1 <<< (1 <<< a)) ||| (1 <<< (1 <<< c))) (1 <<< (1 <<< c)))
        (cond (Nat.beq a d) (1 <<< (1 <<< a)) (1 <<< ((1 <<< a) ||| (1 <<< c))))))
def sm_row (a b c d : Nat) : Bool :=
  match sm_all a (1 <<< b) c (1 <<< d) with
  | none => false
  | some m => Nat.beq m (sm_du a b c d)
end
section
/-! the table: every pair of rules -/
def sm_rowA (a : Nat) : Bool := (List.range 6).all (fun b => (List.range 6).all (fun c => (List.range 6).all (fun d => sm_row a b c d)))
theorem sm_tabA : (List.range 6).all sm_rowA = true := by decide +kernel
theorem sm_tab {a b c d : Nat} (ha : a < 6) (hb : b < 6) (hc : c < 6) (hd : d < 6) : sm_all a (1 <<< b) c (1 <<< d) = some (sm_du a b c d) := by
  have h1 := List.all_eq_true.mp sm_tabA a (List.mem_range.mpr ha)
  have h2 := List.all_eq_true.mp h1 b (List.mem_range.mpr hb)
  have h3 := List.all_eq_true.mp h2 c (List.mem_range.mpr hc)
  have h4 := List.all_eq_true.mp h3 d (List.mem_range.mpr hd)
  unfold sm_row at h4
  cases e : sm_all a (1 <<< b) c (1 <<< d) with
  | none => rw [e] at h4; exact absurd (show false = true from h4) (by decide)
  | some m =>
    rw [e] at h4
    rw [Nat.eq_of_beq_eq_true h4]
/-- what the answers are of one model x -/
def sm_one (x : Nat) : Bool := Nat.beq (sm_ct (1 <<< x) 64 0 0) 1 && (Nat.beq (sm_fi (1 <<< x) 64 0) x && Nat.beq (sm_br (1 <<< x) 64 0 0) x)
/-- and of two -/
def sm_two (x y : Nat) : Bool := Nat.beq (sm_ct ((1 <<< x) ||| (1 <<< y)) 64 0 0) 2 && (Nat.beq (sm_fi ((1 <<< x) ||| (1 <<< y)) 64 0) (cond (Nat.ble y x) y x) && Nat.beq (sm_br ((1 <<< x) ||| (1 <<< y)) 64 0 0) (x ||| y))
theorem sm_ct0 : sm_ct 0 64 0 0 = 0 := by decide +kernel
theorem sm_oneA : (List.range 64).all sm_one = true := by decide +kernel
theorem sm_twoA : (List.range 6).all (fun a => (List.range 6).all (fun c => Nat.beq a c || sm_two (1 <<< a) (1 <<< c))) = true := by decide +kernel
theorem sm_oneE {x : Nat} (hx : x < 64) : sm_ct (1 <<< x) 64 0 0 = 1 ∧ sm_fi (1 <<< x) 64 0 = x ∧ sm_br (1 <<< x) 64 0 0 = x := by
  have h := List.all_eq_true.mp sm_oneA x (List.mem_range.mpr hx)
  unfold sm_one at h
  rw [Bool.and_eq_true, Bool.and_eq_true] at h
  exact ⟨Nat.eq_of_beq_eq_true h.1, Nat.eq_of_beq_eq_true h.2.1, Nat.eq_of_beq_eq_true h.2.2⟩
theorem sm_twoE {a c : Nat} (ha : a < 6) (hc : c < 6) (n : a ≠ c) :
    sm_ct ((1 <<< (1 <<< a)) ||| (1 <<< (1 <<< c))) 64 0 0 = 2 ∧ sm_fi ((1 <<< (1 <<< a)) ||| (1 <<< (1 <<< c))) 64 0 = cond (Nat.ble (1 <<< c) (1 <<< a)) (1 <<< c) (1 <<< a)
      ∧ sm_br ((1 <<< (1 <<< a)) ||| (1 <<< (1 <<< c))) 64 0 0 = (1 <<< a) ||| (1 <<< c) := by
  have h := List.all_eq_true.mp (List.all_eq_true.mp sm_twoA a (List.mem_range.mpr ha)) c (List.mem_range.mpr hc)
  rw [Bool.or_eq_true] at h
  rcases h with h | h
  · exact absurd (Nat.eq_of_beq_eq_true h) n
  · unfold sm_two at h
    rw [Bool.and_eq_true, Bool.and_eq_true] at h
    exact ⟨Nat.eq_of_beq_eq_true h.1, Nat.eq_of_beq_eq_true h.2.1, Nat.eq_of_beq_eq_true h.2.2⟩
end
section
/-! putIn, putOut, has, bodyFails, bodyHolds, ones -/
section
variable {post : St2 → Prop} {kn : Int32} {ms : Int64} {a1 a2 a3 a4 a5 a6 a7 a8 : Nat → Int32}
theorem sm_I26 {i o : Nat} {b : Bool} {mv : Int32}
    (hp : post (3, nI i, nI o, sm_b (b || !(sm_z (i &&& o))), mv, kn, ms, a1, a2, a3, a4, a5, a6, a7, a8)) :
    wX_putIn_26 post 3 (nI i) (nI o) (sm_b b) mv kn ms a1 a2 a3 a4 a5 a6 a7 a8 := by
  unfold wX_putIn_26
  rw [sm_and]
  refine br_c (fun h => nm_r (sm_bo0 b) ⟨(sm_nb b).1, (sm_nb b).2, ?_⟩) (fun h => nm_r (sm_bo1 b) ⟨(sm_nb true).1, (sm_nb true).2, ?_⟩)
  · rw [sm_zt h, Bool.not_true, Bool.or_false] at hp
    exact hp
  · rw [sm_zf h, Bool.not_false, Bool.or_true] at hp
    exact hp
theorem sm_O26 {i o : Nat} {b : Bool} {mv : Int32}
    (hp : post (3, nI i, nI o, sm_b (b || !(sm_z (i &&& o))), mv, kn, ms, a1, a2, a3, a4, a5, a6, a7, a8)) :
    wX_putOut_26 post 3 (nI i) (nI o) (sm_b b) mv kn ms a1 a2 a3 a4 a5 a6 a7 a8 := by
  unfold wX_putOut_26
  rw [sm_and]
  refine br_c (fun h => nm_r (sm_bo0 b) ⟨(sm_nb b).1, (sm_nb b).2, ?_⟩) (fun h => nm_r (sm_bo1 b) ⟨(sm_nb true).1, (sm_nb true).2, ?_⟩)
  · rw [sm_zt h, Bool.not_true, Bool.or_false] at hp
    exact hp
  · rw [sm_zf h, Bool.not_false, Bool.or_true] at hp
    exact hp
theorem sm_putIn (x : Nat) (s : sm_P) (hp : post (3, nI (sm_pI x s).1, nI (sm_pI x s).2.1, sm_b (sm_pI x s).2.2.1, sm_b (sm_pI x s).2.2.2, kn, ms, a1, a2, a3, a4, a5, a6, a7, a8)) : wpX_putIn post (3, nI s.1, nI s.2.1, sm_b s.2.2.1, sm_b s.2.2.2, kn, ms, a1, a2, a3, a4, a5, a6, a7, a8) (nI x) := by
  unfold wpX_putIn
  dsimp only
  rw [sm_not]
  refine br_c (fun h => ?_) (fun h => nm_r (sm_or _ _) ?_)
  · unfold sm_pI at hp
    rw [sm_zt h] at hp
    exact sm_I26 hp
  · unfold sm_pI at hp
    rw [sm_zf h] at hp
    exact sm_I26 hp
theorem sm_putOut (x : Nat) (s : sm_P) (hp : post (3, nI (sm_pO x s).1, nI (sm_pO x s).2.1, sm_b (sm_pO x s).2.2.1, sm_b (sm_pO x s).2.2.2, kn, ms, a1, a2, a3, a4, a5, a6, a7, a8)) : wpX_putOut post (3, nI s.1, nI s.2.1, sm_b s.2.2.1, sm_b s.2.2.2, kn, ms, a1, a2, a3, a4, a5, a6, a7, a8) (nI x) := by
  unfold wpX_putOut
  dsimp only
  rw [sm_not]
  refine br_c (fun h => ?_) (fun h => nm_r (sm_or _ _) ?_)
  · unfold sm_pO at hp
    rw [sm_zt h] at hp
    exact sm_O26 hp
  · unfold sm_pO at hp
    rw [sm_zf h] at hp
    exact sm_O26 hp
end
section
variable {post : Int32 → Prop} {i o b m kn : Int32} {ms : Int64} {a1 a2 a3 a4 a5 a6 a7 a8 : Nat → Int32}
theorem sm_h1 : ∀ k, k < 2 → ¬ (((3 : Int32) >>> (nI k &&& 31)) &&& 1) = 0 := by decide +kernel
theorem sm_h0 : ∀ k, k < 10 → 2 ≤ k → (((3 : Int32) >>> (nI k &&& 31)) &&& 1) = 0 := by decide +kernel
theorem sm_has1 (k : Nat) (hk : k < 2) (hp : post 1) : wpX_has post (3, i, o, b, m, kn, ms, a1, a2, a3, a4, a5, a6, a7, a8) (nI k) := by
  unfold wpX_has
  dsimp only
  exact pk_lt k 0 (fun z => absurd z (by omega)) (fun _ => pk_le 10 k (fun z => absurd z (by omega)) (fun _ => br_f (sm_h1 k hk) hp))
theorem sm_has0 (k : Nat) (hk : k < 10) (h2 : 2 ≤ k) (hp : post 0) : wpX_has post (3, i, o, b, m, kn, ms, a1, a2, a3, a4, a5, a6, a7, a8) (nI k) := by
  unfold wpX_has
  dsimp only
  exact pk_lt k 0 (fun z => absurd z (by omega)) (fun _ => pk_le 10 k (fun z => absurd z (by omega)) (fun _ => br_t (sm_h0 k hk h2) hp))
end
section
variable {post : Int32 → Prop} {kn : Int32} {ms : Int64} {a1 a2 a3 a4 a5 a6 a7 a8 : Nat → Int32}
theorem sm_fails (r n : Nat) (s : sm_P) (hr : r < 2) (h3 : a3 r = nI 0) (h4 : a4 r = nI n) (hp : post (sm_b (!(sm_z (n &&& s.1))))) : wpX_bodyFails post (3, nI s.1, nI s.2.1, sm_b s.2.2.1, sm_b s.2.2.2, kn, ms, a1, a2, a3, a4, a5, a6, a7, a8) (nI r) := by
  unfold wpX_bodyFails
  dsimp only
  rw [nI_clamp (show r < 2 ^ 31 by omega), h3, h4, sm_and, sm_and, Nat.zero_and]
  refine ⟨pk_in r 10 (by omega), br_t rfl ⟨pk_in r 10 (by omega), br_c (fun h => ?_) (fun h => ?_)⟩⟩
  · rw [sm_zt h] at hp
    exact hp
  · rw [sm_zf h] at hp
    exact hp
theorem sm_holds (r n : Nat) (s : sm_P) (hr : r < 2) (h3 : a3 r = nI 0) (h4 : a4 r = nI n) (hp : post (sm_b (sm_z (n &&& (s.2.1 ^^^ 4294967295))))) : wpX_bodyHolds post (3, nI s.1, nI s.2.1, sm_b s.2.2.1, sm_b s.2.2.2, kn, ms, a1, a2, a3, a4, a5, a6, a7, a8) (nI r) := by
  unfold wpX_bodyHolds
  dsimp only
  rw [nI_clamp (show r < 2 ^ 31 by omega), h3, h4, sm_not, sm_not, Nat.zero_and]
  refine ⟨pk_in r 10 (by omega), br_t rfl ⟨pk_in r 10 (by omega), br_c (fun h => ?_) (fun h => ?_)⟩⟩
  · rw [sm_zt h] at hp
    exact hp
  · rw [sm_zf h] at hp
    exact hp
theorem sm_onesS (v n c k : Nat) (hk : k < 6) (h : wX_ones_4 post (nI v) n (nI (c + ((v >>> k) &&& 1))) (nI (k + 1))) : wX_ones_4 post (nI v) (n + 1) (nI c) (nI k) := by
  refine pk_le 6 k (fun z => absurd z (by omega)) (fun _ => nm_r ?_ (nm_r (nI_1 k) h))
  rw [sm_bv v (by omega), nI_add]
theorem sm_ones (v : Nat) (u : St0) (hp : post (nI (sm_on v))) : wpX_ones post u (nI v) := by
  refine ⟨7, sm_onesS v 6 0 0 (by omega) (sm_onesS v 5 _ 1 (by omega) (sm_onesS v 4 _ 2 (by omega) (sm_onesS v 3 _ 3 (by omega) (sm_onesS v 2 _ 4 (by omega) (sm_onesS v 1 _ 5 (by omega) ?_)))))⟩
  exact pk_le 6 6 (fun _ => hp) (fun z => absurd z (by omega))
end
theorem sm_onB (v : Nat) : sm_on v ≤ 6 := by
  unfold sm_on
  have h0 := sm_and1 (v >>> 0)
  have h1 := sm_and1 (v >>> 1)
  have h2 := sm_and1 (v >>> 2)
  have h3 := sm_and1 (v >>> 3)
  have h4 := sm_and1 (v >>> 4)
  have h5 := sm_and1 (v >>> 5)
  omega
theorem sm_beqT {a b : Nat} (h : a = b) : Nat.beq a b = true := by rw [Nat.beq_eq]; exact h
theorem sm_beqF {a b : Nat} (h : a ≠ b) : Nat.beq a b = false := by
  cases e : Nat.beq a b with
  | false => rfl
  | true => exact absurd (Nat.eq_of_beq_eq_true e) h
theorem sm_on1 {v : Nat} (g : nI (sm_on v) = 1) : Nat.beq (sm_on v) 1 = true := by
  have hb := sm_onB v
  have g' : nI (sm_on v) = nI 1 := g
  exact sm_beqT ((nI_eq (by omega) (by omega)).mp g')
theorem sm_onF {v : Nat} (g : ¬ nI (sm_on v) = 1) : Nat.beq (sm_on v) 1 = false :=
  sm_beqF (fun e => g (by rw [e]; rfl))
end
section
/-! forward, backward, founded -/
section
variable {post : St2 → Prop} {kn : Int32} {ms : Int64} {a1 a2 a3 a4 a5 a6 a7 a8 : Nat → Int32}
/-- rule r: kind plain, head h, no positive body, negative body n -/
def sm_R (r h n : Nat) (a1 a2 a3 a4 : Nat → Int32) : Prop := r < 2 ∧ h < 32 ∧ a1 r = nI 0 ∧ a2 r = nI h ∧ a3 r = nI 0 ∧ a4 r = nI n
theorem sm_F29 {r h n : Nat} (s : sm_P) (R : sm_R r h n a1 a2 a3 a4) (hp : post (3, nI s.1, nI s.2.1, sm_b s.2.2.1, sm_b s.2.2.2, kn, ms, a1, a2, a3, a4, a5, a6, a7, a8)) : wX_forward_29 post (nI r) 3 (nI s.1) (nI s.2.1) (sm_b s.2.2.1) (sm_b s.2.2.2) kn ms a1 a2 a3 a4 a5 a6 a7 a8 := by
  obtain ⟨hr, hh, e1, e2, e3, e4⟩ := R
  unfold wX_forward_29
  rw [nI_clamp (show r < 2 ^ 31 by omega), e1]
  exact ⟨pk_in r 10 (by omega), br_f (by decide) (nm_r (sm_bo0 _) ⟨(sm_nb _).1, (sm_nb _).2, hp⟩)⟩
theorem sm_F93 {r h n : Nat} (s : sm_P) (R : sm_R r h n a1 a2 a3 a4) (hp : post (3, nI s.1, nI s.2.1, sm_b s.2.2.1, sm_b s.2.2.2, kn, ms, a1, a2, a3, a4, a5, a6, a7, a8)) : wX_forward_93 post (nI r) 3 (nI s.1) (nI s.2.1) (sm_b s.2.2.1) (sm_b s.2.2.2) kn ms a1 a2 a3 a4 a5 a6 a7 a8 := by
  obtain ⟨hr, hh, e1, e2, e3, e4⟩ := R
  unfold wX_forward_93 wX_forward_94
  exact ⟨pk_in r 10 (by omega), nm_e ⟨pk_in r 10 (by omega), nm_e (br_t rfl hp)⟩⟩
theorem sm_F89 {r h n : Nat} (s : sm_P) (R : sm_R r h n a1 a2 a3 a4)
    (hp : post (3, nI (cond (sm_z (n &&& s.1)) (cond (Nat.beq (sm_on (n &&& (s.2.1 ^^^ 4294967295))) 1) (sm_pI (n &&& (s.2.1 ^^^ 4294967295)) (sm_pO 0 s)) s) s).1, nI (cond (sm_z (n &&& s.1)) (cond (Nat.beq (sm_on (n &&& (s.2.1 ^^^ 4294967295))) 1) (sm_pI (n &&& (s.2.1 ^^^ 4294967295)) (sm_pO 0 s)) s) s).2.1, sm_b (cond (sm_z (n &&& s.1)) (cond (Nat.beq (sm_on (n &&& (s.2.1 ^^^ 4294967295))) 1) (sm_pI (n &&& (s.2.1 ^^^ 4294967295)) (sm_pO 0 s)) s) s).2.2.1, sm_b (cond (sm_z (n &&& s.1)) (cond (Nat.beq (sm_on (n &&& (s.2.1 ^^^ 4294967295))) 1) (sm_pI (n &&& (s.2.1 ^^^ 4294967295)) (sm_pO 0 s)) s) s).2.2.2, kn, ms, a1, a2, a3, a4, a5, a6, a7, a8)) :
    wX_forward_89 post (nI r) 3 (nI s.1) (nI s.2.1) (sm_b s.2.2.1) (sm_b s.2.2.2) kn ms a1 a2 a3 a4 a5 a6 a7 a8 := by
  obtain ⟨hr, hh, e1, e2, e3, e4⟩ := R
  unfold wX_forward_89 wX_forward_94
  refine ⟨pk_in r 10 (by omega), nm_r (e' := nI 0) ?_ ⟨pk_in r 10 (by omega), nm_r (e' := nI (n &&& (s.2.1 ^^^ 4294967295))) ?_ (br_f (by decide) ?_)⟩⟩
  · rw [nI_clamp (show r < 2 ^ 31 by omega), e3, sm_not, Nat.zero_and]
  · rw [nI_clamp (show r < 2 ^ 31 by omega), e4, sm_not]
  · refine sm_fails r n s hr e3 e4 (br_c (fun h => ?_) (fun h => ?_))
    · have hz := sm_b0 h
      rw [Bool.not_eq_false'] at hz
      rw [hz] at hp
      refine sm_ones 0 () (sm_ones _ () ?_)
      rw [show nI (sm_on 0) = nI 0 from rfl, nI_add, Nat.zero_add]
      refine br_c (fun g => ?_) (fun g => ?_)
      · have hb : Nat.beq (sm_on (n &&& (s.2.1 ^^^ 4294967295))) 1 = true := sm_on1 g
        rw [hb] at hp
        exact sm_putOut 0 s (sm_putIn _ _ hp)
      · have hb : Nat.beq (sm_on (n &&& (s.2.1 ^^^ 4294967295))) 1 = false := sm_onF g
        rw [hb] at hp
        exact hp
    · have hz := sm_b1 h
      rw [Bool.not_eq_true'] at hz
      rw [hz] at hp
      exact hp
theorem sm_forward {r h n : Nat} (s : sm_P) (R : sm_R r h n a1 a2 a3 a4) (hp : post (3, nI (sm_fw h n s).1, nI (sm_fw h n s).2.1, sm_b (sm_fw h n s).2.2.1, sm_b (sm_fw h n s).2.2.2, kn, ms, a1, a2, a3, a4, a5, a6, a7, a8)) : wpX_forward post (3, nI s.1, nI s.2.1, sm_b s.2.2.1, sm_b s.2.2.2, kn, ms, a1, a2, a3, a4, a5, a6, a7, a8) (nI r) := by
  have R' := R
  obtain ⟨hr, hh, e1, e2, e3, e4⟩ := R
  unfold wpX_forward
  dsimp only
  rw [nI_clamp (show r < 2 ^ 31 by omega), e1, e2]
  unfold sm_fw at hp
  refine sm_holds r n s hr e3 e4 (br_c (fun h1 => ⟨pk_in r 10 (by omega), br_f (by decide) ⟨pk_in r 10 (by omega), br_t rfl ⟨pk_in r 10 (by omega), ?_⟩⟩⟩) (fun h1 => ⟨pk_in r 10 (by omega), br_t rfl ⟨pk_in r 10 (by omega), ?_⟩⟩))
  · rw [sm_b0 h1] at hp
    refine br_c (fun g => ?_) (fun g => ?_)
    · rw [sm_t0 hh g] at hp
      exact sm_F93 s R' hp
    · rw [sm_t1 hh g] at hp
      exact sm_F89 s R' hp
  · rw [sm_b1 h1] at hp
    rw [sm_shl h hh]
    exact sm_putIn _ s (sm_F29 _ R' hp)
end
end
section
/-! backward -/
section
variable {post : St2 → Prop} {kn : Int32} {ms : Int64} {a1 a2 a3 a4 a5 a6 a7 a8 : Nat → Int32}
/-- rules from 2 on are not there -/
theorem sm_B19t {x1 x2 x3 : Int32} (s : sm_P) (H : ∀ n, wX_backward_19 post x1 3 (nI s.1) (nI s.2.1) (sm_b s.2.2.1) (sm_b s.2.2.2) kn ms a1 a2 a3 a4 a5 a6 a7 a8 (n + 1) x2 x3 (nI 10)) :
    ∀ f k, 2 ≤ k → k ≤ 10 → 10 - k < f → wX_backward_19 post x1 3 (nI s.1) (nI s.2.1) (sm_b s.2.2.1) (sm_b s.2.2.2) kn ms a1 a2 a3 a4 a5 a6 a7 a8 f x2 x3 (nI k) := by
  intro f
  induction f with
  | zero => intro k _ _ h; exact absurd h (by omega)
  | succ f ih =>
    intro k h2 hk hf
    rcases Nat.lt_or_ge k 10 with h | h
    · exact pk_le 10 k (fun z => absurd z (by omega)) (fun _ => sm_has0 k h h2 (br_t rfl (nm_r (nI_1 k) (ih (k + 1) (by omega) (by omega) (by omega)))))
    · have e : k = 10 := by omega
      rw [e]
      exact H f
/-- one rule: it counts, or it doesn't -/
theorem sm_B19s {a r h n f : Nat} {x2 x3 : Int32} (s : sm_P) (R : sm_R r h n a1 a2 a3 a4) (ha : a < 32)
    (h1 : (Nat.beq h a && sm_z (n &&& s.1)) = true → wX_backward_19 post (nI a) 3 (nI s.1) (nI s.2.1) (sm_b s.2.2.1) (sm_b s.2.2.2) kn ms a1 a2 a3 a4 a5 a6 a7 a8 f (nI r) (x3 + 1) (nI (r + 1)))
    (h0 : (Nat.beq h a && sm_z (n &&& s.1)) = false → wX_backward_19 post (nI a) 3 (nI s.1) (nI s.2.1) (sm_b s.2.2.1) (sm_b s.2.2.2) kn ms a1 a2 a3 a4 a5 a6 a7 a8 f x2 x3 (nI (r + 1))) :
    wX_backward_19 post (nI a) 3 (nI s.1) (nI s.2.1) (sm_b s.2.2.1) (sm_b s.2.2.2) kn ms a1 a2 a3 a4 a5 a6 a7 a8 (f + 1) x2 x3 (nI r) := by
  obtain ⟨hr, hh, e1, e2, e3, e4⟩ := R
  refine pk_le 10 r (fun z => absurd z (by omega)) (fun _ => sm_has1 r hr (br_f (by decide) ⟨pk_in r 10 (by omega), ?_⟩))
  rw [nI_clamp (show r < 2 ^ 31 by omega), e1, e2]
  refine br_f (by decide) ⟨pk_in r 10 (by omega), pk_eq h a (fun z => ?_) (fun z => nm_r (nI_1 r) (h0 (by rw [sm_beqF z]; rfl)))⟩
  refine sm_fails r n s hr e3 e4 (br_c (fun g => nm_e (nm_r (nI_1 r) (h1 ?_))) (fun g => nm_r (nI_1 r) (h0 ?_)))
  · have hz := sm_b0 g
    rw [Bool.not_eq_false'] at hz
    rw [hz, sm_beqT z]
    rfl
  · have hz := sm_b1 g
    rw [Bool.not_eq_true'] at hz
    rw [hz, Bool.and_false]
/-- no rule left -/
theorem sm_B19e0 {a f : Nat} {x2 : Int32} (s : sm_P) (hp : post (3, nI ((s.1, s.2.1, true, s.2.2.2)).1, nI ((s.1, s.2.1, true, s.2.2.2)).2.1, sm_b ((s.1, s.2.1, true, s.2.2.2)).2.2.1, sm_b ((s.1, s.2.1, true, s.2.2.2)).2.2.2, kn, ms, a1, a2, a3, a4, a5, a6, a7, a8)) :
    wX_backward_19 post (nI a) 3 (nI s.1) (nI s.2.1) (sm_b s.2.2.1) (sm_b s.2.2.2) kn ms a1 a2 a3 a4 a5 a6 a7 a8 (f + 1) x2 0 (nI 10) :=
  pk_le 10 10 (fun _ => br_t rfl hp) (fun z => absurd z (by omega))
/-- one rule left -/
theorem sm_B19e1 {a r h n f : Nat} (s : sm_P) (R : sm_R r h n a1 a2 a3 a4) (hp : post (3, nI (sm_pO n (sm_pI 0 s)).1, nI (sm_pO n (sm_pI 0 s)).2.1, sm_b (sm_pO n (sm_pI 0 s)).2.2.1, sm_b (sm_pO n (sm_pI 0 s)).2.2.2, kn, ms, a1, a2, a3, a4, a5, a6, a7, a8)) :
    wX_backward_19 post (nI a) 3 (nI s.1) (nI s.2.1) (sm_b s.2.2.1) (sm_b s.2.2.2) kn ms a1 a2 a3 a4 a5 a6 a7 a8 (f + 1) (nI r) (nI 1) (nI 10) := by
  obtain ⟨hr, hh, e1, e2, e3, e4⟩ := R
  refine pk_le 10 10 (fun _ => br_f (by decide) (br_t rfl ⟨pk_in r 10 (by omega), ?_⟩)) (fun z => absurd z (by omega))
  rw [nI_clamp (show r < 2 ^ 31 by omega), e3]
  refine sm_putIn 0 s ⟨pk_in r 10 (by omega), ?_⟩
  rw [e4]
  exact sm_putOut n _ hp
/-- two rules left -/
theorem sm_B19e2 {a f : Nat} {x2 : Int32} (s : sm_P) (hp : post (3, nI s.1, nI s.2.1, sm_b s.2.2.1, sm_b s.2.2.2, kn, ms, a1, a2, a3, a4, a5, a6, a7, a8)) :
    wX_backward_19 post (nI a) 3 (nI s.1) (nI s.2.1) (sm_b s.2.2.1) (sm_b s.2.2.2) kn ms a1 a2 a3 a4 a5 a6 a7 a8 (f + 1) x2 (nI 2) (nI 10) :=
  pk_le 10 10 (fun _ => br_f (by decide) (br_f (by decide) hp)) (fun z => absurd z (by omega))
theorem sm_backward {h0 n0 h1 n1 a : Nat} (s : sm_P) (R0 : sm_R 0 h0 n0 a1 a2 a3 a4) (R1 : sm_R 1 h1 n1 a1 a2 a3 a4) (ha : a < 32)
    (hp : post (3, nI (sm_bw h0 n0 h1 n1 a s).1, nI (sm_bw h0 n0 h1 n1 a s).2.1, sm_b (sm_bw h0 n0 h1 n1 a s).2.2.1, sm_b (sm_bw h0 n0 h1 n1 a s).2.2.2, kn, ms, a1, a2, a3, a4, a5, a6, a7, a8)) : wpX_backward post (3, nI s.1, nI s.2.1, sm_b s.2.2.1, sm_b s.2.2.2, kn, ms, a1, a2, a3, a4, a5, a6, a7, a8) (nI a) := by
  unfold wpX_backward
  dsimp only
  unfold sm_bw at hp
  refine br_c (fun g => ?_) (fun g => ⟨11, sm_B19s (r := 0) s R0 ha (fun q0 => sm_B19s (r := 1) s R1 ha (fun q1 => ?_) (fun q1 => ?_)) (fun q0 => sm_B19s (r := 1) s R1 ha (fun q1 => ?_) (fun q1 => ?_))⟩)
  · rw [sm_t0 ha g] at hp
    exact hp
  · rw [sm_t1 ha g, q0, q1] at hp
    exact sm_B19t s (fun n => sm_B19e2 s hp) 9 2 (by omega) (by omega) (by omega)
  · rw [sm_t1 ha g, q0, q1] at hp
    exact sm_B19t s (fun n => sm_B19e1 s R0 hp) 9 2 (by omega) (by omega) (by omega)
  · rw [sm_t1 ha g, q0, q1] at hp
    exact sm_B19t s (fun n => sm_B19e1 s R1 hp) 9 2 (by omega) (by omega) (by omega)
  · rw [sm_t1 ha g, q0, q1] at hp
    exact sm_B19t s (fun n => sm_B19e0 s hp) 9 2 (by omega) (by omega) (by omega)
end
end
section
/-! founded -/
section
variable {post : Int32 → Prop} {kn : Int32} {ms : Int64} {a1 a2 a3 a4 a5 a6 a7 a8 : Nat → Int32}
theorem sm_G64 {J4 J12 : Int32 → Int32 → Prop} {x1 x2 : Int32} {k : Nat} (s : sm_P) (h : J12 x1 (nI (k + 1))) :
    wX_founded_64 post J4 J12 x1 x2 (nI k) 3 (nI s.1) (nI s.2.1) (sm_b s.2.2.1) (sm_b s.2.2.2) kn ms a1 a2 a3 a4 a5 a6 a7 a8 := by
  unfold wX_founded_64 wX_founded_65
  exact br_t rfl (nm_r (nI_1 k) h)
theorem sm_G12t {J4 : Int32 → Int32 → Prop} {k2 : Nat} {x : Int32} (s : sm_P) (H : J4 x (nI (k2 + 1))) :
    ∀ f k, 2 ≤ k → k ≤ 10 → 10 - k < f → wX_founded_12 post J4 (nI k2) 3 (nI s.1) (nI s.2.1) (sm_b s.2.2.1) (sm_b s.2.2.2) kn ms a1 a2 a3 a4 a5 a6 a7 a8 f x (nI k) := by
  intro f
  induction f with
  | zero => intro k _ _ h; exact absurd h (by omega)
  | succ f ih =>
    intro k h2 hk hf
    rcases Nat.lt_or_ge k 10 with h | h
    · exact pk_le 10 k (fun z => absurd z (by omega)) (fun _ => sm_has0 k h h2 (br_t rfl (sm_G64 s (ih (k + 1) (by omega) (by omega) (by omega)))))
    · have e : k = 10 := by omega
      rw [e]
      exact pk_le 10 10 (fun _ => nm_r (nI_1 k2) H) (fun z => absurd z (by omega))
theorem sm_G12s {J4 : Int32 → Int32 → Prop} {x2 : Int32} {r h n f x : Nat} (s : sm_P) (R : sm_R r h n a1 a2 a3 a4)
    (H : wX_founded_12 post J4 x2 3 (nI s.1) (nI s.2.1) (sm_b s.2.2.1) (sm_b s.2.2.2) kn ms a1 a2 a3 a4 a5 a6 a7 a8 f (nI (x ||| sm_f1 h n s)) (nI (r + 1))) :
    wX_founded_12 post J4 x2 3 (nI s.1) (nI s.2.1) (sm_b s.2.2.1) (sm_b s.2.2.2) kn ms a1 a2 a3 a4 a5 a6 a7 a8 (f + 1) (nI x) (nI r) := by
  obtain ⟨hr, hh, e1, e2, e3, e4⟩ := R
  unfold sm_f1 at H
  refine pk_le 10 r (fun z => absurd z (by omega)) (fun _ => sm_has1 r hr (br_f (by decide) ⟨pk_in r 10 (by omega), ?_⟩))
  rw [nI_clamp (show r < 2 ^ 31 by omega), e1, e2]
  refine br_f (by decide) (sm_fails r n s hr e3 e4 (br_c (fun g => ⟨pk_in r 10 (by omega), br_c (fun t => ?_) (fun t => ?_)⟩) (fun g => ?_)))
  · have hz := sm_b0 g
    rw [Bool.not_eq_false'] at hz
    rw [hz, sm_t0 hh t] at H
    unfold wX_founded_65
    rw [nI_clamp (show r < 2 ^ 31 by omega), e2, e3, sm_not, Nat.zero_and]
    refine br_f (by decide) ⟨pk_in r 10 (by omega), br_t rfl ⟨pk_in r 10 (by omega), nm_r (e' := nI (x ||| 1 <<< h)) ?_ (nm_r (nI_1 r) H)⟩⟩
    rw [sm_shl h hh, sm_or]
  · have hz := sm_b0 g
    rw [Bool.not_eq_false'] at hz
    rw [hz, sm_t1 hh t, show (cond (true && !true) (1 <<< h) 0) = 0 from rfl, Nat.or_zero] at H
    exact sm_G64 s H
  · have hz := sm_b1 g
    rw [Bool.not_eq_true'] at hz
    rw [hz, Bool.false_and, cond_false, Nat.or_zero] at H
    exact sm_G64 s H
theorem sm_G4 {h0 n0 h1 n1 : Nat} (s : sm_P) (R0 : sm_R 0 h0 n0 a1 a2 a3 a4) (R1 : sm_R 1 h1 n1 a1 a2 a3 a4)
    (hp : post (nI (sm_fo h0 n0 h1 n1 s))) :
    ∀ f k x, k ≤ 6 → 6 - k < f → x ||| sm_fo h0 n0 h1 n1 s = sm_fo h0 n0 h1 n1 s → (k = 6 → x = sm_fo h0 n0 h1 n1 s) → wX_founded_4 post 3 (nI s.1) (nI s.2.1) (sm_b s.2.2.1) (sm_b s.2.2.2) kn ms a1 a2 a3 a4 a5 a6 a7 a8 f (nI x) (nI k) := by
  intro f
  induction f with
  | zero => intro k x _ h; exact absurd h (by omega)
  | succ f ih =>
    intro k x hk hf hx h6
    rcases Nat.lt_or_ge k 6 with h | h
    · have t : wX_founded_4 post 3 (nI s.1) (nI s.2.1) (sm_b s.2.2.1) (sm_b s.2.2.2) kn ms a1 a2 a3 a4 a5 a6 a7 a8 f (nI ((x ||| sm_f1 h0 n0 s) ||| sm_f1 h1 n1 s)) (nI (k + 1)) := by
        rw [Nat.or_assoc]
        show wX_founded_4 post 3 (nI s.1) (nI s.2.1) (sm_b s.2.2.1) (sm_b s.2.2.2) kn ms a1 a2 a3 a4 a5 a6 a7 a8 f (nI (x ||| sm_fo h0 n0 h1 n1 s)) (nI (k + 1))
        rw [hx]
        exact ih (k + 1) _ (by omega) (by omega) (Nat.or_self _) (fun _ => rfl)
      exact pk_le 6 k (fun z => absurd z (by omega)) (fun _ => ⟨11, sm_G12s (r := 0) s R0 (sm_G12s (r := 1) s R1 (sm_G12t s t 9 2 (by omega) (by omega) (by omega)))⟩)
    · have e : k = 6 := by omega
      rw [e, h6 e]
      exact pk_le 6 6 (fun _ => hp) (fun z => absurd z (by omega))
theorem sm_founded {h0 n0 h1 n1 : Nat} (s : sm_P) (R0 : sm_R 0 h0 n0 a1 a2 a3 a4) (R1 : sm_R 1 h1 n1 a1 a2 a3 a4)
    (hp : post (nI (sm_fo h0 n0 h1 n1 s))) : wpX_founded post (3, nI s.1, nI s.2.1, sm_b s.2.2.1, sm_b s.2.2.2, kn, ms, a1, a2, a3, a4, a5, a6, a7, a8) :=
  ⟨7, sm_G4 s R0 R1 hp 7 0 0 (by omega) (by omega) (Nat.zero_or _) (fun z => absurd z (by omega))⟩
end
end
section
/-! conclude -/
section
variable {post : St2 → Prop} {kn : Int32} {ms : Int64} {a1 a2 a3 a4 a5 a6 a7 a8 : Nat → Int32}
variable {J7 : Int32 → Int32 → Int32 → Int32 → Int32 → Int32 → Int32 → Int64 → (Nat → Int32) → (Nat → Int32) → (Nat → Int32) → (Nat → Int32) → (Nat → Int32) → (Nat → Int32) → (Nat → Int32) → (Nat → Int32) → Prop}
variable {h0 n0 h1 n1 : Nat}
theorem sm_C61s {x1 : Int32} {n a : Nat} (ha : a < 6) (s : sm_P) (R0 : sm_R 0 h0 n0 a1 a2 a3 a4) (R1 : sm_R 1 h1 n1 a1 a2 a3 a4)
    (h : wX_conclude_61 post J7 x1 n (nI (a + 1)) 3 (nI (sm_bw h0 n0 h1 n1 a s).1) (nI (sm_bw h0 n0 h1 n1 a s).2.1) (sm_b (sm_bw h0 n0 h1 n1 a s).2.2.1) (sm_b (sm_bw h0 n0 h1 n1 a s).2.2.2) kn ms a1 a2 a3 a4 a5 a6 a7 a8) : wX_conclude_61 post J7 x1 (n + 1) (nI a) 3 (nI s.1) (nI s.2.1) (sm_b s.2.2.1) (sm_b s.2.2.2) kn ms a1 a2 a3 a4 a5 a6 a7 a8 :=
  pk_le 6 a (fun z => absurd z (by omega)) (fun _ => sm_backward s R0 R1 (by omega) (nm_r (nI_1 a) h))
theorem sm_C61e {k n : Nat} (s : sm_P) (R0 : sm_R 0 h0 n0 a1 a2 a3 a4) (R1 : sm_R 1 h1 n1 a1 a2 a3 a4)
    (h : J7 (nI (k + 1)) 3 (nI (sm_fl h0 n0 h1 n1 s).1) (nI (sm_fl h0 n0 h1 n1 s).2.1) (sm_b (sm_fl h0 n0 h1 n1 s).2.2.1) (sm_b (sm_fl h0 n0 h1 n1 s).2.2.2) kn ms a1 a2 a3 a4 a5 a6 a7 a8) : wX_conclude_61 post J7 (nI k) (n + 1) (nI 6) 3 (nI s.1) (nI s.2.1) (sm_b s.2.2.1) (sm_b s.2.2.2) kn ms a1 a2 a3 a4 a5 a6 a7 a8 :=
  pk_le 6 6 (fun _ => sm_founded s R0 R1 (nm_r (sm_not 63 _) (sm_putOut _ s (nm_r (nI_1 k) h)))) (fun z => absurd z (by omega))
theorem sm_C61 {k : Nat} (s : sm_P) (R0 : sm_R 0 h0 n0 a1 a2 a3 a4) (R1 : sm_R 1 h1 n1 a1 a2 a3 a4)
    (h : J7 (nI (k + 1)) 3 (nI (sm_fl h0 n0 h1 n1 (sm_ba h0 n0 h1 n1 s)).1) (nI (sm_fl h0 n0 h1 n1 (sm_ba h0 n0 h1 n1 s)).2.1) (sm_b (sm_fl h0 n0 h1 n1 (sm_ba h0 n0 h1 n1 s)).2.2.1) (sm_b (sm_fl h0 n0 h1 n1 (sm_ba h0 n0 h1 n1 s)).2.2.2) kn ms a1 a2 a3 a4 a5 a6 a7 a8) : ∃ fu, wX_conclude_61 post J7 (nI k) fu 0 3 (nI s.1) (nI s.2.1) (sm_b s.2.2.1) (sm_b s.2.2.2) kn ms a1 a2 a3 a4 a5 a6 a7 a8 :=
  ⟨7, sm_C61s (a := 0) (by omega) s R0 R1 (sm_C61s (a := 1) (by omega) _ R0 R1 (sm_C61s (a := 2) (by omega) _ R0 R1 (sm_C61s (a := 3) (by omega) _ R0 R1 (sm_C61s (a := 4) (by omega) _ R0 R1 (sm_C61s (a := 5) (by omega) _ R0 R1 (sm_C61e _ R0 R1 h))))))⟩
theorem sm_C34t {x1 : Int32} (s : sm_P) (H : ∃ fu, wX_conclude_61 post J7 x1 fu 0 3 (nI s.1) (nI s.2.1) (sm_b s.2.2.1) (sm_b s.2.2.2) kn ms a1 a2 a3 a4 a5 a6 a7 a8) :
    ∀ f k, 2 ≤ k → k ≤ 10 → 10 - k < f → wX_conclude_34 post J7 x1 f (nI k) 3 (nI s.1) (nI s.2.1) (sm_b s.2.2.1) (sm_b s.2.2.2) kn ms a1 a2 a3 a4 a5 a6 a7 a8 := by
  intro f
  induction f with
  | zero => intro k _ _ h; exact absurd h (by omega)
  | succ f ih =>
    intro k h2 hk hf
    rcases Nat.lt_or_ge k 10 with h | h
    · exact pk_le 10 k (fun z => absurd z (by omega)) (fun _ => sm_has0 k h h2 (br_t rfl (nm_r (nI_1 k) (ih (k + 1) (by omega) (by omega) (by omega)))))
    · have e : k = 10 := by omega
      rw [e]
      exact pk_le 10 10 (fun _ => H) (fun z => absurd z (by omega))
theorem sm_C34s {x1 : Int32} {r h n f : Nat} (s : sm_P) (R : sm_R r h n a1 a2 a3 a4)
    (H : wX_conclude_34 post J7 x1 f (nI (r + 1)) 3 (nI (sm_fw h n s).1) (nI (sm_fw h n s).2.1) (sm_b (sm_fw h n s).2.2.1) (sm_b (sm_fw h n s).2.2.2) kn ms a1 a2 a3 a4 a5 a6 a7 a8) : wX_conclude_34 post J7 x1 (f + 1) (nI r) 3 (nI s.1) (nI s.2.1) (sm_b s.2.2.1) (sm_b s.2.2.2) kn ms a1 a2 a3 a4 a5 a6 a7 a8 :=
  pk_le 10 r (fun z => absurd z (by have := R.1; omega)) (fun _ => sm_has1 r R.1 (br_f (by decide) (sm_forward s R (nm_r (nI_1 r) H)))) (hb := by have := R.1; omega)
theorem sm_C34 {k : Nat} (s : sm_P) (R0 : sm_R 0 h0 n0 a1 a2 a3 a4) (R1 : sm_R 1 h1 n1 a1 a2 a3 a4)
    (h : J7 (nI (k + 1)) 3 (nI (sm_rd h0 n0 h1 n1 s).1) (nI (sm_rd h0 n0 h1 n1 s).2.1) (sm_b (sm_rd h0 n0 h1 n1 s).2.2.1) (sm_b (sm_rd h0 n0 h1 n1 s).2.2.2) kn ms a1 a2 a3 a4 a5 a6 a7 a8) : ∃ fu, wX_conclude_34 post J7 (nI k) fu 0 3 (nI s.1) (nI s.2.1) (sm_b s.2.2.1) (sm_b s.2.2.2) kn ms a1 a2 a3 a4 a5 a6 a7 a8 :=
  ⟨11, sm_C34s (r := 0) s R0 (sm_C34s (r := 1) _ R1 (sm_C34t _ (sm_C61 _ R0 R1 h) 9 2 (by omega) (by omega) (by omega)))⟩
theorem sm_C7 (R0 : sm_R 0 h0 n0 a1 a2 a3 a4) (R1 : sm_R 1 h1 n1 a1 a2 a3 a4) :
    ∀ n (s : sm_P), n ≤ 14 → post (3, nI (sm_cl h0 n0 h1 n1 n s).1, nI (sm_cl h0 n0 h1 n1 n s).2.1, sm_b (sm_cl h0 n0 h1 n1 n s).2.2.1, sm_b (sm_cl h0 n0 h1 n1 n s).2.2.2, kn, ms, a1, a2, a3, a4, a5, a6, a7, a8) → wX_conclude_7 post (n + 1) (nI (14 - n)) 3 (nI s.1) (nI s.2.1) (sm_b s.2.2.1) (sm_b s.2.2.2) kn ms a1 a2 a3 a4 a5 a6 a7 a8 := by
  intro n
  induction n with
  | zero => intro s _ hp; exact pk_le 14 14 (fun _ => hp) (fun z => absurd z (by omega))
  | succ n ih =>
    intro s hn hp
    unfold sm_cl at hp
    refine pk_le 14 (14 - (n + 1)) (fun z => absurd z (by omega)) (fun _ => br_c (fun g => ?_) (fun g => br_c (fun g2 => ?_) (fun g2 => ?_)))
    · rw [sm_b0 g] at hp
      exact hp
    · rw [sm_b1 g, sm_b0 g2] at hp
      have t := ih _ (by omega) hp
      rw [show 14 - n = 14 - (n + 1) + 1 by omega] at t
      exact sm_C34 (s.1, s.2.1, s.2.2.1, false) R0 R1 (by rw [sm_b0 g2]; exact t)
    · rw [sm_b1 g, sm_b1 g2] at hp
      exact hp
theorem sm_conclude (s : sm_P) (R0 : sm_R 0 h0 n0 a1 a2 a3 a4) (R1 : sm_R 1 h1 n1 a1 a2 a3 a4) (hp : post (3, nI (sm_co h0 n0 h1 n1 s).1, nI (sm_co h0 n0 h1 n1 s).2.1, sm_b (sm_co h0 n0 h1 n1 s).2.2.1, sm_b (sm_co h0 n0 h1 n1 s).2.2.2, kn, ms, a1, a2, a3, a4, a5, a6, a7, a8)) : wpX_conclude post (3, nI s.1, nI s.2.1, sm_b s.2.2.1, sm_b s.2.2.2, kn, ms, a1, a2, a3, a4, a5, a6, a7, a8) :=
  ⟨15, sm_C7 R0 R1 14 (s.1, s.2.1, s.2.2.1, true) (by omega) hp⟩
end
end
section
/-! levels: open, tryNext -/
section
variable {post : St2 → Prop} {kn : Int32} {ms : Int64} {a1 a2 a3 a4 a5 a6 a7 a8 : Nat → Int32}
variable {h0 n0 h1 n1 : Nat}
theorem sm_T66 {l t : Nat} (s : sm_P) (R0 : sm_R 0 h0 n0 a1 a2 a3 a4) (R1 : sm_R 1 h1 n1 a1 a2 a3 a4) (hl : l < 8) (ht : t < 2) (e8 : a8 l = nI t)
    (hp : post (3, nI (sm_co h0 n0 h1 n1 s).1, nI (sm_co h0 n0 h1 n1 s).2.1, sm_b (sm_co h0 n0 h1 n1 s).2.2.1, sm_b (sm_co h0 n0 h1 n1 s).2.2.2, kn, ms, a1, a2, a3, a4, a5, a6, a7, upd a8 l (nI (t + 1)))) : wX_tryNext_66 post (nI l) 3 (nI s.1) (nI s.2.1) (sm_b s.2.2.1) (sm_b s.2.2.2) kn ms a1 a2 a3 a4 a5 a6 a7 a8 := by
  unfold wX_tryNext_66
  rw [nI_clamp (show l < 2 ^ 31 by omega), e8, nI_1, sm_by (t + 1) (by omega)]
  exact ⟨pk_in l 8 hl, pk_in l 8 hl, nm_e (sm_conclude s R0 R1 hp)⟩
theorem sm_tryNext {l : Nat} (s : sm_P) (v : sm_L) (R0 : sm_R 0 h0 n0 a1 a2 a3 a4) (R1 : sm_R 1 h1 n1 a1 a2 a3 a4) (hl : l < 8) (hv : v.2.2.1 < 32) (ht : v.2.2.2 < 2)
    (e5 : a5 l = nI v.1) (e6 : a6 l = nI v.2.1) (e7 : a7 l = nI v.2.2.1) (e8 : a8 l = nI v.2.2.2)
    (hp : post (3, nI (sm_co h0 n0 h1 n1 (sm_nx v)).1, nI (sm_co h0 n0 h1 n1 (sm_nx v)).2.1, sm_b (sm_co h0 n0 h1 n1 (sm_nx v)).2.2.1, sm_b (sm_co h0 n0 h1 n1 (sm_nx v)).2.2.2, kn, ms, a1, a2, a3, a4, a5, a6, a7, upd a8 l (nI (v.2.2.2 + 1)))) : wpX_tryNext post (3, nI s.1, nI s.2.1, sm_b s.2.2.1, sm_b s.2.2.2, kn, ms, a1, a2, a3, a4, a5, a6, a7, a8) (nI l) := by
  unfold wpX_tryNext
  dsimp only
  unfold sm_nx at hp
  rw [nI_clamp (show l < 2 ^ 31 by omega), e5, e6, e7, e8, sm_shl _ hv]
  refine ⟨pk_in l 8 hl, nm_e ⟨pk_in l 8 hl, nm_e ⟨pk_in l 8 hl, nm_e ⟨pk_in l 8 hl, pk_eq v.2.2.2 0 (fun z => nm_r (sm_or _ _) ?_) (fun z => nm_r (sm_or _ _) ?_)⟩⟩⟩⟩
  · rw [sm_beqT z] at hp
    exact sm_T66 (v.1, v.2.1 ||| (1 <<< v.2.2.1), false, s.2.2.2) R0 R1 hl ht e8 hp
  · rw [sm_beqF z] at hp
    exact sm_T66 (v.1 ||| (1 <<< v.2.2.1), v.2.1, false, s.2.2.2) R0 R1 hl ht e8 hp
theorem sm_O31 {l : Nat} (s : sm_P) (hl : l < 8) : ∀ n k r, k + n ≤ 32 → sm_fa (s.1 ||| s.2.1) n k = r → r < 32 →
    post (3, nI s.1, nI s.2.1, sm_b s.2.2.1, sm_b s.2.2.2, kn, ms, a1, a2, a3, a4, a5, a6, upd a7 l (nI r), a8) → wX_open_31 post (nI l) 3 (nI s.1) (nI s.2.1) (sm_b s.2.2.1) (sm_b s.2.2.2) kn ms a1 a2 a3 a4 a5 a6 a7 a8 n (nI k) := by
  intro n
  induction n with
  | zero => intro k r _ h hr; exact absurd (show (99 : Nat) = r from h) (by omega)
  | succ n ih =>
    intro k r hk h hr hp
    unfold sm_fa at h
    show _ ∧ _
    rw [sm_or]
    refine br_c (fun g => ?_) (fun g => nm_r (nI_1 k) ?_)
    · rw [sm_t0 (by omega) g] at h
      have h' : k = r := h
      rw [nI_clamp (show l < 2 ^ 31 by omega), sm_by k (by omega), h']
      exact ⟨pk_in l 8 hl, nm_e hp⟩
    · rw [sm_t1 (by omega) g] at h
      exact ih (k + 1) r (by omega) h hr hp
theorem sm_open {l r : Nat} (s : sm_P) (hl : l < 8) (hi : s.1 < 64) (ho : s.2.1 < 64) (h : sm_fa (s.1 ||| s.2.1) 6 0 = r) (hr : r < 32)
    (hp : post (3, nI s.1, nI s.2.1, sm_b s.2.2.1, sm_b s.2.2.2, kn, ms, a1, a2, a3, a4, upd a5 l (nI s.1), upd a6 l (nI s.2.1), upd a7 l (nI r), upd a8 l (nI 0))) : wpX_open post (3, nI s.1, nI s.2.1, sm_b s.2.2.1, sm_b s.2.2.2, kn, ms, a1, a2, a3, a4, a5, a6, a7, a8) (nI l) := by
  unfold wpX_open
  dsimp only
  rw [nI_clamp (show l < 2 ^ 31 by omega), sm_by _ (show s.1 < 128 by omega), sm_by _ (show s.2.1 < 128 by omega)]
  exact ⟨pk_in l 8 hl, nm_e ⟨pk_in l 8 hl, nm_e ⟨pk_in l 8 hl, nm_e ⟨6, sm_O31 s hl 6 0 r (by omega) h hr hp⟩⟩⟩⟩
/-- the levels as a list, top first -/
def sm_K (a5 a6 a7 a8 : Nat → Int32) : List sm_L → Prop
  | [] => True
  | v :: r => r.length < 8 ∧ v.2.2.1 < 32 ∧ v.2.2.2 ≤ 2 ∧ a5 r.length = nI v.1 ∧ a6 r.length = nI v.2.1 ∧ a7 r.length = nI v.2.2.1 ∧ a8 r.length = nI v.2.2.2 ∧ sm_K a5 a6 a7 a8 r
theorem sm_Kf {b5 b6 b7 b8 : Nat → Int32} : ∀ st : List sm_L, (∀ j, j < st.length → b5 j = a5 j ∧ b6 j = a6 j ∧ b7 j = a7 j ∧ b8 j = a8 j) → sm_K a5 a6 a7 a8 st → sm_K b5 b6 b7 b8 st := by
  intro st
  induction st with
  | nil => intro _ _; exact trivial
  | cons v r ih =>
    intro h k
    obtain ⟨k1, k2, k3, k4, k5, k6, k7, k8⟩ := k
    obtain ⟨q5, q6, q7, q8⟩ := h r.length (by rw [List.length_cons]; omega)
    exact ⟨k1, k2, k3, by rw [q5, k4], by rw [q6, k5], by rw [q7, k6], by rw [q8, k7], ih (fun j hj => h j (by rw [List.length_cons]; omega)) k8⟩
end
end
section
/-! search -/
section
variable {post : St2 → Prop} {kn : Int32} {a1 a2 a3 a4 : Nat → Int32}
variable {J43 : Int32 → Int32 → Int32 → Int32 → Int32 → Int32 → Int32 → Int32 → Int32 → Int64 → (Nat → Int32) → (Nat → Int32) → (Nat → Int32) → (Nat → Int32) → (Nat → Int32) → (Nat → Int32) → (Nat → Int32) → (Nat → Int32) → Prop}
variable {h0 n0 h1 n1 : Nat}
/-- levels that are done are left; then the end, or the next trial -/
theorem sm_S123 {ms : Int64} {a5 a6 a7 a8 : Nat → Int32} {k : Nat} (s : sm_P) (R0 : sm_R 0 h0 n0 a1 a2 a3 a4) (R1 : sm_R 1 h1 n1 a1 a2 a3 a4) :
    ∀ st : List sm_L, sm_K a5 a6 a7 a8 st → (sm_pop st = [] → post (3, nI s.1, nI s.2.1, sm_b s.2.2.1, sm_b s.2.2.2, kn, ms, a1, a2, a3, a4, a5, a6, a7, a8)) →
    (∀ v r, sm_pop st = v :: r → sm_K a5 a6 a7 a8 (v :: r) → v.2.2.2 < 2 → J43 (nI (r.length + 1)) 1 (nI (k + 1)) 3 (nI (sm_co h0 n0 h1 n1 (sm_nx v)).1) (nI (sm_co h0 n0 h1 n1 (sm_nx v)).2.1) (sm_b (sm_co h0 n0 h1 n1 (sm_nx v)).2.2.1) (sm_b (sm_co h0 n0 h1 n1 (sm_nx v)).2.2.2) kn ms a1 a2 a3 a4 a5 a6 a7 (upd a8 r.length (nI (v.2.2.2 + 1)))) →
    ∃ fu, wX_search_123 post J43 (nI k) 3 (nI s.1) (nI s.2.1) (sm_b s.2.2.1) (sm_b s.2.2.2) kn ms a1 a2 a3 a4 a5 a6 a7 a8 fu (nI st.length) := by
  intro st
  induction st with
  | nil =>
    intro _ H0 _
    exact ⟨1, pk_le 0 0 (fun _ => br_t rfl (H0 rfl)) (fun z => absurd z (by omega))⟩
  | cons v r ih =>
    intro K H0 H1
    have K' := K
    obtain ⟨k1, k2, k3, k4, k5, k6, k7, k8⟩ := K
    unfold sm_pop at H0 H1
    rw [List.length_cons]
    by_cases e : v.2.2.2 = 2
    · rw [sm_beqT e] at H0 H1
      obtain ⟨fu, hfu⟩ := ih k8 H0 H1
      refine ⟨fu + 1, pk_le (r.length + 1) 0 (fun z => absurd z (by omega)) (fun _ => ?_)⟩
      rw [nI_pred, nI_clamp (show r.length < 2 ^ 31 by omega), k7, e]
      exact ⟨pk_in r.length 8 k1, br_t rfl (nm_r (pk_m1 _) hfu)⟩
    · rw [sm_beqF e] at H1
      refine ⟨1, pk_le (r.length + 1) 0 (fun z => absurd z (by omega)) (fun _ => ?_)⟩
      rw [nI_pred, nI_clamp (show r.length < 2 ^ 31 by omega), k7]
      refine ⟨pk_in r.length 8 k1, pk_eq v.2.2.2 2 (fun z => absurd z e) (fun _ => ?_)⟩
      unfold wX_search_145
      rw [nI_pred]
      exact br_f (nI_ne0 (by omega) (by omega)) (sm_tryNext s v R0 R1 k1 k2 (by omega) k4 k5 k6 k7 (nm_r (nI_1 k) (H1 v r rfl K' (by omega))))
theorem sm_or64 {a b : Nat} (ha : a < 64) (hb : b < 64) : a ||| b < 64 := Nat.or_lt_two_pow (n := 6) ha hb
theorem sm_bltT {a b : Nat} (h : Nat.blt a b = true) : a < b := Nat.le_of_ble_eq_true h
theorem sm_S43 (R0 : sm_R 0 h0 n0 a1 a2 a3 a4) (R1 : sm_R 1 h1 n1 a1 a2 a3 a4) {res : Nat}
    (H : ∀ (s : sm_P) (a5 a6 a7 a8 : Nat → Int32), post (3, nI s.1, nI s.2.1, sm_b s.2.2.1, sm_b s.2.2.2, kn, lN res, a1, a2, a3, a4, a5, a6, a7, a8)) :
    ∀ n (st : List sm_L) (s : sm_P) (m k : Nat) (a5 a6 a7 a8 : Nat → Int32), sm_se h0 n0 h1 n1 n st s m = some res → sm_K a5 a6 a7 a8 st → k + n ≤ 512 →
    wX_search_43 post (n + 1) (nI st.length) 1 (nI k) 3 (nI s.1) (nI s.2.1) (sm_b s.2.2.1) (sm_b s.2.2.2) kn (lN m) a1 a2 a3 a4 a5 a6 a7 a8 := by
  intro n
  induction n with
  | zero => intro st s m k a5 a6 a7 a8 h; exact absurd (show none = some res from h) (fun z => nomatch z)
  | succ n ih =>
    intro st s m k a5 a6 a7 a8 h K hk
    unfold sm_se at h
    -- going on: the levels left, and the next round
    have go : ∀ m', (match sm_pop st with | [] => some m' | v :: r => sm_se h0 n0 h1 n1 n ((v.1, v.2.1, v.2.2.1, v.2.2.2 + 1) :: r) (sm_co h0 n0 h1 n1 (sm_nx v)) m') = some res →
        ∃ fu, wX_search_123 post (wX_search_43 post (n + 1)) (nI k) 3 (nI s.1) (nI s.2.1) (sm_b s.2.2.1) (sm_b s.2.2.2) kn (lN m') a1 a2 a3 a4 a5 a6 a7 a8 fu (nI st.length) := by
      intro m' hm
      refine sm_S123 s R0 R1 st K (fun e => ?_) (fun v r e K2 ht => ?_)
      · rw [e] at hm
        have hm' : m' = res := Option.some.inj hm
        rw [hm']
        exact H s a5 a6 a7 a8
      · rw [e] at hm
        obtain ⟨k1, k2, k3, k4, k5, k6, k7, k8⟩ := K2
        exact ih ((v.1, v.2.1, v.2.2.1, v.2.2.2 + 1) :: r) _ m' (k + 1) a5 a6 a7 (upd a8 r.length (nI (v.2.2.2 + 1))) hm
          ⟨k1, k2, (show v.2.2.2 + 1 ≤ 2 by omega), k4, k5, k6, pk_us, sm_Kf r (fun j hj => ⟨rfl, rfl, rfl, pk_un (by omega)⟩) k8⟩ (by omega)
    cases g1 : (Nat.blt s.1 64 && Nat.blt s.2.1 64) with
    | false => rw [g1] at h; exact absurd (show none = some res from h) (fun z => nomatch z)
    | true =>
      rw [g1] at h
      rw [Bool.and_eq_true] at g1
      have b1 : s.1 < 64 := sm_bltT g1.1
      have b2 : s.2.1 < 64 := sm_bltT g1.2
      have b3 := sm_or64 b1 b2
      refine pk_le 512 k (fun z => absurd z (by omega)) (fun _ => br_f (by decide) (br_c (fun g => ?_) (fun g => ?_)))
      · rw [sm_b0 g] at h
        rw [sm_or]
        refine pk_eq (s.1 ||| s.2.1) 63 (fun e => nm_r (e' := lN (m ||| 1 <<< s.1)) ?_ ?_) (fun e => ?_)
        · rw [sm_lsh _ b1, sm_lor]
        · rw [sm_beqT e] at h
          unfold wX_search_90
          rw [sm_or, e]
          exact br_f (by decide) (br_t g (br_t rfl (go _ h)))
        · rw [sm_beqF e] at h
          unfold wX_search_90
          rw [sm_or]
          cases g3 : (Nat.blt st.length 8 && Nat.blt (sm_fa (s.1 ||| s.2.1) 6 0) 6) with
          | false => rw [g3] at h; exact absurd (show none = some res from h) (fun z => nomatch z)
          | true =>
            rw [g3] at h
            rw [Bool.and_eq_true] at g3
            have c1 : st.length < 8 := sm_bltT g3.1
            have c2 : sm_fa (s.1 ||| s.2.1) 6 0 < 6 := sm_bltT g3.2
            refine br_f (by decide) (br_t g (pk_eq (s.1 ||| s.2.1) 63 (fun z => absurd z e) (fun _ => sm_open s c1 b1 b2 rfl (by omega) (nm_r (nI_1 _) ?_))))
            refine sm_S123 s R0 R1 ((s.1, s.2.1, sm_fa (s.1 ||| s.2.1) 6 0, 0) :: st) ?_ (fun z => ?_) (fun v r z K2 ht => ?_)
            · exact ⟨c1, (show sm_fa (s.1 ||| s.2.1) 6 0 < 32 by omega), (show 0 ≤ 2 by omega), pk_us, pk_us, pk_us, pk_us, sm_Kf st (fun j hj => ⟨pk_un (by omega), pk_un (by omega), pk_un (by omega), pk_un (by omega)⟩) K⟩
            · exact absurd (show (s.1, s.2.1, sm_fa (s.1 ||| s.2.1) 6 0, 0) :: st = [] from z) (fun z => nomatch z)
            · have z' : (s.1, s.2.1, sm_fa (s.1 ||| s.2.1) 6 0, 0) :: st = v :: r := z
              obtain ⟨rfl, rfl⟩ := List.cons.inj z'
              obtain ⟨k1, k2, k3, k4, k5, k6, k7, k8⟩ := K2
              exact ih ((s.1, s.2.1, sm_fa (s.1 ||| s.2.1) 6 0, 1) :: st) _ m (k + 1) _ _ _ _ h
                ⟨k1, k2, (show 1 ≤ 2 by omega), k4, k5, k6, pk_us, sm_Kf st (fun j hj => ⟨rfl, rfl, rfl, pk_un (by omega)⟩) k8⟩ (by omega)
      · rw [sm_b1 g] at h
        unfold wX_search_90
        exact br_f (by decide) (br_f g (go _ h))
theorem sm_search (R0 : sm_R 0 h0 n0 a1 a2 a3 a4) (R1 : sm_R 1 h1 n1 a1 a2 a3 a4) {res : Nat} (hr : sm_all h0 n0 h1 n1 = some res)
    {ms : Int64} {a5 a6 a7 a8 : Nat → Int32} (s : sm_P)
    (H : ∀ (s : sm_P) (a5 a6 a7 a8 : Nat → Int32), post (3, nI s.1, nI s.2.1, sm_b s.2.2.1, sm_b s.2.2.2, 1, lN res, a1, a2, a3, a4, a5, a6, a7, a8)) : wpX_search post (3, nI s.1, nI s.2.1, sm_b s.2.2.1, sm_b s.2.2.2, 0, ms, a1, a2, a3, a4, a5, a6, a7, a8) := by
  unfold wpX_search
  dsimp only
  exact br_t rfl (sm_conclude (kn := 1) (ms := lN 0) (0, 0, false, s.2.2.2) R0 R1 ⟨13, sm_S43 R0 R1 H 12 [] _ 0 0 a5 a6 a7 a8 hr trivial (by omega)⟩)
end
end
section
/-! models, model, brave -/
section
variable {a1 a2 a3 a4 : Nat → Int32}
theorem sm_isM {post : Int32 → Prop} {pr i o b mv kn : Int32} {a5 a6 a7 a8 : Nat → Int32} (m k : Nat) (hk : k < 64) (hp : post (sm_b (sm_t m k))) :
    wpX_isModel post (pr, i, o, b, mv, kn, lN m, a1, a2, a3, a4, a5, a6, a7, a8) (nI k) := by
  unfold wpX_isModel
  dsimp only
  refine br_c (fun h => ?_) (fun h => ?_)
  · rw [(sm_lbit m hk).mp h] at hp
    exact hp
  · have e : sm_t m k = true := by
      cases e : sm_t m k with
      | true => rfl
      | false => exact absurd ((sm_lbit m hk).mpr e) h
    rw [e] at hp
    exact hp
variable {post : Int32 → St2 → Prop} {kn : Int32} {a5 a6 a7 a8 : Nat → Int32}
theorem sm_M8 (m : Nat) (s : sm_P) : ∀ n k c, k + n = 64 → post (nI (sm_ct m n k c)) (3, nI s.1, nI s.2.1, sm_b s.2.2.1, sm_b s.2.2.2, kn, lN m, a1, a2, a3, a4, a5, a6, a7, a8) → wX_models_8 post 3 (nI s.1) (nI s.2.1) (sm_b s.2.2.1) (sm_b s.2.2.2) kn (lN m) a1 a2 a3 a4 a5 a6 a7 a8 (n + 1) (nI c) (nI k) := by
  intro n
  induction n with
  | zero => intro k c hk hp; exact pk_lt 63 k (fun _ => hp) (fun z => absurd z (by omega))
  | succ n ih =>
    intro k c hk hp
    unfold sm_ct at hp
    refine pk_lt 63 k (fun z => absurd z (by omega)) (fun _ => sm_isM m k (by omega) (br_c (fun g => ?_) (fun g => ?_)))
    · rw [sm_b0 g] at hp
      exact nm_r (nI_add c 0) (nm_r (nI_1 k) (ih (k + 1) _ (by omega) hp))
    · rw [sm_b1 g] at hp
      exact nm_r (nI_1 c) (nm_r (nI_1 k) (ih (k + 1) _ (by omega) hp))
theorem sm_M1 (m : Nat) (s : sm_P) : ∀ n k, k + n = 64 → (∀ r : Int32, (sm_fi m n k < 64 → r = nI (sm_fi m n k)) → post r (3, nI s.1, nI s.2.1, sm_b s.2.2.1, sm_b s.2.2.2, kn, lN m, a1, a2, a3, a4, a5, a6, a7, a8)) → wX_model_8 post 0 3 (nI s.1) (nI s.2.1) (sm_b s.2.2.1) (sm_b s.2.2.2) kn (lN m) a1 a2 a3 a4 a5 a6 a7 a8 (n + 1) 0 (nI k) := by
  intro n
  induction n with
  | zero => intro k hk hp; exact pk_lt 63 k (fun _ => hp _ (fun z => absurd (show (99 : Nat) < 64 from z) (by omega))) (fun z => absurd z (by omega))
  | succ n ih =>
    intro k hk hp
    unfold sm_fi at hp
    refine pk_lt 63 k (fun z => absurd z (by omega)) (fun _ => sm_isM m k (by omega) (br_c (fun g => ?_) (fun g => ?_)))
    · rw [sm_b0 g] at hp
      exact nm_r (nI_1 k) (ih (k + 1) (by omega) hp)
    · rw [sm_b1 g] at hp
      exact br_t rfl (hp _ (fun _ => rfl))
theorem sm_MB (m : Nat) (s : sm_P) : ∀ n k c, k + n = 64 → post (nI (sm_br m n k c)) (3, nI s.1, nI s.2.1, sm_b s.2.2.1, sm_b s.2.2.2, kn, lN m, a1, a2, a3, a4, a5, a6, a7, a8) → wX_brave_8 post 3 (nI s.1) (nI s.2.1) (sm_b s.2.2.1) (sm_b s.2.2.2) kn (lN m) a1 a2 a3 a4 a5 a6 a7 a8 (n + 1) (nI c) (nI k) := by
  intro n
  induction n with
  | zero => intro k c hk hp; exact pk_lt 63 k (fun _ => hp) (fun z => absurd z (by omega))
  | succ n ih =>
    intro k c hk hp
    unfold sm_br at hp
    refine pk_lt 63 k (fun z => absurd z (by omega)) (fun _ => sm_isM m k (by omega) (br_c (fun g => ?_) (fun g => ?_)))
    · rw [sm_b0 g] at hp
      exact nm_r (sm_or c 0) (nm_r (nI_1 k) (ih (k + 1) _ (by omega) hp))
    · rw [sm_b1 g] at hp
      exact nm_r (sm_or c k) (nm_r (nI_1 k) (ih (k + 1) _ (by omega) hp))
variable {h0 n0 h1 n1 : Nat}
theorem sm_models (R0 : sm_R 0 h0 n0 a1 a2 a3 a4) (R1 : sm_R 1 h1 n1 a1 a2 a3 a4) {m : Nat} (hr : sm_all h0 n0 h1 n1 = some m) {ms : Int64} (s : sm_P)
    (H : ∀ (s : sm_P) (a5 a6 a7 a8 : Nat → Int32), post (nI (sm_ct m 64 0 0)) (3, nI s.1, nI s.2.1, sm_b s.2.2.1, sm_b s.2.2.2, 1, lN m, a1, a2, a3, a4, a5, a6, a7, a8)) : wpX_models post (3, nI s.1, nI s.2.1, sm_b s.2.2.1, sm_b s.2.2.2, 0, ms, a1, a2, a3, a4, a5, a6, a7, a8) := by
  unfold wpX_models
  dsimp only
  exact sm_search R0 R1 hr s (fun s' a5 a6 a7 a8 => ⟨65, sm_M8 m s' 64 0 0 (by omega) (H s' a5 a6 a7 a8)⟩)
theorem sm_searchK {post : St2 → Prop} {ms : Int64} (s : sm_P) (hp : post (3, nI s.1, nI s.2.1, sm_b s.2.2.1, sm_b s.2.2.2, 1, ms, a1, a2, a3, a4, a5, a6, a7, a8)) : wpX_search post (3, nI s.1, nI s.2.1, sm_b s.2.2.1, sm_b s.2.2.2, 1, ms, a1, a2, a3, a4, a5, a6, a7, a8) := by
  unfold wpX_search
  dsimp only
  exact br_f (by decide) hp
theorem sm_model {m : Nat} (s : sm_P) (H : ∀ r : Int32, (sm_fi m 64 0 < 64 → r = nI (sm_fi m 64 0)) → post r (3, nI s.1, nI s.2.1, sm_b s.2.2.1, sm_b s.2.2.2, 1, lN m, a1, a2, a3, a4, a5, a6, a7, a8)) : wpX_model post (3, nI s.1, nI s.2.1, sm_b s.2.2.1, sm_b s.2.2.2, 1, lN m, a1, a2, a3, a4, a5, a6, a7, a8) 0 := by
  unfold wpX_model
  dsimp only
  exact sm_searchK s ⟨65, sm_M1 m s 64 0 (by omega) H⟩
theorem sm_brave {m : Nat} (s : sm_P) (H : post (nI (sm_br m 64 0 0)) (3, nI s.1, nI s.2.1, sm_b s.2.2.1, sm_b s.2.2.2, 1, lN m, a1, a2, a3, a4, a5, a6, a7, a8)) : wpX_brave post (3, nI s.1, nI s.2.1, sm_b s.2.2.1, sm_b s.2.2.2, 1, lN m, a1, a2, a3, a4, a5, a6, a7, a8) := by
  unfold wpX_brave
  dsimp only
  exact sm_searchK s ⟨65, sm_MB m s 64 0 0 (by omega) H⟩
end
end
section
/-! add -/
section
variable {post : Int32 → St2 → Prop} {pr i o b m kn : Int32} {ms : Int64} {a1 a2 a3 a4 a5 a6 a7 a8 : Nat → Int32}
theorem sm_isSet {post : Int32 → Prop} {u : St0} (n : Nat) (hn : n < 64) (hp : post 1) : wpX_isSet post u (nI n) :=
  pk_lt n 0 (fun z => absurd z (by omega)) (fun _ => pk_lt 63 n (fun z => absurd z (by omega)) (fun _ => hp))
theorem sm_hasA {post : Int32 → Prop} (k : Nat) (hk : k < 10) (hb : ((pr >>> (nI k &&& 31)) &&& 1) = 0) (hp : post 0) : wpX_has post (pr, i, o, b, m, kn, ms, a1, a2, a3, a4, a5, a6, a7, a8) (nI k) :=
  pk_lt k 0 (fun z => absurd z (by omega)) (fun _ => pk_le 10 k (fun z => absurd z (by omega)) (fun _ => br_t hb hp))
theorem sm_hasB {post : Int32 → Prop} (k : Nat) (hk : k < 10) (hb : ¬ ((pr >>> (nI k &&& 31)) &&& 1) = 0) (hp : post 1) : wpX_has post (pr, i, o, b, m, kn, ms, a1, a2, a3, a4, a5, a6, a7, a8) (nI k) :=
  pk_lt k 0 (fun z => absurd z (by omega)) (fun _ => pk_le 10 k (fun z => absurd z (by omega)) (fun _ => br_f hb hp))
theorem sm_A110 {r h n : Nat} (hr : r < 10) (hh : h < 6) (hn : n < 64)
    (H : post (nI r) (pr, i, o, b, m, 0, ms, a1, upd a2 r (nI h), upd a3 r (nI 0), upd a4 r (nI n), a5, a6, a7, a8)) :
    wX_add_110 post 0 (nI n) (nI r) (nI h) (nI r) pr i o b m kn ms a1 a2 a3 a4 a5 a6 a7 a8 := by
  unfold wX_add_110
  rw [nI_clamp (show r < 2 ^ 31 by omega), sm_by h (by omega), sm_by n (by omega)]
  exact ⟨pk_in r 10 hr, nm_e ⟨pk_in r 10 hr, nm_r (e' := upd a3 r (nI 0)) rfl ⟨pk_in r 10 hr, nm_e H⟩⟩⟩
theorem sm_A56 {r h n f : Nat} (hr : r < 10) (hh : h < 6) (hn : n < 64) (hb : ((pr >>> (nI r &&& 31)) &&& 1) = 0)
    (H : post (nI r) (pr ||| ((1 : Int32) <<< (nI r &&& 31)), i, o, b, m, 0, ms, upd a1 r (nI 0), upd a2 r (nI h), upd a3 r (nI 0), upd a4 r (nI n), a5, a6, a7, a8)) :
    wX_add_56 post 0 (nI h) 0 (nI n) pr i o b m kn ms a1 a2 a3 a4 a5 a6 a7 a8 (f + 1) (nI r) := by
  refine pk_le 10 r (fun z => absurd z (by omega)) (fun _ => sm_hasA r hr hb (br_t rfl (nm_e ⟨pk_in r 10 hr, nm_r (e' := upd a1 r (nI 0)) ?_ (br_f (by decide) (sm_A110 hr hh hn H))⟩)))
  rw [nI_clamp (show r < 2 ^ 31 by omega)]
  rfl
theorem sm_addG {h n : Nat} (hh : h < 6) (hn : n < 64) (H : ∃ fu, wX_add_56 post 0 (nI h) 0 (nI n) pr i o b m kn ms a1 a2 a3 a4 a5 a6 a7 a8 fu 0) :
    wpX_add post (pr, i, o, b, m, kn, ms, a1, a2, a3, a4, a5, a6, a7, a8) 0 (nI h) 0 (nI n) := by
  unfold wpX_add
  dsimp only
  refine br_f (by decide) (pk_lt h 0 (fun z => absurd z (by omega)) (fun _ => pk_le 6 h (fun z => absurd z (by omega)) (fun _ => ?_)))
  unfold wX_add_15 wX_add_20
  exact br_f (by decide) (br_f (by decide) (br_f (by decide) (sm_isSet 0 (by omega) (br_f (by decide) (sm_isSet n hn (br_f (by decide) H))))))
theorem sm_add0 {h n : Nat} (hh : h < 6) (hn : n < 64)
    (H : post 0 (1, i, o, b, m, 0, ms, upd a1 0 (nI 0), upd a2 0 (nI h), upd a3 0 (nI 0), upd a4 0 (nI n), a5, a6, a7, a8)) :
    wpX_add post (0, i, o, b, m, kn, ms, a1, a2, a3, a4, a5, a6, a7, a8) 0 (nI h) 0 (nI n) :=
  sm_addG hh hn ⟨1, sm_A56 (r := 0) (by omega) hh hn (by decide +kernel) (by rw [show (0 : Int32) ||| ((1 : Int32) <<< (nI 0 &&& 31)) = 1 by decide +kernel]; exact H)⟩
theorem sm_add1 {h n : Nat} (hh : h < 6) (hn : n < 64)
    (H : post 1 (3, i, o, b, m, 0, ms, upd a1 1 (nI 0), upd a2 1 (nI h), upd a3 1 (nI 0), upd a4 1 (nI n), a5, a6, a7, a8)) :
    wpX_add post (1, i, o, b, m, kn, ms, a1, a2, a3, a4, a5, a6, a7, a8) 0 (nI h) 0 (nI n) := by
  refine sm_addG hh hn ⟨2, pk_le 10 0 (fun z => absurd z (by omega)) (fun _ => sm_hasB 0 (by omega) (by decide +kernel) (br_f (by decide) (nm_r (nI_1 0) ?_)))⟩
  exact sm_A56 (r := 1) (by omega) hh hn (by decide +kernel) (by rw [show (1 : Int32) ||| ((1 : Int32) <<< (nI 1 &&& 31)) = 3 by decide +kernel]; exact H)
end
end
section
/-! the law's last row -/
section
variable {post : Int32 → St0 → Prop} {mc ms : Nat} {x5 x6 x7 x8 x10 x11 x12 : Int32} {kc ks : Nat}
def sm_D (post : Int32 → St0 → Prop) (mc ms : Nat) (x5 x6 x7 x8 x9 x10 x11 x12 : Int32) (kc ks : Nat) : Prop :=
  (x5 = x6 → wL_lawOf_128 post mc ms x5 x6 x7 x8 x9 x10 x11 x12 kc ks) ∧ (¬ x5 = x6 → ((x7 = x8 → wL_lawOf_128 post mc ms x5 x6 x7 x8 x9 x10 x11 x12 kc ks) ∧ (¬ x7 = x8 → ((x6 = x7 → wL_lawOf_128 post mc ms x5 x6 x7 x8 x9 x10 x11 x12 kc ks) ∧ (¬ x6 = x7 → ((x5 = x8 → wL_lawOf_128 post mc ms x5 x6 x7 x8 x9 x10 x11 x12 kc ks) ∧ (¬ x5 = x8 → wL_lawOf_129 post mc ms x5 x6 x7 x8 x9 x10 x11 x12 1 kc ks)))))))
theorem sm_n1 : ((1 : Int32) = 0) = False := by decide
theorem sm_n2 : ((2 : Int32) = 0) = False := by decide
theorem sm_l0 : ((0 : Int32) < 0) = False := by decide
theorem sm_l1 : ((0 : Int32) < 1) = True := by decide
theorem sm_l2 : ((0 : Int32) < 2) = True := by decide
/-- two rules that call each other off -/
theorem sm_Dswap (e1 : ¬ x5 = x6) (e2 : ¬ x7 = x8) (e3 : x6 = x7) (e4 : x5 = x8) (hp : post 1 ())
    (hn : x10 = 2) (h1 : (1 : Int32) <<< (x7 &&& 31) ≤ (1 : Int32) <<< (x5 &&& 31) → x11 = (1 : Int32) <<< (x7 &&& 31))
    (h2 : ¬ (1 : Int32) <<< (x7 &&& 31) ≤ (1 : Int32) <<< (x5 &&& 31) → x11 = (1 : Int32) <<< (x5 &&& 31))
    (hb : x12 = ((1 : Int32) <<< (x5 &&& 31)) ||| ((1 : Int32) <<< (x7 &&& 31))) : sm_D post mc ms x5 x6 x7 x8 1 x10 x11 x12 kc ks := by
  subst e3
  subst e4
  have e5 : ¬ x6 = x5 := fun z => e1 z.symm
  simp only [sm_D, wL_lawOf_128, wL_lawOf_129, wL_lawOf_156, wL_lawOf_170, wL_lawOf_184, wL_lawOf_188, wL_lawOf_189, wL_lawOf_223, wL_lawOf_224, wL_lawOf_258, wL_lawOf_259, wL_lawOf_293, wL_lawOf_294, wL_lawOf_317, wL_lawOf_338, wL_lawOf_342, wL_lawOf_343, wL_lawOf_374, wL_lawOf_379, wL_lawOf_416, wL_lawOf_446, wL_lawOf_475, wL_lawOf_485, e1, e5, hn, hb, sm_n1, sm_n2, sm_l1, sm_l2, sm_l0, hp, true_implies, false_implies, not_true_eq_false, not_false_eq_true, and_true, true_and, forall_eq, implies_true, and_self, eq_self]
  exact ⟨fun z t => absurd (h1 z) t, fun z t => absurd (h2 z) t⟩
/-- two rules that leave each other alone -/
theorem sm_Dboth (e1 : ¬ x5 = x6) (e2 : ¬ x7 = x8) (e3 : ¬ x6 = x7) (e4 : ¬ x5 = x8) (hp : post 1 ()) (hn : x10 = 1) (hf : x11 = ((1 : Int32) <<< (x5 &&& 31)) ||| ((1 : Int32) <<< (x7 &&& 31))) (hb : x12 = ((1 : Int32) <<< (x5 &&& 31)) ||| ((1 : Int32) <<< (x7 &&& 31))) : sm_D post mc ms x5 x6 x7 x8 1 x10 x11 x12 kc ks := by
  simp only [sm_D, wL_lawOf_128, wL_lawOf_129, wL_lawOf_156, wL_lawOf_170, wL_lawOf_184, wL_lawOf_188, wL_lawOf_189, wL_lawOf_223, wL_lawOf_224, wL_lawOf_258, wL_lawOf_259, wL_lawOf_293, wL_lawOf_294, wL_lawOf_317, wL_lawOf_338, wL_lawOf_342, wL_lawOf_343, wL_lawOf_374, wL_lawOf_379, wL_lawOf_416, wL_lawOf_446, wL_lawOf_475, wL_lawOf_485, e1, e2, e3, e4, hn, hf, hb, sm_n1, sm_n2, sm_l1, sm_l2, sm_l0, hp, true_implies, false_implies, not_true_eq_false, not_false_eq_true, and_true, true_and, forall_eq, implies_true, and_self, eq_self]
/-- the first calls the second off -/
theorem sm_DA (e1 : ¬ x5 = x6) (e2 : ¬ x7 = x8) (e3 : ¬ x6 = x7) (e4 : x5 = x8) (hp : post 1 ()) (hn : x10 = 1) (hf : x11 = (1 : Int32) <<< (x5 &&& 31)) (hb : x12 = (1 : Int32) <<< (x5 &&& 31)) : sm_D post mc ms x5 x6 x7 x8 1 x10 x11 x12 kc ks := by
  subst e4
  simp only [sm_D, wL_lawOf_128, wL_lawOf_129, wL_lawOf_156, wL_lawOf_170, wL_lawOf_184, wL_lawOf_188, wL_lawOf_189, wL_lawOf_223, wL_lawOf_224, wL_lawOf_258, wL_lawOf_259, wL_lawOf_293, wL_lawOf_294, wL_lawOf_317, wL_lawOf_338, wL_lawOf_342, wL_lawOf_343, wL_lawOf_374, wL_lawOf_379, wL_lawOf_416, wL_lawOf_446, wL_lawOf_475, wL_lawOf_485, e1, e2, e3, hn, hf, hb, sm_n1, sm_n2, sm_l1, sm_l2, sm_l0, hp, true_implies, false_implies, not_true_eq_false, not_false_eq_true, and_true, true_and, forall_eq, implies_true, and_self, eq_self]
/-- the second calls the first off -/
theorem sm_DC (e1 : ¬ x5 = x6) (e2 : ¬ x7 = x8) (e3 : x6 = x7) (e4 : ¬ x5 = x8) (hp : post 1 ()) (hn : x10 = 1) (hf : x11 = (1 : Int32) <<< (x7 &&& 31)) (hb : x12 = (1 : Int32) <<< (x7 &&& 31)) : sm_D post mc ms x5 x6 x7 x8 1 x10 x11 x12 kc ks := by
  subst e3
  simp only [sm_D, wL_lawOf_128, wL_lawOf_129, wL_lawOf_156, wL_lawOf_170, wL_lawOf_184, wL_lawOf_188, wL_lawOf_189, wL_lawOf_223, wL_lawOf_224, wL_lawOf_258, wL_lawOf_259, wL_lawOf_293, wL_lawOf_294, wL_lawOf_317, wL_lawOf_338, wL_lawOf_342, wL_lawOf_343, wL_lawOf_374, wL_lawOf_379, wL_lawOf_416, wL_lawOf_446, wL_lawOf_475, wL_lawOf_485, e1, e2, e4, hn, hf, hb, sm_n1, sm_n2, sm_l1, sm_l2, sm_l0, hp, true_implies, false_implies, not_true_eq_false, not_false_eq_true, and_true, true_and, forall_eq, implies_true, and_self, eq_self]
/-- the first calls itself off, the second has its head -/
theorem sm_Dr1 (e1 : x5 = x6) (e2 : ¬ x7 = x8) (e5 : x7 = x5) (hp : post 1 ()) (hn : x10 = 1) : sm_D post mc ms x5 x6 x7 x8 1 x10 x11 x12 kc ks := by
  subst e1
  subst e5
  simp only [sm_D, wL_lawOf_128, wL_lawOf_129, wL_lawOf_156, wL_lawOf_170, wL_lawOf_184, wL_lawOf_188, wL_lawOf_189, wL_lawOf_223, wL_lawOf_224, wL_lawOf_258, wL_lawOf_259, wL_lawOf_293, wL_lawOf_294, wL_lawOf_317, wL_lawOf_338, wL_lawOf_342, wL_lawOf_343, wL_lawOf_374, wL_lawOf_379, wL_lawOf_416, wL_lawOf_446, wL_lawOf_475, wL_lawOf_485, e2, hn, sm_n1, sm_n2, sm_l1, sm_l2, sm_l0, hp, true_implies, false_implies, not_true_eq_false, not_false_eq_true, and_true, true_and, forall_eq, implies_true, and_self, eq_self]
/-- the second calls itself off, the first has its head -/
theorem sm_Dr2 (e1 : ¬ x5 = x6) (e2 : x7 = x8) (e5 : x5 = x7) (hp : post 1 ()) (hn : x10 = 1) : sm_D post mc ms x5 x6 x7 x8 1 x10 x11 x12 kc ks := by
  subst e2
  subst e5
  simp only [sm_D, wL_lawOf_128, wL_lawOf_129, wL_lawOf_156, wL_lawOf_170, wL_lawOf_184, wL_lawOf_188, wL_lawOf_189, wL_lawOf_223, wL_lawOf_224, wL_lawOf_258, wL_lawOf_259, wL_lawOf_293, wL_lawOf_294, wL_lawOf_317, wL_lawOf_338, wL_lawOf_342, wL_lawOf_343, wL_lawOf_374, wL_lawOf_379, wL_lawOf_416, wL_lawOf_446, wL_lawOf_475, wL_lawOf_485, e1, hn, sm_n1, sm_n2, sm_l1, sm_l2, sm_l0, hp, true_implies, false_implies, not_true_eq_false, not_false_eq_true, and_true, true_and, forall_eq, implies_true, and_self, eq_self]
/-- the first calls itself off -/
theorem sm_Ds1 (e1 : x5 = x6) (e5 : ¬ x7 = x5) (hp : post 1 ()) (hn : x10 = 0) : sm_D post mc ms x5 x6 x7 x8 1 x10 x11 x12 kc ks := by
  subst e1
  have e6 : ¬ x5 = x7 := fun z => e5 z.symm
  simp only [sm_D, wL_lawOf_128, wL_lawOf_129, wL_lawOf_156, wL_lawOf_170, wL_lawOf_184, wL_lawOf_188, wL_lawOf_189, wL_lawOf_223, wL_lawOf_224, wL_lawOf_258, wL_lawOf_259, wL_lawOf_293, wL_lawOf_294, wL_lawOf_317, wL_lawOf_338, wL_lawOf_342, wL_lawOf_343, wL_lawOf_374, wL_lawOf_379, wL_lawOf_416, wL_lawOf_446, wL_lawOf_475, wL_lawOf_485, e5, e6, hn, sm_n1, sm_n2, sm_l1, sm_l2, sm_l0, hp, true_implies, false_implies, not_true_eq_false, not_false_eq_true, and_true, true_and, forall_eq, implies_true, and_self, eq_self]
/-- the second calls itself off -/
theorem sm_Ds2 (e1 : ¬ x5 = x6) (e2 : x7 = x8) (e5 : ¬ x5 = x7) (hp : post 1 ()) (hn : x10 = 0) : sm_D post mc ms x5 x6 x7 x8 1 x10 x11 x12 kc ks := by
  subst e2
  have e6 : ¬ x7 = x5 := fun z => e5 z.symm
  simp only [sm_D, wL_lawOf_128, wL_lawOf_129, wL_lawOf_156, wL_lawOf_170, wL_lawOf_184, wL_lawOf_188, wL_lawOf_189, wL_lawOf_223, wL_lawOf_224, wL_lawOf_258, wL_lawOf_259, wL_lawOf_293, wL_lawOf_294, wL_lawOf_317, wL_lawOf_338, wL_lawOf_342, wL_lawOf_343, wL_lawOf_374, wL_lawOf_379, wL_lawOf_416, wL_lawOf_446, wL_lawOf_475, wL_lawOf_485, e1, e5, e6, hn, sm_n1, sm_n2, sm_l1, sm_l2, sm_l0, hp, true_implies, false_implies, not_true_eq_false, not_false_eq_true, and_true, true_and, forall_eq, implies_true, and_self, eq_self]
/-- both call themselves off, one head -/
theorem sm_Ds3 (e1 : x5 = x6) (e2 : x7 = x8) (e5 : x7 = x5) (hp : post 1 ()) (hn : x10 = 0) : sm_D post mc ms x5 x6 x7 x8 1 x10 x11 x12 kc ks := by
  subst e1
  subst e2
  subst e5
  simp only [sm_D, wL_lawOf_128, wL_lawOf_129, wL_lawOf_156, wL_lawOf_170, wL_lawOf_184, wL_lawOf_188, wL_lawOf_189, wL_lawOf_223, wL_lawOf_224, wL_lawOf_258, wL_lawOf_259, wL_lawOf_293, wL_lawOf_294, wL_lawOf_317, wL_lawOf_338, wL_lawOf_342, wL_lawOf_343, wL_lawOf_374, wL_lawOf_379, wL_lawOf_416, wL_lawOf_446, wL_lawOf_475, wL_lawOf_485, hn, sm_n1, sm_n2, sm_l1, sm_l2, sm_l0, hp, true_implies, false_implies, not_true_eq_false, not_false_eq_true, and_true, true_and, forall_eq, implies_true, and_self, eq_self]
end
end
section
/-! the answers meet the law's last row -/
section
variable {post : Int32 → St0 → Prop} {mc ms kc ks : Nat}
theorem sm_p6 : ∀ a, a < 6 → 1 <<< a < 64 := by decide
theorem sm_e {x y : Nat} (hx : x < 6) (hy : y < 6) (h : ¬ x = y) : ¬ nI x = nI y := fun z => h ((nI_eq (by omega) (by omega)).mp z)
theorem sm_ans {a b c d : Nat} (ha : a < 6) (hb : b < 6) (hc : c < 6) (hd : d < 6) {r : Int32} (hp : post 1 ())
    (hr : sm_fi (sm_du a b c d) 64 0 < 64 → r = nI (sm_fi (sm_du a b c d) 64 0)) :
    sm_D post mc ms (nI a) (nI b) (nI c) (nI d) 1 (nI (sm_ct (sm_du a b c d) 64 0 0)) r (nI (sm_br (sm_du a b c d) 64 0 0)) kc ks := by
  have pa := sm_p6 a ha
  have pc := sm_p6 c hc
  have wa := sm_shl a (by omega)
  have wc := sm_shl c (by omega)
  by_cases e1 : a = b
  · by_cases e5 : c = a
    · by_cases e2 : c = d
      · have hm : sm_du a b c d = 0 := by
          unfold sm_du
          rw [sm_beqT e1, sm_beqT e5, sm_beqT e2]
          rfl
        rw [hm, sm_ct0]
        exact sm_Ds3 (by rw [e1]) (by rw [e2]) (by rw [e5]) hp rfl
      · have hm : sm_du a b c d = 1 <<< (1 <<< a) := by
          unfold sm_du
          rw [sm_beqT e1, sm_beqT e5, sm_beqF e2]
          rfl
        rw [hm, (sm_oneE pa).1]
        exact sm_Dr1 (by rw [e1]) (sm_e hc hd e2) (by rw [e5]) hp rfl
    · have hm : sm_du a b c d = 0 := by
        unfold sm_du
        rw [sm_beqT e1, sm_beqF e5]
        rfl
      rw [hm, sm_ct0]
      exact sm_Ds1 (by rw [e1]) (sm_e hc ha e5) hp rfl
  · by_cases e2 : c = d
    · by_cases e5 : a = c
      · have hm : sm_du a b c d = 1 <<< (1 <<< a) := by
          unfold sm_du
          rw [sm_beqF e1, sm_beqT e2, sm_beqT e5]
          rfl
        rw [hm, (sm_oneE pa).1]
        exact sm_Dr2 (sm_e ha hb e1) (by rw [e2]) (by rw [e5]) hp rfl
      · have hm : sm_du a b c d = 0 := by
          unfold sm_du
          rw [sm_beqF e1, sm_beqT e2, sm_beqF e5]
          rfl
        rw [hm, sm_ct0]
        exact sm_Ds2 (sm_e ha hb e1) (by rw [e2]) (sm_e ha hc e5) hp rfl
    · by_cases e3 : b = c
      · by_cases e4 : a = d
        · have hm : sm_du a b c d = (1 <<< (1 <<< a)) ||| (1 <<< (1 <<< c)) := by
            unfold sm_du
            rw [sm_beqF e1, sm_beqF e2, sm_beqT e3, sm_beqT e4]
            rfl
          obtain ⟨t1, t2, t3⟩ := sm_twoE ha hc (fun z => e1 (by omega))
          rw [hm, t2] at hr
          rw [hm, t1, t3]
          refine sm_Dswap (sm_e ha hb e1) (sm_e hc hd e2) (by rw [e3]) (by rw [e4]) hp rfl (fun z => ?_) (fun z => ?_) ?_
          · rw [wa, wc, nI_leI (by omega) (by omega)] at z
            rw [Nat.ble_eq_true_of_le z] at hr
            rw [wc]
            exact hr pc
          · rw [wa, wc, nI_leI (by omega) (by omega)] at z
            have hf : Nat.ble (1 <<< c) (1 <<< a) = false := by
              cases q : Nat.ble (1 <<< c) (1 <<< a) with
              | false => rfl
              | true => exact absurd (Nat.le_of_ble_eq_true q) z
            rw [hf] at hr
            rw [wa]
            exact hr pa
          · rw [wa, wc, sm_or]
        · have hm : sm_du a b c d = 1 <<< (1 <<< c) := by
            unfold sm_du
            rw [sm_beqF e1, sm_beqF e2, sm_beqT e3, sm_beqF e4]
            rfl
          obtain ⟨t1, t2, t3⟩ := sm_oneE pc
          rw [hm, t2] at hr
          rw [hm, t1, t3]
          exact sm_DC (sm_e ha hb e1) (sm_e hc hd e2) (by rw [e3]) (sm_e ha hd e4) hp rfl (by rw [wc]; exact hr pc) (by rw [wc])
      · by_cases e4 : a = d
        · have hm : sm_du a b c d = 1 <<< (1 <<< a) := by
            unfold sm_du
            rw [sm_beqF e1, sm_beqF e2, sm_beqF e3, sm_beqT e4]
            rfl
          obtain ⟨t1, t2, t3⟩ := sm_oneE pa
          rw [hm, t2] at hr
          rw [hm, t1, t3]
          exact sm_DA (sm_e ha hb e1) (sm_e hc hd e2) (sm_e hb hc e3) (by rw [e4]) hp rfl (by rw [wa]; exact hr pa) (by rw [wa])
        · have hm : sm_du a b c d = 1 <<< ((1 <<< a) ||| (1 <<< c)) := by
            unfold sm_du
            rw [sm_beqF e1, sm_beqF e2, sm_beqF e3, sm_beqF e4]
            rfl
          obtain ⟨t1, t2, t3⟩ := sm_oneE (sm_or64 pa pc)
          rw [hm, t2] at hr
          rw [hm, t1, t3]
          exact sm_Dboth (sm_e ha hb e1) (sm_e hc hd e2) (sm_e hb hc e3) (sm_e ha hd e4) hp rfl (by rw [wa, wc, sm_or]; exact hr (sm_or64 pa pc)) (by rw [wa, wc, sm_or])
end
end
section
/-! the law -/
theorem sm_rem (p : Int32) : ∃ a, a < 6 ∧ (p &&& 65535) - (p &&& 65535) / 6 * 6 = nI a := by
  obtain ⟨j, hj, e⟩ := pk_andE p (m := 65535) 16 (by decide)
  rw [e]
  exact ⟨j % 6, Nat.mod_lt _ (by omega), pk_rem (d := 6) (by omega) (by omega) (by omega)⟩
theorem sm_lawOf {post : Int32 → St0 → Prop} (hp : post 1 ()) (p0 p1 p2 p3 : Int32) : wpL_lawOf post 38 592 () p0 p1 p2 p3 := by
  obtain ⟨a, ha, ea⟩ := sm_rem p0
  obtain ⟨b, hb, eb⟩ := sm_rem p1
  obtain ⟨c, hc, ec⟩ := sm_rem p2
  obtain ⟨d, hd, ed⟩ := sm_rem p3
  have wb := sm_shl b (by omega)
  have wd := sm_shl d (by omega)
  unfold wpL_lawOf
  refine ⟨by omega, by omega, 8, 72, by omega, by omega, ?_⟩
  unfold wpX_init
  dsimp only
  refine ⟨by omega, by omega, by omega, by omega, by omega, by omega, by omega, by omega, by omega, by omega, by omega, by omega, by omega, by omega, by omega, by omega, by decide, nm_r ea ⟨by decide, nm_r eb ⟨by decide, nm_r ec ⟨by decide, nm_r ed ?_⟩⟩⟩⟩
  rw [wb, wd]
  have R0 : sm_R 0 a (1 <<< b) (upd (upd (fun _ => 0) 0 (nI 0)) 1 (nI 0)) (upd (upd (fun _ => 0) 0 (nI a)) 1 (nI c)) (upd (upd (fun _ => 0) 0 (nI 0)) 1 (nI 0)) (upd (upd (fun _ => 0) 0 (nI (1 <<< b))) 1 (nI (1 <<< d))) :=
    ⟨by omega, by omega, by rw [pk_un (by omega), pk_us], by rw [pk_un (by omega), pk_us], by rw [pk_un (by omega), pk_us], by rw [pk_un (by omega), pk_us]⟩
  have R1 : sm_R 1 c (1 <<< d) (upd (upd (fun _ => 0) 0 (nI 0)) 1 (nI 0)) (upd (upd (fun _ => 0) 0 (nI a)) 1 (nI c)) (upd (upd (fun _ => 0) 0 (nI 0)) 1 (nI 0)) (upd (upd (fun _ => 0) 0 (nI (1 <<< b))) 1 (nI (1 <<< d))) :=
    ⟨by omega, by omega, pk_us, pk_us, pk_us, pk_us⟩
  refine sm_add0 ha (sm_p6 b hb) ?_
  dsimp only
  refine sm_add1 hc (sm_p6 d hd) ?_
  dsimp only
  exact sm_models R0 R1 (sm_tab ha hb hc hd) (0, 0, false, false) (fun s a5 a6 a7 a8 => sm_model s (fun r hr => sm_brave s (sm_ans ha hb hc hd hp hr)))
theorem sm_cell {post : Int32 → Prop} {L : Nat} {xs : Nat → Int32} {u : St0} (hL : L ≤ 4) (k : Nat) (hk : k < 4) (hp : ∀ r, post r) : wpL_cellAt post L xs u (nI k) :=
  pk_le L k (fun _ => hp _) (fun z => ⟨pk_in k L z, hp _⟩)
end
section
/-! what is owed -/
theorem i_vc (xs : Nat → Int32) (L : Nat) (hL : L ≤ 4) : wpL_law (fun r => r = 1) L xs := by
  unfold wpL_law
  exact sm_cell hL 0 (by omega) (fun r1 => sm_cell hL 1 (by omega) (fun r2 => sm_cell hL 2 (by omega) (fun r3 => sm_cell hL 3 (by omega) (fun r4 => ⟨38, 592, by omega, by omega, sm_lawOf rfl r1 r2 r3 r4⟩))))
end
