section
/-! ===== texts in a region ===== -/
def of_rg (B : Nat → Int32) : Nat → List Nat → Prop
  | _, [] => True
  | p, c :: T => B p = nI c ∧ of_rg B (p + 1) T
theorem of_rg_app {B : Nat → Int32} : ∀ (T U : List Nat) (p : Nat), of_rg B p (T ++ U) ↔ of_rg B p T ∧ of_rg B (p + T.length) U
  | [], U, p => by simp [of_rg]
  | c :: T, U, p => by
    simp only [List.cons_append, of_rg, List.length_cons]
    rw [of_rg_app T U (p + 1), and_assoc, show p + 1 + T.length = p + (T.length + 1) by omega]
theorem of_rg_ext {B B' : Nat → Int32} : ∀ (T : List Nat) (p : Nat), (∀ i, p ≤ i → i < p + T.length → B' i = B i) → of_rg B p T → of_rg B' p T
  | [], p, _, _ => trivial
  | c :: T, p, h, g => ⟨(h p (Nat.le_refl p) (by simp only [List.length_cons]; omega)).trans g.1, of_rg_ext T (p + 1) (fun i h1 h2 => h i (by omega) (by simp only [List.length_cons]; omega)) g.2⟩
/-! ===== numbers as text ===== -/
def of_dg (r : Nat) : Nat → List Nat
  | 0 => []
  | k + 1 => (48 + r / 10 ^ k % 10) :: of_dg r k
theorem of_dg_len (r : Nat) : ∀ k, (of_dg r k).length = k
  | 0 => rfl
  | k + 1 => by simp only [of_dg, List.length_cons, of_dg_len r k]
def of_nd (r : Nat) : Nat := if r < 10 then 1 else if r < 100 then 2 else if r < 1000 then 3 else if r < 10000 then 4 else if r < 100000 then 5 else if r < 1000000 then 6 else if r < 10000000 then 7 else if r < 100000000 then 8 else if r < 1000000000 then 9 else 10
theorem of_nd_h {c r k : Nat} (P : Nat) (hP : 10 ^ c = P) (h : P ≤ r) (hk : k + 1 < c + 1) : 10 ^ (k + 1) ≤ r := by
  subst hP
  exact Nat.le_trans (Nat.pow_le_pow_right (by decide) (by omega)) h
theorem of_nd_ok {r : Nat} (h : r < 10000000000) : 1 ≤ of_nd r ∧ of_nd r ≤ 10 ∧ r < 10 ^ of_nd r ∧ (∀ k, k + 1 < of_nd r → 10 ^ (k + 1) ≤ r) := by
  unfold of_nd
  split
  · exact ⟨by decide, by decide, by omega, fun k hk => by omega⟩
  split
  · exact ⟨by decide, by decide, by omega, fun k hk => of_nd_h (c := 1) 10 (by decide) (by omega) hk⟩
  split
  · exact ⟨by decide, by decide, by omega, fun k hk => of_nd_h (c := 2) 100 (by decide) (by omega) hk⟩
  split
  · exact ⟨by decide, by decide, by omega, fun k hk => of_nd_h (c := 3) 1000 (by decide) (by omega) hk⟩
  split
  · exact ⟨by decide, by decide, by omega, fun k hk => of_nd_h (c := 4) 10000 (by decide) (by omega) hk⟩
  split
  · exact ⟨by decide, by decide, by omega, fun k hk => of_nd_h (c := 5) 100000 (by decide) (by omega) hk⟩
  split
  · exact ⟨by decide, by decide, by omega, fun k hk => of_nd_h (c := 6) 1000000 (by decide) (by omega) hk⟩
  split
  · exact ⟨by decide, by decide, by omega, fun k hk => of_nd_h (c := 7) 10000000 (by decide) (by omega) hk⟩
  split
  · exact ⟨by decide, by decide, by omega, fun k hk => of_nd_h (c := 8) 100000000 (by decide) (by omega) hk⟩
  · exact ⟨by decide, by decide, by omega, fun k hk => of_nd_h (c := 9) 1000000000 (by decide) (by omega) hk⟩
def of_ab (v : Int32) : Nat := v.toInt.natAbs
theorem of_ab_lt (v : Int32) : of_ab v < 10000000000 := by
  have h1 := Int32.toInt_lt v
  have h2 := Int32.le_toInt v
  unfold of_ab
  omega
theorem of_ab_le (v : Int32) : of_ab v ≤ 2147483648 := by
  have h1 := Int32.toInt_lt v
  have h2 := Int32.le_toInt v
  unfold of_ab
  omega
def of_num (v : Int32) : List Nat := (if v < 0 then [45] else []) ++ of_dg (of_ab v) (of_nd (of_ab v))
theorem of_num_len (v : Int32) : 1 ≤ (of_num v).length ∧ (of_num v).length ≤ 11 := by
  have h := of_nd_ok (of_ab_lt v)
  unfold of_num
  rw [List.length_append, of_dg_len]
  split <;> simp only [List.length_cons, List.length_nil] <;> omega
theorem of_lt0 {v : Int32} : v < 0 ↔ v.toInt < 0 := Int32.lt_iff_toInt_lt
theorem of_l64 {v : Int32} (h : ¬ v < 0) : v.toInt64 = lN (of_ab v) := by
  have h1 := of_ab_le v
  rw [of_lt0] at h
  apply Int64.toInt_inj.mp
  rw [Int32.toInt_toInt64, pk_lT (by omega)]
  unfold of_ab
  omega
theorem of_l64m {v : Int32} (h : v < 0) : v.toInt64 = - lN (of_ab v) := by
  have h1 := of_ab_le v
  rw [of_lt0] at h
  apply Int64.toInt_inj.mp
  unfold lN
  rw [Int32.toInt_toInt64, Int64.toInt_neg_ofNat_of_le (by omega)]
  unfold of_ab
  omega
theorem of_l64n {v : Int32} (h : v < 0) : - v.toInt64 = lN (of_ab v) := by
  rw [of_l64m h, Int64.neg_neg]
theorem of_rd {v : Int32} (h : ¬ v < 0) : (lN (of_ab v)).toInt32 = v := by
  rw [← of_l64 h, Int32.toInt32_toInt64]
theorem of_rdn {v : Int32} (h : v < 0) : (- lN (of_ab v)).toInt32 = v := by
  rw [← of_l64m h, Int32.toInt32_toInt64]
theorem of_l0 {v : Int32} : (0 : Int64) ≤ v.toInt64 ↔ ¬ v < 0 := by
  rw [Int64.le_iff_toInt_le, of_lt0, Int32.toInt_toInt64]
  show (0 : Int) ≤ v.toInt ↔ _
  omega
/-! ===== objects: none, or some (link?, value) ===== -/
abbrev of_X : Type := Bool × Int32
abbrev of_G : Type := Nat → Option (Bool × Int32)
abbrev of_D : Type := Nat → Option (Option (Bool × Int32))
def of_kd : Option (Bool × Int32) → Int32
  | none => 0
  | some (true, _) => 5
  | some (false, _) => 1
def of_om (x : Option (Bool × Int32)) (k s v vk : Int32) : Prop := match x with
  | none => k = 0 ∧ s = 0
  | some (true, w) => k = 5 ∧ s = 1 ∧ v = w ∧ vk = 2
  | some (false, w) => k = 1 ∧ s = 1 ∧ v = w ∧ vk = 0
def of_OM (g : of_G) (a1 a2 a3 a4 : Nat → Int32) : Prop := ∀ o, 1 ≤ o → o ≤ 8 → of_om (g o) (a1 o) (a2 o) (a3 (6 * o)) (a4 (6 * o))
def of_kc (x : of_X) : Nat := if x.1 then 53 else 49
def of_mc (x : of_X) : Nat := if x.1 then 64 else 35
def of_ot (x : of_X) : List Nat := of_kc x :: of_mc x :: (of_num x.2 ++ [44, 41])
theorem of_ot_len (x : of_X) : (of_ot x).length ≤ 15 ∧ 5 ≤ (of_ot x).length := by
  have h := of_num_len x.2
  unfold of_ot
  simp only [List.length_cons, List.length_append, List.length_nil]
  omega
/-- what a revision holds of the objects: for all or for the touched ones -/
def of_dl (al : Bool) (t : Nat → Bool) (g : of_G) : of_D := fun o => if al || t o then some (g o) else none
def of_ob (D : of_D) (o : Nat) : List Nat := match D o with
  | some (some x) => of_ot x
  | _ => []
def of_ts (D : of_D) : Nat → List Nat
  | 0 => []
  | k + 1 => of_ob D (8 - k) ++ of_ts D k
def of_po (D : of_D) : Nat → Nat → Nat → Nat
  | 0, _, _ => 0
  | k + 1, p, j => if j = 8 - k then p else of_po D k (p + (of_ob D (8 - k)).length) j
theorem of_ob_len (D : of_D) (o : Nat) : (of_ob D o).length ≤ 15 := by
  unfold of_ob
  split
  · exact (of_ot_len _).1
  · exact Nat.zero_le _
theorem of_ts_len (D : of_D) : ∀ k, (of_ts D k).length ≤ 15 * k
  | 0 => Nat.le_refl 0
  | k + 1 => by
    have h1 := of_ts_len D k
    have h2 := of_ob_len D (8 - k)
    simp only [of_ts, List.length_append]
    omega
theorem of_po_rg {D : of_D} {B : Nat → Int32} : ∀ (k p j : Nat), k ≤ 8 → 9 - k ≤ j → j ≤ 8 → of_rg B p (of_ts D k) → of_rg B (of_po D k p j) (of_ob D j) ∧ p ≤ of_po D k p j ∧ of_po D k p j + (of_ob D j).length ≤ p + (of_ts D k).length
  | 0, p, j, _, h1, h2, _ => by omega
  | k + 1, p, j, hk, h1, h2, g => by
    simp only [of_ts] at g
    rw [of_rg_app] at g
    unfold of_po
    simp only [of_ts, List.length_append]
    by_cases e : j = 8 - k
    · rw [if_pos e, e]
      exact ⟨g.1, by omega, by omega⟩
    · rw [if_neg e]
      have t := of_po_rg k (p + (of_ob D (8 - k)).length) j (by omega) (by omega) h2 g.2
      exact ⟨t.1, by omega, by omega⟩
theorem of_po_le {D : of_D} : ∀ (k p j : Nat), k ≤ 8 → 9 - k ≤ j → j ≤ 8 → of_po D k p j ≤ p + 15 * k
  | 0, p, j, _, h1, h2 => by omega
  | k + 1, p, j, hk, h1, h2 => by
    unfold of_po
    by_cases e : j = 8 - k
    · rw [if_pos e]; omega
    · rw [if_neg e]
      have t := of_po_le (D := D) k (p + (of_ob D (8 - k)).length) j (by omega) (by omega) h2
      have u := of_ob_len D (8 - k)
      omega
/-! ===== the list of a revision ===== -/
def of_le (D : of_D) (pl : Nat → Nat) (mk o : Nat) : List Nat := match D o with
  | none => []
  | some none => [48 + o, 45, 44]
  | some (some _) => (48 + o) :: mk :: (of_num (nI (pl o)) ++ [44])
def of_ls (D : of_D) (pl : Nat → Nat) (mk : Nat) (bf : Int32) : Nat → List Nat
  | 0 => 80 :: (of_num bf ++ [46])
  | k + 1 => of_le D pl mk (8 - k) ++ of_ls D pl mk bf k
theorem of_le_len (D : of_D) (pl : Nat → Nat) (mk o : Nat) : (of_le D pl mk o).length ≤ 14 := by
  unfold of_le
  split
  · exact Nat.zero_le _
  · exact (by decide : 3 ≤ 14)
  · have h := of_num_len (nI (pl o))
    simp only [List.length_cons, List.length_append, List.length_nil]
    omega
theorem of_ls_len (D : of_D) (pl : Nat → Nat) (mk : Nat) (bf : Int32) : ∀ k, (of_ls D pl mk bf k).length ≤ 13 + 14 * k
  | 0 => by
    have h := of_num_len bf
    simp only [of_ls, List.length_cons, List.length_append, List.length_nil]
    omega
  | k + 1 => by
    have h1 := of_ls_len D pl mk bf k
    have h2 := of_le_len D pl mk (8 - k)
    simp only [of_ls, List.length_append]
    omega
/-! ===== runs ===== -/
def of_ex : List (Nat × Nat) → List Nat
  | [] => []
  | (n, b) :: R => List.replicate n b ++ of_ex R
def of_fl : List (Nat × Nat) → List Nat
  | [] => []
  | (n, b) :: R => n :: b :: of_fl R
def of_rok (R : List (Nat × Nat)) : Prop := ∀ x, x ∈ R → 1 ≤ x.1 ∧ x.1 < 256 ∧ x.2 < 256
theorem of_fl_len : ∀ R, of_rok R → (of_fl R).length ≤ 2 * (of_ex R).length
  | [], _ => Nat.le_refl 0
  | (n, b) :: R, h => by
    have h1 := of_fl_len R (fun x hx => h x (List.mem_cons_of_mem _ hx))
    have h2 := h (n, b) List.mem_cons_self
    simp only [of_fl, of_ex, List.length_cons, List.length_append, List.length_replicate] at h2 ⊢
    omega
/-- the objects, packed, stand at the beginning -/
def of_pk (B : Nat → Int32) (L : Nat) (Z : List Nat) : Prop := Z.length ≤ 700 ∧ ∃ R, of_ex R = Z ∧ of_rok R ∧ of_rg B 0 (of_num (nI Z.length) ++ (58 :: of_fl R)) ∧ (of_num (nI Z.length) ++ (58 :: of_fl R)).length ≤ L
/-- a revision in the file: its list at q, its objects where the list says, bf the list before -/
def of_rv (B : Nat → Int32) (L : Nat) (Z : List Nat) (q : Nat) (D : of_D) (bf : Int32) : Prop := ∃ (pl : Nat → Nat) (mk : Nat), of_rg B q (of_ls D pl mk bf 8) ∧ q + (of_ls D pl mk bf 8).length ≤ L ∧
  ((mk = 43 ∧ ∀ o x, 1 ≤ o → o ≤ 8 → D o = some (some x) → of_rg B (pl o) (of_ot x) ∧ pl o + (of_ot x).length ≤ L) ∨
   (mk = 42 ∧ of_pk B L Z ∧ ∀ o x, 1 ≤ o → o ≤ 8 → D o = some (some x) → (∀ A : Nat → Int32, of_rg A 0 Z → of_rg A (pl o) (of_ot x)) ∧ pl o + (of_ot x).length ≤ Z.length))
def of_ch (B : Nat → Int32) (L : Nat) (Z : List Nat) : List of_D → Int32 → Prop
  | [], ptr => ptr = -1
  | D :: ds, ptr => ∃ (q : Nat) (bf : Int32), ptr = nI q ∧ of_rv B L Z q D bf ∧ of_ch B L Z ds bf
theorem of_pk_mono {B B' : Nat → Int32} {L L' : Nat} {Z : List Nat} (hB : ∀ i, i < L → B' i = B i) (hL : L ≤ L') (h : of_pk B L Z) : of_pk B' L' Z := by
  obtain ⟨h0, R, h1, h2, h3, h4⟩ := h
  exact ⟨h0, R, h1, h2, of_rg_ext _ _ (fun i _ hi => hB i (by omega)) h3, by omega⟩
theorem of_rv_mono {B B' : Nat → Int32} {L L' : Nat} {Z : List Nat} {q : Nat} {D : of_D} {bf : Int32} (hB : ∀ i, i < L → B' i = B i) (hL : L ≤ L') (h : of_rv B L Z q D bf) : of_rv B' L' Z q D bf := by
  obtain ⟨pl, mk, h1, h2, h3⟩ := h
  refine ⟨pl, mk, of_rg_ext _ _ (fun i _ hi => hB i (by omega)) h1, by omega, ?_⟩
  rcases h3 with ⟨e, h3⟩ | ⟨e, h4, h3⟩
  · refine Or.inl ⟨e, fun o x o1 o2 hx => ?_⟩
    obtain ⟨g1, g2⟩ := h3 o x o1 o2 hx
    exact ⟨of_rg_ext _ _ (fun i _ hi => hB i (by omega)) g1, by omega⟩
  · exact Or.inr ⟨e, of_pk_mono hB hL h4, h3⟩
theorem of_ch_mono {B B' : Nat → Int32} {L L' : Nat} {Z : List Nat} (hB : ∀ i, i < L → B' i = B i) (hL : L ≤ L') : ∀ (ds : List of_D) (ptr : Int32), of_ch B L Z ds ptr → of_ch B' L' Z ds ptr
  | [], _, h => h
  | D :: ds, _, ⟨q, bf, e, h1, h2⟩ => ⟨q, bf, e, of_rv_mono hB hL h1, of_ch_mono hB hL ds bf h2⟩
/-- what a chain of revisions (the newest first) says of the objects -/
def of_vw : List of_D → of_G
  | [], _ => none
  | D :: ds, o => match D o with
    | some x => x
    | none => of_vw ds o
end
section
section
variable {hn hf ln ll rv sl pt wl ts fr fs iu : Int32} {a1 a2 a3 a4 a5 a6 a7 a8 a9 a10 a11 a12 a13 a14 a15 : Nat → Int32}
/-- room for n more bytes -/
def of_rm (m p s n : Nat) : Prop := (m = 0 → p + n ≤ 3700) ∧ (m ≠ 0 → s + n ≤ 700)
/-- T was brought: to the half h from p on (w bytes at most are written), or to the scratch from s on -/
def of_W (m h : Nat) (T : List Nat) (s p w : Nat) (b c : Nat → Int32) (s' p' w' : Nat) (b' c' : Nat → Int32) : Prop :=
  (m = 0 → s' = s ∧ c' = c ∧ p' = p + T.length ∧ w' = w - T.length ∧ (∀ j, j < 3700 * h + p ∨ 3700 * h + p + T.length ≤ j → b' j = b j) ∧ (T.length ≤ w → of_rg (fun i => b' (3700 * h + i) &&& 255) p T)) ∧
  (m ≠ 0 → p' = p ∧ w' = w ∧ b' = b ∧ s' = s + T.length ∧ (∀ j, j < s ∨ s + T.length ≤ j → c' j = c j) ∧ of_rg c' s T)
theorem of_W_nil {m h s p w : Nat} {b c : Nat → Int32} : of_W m h [] s p w b c s p w b c :=
  ⟨fun _ => ⟨rfl, rfl, rfl, rfl, fun _ _ => rfl, fun _ => trivial⟩, fun _ => ⟨rfl, rfl, rfl, rfl, fun _ _ => rfl, trivial⟩⟩
theorem of_W_app {m h : Nat} {T U : List Nat} {s p w s1 p1 w1 s2 p2 w2 : Nat} {b c b1 c1 b2 c2 : Nat → Int32} (h1 : of_W m h T s p w b c s1 p1 w1 b1 c1) (h2 : of_W m h U s1 p1 w1 b1 c1 s2 p2 w2 b2 c2) : of_W m h (T ++ U) s p w b c s2 p2 w2 b2 c2 := by
  refine ⟨fun em => ?_, fun em => ?_⟩
  · obtain ⟨e1, e2, e3, e4, e5, e6⟩ := h1.1 em
    obtain ⟨f1, f2, f3, f4, f5, f6⟩ := h2.1 em
    subst e1 e2 e3 e4 f1 f2 f3 f4
    rw [List.length_append]
    refine ⟨rfl, rfl, by omega, by omega, fun j hj => ?_, fun hw => ?_⟩
    · rw [f5 j (by omega), e5 j (by omega)]
    · rw [of_rg_app]
      refine ⟨of_rg_ext _ _ (fun i i1 i2 => ?_) (e6 (by omega)), f6 (by omega)⟩
      show b2 (3700 * h + i) &&& 255 = b1 (3700 * h + i) &&& 255
      rw [f5 _ (by omega)]
  · obtain ⟨e1, e2, e3, e4, e5, e6⟩ := h1.2 em
    obtain ⟨f1, f2, f3, f4, f5, f6⟩ := h2.2 em
    subst e1 e2 e3 e4 f1 f2 f3 f4
    rw [List.length_append]
    refine ⟨rfl, rfl, rfl, by omega, fun j hj => ?_, ?_⟩
    · rw [f5 j (by omega), e5 j (by omega)]
    · rw [of_rg_app]
      refine ⟨of_rg_ext _ _ (fun i i1 i2 => ?_) e6, f6⟩
      rw [f5 _ (by omega)]
theorem of_W_w {m h : Nat} {T : List Nat} {s p w s1 p1 w1 : Nat} {b c b1 c1 : Nat → Int32} (h1 : of_W m h T s p w b c s1 p1 w1 b1 c1) : w1 ≤ w := by
  by_cases em : m = 0
  · have := (h1.1 em).2.2.2.1
    omega
  · have := (h1.2 em).2.1
    omega
theorem of_rm_st {m h : Nat} {T : List Nat} {s p w s1 p1 w1 k n : Nat} {b c b1 c1 : Nat → Int32} (h1 : of_W m h T s p w b c s1 p1 w1 b1 c1) (hr : of_rm m p s n) (hT : T.length + k ≤ n) : of_rm m p1 s1 k := by
  refine ⟨fun em => ?_, fun em => ?_⟩
  · have := (h1.1 em).2.2.1
    have := hr.1 em
    omega
  · have := (h1.2 em).2.2.2.1
    have := hr.2 em
    omega
theorem of_rm_le {m p s k n : Nat} (hr : of_rm m p s n) (h : k ≤ n) : of_rm m p s k := ⟨fun em => by have := hr.1 em; omega, fun em => by have := hr.2 em; omega⟩
theorem of_ix (h p : Nat) : (3700 : Int32) * nI h + nI p = nI (3700 * h + p) := by
  rw [show (3700 : Int32) = nI 3700 from rfl, pk_mul, nI_add]
theorem of_pred {w : Nat} (h : 0 < w) : nI w - 1 = nI (w - 1) := by
  rw [show (1 : Int32) = nI 1 from rfl, pk_sub (by omega)]
theorem of_bring {post : St2 → Prop} {m h s p w : Nat} {b : Int32} (c : Nat) (hm : m ≤ 1) (hh : h ≤ 1) (hr : of_rm m p s 1) (hw : w ≤ 3700) (H : ∀ s' p' w' b7 b9, of_W m h [c] s p w a7 a9 s' p' w' b7 b9 → post (hn, nI h, ln, ll, rv, nI s', nI p', nI w', nI m, fr, fs, iu, a1, a2, a3, a4, a5, a6, b7, a8, b9, a10, a11, a12, a13, a14, a15)) (hb : b = nI c := by rfl) (hc : c < 256 := by omega) : wpX_bring post (hn, nI h, ln, ll, rv, nI s, nI p, nI w, nI m, fr, fs, iu, a1, a2, a3, a4, a5, a6, a7, a8, a9, a10, a11, a12, a13, a14, a15) b := by
  subst hb
  refine pk_eq m 0 (fun em => ?_) (fun em => ?_)
  · have r := hr.1 em
    have hp : 3700 * h + p < 7400 := by omega
    refine pk_le w 0 (fun ew => nm_r (nI_1 p) (H s (p + 1) w a7 a9 ?_)) (fun ew => ⟨pk_in (3700 * h + p) 7400 hp (of_ix h p), ?_⟩)
    · refine ⟨fun _ => ⟨rfl, rfl, rfl, ?_, fun _ _ => rfl, fun hl => ?_⟩, fun z => absurd em z⟩
      · show w = w - 1
        omega
      · have hl' : 1 ≤ w := hl
        omega
    · rw [pk_cl (3700 * h + p) (of_ix h p) (by omega)]
      refine nm_e (nm_r (of_pred ew) (nm_r (nI_1 p) (H s (p + 1) (w - 1) _ a9 ?_)))
      refine ⟨fun _ => ⟨rfl, rfl, rfl, rfl, fun j hj => ?_, fun _ => ⟨?_, trivial⟩⟩, fun z => absurd em z⟩
      · have hj' : j < 3700 * h + p ∨ 3700 * h + p + 1 ≤ j := hj
        exact pk_un (by omega)
      · show upd a7 (3700 * h + p) (nI c).toInt8.toInt32 (3700 * h + p) &&& 255 = nI c
        rw [pk_us]
        exact sc_k8 c hc
  · have r := hr.2 em
    refine ⟨pk_in s 700 (by omega), ?_⟩
    rw [nI_clamp (show s < 2 ^ 31 by omega)]
    refine nm_e (nm_r (nI_1 s) (H (s + 1) p w a7 _ ?_))
    refine ⟨fun z => absurd z em, fun _ => ⟨rfl, rfl, rfl, rfl, fun j hj => ?_, ⟨pk_us, trivial⟩⟩⟩
    have hj' : j < s ∨ s + 1 ≤ j := hj
    exact pk_un (by omega)
/-! ===== a number ===== -/
theorem of_n43 {post : St2 → Prop} {m h r : Nat} (hm : m ≤ 1) (hh : h ≤ 1) (hr : r < 10000000000) : ∀ (K : Nat) (s p w : Nat) (a7 a9 : Nat → Int32), K ≤ 10 → of_rm m p s K → w ≤ 3700 →
    (∀ s' p' w' b7 b9, of_W m h (of_dg r K) s p w a7 a9 s' p' w' b7 b9 → post (hn, nI h, ln, ll, rv, nI s', nI p', nI w', nI m, fr, fs, iu, a1, a2, a3, a4, a5, a6, b7, a8, b9, a10, a11, a12, a13, a14, a15)) →
    wX_bringNumber_43 post (lN r) (K + 1) (lN (if K = 0 then 0 else 10 ^ (K - 1))) hn (nI h) ln ll rv (nI s) (nI p) (nI w) (nI m) fr fs iu a1 a2 a3 a4 a5 a6 a7 a8 a9 a10 a11 a12 a13 a14 a15
  | 0, s, p, w, a7, a9, _, _, _, H => br_t (by decide) (H s p w a7 a9 of_W_nil)
  | K + 1, s, p, w, a7, a9, hK, hR, hw, H => by
    have hP : 10 ^ K < 10000000000 := Nat.lt_of_le_of_lt (Nat.pow_le_pow_right (by decide) (show K ≤ 9 by omega)) (by decide)
    have hP0 : 0 < 10 ^ K := Nat.pow_pos (by decide)
    rw [if_neg (Nat.succ_ne_zero K), Nat.add_sub_cancel]
    have hd : r / 10 ^ K ≤ r := Nat.div_le_self _ _
    have e : (48 : Int32) + ((lN r / lN (10 ^ K)) - (lN r / lN (10 ^ K)) / 10 * 10).toInt32 = nI (48 + r / 10 ^ K % 10) := by
      rw [pk_lDiv (by omega) hP0 (by omega), show (10 : Int64) = lN 10 from rfl, pk_lRem (by omega) (by decide) (by decide), lN_i, show (48 : Int32) = nI 48 from rfl, nI_add]
    have e2 : lN (10 ^ K) / 10 = lN (if K = 0 then 0 else 10 ^ (K - 1)) := by
      rw [show (10 : Int64) = lN 10 from rfl, pk_lDiv (by omega) (by decide) (by decide)]
      congr 1
      cases K with
      | zero => rfl
      | succ j => rw [if_neg (Nat.succ_ne_zero j), Nat.add_sub_cancel, Nat.pow_succ, Nat.mul_div_cancel _ (by decide)]
    have hz : ¬ lN (10 ^ K) ≤ 0 := fun z => by
      have := (pk_lLE (a := 10 ^ K) (b := 0) (by omega) (by decide)).mp z
      omega
    have hz2 : ¬ lN (10 ^ K) = 0 := fun z => by
      have := (pk_lEQ (a := 10 ^ K) (b := 0) (by omega) (by decide)).mp z
      omega
    refine br_f hz ⟨hz2, by decide, ?_⟩
    refine of_bring (48 + r / 10 ^ K % 10) hm hh (of_rm_le hR (by omega)) hw (fun s1 p1 w1 b7 b9 h1 => ⟨by decide, nm_r e2 ?_⟩) e
    have := of_W_w h1
    refine of_n43 hm hh hr K s1 p1 w1 b7 b9 (by omega) (of_rm_st h1 hR (by simp only [List.length_cons, List.length_nil]; omega)) (by omega) (fun s' p' w' c7 c9 h2 => H s' p' w' c7 c9 (of_W_app h1 h2))
theorem of_n21 {post : St2 → Prop} {x2 : Int64} {r : Nat} (hr : r < 10000000000) (hx : x2 = lN r) (H : ∃ fu, wX_bringNumber_43 post x2 fu (lN (10 ^ (of_nd r - 1))) hn hf ln ll rv sl pt wl ts fr fs iu a1 a2 a3 a4 a5 a6 a7 a8 a9 a10 a11 a12 a13 a14 a15) : ∀ (j k : Nat), k + j + 1 = of_nd r → wX_bringNumber_21 post x2 hn hf ln ll rv sl pt wl ts fr fs iu a1 a2 a3 a4 a5 a6 a7 a8 a9 a10 a11 a12 a13 a14 a15 (j + 1) (lN (10 ^ k)) := by
  have hn := of_nd_ok hr
  have hP : 10 ^ of_nd r ≤ 10000000000 := Nat.pow_le_pow_right (by decide) hn.2.1 |> fun h => Nat.le_trans h (by decide)
  subst hx
  intro j
  induction j with
  | zero =>
    intro k hk
    have e : lN (10 ^ k) * 10 = lN (10 ^ (k + 1)) := by
      rw [show (10 : Int64) = lN 10 from rfl, lN_mul, Nat.pow_succ]
    have ek : k + 1 = of_nd r := by omega
    refine br_t ?_ ?_
    · rw [e, ek]
      exact (pk_lLT (by omega) (by omega)).mpr hn.2.2.1
    · rw [← ek, Nat.add_sub_cancel] at H
      exact H
  | succ j ih =>
    intro k hk
    have e : lN (10 ^ k) * 10 = lN (10 ^ (k + 1)) := by
      rw [show (10 : Int64) = lN 10 from rfl, lN_mul, Nat.pow_succ]
    have hle := hn.2.2.2 k (by omega)
    refine br_f ?_ (nm_r e (ih (k + 1) (by omega)))
    rw [e]
    intro z
    have := (pk_lLT (by omega) (by omega)).mp z
    omega
theorem of_bNum {post : St2 → Prop} {m h s p w : Nat} (v : Int32) (hm : m ≤ 1) (hh : h ≤ 1) (hr : of_rm m p s (of_num v).length) (hw : w ≤ 3700) (H : ∀ s' p' w' b7 b9, of_W m h (of_num v) s p w a7 a9 s' p' w' b7 b9 → post (hn, nI h, ln, ll, rv, nI s', nI p', nI w', nI m, fr, fs, iu, a1, a2, a3, a4, a5, a6, b7, a8, b9, a10, a11, a12, a13, a14, a15)) : wpX_bringNumber post (hn, nI h, ln, ll, rv, nI s, nI p, nI w, nI m, fr, fs, iu, a1, a2, a3, a4, a5, a6, a7, a8, a9, a10, a11, a12, a13, a14, a15) v := by
  have hn := of_nd_ok (of_ab_lt v)
  have hn0 : ¬ of_nd (of_ab v) = 0 := by omega
  by_cases hv : v < 0
  · have eT : of_num v = [45] ++ of_dg (of_ab v) (of_nd (of_ab v)) := by unfold of_num; rw [if_pos hv]
    have hl : (of_num v).length = 1 + of_nd (of_ab v) := by
      rw [eT, List.length_append, of_dg_len]
      rfl
    refine br_f (fun z => of_l0.mp z hv) ?_
    refine of_bring 45 hm hh (of_rm_le hr (by omega)) hw (fun s1 p1 w1 b7 b9 h1 => nm_r (of_l64n hv) ⟨of_nd (of_ab v) - 1 + 1, ?_⟩)
    have := of_W_w h1
    refine of_n21 (of_ab_lt v) rfl ⟨of_nd (of_ab v) + 1, ?_⟩ (of_nd (of_ab v) - 1) 0 (by omega)
    have t := of_n43 (post := post) (r := of_ab v) hm hh (of_ab_lt v) (of_nd (of_ab v)) s1 p1 w1 b7 b9 hn.2.1 (of_rm_st h1 hr (by simp only [List.length_cons, List.length_nil]; omega)) (by omega) (fun s' p' w' c7 c9 h2 => H s' p' w' c7 c9 (eT ▸ of_W_app h1 h2))
    rw [if_neg hn0] at t
    exact t
  · have eT : of_num v = of_dg (of_ab v) (of_nd (of_ab v)) := by unfold of_num; rw [if_neg hv]; rfl
    have hl : (of_num v).length = of_nd (of_ab v) := by
      rw [eT, of_dg_len]
    refine br_t (of_l0.mpr hv) ⟨of_nd (of_ab v) - 1 + 1, ?_⟩
    rw [of_l64 hv]
    refine of_n21 (of_ab_lt v) rfl ⟨of_nd (of_ab v) + 1, ?_⟩ (of_nd (of_ab v) - 1) 0 (by omega)
    have t := of_n43 (post := post) (r := of_ab v) hm hh (of_ab_lt v) (of_nd (of_ab v)) s p w a7 a9 hn.2.1 (by rw [← hl]; exact hr) hw (fun s' p' w' c7 c9 h2 => H s' p' w' c7 c9 (eT ▸ h2))
    rw [if_neg hn0] at t
    exact t
end
end
section
section
variable {hn hf ln ll rv sl pt wl ts fr fs iu : Int32} {a1 a2 a3 a4 a5 a6 a7 a8 a9 a10 a11 a12 a13 a14 a15 : Nat → Int32}
theorem of_bVal {post : St2 → Prop} {m h s p w o : Nat} (x : of_X) (hm : m ≤ 1) (hh : h ≤ 1) (ho : o ≤ 8) (h4 : a4 (6 * o) = if x.1 then 2 else 0) (h3 : a3 (6 * o) = x.2) (hr : of_rm m p s (1 + (of_num x.2).length)) (hw : w ≤ 3700) (H : ∀ s' p' w' b7 b9, of_W m h (of_mc x :: of_num x.2) s p w a7 a9 s' p' w' b7 b9 → post (hn, nI h, ln, ll, rv, nI s', nI p', nI w', nI m, fr, fs, iu, a1, a2, a3, a4, a5, a6, b7, a8, b9, a10, a11, a12, a13, a14, a15)) {q : Int32} (hq : q = nI (6 * o)) : wpX_bringValue post (hn, nI h, ln, ll, rv, nI s, nI p, nI w, nI m, fr, fs, iu, a1, a2, a3, a4, a5, a6, a7, a8, a9, a10, a11, a12, a13, a14, a15) q := by
  subst hq
  have hi : vp_in (nI (6 * o)) 54 := pk_in (6 * o) 54 (by omega)
  have hc : (nI (6 * o)).toNatClampNeg = 6 * o := nI_clamp (by omega)
  have t82 : ∀ c : Int32, c = nI (of_mc x) → of_mc x < 256 → wX_bringValue_82 post (nI (6 * o)) c hn (nI h) ln ll rv (nI s) (nI p) (nI w) (nI m) fr fs iu a1 a2 a3 a4 a5 a6 a7 a8 a9 a10 a11 a12 a13 a14 a15 := by
    intro c ec hb
    unfold wX_bringValue_82
    refine of_bring (of_mc x) hm hh (of_rm_le hr (by omega)) hw (fun s1 p1 w1 b7 b9 h1 => ⟨hi, ?_⟩) ec hb
    have := of_W_w h1
    rw [hc, h3]
    exact of_bNum x.2 hm hh (of_rm_st h1 hr (by simp only [List.length_cons, List.length_nil]; omega)) (by omega) (fun s2 p2 w2 c7 c9 h2 => H s2 p2 w2 c7 c9 (of_W_app h1 h2))
  obtain ⟨b, v⟩ := x
  cases b with
  | true =>
    have h4' : a4 (6 * o) = 2 := h4
    refine ⟨hi, br_f (by rw [hc, h4']; decide) ⟨hi, br_t (by rw [hc, h4']) (t82 64 rfl (show 64 < 256 by decide))⟩⟩
  | false =>
    have h4' : a4 (6 * o) = 0 := h4
    refine ⟨hi, br_f (by rw [hc, h4']; decide) ⟨hi, br_f (by rw [hc, h4']; decide) ⟨hi, br_f (by rw [hc, h4']; decide) (t82 35 rfl (show 35 < 256 by decide))⟩⟩⟩
theorem of_om_s {x : of_X} {k s v vk : Int32} (h : of_om (some x) k s v vk) : k = (if x.1 then 5 else 1) ∧ s = 1 ∧ v = x.2 ∧ vk = (if x.1 then 2 else 0) := by
  obtain ⟨b, w⟩ := x
  cases b with
  | true => exact h
  | false => exact h
theorem of_om_n {k s v vk : Int32} (h : of_om none k s v vk) : k = 0 ∧ s = 0 := h
theorem of_om_i {x : of_X} {k s v vk : Int32} (h1 : k = (if x.1 then 5 else 1)) (h2 : s = 1) (h3 : v = x.2) (h4 : vk = (if x.1 then 2 else 0)) : of_om (some x) k s v vk := by
  obtain ⟨b, w⟩ := x
  cases b with
  | true => exact ⟨h1, h2, h3, h4⟩
  | false => exact ⟨h1, h2, h3, h4⟩
theorem of_k45 {b : Bool} : ¬ (if b then (5 : Int32) else 1) = 4 ∧ ¬ (if b then (5 : Int32) else 1) = 2 ∧ ¬ (if b then (5 : Int32) else 1) = 0 := by
  cases b <;> decide
theorem of_bObj {post : St2 → Prop} {m h s p w o : Nat} (x : of_X) (hm : m ≤ 1) (hh : h ≤ 1) (ho : o ≤ 8) (hom : of_om (some x) (a1 o) (a2 o) (a3 (6 * o)) (a4 (6 * o))) (hr : of_rm m p s (of_ot x).length) (hw : w ≤ 3700) (H : ∀ s' p' w' b7 b9, of_W m h (of_ot x) s p w a7 a9 s' p' w' b7 b9 → post (hn, nI h, ln, ll, rv, nI s', nI p', nI w', nI m, fr, fs, iu, a1, a2, a3, a4, a5, a6, b7, a8, b9, a10, a11, a12, a13, a14, a15)) : wpX_bringObject post (hn, nI h, ln, ll, rv, nI s, nI p, nI w, nI m, fr, fs, iu, a1, a2, a3, a4, a5, a6, a7, a8, a9, a10, a11, a12, a13, a14, a15) (nI o) := by
  obtain ⟨e1, e2, e3, e4⟩ := of_om_s hom
  have hi : vp_in (nI o) 9 := pk_in o 9 (by omega)
  have hc : (nI o).toNatClampNeg = o := nI_clamp (by omega)
  have hk : (48 : Int32) + a1 (nI o).toNatClampNeg = nI (of_kc x) := by
    rw [hc, e1]
    unfold of_kc
    split <;> rfl
  have hk2 : of_kc x < 256 := by
    unfold of_kc
    split <;> decide
  have hl : (of_ot x).length = 4 + (of_num x.2).length := by
    unfold of_ot
    simp only [List.length_cons, List.length_append, List.length_nil]
    omega
  have k1 := (of_k45 (b := x.1)).1
  have k2 := (of_k45 (b := x.1)).2.1
  refine ⟨hi, of_bring (of_kc x) hm hh (of_rm_le hr (by omega)) hw (fun s1 p1 w1 b7 b9 h1 => ⟨2, ?_⟩) hk hk2⟩
  have w1' := of_W_w h1
  have r1 := of_rm_st (k := 3 + (of_num x.2).length) h1 hr (by simp only [List.length_cons, List.length_nil]; omega)
  refine ⟨hi, br_f (by rw [hc, e2]; decide) ⟨hi, br_f (by rw [hc, e1]; exact k1) ?_⟩⟩
  unfold wX_bringObject_56
  refine of_bVal x hm hh ho e4 e3 (of_rm_le r1 (by omega)) (by omega) (fun s2 p2 w2 c7 c9 h2 => ⟨hi, br_f (by rw [hc, e1]; exact k2) ?_⟩) (by rw [show (6 : Int32) = nI 6 from rfl, pk_mul, show (0 : Int32) = nI 0 from rfl, nI_add]; rfl)
  have w2' := of_W_w h2
  have r2 := of_rm_st (k := 2) h2 r1 (by simp only [List.length_cons]; omega)
  refine of_bring 44 hm hh (of_rm_le r2 (by omega)) (by omega) (fun s3 p3 w3 d7 d9 h3 => nm_e ⟨hi, br_t (by rw [hc, e2]; decide) ?_⟩)
  have w3' := of_W_w h3
  have r3 := of_rm_st (k := 1) h3 r2 (by simp only [List.length_cons, List.length_nil]; omega)
  refine of_bring 41 hm hh r3 (by omega) (fun s4 p4 w4 f7 f9 h4 => H s4 p4 w4 f7 f9 ?_)
  have t := of_W_app h1 (of_W_app h2 (of_W_app h3 h4))
  have eT : of_ot x = [of_kc x] ++ ((of_mc x :: of_num x.2) ++ ([44] ++ [41])) := by
    unfold of_ot
    simp only [List.cons_append, List.nil_append]
  rw [eT]
  exact t
def of_pv (D : of_D) (pl : Nat → Nat) (j : Nat) : Int32 := match D j with
  | some (some _) => nI (pl j)
  | _ => -1
theorem of_pv_s {D : of_D} {pl : Nat → Nat} {j : Nat} {x : of_X} (h : D j = some (some x)) : of_pv D pl j = nI (pl j) := by unfold of_pv; rw [h]
theorem of_pv_n {D : of_D} {pl : Nat → Nat} {j : Nat} (h : D j = some none) : of_pv D pl j = -1 := by unfold of_pv; rw [h]
theorem of_pv_0 {D : of_D} {pl : Nat → Nat} {j : Nat} (h : D j = none) : of_pv D pl j = -1 := by unfold of_pv; rw [h]
theorem of_pv_e {D : of_D} {pl pl' : Nat → Nat} {j : Nat} (h : pl j = pl' j) : of_pv D pl j = of_pv D pl' j := by
  unfold of_pv
  rw [h]
def of_bs (m p s : Nat) : Nat := if m = 0 then p else s
theorem of_bs_st {m h : Nat} {T : List Nat} {s p w s1 p1 w1 : Nat} {b c b1 c1 : Nat → Int32} (h1 : of_W m h T s p w b c s1 p1 w1 b1 c1) : of_bs m p1 s1 = of_bs m p s + T.length := by
  unfold of_bs
  by_cases em : m = 0
  · rw [if_pos em, if_pos em]
    exact (h1.1 em).2.2.1
  · rw [if_neg em, if_neg em]
    exact (h1.2 em).2.2.2.1
theorem of_po_s {D : of_D} {k p j : Nat} (h : 9 - k ≤ j) (hk : k < 8) : of_po D (k + 1) p j = of_po D k (p + (of_ob D (8 - k)).length) j := by
  show (if j = 8 - k then p else of_po D k (p + (of_ob D (8 - k)).length) j) = _
  rw [if_neg (by omega)]
theorem of_po_h {D : of_D} {k p : Nat} : of_po D (k + 1) p (8 - k) = p := by
  show (if 8 - k = 8 - k then p else of_po D k (p + (of_ob D (8 - k)).length) (8 - k)) = _
  rw [if_pos rfl]
theorem of_b28 {post : St2 → Prop} {m h : Nat} {x1 : Int32} {J : Int32 → Int32 → Int32 → Int32 → Int32 → Int32 → Int32 → Int32 → Int32 → Int32 → Int32 → Int32 → Int32 → (Nat → Int32) → (Nat → Int32) → (Nat → Int32) → (Nat → Int32) → (Nat → Int32) → (Nat → Int32) → (Nat → Int32) → (Nat → Int32) → (Nat → Int32) → (Nat → Int32) → (Nat → Int32) → (Nat → Int32) → (Nat → Int32) → (Nat → Int32) → (Nat → Int32) → Prop} {g : of_G} {o s p w : Nat} (hm : m ≤ 1) (hh : h ≤ 1) (ho : 1 ≤ o) (ho8 : o ≤ 8) (hOM : of_OM g a1 a2 a3 a4) (hr : of_rm m p s 15) (hw : w ≤ 3700)
    (H0 : g o = none → J (nI (o + 1)) hn (nI h) ln ll rv (nI s) (nI p) (nI w) (nI m) fr fs iu a1 a2 a3 a4 a5 a6 a7 a8 a9 a10 a11 a12 a13 a14 a15)
    (H1 : ∀ x s' p' w' b7 b9, g o = some x → of_W m h (of_ot x) s p w a7 a9 s' p' w' b7 b9 → J (nI (o + 1)) hn (nI h) ln ll rv (nI s') (nI p') (nI w') (nI m) fr fs iu a1 a2 a3 a4 a5 a6 b7 a8 b9 (upd a10 o (nI (of_bs m p s))) a11 a12 a13 a14 a15) :
    wX_bringObjects_28 post J x1 (nI o) hn (nI h) ln ll rv (nI s) (nI p) (nI w) (nI m) fr fs iu a1 a2 a3 a4 a5 a6 a7 a8 a9 a10 a11 a12 a13 a14 a15 := by
  have hi : vp_in (nI o) 9 := pk_in o 9 (by omega)
  have hc : (nI o).toNatClampNeg = o := nI_clamp (by omega)
  have ho' := hOM o ho ho8
  unfold wX_bringObjects_28
  rw [hc]
  cases hg : g o with
  | none =>
    rw [hg] at ho'
    exact ⟨hi, br_t (of_om_n ho').1 (nm_r (nI_1 o) (H0 hg))⟩
  | some x =>
    rw [hg] at ho'
    have e1 := (of_om_s ho').1
    refine ⟨hi, br_f (by rw [e1]; exact (of_k45 (b := x.1)).2.2) ?_⟩
    have key : ∀ r : Int32, r = nI (of_bs m p s) → (vp_in (nI o) 9 ∧ ∀ a10_10 : Nat → Int32, a10_10 = upd a10 o r → wpX_bringObject (fun u => match u with | (hnz, hfz, lnz, llz, rvz, slz, ptz, wlz, tsz, frz, fsz, iuz, a1z, a2z, a3z, a4z, a5z, a6z, a7z, a8z, a9z, a10z, a11z, a12z, a13z, a14z, a15z) => ∀ x2_69 : Int32, x2_69 = nI o + 1 → J x2_69 hnz hfz lnz llz rvz slz ptz wlz tsz frz fsz iuz a1z a2z a3z a4z a5z a6z a7z a8z a9z a10z a11z a12z a13z a14z a15z) (hn, nI h, ln, ll, rv, nI s, nI p, nI w, nI m, fr, fs, iu, a1, a2, a3, a4, a5, a6, a7, a8, a9, a10_10, a11, a12, a13, a14, a15) (nI o)) := by
      intro r er
      subst er
      refine ⟨hi, nm_e ?_⟩
      refine of_bObj x hm hh ho8 ho' (of_rm_le hr (of_ot_len x).1) hw (fun s' p' w' b7 b9 h1 => nm_r (nI_1 o) (H1 x s' p' w' b7 b9 hg h1))
    refine pk_eq m 0 (fun em => key _ ?_) (fun em => key _ ?_)
    · unfold of_bs; rw [if_pos em]
    · unfold of_bs; rw [if_neg em]
theorem of_dl_y {al : Bool} {t : Nat → Bool} {g : of_G} {o : Nat} (h : (al || t o) = true) : of_dl al t g o = some (g o) := by unfold of_dl; rw [if_pos h]
theorem of_dl_n {al : Bool} {t : Nat → Bool} {g : of_G} {o : Nat} (h : (al || t o) = false) : of_dl al t g o = none := by unfold of_dl; rw [h]; rfl
theorem of_ob_s {D : of_D} {o : Nat} {x : of_X} (h : D o = some (some x)) : of_ob D o = of_ot x := by unfold of_ob; rw [h]
theorem of_ob_n {D : of_D} {o : Nat} (h : D o = some none) : of_ob D o = [] := by unfold of_ob; rw [h]
theorem of_ob_0 {D : of_D} {o : Nat} (h : D o = none) : of_ob D o = [] := by unfold of_ob; rw [h]
theorem of_bOs {post : St2 → Prop} {m h : Nat} {al : Bool} {t : Nat → Bool} {g : of_G} {x1 : Int32} (hx : x1 = if al then 1 else 0) (hm : m ≤ 1) (hh : h ≤ 1) (hOM : of_OM g a1 a2 a3 a4) (ht : ∀ o, 1 ≤ o → o ≤ 8 → a6 o = if t o then 1 else 0) : ∀ (k s p w : Nat) (a7 a9 a10 : Nat → Int32), k ≤ 8 → of_rm m p s (15 * k) → w ≤ 3700 →
    (∀ s' p' w' b7 b9 b10, of_W m h (of_ts (of_dl al t g) k) s p w a7 a9 s' p' w' b7 b9 → (∀ j, 9 - k ≤ j → j ≤ 8 → b10 j = of_pv (of_dl al t g) (of_po (of_dl al t g) k (of_bs m p s)) j) → (∀ j, j < 9 - k → b10 j = a10 j) → post (hn, nI h, ln, ll, rv, nI s', nI p', nI w', nI m, fr, fs, iu, a1, a2, a3, a4, a5, a6, b7, a8, b9, b10, a11, a12, a13, a14, a15)) →
    wX_bringObjects_2 post x1 (k + 1) (nI (9 - k)) hn (nI h) ln ll rv (nI s) (nI p) (nI w) (nI m) fr fs iu a1 a2 a3 a4 a5 a6 a7 a8 a9 a10 a11 a12 a13 a14 a15
  | 0, s, p, w, a7, a9, a10, _, _, _, H => br_t (by decide) (H s p w a7 a9 a10 of_W_nil (fun j h1 h2 => by omega) (fun _ _ => rfl))
  | k + 1, s, p, w, a7, a9, a10, hk, hr, hw, H => by
    rw [show 9 - (k + 1) = 8 - k by omega] at H ⊢
    have h9 : 9 - k = 8 - k + 1 := by omega
    have hi : vp_in (nI (8 - k)) 9 := pk_in (8 - k) 9 (by omega)
    have hc : (nI (8 - k)).toNatClampNeg = 8 - k := nI_clamp (by omega)
    have skip : of_ob (of_dl al t g) (8 - k) = [] → of_pv (of_dl al t g) (of_po (of_dl al t g) (k + 1) (of_bs m p s)) (8 - k) = -1 → wX_bringObjects_2 post x1 (k + 1) (nI (8 - k + 1)) hn (nI h) ln ll rv (nI s) (nI p) (nI w) (nI m) fr fs iu a1 a2 a3 a4 a5 a6 a7 a8 a9 (upd a10 (8 - k) (-1)) a11 a12 a13 a14 a15 := by
      intro eb ev
      rw [← h9]
      refine of_bOs hx hm hh hOM ht k s p w a7 a9 _ (by omega) (of_rm_le hr (by omega)) hw (fun s' p' w' b7 b9 b10 g1 g2 g3 => ?_)
      refine H s' p' w' b7 b9 b10 ?_ (fun j j1 j2 => ?_) (fun j hj => ?_)
      · simp only [of_ts, eb, List.nil_append]
        exact g1
      · by_cases ej : j = 8 - k
        · rw [ej, g3 _ (by omega), pk_us, ev]
        · rw [g2 j (by omega) j2]
          apply of_pv_e
          rw [of_po_s (by omega) (by omega), eb]
          rfl
      · rw [g3 j (by omega), pk_un (by omega)]
    have take : (al || t (8 - k)) = true → wX_bringObjects_28 post (wX_bringObjects_2 post x1 (k + 1)) x1 (nI (8 - k)) hn (nI h) ln ll rv (nI s) (nI p) (nI w) (nI m) fr fs iu a1 a2 a3 a4 a5 a6 a7 a8 a9 (upd a10 (8 - k) (-1)) a11 a12 a13 a14 a15 := by
      intro hy
      have hD := of_dl_y (g := g) hy
      refine of_b28 hm hh (by omega) (by omega) hOM (of_rm_le hr (by omega)) hw (fun hg => ?_) (fun x s1 p1 w1 c7 c9 hg h1 => ?_)
      · rw [hg] at hD
        exact skip (of_ob_n hD) (of_pv_n hD)
      · rw [hg] at hD
        have eb := of_ob_s hD
        have hl := (of_ot_len x).1
        have w1' := of_W_w h1
        rw [← h9]
        refine of_bOs hx hm hh hOM ht k s1 p1 w1 c7 c9 _ (by omega) (of_rm_st h1 hr (by omega)) (by omega) (fun s' p' w' b7 b9 b10 g1 g2 g3 => ?_)
        refine H s' p' w' b7 b9 b10 ?_ (fun j j1 j2 => ?_) (fun j hj => ?_)
        · simp only [of_ts, eb]
          exact of_W_app h1 g1
        · by_cases ej : j = 8 - k
          · rw [ej, g3 _ (by omega), pk_us, of_pv_s hD, of_po_h]
          · rw [g2 j (by omega) j2]
            apply of_pv_e
            rw [of_po_s (by omega) (by omega), eb, of_bs_st h1]
        · rw [g3 j (by omega), pk_un (by omega), pk_un (by omega)]
    refine pk_lt 8 (8 - k) (fun z => by omega) (fun _ => ⟨hi, ?_⟩)
    rw [hc]
    refine nm_e ?_
    cases al with
    | true =>
      have hx' : x1 = 1 := hx
      exact br_f (by rw [hx']; decide) (take rfl)
    | false =>
      have hx' : x1 = 0 := hx
      have h6 := ht (8 - k) (by omega) (by omega)
      refine br_t hx' ⟨hi, ?_⟩
      cases e : t (8 - k) with
      | true =>
        rw [e] at h6
        have h6' : a6 (8 - k) = 1 := h6
        exact br_f (by rw [h6']; decide) (take e)
      | false =>
        rw [e] at h6
        have h6' : a6 (8 - k) = 0 := h6
        have hD := of_dl_n (al := false) (t := t) (g := g) e
        exact br_t h6' (nm_r (nI_1 (8 - k)) (skip (of_ob_0 hD) (of_pv_0 hD)))
end
end
section
section
variable {hn hf ln ll rv sl pt wl ts fr fs iu : Int32} {a1 a2 a3 a4 a5 a6 a7 a8 a9 a10 a11 a12 a13 a14 a15 : Nat → Int32}
theorem of_b24 {post : St2 → Prop} {m h : Nat} {x1 x2 x3 : Int32} {J : Int32 → Int32 → Int32 → Int32 → Int32 → Int32 → Int32 → Int32 → Int32 → Int32 → Int32 → Int32 → Int32 → (Nat → Int32) → (Nat → Int32) → (Nat → Int32) → (Nat → Int32) → (Nat → Int32) → (Nat → Int32) → (Nat → Int32) → (Nat → Int32) → (Nat → Int32) → (Nat → Int32) → (Nat → Int32) → (Nat → Int32) → (Nat → Int32) → (Nat → Int32) → (Nat → Int32) → Prop} {o s p w : Nat} {T : List Nat} {mk P : Nat} (hm : m ≤ 1) (hh : h ≤ 1) (ho : 1 ≤ o) (ho8 : o ≤ 8) (hmk : (x2 = 0 ∧ mk = 43) ∨ (¬ x2 = 0 ∧ mk = 42)) (hP : P < 2 ^ 31) (hT : (a10 o = -1 ∧ T = [48 + o, 45, 44]) ∨ (a10 o = nI P ∧ T = (48 + o) :: mk :: (of_num (nI P) ++ [44]))) (hr : of_rm m p s 14) (hw : w ≤ 3700)
    (H1 : ∀ s' p' w' b7 b9, of_W m h T s p w a7 a9 s' p' w' b7 b9 → J (nI (o + 1)) hn (nI h) ln ll rv (nI s') (nI p') (nI w') (nI m) fr fs iu a1 a2 a3 a4 a5 a6 b7 a8 b9 a10 a11 a12 a13 a14 a15) :
    wX_bringList_24 post J x1 x2 x3 (nI o) hn (nI h) ln ll rv (nI s) (nI p) (nI w) (nI m) fr fs iu a1 a2 a3 a4 a5 a6 a7 a8 a9 a10 a11 a12 a13 a14 a15 := by
  have hi : vp_in (nI o) 9 := pk_in o 9 (by omega)
  have hc : (nI o).toNatClampNeg = o := nI_clamp (by omega)
  unfold wX_bringList_24
  refine of_bring (48 + o) hm hh (of_rm_le hr (by omega)) hw (fun s1 p1 w1 b7 b9 h1 => ⟨hi, ?_⟩) (by rw [show (48 : Int32) = nI 48 from rfl, nI_add])
  have w1' := of_W_w h1
  have r1 := of_rm_st (k := 13) h1 hr (by simp only [List.length_cons, List.length_nil]; omega)
  rw [hc]
  rcases hT with ⟨ha, eT⟩ | ⟨ha, eT⟩
  · rw [ha]
    refine br_f (by decide) ?_
    refine of_bring 45 hm hh (of_rm_le r1 (by omega)) (by omega) (fun s2 p2 w2 c7 c9 h2 => ?_)
    have w2' := of_W_w h2
    have r2 := of_rm_st (k := 12) h2 r1 (by simp only [List.length_cons, List.length_nil]; omega)
    unfold wX_bringList_78
    refine of_bring 44 hm hh (of_rm_le r2 (by omega)) (by omega) (fun s3 p3 w3 d7 d9 h3 => nm_r (nI_1 o) (H1 s3 p3 w3 d7 d9 ?_))
    rw [eT]
    exact of_W_app h1 (of_W_app h2 h3)
  · rw [ha]
    have hnl := (of_num_len (nI P)).2
    have t64 : ∀ z0 : Int32, z0 = nI mk → mk < 256 → wX_bringList_64 post J x1 x2 x3 (nI o) z0 hn (nI h) ln ll rv (nI s1) (nI p1) (nI w1) (nI m) fr fs iu a1 a2 a3 a4 a5 a6 b7 a8 b9 a10 a11 a12 a13 a14 a15 := by
      intro z0 ez hz
      unfold wX_bringList_64
      refine of_bring mk hm hh (of_rm_le r1 (by omega)) (by omega) (fun s2 p2 w2 c7 c9 h2 => ⟨hi, ?_⟩) ez hz
      have w2' := of_W_w h2
      have r2 := of_rm_st (k := 12) h2 r1 (by simp only [List.length_cons, List.length_nil]; omega)
      rw [hc, ha]
      refine of_bNum (nI P) hm hh (of_rm_le r2 (by omega)) (by omega) (fun s3 p3 w3 d7 d9 h3 => ?_)
      have w3' := of_W_w h3
      have r3 := of_rm_st (k := 1) h3 r2 (by omega)
      unfold wX_bringList_78
      refine of_bring 44 hm hh (of_rm_le r3 (by omega)) (by omega) (fun s4 p4 w4 f7 f9 h4 => nm_r (nI_1 o) (H1 s4 p4 w4 f7 f9 ?_))
      rw [eT]
      exact of_W_app h1 (of_W_app h2 (of_W_app h3 h4))
    refine br_t (nI_pos' hP) ?_
    rcases hmk with ⟨e2, em⟩ | ⟨e2, em⟩
    · exact br_t e2 (t64 43 (by rw [em]; rfl) (by omega))
    · exact br_f e2 (t64 42 (by rw [em]; rfl) (by omega))
theorem of_bLs {post : St2 → Prop} {m h : Nat} {al : Bool} {t : Nat → Bool} {g : of_G} {x1 x2 x3 : Int32} {mk : Nat} {pl : Nat → Nat} (hx : x1 = if al then 1 else 0) (hmk : (x2 = 0 ∧ mk = 43) ∨ (¬ x2 = 0 ∧ mk = 42)) (hm : m ≤ 1) (hh : h ≤ 1) (ht : ∀ o, 1 ≤ o → o ≤ 8 → a6 o = if t o then 1 else 0) (hpl : ∀ j, 1 ≤ j → j ≤ 8 → a10 j = of_pv (of_dl al t g) pl j) (hpb : ∀ j, 1 ≤ j → j ≤ 8 → pl j < 2 ^ 31) : ∀ (k s p w : Nat) (a7 a9 : Nat → Int32), k ≤ 8 → of_rm m p s (13 + 14 * k) → w ≤ 3700 →
    (∀ s' p' w' b7 b9, of_W m h (of_ls (of_dl al t g) pl mk x3 k) s p w a7 a9 s' p' w' b7 b9 → post (hn, nI h, ln, ll, rv, nI s', nI p', nI w', nI m, fr, fs, iu, a1, a2, a3, a4, a5, a6, b7, a8, b9, a10, a11, a12, a13, a14, a15)) →
    wX_bringList_3 post x1 x2 x3 (k + 1) (nI (9 - k)) hn (nI h) ln ll rv (nI s) (nI p) (nI w) (nI m) fr fs iu a1 a2 a3 a4 a5 a6 a7 a8 a9 a10 a11 a12 a13 a14 a15
  | 0, s, p, w, a7, a9, _, hr, hw, H => by
    have hnl := (of_num_len x3).2
    refine br_t (by decide) ?_
    refine of_bring 80 hm hh (of_rm_le hr (by omega)) hw (fun s1 p1 w1 b7 b9 h1 => ?_)
    have w1' := of_W_w h1
    have r1 := of_rm_st (k := 12) h1 hr (by simp only [List.length_cons, List.length_nil]; omega)
    refine of_bNum x3 hm hh (of_rm_le r1 (by omega)) (by omega) (fun s2 p2 w2 c7 c9 h2 => ?_)
    have w2' := of_W_w h2
    have r2 := of_rm_st (k := 1) h2 r1 (by omega)
    refine of_bring 46 hm hh (of_rm_le r2 (by omega)) (by omega) (fun s3 p3 w3 d7 d9 h3 => H s3 p3 w3 d7 d9 ?_)
    exact of_W_app h1 (of_W_app h2 h3)
  | k + 1, s, p, w, a7, a9, hk, hr, hw, H => by
    rw [show 9 - (k + 1) = 8 - k by omega]
    have h9 : 9 - k = 8 - k + 1 := by omega
    have hi : vp_in (nI (8 - k)) 9 := pk_in (8 - k) 9 (by omega)
    have hc : (nI (8 - k)).toNatClampNeg = 8 - k := nI_clamp (by omega)
    have hp10 := hpl (8 - k) (by omega) (by omega)
    have go : (al || t (8 - k)) = true → wX_bringList_24 post (wX_bringList_3 post x1 x2 x3 (k + 1)) x1 x2 x3 (nI (8 - k)) hn (nI h) ln ll rv (nI s) (nI p) (nI w) (nI m) fr fs iu a1 a2 a3 a4 a5 a6 a7 a8 a9 a10 a11 a12 a13 a14 a15 := by
      intro hy
      have hD := of_dl_y (g := g) hy
      have hlen := of_le_len (of_dl al t g) pl mk (8 - k)
      refine of_b24 (T := of_le (of_dl al t g) pl mk (8 - k)) (mk := mk) (P := pl (8 - k)) hm hh (by omega) (by omega) hmk (hpb _ (by omega) (by omega)) ?_ (of_rm_le hr (by omega)) hw (fun s1 p1 w1 b7 b9 h1 => ?_)
      · cases hg : g (8 - k) with
        | none =>
          rw [hg] at hD
          rw [of_pv_n hD] at hp10
          exact Or.inl ⟨hp10, by unfold of_le; rw [hD]⟩
        | some x =>
          rw [hg] at hD
          rw [of_pv_s hD] at hp10
          exact Or.inr ⟨hp10, by unfold of_le; rw [hD]⟩
      · have w1' := of_W_w h1
        rw [← h9]
        refine of_bLs hx hmk hm hh ht hpl hpb k s1 p1 w1 b7 b9 (by omega) (of_rm_st h1 hr (by omega)) (by omega) (fun s2 p2 w2 c7 c9 h2 => H s2 p2 w2 c7 c9 ?_)
        simp only [of_ls]
        exact of_W_app h1 h2
    refine pk_lt 8 (8 - k) (fun z => by omega) (fun _ => ?_)
    cases al with
    | true =>
      have hx' : x1 = 1 := hx
      exact br_f (by rw [hx']; decide) (go rfl)
    | false =>
      have hx' : x1 = 0 := hx
      have h6 := ht (8 - k) (by omega) (by omega)
      refine br_t hx' ⟨hi, ?_⟩
      cases e : t (8 - k) with
      | true =>
        rw [e] at h6
        have h6' : a6 (8 - k) = 1 := h6
        exact br_f (by rw [hc, h6']; decide) (go e)
      | false =>
        rw [e] at h6
        have h6' : a6 (8 - k) = 0 := h6
        have hD := of_dl_n (al := false) (t := t) (g := g) e
        refine br_t (by rw [hc, h6']) (nm_r (nI_1 (8 - k)) ?_)
        rw [← h9]
        refine of_bLs hx hmk hm hh ht hpl hpb k s p w a7 a9 (by omega) (of_rm_le hr (by omega)) hw (fun s2 p2 w2 c7 c9 h2 => H s2 p2 w2 c7 c9 ?_)
        have el : of_le (of_dl false t g) pl mk (8 - k) = [] := by unfold of_le; rw [hD]
        simp only [of_ls, el, List.nil_append]
        exact h2
end
end
section
section
variable {hn hf ln ll rv sl pt wl ts fr fs iu : Int32} {a1 a2 a3 a4 a5 a6 a7 a8 a9 a10 a11 a12 a13 a14 a15 : Nat → Int32}
theorem of_dg_by (r : Nat) : ∀ k c, c ∈ of_dg r k → c < 256
  | 0, c, h => by simp only [of_dg, List.not_mem_nil] at h
  | k + 1, c, h => by
    simp only [of_dg, List.mem_cons] at h
    rcases h with h | h
    · omega
    · exact of_dg_by r k c h
theorem of_num_by {v : Int32} {c : Nat} (h : c ∈ of_num v) : c < 256 := by
  unfold of_num at h
  rw [List.mem_append] at h
  rcases h with h | h
  · split at h
    · simp only [List.mem_cons, List.not_mem_nil, or_false] at h
      omega
    · simp only [List.not_mem_nil] at h
  · exact of_dg_by _ _ c h
theorem of_ot_by {x : of_X} {c : Nat} (h : c ∈ of_ot x) : c < 256 := by
  unfold of_ot at h
  simp only [List.mem_cons, List.mem_append, List.not_mem_nil, or_false] at h
  rcases h with h | h | h | h | h
  · rw [h]
    unfold of_kc
    split <;> decide
  · rw [h]
    unfold of_mc
    split <;> decide
  · exact of_num_by h
  · omega
  · omega
theorem of_ts_by {D : of_D} : ∀ k c, c ∈ of_ts D k → c < 256
  | 0, c, h => by simp only [of_ts, List.not_mem_nil] at h
  | k + 1, c, h => by
    simp only [of_ts, List.mem_append] at h
    rcases h with h | h
    · unfold of_ob at h
      split at h
      · exact of_ot_by h
      · simp only [List.not_mem_nil] at h
    · exact of_ts_by k c h
theorem of_rg_get {B : Nat → Int32} : ∀ (T : List Nat) (p i : Nat), of_rg B p T → i < T.length → B (p + i) = nI (T.getD i 0)
  | [], p, i, _, h => absurd h (Nat.not_lt_zero i)
  | c :: T, p, 0, g, _ => g.1
  | c :: T, p, i + 1, g, h => by
    have t := of_rg_get T (p + 1) i g.2 (Nat.lt_of_succ_lt_succ h)
    rw [show p + (i + 1) = p + 1 + i by omega, t]
    rfl
theorem of_drop_rep {Z : List Nat} {b : Nat} : ∀ (n i : Nat), (∀ j, i ≤ j → j < i + n → Z.getD j 0 = b) → i + n ≤ Z.length → Z.drop i = List.replicate n b ++ Z.drop (i + n)
  | 0, i, _, _ => rfl
  | n + 1, i, h, hl => by
    have t := of_drop_rep n (i + 1) (fun j h1 h2 => h j (by omega) (by omega)) (by omega)
    have e := h i (Nat.le_refl i) (by omega)
    rw [List.drop_eq_getElem_cons (show i < Z.length by omega), t, show i + 1 + n = i + (n + 1) by omega, List.replicate_succ, List.cons_append]
    congr 1
    rw [← e, List.getD_eq_getElem?_getD, List.getElem?_eq_getElem (show i < Z.length by omega)]
    rfl
theorem of_r26 {post : St2 → Prop} {J : Int32 → Int32 → Int32 → Int32 → Int32 → Int32 → Int32 → Int32 → Int32 → Int32 → Int32 → Int32 → Int32 → (Nat → Int32) → (Nat → Int32) → (Nat → Int32) → (Nat → Int32) → (Nat → Int32) → (Nat → Int32) → (Nat → Int32) → (Nat → Int32) → (Nat → Int32) → (Nat → Int32) → (Nat → Int32) → (Nat → Int32) → (Nat → Int32) → (Nat → Int32) → (Nat → Int32) → Prop} {i z : Nat} (hz : z ≤ 700)
    (K : ∀ n, 1 ≤ n → n ≤ 255 → i + n ≤ z → (∀ j, i ≤ j → j < i + n → a9 j = a9 i) → wX_bringRuns_66 post J (nI i) (nI n) hn hf ln ll rv (nI z) pt wl ts fr fs iu a1 a2 a3 a4 a5 a6 a7 a8 a9 a10 a11 a12 a13 a14 a15) : ∀ d n, 255 - n < d → 1 ≤ n → n ≤ 255 → i + n ≤ z → (∀ j, i ≤ j → j < i + n → a9 j = a9 i) → wX_bringRuns_26 post J (nI i) hn hf ln ll rv (nI z) pt wl ts fr fs iu a1 a2 a3 a4 a5 a6 a7 a8 a9 a10 a11 a12 a13 a14 a15 d (nI n)
  | 0, n, h, _, _, _, _ => absurd h (Nat.not_lt_zero _)
  | d + 1, n, h, h1, h2, h3, h4 => by
    refine pk_le 255 n (fun _ => K n h1 h2 h3 h4) (fun g1 => pk_le z (i + n) (fun _ => K n h1 h2 h3 h4) (fun g2 => ⟨pk_in (i + n) 700 (by omega) (nI_add i n), pk_in i 700 (by omega), ?_⟩) rfl (nI_add i n))
    rw [nI_add, nI_clamp (show i + n < 2 ^ 31 by omega), nI_clamp (show i < 2 ^ 31 by omega)]
    refine br_c (fun e => nm_r (nI_1 n) (of_r26 hz K d (n + 1) (by omega) (by omega) (by omega) (by omega) (fun j j1 j2 => ?_))) (fun _ => K n h1 h2 h3 h4)
    by_cases ej : j = i + n
    · rw [ej, e]
    · exact h4 j j1 (by omega)
theorem of_r16 {post : St2 → Prop} {h : Nat} {Z : List Nat} (hh : h ≤ 1) (hz : Z.length ≤ 700) (hb : ∀ c, c ∈ Z → c < 256) (hZ : of_rg a9 0 Z) : ∀ (f i p w : Nat) (a7 : Nat → Int32), Z.length - i < f → i ≤ Z.length → p + 2 * (Z.length - i) ≤ 3700 → w ≤ 3700 →
    (∀ p' w' b7 R, of_ex R = Z.drop i → of_rok R → of_W 0 h (of_fl R) Z.length p w a7 a9 Z.length p' w' b7 a9 → post (hn, nI h, ln, ll, rv, nI Z.length, nI p', nI w', 0, fr, fs, iu, a1, a2, a3, a4, a5, a6, b7, a8, a9, a10, a11, a12, a13, a14, a15)) →
    wX_bringRuns_16 post f (nI i) hn (nI h) ln ll rv (nI Z.length) (nI p) (nI w) 0 fr fs iu a1 a2 a3 a4 a5 a6 a7 a8 a9 a10 a11 a12 a13 a14 a15
  | 0, i, p, w, a7, h0, _, _, _, _ => absurd h0 (Nat.not_lt_zero _)
  | f + 1, i, p, w, a7, h0, h1, h2, hw, H => by
    refine pk_le Z.length i (fun g => H p w a7 [] ?_ ?_ of_W_nil) (fun g => ⟨255, ?_⟩)
    · rw [List.drop_eq_nil_of_le g]
      rfl
    · intro x hx
      simp only [List.not_mem_nil] at hx
    · have gi : ∀ j, j < Z.length → a9 j = nI (Z.getD j 0) := fun j hj => by
        have t := of_rg_get Z 0 j hZ hj
        rw [Nat.zero_add] at t
        exact t
      have gb : ∀ j, j < Z.length → Z.getD j 0 < 256 := fun j hj => by
        rw [List.getD_eq_getElem?_getD, List.getElem?_eq_getElem hj]
        exact hb _ (List.getElem_mem hj)
      refine of_r26 hz (fun n n1 n2 n3 n4 => ?_) 255 1 (by omega) (by omega) (by omega) (by omega) (fun j j1 j2 => by rw [show j = i by omega])
      unfold wX_bringRuns_66
      refine of_bring (m := 0) n (by omega) hh ⟨fun _ => by omega, fun z => absurd rfl z⟩ hw (fun s1 p1 w1 b7 b9 k1 => ?_)
      obtain ⟨e1, e2, e3, _⟩ := k1.1 rfl
      have w1' := of_W_w k1
      have e2' := e2.symm
      subst e1 e2'
      have e3' : p1 = p + 1 := e3
      refine ⟨pk_in i 700 (by omega), ?_⟩
      rw [nI_clamp (show i < 2 ^ 31 by omega)]
      refine of_bring (m := 0) (Z.getD i 0) (by omega) hh ⟨fun _ => by omega, fun z => absurd rfl z⟩ (by omega) (fun s2 p2 w2 c7 c9 k2 => ?_) (gi i g) (gb i g)
      obtain ⟨f1, f2, f3, _⟩ := k2.1 rfl
      have w2' := of_W_w k2
      have f2' := f2.symm
      subst f1 f2'
      have f3' : p2 = p1 + 1 := f3
      refine nm_r (nI_add i n) ?_
      refine of_r16 hh hz hb hZ f (i + n) p2 w2 c7 (by omega) n3 (by omega) (by omega) (fun p' w' d7 R r1 r2 r3 => ?_)
      refine H p' w' d7 ((n, Z.getD i 0) :: R) ?_ ?_ ?_
      · simp only [of_ex]
        rw [r1]
        refine (of_drop_rep n i (fun j j1 j2 => ?_) n3).symm
        have t := n4 j j1 j2
        rw [gi j (by omega), gi i g] at t
        have b1 := gb j (by omega)
        have b2 := gb i g
        exact (nI_eq (by omega) (by omega)).mp t
      · intro x hx
        rcases List.mem_cons.mp hx with hx | hx
        · subst hx
          exact ⟨n1, by show n < 256; omega, gb i g⟩
        · exact r2 x hx
      · exact of_W_app k1 (of_W_app k2 r3)
theorem of_bRuns {post : St2 → Prop} {h p w : Nat} {Z : List Nat} (hh : h ≤ 1) (hz : Z.length ≤ 700) (hb : ∀ c, c ∈ Z → c < 256) (hZ : of_rg a9 0 Z) (hr : p + 12 + 2 * Z.length ≤ 3700) (hw : w ≤ 3700) (H : ∀ p' w' b7 R, of_ex R = Z → of_rok R → of_W 0 h (of_num (nI Z.length) ++ (58 :: of_fl R)) Z.length p w a7 a9 Z.length p' w' b7 a9 → post (hn, nI h, ln, ll, rv, nI Z.length, nI p', nI w', 0, fr, fs, iu, a1, a2, a3, a4, a5, a6, b7, a8, a9, a10, a11, a12, a13, a14, a15)) : wpX_bringRuns post (hn, nI h, ln, ll, rv, nI Z.length, nI p, nI w, 0, fr, fs, iu, a1, a2, a3, a4, a5, a6, a7, a8, a9, a10, a11, a12, a13, a14, a15) := by
  have hnl := (of_num_len (nI Z.length)).2
  unfold wpX_bringRuns
  refine of_bNum (m := 0) (nI Z.length) (by omega) hh ⟨fun _ => by omega, fun z => absurd rfl z⟩ hw (fun s1 p1 w1 b7 b9 k1 => ?_)
  obtain ⟨e1, e2, e3, _⟩ := k1.1 rfl
  have w1' := of_W_w k1
  subst e1 e2
  refine of_bring (m := 0) 58 (by omega) hh ⟨fun _ => by omega, fun z => absurd rfl z⟩ (by omega) (fun s2 p2 w2 c7 c9 k2 => ⟨Z.length + 1, ?_⟩)
  obtain ⟨f1, f2, f3, _⟩ := k2.1 rfl
  have w2' := of_W_w k2
  subst f1 f2
  have f3' : p2 = p1 + 1 := f3
  refine of_r16 hh hz hb hZ (Z.length + 1) 0 p2 w2 c7 (by omega) (by omega) (by omega) (by omega) (fun p' w' d7 R r1 r2 r3 => ?_)
  exact H p' w' d7 R r1 r2 (of_W_app k1 (of_W_app k2 r3))
theorem of_w92 {post : Int32 → St2 → Prop} {way h p w s : Nat} {al : Bool} {t : Nat → Bool} {g : of_G} {pl : Nat → Nat} {x3 : Int32} (hway : way ≤ 2) (hx : x3 = if al then 1 else 0) (hh : h ≤ 1) (ht : ∀ o, 1 ≤ o → o ≤ 8 → a6 o = if t o then 1 else 0) (hpl : ∀ j, 1 ≤ j → j ≤ 8 → a10 j = of_pv (of_dl al t g) pl j) (hpb : ∀ j, 1 ≤ j → j ≤ 8 → pl j < 2 ^ 31) (hr : p + 125 ≤ 3700) (hw : w ≤ 3700)
    (H : ∀ s' p' w' b7 b9, of_W 0 h (of_ls (of_dl al t g) pl (if way = 2 then 42 else 43) (if al then -1 else ll) 8) s p w a7 a9 s' p' w' b7 b9 → post (nI p) (hn, nI h, ln, ll, rv, nI s', nI p', nI w', 0, fr, fs, iu, a1, a2, a3, a4, a5, a6, b7, a8, b9, a10, a11, a12, a13, a14, a15)) :
    wX_writeRevision_92 post (nI way) x3 hn (nI h) ln ll rv (nI s) (nI p) (nI w) 0 fr fs iu a1 a2 a3 a4 a5 a6 a7 a8 a9 a10 a11 a12 a13 a14 a15 := by
  have go : ∀ (z1 : Int32) (bf : Int32), ((z1 = 0 ∧ (if way = 2 then 42 else 43) = 43) ∨ (¬ z1 = 0 ∧ (if way = 2 then 42 else 43) = 42)) → bf = (if al then -1 else ll) → wX_writeRevision_122 post (nI p) bf z1 x3 hn (nI h) ln ll rv (nI s) (nI p) (nI w) 0 fr fs iu a1 a2 a3 a4 a5 a6 a7 a8 a9 a10 a11 a12 a13 a14 a15 := by
    intro z1 bf hz hb
    unfold wX_writeRevision_122
    refine ⟨8 + 1, ?_⟩
    rw [← hb] at H
    exact of_bLs (m := 0) hx hz (by omega) hh ht hpl hpb 8 s p w a7 a9 (by omega) ⟨fun _ => by omega, fun z => absurd rfl z⟩ hw (fun s' p' w' b7 b9 k => H s' p' w' b7 b9 k)
  have go2 : ∀ (z1 : Int32), ((z1 = 0 ∧ (if way = 2 then 42 else 43) = 43) ∨ (¬ z1 = 0 ∧ (if way = 2 then 42 else 43) = 42)) → wX_writeRevision_110 post x3 (nI p) z1 x3 hn (nI h) ln ll rv (nI s) (nI p) (nI w) 0 fr fs iu a1 a2 a3 a4 a5 a6 a7 a8 a9 a10 a11 a12 a13 a14 a15 := by
    intro z1 hz
    unfold wX_writeRevision_110
    cases al with
    | true => exact br_f (by rw [hx]; decide) (go z1 (-1) hz rfl)
    | false => exact br_t (by rw [hx]; rfl) (go z1 ll hz rfl)
  unfold wX_writeRevision_92
  refine pk_eq way 2 (fun e => go2 1 (Or.inr ⟨by decide, by rw [if_pos e]⟩)) (fun e => go2 0 (Or.inl ⟨rfl, by rw [if_neg e]⟩))
/-- what a revision's writing leaves -/
def of_wr (way h L w : Nat) (D : of_D) (bf : Int32) (a7 : Nat → Int32) (q p' : Nat) (b7 : Nat → Int32) : Prop :=
  L ≤ q ∧ q ≤ p' ∧ p' ≤ L + 400 ∧ (∀ j, j < 3700 * h + L ∨ 3700 * h + p' ≤ j → b7 j = a7 j) ∧
  (400 ≤ w → ∀ Z, ∃ Z', (way ≠ 2 → Z' = Z) ∧ of_rv (fun i => b7 (3700 * h + i) &&& 255) p' Z' q D bf)
theorem of_w55 {post : Int32 → St2 → Prop} {way h L w s : Nat} {al : Bool} {t : Nat → Bool} {g : of_G} {x3 : Int32} (hway : way ≤ 2) (hal : way = 2 → al = true) (hL2 : way = 2 → L = 0) (hx : x3 = if al then 1 else 0) (hh : h ≤ 1) (hL : L ≤ 3300) (hOM : of_OM g a1 a2 a3 a4) (ht : ∀ o, 1 ≤ o → o ≤ 8 → a6 o = if t o then 1 else 0) (hw : w ≤ 3700)
    (H : ∀ q s' p' w' b7 b9 b10, of_wr way h L w (of_dl al t g) (if al then -1 else ll) a7 q p' b7 → post (nI q) (hn, nI h, ln, ll, rv, nI s', nI p', nI w', 0, fr, fs, iu, a1, a2, a3, a4, a5, a6, b7, a8, b9, b10, a11, a12, a13, a14, a15)) :
    wX_writeRevision_55 post (nI way) x3 hn (nI h) ln ll rv (nI s) (nI L) (nI w) 0 fr fs iu a1 a2 a3 a4 a5 a6 a7 a8 a9 a10 a11 a12 a13 a14 a15 := by
  have hts := of_ts_len (of_dl al t g) 8
  unfold wX_writeRevision_55
  refine pk_eq way 2 (fun e => ?_) (fun e => ?_)
  · have ea := hal e
    have eL := hL2 e
    subst ea eL
    refine ⟨8 + 1, ?_⟩
    refine of_bOs (m := 1) (al := true) (x1 := 1) rfl (by omega) hh hOM ht 8 0 0 w a7 a9 a10 (by omega) ⟨fun z => absurd z (by decide), fun _ => by omega⟩ hw (fun s1 p1 w1 b7 b9 b10 k1 k2 _ => ?_)
    obtain ⟨e1, e2, e3, e4, _, e5⟩ := k1.2 (by decide)
    subst e1 e2 e3
    rw [Nat.zero_add] at e4
    subst e4
    refine of_bRuns hh (by omega) (fun c hc => of_ts_by _ c hc) e5 (by omega) hw (fun p2 w2 c7 R r1 r2 k3 => ?_)
    have w2' := of_W_w k3
    have hfl := of_fl_len R r2
    rw [r1] at hfl
    have hnl := (of_num_len (nI (of_ts (of_dl true t g) 8).length)).2
    obtain ⟨_, _, g1, g2, _, _⟩ := k3.1 rfl
    simp only [List.length_append, List.length_cons] at g1 g2
    refine of_w92 hway hx hh ht (fun j j1 j2 => k2 j (by omega) j2) (fun j j1 j2 => ?_) (by omega) (by omega) (fun s3 p3 w3 d7 d9 k4 => H p2 s3 p3 w3 d7 d9 b10 ?_)
    · have := of_po_le (D := of_dl true t g) 8 (of_bs 1 0 0) j (by omega) (by omega) j2
      have e0 : of_bs 1 0 0 = 0 := rfl
      rw [e0] at this ⊢
      omega
    · rw [if_pos e] at k4
      have hls := of_ls_len (of_dl true t g) (of_po (of_dl true t g) 8 (of_bs 1 0 0)) 42 (if true then -1 else ll) 8
      have kk := of_W_app k3 k4
      obtain ⟨_, _, q1, q2, q3, q4⟩ := kk.1 rfl
      obtain ⟨_, _, m1, m2, m3, m4⟩ := k4.1 rfl
      simp only [List.length_append, List.length_cons, Nat.zero_add] at q1 q2 q3 q4
      refine ⟨by omega, by omega, by omega, fun j hj => q3 j (by omega), fun h4 Z => ⟨of_ts (of_dl true t g) 8, fun z => absurd e z, ?_⟩⟩
      have qq := q4 (by omega)
      rw [of_rg_app] at qq
      refine ⟨of_po (of_dl true t g) 8 (of_bs 1 0 0), 42, ?_, by omega, Or.inr ⟨rfl, ⟨by omega, R, r1, r2, qq.1, by simp only [List.length_append, List.length_cons]; omega⟩, fun o x o1 o2 hD => ?_⟩⟩
      · have := qq.2
        rw [show 0 + (of_num (nI (of_ts (of_dl true t g) 8).length) ++ 58 :: of_fl R).length = p2 by simp only [List.length_append, List.length_cons]; omega] at this
        exact this
      · have e0 : of_bs 1 0 0 = 0 := rfl
        rw [e0]
        have hB := of_po_rg (D := of_dl true t g) (B := b9) 8 0 o (by omega) (by omega) o2 e5
        rw [of_ob_s hD] at hB
        refine ⟨fun A hA => ?_, by omega⟩
        have hA2 := of_po_rg (D := of_dl true t g) (B := A) 8 0 o (by omega) (by omega) o2 hA
        rw [of_ob_s hD] at hA2
        exact hA2.1
  · refine ⟨8 + 1, ?_⟩
    refine of_bOs (m := 0) hx (by omega) hh hOM ht 8 s L w a7 a9 a10 (by omega) ⟨fun _ => by omega, fun z => absurd rfl z⟩ hw (fun s1 p1 w1 b7 b9 b10 k1 k2 _ => ?_)
    obtain ⟨e1, e2, e3, e4, _, _⟩ := k1.1 rfl
    have w1' := of_W_w k1
    have e0 : of_bs 0 L s = L := rfl
    rw [e0] at k2
    refine of_w92 hway hx hh ht (fun j j1 j2 => k2 j (by omega) j2) (fun j j1 j2 => ?_) (by omega) (by omega) (fun s3 p3 w3 d7 d9 k4 => H p1 s3 p3 w3 d7 d9 b10 ?_)
    · have := of_po_le (D := of_dl al t g) 8 L j (by omega) (by omega) j2
      omega
    · rw [if_neg e] at k4
      have hls := of_ls_len (of_dl al t g) (of_po (of_dl al t g) 8 L) 43 (if al then -1 else ll) 8
      have kk := of_W_app k1 k4
      obtain ⟨_, _, q1, q2, q3, q4⟩ := kk.1 rfl
      rw [List.length_append] at q1 q2 q3 q4
      refine ⟨by omega, by omega, by omega, fun j hj => q3 j (by omega), fun h4 Z => ⟨Z, fun _ => rfl, ?_⟩⟩
      have qq := q4 (by omega)
      rw [of_rg_app] at qq
      refine ⟨of_po (of_dl al t g) 8 L, 43, ?_, by omega, Or.inl ⟨rfl, fun o x o1 o2 hD => ?_⟩⟩
      · rw [e3]
        exact qq.2
      · have hB := of_po_rg (D := of_dl al t g) 8 L o (by omega) (by omega) o2 qq.1
        rw [of_ob_s hD] at hB
        exact ⟨hB.1, by omega⟩
theorem of_wRev {post : Int32 → St2 → Prop} {way h L w s : Nat} {t : Nat → Bool} {g : of_G} (hway : way ≤ 2) (hh : h ≤ 1) (hL : L ≤ 3300) (hOM : of_OM g a1 a2 a3 a4) (ht : ∀ o, 1 ≤ o → o ≤ 8 → a6 o = if t o then 1 else 0) (hw : w ≤ 3700)
    (H0 : way = 0 → ∀ q s' p' w' b7 b9 b10, of_wr way h L w (of_dl false t g) ll a7 q p' b7 → post (nI q) (hn, nI h, nI L, ll, rv, nI s', nI p', nI w', 0, fr, fs, 0, a1, a2, a3, a4, a5, a6, b7, a8, b9, b10, a11, a12, a13, a14, a15))
    (H1 : way ≠ 0 → ∀ q s' p' w' b7 b9 b10, of_wr way (1 - h) 0 w (of_dl true t g) (-1) a7 q p' b7 → post (nI q) (hn, nI (1 - h), nI L, ll, rv, nI s', nI p', nI w', 0, fr, fs, 0, a1, a2, a3, a4, a5, a6, b7, a8, b9, b10, a11, a12, a13, a14, a15)) :
    wpX_writeRevision post (hn, nI h, nI L, ll, rv, nI s, pt, wl, ts, fr, fs, iu, a1, a2, a3, a4, a5, a6, a7, a8, a9, a10, a11, a12, a13, a14, a15) (nI way) (nI w) := by
  unfold wpX_writeRevision
  refine pk_eq way 0 (fun e => ?_) (fun e => ?_)
  · refine br_t rfl ?_
    exact of_w55 (al := false) hway (fun z => by omega) (fun z => by omega) rfl hh hL hOM ht hw (H0 e)
  · refine br_f (by decide) (nm_r (e' := nI (1 - h)) (by rw [show (1 : Int32) = nI 1 from rfl, pk_sub hh]) ?_)
    exact of_w55 (al := true) (L := 0) hway (fun z => rfl) (fun _ => rfl) rfl (by omega) (by omega) hOM ht hw (H1 e)
end
end
section
section
variable {hn hf ln ll rv sl pt wl ts fr fs iu : Int32} {a1 a2 a3 a4 a5 a6 a7 a8 a9 a10 a11 a12 a13 a14 a15 : Nat → Int32}
def of_B : Nat → Nat → (Nat → Int32) → (Nat → Int32) → Nat → Int32
  | 0, h, b, _ => fun i => b (3700 * h + i) &&& 255
  | _ + 1, _, _, c => c
def of_cp : Nat → Nat
  | 0 => 3700
  | _ + 1 => 700
theorem of_peek {post : Int32 → Prop} {m h p : Nat} (hm : m ≤ 1) (hh : h ≤ 1) (hp : p < of_cp m) (H : post (of_B m h a7 a9 p)) : wpX_peek post (hn, nI h, ln, ll, rv, sl, pt, wl, ts, nI p, nI m, iu, a1, a2, a3, a4, a5, a6, a7, a8, a9, a10, a11, a12, a13, a14, a15) := by
  match m, hm with
  | 0, _ =>
    have hp' : p < 3700 := hp
    refine br_t rfl ⟨pk_in (3700 * h + p) 7400 (by omega) (of_ix h p), ?_⟩
    rw [pk_cl (3700 * h + p) (of_ix h p) (by omega)]
    exact H
  | 1, _ =>
    have hp' : p < 700 := hp
    refine br_f (by decide) ⟨pk_in p 700 (by omega), ?_⟩
    rw [nI_clamp (by omega)]
    exact H
theorem of_take {post : Int32 → St2 → Prop} {m h p : Nat} (hm : m ≤ 1) (hh : h ≤ 1) (hp : p < of_cp m) (H : post (of_B m h a7 a9 p) (hn, nI h, ln, ll, rv, sl, pt, wl, ts, nI (p + 1), nI m, iu, a1, a2, a3, a4, a5, a6, a7, a8, a9, a10, a11, a12, a13, a14, a15)) : wpX_take post (hn, nI h, ln, ll, rv, sl, pt, wl, ts, nI p, nI m, iu, a1, a2, a3, a4, a5, a6, a7, a8, a9, a10, a11, a12, a13, a14, a15) := by
  match m, hm with
  | 0, _ =>
    have hp' : p < 3700 := hp
    refine br_t rfl ⟨pk_in (3700 * h + p) 7400 (by omega) (of_ix h p), ?_⟩
    rw [pk_cl (3700 * h + p) (of_ix h p) (by omega)]
    exact nm_r (nI_1 p) H
  | 1, _ =>
    have hp' : p < 700 := hp
    refine br_f (by decide) ⟨pk_in p 700 (by omega), ?_⟩
    rw [nI_clamp (by omega)]
    exact nm_r (nI_1 p) H
theorem of_peekC {post : Int32 → Prop} {m h p c : Nat} (hm : m ≤ 1) (hh : h ≤ 1) (hp : p < of_cp m) (hc : of_B m h a7 a9 p = nI c) (H : post (nI c)) : wpX_peek post (hn, nI h, ln, ll, rv, sl, pt, wl, ts, nI p, nI m, iu, a1, a2, a3, a4, a5, a6, a7, a8, a9, a10, a11, a12, a13, a14, a15) := of_peek hm hh hp (hc ▸ H)
theorem of_takeC {post : Int32 → St2 → Prop} {m h p c : Nat} (hm : m ≤ 1) (hh : h ≤ 1) (hp : p < of_cp m) (hc : of_B m h a7 a9 p = nI c) (H : post (nI c) (hn, nI h, ln, ll, rv, sl, pt, wl, ts, nI (p + 1), nI m, iu, a1, a2, a3, a4, a5, a6, a7, a8, a9, a10, a11, a12, a13, a14, a15)) : wpX_take post (hn, nI h, ln, ll, rv, sl, pt, wl, ts, nI p, nI m, iu, a1, a2, a3, a4, a5, a6, a7, a8, a9, a10, a11, a12, a13, a14, a15) := of_take hm hh hp (hc ▸ H)
theorem of_dig {post : Int32 → Prop} {c : Nat} {u : St0} (hc : c < 256) (H1 : 48 ≤ c → c ≤ 57 → post 1) (H0 : c < 48 ∨ 57 < c → post 0) : wpX_isDigit post u (nI c) :=
  pk_lt c 48 (fun z => H0 (Or.inl z)) (fun z => pk_lt 57 c (fun y => H0 (Or.inr y)) (fun y => H1 z y))
theorem of_t31 {post : Int32 → St2 → Prop} {x1 : Int32} {m h r e : Nat} (hm : m ≤ 1) (hh : h ≤ 1) (he : e < 256) (he2 : e < 48 ∨ 57 < e) : ∀ (K n0 p : Nat), p + K < of_cp m → of_rg (of_B m h a7 a9) p (of_dg r K ++ [e]) →
    ((x1 = 0 → post (lN (n0 * 10 ^ K + r % 10 ^ K)).toInt32 (hn, nI h, ln, ll, rv, sl, pt, wl, ts, nI (p + K), nI m, iu, a1, a2, a3, a4, a5, a6, a7, a8, a9, a10, a11, a12, a13, a14, a15)) ∧ (¬ x1 = 0 → post (- lN (n0 * 10 ^ K + r % 10 ^ K)).toInt32 (hn, nI h, ln, ll, rv, sl, pt, wl, ts, nI (p + K), nI m, iu, a1, a2, a3, a4, a5, a6, a7, a8, a9, a10, a11, a12, a13, a14, a15))) →
    wX_takeNumber_31 post x1 (K + 1) (lN n0) hn (nI h) ln ll rv sl pt wl ts (nI p) (nI m) iu a1 a2 a3 a4 a5 a6 a7 a8 a9 a10 a11 a12 a13 a14 a15
  | 0, n0, p, hp, hg, H => by
    rw [Nat.pow_zero, Nat.mod_one, Nat.mul_one, Nat.add_zero] at H
    unfold wX_takeNumber_31
    refine of_peekC hm hh (by omega) hg.1 ?_
    refine of_dig he (fun z1 z2 => by omega) (fun _ => br_t rfl ?_)
    exact H
  | K + 1, n0, p, hp, hg, H => by
    have h1 := hg.1
    have h2 := hg.2
    have hd : r / 10 ^ K % 10 < 10 := Nat.mod_lt _ (by decide)
    unfold wX_takeNumber_31
    refine of_peekC hm hh (by omega) h1 ?_
    refine of_dig (by omega) (fun _ _ => br_f (by decide) ?_) (fun z => by omega)
    refine of_takeC hm hh (by omega) h1 ?_
    have e1 : ((10 : Int64) * lN n0 + (nI (48 + r / 10 ^ K % 10)).toInt64) - 48 = lN (10 * n0 + r / 10 ^ K % 10) := by
      rw [nI_l (by omega), show (10 : Int64) = lN 10 from rfl, lN_mul, lN_add, show (48 : Int64) = lN 48 from rfl, lN_sub (by omega)]
      congr 1
      omega
    refine nm_r e1 ?_
    refine of_t31 hm hh he he2 K (10 * n0 + r / 10 ^ K % 10) (p + 1) (by omega) h2 ?_
    have e2 : (10 * n0 + r / 10 ^ K % 10) * 10 ^ K + r % 10 ^ K = n0 * 10 ^ (K + 1) + r % 10 ^ (K + 1) := by
      rw [Nat.mod_pow_succ, Nat.pow_succ, Nat.add_mul, Nat.mul_comm (r / 10 ^ K % 10) (10 ^ K), Nat.mul_comm 10 n0, Nat.mul_assoc, Nat.mul_comm 10 (10 ^ K)]
      omega
    rw [e2, show p + 1 + K = p + (K + 1) by omega]
    exact H
theorem of_tNum {post : Int32 → St2 → Prop} {m h p e : Nat} {v : Int32} (hm : m ≤ 1) (hh : h ≤ 1) (hg : of_rg (of_B m h a7 a9) p (of_num v ++ [e])) (hp : p + (of_num v).length < of_cp m) (H : post v (hn, nI h, ln, ll, rv, sl, pt, wl, ts, nI (p + (of_num v).length), nI m, iu, a1, a2, a3, a4, a5, a6, a7, a8, a9, a10, a11, a12, a13, a14, a15)) (he : e < 256 := by decide) (he2 : e < 48 ∨ 57 < e := by decide) : wpX_takeNumber post (hn, nI h, ln, ll, rv, sl, pt, wl, ts, nI p, nI m, iu, a1, a2, a3, a4, a5, a6, a7, a8, a9, a10, a11, a12, a13, a14, a15) := by
  have hn := of_nd_ok (of_ab_lt v)
  have em : of_ab v % 10 ^ of_nd (of_ab v) = of_ab v := Nat.mod_eq_of_lt hn.2.2.1
  unfold wpX_takeNumber
  by_cases hv : v < 0
  · have eT : of_num v = 45 :: of_dg (of_ab v) (of_nd (of_ab v)) := by unfold of_num; rw [if_pos hv]; rfl
    have hl : (of_num v).length = 1 + of_nd (of_ab v) := by
      rw [eT, List.length_cons, of_dg_len]
      omega
    rw [eT] at hg
    refine of_peekC hm hh (by omega) hg.1 (br_t rfl ?_)
    refine br_f (by decide) (nm_r (nI_1 p) ⟨of_nd (of_ab v) + 1, ?_⟩)
    refine of_t31 hm hh he he2 (of_nd (of_ab v)) 0 (p + 1) (by omega) hg.2 (br_f (by decide) ?_)
    rw [em, Nat.zero_mul, Nat.zero_add, of_rdn hv, show p + 1 + of_nd (of_ab v) = p + (of_num v).length by omega]
    exact H
  · have eT : of_num v = of_dg (of_ab v) (of_nd (of_ab v)) := by unfold of_num; rw [if_neg hv]; rfl
    have hl : (of_num v).length = of_nd (of_ab v) := by
      rw [eT, of_dg_len]
    obtain ⟨k, hk⟩ : ∃ k, of_nd (of_ab v) = k + 1 := ⟨of_nd (of_ab v) - 1, by omega⟩
    have hd : of_ab v / 10 ^ k % 10 < 10 := Nat.mod_lt _ (by decide)
    have hg' := hg
    rw [eT, hk] at hg'
    have h1 : of_B m h a7 a9 p = nI (48 + of_ab v / 10 ^ k % 10) := hg'.1
    refine of_peekC hm hh (by omega) h1 (br_f (fun z => ?_) ?_)
    · have := (nI_eq (a := 48 + of_ab v / 10 ^ k % 10) (b := 45) (by omega) (by decide)).mp z
      omega
    · refine br_t rfl ⟨of_nd (of_ab v) + 1, ?_⟩
      rw [eT] at hg
      refine of_t31 hm hh he he2 (of_nd (of_ab v)) 0 p (by omega) hg (br_t rfl ?_)
      rw [em, Nat.zero_mul, Nat.zero_add, of_rd hv, ← hl]
      exact H
/-! ===== one object made ===== -/
def of_up (g : of_G) (o : Nat) (x : Option (Bool × Int32)) : of_G := fun j => if j = o then x else g j
theorem of_up_s {g : of_G} {o : Nat} {x : Option (Bool × Int32)} : of_up g o x o = x := if_pos rfl
theorem of_up_n {g : of_G} {o j : Nat} {x : Option (Bool × Int32)} (h : j ≠ o) : of_up g o x j = g j := if_neg h
theorem of_bec {post : Int32 → St2 → Prop} {o : Nat} {kd : Int32} (ho : o ≤ 8) (H : post (a1 o) (hn, hf, ln, ll, rv, sl, pt, wl, ts, fr, fs, iu, upd a1 o kd, upd a2 o 0, a3, a4, a5, upd a6 o 1, a7, a8, a9, a10, a11, a12, a13, a14, a15)) : wpX_become post (hn, hf, ln, ll, rv, sl, pt, wl, ts, fr, fs, iu, a1, a2, a3, a4, a5, a6, a7, a8, a9, a10, a11, a12, a13, a14, a15) (nI o) kd := by
  have hi : vp_in (nI o) 9 := pk_in o 9 (by omega)
  have hc : (nI o).toNatClampNeg = o := nI_clamp (by omega)
  unfold wpX_become
  rw [hc]
  exact ⟨hi, nm_e ⟨hi, nm_e ⟨hi, nm_e ⟨hi, nm_e H⟩⟩⟩⟩
theorem of_addV {post : Int32 → St2 → Prop} {o : Nat} {kd v : Int32} (ho : o ≤ 8) (h2 : a2 o = 0) (H : post 1 (hn, hf, ln, ll, rv, sl, pt, wl, ts, fr, fs, iu, a1, upd a2 o 1, upd a3 (6 * o) v, upd a4 (6 * o) kd, upd a5 (6 * o) 0, upd a6 o 1, a7, a8, a9, a10, a11, a12, a13, a14, a15)) : wpX_addValue post (hn, hf, ln, ll, rv, sl, pt, wl, ts, fr, fs, iu, a1, a2, a3, a4, a5, a6, a7, a8, a9, a10, a11, a12, a13, a14, a15) (nI o) kd v := by
  have hi : vp_in (nI o) 9 := pk_in o 9 (by omega)
  have hc : (nI o).toNatClampNeg = o := nI_clamp (by omega)
  have hk : vp_in (nI (6 * o)) 54 := pk_in (6 * o) 54 (by omega)
  have hck : (nI (6 * o)).toNatClampNeg = 6 * o := nI_clamp (by omega)
  have e : (6 : Int32) * nI o + 0 = nI (6 * o) := by
    rw [show (6 : Int32) = nI 6 from rfl, pk_mul, show (0 : Int32) = nI 0 from rfl, nI_add]
    rfl
  unfold wpX_addValue
  rw [hc]
  refine ⟨hi, nm_r (e' := nI (6 * o)) (by rw [h2]; exact e) ?_⟩
  rw [hck]
  refine ⟨hk, nm_e ⟨hk, nm_e ⟨hk, nm_e ⟨hi, hi, nm_r (e' := upd a2 o 1) (by rw [h2]; rfl) ⟨hi, nm_e ⟨hi, ?_⟩⟩⟩⟩⟩⟩
  rw [pk_us]
  exact H
theorem of_OM_set {g : of_G} {o : Nat} {x : of_X} {k v vk : Int32} (hOM : of_OM g a1 a2 a3 a4) (h1 : k = (if x.1 then 5 else 1)) (h3 : v = x.2) (h4 : vk = (if x.1 then 2 else 0)) : of_OM (of_up g o (some x)) (upd a1 o k) (upd (upd a2 o 0) o 1) (upd a3 (6 * o) v) (upd a4 (6 * o) vk) := by
  intro j j1 j2
  by_cases e : j = o
  · subst e
    rw [of_up_s, pk_us, pk_us, pk_us, pk_us]
    exact of_om_i h1 rfl h3 h4
  · rw [of_up_n e, pk_un e, pk_un e, pk_un e, pk_un (by omega), pk_un (by omega)]
    exact hOM j j1 j2
theorem of_OM_del {g : of_G} {o : Nat} (hOM : of_OM g a1 a2 a3 a4) : of_OM (of_up g o none) (upd a1 o 0) (upd a2 o 0) a3 a4 := by
  intro j j1 j2
  by_cases e : j = o
  · subst e
    rw [of_up_s, pk_us, pk_us]
    exact ⟨rfl, rfl⟩
  · rw [of_up_n e, pk_un e, pk_un e]
    exact hOM j j1 j2
theorem of_rO8 {post : St2 → Prop} {m h o P : Nat} {x : of_X} {g : of_G} (hm : m ≤ 1) (hh : h ≤ 1) (ho : o ≤ 8) (hg : of_rg (of_B m h a7 a9) P (of_ot x)) (hP : P + (of_ot x).length ≤ of_cp m) (hOM : of_OM g a1 a2 a3 a4)
    (H : ∀ b1 b2 b3 b4 b5 b6 f, of_OM (of_up g o (some x)) b1 b2 b3 b4 → (∀ j, j ≠ o → b6 j = a6 j) → post (hn, nI h, ln, ll, rv, sl, pt, wl, ts, f, 0, iu, b1, b2, b3, b4, b5, b6, a7, a8, a9, a10, a11, a12, a13, a14, a15)) : wX_readObject_8 post (nI o) (nI P) (nI m) hn (nI h) ln ll rv sl pt wl ts fr fs iu a1 a2 a3 a4 a5 a6 a7 a8 a9 a10 a11 a12 a13 a14 a15 := by
  have hi : vp_in (nI o) 9 := pk_in o 9 (by omega)
  have hc : (nI o).toNatClampNeg = o := nI_clamp (by omega)
  have hl : (of_ot x).length = 4 + (of_num x.2).length := by
    unfold of_ot
    simp only [List.length_cons, List.length_append, List.length_nil]
    omega
  have hg1 : of_B m h a7 a9 P = nI (of_kc x) := hg.1
  have hg2 : of_B m h a7 a9 (P + 1) = nI (of_mc x) := hg.2.1
  have hg3 : of_rg (of_B m h a7 a9) (P + 1 + 1) (of_num x.2 ++ [44] ++ [41]) := by
    rw [List.append_assoc]
    exact hg.2.2
  have hg4 := (of_rg_app _ _ _).mp hg3
  rw [List.length_append] at hg4
  have hg5 : of_B m h a7 a9 (P + 1 + 1 + (of_num x.2).length + 1) = nI 41 := hg4.2.1
  have hbb : narrow .boolean (.int (nI m)) = .int (nI m) ∧ fits .boolean (.int (nI m)) = true := by
    match m, hm with
    | 0, _ => exact ⟨rfl, rfl⟩
    | 1, _ => exact ⟨rfl, rfl⟩
  have ek : nI (of_kc x) - 48 = (if x.1 then 5 else 1) := by
    unfold of_kc
    split <;> rfl
  have k1 := (of_k45 (b := x.1)).1
  have k2 := (of_k45 (b := x.1)).2.1
  unfold wX_readObject_8
  refine ⟨hbb.1, hbb.2, of_takeC hm hh (by omega) hg1 (nm_r ek ?_)⟩
  refine of_bec ho (br_f k2 ⟨2, ?_⟩)
  unfold wX_readValues_0
  refine of_peekC hm hh (by omega) hg2 (br_f ?_ ⟨hi, br_f ?_ ?_⟩)
  · unfold of_mc
    split <;> decide
  · rw [hc, pk_us]
    exact k1
  · unfold wX_readValues_36
    refine of_takeC hm hh (by omega) hg2 ?_
    refine of_tNum (e := 44) hm hh hg4.1 (by omega) (nm_r (nI_1 _) ?_)
    have fin : ∀ vk : Int32, vk = (if x.1 then 2 else 0) → wX_readValues_80 (fun u => match u with | (hnz, hfz, lnz, llz, rvz, slz, ptz, wlz, tsz, frz, fsz, iuz, a1z, a2z, a3z, a4z, a5z, a6z, a7z, a8z, a9z, a10z, a11z, a12z, a13z, a14z, a15z) => post (hnz, hfz, lnz, llz, rvz, slz, ptz, wlz, tsz, frz, 0, iuz, a1z, a2z, a3z, a4z, a5z, a6z, a7z, a8z, a9z, a10z, a11z, a12z, a13z, a14z, a15z)) (wX_readValues_0 (fun u => match u with | (hnz, hfz, lnz, llz, rvz, slz, ptz, wlz, tsz, frz, fsz, iuz, a1z, a2z, a3z, a4z, a5z, a6z, a7z, a8z, a9z, a10z, a11z, a12z, a13z, a14z, a15z) => post (hnz, hfz, lnz, llz, rvz, slz, ptz, wlz, tsz, frz, 0, iuz, a1z, a2z, a3z, a4z, a5z, a6z, a7z, a8z, a9z, a10z, a11z, a12z, a13z, a14z, a15z)) (nI o) 1) (nI o) 0 x.2 vk (nI o) hn (nI h) ln ll rv sl pt wl ts (nI (P + 1 + 1 + (of_num x.2).length + 1)) (nI m) iu (upd a1 o (if x.1 then 5 else 1)) (upd a2 o 0) a3 a4 a5 (upd a6 o 1) a7 a8 a9 a10 a11 a12 a13 a14 a15 := by
      intro vk ev
      unfold wX_readValues_80
      refine of_addV ho pk_us ?_
      have e6 : ((6 : Int32) * nI o + upd (upd a2 o 0) o 1 (nI o).toNatClampNeg) - 1 = nI (6 * o) := by
        rw [hc, pk_us, show (6 : Int32) = nI 6 from rfl, pk_mul, nI_1]
        exact nI_pred (6 * o)
      refine ⟨hi, pk_in (6 * o) 54 (by omega) e6, nm_e ?_⟩
      unfold wX_readValues_0
      refine of_peekC hm hh (by omega) hg5 (br_t rfl ?_)
      refine H _ _ _ _ _ _ _ (of_OM_set hOM rfl rfl ev) (fun j hj => ?_)
      rw [pk_un hj, pk_un hj]
    by_cases hb : x.1 = true
    · have em : of_mc x = 64 := by unfold of_mc; rw [if_pos hb]
      exact br_t (by rw [em]; rfl) (fin 2 (by rw [if_pos hb]))
    · have em : of_mc x = 35 := by unfold of_mc; rw [if_neg hb]
      exact br_f (by rw [em]; decide) (br_f (by rw [em]; decide) (fin 0 (by rw [if_neg hb])))
end
end
section
/-! the family of kit/laws BITS, "Int32 by its bits", as far as it is used (a starting text) -/
def bt (x : Int32) (i : Nat) : Bool := x.toBitVec.getLsbD i
theorem b_ext {x y : Int32} (h : ∀ i, i < 32 → bt x i = bt y i) : x = y := Int32.toBitVec_inj.mp (BitVec.eq_of_getLsbD_eq (fun i hi => h i hi))
theorem b_or (x y : Int32) (i : Nat) : bt (x ||| y) i = (bt x i || bt y i) := by unfold bt; rw [Int32.toBitVec_or, BitVec.getLsbD_or]
theorem b_and (x y : Int32) (i : Nat) : bt (x &&& y) i = (bt x i && bt y i) := by unfold bt; rw [Int32.toBitVec_and, BitVec.getLsbD_and]
theorem b_big {x : Int32} {i : Nat} (h : 32 ≤ i) : bt x i = false := BitVec.getLsbD_of_ge _ _ h
theorem b_0 (i : Nat) : bt 0 i = false := BitVec.getLsbD_zero
theorem s_l : ∀ n, n < 32 → ((nI n &&& 31).toBitVec.smod 32).toNat = n := by decide +kernel
theorem b_shl (n : Nat) (hn : n < 32) (x : Int32) {i : Nat} (hi : i < 32) : bt (x <<< (nI n &&& 31)) i = (decide (n ≤ i) && bt x (i - n)) := by
  unfold bt
  rw [Int32.toBitVec_shiftLeft]
  show (x.toBitVec <<< ((nI n &&& 31).toBitVec.smod 32).toNat).getLsbD i = _
  rw [s_l n hn, BitVec.getLsbD_shiftLeft]
  rcases Nat.lt_or_ge i n with h | h
  · simp [h, Nat.not_le.mpr h]
  · simp [hi, h, Nat.not_lt.mpr h]
theorem b_sshr (n : Nat) (hn : n < 32) (x : Int32) {i : Nat} (hi : i < 32) : bt (x >>> (nI n &&& 31)) i = if n + i < 32 then bt x (n + i) else bt x 31 := by
  unfold bt
  rw [Int32.toBitVec_shiftRight]
  show (x.toBitVec.sshiftRight ((nI n &&& 31).toBitVec.smod 32).toNat).getLsbD i = _
  rw [s_l n hn, BitVec.getLsbD_sshiftRight, BitVec.msb_eq_getLsbD_last]
  simp [hi]
theorem of_b1 : ∀ k, k < 32 → bt 1 k = decide (k = 0) := by decide +kernel
theorem of_y1 (y : Int32) : y &&& 1 = if bt y 0 then 1 else 0 := by
  rw [pk_and y (m := 1) 1 (by decide)]
  have e : bt y 0 = decide (y.toBitVec.toNat % 2 = 1) := by
    show y.toBitVec.toNat.testBit 0 = _
    rw [Nat.testBit_zero]
  rw [e]
  by_cases h : y.toBitVec.toNat % 2 = 1
  · rw [show y.toBitVec.toNat % 2 ^ 1 = 1 from h]
    rfl
  · rw [show y.toBitVec.toNat % 2 ^ 1 = 0 by show y.toBitVec.toNat % 2 = 0; omega]
    rfl
theorem of_bit (x : Int32) {o : Nat} (h : o < 32) : (x >>> (nI o &&& 31)) &&& 1 = if bt x o then 1 else 0 := by
  rw [of_y1, b_sshr o h x (by decide), if_pos (show o + 0 < 32 from h), Nat.add_zero]
theorem of_set (x : Int32) {o j : Nat} (h : o < 32) (hj : j < 32) : bt (x ||| ((1 : Int32) <<< (nI o &&& 31))) j = (bt x j || decide (j = o)) := by
  rw [b_or, b_shl o h 1 hj, of_b1 (j - o) (by omega)]
  congr 1
  by_cases e : j = o
  · subst e
    simp
  · rw [decide_eq_false e]
    by_cases e2 : o ≤ j
    · rw [decide_eq_false (show ¬ j - o = 0 by omega), Bool.and_false]
    · rw [decide_eq_false e2, Bool.false_and]
end
section
section
variable {hn hf ln ll rv sl pt wl ts fr fs iu : Int32} {a1 a2 a3 a4 a5 a6 a7 a8 a9 a10 a11 a12 a13 a14 a15 : Nat → Int32}
def of_iu (iu : Int32) (c : Nat → Int32) (Z : List Nat) : Prop := iu = 0 ∨ (iu = 1 ∧ of_rg c 0 Z)
theorem of_u64 {post : St2 → Prop} {J : Int32 → Int32 → Int32 → Int32 → Int32 → Int32 → Int32 → Int32 → Int32 → Int32 → Int32 → Int32 → Int32 → (Nat → Int32) → (Nat → Int32) → (Nat → Int32) → (Nat → Int32) → (Nat → Int32) → (Nat → Int32) → (Nat → Int32) → (Nat → Int32) → (Nat → Int32) → (Nat → Int32) → (Nat → Int32) → (Nat → Int32) → (Nat → Int32) → (Nat → Int32) → (Nat → Int32) → Prop} {n b z : Nat} (hz : z ≤ 700) (hn2 : n < 256) : ∀ (k i : Nat) (a9 : Nat → Int32) (y : Int32), y = nI (n - k) → k ≤ n → i + k ≤ z →
    (∀ b9, of_rg b9 i (List.replicate k b) → (∀ j, j < i → b9 j = a9 j) → J (nI (i + k)) hn hf ln ll rv (nI z) pt wl ts fr fs iu a1 a2 a3 a4 a5 a6 a7 a8 b9 a10 a11 a12 a13 a14 a15) →
    wX_unpack_64 post J (nI n) (nI b) hn hf ln ll rv (nI z) pt wl ts fr fs iu (k + 1) (nI i) y a1 a2 a3 a4 a5 a6 a7 a8 a9 a10 a11 a12 a13 a14 a15
  | 0, i, a9, y, hy, _, _, H => pk_le n (n - 0) (fun _ => H a9 trivial (fun _ _ => rfl)) (fun z => by omega) rfl hy
  | k + 1, i, a9, y, hy, hk, hi, H => by
    refine pk_le n (n - (k + 1)) (fun z => by omega) (fun _ => pk_le z i (fun y => by omega) (fun _ => ⟨pk_in i 700 (by omega), ?_⟩)) rfl hy
    rw [nI_clamp (show i < 2 ^ 31 by omega)]
    refine nm_e (nm_r (nI_1 i) (nm_r (e' := nI (n - k)) (by rw [hy, nI_1]; congr 1; omega) ?_))
    refine of_u64 hz hn2 k (i + 1) _ _ rfl (by omega) (by omega) (fun b9 g1 g2 => ?_)
    rw [show i + 1 + k = i + (k + 1) by omega]
    refine H b9 ⟨?_, g1⟩ (fun j hj => ?_)
    · rw [g2 i (by omega), pk_us]
    · rw [g2 j (by omega), pk_un (by omega)]
theorem of_u43 {post : St2 → Prop} {h z : Nat} (hh : h ≤ 1) (hz : z ≤ 700) : ∀ (R : List (Nat × Nat)) (i p : Nat) (a9 : Nat → Int32), of_rok R → i + (of_ex R).length = z → p + (of_fl R).length ≤ 3700 → of_rg (fun i => a7 (3700 * h + i) &&& 255) p (of_fl R) →
    (∀ b9 f', of_rg b9 i (of_ex R) → (∀ j, j < i → b9 j = a9 j) → post (hn, nI h, ln, ll, rv, nI z, pt, wl, ts, f', 0, iu, a1, a2, a3, a4, a5, a6, a7, a8, b9, a10, a11, a12, a13, a14, a15)) →
    wX_unpack_43 post (R.length + 1) (nI i) hn (nI h) ln ll rv (nI z) pt wl ts (nI p) 0 iu a1 a2 a3 a4 a5 a6 a7 a8 a9 a10 a11 a12 a13 a14 a15
  | [], i, p, a9, _, hi, _, _, H => by
    have hi' : i + 0 = z := hi
    exact pk_le z i (fun _ => H a9 _ trivial (fun _ _ => rfl)) (fun y => by omega)
  | (n, b) :: R, i, p, a9, hok, hi, hp, hg, H => by
    have h0 := hok (n, b) List.mem_cons_self
    have n1 : 1 ≤ n := h0.1
    have n2 : n < 256 := h0.2.1
    simp only [of_ex, of_fl, List.length_append, List.length_replicate, List.length_cons] at hi hp
    have g1 : of_B 0 h a7 a9 p = nI n := hg.1
    have g2 : of_B 0 h a7 a9 (p + 1) = nI b := hg.2.1
    have g3 := hg.2.2
    refine pk_le z i (fun y => by omega) (fun _ => ?_)
    refine of_takeC (m := 0) (by omega) hh (show p < 3700 by omega) g1 ?_
    refine of_takeC (m := 0) (by omega) hh (show p + 1 < 3700 by omega) g2 ⟨n + 1, ?_⟩
    refine of_u64 hz n2 n i a9 0 (by rw [Nat.sub_self]; rfl) (Nat.le_refl n) (by omega) (fun b9 k1 k2 => ?_)
    · refine of_u43 hh hz R (i + n) (p + 1 + 1) b9 (fun x hx => hok x (List.mem_cons_of_mem _ hx)) (by omega) (by omega) g3 (fun c9 f' m1 m2 => ?_)
      refine H c9 f' ?_ (fun j hj => ?_)
      · simp only [of_ex]
        rw [of_rg_app, List.length_replicate]
        refine ⟨of_rg_ext _ _ (fun j j1 j2 => ?_) k1, m1⟩
        rw [List.length_replicate] at j2
        exact m2 j (by omega)
      · rw [m2 j (by omega), k2 j hj]
theorem of_unp {post : St2 → Prop} {h L : Nat} {Z : List Nat} (hh : h ≤ 1) (hL : L ≤ 3700) (hpk : of_pk (fun i => a7 (3700 * h + i) &&& 255) L Z) (hiu : of_iu iu a9 Z) (H : ∀ s' f' e' b9, of_rg b9 0 Z → post (hn, nI h, ln, ll, rv, s', pt, wl, ts, f', e', 1, a1, a2, a3, a4, a5, a6, a7, a8, b9, a10, a11, a12, a13, a14, a15)) : wpX_unpack post (hn, nI h, ln, ll, rv, sl, pt, wl, ts, fr, fs, iu, a1, a2, a3, a4, a5, a6, a7, a8, a9, a10, a11, a12, a13, a14, a15) := by
  unfold wpX_unpack
  rcases hiu with e | ⟨e, hZ⟩
  · refine br_t e ?_
    obtain ⟨hz, R, r1, r2, r3, r4⟩ := hpk
    have hnl := of_num_len (nI Z.length)
    rw [List.length_append, List.length_cons] at r4
    have r3' : of_rg (fun i => a7 (3700 * h + i) &&& 255) 0 ((of_num (nI Z.length) ++ [58]) ++ of_fl R) := by
      rw [List.append_assoc]
      exact r3
    have r5 := (of_rg_app _ _ _).mp r3'
    rw [List.length_append] at r5
    refine of_tNum (m := 0) (p := 0) (e := 58) (v := nI Z.length) (by omega) hh r5.1 (show 0 + (of_num (nI Z.length)).length < 3700 by omega) (nm_r (nI_1 _) ⟨R.length + 1, ?_⟩)
    refine of_u43 hh hz R 0 _ a9 r2 (by rw [r1, Nat.zero_add]) (by omega) r5.2 (fun b9 f' m1 _ => H _ _ _ b9 (r1 ▸ m1))
  · subst e
    exact br_f (by decide) (H sl fr fs a9 hZ)
/-- where a listed object stands -/
def of_pt (F : Nat → Int32) (L : Nat) (Z : List Nat) (mk P : Nat) (x : of_X) : Prop := (mk = 43 ∧ of_rg F P (of_ot x) ∧ P + (of_ot x).length ≤ L) ∨ (mk = 42 ∧ of_pk F L Z ∧ (∀ A : Nat → Int32, of_rg A 0 Z → of_rg A P (of_ot x)) ∧ P + (of_ot x).length ≤ Z.length)
theorem of_rOb {post : St2 → Prop} {h L o P mk : Nat} {Z : List Nat} {x : of_X} {g : of_G} {z : Int32} (hh : h ≤ 1) (hL : L ≤ 3700) (ho : o ≤ 8) (hz : z = if mk = 42 then 1 else 0) (hp : of_pt (fun i => a7 (3700 * h + i) &&& 255) L Z mk P x) (hiu : of_iu iu a9 Z) (hOM : of_OM g a1 a2 a3 a4)
    (H : ∀ s' f' i' b1 b2 b3 b4 b5 b6 b9, of_OM (of_up g o (some x)) b1 b2 b3 b4 → (∀ j, j ≠ o → b6 j = a6 j) → of_iu i' b9 Z → post (hn, nI h, ln, ll, rv, s', pt, wl, ts, f', 0, i', b1, b2, b3, b4, b5, b6, a7, a8, b9, a10, a11, a12, a13, a14, a15)) : wpX_readObject post (hn, nI h, ln, ll, rv, sl, pt, wl, ts, fr, fs, iu, a1, a2, a3, a4, a5, a6, a7, a8, a9, a10, a11, a12, a13, a14, a15) (nI o) (nI P) z := by
  unfold wpX_readObject
  rcases hp with ⟨e, p1, p2⟩ | ⟨e, p0, p1, p2⟩
  · have hz' : z = 0 := by rw [hz, if_neg (by omega)]
    subst hz'
    refine br_t rfl (of_rO8 (m := 0) (by omega) hh ho p1 (show P + (of_ot x).length ≤ 3700 by omega) hOM (fun b1 b2 b3 b4 b5 b6 f' k1 k2 => H _ f' _ b1 b2 b3 b4 b5 b6 _ k1 k2 hiu))
  · have hz' : z = 1 := by rw [hz, if_pos e]
    subst hz'
    refine br_f (by decide) (of_unp hh hL p0 hiu (fun s' f' e' b9 k0 => ?_))
    have hzl := p0.1
    refine of_rO8 (m := 1) (by omega) hh ho (p1 b9 k0) (show P + (of_ot x).length ≤ 700 by omega) hOM (fun b1 b2 b3 b4 b5 b6 f' k1 k2 => H _ f' _ b1 b2 b3 b4 b5 b6 _ k1 k2 (Or.inr ⟨rfl, k0⟩))
def of_mg (D : of_D) (s0 : Int32) (g0 : of_G) (o : Nat) : Option (Bool × Int32) := if bt s0 o then g0 o else (D o).getD none
def of_tb (R N : Nat) : Int32 := if R + 1 = N then 0 else 1
theorem of_tb_c {R N : Nat} {A B : Prop} (hR : R < N) (hN : N ≤ 5) (f : of_tb R N = 0 → A) (g : of_tb R N = 1 → B) : (nI R = nI N - 1 → A) ∧ (¬ nI R = nI N - 1 → B) := by
  rw [of_pred (by omega)]
  refine pk_eq R (N - 1) (fun e => f ?_) (fun e => g ?_)
  · unfold of_tb; rw [if_pos (by omega)]
  · unfold of_tb; rw [if_neg (by omega)]
theorem of_t112 {post : Int32 → St2 → Prop} {J : Int32 → Int32 → Int32 → Int32 → Int32 → Int32 → Int32 → Int32 → Int32 → Int32 → Int32 → Int32 → Int32 → Int32 → Int32 → (Nat → Int32) → (Nat → Int32) → (Nat → Int32) → (Nat → Int32) → (Nat → Int32) → (Nat → Int32) → (Nat → Int32) → (Nat → Int32) → (Nat → Int32) → (Nat → Int32) → (Nat → Int32) → (Nat → Int32) → (Nat → Int32) → (Nat → Int32) → (Nat → Int32) → Prop} {h L o P mk R N n p : Nat} {Z : List Nat} {x : of_X} {g : of_G} {z sn : Int32} (hh : h ≤ 1) (hL : L ≤ 3700) (hR : R < N) (hN : N ≤ 5) (ho : o ≤ 8) (hz : z = if mk = 42 then 1 else 0) (hp : of_pt (fun i => a7 (3700 * h + i) &&& 255) L Z mk P x) (hiu : of_iu iu a9 Z) (hOM : of_OM g a1 a2 a3 a4) (h6 : ∀ j, 1 ≤ j → j ≤ 8 → a6 j = of_tb R N)
    (H : ∀ s' f' i' b1 b2 b3 b4 b5 b6 b9, of_OM (of_up g o (some x)) b1 b2 b3 b4 → (∀ j, 1 ≤ j → j ≤ 8 → b6 j = of_tb R N) → of_iu i' b9 Z → J (sn ||| ((1 : Int32) <<< (nI o &&& 31))) (nI p) (nI (n + 1)) hn (nI h) ln ll (nI N) s' pt wl ts f' 0 i' b1 b2 b3 b4 b5 b6 a7 a8 b9 a10 a11 a12 a13 a14 a15) :
    wX_takeList_112 post J (nI R) sn (nI p) (nI n) (nI o) z (nI P) (nI o) hn (nI h) ln ll (nI N) sl pt wl ts fr fs iu a1 a2 a3 a4 a5 a6 a7 a8 a9 a10 a11 a12 a13 a14 a15 := by
  have hi : vp_in (nI o) 9 := pk_in o 9 (by omega)
  have hc : (nI o).toNatClampNeg = o := nI_clamp (by omega)
  unfold wX_takeList_112
  refine of_rOb hh hL ho hz hp hiu hOM (fun s' f' i' b1 b2 b3 b4 b5 b6 b9 k1 k2 k3 => ?_)
  have fin : ∀ y : Int32, vp_nar .boolean y = of_tb R N → wX_takeList_136 post J (nI R) sn (nI p) (nI n) (nI o) y (nI o) hn (nI h) ln ll (nI N) s' pt wl ts f' 0 i' b1 b2 b3 b4 b5 b6 a7 a8 b9 a10 a11 a12 a13 a14 a15 := by
    intro y ey
    unfold wX_takeList_136
    rw [hc, ey]
    refine ⟨hi, nm_e (nm_e (nm_r (nI_1 n) (H s' f' i' b1 b2 b3 b4 b5 _ b9 k1 (fun j j1 j2 => ?_) k3)))⟩
    by_cases e : j = o
    · rw [e, pk_us]
    · rw [pk_un e, k2 j e, h6 j j1 j2]
  exact of_tb_c hR hN (fun e => fin 0 (by rw [e]; rfl)) (fun e => fin 1 (by rw [e]; rfl))
end
end
section
section
variable {hn hf ln ll rv sl pt wl ts fr fs iu : Int32} {a1 a2 a3 a4 a5 a6 a7 a8 a9 a10 a11 a12 a13 a14 a15 : Nat → Int32}
def of_inv (D : of_D) (s0 : Int32) (g0 : of_G) (k : Nat) (sn : Int32) (g : of_G) : Prop := ∀ o, 1 ≤ o → o ≤ 8 → (o + k < 9 → g o = of_mg D s0 g0 o ∧ bt sn o = (bt s0 o || (D o).isSome)) ∧ (9 ≤ o + k → g o = g0 o ∧ bt sn o = bt s0 o)
theorem of_inv_0 {D : of_D} {s0 sn : Int32} {g0 g : of_G} {k : Nat} (h0 : ∀ o, 1 ≤ o → o ≤ 8 → bt s0 o = false → g0 o = none) (hk : k < 8) (hD : D (8 - k) = none) (h : of_inv D s0 g0 (k + 1) sn g) : of_inv D s0 g0 k sn g := by
  intro o o1 o2
  refine ⟨fun z => ?_, fun z => (h o o1 o2).2 (by omega)⟩
  by_cases e : o + (k + 1) < 9
  · exact (h o o1 o2).1 e
  · have eo : o = 8 - k := by omega
    obtain ⟨t1, t2⟩ := (h o o1 o2).2 (by omega)
    rw [t1, t2, eo, hD]
    unfold of_mg
    rw [hD]
    refine ⟨?_, by simp⟩
    cases hb : bt s0 (8 - k) with
    | true => rfl
    | false => exact h0 _ (by omega) (by omega) hb
theorem of_inv_1 {D : of_D} {s0 sn : Int32} {g0 g : of_G} {k : Nat} {y : Option (Bool × Int32)} (h0 : ∀ o, 1 ≤ o → o ≤ 8 → bt s0 o = false → g0 o = none) (hk : k < 8) (hD : D (8 - k) = some y) (hy : bt s0 (8 - k) = true ∨ y = none) (h : of_inv D s0 g0 (k + 1) sn g) : of_inv D s0 g0 k (sn ||| ((1 : Int32) <<< (nI (8 - k) &&& 31))) g := by
  intro o o1 o2
  rw [of_set sn (by omega) (by omega)]
  by_cases eo : o = 8 - k
  · obtain ⟨t1, t2⟩ := (h o o1 o2).2 (by omega)
    refine ⟨fun z => ⟨?_, ?_⟩, fun z => by omega⟩
    · rw [t1, eo]
      unfold of_mg
      rw [hD]
      cases hb : bt s0 (8 - k) with
      | true => rfl
      | false =>
        rcases hy with hy | hy
        · rw [hb] at hy
          exact absurd hy (by decide)
        · rw [hy]
          exact h0 _ (by omega) (by omega) hb
    · rw [eo, hD]
      simp
  · rw [decide_eq_false eo, Bool.or_false]
    exact ⟨fun z => (h o o1 o2).1 (by omega), fun z => (h o o1 o2).2 (by omega)⟩
theorem of_inv_2 {D : of_D} {s0 sn : Int32} {g0 g : of_G} {k : Nat} {x : of_X} (hk : k < 8) (hD : D (8 - k) = some (some x)) (hb : bt s0 (8 - k) = false) (h : of_inv D s0 g0 (k + 1) sn g) : of_inv D s0 g0 k (sn ||| ((1 : Int32) <<< (nI (8 - k) &&& 31))) (of_up g (8 - k) (some x)) := by
  intro o o1 o2
  rw [of_set sn (by omega) (by omega)]
  by_cases eo : o = 8 - k
  · refine ⟨fun z => ⟨?_, ?_⟩, fun z => by omega⟩
    · rw [eo, of_up_s]
      unfold of_mg
      rw [hD, hb]
      rfl
    · rw [eo, hD]
      simp
  · rw [decide_eq_false eo, Bool.or_false, of_up_n eo]
    exact ⟨fun z => (h o o1 o2).1 (by omega), fun z => (h o o1 o2).2 (by omega)⟩
theorem of_tL9 {post : Int32 → St2 → Prop} {h L R N mk : Nat} {Z : List Nat} {D : of_D} {pl : Nat → Nat} {bf s0 : Int32} {g0 : of_G} (hh : h ≤ 1) (hL : L ≤ 3700) (hR : R < N) (hN : N ≤ 5) (hmk : mk = 43 ∨ mk = 42) (hpt : ∀ o x, 1 ≤ o → o ≤ 8 → D o = some (some x) → of_pt (fun i => a7 (3700 * h + i) &&& 255) L Z mk (pl o) x) (h0 : ∀ o, 1 ≤ o → o ≤ 8 → bt s0 o = false → g0 o = none)
    (H : ∀ sn g s' f' e' i' b1 b2 b3 b4 b5 b6 b9, of_OM g b1 b2 b3 b4 → (∀ j, 1 ≤ j → j ≤ 8 → b6 j = of_tb R N) → of_iu i' b9 Z → (∀ o, 1 ≤ o → o ≤ 8 → g o = of_mg D s0 g0 o ∧ bt sn o = (bt s0 o || (D o).isSome)) → post sn (hn, nI h, ln, ll, nI N, s', pt, wl, ts, f', e', i', b1, b2, b3, b4, b5, b6, a7, a8, b9, a10, a11, a12, a13, a14, a15)) :
    ∀ (k f n p : Nat) (sn : Int32) (g : of_G) (sl fr fs iu : Int32) (a1 a2 a3 a4 a5 a6 a9 : Nat → Int32), k < f → k ≤ 8 → n + k ≤ 8 → of_rg (fun i => a7 (3700 * h + i) &&& 255) p (of_ls D pl mk bf k) → p + (of_ls D pl mk bf k).length ≤ L → of_OM g a1 a2 a3 a4 → (∀ j, 1 ≤ j → j ≤ 8 → a6 j = of_tb R N) → of_iu iu a9 Z → of_inv D s0 g0 k sn g → wX_takeList_9 post (nI R) f sn (nI p) (nI n) hn (nI h) ln ll (nI N) sl pt wl ts fr fs iu a1 a2 a3 a4 a5 a6 a7 a8 a9 a10 a11 a12 a13 a14 a15
  | k, 0, n, p, sn, g, sl, fr, fs, iu, a1, a2, a3, a4, a5, a6, a9, hf', _, _, _, _, _, _, _, _ => absurd hf' (Nat.not_lt_zero k)
  | 0, f + 1, n, p, sn, g, sl, fr, fs, iu, a1, a2, a3, a4, a5, a6, a9, _, _, hn', hg, hp, hOM, h6, hiu, hinv => by
    have hp' : p < 3700 := by
      have e : (of_ls D pl mk bf 0).length = (of_num bf ++ [46]).length + 1 := rfl
      omega
    have g1 : of_B 0 h a7 a9 p = nI 80 := hg.1
    refine pk_le 8 n (fun _ => ?_) (fun _ => ?_)
    · exact H sn g _ _ _ _ _ _ _ _ _ _ _ hOM h6 hiu (fun o o1 o2 => (hinv o o1 o2).1 (by omega))
    · refine of_peekC (m := 0) (by omega) hh hp' g1 (of_dig (by omega) (fun _ z => by omega) (fun _ => br_t rfl ?_))
      exact H sn g _ _ _ _ _ _ _ _ _ _ _ hOM h6 hiu (fun o o1 o2 => (hinv o o1 o2).1 (by omega))
  | k + 1, f + 1, n, p, sn, g, sl, fr, fs, iu, a1, a2, a3, a4, a5, a6, a9, hf', hk, hn', hg, hp, hOM, h6, hiu, hinv => by
    have hgs := (of_rg_app _ _ _).mp hg
    have hls : (of_ls D pl mk bf (k + 1)).length = (of_le D pl mk (8 - k)).length + (of_ls D pl mk bf k).length := by
      simp only [of_ls, List.length_append]
    cases hD : D (8 - k) with
    | none =>
      have el : of_le D pl mk (8 - k) = [] := by unfold of_le; rw [hD]
      rw [el] at hgs hls
      rw [List.length_nil] at hls
      exact of_tL9 hh hL hR hN hmk hpt h0 H k (f + 1) n p sn g sl fr fs iu a1 a2 a3 a4 a5 a6 a9 (by omega) (by omega) (by omega) hgs.2 (by omega) hOM h6 hiu (of_inv_0 h0 (by omega) hD hinv)
    | some y =>
      have e48 : nI (48 + (8 - k)) - 48 = nI (8 - k) := by
        rw [show (48 : Int32) = nI 48 from rfl, pk_sub (by omega)]
        congr 1
        omega
      have ebit := of_bit sn (o := 8 - k) (by omega)
      have hbs : bt sn (8 - k) = bt s0 (8 - k) := ((hinv (8 - k) (by omega) (by omega)).2 (by omega)).2
      refine pk_le 8 n (fun z => by omega) (fun _ => ?_)
      cases y with
      | none =>
        have el : of_le D pl mk (8 - k) = [48 + (8 - k), 45, 44] := by unfold of_le; rw [hD]
        rw [el] at hgs hls
        simp only [List.length_cons, List.length_nil] at hls
        have g1 : of_B 0 h a7 a9 p = nI (48 + (8 - k)) := hgs.1.1
        have g2 : of_B 0 h a7 a9 (p + 1) = nI 45 := hgs.1.2.1
        refine of_peekC (m := 0) (by omega) hh (show p < 3700 by omega) g1 (of_dig (by omega) (fun _ _ => br_f (by decide) ?_) (fun z => by omega))
        refine of_takeC (m := 0) (by omega) hh (show p < 3700 by omega) g1 (nm_r e48 ?_)
        refine of_takeC (m := 0) (by omega) hh (show p + 1 < 3700 by omega) g2 (br_t rfl ?_)
        unfold wX_takeList_70
        have fin : wX_takeList_137 post (wX_takeList_9 post (nI R) f) (nI R) sn (nI (p + 1 + 1 + 1)) (nI n) (nI (8 - k)) hn (nI h) ln ll (nI N) sl pt wl ts (nI (p + 1 + 1)) 0 iu a1 a2 a3 a4 a5 a6 a7 a8 a9 a10 a11 a12 a13 a14 a15 := by
          unfold wX_takeList_137
          refine nm_e (nm_r (nI_1 n) ?_)
          exact of_tL9 hh hL hR hN hmk hpt h0 H k f (n + 1) (p + 1 + 1 + 1) _ g _ _ _ _ _ _ _ _ _ _ _ (by omega) (by omega) (by omega) hgs.2 (by omega) hOM h6 hiu (of_inv_1 h0 (by omega) hD (Or.inr rfl) hinv)
        refine nm_r (nI_1 _) (br_c (fun _ => br_t (by decide) fin) (fun _ => fin))
      | some x =>
        have hpx := hpt (8 - k) x (by omega) (by omega) hD
        have hP : pl (8 - k) < 3700 := by
          have := (of_ot_len x).2
          rcases hpx with ⟨_, _, t⟩ | ⟨_, t0, _, t⟩
          · omega
          · have := t0.1
            omega
        have el : of_le D pl mk (8 - k) = (48 + (8 - k)) :: mk :: (of_num (nI (pl (8 - k))) ++ [44]) := by unfold of_le; rw [hD]
        rw [el] at hgs hls
        have hnl := of_num_len (nI (pl (8 - k)))
        simp only [List.length_cons, List.length_nil, List.length_append] at hls
        have g1 : of_B 0 h a7 a9 p = nI (48 + (8 - k)) := hgs.1.1
        have g2 : of_B 0 h a7 a9 (p + 1) = nI mk := hgs.1.2.1
        have g3 := hgs.1.2.2
        have g4 : of_rg (fun i => a7 (3700 * h + i) &&& 255) (p + 1 + 1 + (of_num (nI (pl (8 - k)))).length + 1) (of_ls D pl mk bf k) := by
          have t := hgs.2
          simp only [List.length_cons, List.length_nil, List.length_append] at t
          rw [show p + 1 + 1 + (of_num (nI (pl (8 - k)))).length + 1 = p + ((of_num (nI (pl (8 - k)))).length + (0 + 1) + 1 + 1) by omega]
          exact t
        have hmk45 : ¬ nI mk = 45 := by
          rcases hmk with e | e <;> rw [e] <;> decide
        refine of_peekC (m := 0) (by omega) hh (show p < 3700 by omega) g1 (of_dig (by omega) (fun _ _ => br_f (by decide) ?_) (fun z => by omega))
        refine of_takeC (m := 0) (by omega) hh (show p < 3700 by omega) g1 (nm_r e48 ?_)
        refine of_takeC (m := 0) (by omega) hh (show p + 1 < 3700 by omega) g2 (br_f hmk45 ?_)
        refine of_tNum (m := 0) (e := 44) (by omega) hh g3 (show p + 1 + 1 + (of_num (nI (pl (8 - k)))).length < 3700 by omega) ?_
        unfold wX_takeList_70
        refine nm_r (nI_1 _) ?_
        cases hb : bt s0 (8 - k) with
        | true =>
          rw [hbs, hb] at ebit
          refine br_f (by rw [ebit]; decide) ?_
          unfold wX_takeList_137
          refine nm_e (nm_r (nI_1 n) ?_)
          exact of_tL9 hh hL hR hN hmk hpt h0 H k f (n + 1) _ _ g _ _ _ _ _ _ _ _ _ _ _ (by omega) (by omega) (by omega) g4 (by omega) hOM h6 hiu (of_inv_1 h0 (by omega) hD (Or.inl hb) hinv)
        | false =>
          rw [hbs, hb] at ebit
          have rd : ∀ z : Int32, z = (if mk = 42 then 1 else 0) → wX_takeList_112 post (wX_takeList_9 post (nI R) f) (nI R) sn (nI (p + 1 + 1 + (of_num (nI (pl (8 - k)))).length + 1)) (nI n) (nI (8 - k)) z (nI (pl (8 - k))) (nI (8 - k)) hn (nI h) ln ll (nI N) sl pt wl ts (nI (p + 1 + 1 + (of_num (nI (pl (8 - k)))).length)) 0 iu a1 a2 a3 a4 a5 a6 a7 a8 a9 a10 a11 a12 a13 a14 a15 := by
            intro z ez
            refine of_t112 hh hL hR hN (by omega) ez hpx hiu hOM h6 (fun s' f' i' b1 b2 b3 b4 b5 b6 b9 k1 k2 k3 => ?_)
            exact of_tL9 hh hL hR hN hmk hpt h0 H k f (n + 1) _ _ _ _ _ _ _ _ _ _ _ _ _ _ (by omega) (by omega) (by omega) g4 (by omega) k1 k2 k3 (of_inv_2 (by omega) hD hb hinv)
          refine br_t (by rw [ebit]; rfl) (br_f (nI_pos (by omega)) ?_)
          rcases hmk with e | e
          · exact br_f (by rw [e]; decide) (rd 0 (by rw [e]; rfl))
          · exact br_t (by rw [e]; rfl) (rd 1 (by rw [e]; rfl))
theorem of_tL {post : Int32 → St2 → Prop} {h L R N q : Nat} {Z : List Nat} {D : of_D} {bf s0 : Int32} {g0 : of_G} (hh : h ≤ 1) (hL : L ≤ 3700) (hR : R < N) (hN : N ≤ 5) (hrv : of_rv (fun i => a7 (3700 * h + i) &&& 255) L Z q D bf) (h0 : ∀ o, 1 ≤ o → o ≤ 8 → bt s0 o = false → g0 o = none) (hOM : of_OM g0 a1 a2 a3 a4) (h6 : ∀ j, 1 ≤ j → j ≤ 8 → a6 j = of_tb R N) (hiu : of_iu iu a9 Z)
    (H : ∀ sn g s' f' e' i' b1 b2 b3 b4 b5 b6 b9, of_OM g b1 b2 b3 b4 → (∀ j, 1 ≤ j → j ≤ 8 → b6 j = of_tb R N) → of_iu i' b9 Z → (∀ o, 1 ≤ o → o ≤ 8 → g o = of_mg D s0 g0 o ∧ bt sn o = (bt s0 o || (D o).isSome)) → post sn (hn, nI h, ln, ll, nI N, s', pt, wl, ts, f', e', i', b1, b2, b3, b4, b5, b6, a7, a8, b9, a10, a11, a12, a13, a14, a15)) :
    wpX_takeList post (hn, nI h, ln, ll, nI N, sl, pt, wl, ts, fr, fs, iu, a1, a2, a3, a4, a5, a6, a7, a8, a9, a10, a11, a12, a13, a14, a15) (nI q) s0 (nI R) := by
  obtain ⟨pl, mk, r1, r2, r3⟩ := hrv
  refine ⟨9, ?_⟩
  refine of_tL9 (pl := pl) (mk := mk) (bf := bf) hh hL hR hN ?_ ?_ h0 H 8 9 0 q s0 g0 _ _ _ _ _ _ _ _ _ _ _ (by omega) (by omega) (by omega) r1 r2 hOM h6 hiu (fun o o1 o2 => ⟨fun z => by omega, fun _ => ⟨rfl, rfl⟩⟩)
  · rcases r3 with ⟨e, _⟩ | ⟨e, _⟩
    · exact Or.inl e
    · exact Or.inr e
  · intro o x o1 o2 hD
    rcases r3 with ⟨e, t⟩ | ⟨e, t0, t⟩
    · exact Or.inl ⟨e, (t o x o1 o2 hD).1, (t o x o1 o2 hD).2⟩
    · exact Or.inr ⟨e, t0, (t o x o1 o2 hD).1, (t o x o1 o2 hD).2⟩
end
end
section
section
variable {hn hf ln ll rv sl pt wl ts fr fs iu : Int32} {a1 a2 a3 a4 a5 a6 a7 a8 a9 a10 a11 a12 a13 a14 a15 : Nat → Int32}
theorem of_le_80 {D : of_D} {pl : Nat → Nat} {mk o c : Nat} (hmk : mk = 43 ∨ mk = 42) (ho : o ≤ 8) (h : c ∈ of_le D pl mk o) : c ≠ 80 ∧ c < 256 := by
  have hd : ∀ r k c, c ∈ of_dg r k → c ≠ 80 := by
    intro r k
    induction k with
    | zero => intro c h; simp only [of_dg, List.not_mem_nil] at h
    | succ k ih =>
      intro c h
      simp only [of_dg, List.mem_cons] at h
      rcases h with h | h
      · omega
      · exact ih c h
  unfold of_le at h
  split at h
  · simp only [List.not_mem_nil] at h
  · simp only [List.mem_cons, List.not_mem_nil, or_false] at h
    omega
  · simp only [List.mem_cons, List.mem_append, List.not_mem_nil, or_false] at h
    rcases h with h | h | h | h
    · omega
    · omega
    · refine ⟨?_, of_num_by h⟩
      unfold of_num at h
      rw [List.mem_append] at h
      rcases h with h | h
      · split at h
        · simp only [List.mem_cons, List.not_mem_nil, or_false] at h
          omega
        · simp only [List.not_mem_nil] at h
      · exact hd _ _ c h
    · omega
theorem of_ls_80 {D : of_D} {pl : Nat → Nat} {mk : Nat} {bf : Int32} (hmk : mk = 43 ∨ mk = 42) : ∀ k, ∃ T1, of_ls D pl mk bf k = T1 ++ (80 :: (of_num bf ++ [46])) ∧ ∀ c, c ∈ T1 → c ≠ 80 ∧ c < 256
  | 0 => ⟨[], rfl, fun c h => by simp only [List.not_mem_nil] at h⟩
  | k + 1 => by
    obtain ⟨T1, e, h⟩ := of_ls_80 (D := D) (pl := pl) (bf := bf) hmk k
    refine ⟨of_le D pl mk (8 - k) ++ T1, ?_, fun c hc => ?_⟩
    · simp only [of_ls]
      rw [e, List.append_assoc]
    · rcases List.mem_append.mp hc with hc | hc
      · exact of_le_80 hmk (by omega) hc
      · exact h c hc
theorem of_l10 {post : Int32 → St2 → Prop} {h : Nat} {bf : Int32} (hh : h ≤ 1) (H : ∀ f', post bf (hn, nI h, ln, ll, rv, sl, pt, wl, ts, f', 0, iu, a1, a2, a3, a4, a5, a6, a7, a8, a9, a10, a11, a12, a13, a14, a15)) : ∀ (T1 : List Nat) (f p : Nat), T1.length < f → (∀ c, c ∈ T1 → c ≠ 80 ∧ c < 256) → of_rg (fun i => a7 (3700 * h + i) &&& 255) p (T1 ++ (80 :: (of_num bf ++ [46]))) → p + (T1 ++ (80 :: (of_num bf ++ [46]))).length ≤ 3700 → wX_listBefore_10 post hn (nI h) ln ll rv sl pt wl ts 0 iu a1 a2 a3 a4 a5 a6 a7 a8 a9 a10 a11 a12 a13 a14 a15 f (nI p)
  | T1, 0, p, h1, _, _, _ => absurd h1 (Nat.not_lt_zero _)
  | [], f + 1, p, h1, h2, h3, h4 => by
    simp only [List.nil_append, List.length_cons, List.length_append, List.length_nil] at h4
    have g1 : of_B 0 h a7 a9 p = nI 80 := h3.1
    unfold wX_listBefore_10
    refine of_peekC (m := 0) (by omega) hh (show p < 3700 by omega) g1 (br_t rfl (nm_r (nI_1 p) ?_))
    exact of_tNum (m := 0) (e := 46) (by omega) hh h3.2 (show p + 1 + (of_num bf).length < 3700 by omega) (H _)
  | c :: T1, f + 1, p, h1, h2, h3, h4 => by
    rw [List.length_cons] at h1
    rw [List.cons_append, List.length_cons] at h4
    have hc := h2 c List.mem_cons_self
    have g1 : of_B 0 h a7 a9 p = nI c := h3.1
    unfold wX_listBefore_10
    refine of_peekC (m := 0) (by omega) hh (show p < 3700 by omega) g1 (br_f (fun z => ?_) (nm_r (nI_1 p) ?_))
    · exact hc.1 ((nI_eq (a := c) (b := 80) (by omega) (by decide)).mp z)
    · exact of_l10 hh H T1 f (p + 1) (by omega) (fun c' hc' => h2 c' (List.mem_cons_of_mem _ hc')) h3.2 (by omega)
theorem of_lB {post : Int32 → St2 → Prop} {h L q : Nat} {Z : List Nat} {D : of_D} {bf : Int32} (hh : h ≤ 1) (hL : L ≤ 3700) (hrv : of_rv (fun i => a7 (3700 * h + i) &&& 255) L Z q D bf) (H : ∀ f', post bf (hn, nI h, ln, ll, rv, sl, pt, wl, ts, f', 0, iu, a1, a2, a3, a4, a5, a6, a7, a8, a9, a10, a11, a12, a13, a14, a15)) : wpX_listBefore post (hn, nI h, ln, ll, rv, sl, pt, wl, ts, fr, fs, iu, a1, a2, a3, a4, a5, a6, a7, a8, a9, a10, a11, a12, a13, a14, a15) (nI q) := by
  obtain ⟨pl, mk, r1, r2, r3⟩ := hrv
  have hmk : mk = 43 ∨ mk = 42 := by
    rcases r3 with ⟨e, _⟩ | ⟨e, _⟩
    · exact Or.inl e
    · exact Or.inr e
  obtain ⟨T1, e, h1⟩ := of_ls_80 (D := D) (pl := pl) (bf := bf) hmk 8
  rw [e] at r1 r2
  exact ⟨T1.length + 1, of_l10 hh H T1 _ q (by omega) h1 r1 (by omega)⟩
theorem of_l12 {post : Int32 → St2 → Prop} {h L R : Nat} {Z : List Nat} (hh : h ≤ 1) (hL : L ≤ 3700) (hR : R < 5) : ∀ (d k : Nat) (ds : List of_D) (ptr fr fs : Int32), k = R + d → k ≤ 5 → ds.length = k + 1 → of_ch (fun i => a7 (3700 * h + i) &&& 255) L Z ds ptr →
    (∀ ptr' f' e', of_ch (fun i => a7 (3700 * h + i) &&& 255) L Z (ds.drop d) ptr' → post ptr' (hn, nI h, ln, ll, rv, sl, pt, wl, ts, f', e', iu, a1, a2, a3, a4, a5, a6, a7, a8, a9, a10, a11, a12, a13, a14, a15)) →
    wX_listOf_12 post (nI R) (d + 1) ptr (nI k) hn (nI h) ln ll rv sl pt wl ts fr fs iu a1 a2 a3 a4 a5 a6 a7 a8 a9 a10 a11 a12 a13 a14 a15
  | 0, k, ds, ptr, fr, fs, hk, hk5, hl, hch, H => pk_le k R (fun _ => H ptr fr fs hch) (fun z => by omega)
  | d + 1, k, [], ptr, fr, fs, hk, hk5, hl, hch, H => by
    rw [List.length_nil] at hl
    omega
  | d + 1, k, D :: ds, ptr, fr, fs, hk, hk5, hl, ⟨q, bf, e, hrv, hch⟩, H => by
    rw [List.length_cons] at hl
    have hq : q < 2 ^ 31 := by
      obtain ⟨pl, mk, _, r2, _⟩ := hrv
      omega
    subst e
    refine pk_le k R (fun z => by omega) (fun _ => br_f (nI_pos hq) ?_)
    refine of_lB hh hL hrv (fun f' => nm_r (sb_m1 (by omega)) ?_)
    exact of_l12 hh hL hR d (k - 1) ds bf f' 0 (by omega) (by omega) (by omega) hch (fun ptr' f' e' hc => H ptr' f' e' hc)
theorem of_l61 {post : St2 → Prop} {h L R N : Nat} {Z : List Nat} (hh : h ≤ 1) (hL : L ≤ 3700) (hR : R < N) (hN : N ≤ 5) : ∀ (ds : List of_D) (f n : Nat) (sn ptr : Int32) (g : of_G) (sl fr fs iu : Int32) (a1 a2 a3 a4 a5 a6 a9 : Nat → Int32), ds.length < f → ds.length + n ≤ 5 → of_ch (fun i => a7 (3700 * h + i) &&& 255) L Z ds ptr → of_OM g a1 a2 a3 a4 → (∀ j, 1 ≤ j → j ≤ 8 → a6 j = of_tb R N) → of_iu iu a9 Z → (∀ o, 1 ≤ o → o ≤ 8 → bt sn o = false → g o = none) →
    (∀ g' s' f' e' i' b1 b2 b3 b4 b5 b6 b9, of_OM g' b1 b2 b3 b4 → (∀ j, 1 ≤ j → j ≤ 8 → b6 j = of_tb R N) → of_iu i' b9 Z → (∀ o, 1 ≤ o → o ≤ 8 → g' o = if bt sn o then g o else of_vw ds o) → post (hn, nI h, ln, ll, nI N, s', pt, wl, ts, f', e', i', b1, b2, b3, b4, b5, b6, a7, a8, b9, a10, a11, a12, a13, a14, a15)) →
    wX_load_61 post (nI R) f sn ptr (nI n) hn (nI h) ln ll (nI N) sl pt wl ts fr fs iu a1 a2 a3 a4 a5 a6 a7 a8 a9 a10 a11 a12 a13 a14 a15
  | ds, 0, n, sn, ptr, g, sl, fr, fs, iu, a1, a2, a3, a4, a5, a6, a9, h1, _, _, _, _, _, _, _ => absurd h1 (Nat.not_lt_zero _)
  | [], f + 1, n, sn, ptr, g, sl, fr, fs, iu, a1, a2, a3, a4, a5, a6, a9, _, h2, hch, hOM, h6, hiu, h0, H => by
    have e : ptr = -1 := hch
    subst e
    have fin := H g sl fr fs iu a1 a2 a3 a4 a5 a6 a9 hOM h6 hiu (fun o o1 o2 => by
      cases hb : bt sn o with
      | true => rfl
      | false => exact h0 o o1 o2 hb)
    exact pk_le 5 n (fun _ => fin) (fun _ => br_t (by decide) fin)
  | D :: ds, f + 1, n, sn, ptr, g, sl, fr, fs, iu, a1, a2, a3, a4, a5, a6, a9, h1, h2, ⟨q, bf, e, hrv, hch⟩, hOM, h6, hiu, h0, H => by
    rw [List.length_cons] at h1 h2
    have hq : q < 2 ^ 31 := by
      obtain ⟨pl, mk, _, r2, _⟩ := hrv
      omega
    subst e
    refine pk_le 5 n (fun z => by omega) (fun _ => br_f (nI_pos hq) ?_)
    refine of_tL hh hL hR hN hrv h0 hOM h6 hiu (fun sn' g1 s' f' e' i' b1 b2 b3 b4 b5 b6 b9 k1 k2 k3 k4 => ?_)
    refine of_lB hh hL hrv (fun f'' => nm_r (nI_1 n) ?_)
    refine of_l61 hh hL hR hN ds f (n + 1) sn' bf g1 _ _ _ _ _ _ _ _ _ _ _ (by omega) (by omega) hch k1 k2 k3 (fun o o1 o2 hb => ?_) (fun g' s' f' e' i' b1 b2 b3 b4 b5 b6 b9 m1 m2 m3 m4 => H g' s' f' e' i' b1 b2 b3 b4 b5 b6 b9 m1 m2 m3 (fun o o1 o2 => ?_))
    · obtain ⟨t1, t2⟩ := k4 o o1 o2
      rw [t2] at hb
      have hb1 : bt sn o = false := by
        cases hx : bt sn o with
        | true => rw [hx] at hb; simp at hb
        | false => rfl
      rw [hb1, Bool.false_or] at hb
      rw [t1]
      unfold of_mg
      rw [hb1]
      cases hD : D o with
      | none => rfl
      | some y => rw [hD] at hb; simp at hb
    · obtain ⟨t1, t2⟩ := k4 o o1 o2
      rw [m4 o o1 o2, t1, t2]
      unfold of_mg
      show _ = if bt sn o = true then g o else (match D o with | some x => x | none => of_vw ds o)
      cases hx : bt sn o with
      | true => rfl
      | false =>
        cases hD : D o with
        | none => rfl
        | some y => rfl
/-- loading revision R of N -/
theorem of_load {post : St2 → Prop} {h L R N : Nat} {Z : List Nat} {ds : List of_D} (hh : h ≤ 1) (hL : L ≤ 3700) (hR : R < N) (hN : N ≤ 5) (hds : ds.length = N) (hch : of_ch (fun i => a7 (3700 * h + i) &&& 255) L Z ds ll) (hiu : of_iu iu a9 Z)
    (H : ∀ g s' f' e' i' b1 b2 b3 b4 b5 b6 b9, of_OM g b1 b2 b3 b4 → (∀ j, 1 ≤ j → j ≤ 8 → b6 j = of_tb R N) → of_iu i' b9 Z → (∀ o, 1 ≤ o → o ≤ 8 → g o = of_vw (ds.drop (N - 1 - R)) o) → post (hn, nI h, ln, ll, nI N, s', pt, wl, ts, f', e', i', b1, b2, b3, b4, b5, b6, a7, a8, b9, a10, a11, a12, a13, a14, a15)) :
    wpX_load post (hn, nI h, ln, ll, nI N, sl, pt, wl, ts, fr, fs, iu, a1, a2, a3, a4, a5, a6, a7, a8, a9, a10, a11, a12, a13, a14, a15) (nI R) := by
  have lp : ∀ (k : Nat) (a1 a2 a6 : Nat → Int32), k ≤ 8 → (∀ o, 1 ≤ o → o + k < 9 → a1 o = 0 ∧ a2 o = 0 ∧ a6 o = of_tb R N) → wX_load_2 post (nI R) (k + 1) (nI (9 - k)) hn (nI h) ln ll (nI N) sl pt wl ts fr fs iu a1 a2 a3 a4 a5 a6 a7 a8 a9 a10 a11 a12 a13 a14 a15 := by
    intro k
    induction k with
    | zero =>
      intro a1 a2 a6 _ hz
      refine pk_lt 8 9 (fun _ => ?_) (fun z => by omega)
      refine br_t (nI_pos' (by omega)) ?_
      refine nm_r (of_pred (by omega)) ⟨N - 1 - R + 1, ?_⟩
      refine of_l12 hh hL (by omega) (N - 1 - R) (N - 1) ds ll _ _ (by omega) (by omega) (by omega) hch (fun ptr' f' e' hc => ⟨6, ?_⟩)
      have hdl : (ds.drop (N - 1 - R)).length ≤ 5 := by
        rw [List.length_drop]
        omega
      refine of_l61 hh hL hR hN (ds.drop (N - 1 - R)) 6 0 0 ptr' (fun _ => none) _ _ _ _ _ _ _ _ _ _ _ (by omega) (by omega) hc ?_ ?_ hiu (fun o _ _ _ => rfl) (fun g' s' f' e' i' b1 b2 b3 b4 b5 b6 b9 m1 m2 m3 m4 => H g' s' f' e' i' b1 b2 b3 b4 b5 b6 b9 m1 m2 m3 (fun o o1 o2 => ?_))
      · intro o o1 o2
        exact ⟨(hz o o1 (by omega)).1, (hz o o1 (by omega)).2.1⟩
      · exact fun j j1 j2 => (hz j j1 (by omega)).2.2
      · rw [m4 o o1 o2, b_0]
        rfl
    | succ k ih =>
      intro a1 a2 a6 hk hz
      rw [show 9 - (k + 1) = 8 - k by omega]
      refine pk_lt 8 (8 - k) (fun z => by omega) (fun _ => of_bec (by omega) ?_)
      have hi : vp_in (nI (8 - k)) 9 := pk_in (8 - k) 9 (by omega)
      have hc : (nI (8 - k)).toNatClampNeg = 8 - k := nI_clamp (by omega)
      have go : ∀ y : Int32, y = of_tb R N → wX_load_2 post (nI R) (k + 1) (nI (9 - k)) hn (nI h) ln ll (nI N) sl pt wl ts fr fs iu (upd a1 (8 - k) 0) (upd a2 (8 - k) 0) a3 a4 a5 (upd (upd a6 (8 - k) 1) (8 - k) y) a7 a8 a9 a10 a11 a12 a13 a14 a15 := by
        intro y ey
        refine ih _ _ _ (by omega) (fun o o1 o2 => ?_)
        by_cases eo : o = 8 - k
        · rw [eo, pk_us, pk_us, pk_us]
          exact ⟨rfl, rfl, ey⟩
        · rw [pk_un eo, pk_un eo, pk_un eo, pk_un eo]
          exact hz o o1 (by omega)
      have h9 : nI (8 - k) + 1 = nI (9 - k) := by
        rw [nI_1]
        congr 1
        omega
      refine of_tb_c hR hN (fun e => ⟨hi, ?_⟩) (fun e => ⟨hi, ?_⟩)
      · rw [hc]
        exact nm_e (nm_r h9 (go 0 e.symm))
      · rw [hc]
        exact nm_e (nm_r h9 (go 1 e.symm))
  exact ⟨8 + 1, lp 8 a1 a2 a6 (by omega) (fun o o1 o2 => by omega)⟩
end
end
section
section
variable {hn hf ln ll rv sl pt wl ts fr fs iu : Int32} {a1 a2 a3 a4 a5 a6 a7 a8 a9 a10 a11 a12 a13 a14 a15 : Nat → Int32}
def of_HD (k : Nat) (a8 : Nat → Int32) (hf ln ll rv : Int32) : Prop := a8 (6 * ((k + 1) % 2)) = nI k ∧ a8 (6 * ((k + 1) % 2) + 1) = hf ∧ a8 (6 * ((k + 1) % 2) + 2) = ln ∧ a8 (6 * ((k + 1) % 2) + 3) = ll ∧ a8 (6 * ((k + 1) % 2) + 4) = rv ∧ a8 (6 * ((k + 1) % 2) + 5) = nI k ∧ ∃ j, j < k ∧ a8 (6 * (k % 2) + 5) = nI j
/-- a state between two calls: k heads were written, the file holds the revisions ds, the objects are g, those of t are touched -/
def of_ST (k : Nat) (ds : List of_D) (g : of_G) (t : Nat → Bool) (u : St2) : Prop := match u with
  | (hn, hf, ln, ll, rv, sl, pt, wl, ts, fr, fs, iu, a1, a2, a3, a4, a5, a6, a7, a8, a9, a10, a11, a12, a13, a14, a15) => ∃ (h L : Nat) (Z : List Nat), hn = nI k ∧ hf = nI h ∧ ln = nI L ∧ rv = nI ds.length ∧ h ≤ 1 ∧ L ≤ 400 * ds.length ∧ ds.length ≤ 5 ∧ of_ch (fun i => a7 (3700 * h + i) &&& 255) L Z ds ll ∧ of_iu iu a9 Z ∧ of_OM g a1 a2 a3 a4 ∧ (∀ o, 1 ≤ o → o ≤ 8 → a6 o = if t o then 1 else 0) ∧ of_HD k a8 hf ln ll rv
theorem of_OM_e {g g' : of_G} (hOM : of_OM g a1 a2 a3 a4) (h : ∀ o, 1 ≤ o → o ≤ 8 → g' o = g o) : of_OM g' a1 a2 a3 a4 := by
  intro o o1 o2
  rw [h o o1 o2]
  exact hOM o o1 o2
theorem of_OM_k {g : of_G} {o : Nat} (hOM : of_OM g a1 a2 a3 a4) (h1 : 1 ≤ o) (h8 : o ≤ 8) : a1 o = of_kd (g o) := by
  have t := hOM o h1 h8
  revert t
  match g o with
  | none => exact fun t => t.1
  | some (true, _) => exact fun t => t.1
  | some (false, _) => exact fun t => t.1
def of_ut (t : Nat → Bool) (o : Nat) : Nat → Bool := fun j => if j = o then true else t j
theorem of_t6 {t : Nat → Bool} {o : Nat} (ht : ∀ j, 1 ≤ j → j ≤ 8 → a6 j = if t j then 1 else 0) : ∀ j, 1 ≤ j → j ≤ 8 → upd a6 o 1 j = if of_ut t o j then 1 else 0 := by
  intro j j1 j2
  unfold of_ut
  by_cases e : j = o
  · rw [e, pk_us, if_pos rfl]
    rfl
  · rw [pk_un e, if_neg e]
    exact ht j j1 j2
theorem of_isO {post : Int32 → Prop} {u : St0} {o : Nat} (h1 : 1 ≤ o) (h8 : o ≤ 8) (H : post 1) : wpX_isObject post u (nI o) :=
  pk_lt o 1 (fun z => by omega) (fun _ => pk_lt 8 o (fun z => by omega) (fun _ => H))
theorem of_sSetL {post : Int32 → St2 → Prop} {k o d : Nat} {ds : List of_D} {g : of_G} {t : Nat → Bool} {u : St2} (hu : of_ST k ds g t u) (h1 : 1 ≤ o) (h8 : o ≤ 8) (d1 : 1 ≤ d) (d8 : d ≤ 8) (H : ∀ u', of_ST k ds (of_up g o (some (true, nI d))) (of_ut t o) u' → post (of_kd (g o)) u') : wpX_setLink post u (nI o) (nI d) := by
  rcases u with ⟨hn, hf, ln, ll, rv, sl, pt, wl, ts, fr, fs, iu, a1, a2, a3, a4, a5, a6, a7, a8, a9, a10, a11, a12, a13, a14, a15⟩
  obtain ⟨h, L, Z, e1, e2, e3, e4, e5, e6, e7, e8, e9, e10, e11, e12⟩ := hu
  rw [← of_OM_k e10 h1 h8] at H
  unfold wpX_setLink
  refine of_isO h1 h8 (br_f (by decide) (of_isO d1 d8 (br_f (by decide) ?_)))
  refine of_bec h8 (of_addV h8 pk_us ?_)
  exact H _ ⟨h, L, Z, e1, e2, e3, e4, e5, e6, e7, e8, e9, of_OM_set e10 rfl rfl rfl, fun j j1 j2 => by
    by_cases e : j = o
    · rw [e, pk_us]
      unfold of_ut
      rw [if_pos rfl]
      rfl
    · rw [pk_un e]
      exact of_t6 e11 j j1 j2, e12⟩
theorem of_sSetN {post : Int32 → St2 → Prop} {k o : Nat} {v : Int32} {ds : List of_D} {g : of_G} {t : Nat → Bool} {u : St2} (hu : of_ST k ds g t u) (h1 : 1 ≤ o) (h8 : o ≤ 8) (H : ∀ u', of_ST k ds (of_up g o (some (false, v))) (of_ut t o) u' → post (of_kd (g o)) u') : wpX_setNumber post u (nI o) v := by
  rcases u with ⟨hn, hf, ln, ll, rv, sl, pt, wl, ts, fr, fs, iu, a1, a2, a3, a4, a5, a6, a7, a8, a9, a10, a11, a12, a13, a14, a15⟩
  obtain ⟨h, L, Z, e1, e2, e3, e4, e5, e6, e7, e8, e9, e10, e11, e12⟩ := hu
  rw [← of_OM_k e10 h1 h8] at H
  unfold wpX_setNumber
  refine of_isO h1 h8 (br_f (by decide) ?_)
  refine of_bec h8 (of_addV h8 pk_us ?_)
  exact H _ ⟨h, L, Z, e1, e2, e3, e4, e5, e6, e7, e8, e9, of_OM_set e10 rfl rfl rfl, fun j j1 j2 => by
    by_cases e : j = o
    · rw [e, pk_us]
      unfold of_ut
      rw [if_pos rfl]
      rfl
    · rw [pk_un e]
      exact of_t6 e11 j j1 j2, e12⟩
theorem of_sRem {post : Int32 → St2 → Prop} {k o : Nat} {ds : List of_D} {g : of_G} {t : Nat → Bool} {u : St2} (hu : of_ST k ds g t u) (h1 : 1 ≤ o) (h8 : o ≤ 8) (H : ∀ u', of_ST k ds (of_up g o none) (of_ut t o) u' → post (of_kd (g o)) u') : wpX_remove post u (nI o) := by
  rcases u with ⟨hn, hf, ln, ll, rv, sl, pt, wl, ts, fr, fs, iu, a1, a2, a3, a4, a5, a6, a7, a8, a9, a10, a11, a12, a13, a14, a15⟩
  obtain ⟨h, L, Z, e1, e2, e3, e4, e5, e6, e7, e8, e9, e10, e11, e12⟩ := hu
  rw [← of_OM_k e10 h1 h8] at H
  unfold wpX_remove
  refine of_isO h1 h8 (br_f (by decide) ?_)
  refine of_bec h8 ?_
  exact H _ ⟨h, L, Z, e1, e2, e3, e4, e5, e6, e7, e8, e9, of_OM_del e10, of_t6 e11, e12⟩
theorem of_sKind {post : Int32 → Prop} {k o : Nat} {ds : List of_D} {g : of_G} {t : Nat → Bool} {u : St2} (hu : of_ST k ds g t u) (h1 : 1 ≤ o) (h8 : o ≤ 8) (H : post (of_kd (g o))) : wpX_kind post u (nI o) := by
  rcases u with ⟨hn, hf, ln, ll, rv, sl, pt, wl, ts, fr, fs, iu, a1, a2, a3, a4, a5, a6, a7, a8, a9, a10, a11, a12, a13, a14, a15⟩
  obtain ⟨h, L, Z, e1, e2, e3, e4, e5, e6, e7, e8, e9, e10, e11, e12⟩ := hu
  rw [← of_OM_k e10 h1 h8] at H
  unfold wpX_kind
  refine of_isO h1 h8 (br_f (by decide) ⟨pk_in o 9 (by omega), ?_⟩)
  rw [nI_clamp (show o < 2 ^ 31 by omega)]
  exact H
theorem of_sVal {post : Int32 → Prop} {k o : Nat} {x : of_X} {ds : List of_D} {g : of_G} {t : Nat → Bool} {u : St2} (hu : of_ST k ds g t u) (h1 : 1 ≤ o) (h8 : o ≤ 8) (hx : g o = some x) (H : post x.2) : wpX_value post u (nI o) 0 := by
  rcases u with ⟨hn, hf, ln, ll, rv, sl, pt, wl, ts, fr, fs, iu, a1, a2, a3, a4, a5, a6, a7, a8, a9, a10, a11, a12, a13, a14, a15⟩
  obtain ⟨h, L, Z, e1, e2, e3, e4, e5, e6, e7, e8, e9, e10, e11, e12⟩ := hu
  have hc : (nI o).toNatClampNeg = o := nI_clamp (by omega)
  have ho := e10 o h1 h8
  rw [hx] at ho
  obtain ⟨q1, q2, q3, q4⟩ := of_om_s ho
  have e6' : (6 : Int32) * nI o + 0 = nI (6 * o) := by
    rw [show (6 : Int32) = nI 6 from rfl, pk_mul, show (0 : Int32) = nI 0 from rfl, nI_add]
    rfl
  unfold wpX_value wpX_hasValue
  refine of_isO h1 h8 (br_f (by decide) (br_f (by decide) ⟨pk_in o 9 (by omega), ?_⟩))
  rw [hc, q2]
  refine br_f (by decide) (br_f (by decide) ⟨pk_in (6 * o) 54 (by omega) e6', ?_⟩)
  rw [e6', nI_clamp (show 6 * o < 2 ^ 31 by omega), q3]
  exact H
theorem of_sRevs {post : Int32 → Prop} {k : Nat} {ds : List of_D} {g : of_G} {t : Nat → Bool} {u : St2} (hu : of_ST k ds g t u) (H : post (nI ds.length)) : wpX_revisions post u := by
  rcases u with ⟨hn, hf, ln, ll, rv, sl, pt, wl, ts, fr, fs, iu, a1, a2, a3, a4, a5, a6, a7, a8, a9, a10, a11, a12, a13, a14, a15⟩
  obtain ⟨h, L, Z, e1, e2, e3, e4, e5, e6, e7, e8, e9, e10, e11, e12⟩ := hu
  rw [← e4] at H
  exact H
/-! ===== resolve, links, present ===== -/
def of_rs (g : of_G) : Nat → Nat → Int32
  | 0, _ => -2
  | n + 1, o => match g o with
    | none => -2
    | some (false, _) => nI o
    | some (true, w) => of_rs g n w.toNatClampNeg
def of_lk (g : of_G) : Prop := ∀ o w, 1 ≤ o → o ≤ 8 → g o = some (true, w) → ∃ d, 1 ≤ d ∧ d ≤ 8 ∧ w = nI d
theorem of_r13 {post : Int32 → Prop} {g : of_G} (hOM : of_OM g a1 a2 a3 a4) (hlk : of_lk g) : ∀ (n o : Nat), n ≤ 9 → 1 ≤ o → o ≤ 8 → post (of_rs g n o) → wX_resolve_13 post hn hf ln ll rv sl pt wl ts fr fs iu a1 a2 a3 a4 a5 a6 a7 a8 a9 a10 a11 a12 a13 a14 a15 (n + 1) (nI o) (nI (9 - n))
  | 0, o, _, h1, h8, H => pk_lt 8 9 (fun _ => H) (fun z => by omega)
  | n + 1, o, hn9, h1, h8, H => by
    have hi : vp_in (nI o) 9 := pk_in o 9 (by omega)
    have hc : (nI o).toNatClampNeg = o := nI_clamp (by omega)
    have ho := hOM o h1 h8
    have e6' : (6 : Int32) * nI o = nI (6 * o) := by
      rw [show (6 : Int32) = nI 6 from rfl, pk_mul]
    refine pk_lt 8 (9 - (n + 1)) (fun z => by omega) (fun _ => ⟨hi, ?_⟩)
    rw [hc]
    cases hg : g o with
    | none =>
      rw [hg] at ho
      have q := of_om_n ho
      rw [q.1]
      refine br_f (by decide) ⟨hi, br_t rfl ?_⟩
      simp only [of_rs, hg] at H
      exact H
    | some x =>
      rw [hg] at ho
      obtain ⟨q1, q2, q3, q4⟩ := of_om_s ho
      obtain ⟨b, w⟩ := x
      cases b with
      | true =>
        have q1' : a1 o = 5 := q1
        have q3' : a3 (6 * o) = w := q3
        obtain ⟨d, d1, d8, ed⟩ := hlk o w h1 h8 hg
        simp only [of_rs, hg] at H
        rw [ed, nI_clamp (show d < 2 ^ 31 by omega)] at H
        rw [q1']
        refine br_t rfl ⟨pk_in (6 * o) 54 (by omega) e6', ?_⟩
        rw [e6', nI_clamp (show 6 * o < 2 ^ 31 by omega)]
        refine nm_r (e' := nI d) (by rw [q3', ed]) (nm_r (e' := nI (9 - n)) (by rw [nI_1]; congr 1; omega) ?_)
        exact of_r13 hOM hlk n d (by omega) d1 d8 H
      | false =>
        have q1' : a1 o = 1 := q1
        simp only [of_rs, hg] at H
        rw [q1']
        exact br_f (by decide) ⟨hi, br_f (by decide) H⟩
theorem of_sRes {post : Int32 → Prop} {k o : Nat} {ds : List of_D} {g : of_G} {t : Nat → Bool} {u : St2} (hu : of_ST k ds g t u) (hlk : of_lk g) (h1 : 1 ≤ o) (h8 : o ≤ 8) (H : post (of_rs g 9 o)) : wpX_resolve post u (nI o) := by
  rcases u with ⟨hn, hf, ln, ll, rv, sl, pt, wl, ts, fr, fs, iu, a1, a2, a3, a4, a5, a6, a7, a8, a9, a10, a11, a12, a13, a14, a15⟩
  obtain ⟨h, L, Z, e1, e2, e3, e4, e5, e6, e7, e8, e9, e10, e11, e12⟩ := hu
  unfold wpX_resolve
  exact of_isO h1 h8 (br_f (by decide) ⟨9 + 1, of_r13 e10 hlk 9 o (by omega) h1 h8 H⟩)
def of_cnt (p : Nat → Bool) : Nat → Nat
  | 0 => 0
  | k + 1 => (if p (8 - k) then 1 else 0) + of_cnt p k
theorem of_cnt_le (p : Nat → Bool) : ∀ k, of_cnt p k ≤ k
  | 0 => Nat.le_refl 0
  | k + 1 => by
    have := of_cnt_le p k
    unfold of_cnt
    split <;> omega
theorem of_cnt_e {p q : Nat → Bool} : ∀ k, k ≤ 8 → (∀ o, 1 ≤ o → o ≤ 8 → p o = q o) → of_cnt p k = of_cnt q k
  | 0, _, _ => rfl
  | k + 1, hk, h => by
    unfold of_cnt
    rw [h (8 - k) (by omega) (by omega), of_cnt_e k (by omega) h]
theorem of_p4 {post : Int32 → Prop} {g : of_G} (hOM : of_OM g a1 a2 a3 a4) : ∀ (k c : Nat), k ≤ 8 → post (nI (c + of_cnt (fun o => (g o).isSome) k)) → wX_present_4 post hn hf ln ll rv sl pt wl ts fr fs iu a1 a2 a3 a4 a5 a6 a7 a8 a9 a10 a11 a12 a13 a14 a15 (k + 1) (nI c) (nI (9 - k))
  | 0, c, _, H => pk_lt 8 9 (fun _ => H) (fun z => by omega)
  | k + 1, c, hk, H => by
    have hi : vp_in (nI (8 - k)) 9 := pk_in (8 - k) 9 (by omega)
    have hc : (nI (8 - k)).toNatClampNeg = 8 - k := nI_clamp (by omega)
    have h9 : nI (8 - k) + 1 = nI (9 - k) := by
      rw [nI_1]
      congr 1
      omega
    have ho := hOM (8 - k) (by omega) (by omega)
    rw [show 9 - (k + 1) = 8 - k by omega]
    refine pk_lt 8 (8 - k) (fun z => by omega) (fun _ => ⟨hi, ?_⟩)
    rw [hc]
    unfold of_cnt at H
    cases hg : g (8 - k) with
    | none =>
      rw [hg] at ho
      rw [(of_om_n ho).1]
      refine br_t rfl (nm_r (e' := nI c) (by rw [show (0 : Int32) = nI 0 from rfl, nI_add]; rfl) (nm_r h9 (of_p4 hOM k c (by omega) ?_)))
      simp only [hg] at H
      have e0 : c + ((if (none : Option (Bool × Int32)).isSome = true then 1 else 0) + of_cnt (fun o => (g o).isSome) k) = c + of_cnt (fun o => (g o).isSome) k := by
        simp
      rw [e0] at H
      exact H
    | some x =>
      rw [hg] at ho
      rw [(of_om_s ho).1]
      refine br_f (of_k45 (b := x.1)).2.2 (nm_r (nI_1 c) (nm_r h9 (of_p4 hOM k (c + 1) (by omega) ?_)))
      simp only [hg] at H
      have e0 : c + ((if (some x).isSome = true then 1 else 0) + of_cnt (fun o => (g o).isSome) k) = c + 1 + of_cnt (fun o => (g o).isSome) k := by
        simp only [Option.isSome_some, if_true]
        omega
      rw [e0] at H
      exact H
/-- how many links lead to d -/
def of_isL (g : of_G) (d : Nat) (o : Nat) : Bool := decide (g o = some (true, nI d))
theorem of_lk13 {post : Int32 → Prop} {g : of_G} {d : Nat} (hOM : of_OM g a1 a2 a3 a4) : ∀ (k c : Nat), k ≤ 8 → post (nI (c + of_cnt (of_isL g d) k)) → wX_links_13 post (nI d) hn hf ln ll rv sl pt wl ts fr fs iu a1 a2 a3 a4 a5 a6 a7 a8 a9 a10 a11 a12 a13 a14 a15 (k + 1) (nI c) (nI (9 - k))
  | 0, c, _, H => pk_lt 8 9 (fun _ => H) (fun z => by omega)
  | k + 1, c, hk, H => by
    have hi : vp_in (nI (8 - k)) 9 := pk_in (8 - k) 9 (by omega)
    have hc : (nI (8 - k)).toNatClampNeg = 8 - k := nI_clamp (by omega)
    have h9 : nI (8 - k) + 1 = nI (9 - k) := by
      rw [nI_1]
      congr 1
      omega
    have e6' : (6 : Int32) * nI (8 - k) = nI (6 * (8 - k)) := by
      rw [show (6 : Int32) = nI 6 from rfl, pk_mul]
    have ho := hOM (8 - k) (by omega) (by omega)
    rw [show 9 - (k + 1) = 8 - k by omega]
    refine pk_lt 8 (8 - k) (fun z => by omega) (fun _ => nm_r e6' ⟨2, ⟨hi, ?_⟩⟩)
    rw [hc, e6']
    unfold of_cnt at H
    cases hg : g (8 - k) with
    | none =>
      rw [hg] at ho
      rw [(of_om_n ho).2]
      refine pk_le (6 * (8 - k)) (6 * (8 - k)) (fun _ => nm_r h9 (of_lk13 hOM k c (by omega) ?_)) (fun z => by omega) (by rw [show (0 : Int32) = nI 0 from rfl, nI_add]; rfl)
      have eL : of_isL g d (8 - k) = false := by
        unfold of_isL
        rw [hg]
        simp
      rw [eL] at H
      simp only [Bool.false_eq_true, if_false, Nat.zero_add] at H
      exact H
    | some x =>
      rw [hg] at ho
      obtain ⟨q1, q2, q3, q4⟩ := of_om_s ho
      rw [q2]
      have hin : vp_in (nI (6 * (8 - k))) 54 := pk_in (6 * (8 - k)) 54 (by omega)
      have hcn : (nI (6 * (8 - k))).toNatClampNeg = 6 * (8 - k) := nI_clamp (by omega)
      refine pk_le (6 * (8 - k) + 1) (6 * (8 - k)) (fun z => by omega) (fun _ => ⟨hin, ?_⟩) (nI_1 _)
      rw [hcn, q3, q4]
      have done : ∀ c', post (nI (c' + of_cnt (of_isL g d) k)) → wX_links_25 post (wX_links_13 post (nI d) hn hf ln ll rv sl pt wl ts fr fs iu a1 a2 a3 a4 a5 a6 a7 a8 a9 a10 a11 a12 a13 a14 a15 (k + 1)) (nI d) (nI (8 - k)) hn hf ln ll rv sl pt wl ts fr fs iu a1 a2 a3 a4 a5 a6 a7 a8 a9 a10 a11 a12 a13 a14 a15 1 (nI c') (nI (6 * (8 - k) + 1)) := by
        intro c' Hc
        refine ⟨hi, ?_⟩
        rw [hc, e6', q2]
        exact pk_le (6 * (8 - k) + 1) (6 * (8 - k) + 1) (fun _ => nm_r h9 (of_lk13 hOM k c' (by omega) Hc)) (fun z => by omega) (nI_1 _)
      have c0 : nI c + 0 = nI c := by
        rw [show (0 : Int32) = nI 0 from rfl, nI_add]
        rfl
      obtain ⟨b, w⟩ := x
      cases b with
      | false =>
        refine br_f (show ¬ (0 : Int32) = 2 by decide) (nm_r c0 (nm_r (nI_1 _) (done c ?_)))
        have eL : of_isL g d (8 - k) = false := by
          unfold of_isL
          rw [hg]
          simp
        rw [eL] at H
        simp only [Bool.false_eq_true, if_false, Nat.zero_add] at H
        exact H
      | true =>
        refine br_t rfl ⟨hin, ?_⟩
        refine br_c (fun ew => nm_r (nI_1 c) (nm_r (nI_1 _) (done (c + 1) ?_))) (fun ew => nm_r c0 (nm_r (nI_1 _) (done c ?_)))
        · have ew' : w = nI d := ew
          have eL : of_isL g d (8 - k) = true := by
            unfold of_isL
            rw [hg, ew']
            simp
          rw [eL, if_pos rfl, ← Nat.add_assoc] at H
          exact H
        · have ew' : ¬ w = nI d := ew
          have eL : of_isL g d (8 - k) = false := by
            unfold of_isL
            rw [hg]
            simp [ew']
          rw [eL] at H
          simp only [Bool.false_eq_true, if_false, Nat.zero_add] at H
          exact H
theorem of_sLinks {post : Int32 → Prop} {k d : Nat} {ds : List of_D} {g : of_G} {t : Nat → Bool} {u : St2} (hu : of_ST k ds g t u) (h1 : 1 ≤ d) (h8 : d ≤ 8) (H : post (nI (of_cnt (of_isL g d) 8))) : wpX_links post u (nI d) := by
  rcases u with ⟨hn, hf, ln, ll, rv, sl, pt, wl, ts, fr, fs, iu, a1, a2, a3, a4, a5, a6, a7, a8, a9, a10, a11, a12, a13, a14, a15⟩
  obtain ⟨h, L, Z, e1, e2, e3, e4, e5, e6, e7, e8, e9, e10, e11, e12⟩ := hu
  unfold wpX_links
  exact of_isO h1 h8 (br_f (by decide) ⟨8 + 1, of_lk13 e10 8 0 (by omega) (by rw [Nat.zero_add]; exact H)⟩)
theorem of_t6b {R N : Nat} {b6 : Nat → Int32} (h : ∀ j, 1 ≤ j → j ≤ 8 → b6 j = of_tb R N) : ∀ j, 1 ≤ j → j ≤ 8 → b6 j = if (fun _ : Nat => !decide (R + 1 = N)) j then 1 else 0 := by
  intro j j1 j2
  rw [h j j1 j2]
  unfold of_tb
  by_cases e : R + 1 = N
  · simp [e]
  · simp [e]
theorem of_sOpen {post : Int32 → St2 → Prop} {k R : Nat} {ds : List of_D} {g : of_G} {t : Nat → Bool} {u : St2} (hu : of_ST k ds g t u) (hR : R < ds.length) (H : ∀ u', of_ST k ds (of_vw (ds.drop (ds.length - 1 - R))) (fun _ => !decide (R + 1 = ds.length)) u' → post (nI (of_cnt (fun o => (of_vw (ds.drop (ds.length - 1 - R)) o).isSome) 8)) u') : wpX_open post u (nI R) := by
  rcases u with ⟨hn, hf, ln, ll, rv, sl, pt, wl, ts, fr, fs, iu, a1, a2, a3, a4, a5, a6, a7, a8, a9, a10, a11, a12, a13, a14, a15⟩
  obtain ⟨h, L, Z, e1, e2, e3, e4, e5, e6, e7, e8, e9, e10, e11, e12⟩ := hu
  subst e2 e4
  unfold wpX_open
  refine br_f (nI_pos (by omega)) (pk_lt R ds.length (fun _ => ?_) (fun z => by omega))
  refine of_load e5 (by omega) hR e7 rfl e8 e9 (fun g' s' f' e' i' b1 b2 b3 b4 b5 b6 b9 m1 m2 m3 m4 => ⟨8 + 1, ?_⟩)
  have m5 := of_OM_e m1 (fun o o1 o2 => (m4 o o1 o2).symm)
  refine of_p4 m5 8 0 (by omega) ?_
  rw [Nat.zero_add]
  exact H _ ⟨h, L, Z, e1, rfl, e3, rfl, e5, e6, e7, e8, m3, m5, of_t6b m2, e12⟩
theorem of_sOpenB {post : Int32 → St2 → Prop} {k R : Nat} {ds : List of_D} {g : of_G} {t : Nat → Bool} {u : St2} (hu : of_ST k ds g t u) (hR : ds.length ≤ R) (hR2 : R < 2 ^ 31) (H : post (-1) u) : wpX_open post u (nI R) := by
  rcases u with ⟨hn, hf, ln, ll, rv, sl, pt, wl, ts, fr, fs, iu, a1, a2, a3, a4, a5, a6, a7, a8, a9, a10, a11, a12, a13, a14, a15⟩
  obtain ⟨h, L, Z, e1, e2, e3, e4, e5, e6, e7, e8, e9, e10, e11, e12⟩ := hu
  subst e4
  unfold wpX_open
  exact br_f (nI_pos (by omega)) (pk_lt R ds.length (fun z => by omega) (fun _ => H))
theorem of_sOpenM {post : Int32 → St2 → Prop} {u : St2} (H : post (-1) u) : wpX_open post u (-1) := by
  rcases u with ⟨hn, hf, ln, ll, rv, sl, pt, wl, ts, fr, fs, iu, a1, a2, a3, a4, a5, a6, a7, a8, a9, a10, a11, a12, a13, a14, a15⟩
  exact br_t (by decide) H
end
end
section
section
variable {hn hf ln ll rv sl pt wl ts fr fs iu : Int32} {a1 a2 a3 a4 a5 a6 a7 a8 a9 a10 a11 a12 a13 a14 a15 : Nat → Int32}
theorem of_k2 {post : St2 → Prop} {g : of_G} (hOM : of_OM g a1 a2 a3 a4) (H : ∀ b11 b12 b13 b14 b15, of_OM g b11 b12 b13 b14 → post (hn, hf, ln, ll, rv, sl, pt, wl, ts, fr, fs, iu, a1, a2, a3, a4, a5, a6, a7, a8, a9, a10, b11, b12, b13, b14, b15)) : ∀ (k : Nat) (a11 a12 a13 a14 a15 : Nat → Int32), k ≤ 8 → (∀ o, 1 ≤ o → o + k < 9 → of_om (g o) (a11 o) (a12 o) (a13 (6 * o)) (a14 (6 * o))) → wX_keepAll_2 post hn hf ln ll rv sl pt wl ts fr fs iu (k + 1) (nI (9 - k)) a1 a2 a3 a4 a5 a6 a7 a8 a9 a10 a11 a12 a13 a14 a15
  | 0, a11, a12, a13, a14, a15, _, hz => pk_lt 8 9 (fun _ => H _ _ _ _ _ (fun o o1 o2 => hz o o1 (by omega))) (fun z => by omega)
  | k + 1, a11, a12, a13, a14, a15, hk, hz => by
    have hi : vp_in (nI (8 - k)) 9 := pk_in (8 - k) 9 (by omega)
    have hc : (nI (8 - k)).toNatClampNeg = 8 - k := nI_clamp (by omega)
    have h9 : nI (8 - k) + 1 = nI (9 - k) := by
      rw [nI_1]
      congr 1
      omega
    have e6' : (6 : Int32) * nI (8 - k) = nI (6 * (8 - k)) := by
      rw [show (6 : Int32) = nI 6 from rfl, pk_mul]
    have hin : vp_in (nI (6 * (8 - k))) 54 := pk_in (6 * (8 - k)) 54 (by omega)
    have hcn : (nI (6 * (8 - k))).toNatClampNeg = 6 * (8 - k) := nI_clamp (by omega)
    have ho := hOM (8 - k) (by omega) (by omega)
    rw [show 9 - (k + 1) = 8 - k by omega]
    refine pk_lt 8 (8 - k) (fun z => by omega) (fun _ => ⟨hi, hi, ?_⟩)
    rw [hc]
    refine nm_e ⟨hi, hi, nm_e (nm_r e6' ⟨2, ⟨hi, ?_⟩⟩)⟩
    rw [hc, e6']
    cases hg : g (8 - k) with
    | none =>
      rw [hg] at ho
      have q := of_om_n ho
      rw [q.1, q.2]
      refine pk_le (6 * (8 - k)) (6 * (8 - k)) (fun _ => nm_r h9 (of_k2 hOM H k _ _ _ _ _ (by omega) (fun o o1 o2 => ?_))) (fun z => by omega) (by rw [show (0 : Int32) = nI 0 from rfl, nI_add]; rfl)
      by_cases eo : o = 8 - k
      · rw [eo, hg, pk_us, pk_us]
        exact ⟨rfl, rfl⟩
      · rw [pk_un eo, pk_un eo]
        exact hz o o1 (by omega)
    | some x =>
      rw [hg] at ho
      obtain ⟨q1, q2, q3, q4⟩ := of_om_s ho
      rw [q2]
      refine pk_le (6 * (8 - k) + 1) (6 * (8 - k)) (fun z => by omega) (fun _ => ⟨hin, hin, ?_⟩) (nI_1 _)
      rw [hcn]
      refine nm_e ⟨hin, hin, nm_e ⟨hin, hin, nm_e (nm_r (nI_1 _) ⟨hi, ?_⟩)⟩⟩
      rw [hc, e6', q2]
      refine pk_le (6 * (8 - k) + 1) (6 * (8 - k) + 1) (fun _ => nm_r h9 (of_k2 hOM H k _ _ _ _ _ (by omega) (fun o o1 o2 => ?_))) (fun z => by omega) (nI_1 _)
      by_cases eo : o = 8 - k
      · rw [eo, hg, pk_us, pk_us, pk_us, pk_us]
        exact of_om_i q1 rfl q3 q4
      · rw [pk_un eo, pk_un eo, pk_un (by omega), pk_un (by omega)]
        exact hz o o1 (by omega)
theorem of_bb2 {post : St2 → Prop} {g : of_G} (hOM : of_OM g a11 a12 a13 a14) (H : ∀ b1 b2 b3 b4 b5, of_OM g b1 b2 b3 b4 → post (hn, hf, ln, ll, rv, sl, pt, wl, ts, fr, fs, iu, b1, b2, b3, b4, b5, a6, a7, a8, a9, a10, a11, a12, a13, a14, a15)) : ∀ (k : Nat) (a1 a2 a3 a4 a5 : Nat → Int32), k ≤ 8 → (∀ o, 1 ≤ o → o + k < 9 → of_om (g o) (a1 o) (a2 o) (a3 (6 * o)) (a4 (6 * o))) → wX_bringBack_2 post hn hf ln ll rv sl pt wl ts fr fs iu (k + 1) (nI (9 - k)) a1 a2 a3 a4 a5 a6 a7 a8 a9 a10 a11 a12 a13 a14 a15
  | 0, a1, a2, a3, a4, a5, _, hz => pk_lt 8 9 (fun _ => H _ _ _ _ _ (fun o o1 o2 => hz o o1 (by omega))) (fun z => by omega)
  | k + 1, a1, a2, a3, a4, a5, hk, hz => by
    have hi : vp_in (nI (8 - k)) 9 := pk_in (8 - k) 9 (by omega)
    have hc : (nI (8 - k)).toNatClampNeg = 8 - k := nI_clamp (by omega)
    have h9 : nI (8 - k) + 1 = nI (9 - k) := by
      rw [nI_1]
      congr 1
      omega
    have e6' : (6 : Int32) * nI (8 - k) = nI (6 * (8 - k)) := by
      rw [show (6 : Int32) = nI 6 from rfl, pk_mul]
    have hin : vp_in (nI (6 * (8 - k))) 54 := pk_in (6 * (8 - k)) 54 (by omega)
    have hcn : (nI (6 * (8 - k))).toNatClampNeg = 6 * (8 - k) := nI_clamp (by omega)
    have ho := hOM (8 - k) (by omega) (by omega)
    rw [show 9 - (k + 1) = 8 - k by omega]
    refine pk_lt 8 (8 - k) (fun z => by omega) (fun _ => ⟨hi, hi, ?_⟩)
    rw [hc]
    refine nm_e ⟨hi, hi, nm_e (nm_r e6' ⟨2, ⟨hi, ?_⟩⟩)⟩
    rw [hc, e6', pk_us]
    cases hg : g (8 - k) with
    | none =>
      rw [hg] at ho
      have q := of_om_n ho
      rw [q.2]
      refine pk_le (6 * (8 - k)) (6 * (8 - k)) (fun _ => nm_r h9 (of_bb2 hOM H k _ _ _ _ _ (by omega) (fun o o1 o2 => ?_))) (fun z => by omega) (by rw [show (0 : Int32) = nI 0 from rfl, nI_add]; rfl)
      by_cases eo : o = 8 - k
      · rw [eo, hg, pk_us, pk_us]
        exact ⟨q.1, rfl⟩
      · rw [pk_un eo, pk_un eo]
        exact hz o o1 (by omega)
    | some x =>
      rw [hg] at ho
      obtain ⟨q1, q2, q3, q4⟩ := of_om_s ho
      rw [q2]
      refine pk_le (6 * (8 - k) + 1) (6 * (8 - k)) (fun z => by omega) (fun _ => ⟨hin, hin, ?_⟩) (nI_1 _)
      rw [hcn]
      refine nm_e ⟨hin, hin, nm_e ⟨hin, hin, nm_e (nm_r (nI_1 _) ⟨hi, ?_⟩)⟩⟩
      rw [hc, e6', pk_us]
      refine pk_le (6 * (8 - k) + 1) (6 * (8 - k) + 1) (fun _ => nm_r h9 (of_bb2 hOM H k _ _ _ _ _ (by omega) (fun o o1 o2 => ?_))) (fun z => by omega) (nI_1 _)
      by_cases eo : o = 8 - k
      · rw [eo, hg, pk_us, pk_us, pk_us, pk_us]
        exact of_om_i q1 rfl q3 q4
      · rw [pk_un eo, pk_un eo, pk_un (by omega), pk_un (by omega)]
        exact hz o o1 (by omega)
theorem of_aW {post : Int32 → Prop} {o : Nat} {x y : Option (Bool × Int32)} (h8 : o ≤ 8) (hx : of_om x (a1 o) (a2 o) (a3 (6 * o)) (a4 (6 * o))) (hy : of_om y (a11 o) (a12 o) (a13 (6 * o)) (a14 (6 * o))) (H0 : x ≠ y → post 0) (H1 : x = y → post 1) : wpX_isAsWas post (hn, hf, ln, ll, rv, sl, pt, wl, ts, fr, fs, iu, a1, a2, a3, a4, a5, a6, a7, a8, a9, a10, a11, a12, a13, a14, a15) (nI o) := by
  have hi : vp_in (nI o) 9 := pk_in o 9 (by omega)
  have hc : (nI o).toNatClampNeg = o := nI_clamp (by omega)
  have e6' : (6 : Int32) * nI o = nI (6 * o) := by
    rw [show (6 : Int32) = nI 6 from rfl, pk_mul]
  have hin : vp_in (nI (6 * o)) 54 := pk_in (6 * o) 54 (by omega)
  have hcn : (nI (6 * o)).toNatClampNeg = 6 * o := nI_clamp (by omega)
  unfold wpX_isAsWas
  rw [hc]
  refine ⟨hi, hi, ?_⟩
  cases x with
  | none =>
    have q := of_om_n hx
    rw [q.1]
    cases y with
    | none =>
      have r := of_om_n hy
      rw [r.1]
      refine br_t rfl ⟨hi, hi, ?_⟩
      rw [q.2, r.2]
      refine br_t rfl (nm_r e6' ⟨1, ⟨hi, ?_⟩⟩)
      rw [hc, q.2, e6']
      exact pk_le (6 * o) (6 * o) (fun _ => H1 rfl) (fun z => by omega) (by rw [show (0 : Int32) = nI 0 from rfl, nI_add]; rfl)
    | some y =>
      obtain ⟨r1, r2, r3, r4⟩ := of_om_s hy
      rw [r1]
      exact br_f (fun z => (of_k45 (b := y.1)).2.2 z.symm) (H0 (by simp))
  | some x =>
    obtain ⟨q1, q2, q3, q4⟩ := of_om_s hx
    rw [q1]
    cases y with
    | none =>
      have r := of_om_n hy
      rw [r.1]
      exact br_f (of_k45 (b := x.1)).2.2 (H0 (by simp))
    | some y =>
      obtain ⟨r1, r2, r3, r4⟩ := of_om_s hy
      rw [r1]
      by_cases eb : x.1 = y.1
      · refine br_t (by rw [eb]) ⟨hi, hi, ?_⟩
        rw [q2, r2]
        refine br_t rfl (nm_r e6' ⟨2, ⟨hi, ?_⟩⟩)
        rw [hc, q2, e6']
        refine pk_le (6 * o + 1) (6 * o) (fun z => by omega) (fun _ => ⟨hin, hin, ?_⟩) (nI_1 _)
        rw [hcn, q3, r3, q4, r4]
        by_cases ev : x.2 = y.2
        · refine br_t ev ⟨hin, hin, br_t (by rw [eb]) ?_⟩
          unfold wX_isAsWas_87
          refine br_f (by decide) ⟨hi, ?_⟩
          rw [hc, q1]
          refine br_f (of_k45 (b := x.1)).1 (nm_r (nI_1 _) ⟨hi, ?_⟩)
          rw [hc, q2, e6']
          refine pk_le (6 * o + 1) (6 * o + 1) (fun _ => H1 ?_) (fun z => by omega) (nI_1 _)
          rw [show x = y from Prod.ext eb ev]
        · refine br_f ev ?_
          unfold wX_isAsWas_86 wX_isAsWas_87
          refine br_t rfl (H0 (fun z => ev ?_))
          rw [Option.some.inj z]
      · refine br_f (fun z => eb ?_) (H0 (fun z => eb ?_))
        · revert z
          cases x.1 <;> cases y.1 <;> decide
        · rw [Option.some.inj z]
def of_df (g g2 : of_G) : Nat → Bool := fun o => !decide (g o = g2 o)
theorem of_c18 {post : Int32 → St2 → Prop} {g g2 : of_G} (hOM : of_OM g2 a1 a2 a3 a4) (hW : of_OM g a11 a12 a13 a14) (c0 : Nat) (H : ∀ b1 b2 b3 b4 b5 b6, of_OM g b1 b2 b3 b4 → (∀ o, 1 ≤ o → o ≤ 8 → b6 o = if of_df g g2 o then 1 else 0) → post (nI (if c0 = 0 then 0 else 1)) (hn, hf, ln, ll, rv, sl, pt, wl, ts, fr, fs, iu, b1, b2, b3, b4, b5, b6, a7, a8, a9, a10, a11, a12, a13, a14, a15)) : ∀ (k c : Nat) (a6 : Nat → Int32), k ≤ 8 → c + of_cnt (of_df g g2) k = c0 → (∀ o, 1 ≤ o → o + k < 9 → a6 o = if of_df g g2 o then 1 else 0) → wX_changed_18 post hn hf ln ll rv sl pt wl ts fr fs iu (k + 1) (nI (if c = 0 then 0 else 1)) (nI (9 - k)) a1 a2 a3 a4 a5 a6 a7 a8 a9 a10 a11 a12 a13 a14 a15
  | 0, c, a6, _, hc0, hz => by
    have e : c = c0 := hc0
    subst e
    refine pk_lt 8 9 (fun _ => ⟨8 + 1, ?_⟩) (fun z => by omega)
    refine of_bb2 hW (fun b1 b2 b3 b4 b5 m1 => H b1 b2 b3 b4 b5 a6 m1 (fun o o1 o2 => hz o o1 (by omega))) 8 a1 a2 a3 a4 a5 (by omega) (fun o o1 o2 => by omega)
  | k + 1, c, a6, hk, hc0, hz => by
    have hi : vp_in (nI (8 - k)) 9 := pk_in (8 - k) 9 (by omega)
    have hc : (nI (8 - k)).toNatClampNeg = 8 - k := nI_clamp (by omega)
    have h9 : nI (8 - k) + 1 = nI (9 - k) := by
      rw [nI_1]
      congr 1
      omega
    unfold of_cnt at hc0
    rw [show 9 - (k + 1) = 8 - k by omega]
    refine pk_lt 8 (8 - k) (fun z => by omega) (fun _ => ?_)
    have inv : ∀ b : Bool, of_df g g2 (8 - k) = b → ∀ o, 1 ≤ o → o + k < 9 → upd a6 (8 - k) (if b then 1 else 0) o = if of_df g g2 o then 1 else 0 := by
      intro b hb o o1 o2
      by_cases eo : o = 8 - k
      · rw [eo, pk_us, hb]
      · rw [pk_un eo]
        exact hz o o1 (by omega)
    refine of_aW (by omega) (hOM (8 - k) (by omega) (by omega)) (hW (8 - k) (by omega) (by omega)) (fun hne => br_t rfl ?_) (fun heq => br_f (by decide) ?_)
    · have hb : of_df g g2 (8 - k) = true := by
        unfold of_df
        rw [decide_eq_false (fun z => hne z.symm)]
        rfl
      rw [hb, if_pos rfl] at hc0
      unfold wX_changed_44
      rw [hc]
      refine ⟨hi, nm_r (e' := upd a6 (8 - k) 1) rfl (br_t rfl (nm_r h9 ?_))⟩
      have t := of_c18 hOM hW c0 H k (c + 1) (upd a6 (8 - k) 1) (by omega) (by omega) (inv true hb)
      rw [if_neg (show ¬ c + 1 = 0 by omega)] at t
      exact t
    · have hb : of_df g g2 (8 - k) = false := by
        unfold of_df
        rw [decide_eq_true heq.symm]
        rfl
      rw [hb, if_neg (by decide)] at hc0
      unfold wX_changed_44
      rw [hc]
      refine ⟨hi, nm_r (e' := upd a6 (8 - k) 0) rfl (br_f (by decide) (nm_r h9 ?_))⟩
      exact of_c18 hOM hW c0 H k c (upd a6 (8 - k) 0) (by omega) (by omega) (inv false hb)
theorem of_sChg {post : Int32 → St2 → Prop} {k : Nat} {ds : List of_D} {g : of_G} {t : Nat → Bool} {u : St2} (hu : of_ST k ds g t u) (hds : 1 ≤ ds.length) (H : ∀ u', of_ST k ds g (of_df g (of_vw ds)) u' → post (nI (if of_cnt (of_df g (of_vw ds)) 8 = 0 then 0 else 1)) u') : wpX_changed post u := by
  rcases u with ⟨hn, hf, ln, ll, rv, sl, pt, wl, ts, fr, fs, iu, a1, a2, a3, a4, a5, a6, a7, a8, a9, a10, a11, a12, a13, a14, a15⟩
  obtain ⟨h, L, Z, e1, e2, e3, e4, e5, e6, e7, e8, e9, e10, e11, e12⟩ := hu
  subst e2 e4
  unfold wpX_changed
  refine ⟨8 + 1, of_k2 e10 (fun b11 b12 b13 b14 b15 m0 => ?_) 8 a11 a12 a13 a14 a15 (by omega) (fun o o1 o2 => by omega)⟩
  dsimp only
  rw [of_pred (by omega)]
  refine of_load e5 (by omega) (by omega) e7 rfl e8 e9 (fun g' s' f' e' i' b1 b2 b3 b4 b5 b6 b9 m1 m2 m3 m4 => ⟨8 + 1, ?_⟩)
  have m5 := of_OM_e m1 (fun o o1 o2 => (m4 o o1 o2).symm)
  rw [show ds.length - 1 - (ds.length - 1) = 0 by omega, List.drop_zero] at m5
  refine of_c18 m5 m0 (of_cnt (of_df g (of_vw ds)) 8) (fun c1 c2 c3 c4 c5 c6 n1 n2 => ?_) 8 0 b6 (by omega) (by omega) (fun o o1 o2 => by omega)
  exact H _ ⟨h, L, Z, e1, rfl, e3, rfl, e5, e6, e7, e8, m3, n1, n2, e12⟩
end
end
section
section
variable {hn hf ln ll rv sl pt wl ts fr fs iu : Int32} {a1 a2 a3 a4 a5 a6 a7 a8 a9 a10 a11 a12 a13 a14 a15 : Nat → Int32}
theorem of_any (x : Int32) : ∃ n, x = nI n := ⟨x.toBitVec.toNat, Int32.toBitVec_inj.mp (by show x.toBitVec = BitVec.ofNat 32 x.toBitVec.toNat; simp)⟩
theorem of_slot {k : Nat} (hk : k ≤ 1000) : (6 : Int32) * (nI k &&& 1) = nI (6 * (k % 2)) := by
  rw [pk_andN (by omega) (m := 1) 1 (by decide), show (6 : Int32) = nI 6 from rfl, pk_mul]
theorem of_nadd (c : Nat) (m : Int32) (j : Nat) (hm : m = nI j) : nI c + m = nI (c + j) := by rw [hm, nI_add]
theorem of_wH {post : St2 → Prop} {k : Nat} (hk : k ≤ 1000) (h5 : a8 (6 * ((k + 1) % 2) + 5) = nI k) (H : ∀ b8, of_HD (k + 1) b8 hf ln ll rv → post (nI (k + 1), hf, ln, ll, rv, sl, pt, wl, ts, fr, fs, iu, a1, a2, a3, a4, a5, a6, a7, b8, a9, a10, a11, a12, a13, a14, a15)) : wpX_writeHead post (nI k, hf, ln, ll, rv, sl, pt, wl, ts, fr, fs, iu, a1, a2, a3, a4, a5, a6, a7, a8, a9, a10, a11, a12, a13, a14, a15) := by
  unfold wpX_writeHead
  refine nm_r (of_slot hk) (nm_r (nI_1 k) ?_)
  have i0 : ∀ j, j ≤ 5 → vp_in (nI (6 * (k % 2) + j)) 12 := fun j hj => pk_in (6 * (k % 2) + j) 12 (by omega)
  have c0 : ∀ j, j ≤ 5 → (nI (6 * (k % 2) + j)).toNatClampNeg = 6 * (k % 2) + j := fun j hj => nI_clamp (by omega)
  rw [of_nadd (6 * (k % 2)) 1 1 rfl, of_nadd (6 * (k % 2)) 2 2 rfl, of_nadd (6 * (k % 2)) 3 3 rfl, of_nadd (6 * (k % 2)) 4 4 rfl, of_nadd (6 * (k % 2)) 5 5 rfl]
  rw [c0 1 (by omega), c0 2 (by omega), c0 3 (by omega), c0 4 (by omega), c0 5 (by omega), show (nI (6 * (k % 2))).toNatClampNeg = 6 * (k % 2) from c0 0 (by omega)]
  refine ⟨i0 0 (by omega), nm_e ⟨i0 1 (by omega), nm_e ⟨i0 2 (by omega), nm_e ⟨i0 3 (by omega), nm_e ⟨i0 4 (by omega), nm_e ⟨i0 5 (by omega), nm_e (H _ ?_)⟩⟩⟩⟩⟩⟩
  have ec : 6 * ((k + 1 + 1) % 2) = 6 * (k % 2) := by omega
  unfold of_HD
  rw [ec]
  refine ⟨?_, ?_, ?_, ?_, ?_, ?_, k, by omega, ?_⟩
  · rw [pk_un (by omega), pk_un (by omega), pk_un (by omega), pk_un (by omega), pk_un (by omega), pk_us]
  · rw [pk_un (by omega), pk_un (by omega), pk_un (by omega), pk_un (by omega), pk_us]
  · rw [pk_un (by omega), pk_un (by omega), pk_un (by omega), pk_us]
  · rw [pk_un (by omega), pk_un (by omega), pk_us]
  · rw [pk_un (by omega), pk_us]
  · rw [pk_us]
  · rw [pk_un (by omega), pk_un (by omega), pk_un (by omega), pk_un (by omega), pk_un (by omega), pk_un (by omega), h5]
theorem of_s72 {post : Int32 → St2 → Prop} (H : ∀ b6, (∀ o, 1 ≤ o → o ≤ 8 → b6 o = if (fun _ : Nat => false) o then 1 else 0) → post rv (hn, hf, ln, ll, rv, sl, pt, wl, ts, fr, fs, iu, a1, a2, a3, a4, a5, b6, a7, a8, a9, a10, a11, a12, a13, a14, a15)) : ∀ (k : Nat) (a6 : Nat → Int32), k ≤ 8 → (∀ o, 1 ≤ o → o + k < 9 → a6 o = 0) → wX_save_72 post hn hf ln ll rv sl pt wl ts fr fs iu (k + 1) (nI (9 - k)) a1 a2 a3 a4 a5 a6 a7 a8 a9 a10 a11 a12 a13 a14 a15
  | 0, a6, _, hz => pk_lt 8 9 (fun _ => H _ (fun o o1 o2 => hz o o1 (by omega))) (fun z => by omega)
  | k + 1, a6, hk, hz => by
    have hi : vp_in (nI (8 - k)) 9 := pk_in (8 - k) 9 (by omega)
    have hc : (nI (8 - k)).toNatClampNeg = 8 - k := nI_clamp (by omega)
    have h9 : nI (8 - k) + 1 = nI (9 - k) := by
      rw [nI_1]
      congr 1
      omega
    rw [show 9 - (k + 1) = 8 - k by omega]
    refine pk_lt 8 (8 - k) (fun z => by omega) (fun _ => ⟨hi, ?_⟩)
    rw [hc]
    refine nm_e (nm_r h9 (of_s72 H k _ (by omega) (fun o o1 o2 => ?_)))
    by_cases eo : o = 8 - k
    · rw [eo, pk_us]
    · rw [pk_un eo]
      exact hz o o1 (by omega)
theorem of_sSave0 {post : Int32 → St2 → Prop} {k : Nat} {ds : List of_D} {g : of_G} {t : Nat → Bool} {u : St2} (hu : of_ST k ds g t u) (hk : k ≤ 1000) (hds : ds.length < 5) (H : ∀ u', of_ST (k + 1) (of_dl false t g :: ds) g (fun _ => false) u' → post (nI (ds.length + 1)) u') : wpX_save post u 0 := by
  rcases u with ⟨hn, hf, ln, ll, rv, sl, pt, wl, ts, fr, fs, iu, a1, a2, a3, a4, a5, a6, a7, a8, a9, a10, a11, a12, a13, a14, a15⟩
  obtain ⟨h, L, Z, e1, e2, e3, e4, e5, e6, e7, e8, e9, e10, e11, e12⟩ := hu
  obtain ⟨s, es⟩ := of_any sl
  subst e1 e2 e3 e4 es
  unfold wpX_save
  refine br_f (by decide) (br_t (by decide) (br_t rfl (pk_lt ds.length 5 (fun _ => ?_) (fun z => by omega))))
  unfold wX_save_26
  refine of_wRev (way := 0) (w := 3700) (by omega) e5 (by omega) e10 e11 (by omega) (fun _ q s' p' w' b7 b9 b10 hw => ?_) (fun z => absurd rfl z)
  refine br_t rfl ?_
  unfold wX_save_63
  rw [nI_1]
  obtain ⟨w1, w2, w3, w4, w5⟩ := hw
  obtain ⟨Z', z1, z2⟩ := w5 (by omega) Z
  have z1' := z1 (by decide)
  subst z1'
  refine of_wH hk e12.2.2.2.2.2.1 (fun b8 hb8 => ⟨8 + 1, of_s72 (fun b6 hb6 => H _ ?_) 8 a6 (by omega) (fun o o1 o2 => by omega)⟩)
  refine ⟨h, p', Z', rfl, rfl, rfl, rfl, e5, ?_, ?_, ?_, Or.inl rfl, e10, hb6, hb8⟩
  · rw [List.length_cons]
    omega
  · rw [List.length_cons]
    omega
  · refine ⟨q, ll, rfl, z2, of_ch_mono (fun i hi => ?_) (by omega) ds ll e8⟩
    show b7 (3700 * h + i) &&& 255 = a7 (3700 * h + i) &&& 255
    rw [w4 _ (by omega)]
theorem of_sSaveF {post : Int32 → St2 → Prop} {k : Nat} {ds : List of_D} {g : of_G} {t : Nat → Bool} {u : St2} (hu : of_ST k ds g t u) (hds : ds.length = 5) (H : post (-3) u) : wpX_save post u 0 := by
  rcases u with ⟨hn, hf, ln, ll, rv, sl, pt, wl, ts, fr, fs, iu, a1, a2, a3, a4, a5, a6, a7, a8, a9, a10, a11, a12, a13, a14, a15⟩
  obtain ⟨h, L, Z, e1, e2, e3, e4, e5, e6, e7, e8, e9, e10, e11, e12⟩ := hu
  subst e4
  unfold wpX_save
  exact br_f (by decide) (br_t (by decide) (br_t rfl (pk_lt ds.length 5 (fun z => by omega) (fun _ => H))))
theorem of_sSaveW {post : Int32 → St2 → Prop} {k way : Nat} {ds : List of_D} {g : of_G} {t : Nat → Bool} {u : St2} (hu : of_ST k ds g t u) (hk : k ≤ 1000) (hw1 : 1 ≤ way) (hw2 : way ≤ 2) (H : ∀ u', of_ST (k + 1) [of_dl true t g] g (fun _ => false) u' → post 1 u') : wpX_save post u (nI way) := by
  rcases u with ⟨hn, hf, ln, ll, rv, sl, pt, wl, ts, fr, fs, iu, a1, a2, a3, a4, a5, a6, a7, a8, a9, a10, a11, a12, a13, a14, a15⟩
  obtain ⟨h, L, Z, e1, e2, e3, e4, e5, e6, e7, e8, e9, e10, e11, e12⟩ := hu
  obtain ⟨s, es⟩ := of_any sl
  subst e1 e2 e3 e4 es
  unfold wpX_save
  refine br_f (nI_pos (by omega)) (pk_le way 2 (fun _ => pk_eq way 0 (fun z => by omega) (fun _ => ?_)) (fun z => by omega))
  unfold wX_save_26
  refine of_wRev (way := way) (w := 3700) hw2 e5 (by omega) e10 e11 (by omega) (fun z => by omega) (fun _ q s' p' w' b7 b9 b10 hw => ?_)
  refine br_f (nI_ne0 (by omega) (by omega)) ?_
  unfold wX_save_63
  obtain ⟨w1, w2, w3, w4, w5⟩ := hw
  obtain ⟨Z', z1, z2⟩ := w5 (by omega) Z
  refine of_wH hk e12.2.2.2.2.2.1 (fun b8 hb8 => ⟨8 + 1, of_s72 (fun b6 hb6 => H _ ?_) 8 a6 (by omega) (fun o o1 o2 => by omega)⟩)
  refine ⟨1 - h, p', Z', rfl, rfl, rfl, rfl, by omega, ?_, ?_, ?_, Or.inl rfl, e10, hb6, hb8⟩
  · rw [List.length_cons, List.length_nil]
    omega
  · rw [List.length_cons, List.length_nil]
    omega
  · exact ⟨q, -1, rfl, z2, rfl⟩
theorem of_fH {post : St2 → Prop} {k : Nat} {hf0 ln0 ll0 rv0 : Int32} (hk : k ≤ 1000) (hHD : of_HD k a8 hf0 ln0 ll0 rv0) (H : of_HD k (upd a8 (6 * (k % 2)) (nI (k + 1))) hf0 ln0 ll0 rv0 → post (nI k, hf0, ln0, ll0, rv0, sl, pt, wl, ts, fr, fs, 0, a1, a2, a3, a4, a5, a6, a7, upd a8 (6 * (k % 2)) (nI (k + 1)), a9, a10, a11, a12, a13, a14, a15)) : wpX_findHead post (hn, hf, ln, ll, rv, sl, pt, wl, ts, fr, fs, iu, a1, a2, a3, a4, a5, a6, a7, upd a8 (6 * (k % 2)) (nI (k + 1)), a9, a10, a11, a12, a13, a14, a15) := by
  have hHD' : of_HD k (upd a8 (6 * (k % 2)) (nI (k + 1))) hf0 ln0 ll0 rv0 := by
    obtain ⟨t1, t2, t3, t4, t5, t6, j, j1, j2⟩ := hHD
    refine ⟨?_, ?_, ?_, ?_, ?_, ?_, j, j1, ?_⟩
    · rw [pk_un (by omega)]; exact t1
    · rw [pk_un (by omega)]; exact t2
    · rw [pk_un (by omega)]; exact t3
    · rw [pk_un (by omega)]; exact t4
    · rw [pk_un (by omega)]; exact t5
    · rw [pk_un (by omega)]; exact t6
    · rw [pk_un (by omega)]; exact j2
  have H' := H hHD'
  have hs : upd a8 (6 * (k % 2)) (nI (k + 1)) (6 * (k % 2)) = nI (k + 1) := pk_us
  revert hs hHD' H'
  generalize upd a8 (6 * (k % 2)) (nI (k + 1)) = b8
  intro hHD' H' hs
  obtain ⟨t1, t2, t3, t4, t5, t6, j, j1, j2⟩ := hHD'
  have hne : ¬ nI (k + 1) = nI j := fun z => by
    have := (nI_eq (by omega) (by omega)).mp z
    omega
  unfold wpX_findHead
  rcases Nat.mod_two_eq_zero_or_one k with ek | ek
  · have ek' : (k + 1) % 2 = 1 := by omega
    rw [ek] at j2 hs
    rw [ek'] at t1 t2 t3 t4 t5 t6
    have t1' : b8 6 = nI k := t1
    have t2' : b8 7 = hf0 := t2
    have t3' : b8 8 = ln0 := t3
    have t4' : b8 9 = ll0 := t4
    have t5' : b8 10 = rv0 := t5
    have s0 : b8 0 = nI (k + 1) := hs
    have s5 : b8 5 = nI j := j2
    refine br_f (by rw [s0, s5]; exact hne) ?_
    unfold wX_findHead_50 wX_findHead_53
    refine ⟨vp_in_iff.mpr (by decide), nm_r (e' := nI k) t1' ⟨vp_in_iff.mpr (by decide), nm_r (e' := hf0) t2' ⟨vp_in_iff.mpr (by decide), nm_r (e' := ln0) t3' ⟨vp_in_iff.mpr (by decide), nm_r (e' := ll0) t4' ⟨vp_in_iff.mpr (by decide), nm_r (e' := rv0) t5' H'⟩⟩⟩⟩⟩
  · have ek' : (k + 1) % 2 = 0 := by omega
    rw [ek] at j2 hs
    rw [ek'] at t1 t2 t3 t4 t5 t6
    have t1' : b8 0 = nI k := t1
    have t2' : b8 1 = hf0 := t2
    have t3' : b8 2 = ln0 := t3
    have t4' : b8 3 = ll0 := t4
    have t5' : b8 4 = rv0 := t5
    have t6' : b8 5 = nI k := t6
    have s0 : b8 6 = nI (k + 1) := hs
    have s5 : b8 11 = nI j := j2
    refine br_t (by rw [t1', t6']) (br_f (by rw [s0, s5]; exact hne) ?_)
    unfold wX_findHead_53
    refine ⟨vp_in_iff.mpr (by decide), nm_r (e' := nI k) t1' ⟨vp_in_iff.mpr (by decide), nm_r (e' := hf0) t2' ⟨vp_in_iff.mpr (by decide), nm_r (e' := ln0) t3' ⟨vp_in_iff.mpr (by decide), nm_r (e' := ll0) t4' ⟨vp_in_iff.mpr (by decide), nm_r (e' := rv0) t5' H'⟩⟩⟩⟩⟩
theorem of_sBrk {post : Int32 → St2 → Prop} {k way : Nat} {ds : List of_D} {g : of_G} {t : Nat → Bool} {u : St2} {v : Int32} (hu : of_ST k ds g t u) (hk : k ≤ 1000) (hway : way ≤ 2) (hds : 1 ≤ ds.length) (H : ∀ u', of_ST k ds (of_vw ds) (fun _ => false) u' → post (nI ds.length) u') : wpX_breakOff post u (nI way) v := by
  rcases u with ⟨hn, hf, ln, ll, rv, sl, pt, wl, ts, fr, fs, iu, a1, a2, a3, a4, a5, a6, a7, a8, a9, a10, a11, a12, a13, a14, a15⟩
  obtain ⟨h, L, Z, e1, e2, e3, e4, e5, e6, e7, e8, e9, e10, e11, e12⟩ := hu
  obtain ⟨s, es⟩ := of_any sl
  subst e1 e2 e3 e4 es
  have fin : ∀ h' p' q b7 b9 b10 s' w', (∀ i, i < L → b7 (3700 * h + i) = a7 (3700 * h + i)) → ((fun (r_5 : Int32) (u : St2) => match u with | (hnz, hfz, lnz, llz, rvz, slz, ptz, wlz, tsz, frz, fsz, iuz, a1z, a2z, a3z, a4z, a5z, a6z, a7z, a8z, a9z, a10z, a11z, a12z, a13z, a14z, a15z) => ∀ x4_63 : Int32, x4_63 = 6 * (hnz &&& 1) → (vp_in x4_63 12 ∧ ∀ b8 : Nat → Int32, b8 = upd a8z x4_63.toNatClampNeg (hnz + 1) → (wpX_findHead (fun u => match u with | (hny, hfy, lny, lly, rvy, sly, pty, wly, tsy, fry, fsy, iuy, a1y, a2y, a3y, a4y, a5y, a6y, a7y, a8y, a9y, a10y, a11y, a12y, a13y, a14y, a15y) => (wpX_load (fun u => match u with | (hnx, hfx, lnx, llx, rvx, slx, ptx, wlx, tsx, frx, fsx, iux, a1x, a2x, a3x, a4x, a5x, a6x, a7x, a8x, a9x, a10x, a11x, a12x, a13x, a14x, a15x) => (post rvx (hnx, hfx, lnx, llx, rvx, slx, ptx, wlx, tsx, frx, fsx, iux, a1x, a2x, a3x, a4x, a5x, a6x, a7x, a8x, a9x, a10x, a11x, a12x, a13x, a14x, a15x))) (hny, hfy, lny, lly, rvy, sly, pty, wly, tsy, fry, fsy, iuy, a1y, a2y, a3y, a4y, a5y, a6y, a7y, a8y, a9y, a10y, a11y, a12y, a13y, a14y, a15y) (rvy - 1))) (hnz, hfz, lnz, llz, rvz, slz, ptz, wlz, tsz, frz, fsz, iuz, a1z, a2z, a3z, a4z, a5z, a6z, a7z, b8, a9z, a10z, a11z, a12z, a13z, a14z, a15z)))) (nI q) (nI k, nI h', nI L, ll, nI ds.length, nI s', nI p', nI w', 0, fr, fs, 0, a1, a2, a3, a4, a5, a6, b7, a8, b9, b10, a11, a12, a13, a14, a15)) := by
    intro h' p' q b7 b9 b10 s' w' hb
    refine nm_r (of_slot hk) ⟨pk_in (6 * (k % 2)) 12 (by omega), ?_⟩
    rw [nI_clamp (show 6 * (k % 2) < 2 ^ 31 by omega), nI_1]
    refine nm_e (of_fH hk e12 (fun hHD => ?_))
    dsimp only
    rw [of_pred (by omega)]
    have hch : of_ch (fun i => b7 (3700 * h + i) &&& 255) L Z ds ll := of_ch_mono (fun i hi => by
      show b7 (3700 * h + i) &&& 255 = a7 (3700 * h + i) &&& 255
      rw [hb i hi]) (Nat.le_refl L) ds ll e8
    refine of_load (Z := Z) e5 (by omega) (by omega) e7 rfl hch (Or.inl rfl) (fun g' s' f' e' i' b1 b2 b3 b4 b5 b6 b9 m1 m2 m3 m4 => H _ ?_)
    have m5 := of_OM_e m1 (fun o o1 o2 => (m4 o o1 o2).symm)
    rw [show ds.length - 1 - (ds.length - 1) = 0 by omega, List.drop_zero] at m5
    refine ⟨h, L, Z, rfl, rfl, rfl, rfl, e5, e6, e7, hch, m3, m5, fun o o1 o2 => ?_, hHD⟩
    show b6 o = _
    rw [m2 o o1 o2]
    unfold of_tb
    rw [if_pos (by omega)]
    rfl
  have b33 : ∀ w, w ≤ 3700 → wX_breakOff_33 post (nI way) (nI w) (nI k) (nI h) (nI L) ll (nI ds.length) (nI s) pt wl ts fr fs iu a1 a2 a3 a4 a5 a6 a7 a8 a9 a10 a11 a12 a13 a14 a15 := by
    intro w hw
    unfold wX_breakOff_33
    refine of_wRev hway e5 (by omega) e10 e11 hw (fun _ q s' p' w' b7 b9 b10 hw => ?_) (fun _ q s' p' w' b7 b9 b10 hw => ?_)
    · obtain ⟨w1, w2, w3, w4, w5⟩ := hw
      exact fin h p' q b7 b9 b10 s' w' (fun i hi => w4 _ (by omega))
    · obtain ⟨w1, w2, w3, w4, w5⟩ := hw
      exact fin (1 - h) p' q b7 b9 b10 s' w' (fun i hi => w4 _ (by omega))
  unfold wpX_breakOff
  refine br_f (nI_pos (by omega)) (pk_le way 2 (fun _ => ?_) (fun z => by omega))
  refine br_c (fun z1 => br_c (fun z2 => ?_) (fun _ => b33 3700 (by omega))) (fun _ => b33 0 (by omega))
  obtain ⟨w, hw, ew⟩ := nI_of2 (x := v) (M := 3700) (n := 3700) (by decide) (Int32.not_lt.mpr z1) z2
  subst ew
  exact b33 w hw
theorem of_sBrkB {post : Int32 → St2 → Prop} {u : St2} {v : Int32} (H : post (-1) u) : wpX_breakOff post u 3 v := by
  rcases u with ⟨hn, hf, ln, ll, rv, sl, pt, wl, ts, fr, fs, iu, a1, a2, a3, a4, a5, a6, a7, a8, a9, a10, a11, a12, a13, a14, a15⟩
  exact br_f (by decide) (br_f (by decide) H)
end
end
section
section
variable {hn hf ln ll rv sl pt wl ts fr fs iu : Int32} {a1 a2 a3 a4 a5 a6 a7 a8 a9 a10 a11 a12 a13 a14 a15 : Nat → Int32}
theorem of_isL_s {g : of_G} {o d j : Nat} (hg : g o = some (true, nI d)) (hd : d ≤ 8) (hj : j ≤ 8) : of_isL g j o = decide (j = d) := by
  unfold of_isL
  rw [hg]
  by_cases e : j = d
  · subst e
    simp
  · rw [decide_eq_false e, decide_eq_false]
    intro z
    have z1 : nI d = nI j := (Prod.mk.inj (Option.some.inj z)).2
    exact e ((nI_eq (by omega) (by omega)).mp z1).symm
theorem of_isL_0 {g : of_G} {o j : Nat} (h : ∀ w, g o ≠ some (true, w)) : of_isL g j o = false := by
  unfold of_isL
  exact decide_eq_false (h _)
theorem of_lF {post : Int32 → Prop} {g : of_G} {o : Nat} (hOM : of_OM g a1 a2 a3 a4) (hlk : of_lk g) (h1 : 1 ≤ o) (h8 : o ≤ 8) (H : ∀ r, (∀ j, 1 ≤ j → j ≤ 8 → bt r j = of_isL g j o) → post r) : wpX_linkedFrom post (hn, hf, ln, ll, rv, sl, pt, wl, ts, fr, fs, iu, a1, a2, a3, a4, a5, a6, a7, a8, a9, a10, a11, a12, a13, a14, a15) (nI o) := by
  have hi : vp_in (nI o) 9 := pk_in o 9 (by omega)
  have hc : (nI o).toNatClampNeg = o := nI_clamp (by omega)
  have e6' : (6 : Int32) * nI o = nI (6 * o) := by
    rw [show (6 : Int32) = nI 6 from rfl, pk_mul]
  have hin : vp_in (nI (6 * o)) 54 := pk_in (6 * o) 54 (by omega)
  have hcn : (nI (6 * o)).toNatClampNeg = 6 * o := nI_clamp (by omega)
  have ho := hOM o h1 h8
  unfold wpX_linkedFrom
  refine nm_r e6' ⟨2, ⟨hi, ?_⟩⟩
  rw [hc, e6']
  cases hg : g o with
  | none =>
    rw [hg] at ho
    rw [(of_om_n ho).2]
    refine pk_le (6 * o) (6 * o) (fun _ => H 0 (fun j j1 j2 => ?_)) (fun z => by omega) (by rw [show (0 : Int32) = nI 0 from rfl, nI_add]; rfl)
    rw [b_0, of_isL_0 (fun w => by rw [hg]; simp)]
  | some x =>
    rw [hg] at ho
    obtain ⟨q1, q2, q3, q4⟩ := of_om_s ho
    rw [q2]
    refine pk_le (6 * o + 1) (6 * o) (fun z => by omega) (fun _ => ⟨hi, ?_⟩) (nI_1 _)
    rw [q1]
    refine br_f (of_k45 (b := x.1)).2.2 ⟨hin, ?_⟩
    rw [hcn, q3, q4]
    have done : ∀ r, (∀ j, 1 ≤ j → j ≤ 8 → bt r j = of_isL g j o) → wX_linkedFrom_7 post (nI o) hn hf ln ll rv sl pt wl ts fr fs iu a1 a2 a3 a4 a5 a6 a7 a8 a9 a10 a11 a12 a13 a14 a15 1 r (nI (6 * o + 1)) := by
      intro r hr
      refine ⟨hi, ?_⟩
      rw [hc, e6', q2]
      exact pk_le (6 * o + 1) (6 * o + 1) (fun _ => H r hr) (fun z => by omega) (nI_1 _)
    obtain ⟨b, w⟩ := x
    cases b with
    | false =>
      refine br_f (show ¬ (0 : Int32) = 2 by decide) (nm_e (nm_r (nI_1 _) (done _ (fun j j1 j2 => ?_))))
      rw [b_or, b_0, of_isL_0 (fun w => by rw [hg]; simp)]
      rfl
    | true =>
      obtain ⟨d, d1, d8, ed⟩ := hlk o w h1 h8 hg
      refine br_t rfl ⟨hin, nm_e (nm_r (nI_1 _) (done _ (fun j j1 j2 => ?_)))⟩
      show bt (0 ||| ((1 : Int32) <<< (w &&& 31))) j = of_isL g j o
      rw [ed] at hg ⊢
      rw [of_set 0 (by omega) (by omega), b_0, of_isL_s hg d8 j2, Bool.false_or]
theorem of_w25 {post : Int32 → St2 → Prop} {J : Int32 → Int32 → Prop} {g : of_G} {C : Nat → Bool} {n : Nat} (hOM : of_OM g a1 a2 a3 a4) (hlk : of_lk g) (hcl : ∀ p d, 1 ≤ p → p ≤ 8 → 1 ≤ d → d ≤ 8 → C p = true → g p = some (true, nI d) → C d = true) : ∀ (k : Nat) (x : Int32), k ≤ 8 → (∀ j, 1 ≤ j → j ≤ 8 → bt x j = true → C j = true) →
    (∀ x', (∀ j, 1 ≤ j → j ≤ 8 → bt x' j = true → C j = true) → (∀ j, 1 ≤ j → j ≤ 8 → bt x j = true → bt x' j = true) → (∀ p d, 9 - k ≤ p → p ≤ 8 → 1 ≤ d → d ≤ 8 → bt x p = true → g p = some (true, nI d) → bt x' d = true) → J x' (nI (n + 1))) →
    wX_sweep_25 post J (nI n) hn hf ln ll rv sl pt wl ts fr fs iu a1 a2 a3 a4 a5 a6 a7 a8 a9 a10 a11 a12 a13 a14 a15 (k + 1) x (nI (9 - k))
  | 0, x, _, hs, H => pk_lt 8 9 (fun _ => nm_r (nI_1 n) (H x hs (fun j _ _ h => h) (fun p d p1 p2 => by omega))) (fun z => by omega)
  | k + 1, x, hk, hs, H => by
    have h9 : nI (8 - k) + 1 = nI (9 - k) := by
      rw [nI_1]
      congr 1
      omega
    have hbit := of_bit x (o := 8 - k) (by omega)
    rw [show 9 - (k + 1) = 8 - k by omega] at H ⊢
    refine pk_lt 8 (8 - k) (fun z => by omega) (fun _ => ?_)
    rw [hbit]
    cases hb : bt x (8 - k) with
    | true =>
      refine br_t rfl (of_lF hOM hlk (by omega) (by omega) (fun r hr => nm_e (nm_r h9 ?_)))
      refine of_w25 hOM hlk hcl k (x ||| r) (by omega) (fun j j1 j2 hj => ?_) (fun x' m1 m2 m3 => ?_)
      · rw [b_or, hr j j1 j2] at hj
        cases hx : bt x j with
        | true => exact hs j j1 j2 hx
        | false =>
          rw [hx, Bool.false_or] at hj
          exact hcl (8 - k) j (by omega) (by omega) j1 j2 (hs (8 - k) (by omega) (by omega) hb) (of_decide_eq_true hj)
      · refine H x' m1 (fun j j1 j2 hj => m2 j j1 j2 (by rw [b_or, hj]; rfl)) (fun p d p1 p2 d1 d2 hp hg => ?_)
        by_cases ep : p = 8 - k
        · refine m2 d d1 d2 ?_
          rw [b_or, hr d d1 d2, ← ep, of_isL_s hg d2 d2]
          simp
        · exact m3 p d (by omega) p2 d1 d2 (by rw [b_or, hp]; rfl) hg
    | false =>
      refine br_f (by decide) (nm_e (nm_r h9 ?_))
      have e0 : ∀ j, bt (x ||| 0) j = bt x j := fun j => by rw [b_or, b_0, Bool.or_false]
      refine of_w25 hOM hlk hcl k (x ||| 0) (by omega) (fun j j1 j2 hj => hs j j1 j2 (by rw [← e0]; exact hj)) (fun x' m1 m2 m3 => ?_)
      refine H x' m1 (fun j j1 j2 hj => m2 j j1 j2 (by rw [e0]; exact hj)) (fun p d p1 p2 d1 d2 hp hg => ?_)
      by_cases ep : p = 8 - k
      · rw [ep, hb] at hp
        exact absurd hp (by decide)
      · exact m3 p d (by omega) p2 d1 d2 (by rw [e0]; exact hp) hg
def of_gC (C : Nat → Bool) (g : of_G) : of_G := fun o => if C o then g o else none
def of_qC (C : Nat → Bool) (g : of_G) : Nat → Bool := fun o => (g o).isSome && !C o
theorem of_w68 {post : Int32 → St2 → Prop} {g : of_G} {C t : Nat → Bool} {x : Int32} {c0 : Nat} (hx : ∀ j, 1 ≤ j → j ≤ 8 → bt x j = C j) (H : ∀ b1 b2 b6, of_OM (of_gC C g) b1 b2 a3 a4 → (∀ o, 1 ≤ o → o ≤ 8 → b6 o = if t o || of_qC C g o then 1 else 0) → post (nI c0) (hn, hf, ln, ll, rv, sl, pt, wl, ts, fr, fs, iu, b1, b2, a3, a4, a5, b6, a7, a8, a9, a10, a11, a12, a13, a14, a15)) : ∀ (k c : Nat) (a1 a2 a6 : Nat → Int32), k ≤ 8 → c + of_cnt (of_qC C g) k = c0 → (∀ o, 1 ≤ o → o ≤ 8 → (o + k < 9 → of_om (of_gC C g o) (a1 o) (a2 o) (a3 (6 * o)) (a4 (6 * o)) ∧ a6 o = if t o || of_qC C g o then 1 else 0) ∧ (9 ≤ o + k → of_om (g o) (a1 o) (a2 o) (a3 (6 * o)) (a4 (6 * o)) ∧ a6 o = if t o then 1 else 0)) → wX_sweep_68 post x (k + 1) (nI c) (nI (9 - k)) hn hf ln ll rv sl pt wl ts fr fs iu a1 a2 a3 a4 a5 a6 a7 a8 a9 a10 a11 a12 a13 a14 a15
  | 0, c, a1, a2, a6, _, hc0, hz => by
    have e : c = c0 := hc0
    subst e
    exact pk_lt 8 9 (fun _ => H a1 a2 a6 (fun o o1 o2 => ((hz o o1 o2).1 (by omega)).1) (fun o o1 o2 => ((hz o o1 o2).1 (by omega)).2)) (fun z => by omega)
  | k + 1, c, a1, a2, a6, hk, hc0, hz => by
    have hi : vp_in (nI (8 - k)) 9 := pk_in (8 - k) 9 (by omega)
    have hc : (nI (8 - k)).toNatClampNeg = 8 - k := nI_clamp (by omega)
    have h9 : nI (8 - k) + 1 = nI (9 - k) := by
      rw [nI_1]
      congr 1
      omega
    have hbit := of_bit x (o := 8 - k) (by omega)
    rw [hx (8 - k) (by omega) (by omega)] at hbit
    obtain ⟨ho, ht⟩ := (hz (8 - k) (by omega) (by omega)).2 (by omega)
    have stay : of_gC C g (8 - k) = g (8 - k) → of_qC C g (8 - k) = false → wX_sweep_68 post x (k + 1) (nI c) (nI (9 - k)) hn hf ln ll rv sl pt wl ts fr fs iu a1 a2 a3 a4 a5 a6 a7 a8 a9 a10 a11 a12 a13 a14 a15 := by
      intro s1 s2
      refine of_w68 hx H k c a1 a2 a6 (by omega) ?_ (fun o o1 o2 => ⟨fun z => ?_, fun z => (hz o o1 o2).2 (by omega)⟩)
      · unfold of_cnt at hc0
        rw [s2, if_neg (by decide)] at hc0
        omega
      · by_cases eo : o = 8 - k
        · rw [eo, s1, s2, Bool.or_false]
          exact ⟨ho, ht⟩
        · exact (hz o o1 o2).1 (by omega)
    rw [show 9 - (k + 1) = 8 - k by omega]
    refine pk_lt 8 (8 - k) (fun z => by omega) (fun _ => ⟨hi, ?_⟩)
    rw [hc]
    cases hg : g (8 - k) with
    | none =>
      rw [hg] at ho
      rw [(of_om_n ho).1]
      refine br_t rfl (nm_r h9 (stay ?_ ?_))
      · unfold of_gC
        rw [hg]
        split <;> rfl
      · unfold of_qC
        rw [hg]
        rfl
    | some y =>
      rw [hg] at ho
      rw [(of_om_s ho).1, hbit]
      refine br_f (of_k45 (b := y.1)).2.2 ?_
      cases hC : C (8 - k) with
      | true =>
        refine br_f (by decide) (nm_r h9 (stay ?_ ?_))
        · unfold of_gC
          rw [hC]
          rfl
        · unfold of_qC
          rw [hC]
          simp
      | false =>
        refine br_t rfl (of_bec (by omega) (nm_r (nI_1 c) (nm_r h9 ?_)))
        have s2 : of_qC C g (8 - k) = true := by
          unfold of_qC
          rw [hC, hg]
          rfl
        have s1 : of_gC C g (8 - k) = none := by
          unfold of_gC
          rw [hC]
          rfl
        refine of_w68 hx H k (c + 1) _ _ _ (by omega) ?_ (fun o o1 o2 => ⟨fun z => ?_, fun z => ?_⟩)
        · unfold of_cnt at hc0
          rw [s2, if_pos rfl] at hc0
          omega
        · by_cases eo : o = 8 - k
          · rw [eo, s1, s2, pk_us, pk_us, pk_us, Bool.or_true]
            exact ⟨⟨rfl, rfl⟩, rfl⟩
          · rw [pk_un eo, pk_un eo, pk_un eo]
            exact (hz o o1 o2).1 (by omega)
        · rw [pk_un (by omega), pk_un (by omega), pk_un (by omega)]
          exact (hz o o1 o2).2 (by omega)
theorem of_w17 {post : Int32 → St2 → Prop} {g : of_G} {C t : Nat → Bool} {ρ : Nat → Nat} (hOM : of_OM g a1 a2 a3 a4) (h6 : ∀ o, 1 ≤ o → o ≤ 8 → a6 o = if t o then 1 else 0) (hlk : of_lk g) (hcl : ∀ p d, 1 ≤ p → p ≤ 8 → 1 ≤ d → d ≤ 8 → C p = true → g p = some (true, nI d) → C d = true) (hrk : ∀ j, 1 ≤ j → j ≤ 8 → C j = true → ρ j ≤ 8 ∧ ((j = 1 ∧ (g 1).isSome = true) ∨ ∃ p, 1 ≤ p ∧ p ≤ 8 ∧ C p = true ∧ g p = some (true, nI j) ∧ ρ p < ρ j))
    (H : ∀ b1 b2 b6, of_OM (of_gC C g) b1 b2 a3 a4 → (∀ o, 1 ≤ o → o ≤ 8 → b6 o = if t o || of_qC C g o then 1 else 0) → post (nI (of_cnt (of_qC C g) 8)) (hn, hf, ln, ll, rv, sl, pt, wl, ts, fr, fs, iu, b1, b2, a3, a4, a5, b6, a7, a8, a9, a10, a11, a12, a13, a14, a15)) : ∀ (m : Nat) (x : Int32), m ≤ 8 → (∀ j, 1 ≤ j → j ≤ 8 → bt x j = true → C j = true) → ((g 1).isSome = true → bt x 1 = true) → (∀ j, 1 ≤ j → j ≤ 8 → C j = true → ρ j ≤ 8 - m → bt x j = true) → wX_sweep_17 post hn hf ln ll rv sl pt wl ts fr fs iu a1 a2 a3 a4 a5 a6 a7 a8 a9 a10 a11 a12 a13 a14 a15 (m + 1) x (nI (8 - m))
  | 0, x, _, hs, hx1, hcp => by
    refine pk_le 8 8 (fun _ => ⟨8 + 1, ?_⟩) (fun z => by omega)
    refine of_w68 (t := t) (fun j j1 j2 => ?_) H 8 0 a1 a2 a6 (by omega) (by omega) (fun o o1 o2 => ⟨fun z => by omega, fun _ => ⟨hOM o o1 o2, h6 o o1 o2⟩⟩)
    cases hC : C j with
    | true => exact hcp j j1 j2 hC (hrk j j1 j2 hC).1
    | false =>
      cases hb : bt x j with
      | true =>
        have := hs j j1 j2 hb
        rw [hC] at this
        exact absurd this (by decide)
      | false => rfl
  | m + 1, x, hm, hs, hx1, hcp => by
    refine pk_le 8 (8 - (m + 1)) (fun z => by omega) (fun _ => ⟨8 + 1, ?_⟩)
    refine of_w25 hOM hlk hcl 8 x (by omega) hs (fun x' m1 m2 m3 => ?_)
    rw [show 8 - (m + 1) + 1 = 8 - m by omega]
    refine of_w17 hOM h6 hlk hcl hrk H m x' (by omega) m1 (fun h => m2 1 (by omega) (by omega) (hx1 h)) (fun j j1 j2 hC hr => ?_)
    rcases (hrk j j1 j2 hC).2 with ⟨ej, hg1⟩ | ⟨p, p1, p2, hp, hg, hlt⟩
    · rw [ej]
      exact m2 1 (by omega) (by omega) (hx1 hg1)
    · exact m3 p j (by omega) p2 j1 j2 (hcp p p1 p2 hp (by omega)) hg
theorem of_sSwp {post : Int32 → St2 → Prop} {k : Nat} {ds : List of_D} {g : of_G} {t : Nat → Bool} {u : St2} (C : Nat → Bool) (ρ : Nat → Nat) (hu : of_ST k ds g t u) (hlk : of_lk g) (hc1 : (g 1).isSome = true → C 1 = true) (hcl : ∀ p d, 1 ≤ p → p ≤ 8 → 1 ≤ d → d ≤ 8 → C p = true → g p = some (true, nI d) → C d = true) (hrk : ∀ j, 1 ≤ j → j ≤ 8 → C j = true → ρ j ≤ 8 ∧ ((j = 1 ∧ (g 1).isSome = true) ∨ ∃ p, 1 ≤ p ∧ p ≤ 8 ∧ C p = true ∧ g p = some (true, nI j) ∧ ρ p < ρ j))
    (H : ∀ u', of_ST k ds (of_gC C g) (fun o => t o || of_qC C g o) u' → post (nI (of_cnt (of_qC C g) 8)) u') : wpX_sweep post u := by
  rcases u with ⟨hn, hf, ln, ll, rv, sl, pt, wl, ts, fr, fs, iu, a1, a2, a3, a4, a5, a6, a7, a8, a9, a10, a11, a12, a13, a14, a15⟩
  obtain ⟨h, L, Z, e1, e2, e3, e4, e5, e6, e7, e8, e9, e10, e11, e12⟩ := hu
  have b2 : ∀ j, j < 32 → bt 2 j = decide (j = 1) := by decide +kernel
  have go : ∀ x : Int32, (∀ j, 1 ≤ j → j ≤ 8 → bt x j = true → C j = true) → ((g 1).isSome = true → bt x 1 = true) → ∃ fu, wX_sweep_17 post hn hf ln ll rv sl pt wl ts fr fs iu a1 a2 a3 a4 a5 a6 a7 a8 a9 a10 a11 a12 a13 a14 a15 fu x 0 := by
    intro x hs hx1
    refine ⟨8 + 1, ?_⟩
    refine of_w17 (t := t) (ρ := ρ) (C := C) e10 e11 hlk hcl hrk (fun b1 b2 b6 m1 m2 => H _ ⟨h, L, Z, e1, e2, e3, e4, e5, e6, e7, e8, e9, m1, m2, e12⟩) 8 x (by omega) hs hx1 (fun j j1 j2 hC hr => ?_)
    rcases (hrk j j1 j2 hC).2 with ⟨ej, hg1⟩ | ⟨p, p1, p2, hp, hg, hlt⟩
    · rw [ej]
      exact hx1 hg1
    · omega
  have ho := e10 1 (by omega) (by omega)
  unfold wpX_sweep
  cases hg : g 1 with
  | none =>
    rw [hg] at ho
    refine br_t (of_om_n ho).1 (go 0 (fun j j1 j2 hj => ?_) (fun z => ?_))
    · rw [b_0] at hj
      exact absurd hj (by decide)
    · rw [hg] at z
      exact absurd z (by decide)
  | some y =>
    rw [hg] at ho
    refine br_f (by rw [(of_om_s ho).1]; exact (of_k45 (b := y.1)).2.2) (go 2 (fun j j1 j2 hj => ?_) (fun z => by decide))
    rw [b2 j (by omega)] at hj
    rw [of_decide_eq_true hj]
    exact hc1 (by rw [hg]; rfl)
end
end
section
/-! ===== the same calls over the views of the revisions (the newest first) ===== -/
def of_VS : List of_D → List of_G → Prop
  | [], [] => True
  | D :: ds, v :: vs => (∀ o, 1 ≤ o → o ≤ 8 → of_vw (D :: ds) o = v o) ∧ of_VS ds vs
  | _, _ => False
def of_hd (vs : List of_G) : of_G := vs.getD 0 (fun _ => none)
theorem of_VS_len : ∀ (ds : List of_D) (vs : List of_G), of_VS ds vs → ds.length = vs.length
  | [], [], _ => rfl
  | D :: ds, v :: vs, h => by
    rw [List.length_cons, List.length_cons, of_VS_len ds vs h.2]
theorem of_VS_dr : ∀ (ds : List of_D) (vs : List of_G), of_VS ds vs → ∀ j, j < vs.length → ∀ o, 1 ≤ o → o ≤ 8 → of_vw (ds.drop j) o = vs.getD j (fun _ => none) o
  | [], [], _, j, hj, o, _, _ => absurd hj (Nat.not_lt_zero j)
  | D :: ds, v :: vs, h, 0, _, o, o1, o2 => h.1 o o1 o2
  | D :: ds, v :: vs, h, j + 1, hj, o, o1, o2 => of_VS_dr ds vs h.2 j (Nat.lt_of_succ_lt_succ hj) o o1 o2
theorem of_VS_hd {ds : List of_D} {vs : List of_G} (h : of_VS ds vs) {o : Nat} (o1 : 1 ≤ o) (o2 : o ≤ 8) : of_vw ds o = of_hd vs o := by
  match ds, vs, h with
  | [], [], _ => rfl
  | D :: ds, v :: vs, h => exact h.1 o o1 o2
def of_S (k : Nat) (vs : List of_G) (g : of_G) (t : Nat → Bool) (u : St2) : Prop := ∃ ds, of_VS ds vs ∧ of_ST k ds g t u
theorem of_ST_e {k : Nat} {ds : List of_D} {g g' : of_G} {t t' : Nat → Bool} {u : St2} (hu : of_ST k ds g t u) (hg : ∀ o, 1 ≤ o → o ≤ 8 → g' o = g o) (ht : ∀ o, 1 ≤ o → o ≤ 8 → t' o = t o) : of_ST k ds g' t' u := by
  rcases u with ⟨hn, hf, ln, ll, rv, sl, pt, wl, ts, fr, fs, iu, a1, a2, a3, a4, a5, a6, a7, a8, a9, a10, a11, a12, a13, a14, a15⟩
  obtain ⟨h, L, Z, e1, e2, e3, e4, e5, e6, e7, e8, e9, e10, e11, e12⟩ := hu
  exact ⟨h, L, Z, e1, e2, e3, e4, e5, e6, e7, e8, e9, of_OM_e e10 hg, fun o o1 o2 => by rw [ht o o1 o2]; exact e11 o o1 o2, e12⟩
theorem of_qL {post : Int32 → St2 → Prop} {k o d : Nat} {vs : List of_G} {g g' : of_G} {t t' : Nat → Bool} {u : St2} {r : Int32} (hu : of_S k vs g t u) (h1 : 1 ≤ o) (h8 : o ≤ 8) (d1 : 1 ≤ d) (d8 : d ≤ 8) (hg : ∀ j, 1 ≤ j → j ≤ 8 → g' j = of_up g o (some (true, nI d)) j) (ht : ∀ j, 1 ≤ j → j ≤ 8 → t' j = of_ut t o j) (hr : of_kd (g o) = r) (H : ∀ u', of_S k vs g' t' u' → post r u') : wpX_setLink post u (nI o) (nI d) := by
  obtain ⟨ds, hv, hu⟩ := hu
  subst hr
  exact of_sSetL hu h1 h8 d1 d8 (fun u' hu' => H u' ⟨ds, hv, of_ST_e hu' hg ht⟩)
theorem of_qN {post : Int32 → St2 → Prop} {k o : Nat} {v : Int32} {vs : List of_G} {g g' : of_G} {t t' : Nat → Bool} {u : St2} {r : Int32} (hu : of_S k vs g t u) (h1 : 1 ≤ o) (h8 : o ≤ 8) (hg : ∀ j, 1 ≤ j → j ≤ 8 → g' j = of_up g o (some (false, v)) j) (ht : ∀ j, 1 ≤ j → j ≤ 8 → t' j = of_ut t o j) (hr : of_kd (g o) = r) (H : ∀ u', of_S k vs g' t' u' → post r u') : wpX_setNumber post u (nI o) v := by
  obtain ⟨ds, hv, hu⟩ := hu
  subst hr
  exact of_sSetN hu h1 h8 (fun u' hu' => H u' ⟨ds, hv, of_ST_e hu' hg ht⟩)
theorem of_qR {post : Int32 → St2 → Prop} {k o : Nat} {vs : List of_G} {g g' : of_G} {t t' : Nat → Bool} {u : St2} {r : Int32} (hu : of_S k vs g t u) (h1 : 1 ≤ o) (h8 : o ≤ 8) (hg : ∀ j, 1 ≤ j → j ≤ 8 → g' j = of_up g o none j) (ht : ∀ j, 1 ≤ j → j ≤ 8 → t' j = of_ut t o j) (hr : of_kd (g o) = r) (H : ∀ u', of_S k vs g' t' u' → post r u') : wpX_remove post u (nI o) := by
  obtain ⟨ds, hv, hu⟩ := hu
  subst hr
  exact of_sRem hu h1 h8 (fun u' hu' => H u' ⟨ds, hv, of_ST_e hu' hg ht⟩)
theorem of_qK {post : Int32 → Prop} {k o : Nat} {vs : List of_G} {g : of_G} {t : Nat → Bool} {u : St2} {r : Int32} (hu : of_S k vs g t u) (h1 : 1 ≤ o) (h8 : o ≤ 8) (hr : of_kd (g o) = r) (H : post r) : wpX_kind post u (nI o) := by
  obtain ⟨ds, hv, hu⟩ := hu
  subst hr
  exact of_sKind hu h1 h8 H
theorem of_qV {post : Int32 → Prop} {k o : Nat} {b : Bool} {r : Int32} {vs : List of_G} {g : of_G} {t : Nat → Bool} {u : St2} (hu : of_S k vs g t u) (h1 : 1 ≤ o) (h8 : o ≤ 8) (hx : g o = some (b, r)) (H : post r) : wpX_value post u (nI o) 0 := by
  obtain ⟨ds, hv, hu⟩ := hu
  exact of_sVal hu h1 h8 hx H
theorem of_qRv {post : Int32 → Prop} {k n : Nat} {vs : List of_G} {g : of_G} {t : Nat → Bool} {u : St2} (hu : of_S k vs g t u) (hn : vs.length = n) (H : post (nI n)) : wpX_revisions post u := by
  obtain ⟨ds, hv, hu⟩ := hu
  rw [← hn, ← of_VS_len ds vs hv] at H
  exact of_sRevs hu H
theorem of_qRs {post : Int32 → Prop} {k o : Nat} {vs : List of_G} {g : of_G} {t : Nat → Bool} {u : St2} {r : Int32} (hu : of_S k vs g t u) (hlk : of_lk g) (h1 : 1 ≤ o) (h8 : o ≤ 8) (hr : of_rs g 9 o = r) (H : post r) : wpX_resolve post u (nI o) := by
  obtain ⟨ds, hv, hu⟩ := hu
  subst hr
  exact of_sRes hu hlk h1 h8 H
theorem of_qLk {post : Int32 → Prop} {k d n : Nat} {vs : List of_G} {g : of_G} {t : Nat → Bool} {u : St2} (hu : of_S k vs g t u) (h1 : 1 ≤ d) (h8 : d ≤ 8) (hr : of_cnt (of_isL g d) 8 = n) (H : post (nI n)) : wpX_links post u (nI d) := by
  obtain ⟨ds, hv, hu⟩ := hu
  subst hr
  exact of_sLinks hu h1 h8 H
theorem of_qO {post : Int32 → St2 → Prop} {k n : Nat} {vs : List of_G} {g : of_G} {t : Nat → Bool} {u : St2} (R : Nat) (v : of_G) (hu : of_S k vs g t u) (hR : R < vs.length) (hv : vs.getD (vs.length - 1 - R) (fun _ => none) = v) (hn : of_cnt (fun o => (v o).isSome) 8 = n) (H : ∀ u', of_S k vs v (fun _ => !decide (R + 1 = vs.length)) u' → post (nI n) u') : wpX_open post u (nI R) := by
  obtain ⟨ds, hvs, hu⟩ := hu
  have hl := of_VS_len ds vs hvs
  have hd := of_VS_dr ds vs hvs (vs.length - 1 - R) (by omega)
  rw [← hl] at hR
  refine of_sOpen hu hR (fun u' hu' => ?_)
  rw [hl] at hu' ⊢
  rw [hv] at hd
  have e : of_cnt (fun o => (of_vw (ds.drop (vs.length - 1 - R)) o).isSome) 8 = n := by
    rw [← hn]
    refine of_cnt_e 8 (by omega) (fun o o1 o2 => ?_)
    show (of_vw (ds.drop (vs.length - 1 - R)) o).isSome = (v o).isSome
    rw [hd o o1 o2]
  rw [e]
  exact H u' ⟨ds, hvs, of_ST_e hu' (fun o o1 o2 => (hd o o1 o2).symm) (fun _ _ _ => rfl)⟩
theorem of_qOB {post : Int32 → St2 → Prop} {k R : Nat} {vs : List of_G} {g : of_G} {t : Nat → Bool} {u : St2} (hu : of_S k vs g t u) (hR : vs.length ≤ R) (hR2 : R < 2 ^ 31) (H : post (-1) u) : wpX_open post u (nI R) := by
  obtain ⟨ds, hvs, hu⟩ := hu
  have hl := of_VS_len ds vs hvs
  exact of_sOpenB hu (by omega) hR2 H
theorem of_df_e {g v w : of_G} (h : ∀ o, 1 ≤ o → o ≤ 8 → v o = w o) {o : Nat} (o1 : 1 ≤ o) (o2 : o ≤ 8) : of_df g v o = of_df g w o := by
  unfold of_df
  rw [h o o1 o2]
theorem of_qC0 {post : Int32 → St2 → Prop} {k : Nat} {vs : List of_G} {g : of_G} {t : Nat → Bool} {u : St2} {r : Int32} (hu : of_S k vs g t u) (hn : 1 ≤ vs.length) (hr : nI (if of_cnt (of_df g (of_hd vs)) 8 = 0 then 0 else 1) = r) (H : ∀ u', of_S k vs g (of_df g (of_hd vs)) u' → post r u') : wpX_changed post u := by
  obtain ⟨ds, hvs, hu⟩ := hu
  have hl := of_VS_len ds vs hvs
  have hd : ∀ o, 1 ≤ o → o ≤ 8 → of_df g (of_vw ds) o = of_df g (of_hd vs) o := fun o o1 o2 => of_df_e (fun j j1 j2 => of_VS_hd hvs j1 j2) o1 o2
  refine of_sChg hu (by omega) (fun u' hu' => ?_)
  rw [of_cnt_e 8 (by omega) hd, hr]
  exact H u' ⟨ds, hvs, of_ST_e hu' (fun _ _ _ => rfl) (fun o o1 o2 => (hd o o1 o2).symm)⟩
theorem of_vw_dl {t : Nat → Bool} {g : of_G} {ds : List of_D} {o : Nat} (h : t o = false → g o = of_vw ds o) : of_vw (of_dl false t g :: ds) o = g o := by
  show (match of_dl false t g o with | some x => x | none => of_vw ds o) = g o
  cases ht : t o with
  | true => rw [of_dl_y (al := false) (by rw [ht]; rfl)]
  | false =>
    rw [of_dl_n (al := false) (by rw [ht]; rfl)]
    exact (h ht).symm
theorem of_qS0 {post : Int32 → St2 → Prop} {k n : Nat} {vs : List of_G} {g : of_G} {t : Nat → Bool} {u : St2} (hu : of_S k vs g t u) (hk : k ≤ 1000) (hn : vs.length = n) (hn5 : n < 5) (ht : ∀ o, 1 ≤ o → o ≤ 8 → t o = false → g o = of_hd vs o) (H : ∀ u', of_S (k + 1) (g :: vs) g (fun _ => false) u' → post (nI (n + 1)) u') : wpX_save post u 0 := by
  obtain ⟨ds, hvs, hu⟩ := hu
  have hl := of_VS_len ds vs hvs
  refine of_sSave0 hu hk (by omega) (fun u' hu' => ?_)
  rw [hl, hn]
  exact H u' ⟨of_dl false t g :: ds, ⟨fun o o1 o2 => of_vw_dl (fun h => by rw [ht o o1 o2 h, of_VS_hd hvs o1 o2]), hvs⟩, hu'⟩
theorem of_qSF {post : Int32 → St2 → Prop} {k : Nat} {vs : List of_G} {g : of_G} {t : Nat → Bool} {u : St2} (hu : of_S k vs g t u) (hn : vs.length = 5) (H : post (-3) u) : wpX_save post u 0 := by
  obtain ⟨ds, hvs, hu⟩ := hu
  have hl := of_VS_len ds vs hvs
  exact of_sSaveF hu (by omega) H
theorem of_qSW {post : Int32 → St2 → Prop} {k way : Nat} {vs : List of_G} {g : of_G} {t : Nat → Bool} {u : St2} (hu : of_S k vs g t u) (hk : k ≤ 1000) (hw1 : 1 ≤ way) (hw2 : way ≤ 2) (H : ∀ u', of_S (k + 1) [g] g (fun _ => false) u' → post 1 u') : wpX_save post u (nI way) := by
  obtain ⟨ds, hvs, hu⟩ := hu
  refine of_sSaveW hu hk hw1 hw2 (fun u' hu' => H u' ⟨[of_dl true t g], ⟨fun o o1 o2 => ?_, trivial⟩, hu'⟩)
  show (match of_dl true t g o with | some x => x | none => none) = g o
  rw [of_dl_y (al := true) rfl]
theorem of_qB {post : Int32 → St2 → Prop} {k way n : Nat} {vs : List of_G} {g : of_G} {t : Nat → Bool} {u : St2} {v : Int32} (hu : of_S k vs g t u) (hk : k ≤ 1000) (hway : way ≤ 2) (hn : vs.length = n) (hn1 : 1 ≤ n) (H : ∀ u', of_S k vs (of_hd vs) (fun _ => false) u' → post (nI n) u') : wpX_breakOff post u (nI way) v := by
  obtain ⟨ds, hvs, hu⟩ := hu
  have hl := of_VS_len ds vs hvs
  refine of_sBrk hu hk hway (by omega) (fun u' hu' => ?_)
  rw [hl, hn]
  exact H u' ⟨ds, hvs, of_ST_e hu' (fun o o1 o2 => (of_VS_hd hvs o1 o2).symm) (fun _ _ _ => rfl)⟩
theorem of_qSw {post : Int32 → St2 → Prop} {k n : Nat} {vs : List of_G} {g g' : of_G} {t : Nat → Bool} {u : St2} (C : Nat → Bool) (ρ : Nat → Nat) (hu : of_S k vs g t u) (hlk : of_lk g) (hc1 : (g 1).isSome = true → C 1 = true) (hcl : ∀ p d, 1 ≤ p → p ≤ 8 → 1 ≤ d → d ≤ 8 → C p = true → g p = some (true, nI d) → C d = true) (hrk : ∀ j, 1 ≤ j → j ≤ 8 → C j = true → ρ j ≤ 8 ∧ ((j = 1 ∧ (g 1).isSome = true) ∨ ∃ p, 1 ≤ p ∧ p ≤ 8 ∧ C p = true ∧ g p = some (true, nI j) ∧ ρ p < ρ j))
    (hg : ∀ o, 1 ≤ o → o ≤ 8 → g' o = of_gC C g o) (hn : of_cnt (of_qC C g) 8 = n) (H : ∀ u' t', of_S k vs g' t' u' → post (nI n) u') : wpX_sweep post u := by
  obtain ⟨ds, hvs, hu⟩ := hu
  subst hn
  exact of_sSwp C ρ hu hlk hc1 hcl hrk (fun u' hu' => H u' _ ⟨ds, hvs, of_ST_e hu' hg (fun _ _ _ => rfl)⟩)
end
section
/-! ===== the law's chain of objects: its i-th stands at of_at s c i; of_xi s c o is the place of an object in the chain ===== -/
def of_at (s c i : Nat) : Nat := 1 + (i * (1 + 2 * s) + c) % 8
def of_xi (s c o : Nat) : Nat := ((o + 7 - c) * (1 + 2 * s)) % 8
theorem of_at_r (s c i : Nat) : 1 ≤ of_at s c i ∧ of_at s c i ≤ 8 := by
  unfold of_at
  omega
theorem of_xi_at : ∀ s, s < 4 → ∀ c, c < 8 → ∀ i, i < 8 → of_xi s c (of_at s c i) = i := by decide +kernel
theorem of_at_xi : ∀ s, s < 4 → ∀ c, c < 8 → ∀ o, o < 9 → 1 ≤ o → of_at s c (of_xi s c o) = o := by decide +kernel
theorem of_xi_lt (s c o : Nat) : of_xi s c o < 8 := Nat.mod_lt _ (by decide)
/-- counting over the chain's places -/
def of_ci (q : Nat → Bool) : Nat → Nat
  | 0 => 0
  | n + 1 => of_ci q n + (if q n then 1 else 0)
theorem of_ci_e {p q : Nat → Bool} : ∀ n, (∀ i, i < n → p i = q i) → of_ci p n = of_ci q n
  | 0, _ => rfl
  | n + 1, h => by
    unfold of_ci
    rw [h n (by omega), of_ci_e n (fun i hi => h i (by omega))]
theorem of_perm (f : Nat → Nat) : ∀ s, s < 4 → ∀ c, c < 8 → f (of_xi s c 1) + (f (of_xi s c 2) + (f (of_xi s c 3) + (f (of_xi s c 4) + (f (of_xi s c 5) + (f (of_xi s c 6) + (f (of_xi s c 7) + (f (of_xi s c 8) + 0))))))) = 0 + f 0 + f 1 + f 2 + f 3 + f 4 + f 5 + f 6 + f 7 := by
  intro s hs c hc
  have h1 : s = 0 ∨ s = 1 ∨ s = 2 ∨ s = 3 := by omega
  have h2 : c = 0 ∨ c = 1 ∨ c = 2 ∨ c = 3 ∨ c = 4 ∨ c = 5 ∨ c = 6 ∨ c = 7 := by omega
  rcases h1 with e | e | e | e <;> rcases h2 with e' | e' | e' | e' | e' | e' | e' | e' <;> subst e e' <;> simp [of_xi] <;> omega
theorem of_cnt_ci {s c : Nat} (hs : s < 4) (hc : c < 8) (q : Nat → Bool) : of_cnt (fun o => q (of_xi s c o)) 8 = of_ci q 8 := of_perm (fun i => if q i then 1 else 0) s hs c hc
theorem of_cntI {s c n : Nat} {p q : Nat → Bool} (hs : s < 4) (hc : c < 8) (h : ∀ i, i < 8 → p (of_at s c i) = q i) (hn : of_ci q 8 = n) : of_cnt p 8 = n := by
  rw [← hn, ← of_cnt_ci hs hc q]
  refine of_cnt_e 8 (by omega) (fun o o1 o2 => ?_)
  show p o = q (of_xi s c o)
  rw [← h (of_xi s c o) (of_xi_lt s c o), of_at_xi s hs c hc o (by omega) o1]
/-- over the chain's places instead of the objects -/
theorem of_all {s c : Nat} {P : Nat → Prop} (hs : s < 4) (hc : c < 8) (h : ∀ i, i < 8 → P (of_at s c i)) : ∀ o, 1 ≤ o → o ≤ 8 → P o := by
  intro o o1 o2
  have t := h (of_xi s c o) (of_xi_lt s c o)
  rw [of_at_xi s hs c hc o (by omega) o1] at t
  exact t
theorem of_at_inj {s c i j : Nat} (hs : s < 4) (hc : c < 8) (hi : i < 8) (hj : j < 8) (h : of_at s c i = of_at s c j) : i = j := by
  rw [← of_xi_at s hs c hc i hi, ← of_xi_at s hs c hc j hj, h]
/-- a chain: its places lo .. M - 2 hold links to the next, the last one holds e -/
def of_cI (s c M lo : Nat) (e : Option (Bool × Int32)) (i : Nat) : Option (Bool × Int32) := if i < lo then none else if i + 1 < M then some (true, nI (of_at s c (i + 1))) else if i + 1 = M then e else none
def of_cq (s c M lo : Nat) (e : Option (Bool × Int32)) : of_G := fun o => of_cI s c M lo e (of_xi s c o)
theorem of_cq_at {s c M lo i : Nat} {e : Option (Bool × Int32)} (hs : s < 4) (hc : c < 8) (hi : i < 8) : of_cq s c M lo e (of_at s c i) = of_cI s c M lo e i := by
  unfold of_cq
  rw [of_xi_at s hs c hc i hi]
theorem of_cI_0 {s c M lo i : Nat} {e : Option (Bool × Int32)} (h : i < lo ∨ M ≤ i) : of_cI s c M lo e i = none := by
  unfold of_cI
  by_cases h1 : i < lo
  · rw [if_pos h1]
  · rw [if_neg h1, if_neg (by omega), if_neg (by omega)]
theorem of_cI_l {s c M lo i : Nat} {e : Option (Bool × Int32)} (h : lo ≤ i) (h2 : i + 1 < M) : of_cI s c M lo e i = some (true, nI (of_at s c (i + 1))) := by
  unfold of_cI
  rw [if_neg (by omega), if_pos h2]
theorem of_cI_e {s c M lo i : Nat} {e : Option (Bool × Int32)} (h : lo ≤ i) (h2 : i + 1 = M) : of_cI s c M lo e i = e := by
  unfold of_cI
  rw [if_neg (by omega), if_neg (by omega), if_pos h2]
theorem of_up_at {s c i j : Nat} {g : of_G} {x : Option (Bool × Int32)} (hs : s < 4) (hc : c < 8) (hi : i < 8) (hj : j < 8) : of_up g (of_at s c j) x (of_at s c i) = if i = j then x else g (of_at s c i) := by
  unfold of_up
  by_cases e : i = j
  · rw [if_pos e, e, if_pos rfl]
  · rw [if_neg e, if_neg (fun z => e (of_at_inj hs hc hi hj z))]
theorem of_ut_at {s c i j : Nat} {t : Nat → Bool} (hs : s < 4) (hc : c < 8) (hi : i < 8) (hj : j < 8) : of_ut t (of_at s c j) (of_at s c i) = if i = j then true else t (of_at s c i) := by
  unfold of_ut
  by_cases e : i = j
  · rw [if_pos e, e, if_pos rfl]
  · rw [if_neg e, if_neg (fun z => e (of_at_inj hs hc hi hj z))]
/-- links lead to objects -/
def of_eok (e : Option (Bool × Int32)) : Prop := ∀ w, e = some (true, w) → ∃ d, 1 ≤ d ∧ d ≤ 8 ∧ w = nI d
theorem of_cq_lk {s c M lo : Nat} {e : Option (Bool × Int32)} (he : of_eok e) : of_lk (of_cq s c M lo e) := by
  intro o w o1 o2 h
  unfold of_cq of_cI at h
  split at h
  · exact absurd h (by simp)
  · split at h
    · have z : nI (of_at s c (of_xi s c o + 1)) = w := (Prod.mk.inj (Option.some.inj h)).2
      exact ⟨_, (of_at_r s c _).1, (of_at_r s c _).2, z.symm⟩
    · split at h
      · exact he w h
      · exact absurd h (by simp)
theorem of_eok_0 : of_eok none := fun w h => absurd h (by simp)
theorem of_eok_n {v : Int32} : of_eok (some (false, v)) := fun w h => absurd h (by simp)
theorem of_eok_l {s c r : Nat} : of_eok (some (true, nI (of_at s c r))) := fun w h => ⟨of_at s c r, (of_at_r s c r).1, (of_at_r s c r).2, ((Prod.mk.inj (Option.some.inj h)).2).symm⟩
/-- following the chain -/
theorem of_rs_n {g : of_G} {n o : Nat} (h : g o = none) : of_rs g n o = -2 := by
  cases n with
  | zero => rfl
  | succ n => simp only [of_rs, h]
theorem of_rs_c {s c M lo : Nat} {e : Option (Bool × Int32)} (hs : s < 4) (hc : c < 8) (hM : M ≤ 8) : ∀ (n i d : Nat), lo ≤ i → i + d + 1 = M → d ≤ n → of_rs (of_cq s c M lo e) n (of_at s c i) = of_rs (of_cq s c M lo e) (n - d) (of_at s c (M - 1))
  | n, i, 0, _, h2, _ => by
    rw [show M - 1 = i by omega]
    rfl
  | 0, i, d + 1, _, _, h3 => by omega
  | n + 1, i, d + 1, h1, h2, h3 => by
    have e1 : of_cq s c M lo e (of_at s c i) = some (true, nI (of_at s c (i + 1))) := by
      rw [of_cq_at hs hc (by omega), of_cI_l h1 (by omega)]
    have hr := of_at_r s c (i + 1)
    show (match of_cq s c M lo e (of_at s c i) with | none => -2 | some (false, _) => nI (of_at s c i) | some (true, w) => of_rs (of_cq s c M lo e) n w.toNatClampNeg) = _
    rw [e1]
    show of_rs (of_cq s c M lo e) n (nI (of_at s c (i + 1))).toNatClampNeg = _
    rw [nI_clamp (by omega), of_rs_c hs hc hM n (i + 1) d (by omega) (by omega) (by omega), show n + 1 - (d + 1) = n - d by omega]
theorem of_rs_ring {s c M r : Nat} (hs : s < 4) (hc : c < 8) (hM : M ≤ 8) (hr : r < M) : ∀ (n i : Nat), i < M → of_rs (of_cq s c M 0 (some (true, nI (of_at s c r)))) n (of_at s c i) = -2
  | 0, _, _ => rfl
  | n + 1, i, hi => by
    have e1 : ∃ j, j < M ∧ of_cq s c M 0 (some (true, nI (of_at s c r))) (of_at s c i) = some (true, nI (of_at s c j)) := by
      rw [of_cq_at hs hc (by omega)]
      by_cases h : i + 1 < M
      · exact ⟨i + 1, h, of_cI_l (Nat.zero_le i) h⟩
      · exact ⟨r, hr, of_cI_e (Nat.zero_le i) (by omega)⟩
    obtain ⟨j, hj, e1⟩ := e1
    have hjr := of_at_r s c j
    show (match of_cq s c M 0 (some (true, nI (of_at s c r))) (of_at s c i) with | none => -2 | some (false, _) => nI (of_at s c i) | some (true, w) => of_rs (of_cq s c M 0 (some (true, nI (of_at s c r)))) n w.toNatClampNeg) = _
    rw [e1]
    show of_rs (of_cq s c M 0 (some (true, nI (of_at s c r)))) n (nI (of_at s c j)).toNatClampNeg = _
    rw [nI_clamp (by omega), of_rs_ring hs hc hM hr n j hj]
/-- a chain whose end is absent, and one whose end is a number -/
theorem of_rs_0 {s c M lo i : Nat} (hs : s < 4) (hc : c < 8) (hM : M ≤ 8) (h1 : lo ≤ i) (h2 : i < M) : of_rs (of_cq s c M lo none) 9 (of_at s c i) = -2 := by
  rw [of_rs_c hs hc hM 9 i (M - 1 - i) h1 (by omega) (by omega), of_rs_n (by rw [of_cq_at hs hc (by omega), of_cI_e (by omega) (by omega)])]
theorem of_rs_v {s c M lo i : Nat} {v : Int32} (hs : s < 4) (hc : c < 8) (hM : M ≤ 8) (h1 : lo ≤ i) (h2 : i < M) : of_rs (of_cq s c M lo (some (false, v))) 9 (of_at s c i) = nI (of_at s c (M - 1)) := by
  rw [of_rs_c hs hc hM 9 i (M - 1 - i) h1 (by omega) (by omega)]
  obtain ⟨n, hn⟩ : ∃ n, 9 - (M - 1 - i) = n + 1 := ⟨9 - (M - 1 - i) - 1, by omega⟩
  have e1 : of_cq s c M lo (some (false, v)) (of_at s c (M - 1)) = some (false, v) := by
    rw [of_cq_at hs hc (by omega), of_cI_e (by omega) (by omega)]
  rw [hn]
  show (match of_cq s c M lo (some (false, v)) (of_at s c (M - 1)) with | none => -2 | some (false, _) => nI (of_at s c (M - 1)) | some (true, w) => of_rs (of_cq s c M lo (some (false, v))) n w.toNatClampNeg) = _
  rw [e1]
end
section
section
variable {s c M P r : Nat} {y : Int32} {e e' : Option (Bool × Int32)}
theorem of_cq_ini : ∀ o, 1 ≤ o → o ≤ 8 → of_cq s c 1 0 none o = (fun _ : Nat => (none : Option (Bool × Int32))) o := by
  intro o _ _
  unfold of_cq of_cI
  rw [if_neg (by omega), if_neg (by omega)]
  split <;> rfl
theorem of_cq_st (hs : s < 4) (hc : c < 8) {j : Nat} (hj : j + 1 < 8) : ∀ o, 1 ≤ o → o ≤ 8 → of_cq s c (j + 2) 0 none o = of_up (of_cq s c (j + 1) 0 none) (of_at s c j) (some (true, nI (of_at s c (j + 1)))) o := by
  refine of_all hs hc (fun i hi => ?_)
  rw [of_up_at hs hc hi (by omega), of_cq_at hs hc hi, of_cq_at hs hc hi]
  by_cases e1 : i = j
  · rw [if_pos e1, e1, of_cI_l (Nat.zero_le j) (by omega)]
  · rw [if_neg e1]
    by_cases e2 : i < j
    · rw [of_cI_l (Nat.zero_le i) (by omega), of_cI_l (Nat.zero_le i) (by omega)]
    · rw [of_cI_0 (M := j + 1) (Or.inr (by omega))]
      by_cases e3 : i + 1 = j + 2
      · rw [of_cI_e (Nat.zero_le i) e3]
      · rw [of_cI_0 (Or.inr (by omega))]
def of_tj (s c j : Nat) : Nat → Bool := fun o => decide (of_xi s c o < j)
theorem of_tj_st (hs : s < 4) (hc : c < 8) {j : Nat} (hj : j < 8) : ∀ o, 1 ≤ o → o ≤ 8 → of_tj s c (j + 1) o = of_ut (of_tj s c j) (of_at s c j) o := by
  refine of_all hs hc (fun i hi => ?_)
  rw [of_ut_at hs hc hi hj]
  unfold of_tj
  rw [of_xi_at s hs c hc i hi]
  by_cases e1 : i = j
  · rw [if_pos e1, decide_eq_true (by omega)]
  · rw [if_neg e1]
    by_cases e2 : i < j
    · rw [decide_eq_true e2, decide_eq_true (by omega)]
    · rw [decide_eq_false e2, decide_eq_false (by omega)]
theorem of_tj_ini : ∀ o, 1 ≤ o → o ≤ 8 → of_tj s c 0 o = (fun _ : Nat => false) o := fun _ _ _ => rfl
/-- the end is set -/
theorem of_cq_end (hs : s < 4) (hc : c < 8) (hM1 : 1 ≤ M) (hM : M ≤ 8) (hP : P < M) : ∀ o, 1 ≤ o → o ≤ 8 → of_cq s c M P e' o = of_up (of_cq s c M P e) (of_at s c (M - 1)) e' o := by
  refine of_all hs hc (fun i hi => ?_)
  rw [of_up_at hs hc hi (by omega), of_cq_at hs hc hi, of_cq_at hs hc hi]
  by_cases e1 : i = M - 1
  · rw [if_pos e1, e1, of_cI_e (by omega) (by omega)]
  · rw [if_neg e1]
    unfold of_cI
    rw [if_neg (show ¬ i + 1 = M by omega), if_neg (show ¬ i + 1 = M by omega)]
theorem of_cq_end_at (hs : s < 4) (hc : c < 8) (hM1 : 1 ≤ M) (hM : M ≤ 8) (hP : P < M) : of_cq s c M P e (of_at s c (M - 1)) = e := by
  rw [of_cq_at hs hc (by omega), of_cI_e (by omega) (by omega)]
/-- only what the chain holds differs from its touched places -/
theorem of_sv1 (hs : s < 4) (hc : c < 8) (hM1 : 1 ≤ M) (hM : M ≤ 8) : ∀ o, 1 ≤ o → o ≤ 8 → of_ut (of_tj s c (M - 1)) (of_at s c (M - 1)) o = false → of_cq s c M 0 e o = of_hd [] o := by
  refine of_all hs hc (fun i hi => ?_)
  rw [of_ut_at hs hc hi (by omega)]
  intro h
  by_cases e1 : i = M - 1
  · rw [if_pos e1] at h
    exact absurd h (by decide)
  · rw [if_neg e1] at h
    unfold of_tj at h
    rw [of_xi_at s hs c hc i hi] at h
    have h2 := of_decide_eq_false h
    rw [of_cq_at hs hc hi, of_cI_0 (Or.inr (by omega))]
    rfl
theorem of_sv2 (hs : s < 4) (hc : c < 8) (hM1 : 1 ≤ M) (hM : M ≤ 8) {vs : List of_G} : ∀ o, 1 ≤ o → o ≤ 8 → of_ut (fun _ => false) (of_at s c (M - 1)) o = false → of_cq s c M 0 e' o = of_hd (of_cq s c M 0 e :: vs) o := by
  refine of_all hs hc (fun i hi => ?_)
  rw [of_ut_at hs hc hi (by omega)]
  intro h
  by_cases e1 : i = M - 1
  · rw [if_pos e1] at h
    exact absurd h (by decide)
  · show of_cq s c M 0 e' (of_at s c i) = of_cq s c M 0 e (of_at s c i)
    rw [of_cq_at hs hc hi, of_cq_at hs hc hi]
    unfold of_cI
    rw [if_neg (show ¬ i + 1 = M by omega), if_neg (show ¬ i + 1 = M by omega)]
theorem of_df_f {g v : of_G} {o : Nat} (h : of_df g v o = false) : g o = v o := by
  unfold of_df at h
  rw [Bool.not_eq_false'] at h
  exact of_decide_eq_true h
/-! counts -/
theorem of_q1 : ∀ M, M < 8 → ∀ j, j < M → of_ci (fun i => decide (i + 1 < M ∧ i + 1 = j)) 8 = if j = 0 then 0 else 1 := by decide +kernel
theorem of_q2 : ∀ M, M < 8 → ∀ j, j < M → 1 < M → of_ci (fun i => decide ((i + 1 < M ∧ i + 1 = j) ∨ i + 1 = M)) 8 = if j = 0 then 1 else 2 := by decide +kernel
theorem of_q3 : ∀ M, M < 8 → ∀ l, l < 8 → of_ci (fun i => decide (l ≤ i ∧ i < M)) 8 = M - l := by decide +kernel
theorem of_q4 : ∀ M, M < 8 → ∀ l, l < 8 → of_ci (fun i => decide (i < l ∧ i < M)) 8 = if l < M then l else M := by decide +kernel
theorem of_q5 : ∀ M, M < 8 → ∀ l, l < 8 → of_ci (fun i => decide ((l ≤ i ∧ i < M) ∨ i = M)) 8 = M - l + 1 := by decide +kernel
theorem of_q6 : ∀ M, M < 8 → ∀ P, P < 8 → ∀ r, r < M → of_ci (fun i => decide (i < M ∧ ¬ (P < M ∧ (P ≤ i ∨ r ≤ i)))) 8 = if P < M then (if P < r then P else r) else M := by decide +kernel
theorem of_isL_c {g : of_G} {i j : Nat} {w : Bool} (h : g i = some (true, nI (of_at s c j)) ↔ w = true) : of_isL g (of_at s c j) i = w := by
  unfold of_isL
  cases w with
  | true => exact decide_eq_true (h.mpr rfl)
  | false => exact decide_eq_false (fun z => absurd (h.mp z) (by decide))
theorem of_nIat (hs : s < 4) (hc : c < 8) {i j : Nat} (hi : i < 8) (hj : j < 8) : nI (of_at s c i) = nI (of_at s c j) ↔ i = j := by
  have h1 := of_at_r s c i
  have h2 := of_at_r s c j
  constructor
  · intro h
    exact of_at_inj hs hc hi hj ((nI_eq (by omega) (by omega)).mp h)
  · intro h
    rw [h]
theorem of_lc1 (hs : s < 4) (hc : c < 8) (hM : M < 8) {j : Nat} (hj : j < M) : of_cnt (of_isL (of_cq s c M 0 none) (of_at s c j)) 8 = if j = 0 then 0 else 1 := by
  refine of_cntI hs hc (q := fun i => decide (i + 1 < M ∧ i + 1 = j)) (fun i hi => ?_) (of_q1 M hM j hj)
  refine of_isL_c ?_
  rw [of_cq_at hs hc hi, decide_eq_true_iff]
  by_cases h : i + 1 < M
  · rw [of_cI_l (Nat.zero_le i) h, Option.some.injEq, Prod.mk.injEq, of_nIat hs hc (by omega) (by omega)]
    exact ⟨fun z => ⟨h, z.2⟩, fun z => ⟨rfl, z.2⟩⟩
  · by_cases h2 : i + 1 = M
    · rw [of_cI_e (Nat.zero_le i) h2]
      exact ⟨fun z => absurd z (by simp), fun z => absurd z.1 h⟩
    · rw [of_cI_0 (Or.inr (by omega))]
      exact ⟨fun z => absurd z (by simp), fun z => absurd z.1 h⟩
theorem of_lc2 (hs : s < 4) (hc : c < 8) (hM : M < 8) (hM1 : 1 < M) (hr : r < M) : of_cnt (of_isL (of_cq s c M 0 (some (true, nI (of_at s c r)))) (of_at s c r)) 8 = if r = 0 then 1 else 2 := by
  refine of_cntI hs hc (q := fun i => decide ((i + 1 < M ∧ i + 1 = r) ∨ i + 1 = M)) (fun i hi => ?_) (of_q2 M hM r hr hM1)
  refine of_isL_c ?_
  rw [of_cq_at hs hc hi, decide_eq_true_iff]
  by_cases h : i + 1 < M
  · rw [of_cI_l (Nat.zero_le i) h, Option.some.injEq, Prod.mk.injEq, of_nIat hs hc (by omega) (by omega)]
    refine ⟨fun z => Or.inl ⟨h, z.2⟩, fun z => ⟨rfl, ?_⟩⟩
    omega
  · by_cases h2 : i + 1 = M
    · rw [of_cI_e (Nat.zero_le i) h2]
      exact ⟨fun _ => Or.inr h2, fun _ => rfl⟩
    · rw [of_cI_0 (Or.inr (by omega))]
      refine ⟨fun z => absurd z (by simp), fun z => ?_⟩
      omega
theorem of_cI_so {l i : Nat} {x : of_X} : (of_cI s c M l (some x) i).isSome = decide (l ≤ i ∧ i < M) := by
  by_cases h : l ≤ i ∧ i < M
  · rw [decide_eq_true h]
    by_cases h2 : i + 1 < M
    · rw [of_cI_l h.1 h2]
      rfl
    · rw [of_cI_e h.1 (by omega)]
      rfl
  · rw [decide_eq_false h, of_cI_0 (by omega)]
    rfl
theorem of_pc {l : Nat} {x : of_X} (hs : s < 4) (hc : c < 8) (hM : M < 8) (hl : l < 8) : of_cnt (fun o => (of_cq s c M l (some x) o).isSome) 8 = M - l := by
  refine of_cntI hs hc (q := fun i => decide (l ≤ i ∧ i < M)) (fun i hi => ?_) (of_q3 M hM l hl)
  show (of_cq s c M l (some x) (of_at s c i)).isSome = _
  rw [of_cq_at hs hc hi, of_cI_so]
theorem of_pcE {l : Nat} {x z : of_X} (hs : s < 4) (hc : c < 8) (hM : M < 8) (hl : l < 8) : of_cnt (fun o => (of_up (of_cq s c M l (some x)) (of_at s c M) (some z) o).isSome) 8 = M - l + 1 := by
  refine of_cntI hs hc (q := fun i => decide ((l ≤ i ∧ i < M) ∨ i = M)) (fun i hi => ?_) (of_q5 M hM l hl)
  show (of_up (of_cq s c M l (some x)) (of_at s c M) (some z) (of_at s c i)).isSome = _
  rw [of_up_at hs hc hi hM]
  by_cases e1 : i = M
  · rw [if_pos e1]
    exact (decide_eq_true (Or.inr e1)).symm
  · rw [if_neg e1, of_cq_at hs hc hi, of_cI_so]
    by_cases h : l ≤ i ∧ i < M
    · rw [decide_eq_true h, decide_eq_true (Or.inl h)]
    · rw [decide_eq_false h, decide_eq_false (fun z => z.elim h e1)]
/-- differences -/
theorem of_cnt_0 {p : Nat → Bool} : ∀ k, k ≤ 8 → (∀ o, 1 ≤ o → o ≤ 8 → p o = false) → of_cnt p k = 0
  | 0, _, _ => rfl
  | k + 1, hk, h => by
    unfold of_cnt
    rw [h (8 - k) (by omega) (by omega), of_cnt_0 k (by omega) h]
    rfl
theorem of_cnt_1 {p : Nat → Bool} {o : Nat} : ∀ k, k ≤ 8 → 9 ≤ o + k → o ≤ 8 → p o = true → of_cnt p k ≠ 0
  | 0, _, h, h8, _ => by omega
  | k + 1, hk, h, h8, hp => by
    unfold of_cnt
    by_cases e1 : o = 8 - k
    · rw [← e1, hp, if_pos rfl]
      omega
    · have := of_cnt_1 k (by omega) (by omega) h8 hp
      omega
theorem of_df_t {g v : of_G} {o : Nat} (h : g o ≠ v o) : of_df g v o = true := by
  unfold of_df
  rw [decide_eq_false h]
  rfl
theorem of_df_0 {g v : of_G} {o : Nat} (h : g o = v o) : of_df g v o = false := by
  unfold of_df
  rw [decide_eq_true h]
  rfl
theorem of_cg (hs : s < 4) (hc : c < 8) (hM : M < 8) (hP : P < 8) {x : of_X} : of_cnt (of_df (of_cq s c M P (some x)) (of_cq s c M 0 (some x))) 8 = if P < M then P else M := by
  refine of_cntI hs hc (q := fun i => decide (i < P ∧ i < M)) (fun i hi => ?_) (of_q4 M hM P hP)
  by_cases h : i < P ∧ i < M
  · rw [decide_eq_true h]
    refine of_df_t ?_
    rw [of_cq_at hs hc hi, of_cq_at hs hc hi, of_cI_0 (Or.inl h.1)]
    intro z
    have t := of_cI_so (s := s) (c := c) (M := M) (l := 0) (i := i) (x := x)
    rw [← z, decide_eq_true ⟨Nat.zero_le i, h.2⟩] at t
    exact absurd t (by decide)
  · rw [decide_eq_false h]
    refine of_df_0 ?_
    rw [of_cq_at hs hc hi, of_cq_at hs hc hi]
    by_cases h2 : i < M
    · unfold of_cI
      rw [if_neg (show ¬ i < P by omega), if_neg (show ¬ i < 0 by omega)]
    · rw [of_cI_0 (Or.inr (by omega)), of_cI_0 (Or.inr (by omega))]
end
end
section
section
variable {s c M P r : Nat} {y : Int32}
def of_CN (s c M P : Nat) : Nat → Bool := fun o => decide (P ≤ of_xi s c o ∧ of_xi s c o < M)
def of_CR (s c M P r : Nat) : Nat → Bool := fun o => decide (of_xi s c o < M ∧ P < M ∧ (P ≤ of_xi s c o ∨ r ≤ of_xi s c o))
theorem of_CN_at (hs : s < 4) (hc : c < 8) {i : Nat} (hi : i < 8) : of_CN s c M P (of_at s c i) = decide (P ≤ i ∧ i < M) := by
  unfold of_CN
  rw [of_xi_at s hs c hc i hi]
theorem of_CR_at (hs : s < 4) (hc : c < 8) {i : Nat} (hi : i < 8) : of_CR s c M P r (of_at s c i) = decide (i < M ∧ P < M ∧ (P ≤ i ∨ r ≤ i)) := by
  unfold of_CR
  rw [of_xi_at s hs c hc i hi]
theorem of_at1 (hs : s < 4) (hc : c < 8) (hP : of_xi s c 1 = P) : of_at s c P = 1 := by
  rw [← hP]
  exact of_at_xi s hs c hc 1 (by omega) (by omega)
theorem of_swN {post : Int32 → St2 → Prop} {k n lo : Nat} {v : Int32} {vs : List of_G} {t : Nat → Bool} {u : St2} (hs : s < 4) (hc : c < 8) (hM : M < 8) (hP : of_xi s c 1 = P) (hlo : lo ≤ P) (hu : of_S k vs (of_cq s c M lo (some (false, v))) t u) (hn : of_ci (fun i => decide (lo ≤ i ∧ i < M ∧ i < P)) 8 = n) (H : ∀ u' t', of_S k vs (of_cq s c M P (some (false, v))) t' u' → post (nI n) u') : wpX_sweep post u := by
  have hP8 : P < 8 := by rw [← hP]; exact of_xi_lt s c 1
  have h1 := of_at1 hs hc hP
  have g1 : (of_cq s c M lo (some (false, v)) 1).isSome = decide (lo ≤ P ∧ P < M) := by
    rw [← h1, of_cq_at hs hc hP8, of_cI_so]
  refine of_qSw (of_CN s c M P) (fun o => of_xi s c o - P) hu (of_cq_lk of_eok_n) (fun h => ?_) ?_ ?_ ?_ ?_ H
  · rw [g1] at h
    have h2 := of_decide_eq_true h
    show decide (P ≤ of_xi s c 1 ∧ of_xi s c 1 < M) = true
    rw [hP]
    exact decide_eq_true ⟨Nat.le_refl P, h2.2⟩
  · intro p d p1 p2 d1 d2
    revert p p1 p2
    refine of_all hs hc (fun i hi => ?_)
    intro hC hg
    rw [of_CN_at hs hc hi] at hC
    have hC' := of_decide_eq_true hC
    rw [of_cq_at hs hc hi] at hg
    by_cases h : i + 1 < M
    · rw [of_cI_l (by omega) h] at hg
      have z : nI (of_at s c (i + 1)) = nI d := (Prod.mk.inj (Option.some.inj hg)).2
      have hr := of_at_r s c (i + 1)
      have z2 : of_at s c (i + 1) = d := (nI_eq (by omega) (by omega)).mp z
      rw [← z2, of_CN_at hs hc (by omega)]
      exact decide_eq_true ⟨by omega, by omega⟩
    · rw [of_cI_e (by omega) (by omega)] at hg
      exact absurd hg (by simp)
  · refine of_all hs hc (fun i hi => ?_)
    intro hC
    rw [of_CN_at hs hc hi] at hC
    have hC' := of_decide_eq_true hC
    show of_xi s c (of_at s c i) - P ≤ 8 ∧ _
    rw [of_xi_at s hs c hc i hi]
    refine ⟨by omega, ?_⟩
    by_cases ei : i = P
    · refine Or.inl ⟨by rw [ei, h1], ?_⟩
      rw [g1]
      exact decide_eq_true ⟨hlo, by omega⟩
    · refine Or.inr ⟨of_at s c (i - 1), (of_at_r s c _).1, (of_at_r s c _).2, ?_, ?_, ?_⟩
      · rw [of_CN_at hs hc (by omega)]
        exact decide_eq_true ⟨by omega, by omega⟩
      · rw [of_cq_at hs hc (by omega), of_cI_l (by omega) (by omega), show i - 1 + 1 = i by omega]
      · show of_xi s c (of_at s c (i - 1)) - P < _
        rw [of_xi_at s hs c hc (i - 1) (by omega)]
        omega
  · refine of_all hs hc (fun i hi => ?_)
    unfold of_gC
    rw [of_CN_at hs hc hi, of_cq_at hs hc hi, of_cq_at hs hc hi]
    by_cases h : P ≤ i ∧ i < M
    · rw [decide_eq_true h, if_pos rfl]
      unfold of_cI
      rw [if_neg (show ¬ i < P by omega), if_neg (show ¬ i < lo by omega)]
    · rw [decide_eq_false h, if_neg (by decide), of_cI_0 (by omega)]
  · refine of_cntI hs hc (fun i hi => ?_) hn
    unfold of_qC
    rw [of_CN_at hs hc hi, of_cq_at hs hc hi, of_cI_so]
    by_cases h : P ≤ i ∧ i < M
    · rw [decide_eq_true h, decide_eq_false (show ¬ (lo ≤ i ∧ i < M ∧ i < P) by omega), Bool.not_true, Bool.and_false]
    · rw [decide_eq_false h, Bool.not_false, Bool.and_true]
      by_cases h2 : lo ≤ i ∧ i < M
      · rw [decide_eq_true h2, decide_eq_true (by omega)]
      · rw [decide_eq_false h2, decide_eq_false (by omega)]
theorem of_swR {post : Int32 → St2 → Prop} {k : Nat} {vs : List of_G} {t : Nat → Bool} {u : St2} (hs : s < 4) (hc : c < 8) (hM : M < 8) (hP : of_xi s c 1 = P) (hr : r < M) (hu : of_S k vs (of_cq s c M 0 (some (true, nI (of_at s c r)))) t u) (H : ∀ u' t' g', of_S k vs g' t' u' → post (nI (if P < M then (if P < r then P else r) else M)) u') : wpX_sweep post u := by
  have hP8 : P < 8 := by rw [← hP]; exact of_xi_lt s c 1
  have h1 := of_at1 hs hc hP
  have g1 : (of_cq s c M 0 (some (true, nI (of_at s c r))) 1).isSome = decide (0 ≤ P ∧ P < M) := by
    rw [← h1, of_cq_at hs hc hP8, of_cI_so]
  refine of_qSw (of_CR s c M P r) (fun o => if P ≤ of_xi s c o then of_xi s c o - P else M - P + (of_xi s c o - r)) hu (of_cq_lk of_eok_l) (fun h => ?_) ?_ ?_ (fun o _ _ => rfl) ?_ (fun u' t' hu' => H u' t' _ hu')
  · rw [g1] at h
    have h2 := of_decide_eq_true h
    show decide (of_xi s c 1 < M ∧ P < M ∧ (P ≤ of_xi s c 1 ∨ r ≤ of_xi s c 1)) = true
    rw [hP]
    exact decide_eq_true ⟨h2.2, h2.2, Or.inl (Nat.le_refl P)⟩
  · intro p d p1 p2 d1 d2
    revert p p1 p2
    refine of_all hs hc (fun i hi => ?_)
    intro hC hg
    rw [of_CR_at hs hc hi] at hC
    have hC' := of_decide_eq_true hC
    rw [of_cq_at hs hc hi] at hg
    by_cases h : i + 1 < M
    · rw [of_cI_l (by omega) h] at hg
      have z : nI (of_at s c (i + 1)) = nI d := (Prod.mk.inj (Option.some.inj hg)).2
      have hr' := of_at_r s c (i + 1)
      have z2 : of_at s c (i + 1) = d := (nI_eq (by omega) (by omega)).mp z
      rw [← z2, of_CR_at hs hc (by omega)]
      exact decide_eq_true ⟨by omega, by omega, by omega⟩
    · rw [of_cI_e (by omega) (by omega)] at hg
      have z : nI (of_at s c r) = nI d := (Prod.mk.inj (Option.some.inj hg)).2
      have hr' := of_at_r s c r
      have z2 : of_at s c r = d := (nI_eq (by omega) (by omega)).mp z
      rw [← z2, of_CR_at hs hc (by omega)]
      exact decide_eq_true ⟨by omega, by omega, by omega⟩
  · refine of_all hs hc (fun i hi => ?_)
    intro hC
    rw [of_CR_at hs hc hi] at hC
    have hC' := of_decide_eq_true hC
    show (if P ≤ of_xi s c (of_at s c i) then of_xi s c (of_at s c i) - P else M - P + (of_xi s c (of_at s c i) - r)) ≤ 8 ∧ _
    rw [of_xi_at s hs c hc i hi]
    refine ⟨by split <;> omega, ?_⟩
    by_cases ei : i = P
    · refine Or.inl ⟨by rw [ei, h1], ?_⟩
      rw [g1]
      exact decide_eq_true ⟨by omega, by omega⟩
    · by_cases er : i < P ∧ i = r
      · refine Or.inr ⟨of_at s c (M - 1), (of_at_r s c _).1, (of_at_r s c _).2, ?_, ?_, ?_⟩
        · rw [of_CR_at hs hc (by omega)]
          exact decide_eq_true ⟨by omega, by omega, by omega⟩
        · rw [of_cq_at hs hc (by omega), of_cI_e (by omega) (by omega), er.2]
        · show (if P ≤ of_xi s c (of_at s c (M - 1)) then of_xi s c (of_at s c (M - 1)) - P else M - P + (of_xi s c (of_at s c (M - 1)) - r)) < _
          rw [of_xi_at s hs c hc (M - 1) (by omega), if_pos (by omega), if_neg (by omega)]
          omega
      · refine Or.inr ⟨of_at s c (i - 1), (of_at_r s c _).1, (of_at_r s c _).2, ?_, ?_, ?_⟩
        · rw [of_CR_at hs hc (by omega)]
          exact decide_eq_true ⟨by omega, by omega, by omega⟩
        · rw [of_cq_at hs hc (by omega), of_cI_l (by omega) (by omega), show i - 1 + 1 = i by omega]
        · show (if P ≤ of_xi s c (of_at s c (i - 1)) then of_xi s c (of_at s c (i - 1)) - P else M - P + (of_xi s c (of_at s c (i - 1)) - r)) < _
          rw [of_xi_at s hs c hc (i - 1) (by omega)]
          by_cases hPi : P ≤ i
          · rw [if_pos (by omega), if_pos hPi]
            omega
          · rw [if_neg (by omega), if_neg hPi]
            omega
  · refine of_cntI hs hc (fun i hi => ?_) (of_q6 M hM P hP8 r hr)
    unfold of_qC
    rw [of_CR_at hs hc hi, of_cq_at hs hc hi, of_cI_so]
    by_cases h : i < M ∧ P < M ∧ (P ≤ i ∨ r ≤ i)
    · rw [decide_eq_true h, decide_eq_false (show ¬ (i < M ∧ ¬ (P < M ∧ (P ≤ i ∨ r ≤ i))) from fun z => z.2 h.2), Bool.not_true, Bool.and_false]
    · rw [decide_eq_false h, Bool.not_false, Bool.and_true]
      by_cases h2 : i < M
      · rw [decide_eq_true (show 0 ≤ i ∧ i < M from ⟨Nat.zero_le i, h2⟩), decide_eq_true (show i < M ∧ ¬ (P < M ∧ (P ≤ i ∨ r ≤ i)) from ⟨h2, fun z => h ⟨h2, z⟩⟩)]
      · rw [decide_eq_false (show ¬ (0 ≤ i ∧ i < M) from fun z => h2 z.2), decide_eq_false (show ¬ (i < M ∧ ¬ (P < M ∧ (P ≤ i ∨ r ≤ i))) from fun z => h2 z.1)]
end
end
section
section
variable {s c M P r : Nat} {x y n : Int32} {post : Int32 → St0 → Prop} {mc ms kc ks : Nat}
theorem of_At {pst : Int32 → Prop} {u : St0} {i : Nat} (hs : s < 4) (hc : c < 8) (hx : x &&& 3 = nI s) (hx2 : (x >>> ((2 : Int32) &&& 31)) &&& 7 = nI c) (hi : i ≤ 8) (H : pst (nI (of_at s c i))) {j : Int32} (hj : j = nI i) : wpL_at pst u x j := by
  have h1 : i * (1 + 2 * s) ≤ 8 * 7 := Nat.mul_le_mul hi (by omega)
  have e1 : nI i * (1 + 2 * nI s) + nI c = nI (i * (1 + 2 * s) + c) := by
    rw [show (1 : Int32) = nI 1 from rfl, show (2 : Int32) = nI 2 from rfl, pk_mul, nI_add, pk_mul, nI_add]
  refine ⟨by decide, ?_⟩
  rw [hj, hx, hx2, e1, show (8 : Int32) = nI 8 from rfl, pk_rem (by omega) (by decide) (by decide), show (1 : Int32) = nI 1 from rfl, nI_add]
  exact H
theorem of_L25 (hs : s < 4) (hc : c < 8) (hx : x &&& 3 = nI s) (hx2 : (x >>> ((2 : Int32) &&& 31)) &&& 7 = nI c) (hM1 : 2 ≤ M) (hM : M < 8) (H : ∀ u, of_S 1 [] (of_cq s c M 0 none) (of_tj s c (M - 1)) u → ∃ fu, wL_lawOf_76 post mc ms x y n (nI M) (nI (of_at s c (M - 1))) kc ks u.1 u.2.1 u.2.2.1 u.2.2.2.1 u.2.2.2.2.1 u.2.2.2.2.2.1 u.2.2.2.2.2.2.1 u.2.2.2.2.2.2.2.1 u.2.2.2.2.2.2.2.2.1 u.2.2.2.2.2.2.2.2.2.1 u.2.2.2.2.2.2.2.2.2.2.1 u.2.2.2.2.2.2.2.2.2.2.2.1 u.2.2.2.2.2.2.2.2.2.2.2.2.1 u.2.2.2.2.2.2.2.2.2.2.2.2.2.1 u.2.2.2.2.2.2.2.2.2.2.2.2.2.2.1 u.2.2.2.2.2.2.2.2.2.2.2.2.2.2.2.1 u.2.2.2.2.2.2.2.2.2.2.2.2.2.2.2.2.1 u.2.2.2.2.2.2.2.2.2.2.2.2.2.2.2.2.2.1 u.2.2.2.2.2.2.2.2.2.2.2.2.2.2.2.2.2.2.1 u.2.2.2.2.2.2.2.2.2.2.2.2.2.2.2.2.2.2.2.1 u.2.2.2.2.2.2.2.2.2.2.2.2.2.2.2.2.2.2.2.2.1 u.2.2.2.2.2.2.2.2.2.2.2.2.2.2.2.2.2.2.2.2.2.1 u.2.2.2.2.2.2.2.2.2.2.2.2.2.2.2.2.2.2.2.2.2.2.1 u.2.2.2.2.2.2.2.2.2.2.2.2.2.2.2.2.2.2.2.2.2.2.2.1 u.2.2.2.2.2.2.2.2.2.2.2.2.2.2.2.2.2.2.2.2.2.2.2.2.1 u.2.2.2.2.2.2.2.2.2.2.2.2.2.2.2.2.2.2.2.2.2.2.2.2.2.1 u.2.2.2.2.2.2.2.2.2.2.2.2.2.2.2.2.2.2.2.2.2.2.2.2.2.2 fu 0) : ∀ (d i : Nat) (u : St2), i + d + 1 = M → of_S 1 [] (of_cq s c (i + 1) 0 none) (of_tj s c i) u → wL_lawOf_25 post mc ms x y n (nI M) kc ks (d + 1) (nI i) u.1 u.2.1 u.2.2.1 u.2.2.2.1 u.2.2.2.2.1 u.2.2.2.2.2.1 u.2.2.2.2.2.2.1 u.2.2.2.2.2.2.2.1 u.2.2.2.2.2.2.2.2.1 u.2.2.2.2.2.2.2.2.2.1 u.2.2.2.2.2.2.2.2.2.2.1 u.2.2.2.2.2.2.2.2.2.2.2.1 u.2.2.2.2.2.2.2.2.2.2.2.2.1 u.2.2.2.2.2.2.2.2.2.2.2.2.2.1 u.2.2.2.2.2.2.2.2.2.2.2.2.2.2.1 u.2.2.2.2.2.2.2.2.2.2.2.2.2.2.2.1 u.2.2.2.2.2.2.2.2.2.2.2.2.2.2.2.2.1 u.2.2.2.2.2.2.2.2.2.2.2.2.2.2.2.2.2.1 u.2.2.2.2.2.2.2.2.2.2.2.2.2.2.2.2.2.2.1 u.2.2.2.2.2.2.2.2.2.2.2.2.2.2.2.2.2.2.2.1 u.2.2.2.2.2.2.2.2.2.2.2.2.2.2.2.2.2.2.2.2.1 u.2.2.2.2.2.2.2.2.2.2.2.2.2.2.2.2.2.2.2.2.2.1 u.2.2.2.2.2.2.2.2.2.2.2.2.2.2.2.2.2.2.2.2.2.2.1 u.2.2.2.2.2.2.2.2.2.2.2.2.2.2.2.2.2.2.2.2.2.2.2.1 u.2.2.2.2.2.2.2.2.2.2.2.2.2.2.2.2.2.2.2.2.2.2.2.2.1 u.2.2.2.2.2.2.2.2.2.2.2.2.2.2.2.2.2.2.2.2.2.2.2.2.2.1 u.2.2.2.2.2.2.2.2.2.2.2.2.2.2.2.2.2.2.2.2.2.2.2.2.2.2
  | 0, i, u, h, hu => by
    refine pk_le M (i + 1) (fun _ => ?_) (fun z => by omega) rfl (nI_1 i)
    refine of_At hs hc hx hx2 (i := M - 1) (by omega) ?_ (of_pred (by omega))
    rw [show i + 1 = M by omega, show i = M - 1 by omega] at hu
    exact H u hu
  | d + 1, i, u, h, hu => by
    refine pk_le M (i + 1) (fun z => by omega) (fun _ => ?_) rfl (nI_1 i)
    refine of_At hs hc hx hx2 (i := i) (by omega) ?_ rfl
    refine of_At hs hc hx hx2 (i := i + 1) (by omega) ?_ (nI_1 i)
    refine of_qL (r := 0) hu (of_at_r s c i).1 (of_at_r s c i).2 (of_at_r s c (i + 1)).1 (of_at_r s c (i + 1)).2 (of_cq_st hs hc (by omega)) (of_tj_st hs hc (by omega)) (by rw [of_cq_at hs hc (by omega), of_cI_e (by omega) rfl]; rfl) (fun u' hu' => ?_)
    refine br_t rfl (nm_r (nI_1 i) ?_)
    exact of_L25 hs hc hx hx2 hM1 hM H d (i + 1) u' (by omega) hu'
theorem of_L76 (hs : s < 4) (hc : c < 8) (hx : x &&& 3 = nI s) (hx2 : (x >>> ((2 : Int32) &&& 31)) &&& 7 = nI c) (hM1 : 2 ≤ M) (hM : M < 8) (hr : r < M) (hrr : ((n >>> ((3 : Int32) &&& 31)) &&& 255) - ((n >>> ((3 : Int32) &&& 31)) &&& 255) / nI M * nI M = nI r) (H : ∀ u, of_S 1 [] (of_cq s c M 0 (some (true, nI (of_at s c r)))) (of_ut (of_tj s c (M - 1)) (of_at s c (M - 1))) u → ∃ fu, wL_lawOf_161 post mc ms x y n (nI M) (nI (of_at s c (M - 1))) (nI r) kc ks u.1 u.2.1 u.2.2.1 u.2.2.2.1 u.2.2.2.2.1 u.2.2.2.2.2.1 u.2.2.2.2.2.2.1 u.2.2.2.2.2.2.2.1 u.2.2.2.2.2.2.2.2.1 u.2.2.2.2.2.2.2.2.2.1 u.2.2.2.2.2.2.2.2.2.2.1 u.2.2.2.2.2.2.2.2.2.2.2.1 u.2.2.2.2.2.2.2.2.2.2.2.2.1 u.2.2.2.2.2.2.2.2.2.2.2.2.2.1 u.2.2.2.2.2.2.2.2.2.2.2.2.2.2.1 u.2.2.2.2.2.2.2.2.2.2.2.2.2.2.2.1 u.2.2.2.2.2.2.2.2.2.2.2.2.2.2.2.2.1 u.2.2.2.2.2.2.2.2.2.2.2.2.2.2.2.2.2.1 u.2.2.2.2.2.2.2.2.2.2.2.2.2.2.2.2.2.2.1 u.2.2.2.2.2.2.2.2.2.2.2.2.2.2.2.2.2.2.2.1 u.2.2.2.2.2.2.2.2.2.2.2.2.2.2.2.2.2.2.2.2.1 u.2.2.2.2.2.2.2.2.2.2.2.2.2.2.2.2.2.2.2.2.2.1 u.2.2.2.2.2.2.2.2.2.2.2.2.2.2.2.2.2.2.2.2.2.2.1 u.2.2.2.2.2.2.2.2.2.2.2.2.2.2.2.2.2.2.2.2.2.2.2.1 u.2.2.2.2.2.2.2.2.2.2.2.2.2.2.2.2.2.2.2.2.2.2.2.2.1 u.2.2.2.2.2.2.2.2.2.2.2.2.2.2.2.2.2.2.2.2.2.2.2.2.2.1 u.2.2.2.2.2.2.2.2.2.2.2.2.2.2.2.2.2.2.2.2.2.2.2.2.2.2 fu 0) : ∀ (d i : Nat) (u : St2), i + d = M → of_S 1 [] (of_cq s c M 0 none) (of_tj s c (M - 1)) u → wL_lawOf_76 post mc ms x y n (nI M) (nI (of_at s c (M - 1))) kc ks u.1 u.2.1 u.2.2.1 u.2.2.2.1 u.2.2.2.2.1 u.2.2.2.2.2.1 u.2.2.2.2.2.2.1 u.2.2.2.2.2.2.2.1 u.2.2.2.2.2.2.2.2.1 u.2.2.2.2.2.2.2.2.2.1 u.2.2.2.2.2.2.2.2.2.2.1 u.2.2.2.2.2.2.2.2.2.2.2.1 u.2.2.2.2.2.2.2.2.2.2.2.2.1 u.2.2.2.2.2.2.2.2.2.2.2.2.2.1 u.2.2.2.2.2.2.2.2.2.2.2.2.2.2.1 u.2.2.2.2.2.2.2.2.2.2.2.2.2.2.2.1 u.2.2.2.2.2.2.2.2.2.2.2.2.2.2.2.2.1 u.2.2.2.2.2.2.2.2.2.2.2.2.2.2.2.2.2.1 u.2.2.2.2.2.2.2.2.2.2.2.2.2.2.2.2.2.2.1 u.2.2.2.2.2.2.2.2.2.2.2.2.2.2.2.2.2.2.2.1 u.2.2.2.2.2.2.2.2.2.2.2.2.2.2.2.2.2.2.2.2.1 u.2.2.2.2.2.2.2.2.2.2.2.2.2.2.2.2.2.2.2.2.2.1 u.2.2.2.2.2.2.2.2.2.2.2.2.2.2.2.2.2.2.2.2.2.2.1 u.2.2.2.2.2.2.2.2.2.2.2.2.2.2.2.2.2.2.2.2.2.2.2.1 u.2.2.2.2.2.2.2.2.2.2.2.2.2.2.2.2.2.2.2.2.2.2.2.2.1 u.2.2.2.2.2.2.2.2.2.2.2.2.2.2.2.2.2.2.2.2.2.2.2.2.2.1 u.2.2.2.2.2.2.2.2.2.2.2.2.2.2.2.2.2.2.2.2.2.2.2.2.2.2 (d + 1) (nI i)
  | 0, i, u, h, hu => by
    refine pk_le M i (fun _ => ⟨nI_ne0 (by omega) (by omega), nm_r hrr ?_⟩) (fun z => by omega)
    refine of_At hs hc hx hx2 (i := r) (by omega) ?_ rfl
    refine of_qL (r := 0) hu (of_at_r s c (M - 1)).1 (of_at_r s c (M - 1)).2 (of_at_r s c r).1 (of_at_r s c r).2 (of_cq_end hs hc (by omega) (by omega) (by omega)) (fun _ _ _ => rfl) (by rw [of_cq_end_at hs hc (by omega) (by omega) (by omega)]; rfl) (fun u' hu' => ?_)
    exact br_t rfl (H u' hu')
  | d + 1, i, u, h, hu => by
    refine pk_le M i (fun z => by omega) (fun _ => ?_)
    refine of_At hs hc hx hx2 (i := i) (by omega) ?_ rfl
    refine of_qRs hu (of_cq_lk of_eok_0) (of_at_r s c i).1 (of_at_r s c i).2 (of_rs_0 hs hc (by omega) (by omega) (by omega)) (br_t rfl ?_)
    refine of_At hs hc hx hx2 (i := i) (by omega) ?_ rfl
    refine of_qLk hu (of_at_r s c i).1 (of_at_r s c i).2 (of_lc1 hs hc hM (by omega)) ?_
    refine pk_eq i 0 (fun e => ?_) (fun e => ?_)
    · rw [if_pos e]
      exact br_t rfl (nm_r (nI_1 i) (of_L76 hs hc hx hx2 hM1 hM hr hrr H d (i + 1) u (by omega) hu))
    · rw [if_neg e]
      exact br_t rfl (nm_r (nI_1 i) (of_L76 hs hc hx hx2 hM1 hM hr hrr H d (i + 1) u (by omega) hu))
theorem of_L211 {z0 z1 x6 : Int32} {u : St2} (hs : s < 4) (hc : c < 8) (hM1 : 2 ≤ M) (hM : M < 8) (hz : z1 = z0) (hu : of_S 1 [] (of_cq s c M 0 (some (true, nI (of_at s c r)))) (of_ut (of_tj s c (M - 1)) (of_at s c (M - 1))) u) (H : ∀ u, of_S 3 [of_cq s c M 0 (some (false, y)), of_cq s c M 0 (some (true, nI (of_at s c r)))] (of_cq s c M 0 (some (false, y))) (fun _ => false) u → ∃ fu, wL_lawOf_248 post mc ms x y n (nI M) (nI (of_at s c (M - 1))) x6 kc ks u.1 u.2.1 u.2.2.1 u.2.2.2.1 u.2.2.2.2.1 u.2.2.2.2.2.1 u.2.2.2.2.2.2.1 u.2.2.2.2.2.2.2.1 u.2.2.2.2.2.2.2.2.1 u.2.2.2.2.2.2.2.2.2.1 u.2.2.2.2.2.2.2.2.2.2.1 u.2.2.2.2.2.2.2.2.2.2.2.1 u.2.2.2.2.2.2.2.2.2.2.2.2.1 u.2.2.2.2.2.2.2.2.2.2.2.2.2.1 u.2.2.2.2.2.2.2.2.2.2.2.2.2.2.1 u.2.2.2.2.2.2.2.2.2.2.2.2.2.2.2.1 u.2.2.2.2.2.2.2.2.2.2.2.2.2.2.2.2.1 u.2.2.2.2.2.2.2.2.2.2.2.2.2.2.2.2.2.1 u.2.2.2.2.2.2.2.2.2.2.2.2.2.2.2.2.2.2.1 u.2.2.2.2.2.2.2.2.2.2.2.2.2.2.2.2.2.2.2.1 u.2.2.2.2.2.2.2.2.2.2.2.2.2.2.2.2.2.2.2.2.1 u.2.2.2.2.2.2.2.2.2.2.2.2.2.2.2.2.2.2.2.2.2.1 u.2.2.2.2.2.2.2.2.2.2.2.2.2.2.2.2.2.2.2.2.2.2.1 u.2.2.2.2.2.2.2.2.2.2.2.2.2.2.2.2.2.2.2.2.2.2.2.1 u.2.2.2.2.2.2.2.2.2.2.2.2.2.2.2.2.2.2.2.2.2.2.2.2.1 u.2.2.2.2.2.2.2.2.2.2.2.2.2.2.2.2.2.2.2.2.2.2.2.2.2.1 u.2.2.2.2.2.2.2.2.2.2.2.2.2.2.2.2.2.2.2.2.2.2.2.2.2.2 fu 0) : wL_lawOf_211 post mc ms x y n (nI M) (nI (of_at s c (M - 1))) x6 z0 z1 kc ks u.1 u.2.1 u.2.2.1 u.2.2.2.1 u.2.2.2.2.1 u.2.2.2.2.2.1 u.2.2.2.2.2.2.1 u.2.2.2.2.2.2.2.1 u.2.2.2.2.2.2.2.2.1 u.2.2.2.2.2.2.2.2.2.1 u.2.2.2.2.2.2.2.2.2.2.1 u.2.2.2.2.2.2.2.2.2.2.2.1 u.2.2.2.2.2.2.2.2.2.2.2.2.1 u.2.2.2.2.2.2.2.2.2.2.2.2.2.1 u.2.2.2.2.2.2.2.2.2.2.2.2.2.2.1 u.2.2.2.2.2.2.2.2.2.2.2.2.2.2.2.1 u.2.2.2.2.2.2.2.2.2.2.2.2.2.2.2.2.1 u.2.2.2.2.2.2.2.2.2.2.2.2.2.2.2.2.2.1 u.2.2.2.2.2.2.2.2.2.2.2.2.2.2.2.2.2.2.1 u.2.2.2.2.2.2.2.2.2.2.2.2.2.2.2.2.2.2.2.1 u.2.2.2.2.2.2.2.2.2.2.2.2.2.2.2.2.2.2.2.2.1 u.2.2.2.2.2.2.2.2.2.2.2.2.2.2.2.2.2.2.2.2.2.1 u.2.2.2.2.2.2.2.2.2.2.2.2.2.2.2.2.2.2.2.2.2.2.1 u.2.2.2.2.2.2.2.2.2.2.2.2.2.2.2.2.2.2.2.2.2.2.2.1 u.2.2.2.2.2.2.2.2.2.2.2.2.2.2.2.2.2.2.2.2.2.2.2.2.1 u.2.2.2.2.2.2.2.2.2.2.2.2.2.2.2.2.2.2.2.2.2.2.2.2.2.1 u.2.2.2.2.2.2.2.2.2.2.2.2.2.2.2.2.2.2.2.2.2.2.2.2.2.2 := by
  unfold wL_lawOf_211
  refine br_t hz ?_
  refine of_qS0 (n := 0) hu (by decide) rfl (by decide) (of_sv1 hs hc (by omega) (by omega)) (fun u1 h1 => br_t rfl ?_)
  refine of_qN (r := 5) h1 (of_at_r s c (M - 1)).1 (of_at_r s c (M - 1)).2 (of_cq_end hs hc (by omega) (by omega) (by omega)) (fun _ _ _ => rfl) (by rw [of_cq_end_at hs hc (by omega) (by omega) (by omega)]; rfl) (fun u2 h2 => br_t rfl ?_)
  refine of_qS0 (n := 1) h2 (by decide) rfl (by decide) (of_sv2 hs hc (by omega) (by omega)) (fun u3 h3 => br_t rfl ?_)
  exact H u3 h3
theorem of_L161 (hs : s < 4) (hc : c < 8) (hx : x &&& 3 = nI s) (hx2 : (x >>> ((2 : Int32) &&& 31)) &&& 7 = nI c) (hM1 : 2 ≤ M) (hM : M < 8) (hr : r < M) (H : ∀ u, of_S 3 [of_cq s c M 0 (some (false, y)), of_cq s c M 0 (some (true, nI (of_at s c r)))] (of_cq s c M 0 (some (false, y))) (fun _ => false) u → ∃ fu, wL_lawOf_248 post mc ms x y n (nI M) (nI (of_at s c (M - 1))) (nI r) kc ks u.1 u.2.1 u.2.2.1 u.2.2.2.1 u.2.2.2.2.1 u.2.2.2.2.2.1 u.2.2.2.2.2.2.1 u.2.2.2.2.2.2.2.1 u.2.2.2.2.2.2.2.2.1 u.2.2.2.2.2.2.2.2.2.1 u.2.2.2.2.2.2.2.2.2.2.1 u.2.2.2.2.2.2.2.2.2.2.2.1 u.2.2.2.2.2.2.2.2.2.2.2.2.1 u.2.2.2.2.2.2.2.2.2.2.2.2.2.1 u.2.2.2.2.2.2.2.2.2.2.2.2.2.2.1 u.2.2.2.2.2.2.2.2.2.2.2.2.2.2.2.1 u.2.2.2.2.2.2.2.2.2.2.2.2.2.2.2.2.1 u.2.2.2.2.2.2.2.2.2.2.2.2.2.2.2.2.2.1 u.2.2.2.2.2.2.2.2.2.2.2.2.2.2.2.2.2.2.1 u.2.2.2.2.2.2.2.2.2.2.2.2.2.2.2.2.2.2.2.1 u.2.2.2.2.2.2.2.2.2.2.2.2.2.2.2.2.2.2.2.2.1 u.2.2.2.2.2.2.2.2.2.2.2.2.2.2.2.2.2.2.2.2.2.1 u.2.2.2.2.2.2.2.2.2.2.2.2.2.2.2.2.2.2.2.2.2.2.1 u.2.2.2.2.2.2.2.2.2.2.2.2.2.2.2.2.2.2.2.2.2.2.2.1 u.2.2.2.2.2.2.2.2.2.2.2.2.2.2.2.2.2.2.2.2.2.2.2.2.1 u.2.2.2.2.2.2.2.2.2.2.2.2.2.2.2.2.2.2.2.2.2.2.2.2.2.1 u.2.2.2.2.2.2.2.2.2.2.2.2.2.2.2.2.2.2.2.2.2.2.2.2.2.2 fu 0) : ∀ (d i : Nat) (u : St2), i + d = M → of_S 1 [] (of_cq s c M 0 (some (true, nI (of_at s c r)))) (of_ut (of_tj s c (M - 1)) (of_at s c (M - 1))) u → wL_lawOf_161 post mc ms x y n (nI M) (nI (of_at s c (M - 1))) (nI r) kc ks u.1 u.2.1 u.2.2.1 u.2.2.2.1 u.2.2.2.2.1 u.2.2.2.2.2.1 u.2.2.2.2.2.2.1 u.2.2.2.2.2.2.2.1 u.2.2.2.2.2.2.2.2.1 u.2.2.2.2.2.2.2.2.2.1 u.2.2.2.2.2.2.2.2.2.2.1 u.2.2.2.2.2.2.2.2.2.2.2.1 u.2.2.2.2.2.2.2.2.2.2.2.2.1 u.2.2.2.2.2.2.2.2.2.2.2.2.2.1 u.2.2.2.2.2.2.2.2.2.2.2.2.2.2.1 u.2.2.2.2.2.2.2.2.2.2.2.2.2.2.2.1 u.2.2.2.2.2.2.2.2.2.2.2.2.2.2.2.2.1 u.2.2.2.2.2.2.2.2.2.2.2.2.2.2.2.2.2.1 u.2.2.2.2.2.2.2.2.2.2.2.2.2.2.2.2.2.2.1 u.2.2.2.2.2.2.2.2.2.2.2.2.2.2.2.2.2.2.2.1 u.2.2.2.2.2.2.2.2.2.2.2.2.2.2.2.2.2.2.2.2.1 u.2.2.2.2.2.2.2.2.2.2.2.2.2.2.2.2.2.2.2.2.2.1 u.2.2.2.2.2.2.2.2.2.2.2.2.2.2.2.2.2.2.2.2.2.2.1 u.2.2.2.2.2.2.2.2.2.2.2.2.2.2.2.2.2.2.2.2.2.2.2.1 u.2.2.2.2.2.2.2.2.2.2.2.2.2.2.2.2.2.2.2.2.2.2.2.2.1 u.2.2.2.2.2.2.2.2.2.2.2.2.2.2.2.2.2.2.2.2.2.2.2.2.2.1 u.2.2.2.2.2.2.2.2.2.2.2.2.2.2.2.2.2.2.2.2.2.2.2.2.2.2 (d + 1) (nI i)
  | 0, i, u, h, hu => by
    refine pk_le M i (fun _ => ?_) (fun z => by omega)
    refine of_At hs hc hx hx2 (i := r) (by omega) ?_ rfl
    refine of_qLk hu (of_at_r s c r).1 (of_at_r s c r).2 (of_lc2 hs hc hM (by omega) hr) ?_
    refine pk_eq r 0 (fun e => ?_) (fun e => ?_)
    · rw [if_pos e]
      exact of_L211 hs hc hM1 hM rfl hu H
    · rw [if_neg e]
      exact of_L211 hs hc hM1 hM rfl hu H
  | d + 1, i, u, h, hu => by
    refine pk_le M i (fun z => by omega) (fun _ => ?_)
    refine of_At hs hc hx hx2 (i := i) (by omega) ?_ rfl
    refine of_qRs hu (of_cq_lk of_eok_l) (of_at_r s c i).1 (of_at_r s c i).2 (of_rs_ring hs hc (by omega) hr 9 i (by omega)) (br_t rfl (nm_r (nI_1 i) ?_))
    exact of_L161 hs hc hx hx2 hM1 hM hr H d (i + 1) u (by omega) hu
def of_pl (M P : Nat) : Int32 := if P < M then nI P else -1
def of_gn (M P : Nat) : Nat := if P < M then P else M
theorem of_L284 {vs : List of_G} {g : of_G} {t : Nat → Bool} {x6 : Int32} {u : St2} (hs : s < 4) (hc : c < 8) (hx : x &&& 3 = nI s) (hx2 : (x >>> ((2 : Int32) &&& 31)) &&& 7 = nI c) (hM1 : 2 ≤ M) (hM : M < 8) (hP : of_xi s c 1 = P) (H : wL_lawOf_328 post mc ms x y n (nI M) (nI (of_at s c (M - 1))) x6 (of_pl M P) (nI (of_gn M P)) kc ks u.1 u.2.1 u.2.2.1 u.2.2.2.1 u.2.2.2.2.1 u.2.2.2.2.2.1 u.2.2.2.2.2.2.1 u.2.2.2.2.2.2.2.1 u.2.2.2.2.2.2.2.2.1 u.2.2.2.2.2.2.2.2.2.1 u.2.2.2.2.2.2.2.2.2.2.1 u.2.2.2.2.2.2.2.2.2.2.2.1 u.2.2.2.2.2.2.2.2.2.2.2.2.1 u.2.2.2.2.2.2.2.2.2.2.2.2.2.1 u.2.2.2.2.2.2.2.2.2.2.2.2.2.2.1 u.2.2.2.2.2.2.2.2.2.2.2.2.2.2.2.1 u.2.2.2.2.2.2.2.2.2.2.2.2.2.2.2.2.1 u.2.2.2.2.2.2.2.2.2.2.2.2.2.2.2.2.2.1 u.2.2.2.2.2.2.2.2.2.2.2.2.2.2.2.2.2.2.1 u.2.2.2.2.2.2.2.2.2.2.2.2.2.2.2.2.2.2.2.1 u.2.2.2.2.2.2.2.2.2.2.2.2.2.2.2.2.2.2.2.2.1 u.2.2.2.2.2.2.2.2.2.2.2.2.2.2.2.2.2.2.2.2.2.1 u.2.2.2.2.2.2.2.2.2.2.2.2.2.2.2.2.2.2.2.2.2.2.1 u.2.2.2.2.2.2.2.2.2.2.2.2.2.2.2.2.2.2.2.2.2.2.2.1 u.2.2.2.2.2.2.2.2.2.2.2.2.2.2.2.2.2.2.2.2.2.2.2.2.1 u.2.2.2.2.2.2.2.2.2.2.2.2.2.2.2.2.2.2.2.2.2.2.2.2.2.1 u.2.2.2.2.2.2.2.2.2.2.2.2.2.2.2.2.2.2.2.2.2.2.2.2.2.2) : ∀ (d i : Nat), i + d = M → wL_lawOf_284 post mc ms x y n (nI M) (nI (of_at s c (M - 1))) x6 kc ks u.1 u.2.1 u.2.2.1 u.2.2.2.1 u.2.2.2.2.1 u.2.2.2.2.2.1 u.2.2.2.2.2.2.1 u.2.2.2.2.2.2.2.1 u.2.2.2.2.2.2.2.2.1 u.2.2.2.2.2.2.2.2.2.1 u.2.2.2.2.2.2.2.2.2.2.1 u.2.2.2.2.2.2.2.2.2.2.2.1 u.2.2.2.2.2.2.2.2.2.2.2.2.1 u.2.2.2.2.2.2.2.2.2.2.2.2.2.1 u.2.2.2.2.2.2.2.2.2.2.2.2.2.2.1 u.2.2.2.2.2.2.2.2.2.2.2.2.2.2.2.1 u.2.2.2.2.2.2.2.2.2.2.2.2.2.2.2.2.1 u.2.2.2.2.2.2.2.2.2.2.2.2.2.2.2.2.2.1 u.2.2.2.2.2.2.2.2.2.2.2.2.2.2.2.2.2.2.1 u.2.2.2.2.2.2.2.2.2.2.2.2.2.2.2.2.2.2.2.1 u.2.2.2.2.2.2.2.2.2.2.2.2.2.2.2.2.2.2.2.2.1 u.2.2.2.2.2.2.2.2.2.2.2.2.2.2.2.2.2.2.2.2.2.1 u.2.2.2.2.2.2.2.2.2.2.2.2.2.2.2.2.2.2.2.2.2.2.1 u.2.2.2.2.2.2.2.2.2.2.2.2.2.2.2.2.2.2.2.2.2.2.2.1 u.2.2.2.2.2.2.2.2.2.2.2.2.2.2.2.2.2.2.2.2.2.2.2.2.1 u.2.2.2.2.2.2.2.2.2.2.2.2.2.2.2.2.2.2.2.2.2.2.2.2.2.1 u.2.2.2.2.2.2.2.2.2.2.2.2.2.2.2.2.2.2.2.2.2.2.2.2.2.2 (d + 1) (of_pl i P) (nI i)
  | 0, i, h => by
    have ei : i = M := h
    subst ei
    have hP8 : P < 8 := by rw [← hP]; exact of_xi_lt s c 1
    refine pk_le i i (fun _ => ?_) (fun z => by omega)
    by_cases hb : P < i
    · have e1 : of_pl i P = nI (of_gn i P) := by unfold of_pl of_gn; rw [if_pos hb, if_pos hb]
      have h0 : (0 : Int32) ≤ of_pl i P := by
        unfold of_pl
        rw [if_pos hb]
        exact nI_pos' (by omega)
      refine br_t h0 ?_
      rw [← e1] at H
      exact H
    · have e1 : of_gn i P = i := by unfold of_gn; rw [if_neg hb]
      have h0 : ¬ (0 : Int32) ≤ of_pl i P := by
        unfold of_pl
        rw [if_neg hb]
        decide
      refine br_f h0 ?_
      rw [e1] at H
      exact H
  | d + 1, i, h => by
    have hP8 : P < 8 := by rw [← hP]; exact of_xi_lt s c 1
    have hr := of_at_r s c i
    refine pk_le M i (fun z => by omega) (fun _ => ?_)
    refine of_At hs hc hx hx2 (i := i) (by omega) ?_ rfl
    have ih := of_L284 (vs := vs) (g := g) (t := t) hs hc hx hx2 hM1 hM hP H d (i + 1) (by omega)
    refine pk_eq (of_at s c i) 1 (fun e => nm_r (nI_1 i) ?_) (fun e => nm_r (nI_1 i) ?_)
    · have ei : i = P := by
        rw [← hP, ← e, of_xi_at s hs c hc i (by omega)]
      have e1 : of_pl (i + 1) P = nI i := by
        unfold of_pl
        rw [if_pos (by omega), ei]
      rw [e1] at ih
      exact ih
    · have ei : i ≠ P := by
        intro z
        rw [z, of_at1 hs hc hP] at e
        exact e rfl
      have e1 : of_pl (i + 1) P = of_pl i P := by
        unfold of_pl
        by_cases hb : P < i
        · rw [if_pos hb, if_pos (by omega)]
        · rw [if_neg hb, if_neg (by omega)]
      rw [e1] at ih
      exact ih
theorem of_L248 (hs : s < 4) (hc : c < 8) (hx : x &&& 3 = nI s) (hx2 : (x >>> ((2 : Int32) &&& 31)) &&& 7 = nI c) (hM1 : 2 ≤ M) (hM : M < 8) (hP : of_xi s c 1 = P) {vs : List of_G} {k : Nat} {t : Nat → Bool} {x6 : Int32} {u : St2} (hu : of_S k vs (of_cq s c M 0 (some (false, y))) t u) (H : wL_lawOf_328 post mc ms x y n (nI M) (nI (of_at s c (M - 1))) x6 (of_pl M P) (nI (of_gn M P)) kc ks u.1 u.2.1 u.2.2.1 u.2.2.2.1 u.2.2.2.2.1 u.2.2.2.2.2.1 u.2.2.2.2.2.2.1 u.2.2.2.2.2.2.2.1 u.2.2.2.2.2.2.2.2.1 u.2.2.2.2.2.2.2.2.2.1 u.2.2.2.2.2.2.2.2.2.2.1 u.2.2.2.2.2.2.2.2.2.2.2.1 u.2.2.2.2.2.2.2.2.2.2.2.2.1 u.2.2.2.2.2.2.2.2.2.2.2.2.2.1 u.2.2.2.2.2.2.2.2.2.2.2.2.2.2.1 u.2.2.2.2.2.2.2.2.2.2.2.2.2.2.2.1 u.2.2.2.2.2.2.2.2.2.2.2.2.2.2.2.2.1 u.2.2.2.2.2.2.2.2.2.2.2.2.2.2.2.2.2.1 u.2.2.2.2.2.2.2.2.2.2.2.2.2.2.2.2.2.2.1 u.2.2.2.2.2.2.2.2.2.2.2.2.2.2.2.2.2.2.2.1 u.2.2.2.2.2.2.2.2.2.2.2.2.2.2.2.2.2.2.2.2.1 u.2.2.2.2.2.2.2.2.2.2.2.2.2.2.2.2.2.2.2.2.2.1 u.2.2.2.2.2.2.2.2.2.2.2.2.2.2.2.2.2.2.2.2.2.2.1 u.2.2.2.2.2.2.2.2.2.2.2.2.2.2.2.2.2.2.2.2.2.2.2.1 u.2.2.2.2.2.2.2.2.2.2.2.2.2.2.2.2.2.2.2.2.2.2.2.2.1 u.2.2.2.2.2.2.2.2.2.2.2.2.2.2.2.2.2.2.2.2.2.2.2.2.2.1 u.2.2.2.2.2.2.2.2.2.2.2.2.2.2.2.2.2.2.2.2.2.2.2.2.2.2) : ∀ (d i : Nat), i + d = M → wL_lawOf_248 post mc ms x y n (nI M) (nI (of_at s c (M - 1))) x6 kc ks u.1 u.2.1 u.2.2.1 u.2.2.2.1 u.2.2.2.2.1 u.2.2.2.2.2.1 u.2.2.2.2.2.2.1 u.2.2.2.2.2.2.2.1 u.2.2.2.2.2.2.2.2.1 u.2.2.2.2.2.2.2.2.2.1 u.2.2.2.2.2.2.2.2.2.2.1 u.2.2.2.2.2.2.2.2.2.2.2.1 u.2.2.2.2.2.2.2.2.2.2.2.2.1 u.2.2.2.2.2.2.2.2.2.2.2.2.2.1 u.2.2.2.2.2.2.2.2.2.2.2.2.2.2.1 u.2.2.2.2.2.2.2.2.2.2.2.2.2.2.2.1 u.2.2.2.2.2.2.2.2.2.2.2.2.2.2.2.2.1 u.2.2.2.2.2.2.2.2.2.2.2.2.2.2.2.2.2.1 u.2.2.2.2.2.2.2.2.2.2.2.2.2.2.2.2.2.2.1 u.2.2.2.2.2.2.2.2.2.2.2.2.2.2.2.2.2.2.2.1 u.2.2.2.2.2.2.2.2.2.2.2.2.2.2.2.2.2.2.2.2.1 u.2.2.2.2.2.2.2.2.2.2.2.2.2.2.2.2.2.2.2.2.2.1 u.2.2.2.2.2.2.2.2.2.2.2.2.2.2.2.2.2.2.2.2.2.2.1 u.2.2.2.2.2.2.2.2.2.2.2.2.2.2.2.2.2.2.2.2.2.2.2.1 u.2.2.2.2.2.2.2.2.2.2.2.2.2.2.2.2.2.2.2.2.2.2.2.2.1 u.2.2.2.2.2.2.2.2.2.2.2.2.2.2.2.2.2.2.2.2.2.2.2.2.2.1 u.2.2.2.2.2.2.2.2.2.2.2.2.2.2.2.2.2.2.2.2.2.2.2.2.2.2 (d + 1) (nI i)
  | 0, i, h => by
    refine pk_le M i (fun _ => ⟨M + 1, ?_⟩) (fun z => by omega)
    exact of_L284 (vs := vs) (g := fun _ => none) (t := t) hs hc hx hx2 hM1 hM hP H M 0 (by omega)
  | d + 1, i, h => by
    refine pk_le M i (fun z => by omega) (fun _ => ?_)
    refine of_At hs hc hx hx2 (i := i) (by omega) ?_ rfl
    refine of_qRs hu (of_cq_lk of_eok_n) (of_at_r s c i).1 (of_at_r s c i).2 (of_rs_v hs hc (by omega) (by omega) (by omega)) (br_t rfl (nm_r (nI_1 i) ?_))
    exact of_L248 hs hc hx hx2 hM1 hM hP hu H d (i + 1) (by omega)
end
end
section
section
variable {s c M P r : Nat} {x y n : Int32} {post : Int32 → St0 → Prop} {mc ms kc ks : Nat}
theorem of_sub (hM : M < 8) : nI M - nI (of_gn M P) = nI (M - P) := by
  unfold of_gn
  by_cases h : P < M
  · rw [if_pos h, pk_sub (by omega)]
  · rw [if_neg h, pk_sub (Nat.le_refl M), show M - M = M - P by omega]
theorem of_chgE {vs : List of_G} {z : of_X} (hs : s < 4) (hc : c < 8) (hM : M < 8) {x : of_X} : nI (if of_cnt (of_df (of_up (of_cq s c M P (some x)) (of_at s c M) (some z)) (of_hd (of_cq s c M P (some x) :: vs))) 8 = 0 then 0 else 1) = 1 := by
  rw [if_neg]
  · rfl
  · refine of_cnt_1 (o := of_at s c M) 8 (by omega) (by have := of_at_r s c M; omega) (of_at_r s c M).2 (of_df_t ?_)
    rw [of_up_s]
    show some z ≠ of_cq s c M P (some x) (of_at s c M)
    rw [of_cq_at hs hc hM, of_cI_0 (Or.inr (Nat.le_refl M))]
    simp
theorem of_chgR {vs : List of_G} {z : of_X} (hs : s < 4) (hc : c < 8) (hM1 : 2 ≤ M) (hM : M < 8) : nI (if of_cnt (of_df (of_cq s c M 0 none) (of_hd (of_cq s c M 0 (some z) :: vs))) 8 = 0 then 0 else 1) = 1 := by
  rw [if_neg]
  · rfl
  · refine of_cnt_1 (o := of_at s c (M - 1)) 8 (by omega) (by have := of_at_r s c (M - 1); omega) (of_at_r s c (M - 1)).2 (of_df_t ?_)
    show of_cq s c M 0 none (of_at s c (M - 1)) ≠ of_cq s c M 0 (some z) (of_at s c (M - 1))
    rw [of_cq_end_at hs hc (by omega) (by omega) (by omega), of_cq_end_at hs hc (by omega) (by omega) (by omega)]
    simp
theorem of_chg0 {g : of_G} {vs : List of_G} : nI (if of_cnt (of_df g (of_hd (g :: vs))) 8 = 0 then 0 else 1) = 0 := by
  rw [if_pos]
  · rfl
  · exact of_cnt_0 8 (by omega) (fun o _ _ => of_df_0 rfl)
theorem of_L495 {z0 z1 : Int32} {t : Nat → Bool} {g : of_G} {u : St2} (hs : s < 4) (hc : c < 8) (hx : x &&& 3 = nI s) (hx2 : (x >>> ((2 : Int32) &&& 31)) &&& 7 = nI c) (hM1 : 2 ≤ M) (hM : M < 8) (hP8 : P < 8) (hz : z1 = z0) (e1 : Option (Bool × Int32)) (hu : of_S 4 [of_cq s c M P (some (false, y)), of_cq s c M 0 (some (false, y)), of_cq s c M 0 e1] g t u) (H : post 1 ()) : wL_lawOf_495 post mc ms x y n (nI M) (nI (of_at s c (M - 1))) (nI (of_gn M P)) z0 z1 kc ks u.1 u.2.1 u.2.2.1 u.2.2.2.1 u.2.2.2.2.1 u.2.2.2.2.2.1 u.2.2.2.2.2.2.1 u.2.2.2.2.2.2.2.1 u.2.2.2.2.2.2.2.2.1 u.2.2.2.2.2.2.2.2.2.1 u.2.2.2.2.2.2.2.2.2.2.1 u.2.2.2.2.2.2.2.2.2.2.2.1 u.2.2.2.2.2.2.2.2.2.2.2.2.1 u.2.2.2.2.2.2.2.2.2.2.2.2.2.1 u.2.2.2.2.2.2.2.2.2.2.2.2.2.2.1 u.2.2.2.2.2.2.2.2.2.2.2.2.2.2.2.1 u.2.2.2.2.2.2.2.2.2.2.2.2.2.2.2.2.1 u.2.2.2.2.2.2.2.2.2.2.2.2.2.2.2.2.2.1 u.2.2.2.2.2.2.2.2.2.2.2.2.2.2.2.2.2.2.1 u.2.2.2.2.2.2.2.2.2.2.2.2.2.2.2.2.2.2.2.1 u.2.2.2.2.2.2.2.2.2.2.2.2.2.2.2.2.2.2.2.2.1 u.2.2.2.2.2.2.2.2.2.2.2.2.2.2.2.2.2.2.2.2.2.1 u.2.2.2.2.2.2.2.2.2.2.2.2.2.2.2.2.2.2.2.2.2.2.1 u.2.2.2.2.2.2.2.2.2.2.2.2.2.2.2.2.2.2.2.2.2.2.2.1 u.2.2.2.2.2.2.2.2.2.2.2.2.2.2.2.2.2.2.2.2.2.2.2.2.1 u.2.2.2.2.2.2.2.2.2.2.2.2.2.2.2.2.2.2.2.2.2.2.2.2.2.1 u.2.2.2.2.2.2.2.2.2.2.2.2.2.2.2.2.2.2.2.2.2.2.2.2.2.2 := by
  have a1 := (of_at_r s c (M - 1)).1
  have a8 := (of_at_r s c (M - 1)).2
  have m1 := (of_at_r s c M).1
  have m8 := (of_at_r s c M).2
  have f1 := (of_at_r s c 0).1
  have f8 := (of_at_r s c 0).2
  have nB : of_cnt (fun o => (of_cq s c M 0 (some (false, y)) o).isSome) 8 = M := of_pc hs hc hM (by omega)
  have nC : of_cnt (fun o => (of_cq s c M P (some (false, y)) o).isSome) 8 = M - P := of_pc hs hc hM hP8
  have nE : of_cnt (fun o => (of_up (of_cq s c M P (some (false, y))) (of_at s c M) (some (false, 77)) o).isSome) 8 = M - P + 1 := of_pcE hs hc hM hP8
  have eB : of_cq s c M 0 (some (false, y)) (of_at s c (M - 1)) = some (false, y) := of_cq_end_at hs hc (by omega) (by omega) (by omega)
  have kB : of_kd (of_cq s c M 0 (some (false, y)) (of_at s c (M - 1))) = 1 := by rw [eB]; rfl
  have kC : of_kd (of_cq s c M P (some (false, y)) (of_at s c M)) = 0 := by rw [of_cq_at hs hc hM, of_cI_0 (Or.inr (Nat.le_refl M))]; rfl
  have kR : of_kd (of_cq s c M 0 none (of_at s c (M - 1))) = 0 := by rw [of_cq_end_at hs hc (by omega) (by omega) (by omega)]; rfl
  have hsub := of_sub (P := P) hM
  have hsub1 : nI (M - P + 1) = nI M - nI (of_gn M P) + 1 := by rw [hsub, nI_1]
  have hrm : ∀ o, 1 ≤ o → o ≤ 8 → of_cq s c M 0 none o = of_up (of_cq s c M 0 (some (false, y))) (of_at s c (M - 1)) none o := of_cq_end hs hc (by omega) (by omega) (by omega)
  have hgE := of_chgE (s := s) (c := c) (M := M) (P := P) (vs := [of_cq s c M 0 (some (false, y)), of_cq s c M 0 e1]) (z := (false, 77)) (x := (false, y)) hs hc hM
  have hgR := of_chgR (s := s) (c := c) (M := M) (vs := []) (z := (false, y)) hs hc hM1 hM
  have rR : of_rs (of_cq s c M 0 none) 9 (of_at s c 0) = -2 := of_rs_0 hs hc (by omega) (by omega) (by omega)
  have rB : of_rs (of_cq s c M 0 (some (false, y))) 9 (of_at s c 0) = nI (of_at s c (M - 1)) := of_rs_v hs hc (by omega) (by omega) (by omega)
  have lR : of_lk (of_cq s c M 0 none) := of_cq_lk of_eok_0
  have lB : of_lk (of_cq s c M 0 (some (false, y))) := of_cq_lk of_eok_n
  obtain ⟨w1, hw1, ew1⟩ := pk_andE n (m := 1) 1 (by decide)
  have hw1' : w1 ≤ 2 := by omega
  obtain ⟨w2, hw2, ew2⟩ := pk_andE (n >>> ((1 : Int32) &&& 31)) (m := 1) 1 (by decide)
  have hw2' : w2 < 2 := hw2
  have eW : 1 + ((n >>> ((1 : Int32) &&& 31)) &&& 1) = nI (1 + w2) := by rw [ew2, show (1 : Int32) = nI 1 from rfl, nI_add]
  have eW3 : (3 : Int32) - nI (1 + w2) = nI (3 - (1 + w2)) := by rw [show (3 : Int32) = nI 3 from rfl, pk_sub (by omega)]
  have hwa : 1 ≤ 1 + w2 := by omega
  have hwb : 1 + w2 ≤ 2 := by omega
  have hwc : 1 ≤ 3 - (1 + w2) := by omega
  have hwd : 3 - (1 + w2) ≤ 2 := by omega
  unfold wL_lawOf_495
  rw [ew1]
  refine br_t hz ?_
  refine of_qO 1 (of_cq s c M 0 (some (false, y))) hu (by simp) rfl nB (fun u1 h1 => br_t rfl ?_)
  refine of_qK h1 a1 a8 kB (br_t rfl ?_)
  refine of_qV h1 a1 a8 eB (br_t rfl ?_)
  refine of_qO 2 (of_cq s c M P (some (false, y))) h1 (by simp) rfl nC (fun u2 h2 => br_t hsub.symm ?_)
  refine of_qRv (n := 3) h2 rfl (br_t rfl ?_)
  refine of_qB (n := 3) h2 (by decide) hw1' rfl (by decide) (fun u3 h3 => br_t rfl ?_)
  refine of_At hs hc hx hx2 (i := M) (by omega) ?_ rfl
  refine of_qN (g' := of_up (of_cq s c M P (some (false, y))) (of_at s c M) (some (false, 77))) (r := 0) h3 m1 m8 (fun _ _ _ => rfl) (fun _ _ _ => rfl) kC (fun u4 h4 => br_t rfl ?_)
  refine of_qC0 h4 (by simp) hgE (fun u5 h5 => br_t rfl ?_)
  refine of_qS0 (n := 3) h5 (by decide) rfl (by decide) (fun o _ _ h => of_df_f h) (fun u6 h6 => br_t rfl ?_)
  refine of_qS0 (n := 4) h6 (by decide) rfl (by decide) (fun o _ _ _ => rfl) (fun u7 h7 => br_t rfl ?_)
  refine of_qSF h7 rfl (br_t rfl ?_)
  refine of_qB (way := 0) (n := 5) h7 (by decide) (by decide) rfl (by decide) (fun u8 h8 => br_t rfl ?_)
  refine of_sBrkB (br_t rfl ?_)
  refine of_qO 4 (of_up (of_cq s c M P (some (false, y))) (of_at s c M) (some (false, 77))) h8 (by simp) rfl nE (fun u9 h9 => br_t hsub1 ?_)
  refine of_qO 3 (of_up (of_cq s c M P (some (false, y))) (of_at s c M) (some (false, 77))) h9 (by simp) rfl nE (fun u10 h10 => br_t hsub1 ?_)
  refine of_qO 2 (of_cq s c M P (some (false, y))) h10 (by simp) rfl nC (fun u11 h11 => br_t hsub.symm ?_)
  refine of_qO 1 (of_cq s c M 0 (some (false, y))) h11 (by simp) rfl nB (fun u12 h12 => br_t rfl ?_)
  refine of_qV h12 a1 a8 eB (br_t rfl ?_)
  refine of_qOB (R := 5) h12 (by simp) (by decide) (br_t rfl ?_)
  refine of_sOpenM (br_t rfl ?_)
  refine of_qK h12 a1 a8 kB (br_t rfl ?_)
  refine nm_r eW ?_
  refine of_qSW h12 (by decide) hwa hwb (fun u13 h13 => br_t rfl ?_)
  refine of_qC0 h13 (by simp) of_chg0 (fun u14 h14 => br_t rfl ?_)
  refine of_qOB (R := 1) h14 (by simp) (by decide) (br_t rfl ?_)
  refine of_qR (g' := of_cq s c M 0 none) (r := 1) h14 a1 a8 hrm (fun _ _ _ => rfl) kB (fun u15 h15 => br_t rfl ?_)
  refine of_qC0 h15 (by simp) hgR (fun u16 h16 => br_t rfl ?_)
  refine of_qS0 (n := 1) h16 (by decide) rfl (by decide) (fun o _ _ h => of_df_f h) (fun u17 h17 => br_t rfl ?_)
  refine of_qO 0 (of_cq s c M 0 (some (false, y))) h17 (by simp) rfl nB (fun u18 h18 => br_t rfl ?_)
  refine of_qK h18 a1 a8 kB (br_t rfl ?_)
  refine of_qB (n := 2) h18 (by decide) hwb rfl (by decide) (fun u19 h19 => br_t rfl ?_)
  refine of_qK h19 a1 a8 kR (br_t rfl ?_)
  refine of_At hs hc hx hx2 (i := 0) (by omega) ?_ rfl
  refine of_qRs h19 lR f1 f8 rR (br_t rfl ?_)
  refine of_qO 0 (of_cq s c M 0 (some (false, y))) h19 (by simp) rfl nB (fun u20 h20 => br_t rfl ?_)
  refine of_At hs hc hx hx2 (i := 0) (by omega) ?_ rfl
  refine of_qRs h20 lB f1 f8 rB (br_t rfl ?_)
  rw [eW3]
  refine of_qSW h20 (by decide) hwc hwd (fun u21 h21 => br_t rfl ?_)
  refine of_qRv (n := 1) h21 rfl (br_t rfl ?_)
  refine of_qO 0 (of_cq s c M 0 (some (false, y))) h21 (by simp) rfl nB (fun u22 h22 => br_t rfl ?_)
  exact of_qV h22 a1 a8 eB (br_t rfl H)
end
end
section
section
variable {s c M P r : Nat} {x y n : Int32} {post : Int32 → St0 → Prop} {mc ms kc ks : Nat}
theorem of_q7 : ∀ M, M < 8 → ∀ P, P < 8 → of_ci (fun i => decide (0 ≤ i ∧ i < M ∧ i < P)) 8 = if P < M then P else M := by decide +kernel
theorem of_q8 : ∀ M, M < 8 → ∀ P, P < 8 → of_ci (fun i => decide (P ≤ i ∧ i < M ∧ i < P)) 8 = 0 := by decide +kernel
theorem of_L435 {z0 z1 : Int32} {t : Nat → Bool} {u : St2} (hs : s < 4) (hc : c < 8) (hx : x &&& 3 = nI s) (hx2 : (x >>> ((2 : Int32) &&& 31)) &&& 7 = nI c) (hM1 : 2 ≤ M) (hM : M < 8) (hP : of_xi s c 1 = P) (hr : r < M) (hz : z1 = z0) (hu : of_S 3 [of_cq s c M 0 (some (false, y)), of_cq s c M 0 (some (true, nI (of_at s c r)))] (of_cq s c M P (some (false, y))) t u) (ht : ∀ o, 1 ≤ o → o ≤ 8 → t o = false → of_cq s c M P (some (false, y)) o = of_hd [of_cq s c M 0 (some (false, y)), of_cq s c M 0 (some (true, nI (of_at s c r)))] o) (H : post 1 ()) : wL_lawOf_435 post mc ms x y n (nI M) (nI (of_at s c (M - 1))) (nI r) (of_pl M P) (nI (of_gn M P)) z0 z1 kc ks u.1 u.2.1 u.2.2.1 u.2.2.2.1 u.2.2.2.2.1 u.2.2.2.2.2.1 u.2.2.2.2.2.2.1 u.2.2.2.2.2.2.2.1 u.2.2.2.2.2.2.2.2.1 u.2.2.2.2.2.2.2.2.2.1 u.2.2.2.2.2.2.2.2.2.2.1 u.2.2.2.2.2.2.2.2.2.2.2.1 u.2.2.2.2.2.2.2.2.2.2.2.2.1 u.2.2.2.2.2.2.2.2.2.2.2.2.2.1 u.2.2.2.2.2.2.2.2.2.2.2.2.2.2.1 u.2.2.2.2.2.2.2.2.2.2.2.2.2.2.2.1 u.2.2.2.2.2.2.2.2.2.2.2.2.2.2.2.2.1 u.2.2.2.2.2.2.2.2.2.2.2.2.2.2.2.2.2.1 u.2.2.2.2.2.2.2.2.2.2.2.2.2.2.2.2.2.2.1 u.2.2.2.2.2.2.2.2.2.2.2.2.2.2.2.2.2.2.2.1 u.2.2.2.2.2.2.2.2.2.2.2.2.2.2.2.2.2.2.2.2.1 u.2.2.2.2.2.2.2.2.2.2.2.2.2.2.2.2.2.2.2.2.2.1 u.2.2.2.2.2.2.2.2.2.2.2.2.2.2.2.2.2.2.2.2.2.2.1 u.2.2.2.2.2.2.2.2.2.2.2.2.2.2.2.2.2.2.2.2.2.2.2.1 u.2.2.2.2.2.2.2.2.2.2.2.2.2.2.2.2.2.2.2.2.2.2.2.2.1 u.2.2.2.2.2.2.2.2.2.2.2.2.2.2.2.2.2.2.2.2.2.2.2.2.2.1 u.2.2.2.2.2.2.2.2.2.2.2.2.2.2.2.2.2.2.2.2.2.2.2.2.2.2 := by
  have hP8 : P < 8 := by rw [← hP]; exact of_xi_lt s c 1
  have a1 := (of_at_r s c (M - 1)).1
  have a8 := (of_at_r s c (M - 1)).2
  have nA : of_cnt (fun o => (of_cq s c M 0 (some (true, nI (of_at s c r))) o).isSome) 8 = M := of_pc hs hc hM (by omega)
  have kA : of_kd (of_cq s c M 0 (some (true, nI (of_at s c r))) (of_at s c (M - 1))) = 5 := by
    rw [of_cq_end_at hs hc (by omega) (by omega) (by omega)]
    rfl
  unfold wL_lawOf_435
  refine br_t hz ?_
  refine of_qS0 (n := 2) hu (by decide) rfl (by decide) ht (fun u1 h1 => br_t rfl ?_)
  refine of_qO 0 (of_cq s c M 0 (some (true, nI (of_at s c r)))) h1 (by simp) rfl nA (fun u2 h2 => br_t rfl ?_)
  refine of_qK h2 a1 a8 kA (br_t rfl ?_)
  refine of_swR hs hc hM hP hr h2 (fun u3 t3 g3 h3 => ?_)
  by_cases hb : P < M
  · have e1 : of_pl M P = nI P := by unfold of_pl; rw [if_pos hb]
    refine br_t (by rw [e1]; exact nI_pos' (by omega)) (pk_le r P (fun h => ?_) (fun h => ?_) rfl e1)
    · exact of_L495 hs hc hx hx2 hM1 hM hP8 (by rw [if_pos hb, if_neg (by omega)]) _ h3 H
    · exact of_L495 hs hc hx hx2 hM1 hM hP8 (by rw [if_pos hb, if_pos h, e1]) _ h3 H
  · refine br_f (by unfold of_pl; rw [if_neg hb]; decide) ?_
    exact of_L495 hs hc hx hx2 hM1 hM hP8 (by rw [if_neg hb]) _ h3 H
theorem of_L375 {J : Int32 → Prop} {x6 x7 x8 z0 : Int32} {k i : Nat} {vs : List of_G} {t : Nat → Bool} {u : St2} (hs : s < 4) (hc : c < 8) (hx : x &&& 3 = nI s) (hx2 : (x >>> ((2 : Int32) &&& 31)) &&& 7 = nI c) (hM : M < 8) (hi : i < M) (hz : (z0 = 0 ∧ i < P) ∨ (z0 = 1 ∧ P ≤ i)) (hu : of_S k vs (of_cq s c M P (some (false, y))) t u) (H : J (nI (i + 1))) : wL_lawOf_375 post mc ms J x y n (nI M) (nI (of_at s c (M - 1))) x6 x7 x8 (nI i) z0 kc ks u.1 u.2.1 u.2.2.1 u.2.2.2.1 u.2.2.2.2.1 u.2.2.2.2.2.1 u.2.2.2.2.2.2.1 u.2.2.2.2.2.2.2.1 u.2.2.2.2.2.2.2.2.1 u.2.2.2.2.2.2.2.2.2.1 u.2.2.2.2.2.2.2.2.2.2.1 u.2.2.2.2.2.2.2.2.2.2.2.1 u.2.2.2.2.2.2.2.2.2.2.2.2.1 u.2.2.2.2.2.2.2.2.2.2.2.2.2.1 u.2.2.2.2.2.2.2.2.2.2.2.2.2.2.1 u.2.2.2.2.2.2.2.2.2.2.2.2.2.2.2.1 u.2.2.2.2.2.2.2.2.2.2.2.2.2.2.2.2.1 u.2.2.2.2.2.2.2.2.2.2.2.2.2.2.2.2.2.1 u.2.2.2.2.2.2.2.2.2.2.2.2.2.2.2.2.2.2.1 u.2.2.2.2.2.2.2.2.2.2.2.2.2.2.2.2.2.2.2.1 u.2.2.2.2.2.2.2.2.2.2.2.2.2.2.2.2.2.2.2.2.1 u.2.2.2.2.2.2.2.2.2.2.2.2.2.2.2.2.2.2.2.2.2.1 u.2.2.2.2.2.2.2.2.2.2.2.2.2.2.2.2.2.2.2.2.2.2.1 u.2.2.2.2.2.2.2.2.2.2.2.2.2.2.2.2.2.2.2.2.2.2.2.1 u.2.2.2.2.2.2.2.2.2.2.2.2.2.2.2.2.2.2.2.2.2.2.2.2.1 u.2.2.2.2.2.2.2.2.2.2.2.2.2.2.2.2.2.2.2.2.2.2.2.2.2.1 u.2.2.2.2.2.2.2.2.2.2.2.2.2.2.2.2.2.2.2.2.2.2.2.2.2.2 := by
  unfold wL_lawOf_375
  refine of_At hs hc hx hx2 (i := i) (by omega) ?_ rfl
  refine of_qK hu (of_at_r s c i).1 (of_at_r s c i).2 rfl ?_
  rw [of_cq_at hs hc (by omega)]
  rcases hz with ⟨ez, h⟩ | ⟨ez, h⟩
  · rw [of_cI_0 (Or.inl h)]
    exact br_t ez (br_t rfl (nm_r (nI_1 i) H))
  · refine br_f (by rw [ez]; decide) ?_
    rw [of_pred (by omega)]
    refine pk_eq i (M - 1) (fun e => ?_) (fun e => ?_)
    · rw [of_cI_e h (by omega)]
      exact br_t rfl (nm_r (nI_1 i) H)
    · rw [of_cI_l h (by omega)]
      exact br_t rfl (nm_r (nI_1 i) H)
theorem of_L351 {t : Nat → Bool} {u : St2} (hs : s < 4) (hc : c < 8) (hx : x &&& 3 = nI s) (hx2 : (x >>> ((2 : Int32) &&& 31)) &&& 7 = nI c) (hM1 : 2 ≤ M) (hM : M < 8) (hP : of_xi s c 1 = P) (hr : r < M) (hu : of_S 3 [of_cq s c M 0 (some (false, y)), of_cq s c M 0 (some (true, nI (of_at s c r)))] (of_cq s c M P (some (false, y))) t u) (H : post 1 ()) : ∀ (d i : Nat), i + d = M → wL_lawOf_351 post mc ms x y n (nI M) (nI (of_at s c (M - 1))) (nI r) (of_pl M P) (nI (of_gn M P)) kc ks u.1 u.2.1 u.2.2.1 u.2.2.2.1 u.2.2.2.2.1 u.2.2.2.2.2.1 u.2.2.2.2.2.2.1 u.2.2.2.2.2.2.2.1 u.2.2.2.2.2.2.2.2.1 u.2.2.2.2.2.2.2.2.2.1 u.2.2.2.2.2.2.2.2.2.2.1 u.2.2.2.2.2.2.2.2.2.2.2.1 u.2.2.2.2.2.2.2.2.2.2.2.2.1 u.2.2.2.2.2.2.2.2.2.2.2.2.2.1 u.2.2.2.2.2.2.2.2.2.2.2.2.2.2.1 u.2.2.2.2.2.2.2.2.2.2.2.2.2.2.2.1 u.2.2.2.2.2.2.2.2.2.2.2.2.2.2.2.2.1 u.2.2.2.2.2.2.2.2.2.2.2.2.2.2.2.2.2.1 u.2.2.2.2.2.2.2.2.2.2.2.2.2.2.2.2.2.2.1 u.2.2.2.2.2.2.2.2.2.2.2.2.2.2.2.2.2.2.2.1 u.2.2.2.2.2.2.2.2.2.2.2.2.2.2.2.2.2.2.2.2.1 u.2.2.2.2.2.2.2.2.2.2.2.2.2.2.2.2.2.2.2.2.2.1 u.2.2.2.2.2.2.2.2.2.2.2.2.2.2.2.2.2.2.2.2.2.2.1 u.2.2.2.2.2.2.2.2.2.2.2.2.2.2.2.2.2.2.2.2.2.2.2.1 u.2.2.2.2.2.2.2.2.2.2.2.2.2.2.2.2.2.2.2.2.2.2.2.2.1 u.2.2.2.2.2.2.2.2.2.2.2.2.2.2.2.2.2.2.2.2.2.2.2.2.2.1 u.2.2.2.2.2.2.2.2.2.2.2.2.2.2.2.2.2.2.2.2.2.2.2.2.2.2 (d + 1) (nI i)
  | 0, i, h => by
    have hP8 : P < 8 := by rw [← hP]; exact of_xi_lt s c 1
    have hg8 : of_gn M P < 8 := by unfold of_gn; split <;> omega
    have hcg : nI (if of_cnt (of_df (of_cq s c M P (some (false, y))) (of_hd [of_cq s c M 0 (some (false, y)), of_cq s c M 0 (some (true, nI (of_at s c r)))])) 8 = 0 then 0 else 1) = nI (if of_gn M P = 0 then 0 else 1) := by
      have t := of_cg (s := s) (c := c) (M := M) (P := P) (x := (false, y)) hs hc hM hP8
      show nI (if of_cnt (of_df (of_cq s c M P (some (false, y))) (of_cq s c M 0 (some (false, y)))) 8 = 0 then 0 else 1) = _
      rw [t]
      rfl
    refine pk_le M i (fun _ => ?_) (fun z => by omega)
    refine of_qC0 hu (by simp) hcg (fun u1 h1 => ?_)
    refine pk_le (of_gn M P) 0 (fun h0 => ?_) (fun h0 => ?_)
    · rw [if_pos (show of_gn M P = 0 by omega)]
      exact of_L435 hs hc hx hx2 hM1 hM hP hr rfl h1 (fun o _ _ h => of_df_f h) H
    · rw [if_neg (show ¬ of_gn M P = 0 by omega)]
      exact of_L435 hs hc hx hx2 hM1 hM hP hr rfl h1 (fun o _ _ h => of_df_f h) H
  | d + 1, i, h => by
    have hP8 : P < 8 := by rw [← hP]; exact of_xi_lt s c 1
    have ih := of_L351 hs hc hx hx2 hM1 hM hP hr hu H d (i + 1) (by omega)
    refine pk_le M i (fun z => by omega) (fun _ => ?_)
    by_cases hb : P < M
    · have e1 : of_pl M P = nI P := by unfold of_pl; rw [if_pos hb]
      refine br_f (by rw [e1]; exact nI_pos (by omega)) (pk_lt i P (fun h2 => ?_) (fun h2 => ?_) rfl e1)
      · unfold wL_lawOf_374
        exact of_L375 hs hc hx hx2 hM (by omega) (Or.inl ⟨rfl, h2⟩) hu ih
      · exact of_L375 hs hc hx hx2 hM (by omega) (Or.inr ⟨rfl, h2⟩) hu ih
    · refine br_t (by unfold of_pl; rw [if_neg hb]; decide) ?_
      unfold wL_lawOf_374
      exact of_L375 hs hc hx hx2 hM (by omega) (Or.inl ⟨rfl, by omega⟩) hu ih
theorem of_L328 {t : Nat → Bool} {u : St2} (hs : s < 4) (hc : c < 8) (hx : x &&& 3 = nI s) (hx2 : (x >>> ((2 : Int32) &&& 31)) &&& 7 = nI c) (hM1 : 2 ≤ M) (hM : M < 8) (hP : of_xi s c 1 = P) (hr : r < M) (hu : of_S 3 [of_cq s c M 0 (some (false, y)), of_cq s c M 0 (some (true, nI (of_at s c r)))] (of_cq s c M 0 (some (false, y))) t u) (H : post 1 ()) : wL_lawOf_328 post mc ms x y n (nI M) (nI (of_at s c (M - 1))) (nI r) (of_pl M P) (nI (of_gn M P)) kc ks u.1 u.2.1 u.2.2.1 u.2.2.2.1 u.2.2.2.2.1 u.2.2.2.2.2.1 u.2.2.2.2.2.2.1 u.2.2.2.2.2.2.2.1 u.2.2.2.2.2.2.2.2.1 u.2.2.2.2.2.2.2.2.2.1 u.2.2.2.2.2.2.2.2.2.2.1 u.2.2.2.2.2.2.2.2.2.2.2.1 u.2.2.2.2.2.2.2.2.2.2.2.2.1 u.2.2.2.2.2.2.2.2.2.2.2.2.2.1 u.2.2.2.2.2.2.2.2.2.2.2.2.2.2.1 u.2.2.2.2.2.2.2.2.2.2.2.2.2.2.2.1 u.2.2.2.2.2.2.2.2.2.2.2.2.2.2.2.2.1 u.2.2.2.2.2.2.2.2.2.2.2.2.2.2.2.2.2.1 u.2.2.2.2.2.2.2.2.2.2.2.2.2.2.2.2.2.2.1 u.2.2.2.2.2.2.2.2.2.2.2.2.2.2.2.2.2.2.2.1 u.2.2.2.2.2.2.2.2.2.2.2.2.2.2.2.2.2.2.2.2.1 u.2.2.2.2.2.2.2.2.2.2.2.2.2.2.2.2.2.2.2.2.2.1 u.2.2.2.2.2.2.2.2.2.2.2.2.2.2.2.2.2.2.2.2.2.2.1 u.2.2.2.2.2.2.2.2.2.2.2.2.2.2.2.2.2.2.2.2.2.2.2.1 u.2.2.2.2.2.2.2.2.2.2.2.2.2.2.2.2.2.2.2.2.2.2.2.2.1 u.2.2.2.2.2.2.2.2.2.2.2.2.2.2.2.2.2.2.2.2.2.2.2.2.2.1 u.2.2.2.2.2.2.2.2.2.2.2.2.2.2.2.2.2.2.2.2.2.2.2.2.2.2 := by
  have hP8 : P < 8 := by rw [← hP]; exact of_xi_lt s c 1
  have q7 : of_ci (fun i => decide (0 ≤ i ∧ i < M ∧ i < P)) 8 = of_gn M P := of_q7 M hM P hP8
  have q8 := of_q8 M hM P hP8
  unfold wL_lawOf_328
  refine of_swN (lo := 0) hs hc hM hP (by omega) hu q7 (fun u1 t1 h1 => br_t rfl ?_)
  refine of_swN (lo := P) hs hc hM hP (Nat.le_refl P) h1 q8 (fun u2 t2 h2 => br_t rfl ⟨M + 1, ?_⟩)
  exact of_L351 hs hc hx hx2 hM1 hM hP hr h2 H M 0 (by omega)
theorem of_law (H : post 1 ()) : wpL_lawOf post 1514 24224 () x y n := by
  obtain ⟨s, hs, hx⟩ := pk_andE x (m := 3) 2 (by decide)
  obtain ⟨c, hc, hx2⟩ := pk_andE (x >>> ((2 : Int32) &&& 31)) (m := 7) 3 (by decide)
  obtain ⟨e, he, hx3⟩ := pk_andE (x >>> ((5 : Int32) &&& 31)) (m := 255) 8 (by decide)
  obtain ⟨f, hf, hn3⟩ := pk_andE (n >>> ((3 : Int32) &&& 31)) (m := 255) 8 (by decide)
  have hs' : s < 4 := hs
  have hc' : c < 8 := hc
  have he' : e < 256 := he
  have hf' : f < 256 := hf
  have hM1 : 2 ≤ 2 + e % 6 := by omega
  have hM : 2 + e % 6 < 8 := by omega
  have eM : (2 : Int32) + (((x >>> ((5 : Int32) &&& 31)) &&& 255) - ((x >>> ((5 : Int32) &&& 31)) &&& 255) / 6 * 6) = nI (2 + e % 6) := by
    rw [hx3, show (6 : Int32) = nI 6 from rfl, pk_rem (by omega) (by decide) (by decide), show (2 : Int32) = nI 2 from rfl, nI_add]
  revert hM1 hM eM
  generalize 2 + e % 6 = M
  intro hM1 hM eM
  have hr : f % M < M := Nat.mod_lt _ (by omega)
  have er : ((n >>> ((3 : Int32) &&& 31)) &&& 255) - ((n >>> ((3 : Int32) &&& 31)) &&& 255) / nI M * nI M = nI (f % M) := by
    rw [hn3, pk_rem (by omega) (by omega) (by omega)]
  revert hr er
  generalize f % M = r
  intro hr er
  refine ⟨by decide, by decide, 100, 9000, by decide, by decide, ?_⟩
  unfold wpX_init
  refine ⟨by decide, by decide, by decide, by decide, by decide, by decide, by decide, by decide, by decide, by decide, by decide, by decide, by decide, by decide, by decide, by decide, by decide, by decide, by decide, by decide, by decide, by decide, by decide, by decide, by decide, by decide, by decide, by decide, by decide, by decide, nm_e (nm_e (nm_e ⟨by decide, nm_r eM ⟨M - 1 + 1, ?_⟩⟩))⟩
  refine of_L25 (s := s) (c := c) hs' hc' hx hx2 hM1 hM (fun u1 h1 => ⟨M + 1, ?_⟩) (M - 1) 0 (1, 0, 0, -1, 0, 0, 0, 0, 0, 0, 0, 0, (fun _ => 0), (fun _ => 0), (fun _ => 0), (fun _ => 0), (fun _ => 0), (fun _ => 0), (fun _ => 0), upd (upd (upd (fun _ => 0) 0 1) 5 1) 3 (-1), (fun _ => 0), (fun _ => 0), (fun _ => 0), (fun _ => 0), (fun _ => 0), (fun _ => 0), (fun _ => 0)) (by omega) ?_
  · refine of_L76 hs' hc' hx hx2 hM1 hM hr er (fun u2 h2 => ⟨M + 1, ?_⟩) M 0 u1 (by omega) h1
    refine of_L161 hs' hc' hx hx2 hM1 hM hr (fun u3 h3 => ⟨M + 1, ?_⟩) M 0 u2 (by omega) h2
    exact of_L248 hs' hc' hx hx2 hM1 hM rfl h3 (of_L328 hs' hc' hx hx2 hM1 hM rfl hr h3 H) M 0 (by omega)
  · refine ⟨[], trivial, ?_⟩
    refine of_ST_e (g := fun _ => none) (t := fun _ => false) ?_ of_cq_ini of_tj_ini
    exact ⟨0, 0, [], rfl, rfl, rfl, rfl, by omega, by omega, by simp, rfl, Or.inl rfl, fun o _ _ => ⟨rfl, rfl⟩, fun o _ _ => rfl, rfl, rfl, rfl, rfl, rfl, rfl, 0, by omega, rfl⟩
end
theorem of_cell {pst : Int32 → Prop} {L j : Nat} {xs : Nat → Int32} {u : St0} {v : Int32} (hL : L ≤ 3) (hj : j ≤ 2) (hv : v = nI j) (H : ∀ w, pst w) : wpL_cellAt pst L xs u v := by
  subst hv
  exact pk_le L j (fun _ => H _) (fun h => ⟨pk_in j L h, H _⟩)
theorem i_vc (xs : Nat → Int32) (L : Nat) (hL : L ≤ 3) : wpL_law (fun r => r = 1) L xs :=
  of_cell (j := 0) hL (by omega) rfl (fun r_1 => of_cell (j := 1) hL (by omega) rfl (fun r_2 => of_cell (j := 2) hL (by omega) rfl (fun r_3 => ⟨1514, 24224, by decide, by decide, of_law rfl⟩)))
end
