section
/-! small sets as naturals below 256; Int32 operations on them -/
theorem ck_and (a b : Nat) : nI a &&& nI b = nI (a &&& b) := by
  apply Int32.toBitVec_inj.1
  show BitVec.ofNat 32 a &&& BitVec.ofNat 32 b = BitVec.ofNat 32 (a &&& b)
  apply BitVec.eq_of_getLsbD_eq
  intro i hi
  simp [hi]
theorem ck_or (a b : Nat) : nI a ||| nI b = nI (a ||| b) := by
  apply Int32.toBitVec_inj.1
  show BitVec.ofNat 32 a ||| BitVec.ofNat 32 b = BitVec.ofNat 32 (a ||| b)
  apply BitVec.eq_of_getLsbD_eq
  intro i hi
  simp [hi]
/-- a set less another -/
def ck_d (s t : Nat) : Nat := s &&& (255 ^^^ t)
theorem ck_d_le (s t : Nat) : ck_d s t ≤ s := Nat.and_le_left
theorem ck_d_lt {s t : Nat} (h : s < 256) : ck_d s t < 256 := Nat.lt_of_le_of_lt (ck_d_le s t) h
theorem ck_and_lt {s t : Nat} (h : s < 256) : s &&& t < 256 := Nat.lt_of_le_of_lt Nat.and_le_left h
theorem ck_or_lt {s t : Nat} (h : s < 256) (h2 : t < 256) : s ||| t < 256 := Nat.or_lt_two_pow (n := 8) h h2
theorem ck_dI {s t : Nat} (hs : s < 256) : nI s &&& (nI t ^^^ (-1)) = nI (ck_d s t) := by
  apply Int32.toBitVec_inj.1
  have e : (-1 : Int32).toBitVec = BitVec.allOnes 32 := by decide
  show BitVec.ofNat 32 s &&& (BitVec.ofNat 32 t ^^^ (-1 : Int32).toBitVec) = BitVec.ofNat 32 (s &&& (255 ^^^ t))
  rw [e]
  apply BitVec.eq_of_getLsbD_eq
  intro i hi
  rw [BitVec.getLsbD_and, BitVec.getLsbD_xor, BitVec.getLsbD_ofNat, BitVec.getLsbD_ofNat, BitVec.getLsbD_ofNat, BitVec.getLsbD_allOnes, Nat.testBit_and, Nat.testBit_xor]
  by_cases h8 : i < 8
  · have h1 : Nat.testBit 255 i = true := (by decide +kernel : ∀ i, i < 8 → Nat.testBit 255 i = true) i h8
    rw [h1]; simp [hi]
  · have h2 : s.testBit i = false := Nat.testBit_lt_two_pow (Nat.lt_of_lt_of_le (show s < 2 ^ 8 by omega) (Nat.pow_le_pow_right (by decide) (by omega)))
    rw [h2]; simp
theorem ck_one : ∀ v, v < 16 → (1 : Int32) <<< (nI v &&& 31) = nI (1 <<< v) := by decide +kernel
theorem ck_one_lt : ∀ v, v < 8 → 1 <<< v < 256 := by decide +kernel
theorem ck_31 : ∀ n, n < 32 → ((nI n &&& 31).toBitVec.smod 32).toNat = n := by decide +kernel
theorem ck_shr {s v : Nat} (hs : s < 2 ^ 31) (hv : v < 32) : (nI s >>> (nI v &&& 31)) &&& 1 = nI (s / 2 ^ v % 2) := by
  rw [pk_shrN hs _ v (ck_31 v hv)]
  show nI (s / 2 ^ v) &&& nI 1 = _
  rw [ck_and, Nat.and_one_is_mod]
theorem ck_s16 : ∀ n, n < 256 → (nI n).toInt16.toInt32 = nI n := by decide +kernel
theorem ck_s8 : ∀ n, n < 128 → (nI n).toInt8.toInt32 = nI n := by decide +kernel
/-- a signed answer: 0 stands for -1, k + 1 for k -/
def ck_s (p : Nat) : Int32 := match p with
  | 0 => -1
  | k + 1 => nI k
theorem ck_s_neg : (ck_s 0 < 0) ∧ ¬ (0 ≤ ck_s 0) := by decide
theorem ck_s_eq {p u : Nat} (hp : p ≤ 200) (hu : u < 200) : ck_s p = nI u ↔ p = u + 1 := by
  cases p with
  | zero =>
    constructor
    · intro h
      have h2 : (ck_s 0) < 0 := ck_s_neg.1
      rw [h] at h2
      exact absurd h2 (nI_pos (by omega))
    · intro h; omega
  | succ k =>
    show nI k = nI u ↔ _
    rw [nI_eq (by omega) (by omega)]
    omega
theorem ck_s_byte : ∀ p, p ≤ 9 → (ck_s p).toInt8.toInt32 = ck_s p := by decide +kernel
theorem ck_upd {f : Nat → Int32} {k j : Nat} {x : Int32} : upd f k x j = if j = k then x else f j := rfl
theorem ck_inW {post : Int32 → Prop} {x y : Int32} {s v : Nat} (hx : x = nI s) (hy : y = nI v) (hs : s < 256) (hv : v < 8) (h0 : s.testBit v = false → post 0) (h1 : s.testBit v = true → post 1) : wpX_in post () x y := by
  subst hx hy
  unfold wpX_in
  rw [ck_shr (by omega) (by omega)]
  refine pk_eq (s / 2 ^ v % 2) 0 (fun z => h0 ?_) (fun z => h1 ?_)
  · rw [Nat.testBit_eq_decide_div_mod_eq, decide_eq_false_iff_not]; omega
  · rw [Nat.testBit_eq_decide_div_mod_eq, decide_eq_true_iff]; omega
theorem ck_vertex {post : Int32 → Prop} {x : Int32} {v : Nat} (hx : x = nI v) (hv : v < 8) (h : post 1) : wpX_isVertex post () x := by
  subst hx
  exact pk_lt v 0 (fun z => absurd z (by omega)) (fun _ => pk_le 8 v (fun z => absurd z (by omega)) (fun _ => h))
end
section
/-! what the methods compute, as plain functions -/
/-- how many bits: a table of 256 places -/
def ck_pc (s : Nat) : Nat := (95125173855764218123276304889944061997689682402263585766959741291920687686033329201817409157123347502415384089435969498586180241031507595463600295898153685276653211633572815512294064538494957912327413386667662218713394765509704508661031522276467630197481635010039778342554499416459730172574551513689147646224 >>> (4 * s)) % 16
def ck_pcl (s : Nat) : Nat → Nat → Nat → Nat
  | 0, _, acc => acc
  | k + 1, v, acc => ck_pcl s k (v + 1) (acc + s / 2 ^ v % 2)
theorem ck_pc_eq : ∀ s, s < 256 → ck_pcl s 8 0 0 = ck_pc s := by decide +kernel
theorem ck_pc_le : ∀ s, s < 256 → ck_pc s ≤ 8 := by decide +kernel
def ck_up (f : Nat → Nat) (k x : Nat) : Nat → Nat := fun j => if j = k then x else f j
theorem ck_up_s {f : Nat → Nat} {k x : Nat} : ck_up f k x k = x := if_pos rfl
theorem ck_up_n {f : Nat → Nat} {k j x : Nat} (h : j ≠ k) : ck_up f k x j = f j := if_neg h
def ck_row (G v : Nat) : Nat := (G >>> (8 * v)) % 256
/-- the cycles of 3 to 8 vertices, eight bits a row -/
def ck_C (n : Nat) : Nat := [0, 0, 0, 197894, 84542730, 38990906642, 18863832565026, 9376807296566594, 4728867741804135810].getD n 0
/-- neighbours of a set -/
def ck_an (g : Nat → Nat) (s : Nat) : Nat → Nat → Nat → Nat
  | 0, _, acc => acc
  | k + 1, v, acc => ck_an g s k (v + 1) (if s.testBit v then acc ||| g v else acc)
def ck_wd (g : Nat → Nat) (set v : Nat) : Nat := if set.testBit v then ck_pc (g v &&& set) else 0
def ck_wk (lone : Bool) (n v best most : Nat) (K : Nat → Nat → Nat) : Nat :=
  match lone with
  | true => if n = 1 then K (v + 1) n else K best most
  | false => if n ≤ most then K best most else K (v + 1) n
/-- a vertex with one neighbour, or with the most -/
def ck_wn (g : Nat → Nat) (set : Nat) (lone : Bool) : Nat → Nat → Nat → Nat → Nat
  | 0, _, best, _ => best
  | k + 1, v, best, most => ck_wk lone (ck_wd g set v) v best most (fun b m => ck_wn g set lone k (v + 1) b m)
/-- the branches; the first of the list is the topmost -/
def ck_solve (g : Nat → Nat) : Nat → Nat → List (Nat × Nat) → Option Nat
  | 0, best, st => match st with
    | [] => some best
    | _ :: _ => none
  | n + 1, best, st => match st with
    | [] => some best
    | (l, t) :: st => match ck_wn g l false 8 0 0 0 with
      | 0 => ck_solve g n (if best ≤ t then best else t) st
      | b + 1 => if best ≤ t + 1 then ck_solve g n best st else
        match ck_wn g l true 8 0 0 0 with
        | 0 => ck_solve g n best ((ck_d l (1 <<< b), t + 1) :: (ck_d (ck_d l (g b &&& l)) (1 <<< b), t + ck_pc (g b &&& l)) :: st)
        | c + 1 => ck_solve g n best ((ck_d l (g c), t + 1) :: st)
def ck_sol (g : Nat → Nat) (set : Nat) : Option Nat := ck_solve g 11 100 [(set, 0)]
/-- coded: 0 for none -/
def ck_forced (g : Nat → Nat) (i o : Nat) : Option Nat :=
  if (i ||| ck_an g o 8 0 0) &&& o = 0 then
    match ck_sol g (ck_d (ck_d 255 (i ||| ck_an g o 8 0 0)) o) with
    | none => none
    | some r => some (ck_pc (i ||| ck_an g o 8 0 0) + r + 1)
  else some 0
def ck_alw (g : Nat → Nat) (goal : Nat) : Nat → Nat → Nat → Option Nat
  | 0, _, s => some s
  | k + 1, v, s => match ck_forced g 0 (1 <<< v) with
    | none => none
    | some c => ck_alw g goal k (v + 1) (if c = goal + 1 then s else s ||| 1 <<< v)
def ck_nev (g : Nat → Nat) (goal : Nat) : Nat → Nat → Nat → Option Nat
  | 0, _, s => some s
  | k + 1, v, s => match ck_forced g (1 <<< v) 0 with
    | none => none
    | some c => ck_nev g goal k (v + 1) (if c = goal + 1 then s else s ||| 1 <<< v)
def ck_cov (g : Nat → Nat) (set : Nat) : Nat → Nat → Bool
  | 0, _ => true
  | k + 1, v => if set.testBit v then ck_cov g set k (v + 1) else if ck_d (g v) set = 0 then ck_cov g set k (v + 1) else false
def ck_edg (g : Nat → Nat) : Nat → Nat → Nat → Nat
  | 0, _, acc => acc
  | k + 1, v, acc => ck_edg g k (v + 1) (acc + ck_pc (g v))
/-! matchings with every vertex twice: partners P (0: none), cameFrom C (0: not known), line L -/
def ck_pl (P : Nat → Nat) (u : Nat) : Nat → Nat → Nat
  | 0, _ => 0
  | k + 1, w => if P w = u + 1 then w + 1 else ck_pl P u k (w + 1)
def ck_chg (C : Nat → Nat) (start : Nat) : Nat → Nat → (Nat → Nat) → Option (Nat → Nat)
  | 0, _, P => some P
  | k + 1, w, P => match w with
    | 0 => some P
    | w + 1 => match C w with
      | 0 => none
      | u + 1 => ck_chg C start k (if u = start then 0 else ck_pl P u 8 0) (ck_up P w (u + 1))
def ck_ain (g : Nat → Nat) (right u start : Nat) (P : Nat → Nat) (K : Nat → Nat → (Nat → Nat) → (Nat → Nat) → Option (Bool × (Nat → Nat))) : Nat → Nat → Nat → Nat → (Nat → Nat) → (Nat → Nat) → Option (Bool × (Nat → Nat))
  | 0, _, seen, en, L, C => K seen en L C
  | k + 1, w, seen, en, L, C =>
    if (ck_d (g u &&& right) seen).testBit w then
      match P w with
      | 0 => match ck_chg (ck_up C w (u + 1)) start 8 (w + 1) P with
        | none => none
        | some P' => some (true, P')
      | q + 1 => if en < 10 then ck_ain g right u start P K k (w + 1) (seen ||| 1 <<< w) (en + 1) (ck_up L en q) (ck_up C w (u + 1)) else none
    else ck_ain g right u start P K k (w + 1) seen en L C
def ck_aout (g : Nat → Nat) (right start : Nat) (P : Nat → Nat) : Nat → Nat → Nat → Nat → (Nat → Nat) → (Nat → Nat) → Option (Bool × (Nat → Nat))
  | 0, _, _, _, _, _ => none
  | n + 1, k, seen, en, L, C =>
    if en ≤ k then some (false, P) else if 8 < k then some (false, P) else
      ck_ain g right (L k) start P (fun s e l c => ck_aout g right start P n (k + 1) s e l c) 8 0 seen en L C
def ck_aug (g : Nat → Nat) (right start : Nat) (P : Nat → Nat) : Option (Bool × (Nat → Nat)) := ck_aout g right start P 10 0 0 1 (fun _ => start) (fun _ => 0)
def ck_mt (g : Nat → Nat) (left right : Nat) : Nat → Nat → Nat → (Nat → Nat) → Option Nat
  | 0, _, n, _ => some n
  | k + 1, v, n, P =>
    if left.testBit v then
      match ck_aug g right v P with
      | none => none
      | some (true, P') => ck_mt g left right k (v + 1) (n + 1) P'
      | some (false, P') => ck_mt g left right k (v + 1) n P'
    else ck_mt g left right k (v + 1) n P
def ck_match (g : Nat → Nat) (left right : Nat) : Option Nat := ck_mt g left right 8 0 0 (fun _ => 0)
def ck_cost (g : Nat → Nat) (v n : Nat) : Option Nat :=
  if n = 2 then
    match ck_match g (ck_d 255 (1 <<< v)) (ck_d 255 (1 <<< v)) with
    | none => none
    | some r => some (2 + r)
  else if n = 1 then
    match ck_match g (ck_d (ck_d 255 (1 <<< v)) (g v)) (ck_d 255 (1 <<< v)) with
    | none => none
    | some r => some (1 + ck_pc (g v) + r)
  else
    match ck_match g (ck_d (ck_d 255 (1 <<< v)) (g v)) (ck_d (ck_d 255 (1 <<< v)) (g v)) with
    | none => none
    | some r => some (2 * ck_pc (g v) + r)
def ck_can (g : Nat → Nat) (v n : Nat) : Option Bool :=
  match ck_match g 255 255 with
  | none => none
  | some h => match ck_cost g v n with
    | none => none
    | some c => some (Nat.beq c h)
def ck_wb (g : Nat → Nat) (n1 n2 : Nat) : Nat → Nat → Nat → Option Nat
  | 0, _, s => some s
  | k + 1, v, s => match ck_can g v n1 with
    | none => none
    | some true => ck_wb g n1 n2 k (v + 1) s
    | some false => match ck_can g v n2 with
      | none => none
      | some true => ck_wb g n1 n2 k (v + 1) s
      | some false => ck_wb g n1 n2 k (v + 1) (s ||| 1 <<< v)
/-! matchings: by the first vertex -/
def ck_mw (g : Nat → Nat) (R : Nat → Nat) (v rest : Nat) : Nat → Nat → Nat → Nat
  | 0, _, most => most
  | k + 1, w, most => ck_mw g R v rest k (w + 1)
      (if (rest &&& g v).testBit w then (if 1 + R (ck_d rest (1 <<< w)) ≤ most then most else 1 + R (ck_d rest (1 <<< w))) else most)
def ck_mm (g : Nat → Nat) : Nat → Nat → Nat → Nat
  | 0, _, _ => 0
  | k + 1, v, set =>
    if set.testBit v then ck_mw g (fun s => ck_mm g k (v + 1) s) v (ck_d set (1 <<< v)) k (v + 1) (ck_mm g k (v + 1) (ck_d set (1 <<< v)))
    else ck_mm g k (v + 1) set
/-- an edge put on, taken off -/
def ck_jon (g : Nat → Nat) (a b : Nat) : Nat → Nat := ck_up (ck_up g a (g a ||| 1 <<< b)) b (ck_up g a (g a ||| 1 <<< b) b ||| 1 <<< a)
def ck_joff (g : Nat → Nat) (a b : Nat) : Nat → Nat := ck_up (ck_up g a (ck_d (g a) (1 <<< b))) b (ck_d (ck_up g a (ck_d (g a) (1 <<< b)) b) (1 <<< a))
/-- the cover of the law -/
def ck_fi (n v : Nat) : Bool := decide (v < n) && (if n % 2 = 1 then (decide (v = 0) || decide (v % 2 = 1)) else decide (v % 2 = 0))
def ck_fst (n : Nat) : Nat → Nat
  | 0 => 0
  | v + 1 => if ck_fi n v then ck_fst n v ||| 1 <<< v else ck_fst n v
/-- the cycle, edge by edge -/
def ck_cyc (n : Nat) : Nat → Nat → Nat
  | 0 => fun _ => 0
  | v + 1 => if v < n then ck_jon (ck_cyc n v) v ((v + 1) % n) else ck_cyc n v
theorem ck_cyc_row : ∀ n, n < 9 → 3 ≤ n → ∀ v, v < 8 → ck_cyc n 8 v = ck_row (ck_C n) v := by decide +kernel
end
section
/-! what the plain functions answer on the six cycles and the 33 graphs of a cycle less an edge -/
def ck_F1 (n : Nat) (g : Nat → Nat) : Bool :=
  decide (ck_edg g 8 0 0 / 2 = n) && (decide (ck_sol g 255 = some ((n + 1) / 2)) && (decide (ck_match g 255 255 = some n) && (decide (ck_mm g 8 0 255 = n / 2) &&
  (decide (ck_alw g ((n + 1) / 2) 8 0 0 = some 0) && (decide (ck_nev g ((n + 1) / 2) 8 0 0 = some (ck_d 255 ((1 <<< n) - 1))) && (decide (ck_wb g 0 1 8 0 0 = some 0) &&
  (ck_cov g (ck_fst n 8) 8 0 && (decide (ck_can g 0 1 = some true) && (decide (ck_can g 0 2 = some (decide (n % 2 = 0))) && (decide (ck_can g (n - 1) 0 = some (decide (n % 2 = 0))) &&
  (decide (ck_forced g 0 3 = some 0) && decide (ck_forced g 0 1 = some ((n + 1) / 2 + 1)))))))))))))
def ck_ends (n a : Nat) : Nat := 1 <<< a ||| 1 <<< ((a + 1) % n)
def ck_pth (n a : Nat) : Nat → Nat := ck_joff (ck_row (ck_C n)) ((a + 1) % n) a
def ck_F2 (n a : Nat) (g : Nat → Nat) : Bool :=
  decide (ck_edg g 8 0 0 / 2 = n - 1) && (decide (ck_sol g 255 = some (n / 2)) && (decide (ck_mm g 8 0 255 = n / 2) && (decide (ck_match g 255 255 = some (2 * (n / 2))) &&
  (ck_cov g (ck_fst n 8) 8 0 && (decide (n % 2 = 1 → (ck_wb g 1 2 8 0 0).map (fun b => b &&& ck_ends n a) = some (ck_ends n a)) &&
  (decide (n % 2 = 1 → (ck_alw g (n / 2) 8 0 0).map (fun b => b &&& ck_ends n a) = some 0) && (decide (g a = 1 <<< ((a + n - 1) % n)) &&
  decide (ck_forced g (ck_ends n a) 0 = some (n / 2 + 1 + 1)))))))))
theorem ck_f1 : ∀ n, n < 9 → 3 ≤ n → ck_F1 n (ck_row (ck_C n)) = true := by decide +kernel
theorem ck_f2 : ∀ n, n < 9 → 3 ≤ n → ∀ a, a < n → ck_F2 n a (ck_pth n a) = true := by decide +kernel
theorem ck_row_lt : ∀ n, n < 9 → ∀ v, v < 8 → ck_row (ck_C n) v < 256 := by decide +kernel
theorem ck_fst_lt : ∀ n, n < 9 → ∀ v, v < 9 → ck_fst n v < 256 := by decide +kernel
end
section
/-! the graph in the state; counting; covers -/
def ck_G (g : Nat → Nat) (a : Nat → Int32) : Prop := ∀ v, v < 8 → a v = nI (g v) ∧ g v < 256
theorem ck_nf {b : Bool} (h : b = false) : ¬ b = true := by rw [h]; exact Bool.false_ne_true
theorem ck_or0 (s : Nat) : nI s ||| 0 = nI s := by
  show nI s ||| nI 0 = nI s
  rw [ck_or, Nat.or_zero]
section
variable {g : Nat → Nat} {f0 : Int32} {a1 a2 a3 a4 a5 a6 a7 a8 a9 a10 : Nat → Int32}
theorem ck_Ga {a : Nat → Int32} (h : ck_G g a) {v : Nat} (hv : v < 8) : a (nI v).toNatClampNeg = nI (g v) := by
  rw [nI_clamp (by omega)]
  exact (h v hv).1
theorem ck_ones4 {post : Int32 → Prop} {s : Nat} (hs : s < 256) : ∀ k v acc, v + k = 8 → post (nI (ck_pcl s k v acc)) → wX_ones_4 post (nI s) (k + 1) (nI acc) (nI v)
  | 0, v, acc, e, h => pk_le 8 v (fun _ => h) (fun z => absurd z (by omega))
  | k + 1, v, acc, e, h => pk_le 8 v (fun z => absurd z (by omega)) (fun _ => nm_r (e' := nI (acc + s / 2 ^ v % 2)) (by rw [ck_shr (by omega) (by omega), nI_add]) (nm_r (nI_1 v) (ck_ones4 hs k (v + 1) (acc + s / 2 ^ v % 2) (by omega) h)))
theorem ck_ones {post : Int32 → Prop} {x : Int32} {s : Nat} (hx : x = nI s) (hs : s < 256) (h : post (nI (ck_pc s))) : wpX_ones post () x := by
  subst hx
  exact Exists.intro 9 (ck_ones4 hs 8 0 0 rfl (by rw [ck_pc_eq s hs]; exact h))
theorem ck_an_lt {s : Nat} (hg : ∀ v, v < 8 → g v < 256) : ∀ k v acc, v + k = 8 → acc < 256 → ck_an g s k v acc < 256
  | 0, v, acc, e, h => h
  | k + 1, v, acc, e, h => ck_an_lt hg k (v + 1) _ (by omega) (by
      split
      · exact ck_or_lt h (hg v (by omega))
      · exact h)
theorem ck_an4 {post : Int32 → Prop} {s : Nat} (hs : s < 256) (hg : ck_G g a1) : ∀ k v acc, v + k = 8 → post (nI (ck_an g s k v acc)) → wX_allNeighbours_4 post (nI s) f0 a1 a2 a3 a4 a5 a6 a7 a8 a9 a10 (k + 1) (nI acc) (nI v)
  | 0, v, acc, e, h => pk_le 8 v (fun _ => h) (fun z => absurd z (by omega))
  | k + 1, v, acc, e, h => pk_le 8 v (fun z => absurd z (by omega)) (fun _ => ck_inW rfl rfl hs (by omega)
      (fun z => br_t rfl (nm_r (ck_or0 acc) (nm_r (nI_1 v) (ck_an4 hs hg k (v + 1) acc (by omega) (by rw [ck_an, if_neg (ck_nf z)] at h; exact h)))))
      (fun z => br_f (by decide) ⟨pk_in v 8 (by omega), nm_r (e' := nI (acc ||| g v)) (by rw [ck_Ga hg (by omega), ck_or]) (nm_r (nI_1 v) (ck_an4 hs hg k (v + 1) (acc ||| g v) (by omega) (by rw [ck_an, if_pos z] at h; exact h)))⟩))
theorem ck_anW {post : Int32 → Prop} {x : Int32} {s : Nat} (hx : x = nI s) (hs : s < 256) (hg : ck_G g a1) (h : post (nI (ck_an g s 8 0 0))) : wpX_allNeighbours post (f0, a1, a2, a3, a4, a5, a6, a7, a8, a9, a10) x := by
  subst hx
  exact Exists.intro 9 (ck_an4 hs hg 8 0 0 rfl h)
theorem ck_wk_le {lone : Bool} {n v best most : Nat} {K : Nat → Nat → Nat} (hv : v < 8) (hb : best ≤ 8) (hK : ∀ b m, b ≤ 8 → K b m ≤ 8) : ck_wk lone n v best most K ≤ 8 := by
  cases lone
  · show (if n ≤ most then K best most else K (v + 1) n) ≤ 8
    split
    · exact hK _ _ hb
    · exact hK _ _ (by omega)
  · show (if n = 1 then K (v + 1) n else K best most) ≤ 8
    split
    · exact hK _ _ (by omega)
    · exact hK _ _ hb
theorem ck_wn_le {set : Nat} {lone : Bool} : ∀ k v best most, v + k = 8 → best ≤ 8 → ck_wn g set lone k v best most ≤ 8
  | 0, v, best, most, e, h => h
  | k + 1, v, best, most, e, h => ck_wk_le (by omega) h (fun b m hb => ck_wn_le k (v + 1) b m (by omega) hb)
def ck_lb (lone : Bool) : Int32 := match lone with
  | true => 1
  | false => 0
theorem ck_wn40 {post : Int32 → Prop} {J : Int32 → Int32 → Int32 → Prop} {K : Nat → Nat → Nat} {lone : Bool} {x1 : Int32} {n v best most : Nat} (Q : Nat → Prop) (hn : n ≤ 8) (hm : most ≤ 8) (hb : best ≤ 8) (hv : v < 8)
    (hJ : ∀ b m, b ≤ 8 → m ≤ 8 → Q (K b m) → J (ck_s b) (nI m) (nI (v + 1))) (h : Q (ck_wk lone n v best most K)) :
    wX_withNeighbours_40 post J x1 (ck_lb lone) (ck_s best) (nI most) (nI v) (nI n) f0 a1 a2 a3 a4 a5 a6 a7 a8 a9 a10 := by
  cases lone
  · have h' : Q (if n ≤ most then K best most else K (v + 1) n) := h
    exact br_t rfl (pk_le n most (fun z => nm_r (nI_1 v) (hJ best most hb hm (by rw [if_pos z] at h'; exact h')))
      (fun z => nm_r (nI_1 v) (hJ (v + 1) n (by omega) hn (by rw [if_neg (by omega)] at h'; exact h'))))
  · have h' : Q (if n = 1 then K (v + 1) n else K best most) := h
    exact br_f (by decide) (pk_eq n 1 (fun z => nm_r (nI_1 v) (hJ (v + 1) n (by omega) hn (by rw [if_pos z] at h'; exact h')))
      (fun z => nm_r (nI_1 v) (hJ best most hb hm (by rw [if_neg z] at h'; exact h'))))
theorem ck_wn8 {post : Int32 → Prop} {set : Nat} {lone : Bool} (hs : set < 256) (hg : ck_G g a1) : ∀ k v best most, v + k = 8 → best ≤ 8 → most ≤ 8 → post (ck_s (ck_wn g set lone k v best most)) → wX_withNeighbours_8 post (nI set) (ck_lb lone) f0 a1 a2 a3 a4 a5 a6 a7 a8 a9 a10 (k + 1) (ck_s best) (nI most) (nI v) := by
  intro k
  induction k with
  | zero => exact fun v best most e hb hm h => pk_le 8 v (fun _ => h) (fun z => absurd z (by omega))
  | succ k ih =>
    intro v best most e hb hm h
    have hK : ∀ n, n = ck_wd g set v → n ≤ 8 → wX_withNeighbours_40 post (wX_withNeighbours_8 post (nI set) (ck_lb lone) f0 a1 a2 a3 a4 a5 a6 a7 a8 a9 a10 (k + 1)) (nI set) (ck_lb lone) (ck_s best) (nI most) (nI v) (nI n) f0 a1 a2 a3 a4 a5 a6 a7 a8 a9 a10 := fun n en hn =>
      ck_wn40 (K := fun b m => ck_wn g set lone k (v + 1) b m) (fun r => post (ck_s r)) hn hm hb (by omega) (fun b m hb' hm' hq => ih (v + 1) b m (by omega) hb' hm' hq) (by rw [en]; exact h)
    refine pk_le 8 v (fun z => absurd z (by omega)) (fun _ => ck_inW rfl rfl hs (by omega) (fun z => br_t rfl (hK 0 ?_ (by omega))) (fun z => br_f (by decide) ⟨pk_in v 8 (by omega), ck_ones (s := g v &&& set) (by rw [ck_Ga hg (by omega), ck_and]) (ck_and_lt (hg v (by omega)).2) (hK _ ?_ (ck_pc_le _ (ck_and_lt (hg v (by omega)).2)))⟩))
    · rw [ck_wd, if_neg (ck_nf z)]
    · rw [ck_wd, if_pos z]
theorem ck_wnW {post : Int32 → Prop} {x y : Int32} {s : Nat} (lone : Bool) (hx : x = nI s) (hy : y = ck_lb lone) (hs : s < 256) (hg : ck_G g a1) (h : post (ck_s (ck_wn g s lone 8 0 0 0))) : wpX_withNeighbours post (f0, a1, a2, a3, a4, a5, a6, a7, a8, a9, a10) x y := by
  subst hx hy
  exact Exists.intro 9 (ck_wn8 hs hg 8 0 0 0 rfl (by omega) (by omega) h)
theorem ck_push {post : St2 → Prop} {x y : Int32} (k l t : Nat) (hk : k < 64) (hl : l < 256) (ht : t < 128) (hx : x = nI l) (hy : y = nI t)
    (h : post (nI (k + 1), a1, upd a2 k (nI l), upd a3 k (nI t), a4, a5, a6, a7, a8, a9, a10)) : wpX_push post (nI k, a1, a2, a3, a4, a5, a6, a7, a8, a9, a10) x y := by
  subst hx hy
  unfold wpX_push
  exact ⟨pk_in k 64 hk, nm_r (e' := upd a2 k (nI l)) (by rw [nI_clamp (by omega), ck_s16 l hl]) ⟨pk_in k 64 hk, nm_r (e' := upd a3 k (nI t)) (by rw [nI_clamp (by omega), ck_s8 t ht]) (nm_r (nI_1 k) h)⟩⟩
/-- the branches that wait -/
def ck_St (n : Nat) : List (Nat × Nat) → (Nat → Int32) → (Nat → Int32) → Prop
  | [], _, _ => True
  | p :: st, a, b => a st.length = nI p.1 ∧ b st.length = nI p.2 ∧ p.1 < 256 ∧ p.2 + 8 * n ≤ 100 ∧ ck_St n st a b
theorem ck_St_w {n : Nat} {a b : Nat → Int32} : ∀ st, ck_St (n + 1) st a b → ck_St n st a b
  | [], _ => trivial
  | p :: st, ⟨h1, h2, h3, h4, h5⟩ => ⟨h1, h2, h3, by omega, ck_St_w st h5⟩
theorem ck_St_u {n k : Nat} {a b : Nat → Int32} {x y : Int32} : ∀ st, st.length ≤ k → ck_St n st a b → ck_St n st (upd a k x) (upd b k y)
  | [], _, _ => trivial
  | p :: st, hk, ⟨h1, h2, h3, h4, h5⟩ => by
    have hk' : st.length + 1 ≤ k := hk
    exact ⟨by rw [pk_un (by omega)]; exact h1, by rw [pk_un (by omega)]; exact h2, h3, h4, ck_St_u st (by omega) h5⟩
theorem ck_137 {post : Int32 → St2 → Prop} {J : Int32 → Int32 → Int32 → (Nat → Int32) → (Nat → Int32) → (Nat → Int32) → (Nat → Int32) → (Nat → Int32) → (Nat → Int32) → (Nat → Int32) → (Nat → Int32) → (Nat → Int32) → (Nat → Int32) → Prop} {l t b r best len : Nat}
    (hg : ck_G g a1) (hb : b < 8) (hl : l < 256) (ht : t + 8 < 128) (hlen : len + 1 < 64) (hbest : best ≤ 100)
    (hA : best ≤ t + 1 → J (nI best) (nI (r + 1)) (nI len) a1 a2 a3 a4 a5 a6 a7 a8 a9 a10)
    (hB : t + 1 < best → J (nI best) (nI (r + 1)) (nI (len + 1 + 1)) a1 (upd (upd a2 len (nI (ck_d (ck_d l (g b &&& l)) (1 <<< b)))) (len + 1) (nI (ck_d l (1 <<< b)))) (upd (upd a3 len (nI (t + ck_pc (g b &&& l)))) (len + 1) (nI (t + 1))) a4 a5 a6 a7 a8 a9 a10) :
    wX_solve_137 post J (nI best) (nI r) (nI l) (nI t) (nI b) (nI len) a1 a2 a3 a4 a5 a6 a7 a8 a9 a10 := by
  have hbl : g b &&& l < 256 := ck_and_lt (hg b hb).2
  have hpc := ck_pc_le _ hbl
  unfold wX_solve_137
  refine pk_le best (t + 1) (fun z => nm_r (nI_1 r) (hA z)) (fun z => ⟨pk_in b 8 hb, nm_r (e' := nI (g b &&& l)) (by rw [ck_Ga hg hb, ck_and]) (ck_ones rfl hbl ?_)⟩) (hy := nI_1 t)
  refine ck_push len (ck_d (ck_d l (g b &&& l)) (1 <<< b)) (t + ck_pc (g b &&& l)) (by omega) (ck_d_lt (ck_d_lt hl)) (by omega) (by rw [ck_one b (by omega), ck_dI hl, ck_dI (ck_d_lt hl)]) (by rw [nI_add]) ?_
  exact ck_push (len + 1) (ck_d l (1 <<< b)) (t + 1) (by omega) (ck_d_lt hl) (by omega) (by rw [ck_one b (by omega), ck_dI hl]) (nI_1 t) (nm_r (nI_1 r) (hB z))
theorem ck_sol16 {post : Int32 → St2 → Prop} (hg : ck_G g a1) {res : Nat} (hp : ∀ (f : Int32) (b2 b3 : Nat → Int32), post (nI res) (f, a1, b2, b3, a4, a5, a6, a7, a8, a9, a10)) :
    ∀ n best r (st : List (Nat × Nat)) a2 a3, ck_St n st a2 a3 → r + n ≤ 512 → st.length + n ≤ 60 → best ≤ 100 → ck_solve g n best st = some res → wX_solve_16 post (n + 1) (nI best) (nI r) (nI st.length) a1 a2 a3 a4 a5 a6 a7 a8 a9 a10 := by
  intro n
  induction n with
  | zero =>
    intro best r st a2 a3 hst hr hl hb h
    cases st with
    | nil =>
      have e : some best = some res := h
      rw [Option.some.inj e]
      exact pk_le 512 r (fun _ => hp _ _ _) (fun _ => pk_le 0 0 (fun _ => hp _ _ _) (fun z => absurd z (by omega)))
    | cons p q =>
      have e : none = some res := h
      cases e
  | succ n ih =>
    intro best r st a2 a3 hst hr hl hb h
    cases st with
    | nil =>
      have e : some best = some res := h
      rw [Option.some.inj e]
      exact pk_le 512 r (fun _ => hp _ _ _) (fun _ => pk_le 0 0 (fun _ => hp _ _ _) (fun z => absurd z (by omega)))
    | cons p q =>
      obtain ⟨l, t⟩ := p
      obtain ⟨e1, e2, h256, ht, hq⟩ := hst
      have hw : ck_St n q a2 a3 := ck_St_w q hq
      have hlen : q.length + 1 + (n + 1) ≤ 60 := hl
      have ht' : t + 8 * (n + 1) ≤ 100 := ht
      have h256' : l < 256 := h256
      have e1' : a2 (nI q.length).toNatClampNeg = nI l := by rw [nI_clamp (by omega)]; exact e1
      have e2' : a3 (nI q.length).toNatClampNeg = nI t := by rw [nI_clamp (by omega)]; exact e2
      have h1 : ck_wn g l false 8 0 0 0 ≤ 8 := ck_wn_le 8 0 0 0 rfl (by omega)
      have h2 : ck_wn g l true 8 0 0 0 ≤ 8 := ck_wn_le 8 0 0 0 rfl (by omega)
      refine pk_le 512 r (fun z => absurd z (by omega)) (fun _ => pk_le (q.length + 1) 0 (fun z => absurd z (by omega)) (fun _ => nm_r (nI_pred q.length) ⟨pk_in q.length 64 (by omega), nm_r e1' ⟨pk_in q.length 64 (by omega), nm_r e2' ?_⟩⟩))
      refine ck_wnW true rfl rfl h256' hg (ck_wnW false rfl rfl h256' hg ?_)
      dsimp only
      simp only [ck_solve] at h
      revert h h1 h2
      generalize ck_wn g l false 8 0 0 0 = bz
      generalize ck_wn g l true 8 0 0 0 = lz
      intro h h1 h2
      cases bz with
      | zero =>
        refine br_f ck_s_neg.2 (pk_le best t (fun z => nm_r (nI_1 r) ?_) (fun z => nm_r (nI_1 r) ?_))
        · exact ih best (r + 1) q a2 a3 hw (by omega) (by omega) hb (by simpa only [if_pos z] using h)
        · exact ih t (r + 1) q a2 a3 hw (by omega) (by omega) (by omega) (by simpa only [if_neg (show ¬ best ≤ t by omega)] using h)
      | succ b =>
        have hbb : b < 8 := by omega
        refine br_t (show (0 : Int32) ≤ nI b from nI_pos' (by omega)) ?_
        by_cases z : best ≤ t + 1
        · have h' : ck_solve g n best q = some res := by simpa only [if_pos z] using h
          have hJ := ih best (r + 1) q a2 a3 hw (by omega) (by omega) hb h'
          exact pk_le best (t + 1) (fun _ => ck_137 hg hbb h256' (by omega) (by omega) hb (fun _ => hJ) (fun z' => absurd z' (by omega))) (fun z' => absurd z (by omega)) (hy := nI_1 t)
        · refine pk_le best (t + 1) (fun z' => absurd z' z) (fun z' => ?_) (hy := nI_1 t)
          simp only [if_neg z] at h
          cases lz with
          | zero =>
            refine br_t ck_s_neg.1 (ck_137 hg hbb h256' (by omega) (by omega) hb (fun z2 => absurd z2 z) (fun _ => ?_))
            have hbl : g b &&& l < 256 := ck_and_lt (hg b hbb).2
            have hpc := ck_pc_le _ hbl
            exact ih best (r + 1) ((ck_d l (1 <<< b), t + 1) :: (ck_d (ck_d l (g b &&& l)) (1 <<< b), t + ck_pc (g b &&& l)) :: q) _ _
              ⟨pk_us, pk_us, ck_d_lt h256', (by show t + 1 + 8 * n ≤ 100; omega), by rw [pk_un (show q.length ≠ q.length + 1 by omega), pk_us], by rw [pk_un (show q.length ≠ q.length + 1 by omega), pk_us], ck_d_lt (ck_d_lt h256'), (by show t + ck_pc (g b &&& l) + 8 * n ≤ 100; omega), ck_St_u q (by omega) (ck_St_u q (by omega) hw)⟩
              (by omega) (by show q.length + 1 + 1 + n ≤ 60; omega) hb h
          | succ c =>
            have hc : c < 8 := by omega
            refine br_f (show ¬ nI c < 0 from nI_pos (by omega)) ⟨pk_in c 8 hc, ?_⟩
            refine ck_push q.length (ck_d l (g c)) (t + 1) (by omega) (ck_d_lt h256') (by omega) (by show nI l &&& (a1 (nI c).toNatClampNeg ^^^ (-1)) = _; rw [ck_Ga hg hc, ck_dI h256']) (nI_1 t) (nm_r (nI_1 r) ?_)
            exact ih best (r + 1) ((ck_d l (g c), t + 1) :: q) _ _ ⟨pk_us, pk_us, ck_d_lt h256', (by show t + 1 + 8 * n ≤ 100; omega), ck_St_u q (by omega) hw⟩ (by omega) (by show q.length + 1 + n ≤ 60; omega) hb h
theorem ck_solve_le {r : Nat} : ∀ n best (st : List (Nat × Nat)), ck_solve g n best st = some r → r ≤ best := by
  intro n
  induction n with
  | zero =>
    intro best st h
    cases st with
    | nil =>
      have e : some best = some r := h
      rw [Option.some.inj e]
      exact Nat.le_refl _
    | cons p q =>
      have e : none = some r := h
      cases e
  | succ n ih =>
    intro best st h
    cases st with
    | nil =>
      have e : some best = some r := h
      rw [Option.some.inj e]
      exact Nat.le_refl _
    | cons p q =>
      obtain ⟨l, t⟩ := p
      simp only [ck_solve] at h
      split at h
      · have h2 := ih _ _ h
        split at h2 <;> omega
      · split at h
        · exact ih _ _ h
        · split at h
          · exact ih _ _ h
          · exact ih _ _ h
theorem ck_sol_le {s r : Nat} (h : ck_sol g s = some r) : r ≤ 100 := ck_solve_le _ _ _ h
theorem ck_solW {post : Int32 → St2 → Prop} {x : Int32} {s res : Nat} (hx : x = nI s) (hs : s < 256) (hg : ck_G g a1) (h : ck_sol g s = some res)
    (hp : ∀ (f : Int32) (b2 b3 b4 b5 b6 b7 b8 b9 b10 : Nat → Int32), post (nI res) (f, a1, b2, b3, b4, b5, b6, b7, b8, b9, b10)) : wpX_solve post (f0, a1, a2, a3, a4, a5, a6, a7, a8, a9, a10) x := by
  subst hx
  unfold wpX_solve
  exact ck_push 0 s 0 (by omega) hs (by omega) rfl rfl (Exists.intro 12 (ck_sol16 hg (fun f b2 b3 => hp f b2 b3 _ _ _ _ _ _ _) 11 100 0 [(s, 0)] _ _ ⟨pk_us, pk_us, hs, (by show 0 + 8 * 11 ≤ 100; omega), trivial⟩ (by omega) (by show 1 + 11 ≤ 60; omega) (by omega) h))
theorem ck_leastW {post : Int32 → St2 → Prop} {res : Nat} (hg : ck_G g a1) (h : ck_sol g 255 = some res)
    (hp : ∀ (f : Int32) (b2 b3 b4 b5 b6 b7 b8 b9 b10 : Nat → Int32), post (nI res) (f, a1, b2, b3, b4, b5, b6, b7, b8, b9, b10)) : wpX_least post (f0, a1, a2, a3, a4, a5, a6, a7, a8, a9, a10) := by
  unfold wpX_least
  exact ck_solW rfl (by decide) hg h hp
theorem ck_forced_le {i o c : Nat} (hg : ∀ v, v < 8 → g v < 256) (hi : i < 256) (h : ck_forced g i o = some c) : c ≤ 110 := by
  unfold ck_forced at h
  split at h
  · split at h
    · cases h
    · rename_i r hr
      have h1 := ck_sol_le hr
      have h2 := ck_pc_le (i ||| ck_an g o 8 0 0) (ck_or_lt hi (ck_an_lt hg 8 0 0 rfl (by omega)))
      have h3 := Option.some.inj h
      omega
  · have h3 := Option.some.inj h
    omega
theorem ck_forcedW {post : Int32 → St2 → Prop} {x y : Int32} {i o c : Nat} (hx : x = nI i) (hy : y = nI o) (hi : i < 256) (ho : o < 256) (hg : ck_G g a1) (h : ck_forced g i o = some c)
    (hp : ∀ (f : Int32) (b2 b3 b4 b5 b6 b7 b8 b9 b10 : Nat → Int32), post (ck_s c) (f, a1, b2, b3, b4, b5, b6, b7, b8, b9, b10)) : wpX_forced post (f0, a1, a2, a3, a4, a5, a6, a7, a8, a9, a10) x y := by
  subst hx hy
  unfold wpX_forced
  have hm : i ||| ck_an g o 8 0 0 < 256 := ck_or_lt hi (ck_an_lt (fun v hv => (hg v hv).2) 8 0 0 rfl (by omega))
  unfold ck_forced at h
  refine ck_anW rfl ho hg (nm_r (ck_or _ _) ?_)
  generalize i ||| ck_an g o 8 0 0 = m at h hm ⊢
  refine pk_eq (m &&& o) 0 (fun z => ?_) (fun z => ?_) (hx := ck_and m o) (ha := Nat.lt_trans (ck_and_lt hm) (by omega))
  · rw [if_pos z] at h
    cases hs : ck_sol g (ck_d (ck_d 255 m) o) with
    | none => rw [hs] at h; cases h
    | some r =>
      rw [hs] at h
      have e : ck_pc m + r + 1 = c := Option.some.inj h
      refine ck_ones rfl hm (ck_solW (s := ck_d (ck_d 255 m) o) ?_ (ck_d_lt (ck_d_lt (by omega))) hg hs (fun f b2 b3 b4 b5 b6 b7 b8 b9 b10 => ?_))
      · show (nI 255 &&& (nI m ^^^ (-1))) &&& (nI o ^^^ (-1)) = _
        rw [ck_dI (by omega), ck_dI (ck_d_lt (by omega))]
      · have h2 := hp f b2 b3 b4 b5 b6 b7 b8 b9 b10
        rw [← e] at h2
        show post (nI (ck_pc m) + nI r) (f, a1, b2, b3, b4, b5, b6, b7, b8, b9, b10)
        rw [nI_add]
        exact h2
  · rw [if_neg z] at h
    have e : 0 = c := Option.some.inj h
    rw [← e] at hp
    exact hp _ _ _ _ _ _ _ _ _ _
theorem ck_leastWithW {post : Int32 → St2 → Prop} {x y : Int32} {i o c : Nat} (hx : x = nI i) (hy : y = nI o) (hi : i < 256) (ho : o < 256) (hg : ck_G g a1) (h : ck_forced g i o = some c)
    (hp : ∀ (f : Int32) (b2 b3 b4 b5 b6 b7 b8 b9 b10 : Nat → Int32), post (ck_s c) (f, a1, b2, b3, b4, b5, b6, b7, b8, b9, b10)) : wpX_leastWith post (f0, a1, a2, a3, a4, a5, a6, a7, a8, a9, a10) x y := by
  subst hx hy
  unfold wpX_leastWith
  exact pk_lt i 0 (fun z => absurd z (by omega)) (fun _ => pk_lt 255 i (fun z => absurd z (by omega)) (fun _ => pk_lt o 0 (fun z => absurd z (by omega)) (fun _ => pk_le o 255 (fun _ => ck_forcedW rfl rfl hi ho hg h hp) (fun z => absurd z (by omega)))))
end
theorem ck_alw9 {g : Nat → Nat} {a1 : Nat → Int32} {post : Int32 → St2 → Prop} (hg : ck_G g a1) {goal res : Nat} (hgo : goal ≤ 100) (hp : ∀ (f : Int32) (b2 b3 b4 b5 b6 b7 b8 b9 b10 : Nat → Int32), post (nI res) (f, a1, b2, b3, b4, b5, b6, b7, b8, b9, b10)) :
    ∀ k v s (f0 : Int32) (a2 a3 a4 a5 a6 a7 a8 a9 a10 : Nat → Int32), v + k = 8 → ck_alw g goal k v s = some res → wX_always_9 post (nI goal) (k + 1) (nI s) (nI v) f0 a1 a2 a3 a4 a5 a6 a7 a8 a9 a10 := by
  intro k
  induction k with
  | zero =>
    intro v s f0 a2 a3 a4 a5 a6 a7 a8 a9 a10 e h
    have e2 : some s = some res := h
    rw [Option.some.inj e2]
    exact pk_le 8 v (fun _ => hp _ _ _ _ _ _ _ _ _ _) (fun z => absurd z (by omega))
  | succ k ih =>
    intro v s f0 a2 a3 a4 a5 a6 a7 a8 a9 a10 e h
    simp only [ck_alw] at h
    cases hf : ck_forced g 0 (1 <<< v) with
    | none => rw [hf] at h; cases h
    | some c =>
      rw [hf] at h
      have h' : ck_alw g goal k (v + 1) (if c = goal + 1 then s else s ||| 1 <<< v) = some res := h
      have hc : c ≤ 110 := ck_forced_le (fun v hv => (hg v hv).2) (by first | omega | exact ck_one_lt v (by omega)) hf
      refine pk_le 8 v (fun z => absurd z (by omega)) (fun _ => ck_forcedW rfl (ck_one v (by omega)) (by decide) (ck_one_lt v (by omega)) hg hf (fun f b2 b3 b4 b5 b6 b7 b8 b9 b10 => ek_if (ck_s_eq (p := c) (u := goal) (by omega) (by omega)) (fun z => ?_) (fun z => ?_)))
      · rw [if_pos z] at h'
        exact nm_r (ck_or0 s) (nm_r (nI_1 v) (ih (v + 1) s f b2 b3 b4 b5 b6 b7 b8 b9 b10 (by omega) h'))
      · rw [if_neg z] at h'
        exact nm_r (e' := nI (s ||| 1 <<< v)) (by rw [ck_one v (by omega), ck_or]) (nm_r (nI_1 v) (ih (v + 1) (s ||| 1 <<< v) f b2 b3 b4 b5 b6 b7 b8 b9 b10 (by omega) h'))
theorem ck_alwaysW {g : Nat → Nat} {f0 : Int32} {a1 a2 a3 a4 a5 a6 a7 a8 a9 a10 : Nat → Int32} {post : Int32 → St2 → Prop} (hg : ck_G g a1) {goal res : Nat} (h0 : ck_sol g 255 = some goal) (h : ck_alw g goal 8 0 0 = some res)
    (hp : ∀ (f : Int32) (b2 b3 b4 b5 b6 b7 b8 b9 b10 : Nat → Int32), post (nI res) (f, a1, b2, b3, b4, b5, b6, b7, b8, b9, b10)) : wpX_always post (f0, a1, a2, a3, a4, a5, a6, a7, a8, a9, a10) := by
  unfold wpX_always
  exact ck_leastW hg h0 (fun f b2 b3 b4 b5 b6 b7 b8 b9 b10 => Exists.intro 9 (ck_alw9 hg (ck_sol_le h0) hp 8 0 0 f b2 b3 b4 b5 b6 b7 b8 b9 b10 rfl h))
theorem ck_nev9 {g : Nat → Nat} {a1 : Nat → Int32} {post : Int32 → St2 → Prop} (hg : ck_G g a1) {goal res : Nat} (hgo : goal ≤ 100) (hp : ∀ (f : Int32) (b2 b3 b4 b5 b6 b7 b8 b9 b10 : Nat → Int32), post (nI res) (f, a1, b2, b3, b4, b5, b6, b7, b8, b9, b10)) :
    ∀ k v s (f0 : Int32) (a2 a3 a4 a5 a6 a7 a8 a9 a10 : Nat → Int32), v + k = 8 → ck_nev g goal k v s = some res → wX_never_9 post (nI goal) (k + 1) (nI s) (nI v) f0 a1 a2 a3 a4 a5 a6 a7 a8 a9 a10 := by
  intro k
  induction k with
  | zero =>
    intro v s f0 a2 a3 a4 a5 a6 a7 a8 a9 a10 e h
    have e2 : some s = some res := h
    rw [Option.some.inj e2]
    exact pk_le 8 v (fun _ => hp _ _ _ _ _ _ _ _ _ _) (fun z => absurd z (by omega))
  | succ k ih =>
    intro v s f0 a2 a3 a4 a5 a6 a7 a8 a9 a10 e h
    simp only [ck_nev] at h
    cases hf : ck_forced g (1 <<< v) 0 with
    | none => rw [hf] at h; cases h
    | some c =>
      rw [hf] at h
      have h' : ck_nev g goal k (v + 1) (if c = goal + 1 then s else s ||| 1 <<< v) = some res := h
      have hc : c ≤ 110 := ck_forced_le (fun v hv => (hg v hv).2) (by first | omega | exact ck_one_lt v (by omega)) hf
      refine pk_le 8 v (fun z => absurd z (by omega)) (fun _ => ck_forcedW (ck_one v (by omega)) rfl (ck_one_lt v (by omega)) (by decide) hg hf (fun f b2 b3 b4 b5 b6 b7 b8 b9 b10 => ek_if (ck_s_eq (p := c) (u := goal) (by omega) (by omega)) (fun z => ?_) (fun z => ?_)))
      · rw [if_pos z] at h'
        exact nm_r (ck_or0 s) (nm_r (nI_1 v) (ih (v + 1) s f b2 b3 b4 b5 b6 b7 b8 b9 b10 (by omega) h'))
      · rw [if_neg z] at h'
        exact nm_r (e' := nI (s ||| 1 <<< v)) (by rw [ck_one v (by omega), ck_or]) (nm_r (nI_1 v) (ih (v + 1) (s ||| 1 <<< v) f b2 b3 b4 b5 b6 b7 b8 b9 b10 (by omega) h'))
theorem ck_neverW {g : Nat → Nat} {f0 : Int32} {a1 a2 a3 a4 a5 a6 a7 a8 a9 a10 : Nat → Int32} {post : Int32 → St2 → Prop} (hg : ck_G g a1) {goal res : Nat} (h0 : ck_sol g 255 = some goal) (h : ck_nev g goal 8 0 0 = some res)
    (hp : ∀ (f : Int32) (b2 b3 b4 b5 b6 b7 b8 b9 b10 : Nat → Int32), post (nI res) (f, a1, b2, b3, b4, b5, b6, b7, b8, b9, b10)) : wpX_never post (f0, a1, a2, a3, a4, a5, a6, a7, a8, a9, a10) := by
  unfold wpX_never
  exact ck_leastW hg h0 (fun f b2 b3 b4 b5 b6 b7 b8 b9 b10 => Exists.intro 9 (ck_nev9 hg (ck_sol_le h0) hp 8 0 0 f b2 b3 b4 b5 b6 b7 b8 b9 b10 rfl h))
section
variable {g : Nat → Nat} {f0 : Int32} {a1 a2 a3 a4 a5 a6 a7 a8 a9 a10 : Nat → Int32}
theorem ck_cov2 {post : Int32 → Prop} {s : Nat} (hs : s < 256) (hg : ck_G g a1) (hp : post 1) : ∀ k v, v + k = 8 → ck_cov g s k v = true → wX_isCover_2 post (nI s) f0 a1 a2 a3 a4 a5 a6 a7 a8 a9 a10 (k + 1) (nI v)
  | 0, v, e, h => pk_le 8 v (fun _ => hp) (fun z => absurd z (by omega))
  | k + 1, v, e, h => pk_le 8 v (fun z => absurd z (by omega)) (fun _ => ck_inW rfl rfl hs (by omega)
      (fun z => br_t rfl ⟨pk_in v 8 (by omega), pk_eq (ck_d (g v) s) 0
        (fun z2 => nm_r (nI_1 v) (ck_cov2 hs hg hp k (v + 1) (by omega) (by rw [ck_cov, if_neg (ck_nf z), if_pos z2] at h; exact h)))
        (fun z2 => absurd h (by rw [ck_cov, if_neg (ck_nf z), if_neg z2]; exact Bool.false_ne_true))
        (hx := by rw [ck_Ga hg (by omega), ck_dI (hg v (by omega)).2]) (ha := Nat.lt_trans (ck_d_lt (hg v (by omega)).2) (by omega))⟩)
      (fun z => br_f (by decide) (nm_r (nI_1 v) (ck_cov2 hs hg hp k (v + 1) (by omega) (by rw [ck_cov, if_pos z] at h; exact h)))))
theorem ck_coversW {post : Int32 → Prop} {x : Int32} {s : Nat} (hx : x = nI s) (hs : s < 256) (hg : ck_G g a1) (h : ck_cov g s 8 0 = true) (hp : post 1) : wpX_covers post (f0, a1, a2, a3, a4, a5, a6, a7, a8, a9, a10) x := by
  subst hx
  unfold wpX_covers
  exact pk_lt s 0 (fun z => absurd z (by omega)) (fun _ => pk_lt 255 s (fun z => absurd z (by omega)) (fun _ => Exists.intro 9 (ck_cov2 (post := fun r => (r = 0 → post 0) ∧ (¬ r = 0 → post 1)) hs hg (br_f (by decide) hp) 8 0 rfl h)))
theorem ck_neighboursW {post : Int32 → Prop} {x : Int32} {v : Nat} (hx : x = nI v) (hv : v < 8) (hg : ck_G g a1) (hp : post (nI (g v))) : wpX_neighbours post (f0, a1, a2, a3, a4, a5, a6, a7, a8, a9, a10) x := by
  subst hx
  unfold wpX_neighbours
  exact ck_vertex rfl hv (br_f (by decide) ⟨pk_in v 8 hv, by rw [ck_Ga hg hv]; exact hp⟩)
theorem ck_edg4 {post : Int32 → Prop} (hg : ck_G g a1) : ∀ k v acc, v + k = 8 → acc ≤ 8 * v → post (nI (ck_edg g k v acc / 2)) → wX_edges_4 post f0 a1 a2 a3 a4 a5 a6 a7 a8 a9 a10 (k + 1) (nI acc) (nI v)
  | 0, v, acc, e, ha, h => pk_le 8 v (fun _ => ⟨by decide, by rw [show (2 : Int32) = nI 2 from rfl, pk_div (by omega) (by omega) (by omega)]; exact h⟩) (fun z => absurd z (by omega))
  | k + 1, v, acc, e, ha, h => pk_le 8 v (fun z => absurd z (by omega)) (fun _ => ⟨pk_in v 8 (by omega), ck_ones (ck_Ga hg (by omega)) (hg v (by omega)).2 (nm_r (nI_add _ _) (nm_r (nI_1 v) (ck_edg4 hg k (v + 1) (acc + ck_pc (g v)) (by omega) (by have := ck_pc_le (g v) (hg v (by omega)).2; omega) h)))⟩)
theorem ck_edgesW {post : Int32 → Prop} (hg : ck_G g a1) (hp : post (nI (ck_edg g 8 0 0 / 2))) : wpX_edges post (f0, a1, a2, a3, a4, a5, a6, a7, a8, a9, a10) := by
  unfold wpX_edges
  exact Exists.intro 9 (ck_edg4 hg 8 0 0 rfl (by omega) hp)
end
end
section
/-! matchings with every vertex twice -/
def ck_PR (P : Nat → Nat) (a : Nat → Int32) : Prop := ∀ w, w < 8 → a w = ck_s (P w) ∧ P w ≤ 8
def ck_CR (C : Nat → Nat) (a : Nat → Int32) : Prop := ∀ w, w < 8 → ∀ u, C w = u + 1 → a w = nI u ∧ u < 8
def ck_LR (L : Nat → Nat) (en : Nat) (a : Nat → Int32) : Prop := ∀ i, i < en → a i = nI (L i) ∧ L i < 8
theorem ck_PR_u {P : Nat → Nat} {a : Nat → Int32} (h : ck_PR P a) {w u : Nat} (hu : u < 8) : ck_PR (ck_up P w (u + 1)) (upd a w (nI u)) := by
  intro j hj
  by_cases e : j = w
  · subst e
    rw [pk_us, ck_up_s]
    exact ⟨rfl, hu⟩
  · rw [pk_un e, ck_up_n e]
    exact h j hj
theorem ck_CR_u {C : Nat → Nat} {a : Nat → Int32} (h : ck_CR C a) {w u : Nat} (hu : u < 8) : ck_CR (ck_up C w (u + 1)) (upd a w (nI u)) := by
  intro j hj
  by_cases e : j = w
  · subst e
    rw [pk_us, ck_up_s]
    intro x hx
    have e2 : u = x := by omega
    rw [← e2]
    exact ⟨rfl, hu⟩
  · rw [pk_un e, ck_up_n e]
    exact h j hj
theorem ck_LR_u {L : Nat → Nat} {a : Nat → Int32} {en : Nat} (h : ck_LR L en a) {q : Nat} (hq : q < 8) : ck_LR (ck_up L en q) (en + 1) (upd a en (nI q)) := by
  intro j hj
  by_cases e : j = en
  · subst e
    rw [pk_us, ck_up_s]
    exact ⟨rfl, hq⟩
  · rw [pk_un e, ck_up_n e]
    exact h j (by omega)
theorem ck_add0 (n : Nat) : nI n + 0 = nI n := nI_add n 0
section
variable {g : Nat → Nat} {f0 : Int32} {a1 a2 a3 a4 a5 a6 a7 a8 a9 a10 : Nat → Int32}
theorem ck_pl_le {P : Nat → Nat} {u : Nat} : ∀ k w, w + k = 8 → ck_pl P u k w ≤ 8
  | 0, w, e => by show 0 ≤ 8; omega
  | k + 1, w, e => by
    rw [ck_pl]
    split
    · omega
    · exact ck_pl_le k (w + 1) (by omega)
theorem ck_pl2 {post : Int32 → Prop} {P : Nat → Nat} {u : Nat} (hP : ck_PR P a4) (hu : u < 8) : ∀ k w, w + k = 8 → post (ck_s (ck_pl P u k w)) → wX_placeOf_2 post (nI u) f0 a1 a2 a3 a4 a5 a6 a7 a8 a9 a10 (k + 1) (nI w)
  | 0, w, e, h => pk_le 8 w (fun _ => h) (fun z => absurd z (by omega))
  | k + 1, w, e, h => pk_le 8 w (fun z => absurd z (by omega)) (fun _ => ⟨pk_in w 8 (by omega), ek_if (d := P w = u + 1)
      (by rw [nI_clamp (by omega), (hP w (by omega)).1]; exact ck_s_eq (by have := (hP w (by omega)).2; omega) (by omega))
      (fun z => by rw [ck_pl, if_pos z] at h; exact h)
      (fun z => nm_r (nI_1 w) (ck_pl2 hP hu k (w + 1) (by omega) (by rw [ck_pl, if_neg z] at h; exact h)))⟩)
theorem ck_plW {post : Int32 → Prop} {P : Nat → Nat} {x : Int32} {u : Nat} (hx : x = nI u) (hP : ck_PR P a4) (hu : u < 8) (h : post (ck_s (ck_pl P u 8 0))) : wpX_placeOf post (f0, a1, a2, a3, a4, a5, a6, a7, a8, a9, a10) x := by
  subst hx
  exact Exists.intro 9 (ck_pl2 hP hu 8 0 rfl h)
theorem ck_chg5 {post : St2 → Prop} {C : Nat → Nat} {start : Nat} (hC : ck_CR C a5) (hs : start < 8) {P' : Nat → Nat} (hp : ∀ b4, ck_PR P' b4 → post (f0, a1, a2, a3, b4, a5, a6, a7, a8, a9, a10)) :
    ∀ k i wc P a4, i + k = 8 → wc ≤ 8 → ck_PR P a4 → ck_chg C start k wc P = some P' → wX_change_5 post (nI start) f0 (k + 1) (ck_s wc) (nI i) a1 a2 a3 a4 a5 a6 a7 a8 a9 a10 := by
  intro k
  induction k with
  | zero =>
    intro i wc P a4 e hw hP h
    have e2 : some P = some P' := h
    have e3 := Option.some.inj e2
    subst e3
    exact pk_le 8 i (fun _ => hp a4 hP) (fun z => absurd z (by omega))
  | succ k ih =>
    intro i wc P a4 e hw hP h
    refine pk_le 8 i (fun z => absurd z (by omega)) (fun _ => ?_)
    cases wc with
    | zero =>
      have e2 : some P = some P' := h
      have e3 := Option.some.inj e2
      subst e3
      exact br_t ck_s_neg.1 (hp a4 hP)
    | succ w =>
      have hw8 : w < 8 := by omega
      refine br_f (show ¬ nI w < 0 from nI_pos (by omega)) ⟨pk_in w 8 hw8, ?_⟩
      simp only [ck_chg] at h
      cases hc : C w with
      | zero => rw [hc] at h; cases h
      | succ u =>
        rw [hc] at h
        have h' : ck_chg C start k (if u = start then 0 else ck_pl P u 8 0) (ck_up P w (u + 1)) = some P' := h
        have hu := hC w hw8 u hc
        have hJ : ∀ nx, nx ≤ 8 → ck_chg C start k nx (ck_up P w (u + 1)) = some P' → wX_change_40 post (wX_change_5 post (nI start) f0 (k + 1)) (nI start) (nI w) (nI i) (nI u) (ck_s nx) f0 a1 a2 a3 a4 a5 a6 a7 a8 a9 a10 := fun nx hn hx =>
          And.intro (pk_in w 8 hw8) (nm_r (e' := upd a4 w (nI u)) (by rw [nI_clamp (by omega), ck_s8 u (by omega)]) (nm_r (nI_1 i) (ih (i + 1) nx (ck_up P w (u + 1)) (upd a4 w (nI u)) (by omega) hn (ck_PR_u hP hu.2) hx)))
        refine nm_r (e' := nI u) (by show a5 (nI w).toNatClampNeg = _; rw [nI_clamp (by omega)]; exact hu.1) ?_
        refine pk_eq u start (fun z => ?_) (fun z => ?_)
        · rw [if_pos z] at h'
          exact hJ 0 (by omega) h'
        · rw [if_neg z] at h'
          exact ck_plW rfl hP hu.2 (hJ _ (ck_pl_le 8 0 rfl) h')
theorem ck_chgW {post : St2 → Prop} {x y : Int32} {C P P' : Nat → Nat} {start w : Nat} (hx : x = nI w) (hy : y = nI start) (hC : ck_CR C a5) (hP : ck_PR P a4) (hs : start < 8) (hw : w < 8) (h : ck_chg C start 8 (w + 1) P = some P')
    (hp : ∀ b4, ck_PR P' b4 → post (f0, a1, a2, a3, b4, a5, a6, a7, a8, a9, a10)) : wpX_change post (f0, a1, a2, a3, a4, a5, a6, a7, a8, a9, a10) x y := by
  subst hx hy
  exact Exists.intro 9 (ck_chg5 hC hs hp 8 0 (w + 1) P a4 rfl (by omega) hP h)
theorem ck_a42 {post : Int32 → St2 → Prop} {J : Int32 → Int32 → Int32 → (Nat → Int32) → (Nat → Int32) → (Nat → Int32) → (Nat → Int32) → (Nat → Int32) → (Nat → Int32) → (Nat → Int32) → (Nat → Int32) → (Nat → Int32) → (Nat → Int32) → Prop}
    {K : Nat → Nat → (Nat → Nat) → (Nat → Nat) → Option (Bool × (Nat → Nat))} {right u start kx : Nat} {P : Nat → Nat} {res : Bool × (Nat → Nat)}
    (hg : ck_G g a1) (hu : u < 8) (hs : start < 8) (hP : ck_PR P a4)
    (hp : ∀ b4 b5 b6, ck_PR res.2 b4 → post (ck_lb res.1) (f0, a1, a2, a3, b4, b5, b6, a7, a8, a9, a10))
    (hJ : ∀ seen en L C b5 b6, en ≤ 10 → ck_LR L en b6 → ck_CR C b5 → K seen en L C = some res → J (nI seen) (nI en) (nI (kx + 1)) a1 a2 a3 a4 b5 b6 a7 a8 a9 a10) :
    ∀ k w seen en L C a5 a6, w + k = 8 → en ≤ 10 → ck_LR L en a6 → ck_CR C a5 → ck_ain g right u start P K k w seen en L C = some res → wX_augment_42 post J (nI start) (nI right) (nI kx) (nI u) f0 (k + 1) (nI seen) (nI en) (nI w) a1 a2 a3 a4 a5 a6 a7 a8 a9 a10 := by
  intro k
  induction k with
  | zero =>
    intro w seen en L C a5 a6 e hen hL hC h
    exact pk_le 8 w (fun _ => nm_r (nI_1 kx) (hJ seen en L C a5 a6 hen hL hC h)) (fun z => absurd z (by omega))
  | succ k ih =>
    intro w seen en L C a5 a6 e hen hL hC h
    have hw : w < 8 := by omega
    have hgr : g u &&& right < 256 := ck_and_lt (hg u hu).2
    simp only [ck_ain] at h
    refine pk_le 8 w (fun z => absurd z (by omega)) (fun _ => ⟨pk_in u 8 hu, ck_inW (s := ck_d (g u &&& right) seen) (by rw [ck_Ga hg hu, ck_and, ck_dI hgr]) rfl (ck_d_lt hgr) hw (fun z => br_t rfl (nm_r (nI_1 w) ?_)) (fun z => br_f (by decide) (nm_r (e' := nI (seen ||| 1 <<< w)) (by rw [ck_one w (by omega), ck_or]) ⟨pk_in w 8 hw, nm_r (e' := upd a5 w (nI u)) (by rw [nI_clamp (by omega), ck_s8 u (by omega)]) ⟨pk_in w 8 hw, ?_⟩⟩))⟩)
    · rw [if_neg (ck_nf z)] at h
      exact ih (w + 1) seen en L C a5 a6 (by omega) hen hL hC h
    · rw [if_pos z] at h
      have ea : a4 (nI w).toNatClampNeg = ck_s (P w) := by rw [nI_clamp (by omega)]; exact (hP w hw).1
      have eb : P w ≤ 8 := (hP w hw).2
      rw [ea]
      have hC' := ck_CR_u (w := w) hC hu
      cases hPw : P w with
      | zero =>
        rw [hPw] at h
        refine br_f ck_s_neg.2 ?_
        cases hc : ck_chg (ck_up C w (u + 1)) start 8 (w + 1) P with
        | none => simp only [hc] at h; cases h
        | some P' =>
          simp only [hc] at h
          have e3 : (true, P') = res := Option.some.inj h
          subst e3
          exact ck_chgW rfl rfl hC' hP hs hw hc (fun b4 hb => hp b4 _ _ hb)
      | succ q =>
        rw [hPw] at h eb
        refine br_t (show (0 : Int32) ≤ nI q from nI_pos' (by omega)) ?_
        by_cases hen' : en < 10
        · simp only [if_pos hen'] at h
          exact ⟨pk_in w 8 hw, pk_in en 10 hen', nm_r (e' := upd a6 en (nI q)) (by rw [nI_clamp (by omega), vp_nar_byte]; show upd a6 en (nI q).toInt8.toInt32 = _; rw [ck_s8 q (by omega)])
            (nm_r (nI_1 en) (nm_r (nI_1 w) (ih (w + 1) _ (en + 1) (ck_up L en q) (ck_up C w (u + 1)) (upd a5 w (nI u)) (upd a6 en (nI q)) (by omega) (by omega) (ck_LR_u hL (by omega)) hC' h)))⟩
        · simp only [if_neg hen'] at h
          cases h
theorem ck_a16 {post : Int32 → St2 → Prop} {right start : Nat} {P : Nat → Nat} {res : Bool × (Nat → Nat)} (hg : ck_G g a1) (hs : start < 8) (hP : ck_PR P a4)
    (hp : ∀ b4 b5 b6, ck_PR res.2 b4 → post (ck_lb res.1) (f0, a1, a2, a3, b4, b5, b6, a7, a8, a9, a10)) :
    ∀ n kx seen en L C a5 a6, kx + n ≤ 20 → en ≤ 10 → ck_LR L en a6 → ck_CR C a5 → ck_aout g right start P n kx seen en L C = some res → wX_augment_16 post (nI start) (nI right) f0 n (nI seen) (nI en) (nI kx) a1 a2 a3 a4 a5 a6 a7 a8 a9 a10 := by
  intro n
  induction n with
  | zero =>
    intro kx seen en L C a5 a6 hk hen hL hC h
    have e2 : none = some res := h
    cases e2
  | succ n ih =>
    intro kx seen en L C a5 a6 hk hen hL hC h
    simp only [ck_aout] at h
    refine pk_le en kx (fun z => ?_) (fun z => ?_)
    · rw [if_pos z] at h
      have e3 : (false, P) = res := Option.some.inj h
      subst e3
      exact hp a4 a5 a6 hP
    · rw [if_neg (by omega)] at h
      refine pk_lt 8 kx (fun z2 => ?_) (fun z2 => ⟨pk_in kx 10 (by omega), nm_r (e' := nI (L kx)) (by rw [nI_clamp (by omega)]; exact (hL kx z).1) ?_⟩)
      · rw [if_pos z2] at h
        have e3 : (false, P) = res := Option.some.inj h
        subst e3
        exact hp a4 a5 a6 hP
      · rw [if_neg (by omega)] at h
        exact Exists.intro 9 (ck_a42 hg (hL kx z).2 hs hP hp (fun seen en L C b5 b6 h1 h2 h3 h4 => ih (kx + 1) seen en L C b5 b6 (by omega) h1 h2 h3 h4) 8 0 seen en L C a5 a6 rfl hen hL hC h)
theorem ck_augW {post : Int32 → St2 → Prop} {x y : Int32} {right start : Nat} {P : Nat → Nat} {res : Bool × (Nat → Nat)} (hx : x = nI start) (hy : y = nI right) (hg : ck_G g a1) (hs : start < 8) (hP : ck_PR P a4) (h : ck_aug g right start P = some res)
    (hp : ∀ b4 b5 b6, ck_PR res.2 b4 → post (ck_lb res.1) (f0, a1, a2, a3, b4, b5, b6, a7, a8, a9, a10)) : wpX_augment post (f0, a1, a2, a3, a4, a5, a6, a7, a8, a9, a10) x y := by
  subst hx hy
  unfold wpX_augment
  refine nm_r (e' := upd a6 0 (nI start)) (by rw [ck_s8 start (by omega)]) (Exists.intro 10 (ck_a16 hg hs hP hp 10 0 0 1 (fun _ => start) (fun _ => 0) a5 _ (by omega) (by omega) ?_ ?_ h))
  · intro i hi
    have e : i = 0 := by omega
    rw [e, pk_us]
    exact ⟨rfl, hs⟩
  · intro w hw u hu
    have e : (0 : Nat) = u + 1 := hu
    omega
end
theorem ck_m26 {g : Nat → Nat} {a1 : Nat → Int32} {post : Int32 → St2 → Prop} {left right res : Nat} (hg : ck_G g a1) (hl : left < 256) (hp : ∀ (f : Int32) (b2 b3 b4 b5 b6 b7 b8 b9 b10 : Nat → Int32), post (nI res) (f, a1, b2, b3, b4, b5, b6, b7, b8, b9, b10)) :
    ∀ k v n P (f0 : Int32) (a2 a3 a4 a5 a6 a7 a8 a9 a10 : Nat → Int32), v + k = 8 → ck_PR P a4 → ck_mt g left right k v n P = some res → wX_match_26 post (nI left) (nI right) (k + 1) (nI n) (nI v) f0 a1 a2 a3 a4 a5 a6 a7 a8 a9 a10 := by
  intro k
  induction k with
  | zero =>
    intro v n P f0 a2 a3 a4 a5 a6 a7 a8 a9 a10 e hP h
    have e2 : some n = some res := h
    rw [Option.some.inj e2]
    exact pk_le 8 v (fun _ => hp _ _ _ _ _ _ _ _ _ _) (fun z => absurd z (by omega))
  | succ k ih =>
    intro v n P f0 a2 a3 a4 a5 a6 a7 a8 a9 a10 e hP h
    have hv : v < 8 := by omega
    simp only [ck_mt] at h
    refine pk_le 8 v (fun z => absurd z (by omega)) (fun _ => ck_inW rfl rfl hl hv (fun z => br_t rfl (nm_r (ck_add0 n) (nm_r (nI_1 v) ?_))) (fun z => br_f (by decide) ?_))
    · rw [if_neg (ck_nf z)] at h
      exact ih (v + 1) n P f0 a2 a3 a4 a5 a6 a7 a8 a9 a10 (by omega) hP h
    · rw [if_pos z] at h
      cases ha : ck_aug g right v P with
      | none => rw [ha] at h; cases h
      | some r =>
        obtain ⟨b, P'⟩ := r
        rw [ha] at h
        refine ck_augW rfl rfl hg hv hP ha (fun b4 b5 b6 hb => ?_)
        cases b with
        | false => exact br_t rfl (nm_r (ck_add0 n) (nm_r (nI_1 v) (ih (v + 1) n P' _ _ _ _ _ _ _ _ _ _ (by omega) hb h)))
        | true => exact br_f (show ¬ ck_lb true = 0 by decide) (nm_r (nI_1 n) (nm_r (nI_1 v) (ih (v + 1) (n + 1) P' _ _ _ _ _ _ _ _ _ _ (by omega) hb h)))
section
variable {g : Nat → Nat} {f0 : Int32} {a1 a2 a3 a4 a5 a6 a7 a8 a9 a10 : Nat → Int32}
theorem ck_m2 {post : Int32 → St2 → Prop} {x1 x2 : Int32} (hf : ∀ b4, ck_PR (fun _ => 0) b4 → ∃ fu, wX_match_26 post x1 x2 fu 0 0 f0 a1 a2 a3 b4 a5 a6 a7 a8 a9 a10) :
    ∀ k v a4, v + k = 8 → (∀ w, w < v → a4 w = -1) → wX_match_2 post x1 x2 f0 (k + 1) (nI v) a1 a2 a3 a4 a5 a6 a7 a8 a9 a10
  | 0, v, a4, e, h => pk_le 8 v (fun _ => hf a4 (fun w hw => ⟨h w (by omega), Nat.zero_le 8⟩)) (fun z => absurd z (by omega))
  | k + 1, v, a4, e, h => pk_le 8 v (fun z => absurd z (by omega)) (fun _ => ⟨pk_in v 8 (by omega), nm_r (e' := upd a4 v (-1)) (by rw [nI_clamp (by omega)]) (nm_r (nI_1 v) (ck_m2 hf k (v + 1) (upd a4 v (-1)) (by omega) (fun w hw => by
      by_cases e2 : w = v
      · rw [e2, pk_us]
      · rw [pk_un e2]
        exact h w (by omega))))⟩)
theorem ck_matchW {post : Int32 → St2 → Prop} {x y : Int32} {left right res : Nat} (hx : x = nI left) (hy : y = nI right) (hl : left < 256) (hg : ck_G g a1) (h : ck_match g left right = some res)
    (hp : ∀ (f : Int32) (b2 b3 b4 b5 b6 b7 b8 b9 b10 : Nat → Int32), post (nI res) (f, a1, b2, b3, b4, b5, b6, b7, b8, b9, b10)) : wpX_match post (f0, a1, a2, a3, a4, a5, a6, a7, a8, a9, a10) x y := by
  subst hx hy
  unfold wpX_match
  exact Exists.intro 9 (ck_m2 (fun b4 hb => Exists.intro 9 (ck_m26 hg hl hp 8 0 0 (fun _ => 0) _ _ _ _ _ _ _ _ _ _ rfl hb h)) 8 0 a4 rfl (fun w hw => absurd hw (by omega)))
theorem ck_halvesW {post : Int32 → St2 → Prop} {res : Nat} (hg : ck_G g a1) (h : ck_match g 255 255 = some res) (hp : ∀ (f : Int32) (b2 b3 b4 b5 b6 b7 b8 b9 b10 : Nat → Int32), post (nI res) (f, a1, b2, b3, b4, b5, b6, b7, b8, b9, b10)) : wpX_halves post (f0, a1, a2, a3, a4, a5, a6, a7, a8, a9, a10) := by
  unfold wpX_halves
  exact ck_matchW rfl rfl (by decide) hg h hp
theorem ck_mt_le {left right r : Nat} : ∀ k v n P, ck_mt g left right k v n P = some r → r ≤ n + k := by
  intro k
  induction k with
  | zero =>
    intro v n P h
    have e2 : some n = some r := h
    rw [Option.some.inj e2]
    exact Nat.le_refl _
  | succ k ih =>
    intro v n P h
    simp only [ck_mt] at h
    split at h
    · split at h
      · cases h
      · have := ih _ _ _ h; omega
      · have := ih _ _ _ h; omega
    · have := ih _ _ _ h; omega
theorem ck_match_le {left right r : Nat} (h : ck_match g left right = some r) : r ≤ 8 := by
  have := ck_mt_le _ _ _ _ h
  omega
theorem ck_cost_le {v n c : Nat} (hv : g v < 256) (h : ck_cost g v n = some c) : c ≤ 30 := by
  have hpc := ck_pc_le _ hv
  unfold ck_cost at h
  split at h
  · split at h
    · cases h
    · rename_i r hr
      have := ck_match_le hr
      have := Option.some.inj h
      omega
  · split at h
    · split at h
      · cases h
      · rename_i r hr
        have := ck_match_le hr
        have := Option.some.inj h
        omega
    · split at h
      · cases h
      · rename_i r hr
        have := ck_match_le hr
        have := Option.some.inj h
        omega
theorem ck_costW {post : Int32 → St2 → Prop} {x y : Int32} {v n c : Nat} (hx : x = nI v) (hy : y = nI n) (hv : v < 8) (hn : n ≤ 2) (hg : ck_G g a1) (h : ck_cost g v n = some c)
    (hp : ∀ (f : Int32) (b2 b3 b4 b5 b6 b7 b8 b9 b10 : Nat → Int32), post (nI c) (f, a1, b2, b3, b4, b5, b6, b7, b8, b9, b10)) : wpX_costWith post (f0, a1, a2, a3, a4, a5, a6, a7, a8, a9, a10) x y := by
  subst hx hy
  unfold wpX_costWith
  have h255 : ck_d 255 (1 <<< v) < 256 := ck_d_lt (by omega)
  unfold ck_cost at h
  refine nm_r (e' := nI (ck_d 255 (1 <<< v))) ?_ ⟨pk_in v 8 hv, nm_r (e' := nI (ck_d (ck_d 255 (1 <<< v)) (g v))) ?_ ⟨pk_in v 8 hv, ck_ones (ck_Ga hg hv) (hg v hv).2 ?_⟩⟩
  · show nI 255 &&& (((1 : Int32) <<< (nI v &&& 31)) ^^^ (-1)) = _
    rw [ck_one v (by omega), ck_dI (by omega)]
  · rw [ck_Ga hg hv, ck_dI h255]
  · refine pk_eq n 2 (fun z => ?_) (fun z => pk_eq n 1 (fun z2 => ?_) (fun z2 => ?_))
    · rw [if_pos z] at h
      cases hm : ck_match g (ck_d 255 (1 <<< v)) (ck_d 255 (1 <<< v)) with
      | none => rw [hm] at h; cases h
      | some r =>
        rw [hm] at h
        have e : 2 + r = c := Option.some.inj h
        subst e
        exact ck_matchW rfl rfl h255 hg hm (fun f b2 b3 b4 b5 b6 b7 b8 b9 b10 => by
          show post (nI 2 + nI r) (f, a1, b2, b3, b4, b5, b6, b7, b8, b9, b10)
          rw [nI_add]
          exact hp f b2 b3 b4 b5 b6 b7 b8 b9 b10)
    · rw [if_neg z, if_pos z2] at h
      cases hm : ck_match g (ck_d (ck_d 255 (1 <<< v)) (g v)) (ck_d 255 (1 <<< v)) with
      | none => rw [hm] at h; cases h
      | some r =>
        rw [hm] at h
        have e : 1 + ck_pc (g v) + r = c := Option.some.inj h
        subst e
        exact ck_matchW rfl rfl (ck_d_lt h255) hg hm (fun f b2 b3 b4 b5 b6 b7 b8 b9 b10 => by
          show post ((nI 1 + nI (ck_pc (g v))) + nI r) (f, a1, b2, b3, b4, b5, b6, b7, b8, b9, b10)
          rw [nI_add, nI_add]
          exact hp f b2 b3 b4 b5 b6 b7 b8 b9 b10)
    · rw [if_neg z, if_neg z2] at h
      cases hm : ck_match g (ck_d (ck_d 255 (1 <<< v)) (g v)) (ck_d (ck_d 255 (1 <<< v)) (g v)) with
      | none => rw [hm] at h; cases h
      | some r =>
        rw [hm] at h
        have e : 2 * ck_pc (g v) + r = c := Option.some.inj h
        subst e
        exact ck_matchW rfl rfl (ck_d_lt h255) hg hm (fun f b2 b3 b4 b5 b6 b7 b8 b9 b10 => by
          show post ((nI 2 * nI (ck_pc (g v))) + nI r) (f, a1, b2, b3, b4, b5, b6, b7, b8, b9, b10)
          rw [pk_mul, nI_add]
          exact hp f b2 b3 b4 b5 b6 b7 b8 b9 b10)
theorem ck_canW {post : Int32 → St2 → Prop} {x y : Int32} {v n : Nat} {b : Bool} (hx : x = nI v) (hy : y = nI n) (hv : v < 8) (hn : n ≤ 2) (hg : ck_G g a1) (h : ck_can g v n = some b)
    (hp : ∀ (f : Int32) (b2 b3 b4 b5 b6 b7 b8 b9 b10 : Nat → Int32), post (ck_lb b) (f, a1, b2, b3, b4, b5, b6, b7, b8, b9, b10)) : wpX_canHave post (f0, a1, a2, a3, a4, a5, a6, a7, a8, a9, a10) x y := by
  subst hx hy
  unfold wpX_canHave
  unfold ck_can at h
  cases hh : ck_match g 255 255 with
  | none => rw [hh] at h; cases h
  | some m =>
    cases hc : ck_cost g v n with
    | none => simp only [hh, hc] at h; cases h
    | some c =>
      simp only [hh, hc] at h
      have e : Nat.beq c m = b := Option.some.inj h
      have hm8 := ck_match_le hh
      have hc8 := ck_cost_le (hg v hv).2 hc
      refine ck_vertex rfl hv (br_f (by decide) (pk_lt n 0 (fun z => absurd z (by omega)) (fun _ => pk_le n 2 (fun _ => ?_) (fun z => absurd z (by omega)))))
      refine ck_halvesW hg hh (fun f b2 b3 b4 b5 b6 b7 b8 b9 b10 => ck_costW rfl rfl hv hn hg hc (fun f b2 b3 b4 b5 b6 b7 b8 b9 b10 => pk_eq c m (fun z => ?_) (fun z => ?_)))
      · have e2 : b = true := by rw [← e, z]; exact Nat.beq_refl m
        subst e2
        exact hp f b2 b3 b4 b5 b6 b7 b8 b9 b10
      · have e2 : b = false := by
          rw [← e]
          exact Bool.eq_false_iff.mpr (fun t => z (Nat.eq_of_beq_eq_true t))
        subst e2
        exact hp f b2 b3 b4 b5 b6 b7 b8 b9 b10
theorem ck_evenlyW {post : Int32 → St2 → Prop} {res : Nat} (hg : ck_G g a1) (h : ck_match g 255 255 = some res) (hp : ∀ (f : Int32) (b2 b3 b4 b5 b6 b7 b8 b9 b10 : Nat → Int32), post (ck_lb (decide (res = 8))) (f, a1, b2, b3, b4, b5, b6, b7, b8, b9, b10)) : wpX_evenly post (f0, a1, a2, a3, a4, a5, a6, a7, a8, a9, a10) := by
  unfold wpX_evenly
  have h8 := ck_match_le h
  refine ck_halvesW hg h (fun f b2 b3 b4 b5 b6 b7 b8 b9 b10 => pk_eq res 8 (fun z => ?_) (fun z => ?_))
  · have h2 := hp f b2 b3 b4 b5 b6 b7 b8 b9 b10
    rw [decide_eq_true z] at h2
    exact h2
  · have h2 := hp f b2 b3 b4 b5 b6 b7 b8 b9 b10
    rw [decide_eq_false z] at h2
    exact h2
end
theorem ck_whole4 {g : Nat → Nat} {a1 : Nat → Int32} {post : Int32 → St2 → Prop} {res : Nat} (hg : ck_G g a1) (hp : ∀ (f : Int32) (b2 b3 b4 b5 b6 b7 b8 b9 b10 : Nat → Int32), post (nI res) (f, a1, b2, b3, b4, b5, b6, b7, b8, b9, b10)) :
    ∀ k v s (f0 : Int32) (a2 a3 a4 a5 a6 a7 a8 a9 a10 : Nat → Int32), v + k = 8 → ck_wb g 0 1 k v s = some res → wX_whole_4 post (k + 1) (nI s) (nI v) f0 a1 a2 a3 a4 a5 a6 a7 a8 a9 a10 := by
  intro k
  induction k with
  | zero =>
    intro v s f0 a2 a3 a4 a5 a6 a7 a8 a9 a10 e h
    have e2 : some s = some res := h
    rw [Option.some.inj e2]
    exact pk_le 8 v (fun _ => hp _ _ _ _ _ _ _ _ _ _) (fun z => absurd z (by omega))
  | succ k ih =>
    intro v s f0 a2 a3 a4 a5 a6 a7 a8 a9 a10 e h
    have hv : v < 8 := by omega
    simp only [ck_wb] at h
    cases h1 : ck_can g v 0 with
    | none => rw [h1] at h; cases h
    | some b1 =>
      refine pk_le 8 v (fun z => absurd z (by omega)) (fun _ => ck_canW rfl rfl hv (by decide) hg h1 (fun f b2 b3 b4 b5 b6 b7 b8 b9 b10 => ?_))
      cases b1 with
      | true =>
        rw [h1] at h
        exact br_f (by decide) (nm_r (ck_or0 s) (nm_r (nI_1 v) (ih (v + 1) s f b2 b3 b4 b5 b6 b7 b8 b9 b10 (by omega) h)))
      | false =>
        rw [h1] at h
        cases h2 : ck_can g v 1 with
        | none => simp only [h2] at h; cases h
        | some b2' =>
          refine br_t rfl (ck_canW rfl rfl hv (by decide) hg h2 (fun f b2 b3 b4 b5 b6 b7 b8 b9 b10 => ?_))
          cases b2' with
          | true =>
            simp only [h2] at h
            exact br_f (by decide) (nm_r (ck_or0 s) (nm_r (nI_1 v) (ih (v + 1) s f b2 b3 b4 b5 b6 b7 b8 b9 b10 (by omega) h)))
          | false =>
            simp only [h2] at h
            exact br_t rfl (nm_r (e' := nI (s ||| 1 <<< v)) (by rw [ck_one v (by omega), ck_or]) (nm_r (nI_1 v) (ih (v + 1) (s ||| 1 <<< v) f b2 b3 b4 b5 b6 b7 b8 b9 b10 (by omega) h)))
theorem ck_wholeW {g : Nat → Nat} {f0 : Int32} {a1 a2 a3 a4 a5 a6 a7 a8 a9 a10 : Nat → Int32} {post : Int32 → St2 → Prop} {res : Nat} (hg : ck_G g a1) (h : ck_wb g 0 1 8 0 0 = some res)
    (hp : ∀ (f : Int32) (b2 b3 b4 b5 b6 b7 b8 b9 b10 : Nat → Int32), post (nI res) (f, a1, b2, b3, b4, b5, b6, b7, b8, b9, b10)) : wpX_whole post (f0, a1, a2, a3, a4, a5, a6, a7, a8, a9, a10) := by
  unfold wpX_whole
  exact Exists.intro 9 (ck_whole4 hg hp 8 0 0 f0 a2 a3 a4 a5 a6 a7 a8 a9 a10 rfl h)
theorem ck_bare4 {g : Nat → Nat} {a1 : Nat → Int32} {post : Int32 → St2 → Prop} {res : Nat} (hg : ck_G g a1) (hp : ∀ (f : Int32) (b2 b3 b4 b5 b6 b7 b8 b9 b10 : Nat → Int32), post (nI res) (f, a1, b2, b3, b4, b5, b6, b7, b8, b9, b10)) :
    ∀ k v s (f0 : Int32) (a2 a3 a4 a5 a6 a7 a8 a9 a10 : Nat → Int32), v + k = 8 → ck_wb g 1 2 k v s = some res → wX_bare_4 post (k + 1) (nI s) (nI v) f0 a1 a2 a3 a4 a5 a6 a7 a8 a9 a10 := by
  intro k
  induction k with
  | zero =>
    intro v s f0 a2 a3 a4 a5 a6 a7 a8 a9 a10 e h
    have e2 : some s = some res := h
    rw [Option.some.inj e2]
    exact pk_le 8 v (fun _ => hp _ _ _ _ _ _ _ _ _ _) (fun z => absurd z (by omega))
  | succ k ih =>
    intro v s f0 a2 a3 a4 a5 a6 a7 a8 a9 a10 e h
    have hv : v < 8 := by omega
    simp only [ck_wb] at h
    cases h1 : ck_can g v 1 with
    | none => rw [h1] at h; cases h
    | some b1 =>
      refine pk_le 8 v (fun z => absurd z (by omega)) (fun _ => ck_canW rfl rfl hv (by decide) hg h1 (fun f b2 b3 b4 b5 b6 b7 b8 b9 b10 => ?_))
      cases b1 with
      | true =>
        rw [h1] at h
        exact br_f (by decide) (nm_r (ck_or0 s) (nm_r (nI_1 v) (ih (v + 1) s f b2 b3 b4 b5 b6 b7 b8 b9 b10 (by omega) h)))
      | false =>
        rw [h1] at h
        cases h2 : ck_can g v 2 with
        | none => simp only [h2] at h; cases h
        | some b2' =>
          refine br_t rfl (ck_canW rfl rfl hv (by decide) hg h2 (fun f b2 b3 b4 b5 b6 b7 b8 b9 b10 => ?_))
          cases b2' with
          | true =>
            simp only [h2] at h
            exact br_f (by decide) (nm_r (ck_or0 s) (nm_r (nI_1 v) (ih (v + 1) s f b2 b3 b4 b5 b6 b7 b8 b9 b10 (by omega) h)))
          | false =>
            simp only [h2] at h
            exact br_t rfl (nm_r (e' := nI (s ||| 1 <<< v)) (by rw [ck_one v (by omega), ck_or]) (nm_r (nI_1 v) (ih (v + 1) (s ||| 1 <<< v) f b2 b3 b4 b5 b6 b7 b8 b9 b10 (by omega) h)))
theorem ck_bareW {g : Nat → Nat} {f0 : Int32} {a1 a2 a3 a4 a5 a6 a7 a8 a9 a10 : Nat → Int32} {post : Int32 → St2 → Prop} {res : Nat} (hg : ck_G g a1) (h : ck_wb g 1 2 8 0 0 = some res)
    (hp : ∀ (f : Int32) (b2 b3 b4 b5 b6 b7 b8 b9 b10 : Nat → Int32), post (nI res) (f, a1, b2, b3, b4, b5, b6, b7, b8, b9, b10)) : wpX_bare post (f0, a1, a2, a3, a4, a5, a6, a7, a8, a9, a10) := by
  unfold wpX_bare
  exact Exists.intro 9 (ck_bare4 hg hp 8 0 0 f0 a2 a3 a4 a5 a6 a7 a8 a9 a10 rfl h)
end
section
/-! matchings, set by set -/
section
variable {g : Nat → Nat} {f0 : Int32} {a1 a2 a3 a4 a5 a6 a7 a8 a9 a10 : Nat → Int32}
theorem ck_mw_le {R : Nat → Nat} {v rest B : Nat} (hR : ∀ s, R s ≤ B) : ∀ k w most, most ≤ B + 1 → ck_mw g R v rest k w most ≤ B + 1
  | 0, w, most, h => h
  | k + 1, w, most, h => ck_mw_le hR k (w + 1) _ (by
      split
      · split
        · exact h
        · have := hR (ck_d rest (1 <<< w)); omega
      · exact h)
theorem ck_mm_le : ∀ k v s, ck_mm g k v s ≤ k
  | 0, v, s => Nat.le_refl 0
  | k + 1, v, s => by
    rw [ck_mm]
    split
    · exact ck_mw_le (fun s => ck_mm_le k (v + 1) s) k (v + 1) _ (by have := ck_mm_le k (v + 1) (ck_d s (1 <<< v)); omega)
    · have := ck_mm_le k (v + 1) s; omega
theorem ck_mm_skip {s : Nat} : ∀ v k, v + k = 8 → (∀ j, j < v → s.testBit j = false) → ck_mm g 8 0 s = ck_mm g k v s
  | 0, k, e, h => by
    have e2 : k = 8 := by omega
    rw [e2]
  | v + 1, k, e, h => by
    rw [ck_mm_skip v (k + 1) (by omega) (fun j hj => h j (by omega)), ck_mm, if_neg (ck_nf (h v (by omega)))]
theorem ck_drop : ∀ s, s < 256 → ∀ v, v < 8 → s.testBit v = true → ck_d s (1 <<< v) < s := by decide +kernel
theorem ck_low {s t j : Nat} (h : s.testBit j = false) : (ck_d s t).testBit j = false := by
  rw [ck_d, Nat.testBit_and, h, Bool.false_and]
theorem ck_off : ∀ s, s < 256 → ∀ v, v < 8 → (ck_d s (1 <<< v)).testBit v = false := by decide +kernel
theorem ck_nil : ∀ s, s < 256 → (∀ j, j < 8 → s.testBit j = false) → s = 0 := by decide +kernel
theorem ck_53 {post : Int32 → St2 → Prop} {J : Int32 → (Nat → Int32) → (Nat → Int32) → (Nat → Int32) → (Nat → Int32) → (Nat → Int32) → (Nat → Int32) → (Nat → Int32) → (Nat → Int32) → (Nat → Int32) → (Nat → Int32) → Prop} {R : Nat → Nat} {set v rest : Nat}
    (hg : ck_G g a1) (hset : set < 256) (hv : v < 8) (hrest : rest < 256) (hR : ∀ w, w < 8 → a7 (ck_d rest (1 <<< w)) = nI (R (ck_d rest (1 <<< w)))) (hRb : ∀ s, R s ≤ 8) :
    ∀ k w most, w + k = 8 → most ≤ 9 → J (nI (set + 1)) a1 a2 a3 a4 a5 a6 (upd a7 set (nI (ck_mw g R v rest k w most))) a8 a9 a10 → wX_matching_53 post J (nI set) (nI v) (nI rest) f0 a1 a2 a3 a4 a5 a6 a7 a8 a9 a10 (k + 1) (nI most) (nI w) := by
  intro k
  induction k with
  | zero =>
    intro w most e hm h
    exact pk_le 8 w (fun _ => ⟨pk_in set 256 hset, nm_r (e' := upd a7 set (nI most)) (by rw [nI_clamp (by omega), ck_s8 most (by omega)]) (nm_r (nI_1 set) h)⟩) (fun z => absurd z (by omega))
  | succ k ih =>
    intro w most e hm h
    have hw : w < 8 := by omega
    simp only [ck_mw] at h
    have hrw : ck_d rest (1 <<< w) < 256 := ck_d_lt hrest
    have ex : nI rest &&& (((1 : Int32) <<< (nI w &&& 31)) ^^^ (-1 : Int32)) = nI (ck_d rest (1 <<< w)) := by rw [ck_one w (by omega), ck_dI hrest]
    have hb := hRb (ck_d rest (1 <<< w))
    refine pk_le 8 w (fun z => absurd z (by omega)) (fun _ => ⟨pk_in v 8 hv, ck_inW (s := rest &&& g v) (by rw [ck_Ga hg hv, ck_and]) rfl (ck_and_lt hrest) hw (fun z => br_t rfl (nm_r (nI_1 w) ?_)) (fun z => br_f (by decide) ⟨pk_in _ 256 hrw ex, nm_r (e' := nI (1 + R (ck_d rest (1 <<< w)))) ?_ ?_⟩)⟩)
    · rw [if_neg (ck_nf z)] at h
      exact ih (w + 1) most (by omega) hm h
    · rw [ex, nI_clamp (by omega), hR w hw]
      show nI 1 + _ = _
      rw [nI_add]
    · rw [if_pos z] at h
      refine pk_le (1 + R (ck_d rest (1 <<< w))) most (fun z2 => nm_r (nI_1 w) ?_) (fun z2 => nm_r (nI_1 w) ?_)
      · rw [if_pos z2] at h
        exact ih (w + 1) most (by omega) hm h
      · rw [if_neg (by omega)] at h
        exact ih (w + 1) _ (by omega) (by omega) h
theorem ck_18 {post : Int32 → St2 → Prop} {J : Int32 → (Nat → Int32) → (Nat → Int32) → (Nat → Int32) → (Nat → Int32) → (Nat → Int32) → (Nat → Int32) → (Nat → Int32) → (Nat → Int32) → (Nat → Int32) → (Nat → Int32) → Prop} {set : Nat}
    (hg : ck_G g a1) (h0 : 0 < set) (hset : set < 256) (hI : ∀ s, s < set → a7 s = nI (ck_mm g 8 0 s)) (hJ : J (nI (set + 1)) a1 a2 a3 a4 a5 a6 (upd a7 set (nI (ck_mm g 8 0 set))) a8 a9 a10) :
    ∀ k v, v + k = 8 → (∀ j, j < v → set.testBit j = false) → wX_matching_18 post J (nI set) f0 a1 a2 a3 a4 a5 a6 a7 a8 a9 a10 k (nI v) := by
  intro k
  induction k with
  | zero =>
    intro v e hl
    exact absurd (ck_nil set hset (fun j hj => hl j (by omega))) (by omega)
  | succ k ih =>
    intro v e hl
    have hv : v < 8 := by omega
    unfold wX_matching_18
    refine ck_inW rfl rfl hset hv (fun z => br_t rfl (nm_r (nI_1 v) (ih (v + 1) (by omega) ?_))) (fun z => br_f (by decide) ?_)
    · intro j hj
      by_cases ej : j = v
      · rw [ej]; exact z
      · exact hl j (by omega)
    · have hlt : ck_d set (1 <<< v) < set := ck_drop set hset v hv z
      have hlow : ∀ j, j < v + 1 → (ck_d set (1 <<< v)).testBit j = false := by
        intro j hj
        by_cases ej : j = v
        · rw [ej]; exact ck_off set hset v hv
        · exact ck_low (hl j (by omega))
      have hres : ck_mm g 8 0 set = ck_mw g (fun s => ck_mm g k (v + 1) s) v (ck_d set (1 <<< v)) k (v + 1) (ck_mm g k (v + 1) (ck_d set (1 <<< v))) := by
        rw [ck_mm_skip v (k + 1) e hl, ck_mm, if_pos z]
      have hm := ck_mm_le (g := g) k (v + 1) (ck_d set (1 <<< v))
      refine nm_r (e' := nI (ck_d set (1 <<< v))) (by rw [ck_one v (by omega), ck_dI hset]) ⟨pk_in _ 256 (ck_d_lt hset), nm_r (e' := nI (ck_mm g k (v + 1) (ck_d set (1 <<< v)))) ?_ (nm_r (nI_1 v) (Exists.intro (k + 1) (ck_53 (R := fun s => ck_mm g k (v + 1) s) hg hset hv (ck_d_lt hset) ?_ ?_ k (v + 1) _ (by omega) (by omega) ?_)))⟩
      · rw [nI_clamp (by omega), hI _ hlt, ck_mm_skip (v + 1) k (by omega) hlow]
      · intro w hw
        rw [hI _ (Nat.lt_of_le_of_lt (ck_d_le _ _) hlt), ck_mm_skip (v + 1) k (by omega) (fun j hj => ck_low (hlow j hj))]
      · intro s
        have := ck_mm_le (g := g) k (v + 1) s
        show ck_mm g k (v + 1) s ≤ 8
        omega
      · rw [← hres]
        exact hJ
theorem ck_9 {post : Int32 → St2 → Prop} (hg : ck_G g a1) (hp : ∀ b7, post (nI (ck_mm g 8 0 255)) (f0, a1, a2, a3, a4, a5, a6, b7, a8, a9, a10)) :
    ∀ k set a7, set + k = 256 → 0 < set → (∀ s, s < set → a7 s = nI (ck_mm g 8 0 s)) → wX_matching_9 post f0 (k + 1) (nI set) a1 a2 a3 a4 a5 a6 a7 a8 a9 a10
  | 0, set, a7, e, h0, hI => pk_lt 255 set (fun _ => by
      rw [hI 255 (by omega)]
      exact hp a7) (fun z => absurd z (by omega))
  | k + 1, set, a7, e, h0, hI => pk_lt 255 set (fun z => absurd z (by omega)) (fun _ => Exists.intro 8 (ck_18 hg h0 (by omega) hI (ck_9 hg hp k (set + 1) _ (by omega) (by omega) (fun s hs => by
      by_cases es : s = set
      · rw [es, pk_us]
      · rw [pk_un es]
        exact hI s (by omega))) 8 0 rfl (fun j hj => absurd hj (by omega))))
theorem ck_matchingW {post : Int32 → St2 → Prop} (hg : ck_G g a1) (hp : ∀ (f : Int32) (b2 b3 b4 b5 b6 b7 b8 b9 b10 : Nat → Int32), post (nI (ck_mm g 8 0 255)) (f, a1, b2, b3, b4, b5, b6, b7, b8, b9, b10)) : wpX_matching post (f0, a1, a2, a3, a4, a5, a6, a7, a8, a9, a10) := by
  unfold wpX_matching
  refine nm_e (Exists.intro 256 (ck_9 hg (fun b7 => hp _ _ _ _ _ _ _ _ _ _) 255 1 _ rfl (by omega) (fun s hs => ?_)))
  have e : s = 0 := by omega
  rw [e, pk_us, ck_mm_skip (s := 0) 8 0 rfl (fun j hj => Nat.zero_testBit j)]
  rfl
end
end
section
/-! the law -/
theorem ck_f1' {n : Nat} (h : n < 9) (h3 : 3 ≤ n) {g : Nat → Nat} (eg : g = ck_row (ck_C n)) :
    ck_edg g 8 0 0 / 2 = n ∧ ck_sol g 255 = some ((n + 1) / 2) ∧ ck_match g 255 255 = some n ∧ ck_mm g 8 0 255 = n / 2 ∧
    ck_alw g ((n + 1) / 2) 8 0 0 = some 0 ∧ ck_nev g ((n + 1) / 2) 8 0 0 = some (ck_d 255 ((1 <<< n) - 1)) ∧ ck_wb g 0 1 8 0 0 = some 0 ∧
    ck_cov g (ck_fst n 8) 8 0 = true ∧ ck_can g 0 1 = some true ∧ ck_can g 0 2 = some (decide (n % 2 = 0)) ∧ ck_can g (n - 1) 0 = some (decide (n % 2 = 0)) ∧
    ck_forced g 0 3 = some 0 ∧ ck_forced g 0 1 = some ((n + 1) / 2 + 1) := by
  have h := ck_f1 n h h3
  rw [← eg] at h
  simpa only [ck_F1, Bool.and_eq_true, decide_eq_true_eq] using h
theorem ck_f2' {n a : Nat} (h : n < 9) (h3 : 3 ≤ n) (ha : a < n) {g : Nat → Nat} (eg : g = ck_pth n a) :
    ck_edg g 8 0 0 / 2 = n - 1 ∧ ck_sol g 255 = some (n / 2) ∧ ck_mm g 8 0 255 = n / 2 ∧ ck_match g 255 255 = some (2 * (n / 2)) ∧
    ck_cov g (ck_fst n 8) 8 0 = true ∧ (n % 2 = 1 → (ck_wb g 1 2 8 0 0).map (fun b => b &&& ck_ends n a) = some (ck_ends n a)) ∧
    (n % 2 = 1 → (ck_alw g (n / 2) 8 0 0).map (fun b => b &&& ck_ends n a) = some 0) ∧ g a = 1 <<< ((a + n - 1) % n) ∧
    ck_forced g (ck_ends n a) 0 = some (n / 2 + 1 + 1) := by
  have h := ck_f2 n h h3 a ha
  rw [← eg] at h
  simpa only [ck_F2, Bool.and_eq_true, decide_eq_true_eq] using h
theorem ck_nx : ∀ n, n < 9 → 3 ≤ n → ∀ a, a < n → (a + 1) % n < 8 ∧ (a + 1) % n ≠ a ∧ (a + n - 1) % n < 8 ∧ ck_ends n a < 256 := by decide +kernel
theorem ck_p2 : ∀ n, n < 9 → 1 ≤ 1 <<< n := by decide +kernel
section
variable {g : Nat → Nat} {f0 : Int32} {a1 a2 a3 a4 a5 a6 a7 a8 a9 a10 : Nat → Int32}
theorem ck_G_u {a : Nat → Int32} (h : ck_G g a) {k x : Nat} (hx : x < 256) : ck_G (ck_up g k x) (upd a k (nI x)) := by
  intro j hj
  by_cases e : j = k
  · subst e
    rw [pk_us, ck_up_s]
    exact ⟨rfl, hx⟩
  · rw [pk_un e, ck_up_n e]
    exact h j hj
theorem ck_G_e {g' : Nat → Nat} {a : Nat → Int32} (h : ck_G g a) (e : ∀ v, v < 8 → g v = g' v) : ck_G g' a := fun v hv => by
  rw [← e v hv]
  exact h v hv
theorem ck_jonW {post : Int32 → St2 → Prop} {x y : Int32} {a b : Nat} (hx : x = nI a) (hy : y = nI b) (ha : a < 8) (hb : b < 8) (hab : a ≠ b) (hg : ck_G g a1)
    (hp : ∀ b1, ck_G (ck_jon g a b) b1 → post 1 (f0, b1, a2, a3, a4, a5, a6, a7, a8, a9, a10)) : wpX_join post (f0, a1, a2, a3, a4, a5, a6, a7, a8, a9, a10) x y 1 := by
  subst hx hy
  unfold wpX_join
  have ho : g a ||| 1 <<< b < 256 := ck_or_lt (hg a ha).2 (ck_one_lt b hb)
  have hg1 := ck_G_u (k := a) hg ho
  have ho2 := ck_or_lt (hg1 b hb).2 (ck_one_lt a ha)
  refine ck_vertex rfl ha (br_f (by decide) (ck_vertex rfl hb (br_f (by decide) (pk_eq a b (fun z => absurd z hab) (fun _ => br_f (by decide) ⟨pk_in a 8 ha, ?_⟩)))))
  refine And.intro (pk_in a 8 ha) (nm_r (e' := upd a1 a (nI (g a ||| 1 <<< b))) ?_ (br_f (by decide) ⟨pk_in b 8 hb, pk_in b 8 hb, nm_r ?_ (hp _ (ck_G_u (k := b) hg1 ho2))⟩))
  · rw [ck_Ga hg ha, nI_clamp (by omega), ck_one b (by omega), ck_or, ck_s16 _ ho]
  · rw [ck_Ga hg1 hb, nI_clamp (by omega), ck_one a (by omega), ck_or, ck_s16 _ ho2]
theorem ck_joffW {post : Int32 → St2 → Prop} {x y : Int32} {a b : Nat} (hx : x = nI a) (hy : y = nI b) (ha : a < 8) (hb : b < 8) (hab : a ≠ b) (hg : ck_G g a1)
    (hp : ∀ b1, ck_G (ck_joff g a b) b1 → post 1 (f0, b1, a2, a3, a4, a5, a6, a7, a8, a9, a10)) : wpX_join post (f0, a1, a2, a3, a4, a5, a6, a7, a8, a9, a10) x y 0 := by
  subst hx hy
  unfold wpX_join
  have ho : ck_d (g a) (1 <<< b) < 256 := ck_d_lt (hg a ha).2
  have hg1 := ck_G_u (k := a) hg ho
  have ho2 : ck_d (ck_up g a (ck_d (g a) (1 <<< b)) b) (1 <<< a) < 256 := ck_d_lt (hg1 b hb).2
  refine ck_vertex rfl ha (br_f (by decide) (ck_vertex rfl hb (br_f (by decide) (pk_eq a b (fun z => absurd z hab) (fun _ => br_t rfl ⟨pk_in a 8 ha, ?_⟩)))))
  refine And.intro (pk_in a 8 ha) (nm_r (e' := upd a1 a (nI (ck_d (g a) (1 <<< b)))) ?_ (br_t rfl ⟨pk_in b 8 hb, pk_in b 8 hb, nm_r ?_ (hp _ (ck_G_u (k := b) hg1 ho2))⟩))
  · rw [ck_Ga hg ha, nI_clamp (by omega), ck_one b (by omega), ck_dI (hg a ha).2, ck_s16 _ ho]
  · rw [ck_Ga hg1 hb, nI_clamp (by omega), ck_one a (by omega), ck_dI (hg1 b hb).2, ck_s16 _ ho2]
theorem ck_join00 {post : Int32 → St2 → Prop} (hp : post 0 (f0, a1, a2, a3, a4, a5, a6, a7, a8, a9, a10)) : wpX_join post (f0, a1, a2, a3, a4, a5, a6, a7, a8, a9, a10) 0 0 1 := by
  unfold wpX_join
  exact ck_vertex (v := 0) rfl (by omega) (br_f (by decide) (ck_vertex (v := 0) rfl (by omega) (br_f (by decide) (br_t rfl hp))))
theorem ck_join08 {post : Int32 → St2 → Prop} (hp : post 0 (f0, a1, a2, a3, a4, a5, a6, a7, a8, a9, a10)) : wpX_join post (f0, a1, a2, a3, a4, a5, a6, a7, a8, a9, a10) 0 8 1 := by
  unfold wpX_join
  refine ck_vertex (v := 0) rfl (by omega) (br_f (by decide) ?_)
  exact br_f (by decide) (br_t (by decide) (br_t rfl hp))
theorem ck_533 {post : Int32 → St0 → Prop} {mc ms kc ks : Nat} (hp : post 1 ()) : wL_lawOf_533 post mc ms 1 kc ks f0 a1 a2 a3 a4 a5 a6 a7 a8 a9 a10 := by
  unfold wL_lawOf_533
  refine br_f (by decide) (ck_join00 (br_t rfl (ck_join08 (br_t rfl ?_))))
  unfold wpX_leastWith
  refine br_f (by decide) (br_t (by decide) (br_t rfl ?_))
  unfold wpX_covers
  exact br_t (by decide) (br_t rfl hp)
theorem ck_495 {post : Int32 → St0 → Prop} {mc ms kc ks n a : Nat} (h3 : 3 ≤ n) (h8 : n < 9) (ha : a < n) (hg : ck_G (ck_pth n a) a1) (hp : post 1 ()) :
    wL_lawOf_495 post mc ms (nI n) (nI a) (nI (n / 2)) (nI (ck_ends n a)) kc ks f0 a1 a2 a3 a4 a5 a6 a7 a8 a9 a10 := by
  obtain ⟨e1, e2, e3, e4, e5, e6, e7, e9, e10⟩ := ck_f2' h8 h3 ha rfl
  obtain ⟨n1, n2, n3, n4⟩ := ck_nx n h8 h3 a ha
  unfold wL_lawOf_495
  refine ck_neighboursW rfl (by omega) hg ⟨nI_ne0 (by omega) (by omega), br_t ?_ (ck_leastWithW (o := 0) rfl rfl n4 (by omega) hg e10 (fun f b2 b3 b4 b5 b6 b7 b8 b9 b10 => br_t ?_ (ck_533 hp)))⟩
  · rw [e9, nI_add, show nI (a + n) - 1 = nI (a + n - 1) from pk_sub (a := a + n) (b := 1) (by omega), pk_rem (by omega) (by omega) (by omega), ck_one _ (by omega)]
  · exact (nI_1 (n / 2)).symm
theorem ck_446 {post : Int32 → St0 → Prop} {mc ms kc ks n a : Nat} (h3 : 3 ≤ n) (h8 : n < 9) (ha : a < n) (hg : ck_G (ck_pth n a) a1) (hp : post 1 ()) :
    wL_lawOf_446 post mc ms (nI n) (ck_lb (decide (n % 2 = 1))) (nI a) (nI (n / 2)) 1 kc ks f0 a1 a2 a3 a4 a5 a6 a7 a8 a9 a10 := by
  obtain ⟨e1, e2, e3, e4, e5, e6, e7, e9, e10⟩ := ck_f2' h8 h3 ha rfl
  obtain ⟨n1, n2, n3, n4⟩ := ck_nx n h8 h3 a ha
  unfold wL_lawOf_446
  refine ⟨nI_ne0 (by omega) (by omega), nm_r (e' := nI (ck_ends n a)) ?_ (br_f (by decide) ?_)⟩
  · rw [nI_1, pk_rem (by omega) (by omega) (by omega), ck_one _ (by omega), ck_one _ (by omega), ck_or]
    rfl
  · by_cases od : n % 2 = 1
    · rw [decide_eq_true od]
      obtain ⟨b, hb1, hb2⟩ := Option.map_eq_some_iff.mp (e6 od)
      obtain ⟨c, hc1, hc2⟩ := Option.map_eq_some_iff.mp (e7 od)
      have hb2' : b &&& ck_ends n a = ck_ends n a := hb2
      have hc2' : c &&& ck_ends n a = 0 := hc2
      refine br_f (by decide) (ck_bareW hg hb1 (fun f b2 b3 b4 b5 b6 b7 b8 b9 b10 => br_t (by rw [ck_and, hb2']) (ck_alwaysW hg e2 hc1 (fun f b2 b3 b4 b5 b6 b7 b8 b9 b10 => br_t (by rw [ck_and, hc2']; rfl) (ck_495 h3 h8 ha hg hp)))))
    · rw [decide_eq_false od]
      exact br_t rfl (ck_495 h3 h8 ha hg hp)
theorem ck_353 {post : Int32 → St0 → Prop} {x1 : Int32} {mc ms kc ks n : Nat} (h3 : 3 ≤ n) (h8 : n < 9) (hg : ck_G (ck_row (ck_C n)) a1) (hp : post 1 ()) :
    wL_lawOf_353 post mc ms x1 (nI n) (ck_lb (decide (n % 2 = 1))) (nI (ck_fst n 8)) 1 kc ks f0 a1 a2 a3 a4 a5 a6 a7 a8 a9 a10 := by
  obtain ⟨m, hm, em⟩ := pk_andE x1 (m := 65535) 16 (by decide)
  have ha : m % n < n := Nat.mod_lt _ (by omega)
  unfold wL_lawOf_353
  rw [em]
  obtain ⟨n1, n2, n3, n4⟩ := ck_nx n h8 h3 (m % n) ha
  refine ⟨nI_ne0 (by omega) (by omega), nm_r (pk_rem (by omega) (by omega) (by omega)) ⟨nI_ne0 (by omega) (by omega), ?_⟩⟩
  generalize m % n = a at ha n1 n2 n3 n4 ⊢
  obtain ⟨e1, e2, e3, e4, e5, e6, e7, e9, e10⟩ := ck_f2' h8 h3 ha rfl
  refine ck_joffW (a := (a + 1) % n) (b := a) (by rw [nI_1, pk_rem (by omega) (by omega) (by omega)]) rfl n1 (by omega) n2 hg (fun b1 hg' => ⟨by decide, nm_r (pk_div (d := 2) (by omega) (by omega) (by omega)) (br_f (by decide) (br_f (by decide) ?_))⟩)
  have hg2 : ck_G (ck_pth n a) b1 := hg'
  refine ck_edgesW hg2 (br_t (by rw [e1]; exact (pk_sub (a := n) (b := 1) (by omega)).symm) (ck_leastW hg2 e2 (fun f b2 b3 b4 b5 b6 b7 b8 b9 b10 => br_t rfl (ck_matchingW hg2 (fun f b2 b3 b4 b5 b6 b7 b8 b9 b10 => br_t (by rw [e3]) (ck_halvesW hg2 e4 (fun f b2 b3 b4 b5 b6 b7 b8 b9 b10 => br_t (pk_mul 2 (n / 2)).symm (ck_coversW rfl (ck_fst_lt n h8 8 (by omega)) hg2 e5 (br_f (by decide) (ck_446 h3 h8 ha hg2 hp))))))))))
theorem ck_324 {post : Int32 → St0 → Prop} {x1 z0 z1 : Int32} {mc ms kc ks n : Nat} (hz : z1 = z0) (h3 : 3 ≤ n) (h8 : n < 9) (hg : ck_G (ck_row (ck_C n)) a1) (hp : post 1 ()) :
    wL_lawOf_324 post mc ms x1 (nI n) (ck_lb (decide (n % 2 = 1))) (nI ((n + 1) / 2)) (nI (ck_fst n 8)) z0 z1 kc ks f0 a1 a2 a3 a4 a5 a6 a7 a8 a9 a10 := by
  obtain ⟨e1, e2, e3, e4, e5, e6, e7, e8, e9, e10, e11, e12, e13⟩ := ck_f1' h8 h3 rfl
  unfold wL_lawOf_324
  exact br_t hz (ck_leastWithW (i := 0) (o := 3) rfl rfl (by omega) (by omega) hg e12 (fun f b2 b3 b4 b5 b6 b7 b8 b9 b10 => br_t rfl (ck_leastWithW (i := 0) (o := 1) rfl rfl (by omega) (by omega) hg e13 (fun f b2 b3 b4 b5 b6 b7 b8 b9 b10 => br_t rfl (ck_353 h3 h8 hg hp)))))
theorem ck_303 {post : Int32 → St0 → Prop} {x1 z0 z1 : Int32} {mc ms kc ks n : Nat} (hz : z1 = z0) (h3 : 3 ≤ n) (h8 : n < 9) (hg : ck_G (ck_row (ck_C n)) a1) (hp : post 1 ()) :
    wL_lawOf_303 post mc ms x1 (nI n) (ck_lb (decide (n % 2 = 1))) (nI ((n + 1) / 2)) (nI (ck_fst n 8)) z0 z1 kc ks f0 a1 a2 a3 a4 a5 a6 a7 a8 a9 a10 := by
  obtain ⟨e1, e2, e3, e4, e5, e6, e7, e8, e9, e10, e11, e12, e13⟩ := ck_f1' h8 h3 rfl
  unfold wL_lawOf_303
  refine br_t hz (ck_canW (v := n - 1) (n := 0) (pk_sub (a := n) (b := 1) (by omega)) rfl (by omega) (by omega) hg e11 (fun f b2 b3 b4 b5 b6 b7 b8 b9 b10 => br_c (fun z => ck_324 ?_ h3 h8 hg hp) (fun z => ck_324 ?_ h3 h8 hg hp)))
  · by_cases od : n % 2 = 1
    · rw [decide_eq_true od] at z
      exact absurd z (by decide)
    · rw [decide_eq_true (show n % 2 = 0 by omega)]
      rfl
  · by_cases od : n % 2 = 1
    · rw [decide_eq_false (show ¬ n % 2 = 0 by omega)]
      rfl
    · rw [decide_eq_false od] at z
      exact absurd rfl z
theorem ck_275 {post : Int32 → St0 → Prop} {x1 z0 z1 : Int32} {mc ms kc ks n : Nat} (hz : z1 = z0) (h3 : 3 ≤ n) (h8 : n < 9) (hg : ck_G (ck_row (ck_C n)) a1) (hp : post 1 ()) :
    wL_lawOf_275 post mc ms x1 (nI n) (ck_lb (decide (n % 2 = 1))) (nI ((n + 1) / 2)) (nI (ck_fst n 8)) z0 z1 kc ks f0 a1 a2 a3 a4 a5 a6 a7 a8 a9 a10 := by
  obtain ⟨e1, e2, e3, e4, e5, e6, e7, e8, e9, e10, e11, e12, e13⟩ := ck_f1' h8 h3 rfl
  unfold wL_lawOf_275
  refine br_t hz (ck_canW (v := 0) (n := 1) rfl rfl (by omega) (by omega) hg e9 (fun f b2 b3 b4 b5 b6 b7 b8 b9 b10 => br_f (by decide) (ck_canW (v := 0) (n := 2) rfl rfl (by omega) (by omega) hg e10 (fun f b2 b3 b4 b5 b6 b7 b8 b9 b10 => br_c (fun z => ck_303 ?_ h3 h8 hg hp) (fun z => ck_303 ?_ h3 h8 hg hp)))))
  · by_cases od : n % 2 = 1
    · rw [decide_eq_true od] at z
      exact absurd z (by decide)
    · rw [decide_eq_true (show n % 2 = 0 by omega)]
      rfl
  · by_cases od : n % 2 = 1
    · rw [decide_eq_false (show ¬ n % 2 = 0 by omega)]
      rfl
    · rw [decide_eq_false od] at z
      exact absurd rfl z
theorem ck_mid {post : Int32 → St0 → Prop} {x1 : Int32} {mc ms kc ks n : Nat} (h3 : 3 ≤ n) (h8 : n < 9) (hg : ck_G (ck_row (ck_C n)) a1) (hp : post 1 ()) :
    wL_lawOf_115 post mc ms x1 (nI n) 1 (ck_lb (decide (n % 2 = 1))) (nI ((n + 1) / 2)) (nI (ck_d 255 ((1 <<< n) - 1))) kc ks f0 a1 a2 a3 a4 a5 a6 a7 a8 a9 a10 1 (nI (ck_fst n 8)) (nI 8) := by
  obtain ⟨e1, e2, e3, e4, e5, e6, e7, e8, e9, e10, e11, e12, e13⟩ := ck_f1' h8 h3 rfl
  refine pk_le 8 8 (fun _ => br_f (by decide) (ck_edgesW hg (br_t (by rw [e1]) ?_))) (fun z => absurd z (by omega))
  refine ck_leastW hg e2 (fun f b2 b3 b4 b5 b6 b7 b8 b9 b10 => br_t rfl (ck_halvesW hg e3 (fun f b2 b3 b4 b5 b6 b7 b8 b9 b10 => br_t rfl (ck_matchingW hg (fun f b2 b3 b4 b5 b6 b7 b8 b9 b10 => ⟨by decide, br_t ?_ ?_⟩)))))
  · rw [e4]
    exact (pk_div (d := 2) (by omega) (by omega) (by omega)).symm
  · refine ck_alwaysW hg e2 e5 (fun f b2 b3 b4 b5 b6 b7 b8 b9 b10 => br_t rfl (ck_neverW hg e2 e6 (fun f b2 b3 b4 b5 b6 b7 b8 b9 b10 => br_t rfl (ck_wholeW hg e7 (fun f b2 b3 b4 b5 b6 b7 b8 b9 b10 => br_t rfl (ck_coversW rfl (ck_fst_lt n h8 8 (by omega)) hg e8 (br_f (by decide) (ck_evenlyW hg e3 (fun f b2 b3 b4 b5 b6 b7 b8 b9 b10 => pk_eq n 8 (fun z => ck_275 ?_ h3 h8 hg hp) (fun z => ck_275 ?_ h3 h8 hg hp))))))))))
    · rw [decide_eq_true z]
      rfl
    · rw [decide_eq_false z]
      rfl
theorem ck_115 {post : Int32 → St0 → Prop} {x1 x6 x7 : Int32} {mc ms kc ks n : Nat} (h3 : 3 ≤ n) (h8 : n < 9)
    (hf : wL_lawOf_115 post mc ms x1 (nI n) 1 (ck_lb (decide (n % 2 = 1))) x6 x7 kc ks f0 a1 a2 a3 a4 a5 a6 a7 a8 a9 a10 1 (nI (ck_fst n 8)) (nI 8)) :
    ∀ k v, v + k = 8 → wL_lawOf_115 post mc ms x1 (nI n) 1 (ck_lb (decide (n % 2 = 1))) x6 x7 kc ks f0 a1 a2 a3 a4 a5 a6 a7 a8 a9 a10 (k + 1) (nI (ck_fst n v)) (nI v) := by
  intro k
  induction k with
  | zero =>
    intro v e
    have e2 : v = 8 := by omega
    subst e2
    exact hf
  | succ k ih =>
    intro v e
    have hK : ∀ b : Bool, ck_fi n v = b → wL_lawOf_161 post mc ms (wL_lawOf_115 post mc ms x1 (nI n) 1 (ck_lb (decide (n % 2 = 1))) x6 x7 kc ks f0 a1 a2 a3 a4 a5 a6 a7 a8 a9 a10 (k + 1)) x1 (nI n) 1 (ck_lb (decide (n % 2 = 1))) x6 x7 (nI (ck_fst n v)) (nI v) (ck_lb b) kc ks f0 a1 a2 a3 a4 a5 a6 a7 a8 a9 a10 := by
      intro b hb
      have h2 := ih (v + 1) (by omega)
      unfold wL_lawOf_161
      cases b with
      | false =>
        rw [ck_fst, if_neg (ck_nf hb)] at h2
        exact br_t rfl (nm_r (nI_1 v) h2)
      | true =>
        rw [ck_fst, if_pos hb] at h2
        exact br_f (by decide) (nm_r (e' := nI (ck_fst n v ||| 1 <<< v)) (by rw [ck_one v (by omega), ck_or]) (nm_r (nI_1 v) h2))
    have hr : nI v - nI v / 2 * 2 = nI (v % 2) := pk_rem (a := v) (d := 2) (by omega) (by omega) (by omega)
    refine pk_le 8 v (fun z => absurd z (by omega)) (fun _ => pk_le n v (fun z => hK false ?_) (fun z => ?_))
    · rw [ck_fi, decide_eq_false (by omega), Bool.false_and]
    · by_cases od : n % 2 = 1
      · have hfi : ck_fi n v = (decide (v = 0) || decide (v % 2 = 1)) := by rw [ck_fi, decide_eq_true z, if_pos od, Bool.true_and]
        refine br_f (by rw [decide_eq_true od]; decide) (pk_eq v 0 (fun z2 => hK true ?_) (fun z2 => ⟨by decide, pk_eq (v % 2) 1 (fun z3 => hK true ?_) (fun z3 => hK false ?_) (hx := hr)⟩))
        · rw [hfi, decide_eq_true z2, Bool.true_or]
        · rw [hfi, decide_eq_true z3, Bool.or_true]
        · rw [hfi, decide_eq_false z3, decide_eq_false z2, Bool.or_false]
      · have hfi : ck_fi n v = decide (v % 2 = 0) := by rw [ck_fi, decide_eq_true z, if_neg od, Bool.true_and]
        refine br_t (by rw [decide_eq_false od]; rfl) ⟨by decide, pk_eq (v % 2) 0 (fun z3 => hK true ?_) (fun z3 => hK false ?_) (hx := hr)⟩
        · rw [hfi, decide_eq_true z3]
        · rw [hfi, decide_eq_false z3]
theorem ck_87 {post : Int32 → St0 → Prop} {x1 z0 : Int32} {mc ms kc ks n : Nat} (hz : z0 = ck_lb (decide (n % 2 = 1))) (h3 : 3 ≤ n) (h8 : n < 9) (hg : ck_G (ck_row (ck_C n)) a1) (hp : post 1 ()) :
    wL_lawOf_87 post mc ms x1 (nI n) 1 z0 kc ks f0 a1 a2 a3 a4 a5 a6 a7 a8 a9 a10 := by
  subst hz
  unfold wL_lawOf_87
  refine ⟨by decide, nm_r (e' := nI ((n + 1) / 2)) ?_ (nm_r (e' := nI (ck_d 255 ((1 <<< n) - 1))) ?_ (Exists.intro 9 (ck_115 h3 h8 (ck_mid h3 h8 hg hp) 8 0 rfl)))⟩
  · rw [nI_1]
    exact pk_div (d := 2) (by omega) (by omega) (by omega)
  · rw [ck_one n (by omega), show nI (1 <<< n) - (1 : Int32) = nI (1 <<< n - 1) from pk_sub (a := 1 <<< n) (b := 1) (ck_p2 n h8)]
    exact ck_dI (s := 255) (by omega)
theorem ck_24 {post : Int32 → St0 → Prop} {x1 : Int32} {mc ms kc ks n : Nat} (h3 : 3 ≤ n) (h8 : n < 9) (hp : post 1 ()) :
    ∀ k v a1, v + k = 8 → ck_G (ck_cyc n v) a1 → wL_lawOf_24 post mc ms x1 (nI n) kc ks (k + 1) 1 (nI v) f0 a1 a2 a3 a4 a5 a6 a7 a8 a9 a10 := by
  intro k
  induction k with
  | zero =>
    intro v a1 e hg
    have e2 : v = 8 := by omega
    subst e2
    have hg2 : ck_G (ck_row (ck_C n)) a1 := ck_G_e hg (ck_cyc_row n h8 h3)
    have hr : nI n - nI n / 2 * 2 = nI (n % 2) := pk_rem (a := n) (d := 2) (by omega) (by omega) (by omega)
    refine pk_le 8 8 (fun _ => ⟨by decide, pk_eq (n % 2) 1 (fun z => ck_87 ?_ h3 h8 hg2 hp) (fun z => ck_87 ?_ h3 h8 hg2 hp) (hx := hr)⟩) (fun z => absurd z (by omega))
    · rw [decide_eq_true z]
      rfl
    · rw [decide_eq_false z]
      rfl
  | succ k ih =>
    intro v a1 e hg
    refine pk_le 8 v (fun z => absurd z (by omega)) (fun _ => pk_le n v (fun z => nm_r (nI_1 v) (ih (v + 1) a1 (by omega) ?_)) (fun z => ⟨nI_ne0 (by omega) (by omega), ?_⟩))
    · rw [ck_cyc, if_neg (by omega)]
      exact hg
    · obtain ⟨n1, n2, n3, n4⟩ := ck_nx n h8 h3 v z
      refine ck_jonW (a := v) (b := (v + 1) % n) rfl (by rw [nI_1, pk_rem (by omega) (by omega) (by omega)]) (by omega) n1 (fun t => n2 t.symm) hg (fun b1 hb => br_f (by decide) (br_f (by decide) (nm_r (nI_1 v) (ih (v + 1) b1 (by omega) ?_))))
      rw [ck_cyc, if_pos z]
      exact hb
end
theorem ck_lawOf {post : Int32 → St0 → Prop} (p0 p1 : Int32) (hp : post 1 ()) : wpL_lawOf post 11 621 () p0 p1 := by
  unfold wpL_lawOf
  refine ⟨by omega, by omega, 10, 610, by omega, by omega, ?_⟩
  unfold wpX_init
  refine ⟨by omega, by omega, by omega, by omega, by omega, by omega, by omega, by omega, by omega, by omega, by omega, by omega, by omega, by omega, by omega, by omega, by omega, by omega, by omega, by omega, ?_⟩
  obtain ⟨m, hm, em⟩ := pk_andE p0 (m := 65535) 16 (by decide)
  dsimp only
  rw [em]
  have h6 : m % 6 < 6 := Nat.mod_lt _ (by omega)
  refine ⟨by decide, nm_r (e' := nI (3 + m % 6)) ?_ (Exists.intro 9 (ck_24 (by omega) (by omega) hp 8 0 _ rfl ?_))⟩
  · rw [show nI m - nI m / 6 * 6 = nI (m % 6) from pk_rem (d := 6) (by omega) (by omega) (by omega)]
    exact nI_add 3 (m % 6)
  · intro v hv
    exact ⟨rfl, by show 0 < 256; omega⟩
theorem ck_cell {post : Int32 → Prop} {L i : Nat} {xs : Nat → Int32} {x : Int32} (hx : x = nI i) (hi : i < 2) (hL : L ≤ 2) (h : ∀ y, post y) : wpL_cellAt post L xs () x := by
  subst hx
  exact pk_le L i (fun _ => h _) (fun z => ⟨pk_in i L z, h _⟩)
end
section
theorem i_vc (xs : Nat → Int32) (L : Nat) (hL : L ≤ 2) : wpL_law (fun r => r = 1) L xs := by
  unfold wpL_law
  exact ck_cell (i := 0) rfl (by omega) hL (fun p0 => ck_cell (i := 1) rfl (by omega) hL (fun p1 => ⟨11, 621, by omega, by omega, ck_lawOf (post := fun r _ => r = 1) p0 p1 rfl⟩))
end
