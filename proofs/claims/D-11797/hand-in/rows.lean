section
/-! pictures of arrays: a list of pairs (place, value); what it does not list is not known -/
def sq_g : List (Nat × Nat) → Nat → Option Nat
  | [], _ => none
  | p :: r, k => bif Nat.beq p.1 k then some p.2 else sq_g r k
theorem sq_gS (k v : Nat) (L : List (Nat × Nat)) : sq_g ((k, v) :: L) k = some v := by
  show (bif Nat.beq k k then some v else sq_g L k) = some v
  rw [Nat.beq_refl]; rfl
theorem sq_gN {j k v : Nat} {L : List (Nat × Nat)} (h : k ≠ j) : sq_g ((k, v) :: L) j = sq_g L j := by
  show (bif Nat.beq k j then some v else sq_g L j) = sq_g L j
  have e : Nat.beq k j = false := by
    cases e : Nat.beq k j
    · rfl
    · exact absurd (Nat.eq_of_beq_eq_true e) h
  rw [e]; rfl
/-- whole numbers below B -/
def sq_R (B : Nat) (a : Nat → Int32) (L : List (Nat × Nat)) : Prop := ∀ k v, sq_g L k = some v → v < B ∧ a k = nI v
/-- minus one and up: 0 stands for -1, v + 1 for v -/
def sq_e : Nat → Int32
  | 0 => -1
  | v + 1 => nI v
def sq_E (a : Nat → Int32) (L : List (Nat × Nat)) : Prop := ∀ k v, sq_g L k = some v → v ≤ 16 ∧ a k = sq_e v
theorem sq_R0 (B : Nat) (a : Nat → Int32) : sq_R B a [] := fun _ _ h => nomatch h
theorem sq_E0 (a : Nat → Int32) : sq_E a [] := fun _ _ h => nomatch h
theorem sq_Rc {B : Nat} {a : Nat → Int32} {L : List (Nat × Nat)} {k v : Nat} {x : Int32} (h : sq_R B a L) (hv : v < B) (hx : x = nI v) : sq_R B (upd a k x) ((k, v) :: L) := by
  intro j w hj
  by_cases e : k = j
  · subst e
    rw [sq_gS] at hj
    cases hj
    exact ⟨hv, by rw [pk_us, hx]⟩
  · rw [sq_gN e] at hj
    rw [pk_un (fun z => e z.symm)]
    exact h j w hj
theorem sq_Ec {a : Nat → Int32} {L : List (Nat × Nat)} {k v : Nat} {x : Int32} (h : sq_E a L) (hv : v ≤ 16) (hx : x = sq_e v) : sq_E (upd a k x) ((k, v) :: L) := by
  intro j w hj
  by_cases e : k = j
  · subst e
    rw [sq_gS] at hj
    cases hj
    exact ⟨hv, by rw [pk_us, hx]⟩
  · rw [sq_gN e] at hj
    rw [pk_un (fun z => e z.symm)]
    exact h j w hj
theorem sq_e1 (v : Nat) : sq_e v + 1 = nI v := by
  cases v with
  | zero => rfl
  | succ n => exact nI_1 n
theorem sq_em {v : Nat} (h : v ≤ 16) : sq_e (v + 1) + (-1) = sq_e v := by
  cases v with
  | zero => rfl
  | succ n => exact pk_m1 n
theorem sq_eneg : sq_e 0 < 0 := by decide
theorem sq_epos {v : Nat} (h : v ≤ 16) : ¬ sq_e (v + 1) < 0 := nI_pos (n := v) (by omega)
theorem sq_epos' {v : Nat} (h : v ≤ 16) : 0 ≤ sq_e (v + 1) := nI_pos' (n := v) (by omega)
theorem sq_eneg' : ¬ 0 ≤ sq_e 0 := by decide
/-! narrow stores -/
theorem sq_b8 : ∀ n, n < 128 → (nI n).toInt8.toInt32 = nI n := by decide +kernel
theorem sq_b16 : ∀ n, n < 256 → (nI n).toInt16.toInt32 = nI n := by decide +kernel
theorem sq_be : ∀ n, n < 17 → (sq_e n).toInt8.toInt32 = sq_e n := by decide +kernel
/-! bits -/
def sq_b (l k : Nat) : Nat := Nat.mod (Nat.div l (Nat.pow 2 k)) 2
theorem sq_sl : ∀ n, n < 32 → ((nI n &&& 31).toBitVec.smod 32).toNat = n := by decide +kernel
theorem sq_bit {l k : Nat} (hl : l < 2 ^ 31) (hk : k < 32) : (nI l >>> (nI k &&& 31)) &&& 1 = nI (sq_b l k) := by
  rw [pk_shrN hl _ k (sq_sl k hk)]
  exact pk_andN (Nat.lt_of_le_of_lt (Nat.div_le_self l (2 ^ k)) (by omega)) 1 (by decide)
theorem sq_b2 (l k : Nat) : sq_b l k < 2 := Nat.mod_lt _ (by omega)
theorem sq_shl {k : Nat} (hk : k < 31) : (1 : Int32) <<< (nI k &&& 31) = nI (2 ^ k) := by
  have h : 2 ^ k < 2 ^ 31 := Nat.pow_lt_pow_right (by omega) hk
  have e := pk_shlN (n := 1) (nI k &&& 31) k (sq_sl k (by omega)) (by omega)
  rw [Nat.one_mul] at e
  exact e
theorem sq_or (a b : Nat) : nI a ||| nI b = nI (a ||| b) := by
  apply Int32.toBitVec_inj.1
  show BitVec.ofNat 32 a ||| BitVec.ofNat 32 b = BitVec.ofNat 32 (a ||| b)
  apply BitVec.eq_of_getLsbD_eq
  intro i hi
  simp [hi]
theorem sq_orB {l k : Nat} (hk : k < 31) : nI l ||| ((1 : Int32) <<< (nI k &&& 31)) = nI (l ||| 2 ^ k) := by rw [sq_shl hk, sq_or]
theorem sq_or8 {a b : Nat} (ha : a < 256) (hb : b < 256) : a ||| b < 256 := Nat.or_lt_two_pow (n := 8) ha hb
theorem sq_p8 : ∀ k, k < 8 → 2 ^ k < 256 := by decide
/-- how many of the eight bits are set -/
def sq_z (x : Nat) : Nat := bif Nat.beq x 0 then 0 else Nat.add (Nat.add (Nat.add (sq_b x 0) (sq_b x 1)) (Nat.add (sq_b x 2) (sq_b x 3))) (Nat.add (Nat.add (sq_b x 4) (sq_b x 5)) (Nat.add (sq_b x 6) (sq_b x 7)))
theorem sq_zE (x : Nat) : sq_z x = ((sq_b x 0 + sq_b x 1) + (sq_b x 2 + sq_b x 3)) + ((sq_b x 4 + sq_b x 5) + (sq_b x 6 + sq_b x 7)) := by
  unfold sq_z
  cases e : Nat.beq x 0
  · rfl
  · rw [Nat.eq_of_beq_eq_true e]; rfl
/-- a one bit test, by the bit -/
theorem sq_if {l k : Nat} {A B : Prop} (hl : l < 2 ^ 31) (hk : k < 32) (f : sq_b l k = 0 → A) (g : sq_b l k ≠ 0 → B) : ((nI l >>> (nI k &&& 31)) &&& 1 = 0 → A) ∧ (¬ (nI l >>> (nI k &&& 31)) &&& 1 = 0 → B) := by
  rw [sq_bit hl hk]
  exact pk_eq (sq_b l k) 0 f g rfl rfl (by have := sq_b2 l k; omega) (by omega)
theorem sq_c8 {c x : Nat} : nI c * 8 + nI x = nI (c * 8 + x) := by
  rw [show (8 : Int32) = nI 8 from rfl, pk_mul, nI_add]
end
section
/-! the mirror of build and crowd in naturals. none: out of range, or not known, or out of fuel -/
def sq_w (s t u c : Nat) : Nat := bif Nat.beq c 0 then s else bif Nat.beq c 1 then t else u
def sq_sdI (A : List (Nat × Nat)) : Nat → Nat → Nat → Nat → List (Nat × Nat) → Option (Nat × Nat × List (Nat × Nat))
  | 0, _, _, _, _ => none
  | n + 1, l, m, c, D =>
    if 3 ≤ c then some (l, m, D) else
    match sq_g A c with
    | none => none
    | some v =>
      if l < 1024 ∧ m < 10 then
        if sq_b l c = 0 then
          match v with
          | 0 => sq_sdI A n (l ||| 2 ^ c) (m + 1) (c + 1) ((m, c) :: D)
          | p + 1 => if sq_b l p = 0 then sq_sdI A n l m (c + 1) D else sq_sdI A n (l ||| 2 ^ c) (m + 1) (c + 1) ((m, c) :: D)
        else sq_sdI A n l m (c + 1) D
      else none
def sq_sdO (A : List (Nat × Nat)) : Nat → Nat → Nat → Nat → List (Nat × Nat) → Option (List (Nat × Nat))
  | 0, _, _, _, _ => none
  | n + 1, l, m, r, D =>
    if 3 ≤ r then some D else
    match sq_sdI A 4 l m 0 D with
    | none => none
    | some (l', m', D') => sq_sdO A n l' m' (r + 1) D'
def sq_ln (s t u : Nat) (A D : List (Nat × Nat)) : Nat → Nat → List (Nat × Nat) → Option (List (Nat × Nat))
  | 0, _, _ => none
  | n + 1, k, K =>
    if 3 ≤ k then some K else
    match sq_g D k with
    | none => none
    | some c =>
      if c < 3 then
        match sq_g A c with
        | none => none
        | some 0 => sq_ln s t u A D n (k + 1) ((c, 2 ^ sq_w s t u c) :: K)
        | some (p + 1) =>
          if p < 10 then
            match sq_g K p with
            | none => none
            | some i => sq_ln s t u A D n (k + 1) ((c, i ||| 2 ^ sq_w s t u c) :: K)
          else none
      else none
def sq_mtI (K : List (Nat × Nat)) (x : Nat) : Nat → Nat → Nat → Option Nat
  | 0, _, _ => none
  | n + 1, y, c =>
    if 3 ≤ c then some y else
    match sq_g K c with
    | none => none
    | some v => if sq_b v x = 0 then sq_mtI K x n y (c + 1) else sq_mtI K x n (y ||| v) (c + 1)
def sq_mt (K : List (Nat × Nat)) : Nat → Nat → List (Nat × Nat) → Option (List (Nat × Nat))
  | 0, _, _ => none
  | n + 1, x, M =>
    if 8 ≤ x then some M else
    match sq_mtI K x 4 0 0 with
    | none => none
    | some y => sq_mt K n (x + 1) ((x, y) :: M)
def sq_luI (M : List (Nat × Nat)) (tk : Nat) : Nat → Nat → Nat → Nat → Option Nat
  | 0, _, _, _ => none
  | n + 1, tp, mo, x =>
    if 8 ≤ x then some tp else
    match sq_g M x with
    | none => none
    | some v =>
      if sq_b tk x = 0 then
        if sq_z v ≤ mo then sq_luI M tk n tp mo (x + 1) else sq_luI M tk n (x + 1) (sq_z v) (x + 1)
      else sq_luI M tk n tp mo (x + 1)
def sq_lu (M : List (Nat × Nat)) : Nat → Nat → Nat → Nat → List (Nat × Nat) → Option (Nat × List (Nat × Nat))
  | 0, _, _, _, _ => none
  | n + 1, tk, r, ln, L =>
    if 8 ≤ r then some (ln, L) else
    match sq_luI M tk 9 0 0 0 with
    | none => none
    | some 0 => sq_lu M n tk (r + 1) ln L
    | some (x + 1) => if ln < 8 ∧ x < 8 then sq_lu M n (tk ||| 2 ^ x) (r + 1) (ln + 1) ((ln, x) :: L) else none
def sq_p14 (L : List (Nat × Nat)) (ln : Nat) : Nat → Nat → List (Nat × Nat) → Option (List (Nat × Nat))
  | 0, _, _ => none
  | n + 1, k, B =>
    if ln ≤ k then some B else
    match sq_g L k with
    | none => none
    | some x => sq_p14 L ln n (k + 1) ((x, k) :: B)
def sq_op (L C : List (Nat × Nat)) (lv : Nat) : Nat → Nat → Nat → Option Nat
  | 0, _, _ => none
  | n + 1, o, k =>
    if lv ≤ k then some o else
    match sq_g L k with
    | none => none
    | some x =>
      match sq_g C x with
      | none => none
      | some v => if v ≤ o then sq_op L C lv n o (k + 1) else sq_op L C lv n v (k + 1)
def sq_ncB (M L C : List (Nat × Nat)) (lv y : Nat) : Nat → Nat → Nat → Option Nat
  | 0, _, _ => none
  | n + 1, b, k =>
    if lv ≤ k then some b else
    match sq_g L k with
    | none => none
    | some x =>
      match sq_g M y with
      | none => none
      | some m =>
        if sq_b m x = 0 then sq_ncB M L C lv y n b (k + 1) else
        match sq_g C x with
        | some (v + 1) => sq_ncB M L C lv y n (b ||| 2 ^ v) (k + 1)
        | _ => none
def sq_ncF (b o cc : Nat) : Nat → Nat → Option Nat
  | 0, _ => none
  | n + 1, d =>
    if o < d then some 0 else
    if cc ≤ d + 1 then some 0 else
    if sq_b b d = 0 then some (d + 1) else sq_ncF b o cc n (d + 1)
def sq_nc (M L C : List (Nat × Nat)) (lv y c o cc : Nat) : Option Nat :=
  if o < cc then
    match sq_ncB M L C lv y 9 0 0 with
    | none => none
    | some b => sq_ncF b o cc 9 c
  else some 0
def sq_kp (L C : List (Nat × Nat)) (ln : Nat) : Nat → Nat → List (Nat × Nat) → Option (List (Nat × Nat))
  | 0, _, _ => none
  | n + 1, k, B =>
    if ln ≤ k then some B else
    match sq_g L k with
    | none => none
    | some x =>
      match sq_g C x with
      | some (v + 1) => if v < 8 then sq_kp L C ln n (k + 1) ((x, v) :: B) else none
      | _ => none
def sq_pt (M L : List (Nat × Nat)) (ln : Nat) : Nat → Nat → List (Nat × Nat) → List (Nat × Nat) → Nat → Option (Nat × List (Nat × Nat))
  | 0, _, _, _, _ => none
  | n + 1, e, C, B, cc =>
    match e with
    | 0 => some (cc, B)
    | lv + 1 =>
      if lv < 8 then
        match sq_g L lv with
        | none => none
        | some x =>
          match sq_op L C lv 9 0 0 with
          | none => none
          | some o =>
            match sq_g C x with
            | none => none
            | some v =>
              match sq_nc M L C lv x v o cc with
              | none => none
              | some 0 => sq_pt M L ln n lv ((x, 0) :: C) B cc
              | some (d + 1) =>
                if d < 8 ∧ o < 8 then
                  if lv + 1 = ln then
                    match sq_kp L ((x, d + 1) :: C) ln 9 0 B with
                    | none => none
                    | some B' => sq_pt M L ln n lv ((x, d + 1) :: C) B' (if o ≤ d then o + 1 else o)
                  else
                    match sq_g L (lv + 1) with
                    | none => none
                    | some y => sq_pt M L ln n (lv + 2) ((y, 0) :: (x, d + 1) :: C) B cc
                else none
      else none
def sq_fr (A K B SH EO : List (Nat × Nat)) (c w : Nat) : Nat → Nat → List (Nat × Nat) → Option (List (Nat × Nat))
  | 0, _, _ => none
  | n + 1, x, RO =>
    if 8 ≤ x then some RO else
    match sq_g K c with
    | none => none
    | some kn =>
      if sq_b kn x = 0 then sq_fr A K B SH EO c w n (x + 1) RO else
      if sq_b (2 ^ w) x = 0 then
        match sq_g A c with
        | some (p + 1) =>
          match sq_g SH p with
          | none => none
          | some sh =>
            match sq_g B x with
            | none => none
            | some b =>
              match sq_g EO (sh + b) with
              | none => none
              | some o => if p < 10 then sq_fr A K B SH EO c w n (x + 1) ((x, o) :: RO) else none
        | _ => none
      else sq_fr A K B SH EO c w n (x + 1) ((x, c) :: RO)
/-- what stands at a place of entryClass, minus one where nothing was put -/
def sq_gd (L : List (Nat × Nat)) (k : Nat) : Nat := match sq_g L k with | none => 0 | some v => v
def sq_ft (K B EC : List (Nat × Nat)) (c a : Nat) : Nat → Nat → Option Bool
  | 0, _ => none
  | n + 1, x =>
    if 8 ≤ x then some true else
    match sq_g K c with
    | none => none
    | some kn =>
      if sq_b kn x = 0 then sq_ft K B EC c a n (x + 1) else
      match sq_g B x with
      | none => none
      | some b =>
        match sq_gd EC (a + b) with
        | 0 => sq_ft K B EC c a n (x + 1)
        | _ + 1 => some false
def sq_at (K B EC : List (Nat × Nat)) (c : Nat) : Nat → Nat → Option Nat
  | 0, _ => none
  | n + 1, k =>
    if k < 80 then
      match sq_ft K B EC c k 9 0 with
      | none => none
      | some true => some k
      | some false => sq_at K B EC c n (k + 1)
    else none
/-- what is defined for selector x by o -/
def sq_dv (s t u o x : Nat) : Nat := bif Nat.beq x (sq_w s t u o) then 11 * (o + 1) else 0
def sq_pk (s t u : Nat) (K B RO : List (Nat × Nat)) (c a : Nat) : Nat → Nat → List (Nat × Nat) → List (Nat × Nat) → List (Nat × Nat) → List (Nat × Nat) → Option (List (Nat × Nat) × List (Nat × Nat) × List (Nat × Nat) × List (Nat × Nat))
  | 0, _, _, _, _, _ => none
  | n + 1, x, EC, ES, EO, EM =>
    if 8 ≤ x then some (EC, ES, EO, EM) else
    match sq_g K c with
    | none => none
    | some kn =>
      if sq_b kn x = 0 then sq_pk s t u K B RO c a n (x + 1) EC ES EO EM else
      match sq_g B x with
      | none => none
      | some b =>
        match sq_g RO x with
        | none => none
        | some o => sq_pk s t u K B RO c a n (x + 1) ((a + b, c + 1) :: EC) ((a + b, x) :: ES) ((a + b, o) :: EO) ((a + b, sq_dv s t u o x) :: EM)
def sq_pks (s t u : Nat) (A D K B : List (Nat × Nat)) : Nat → Nat → List (Nat × Nat) → List (Nat × Nat) → List (Nat × Nat) → List (Nat × Nat) → List (Nat × Nat) → Option (List (Nat × Nat) × List (Nat × Nat) × List (Nat × Nat) × List (Nat × Nat))
  | 0, _, _, _, _, _, _ => none
  | n + 1, k, SH, EC, ES, EO, EM =>
    if 3 ≤ k then some (SH, EC, ES, EM) else
    match sq_g D k with
    | none => none
    | some c =>
      if c < 3 then
        match sq_fr A K B SH EO c (sq_w s t u c) 9 0 [] with
        | none => none
        | some RO =>
          match sq_at K B EC c 81 0 with
          | none => none
          | some a =>
            match sq_pk s t u K B RO c a 9 0 EC ES EO EM with
            | none => none
            | some (EC', ES', EO', EM') => sq_pks s t u A D K B n (k + 1) ((c, a) :: SH) EC' ES' EO' EM'
      else none
/-- the colours, from what meets: their number and who has which -/
def sq_pnt (M : List (Nat × Nat)) : Option (Nat × List (Nat × Nat)) :=
  match sq_lu M 9 0 0 0 [] with
  | none => none
  | some (ln, L) =>
    if 0 < ln ∧ ln ≤ 8 then
      match sq_p14 L ln 9 0 [] with
      | none => none
      | some B =>
        match sq_g L 0 with
        | none => none
        | some x => sq_pt M L ln 40 1 [(x, 0)] B ln
    else none
def sq_bld (s t u : Nat) (A : List (Nat × Nat)) : Option (List (Nat × Nat) × List (Nat × Nat) × Nat × List (Nat × Nat) × List (Nat × Nat) × List (Nat × Nat) × List (Nat × Nat) × List (Nat × Nat)) :=
  match sq_sdO A 4 0 0 0 [] with
  | none => none
  | some D =>
    match sq_ln s t u A D 4 0 [] with
    | none => none
    | some K =>
      match sq_mt K 9 0 [] with
      | none => none
      | some M =>
        match sq_pnt M with
        | none => none
        | some (cc, B) =>
          match sq_pks s t u A D K B 4 0 [] [] [] [] [] with
          | none => none
          | some (SH, EC, ES, EM) => some (K, M, cc, B, SH, EC, ES, EM)
/-- crowded, crowd -/
def sq_cd (M : List (Nat × Nat)) (y : Nat) : Nat → Nat → Option Bool
  | 0, _ => none
  | n + 1, x =>
    if 8 ≤ x then some true else
    if sq_b y x = 0 then sq_cd M y n (x + 1) else
    match sq_g M x with
    | none => none
    | some m => bif Nat.beq (Nat.land y m) y then sq_cd M y n (x + 1) else some false
/-- the selectors that meet something, as a mask -/
def sq_u (M : List (Nat × Nat)) : Nat → Nat
  | 0 => 0
  | x + 1 => bif Nat.beq (sq_gd M x) 0 then sq_u M x else Nat.lor (sq_u M x) (2 ^ x)
/-- the sets 255 - n + .. one by one; a set with a selector that meets nothing is no crowd -/
def sq_cr (M : List (Nat × Nat)) (U : Nat) : Nat → Nat → Option Nat
  | 0, mo => some mo
  | n + 1, mo =>
    bif Nat.beq (Nat.land (Nat.sub 255 n) U) (Nat.sub 255 n) then
      if sq_z (Nat.sub 255 n) ≤ mo then sq_cr M U n mo else
      match sq_cd M (Nat.sub 255 n) 9 0 with
      | none => none
      | some true => sq_cr M U n (sq_z (Nat.sub 255 n))
      | some false => sq_cr M U n mo
    else sq_cr M U n mo
def sq_tot (M : List (Nat × Nat)) : Bool := [0, 1, 2, 3, 4, 5, 6, 7].all (fun x => (sq_g M x).isSome)
def sq_crw (M : List (Nat × Nat)) : Option Nat := bif sq_tot M then sq_cr M (sq_u M 8) 255 0 else none
/-- the answer of send -/
def sq_sn (B SH EC ES EM : List (Nat × Nat)) (c x : Nat) : Option Nat :=
  match sq_g SH c with
  | none => none
  | some sh =>
    match sq_g B x with
    | none => none
    | some b =>
      match sq_g EC (sh + b) with
      | none => none
      | some e =>
        match sq_g ES (sh + b) with
        | none => none
        | some y => bif Nat.beq e (c + 1) && Nat.beq y x then sq_g EM (sh + b) else none
end
section
/-! the plain law: what the mirror answers for every three selectors and the four trees -/
def sq_one (s t : Nat) : Nat := bif Nat.beq s t then 1 else 2
def sq_k1 (s t u : Nat) : Bool :=
  match sq_bld s t u [(0, 0), (1, 1), (2, 0)] with
  | none => false
  | some (_, M, cc, _) =>
    match sq_crw M with
    | none => false
    | some r =>
      match sq_g M s with
      | none => false
      | some m => Nat.beq r (sq_one s t) && (Nat.beq cc r && Nat.beq m (2 ^ s ||| 2 ^ t))
def sq_n (s t u o : Nat) : Nat := (1 + (bif Nat.beq u s then 0 else 1)) + (bif Nat.beq o 1 && (!(Nat.beq t s) && !(Nat.beq t u)) then 1 else 0)
def sq_most (s t u o : Nat) : Nat := bif Nat.ble (sq_n s t u o) (sq_one s t) then sq_one s t else sq_n s t u o
def sq_set (s t u o : Nat) : Nat := bif Nat.beq o 1 then (2 ^ s ||| 2 ^ t) ||| 2 ^ u else 2 ^ s ||| 2 ^ u
def sq_k2 (s t u o : Nat) : Bool :=
  match sq_bld s t u [(0, 0), (1, 1), (2, o + 1)] with
  | none => false
  | some (K, M, _, B, SH, EC, ES, EM) =>
    match sq_crw M with
    | none => false
    | some r =>
      match sq_g K 2 with
      | none => false
      | some k =>
        match sq_sn B SH EC ES EM 2 u with
        | none => false
        | some x =>
          match sq_sn B SH EC ES EM o s with
          | none => false
          | some y => Nat.beq r (sq_most s t u o) && (Nat.beq k (sq_set s t u o) && (Nat.beq x 33 && Nat.beq y (bif Nat.beq o 1 && Nat.beq s t then 22 else 11)))
def sq_n3 (s t u : Nat) : Nat := (1 + (bif Nat.beq s u then 0 else 1)) + (bif !(Nat.beq t u) && !(Nat.beq t s) then 1 else 0)
def sq_k3 (s t u : Nat) : Bool :=
  match sq_bld s t u [(0, 3), (1, 1), (2, 0)] with
  | none => false
  | some (K, M, cc, B, SH, EC, ES, EM) =>
    match sq_crw M with
    | none => false
    | some r =>
      match sq_g K 1 with
      | none => false
      | some k =>
        match sq_sn B SH EC ES EM 1 u with
        | none => false
        | some x => Nat.beq r (sq_n3 s t u) && (Nat.beq cc r && (Nat.beq k ((2 ^ u ||| 2 ^ s) ||| 2 ^ t) && Nat.beq x (bif Nat.beq t u then 22 else bif Nat.beq s u then 11 else 33)))
def sq_ck (s t u : Nat) : Bool := sq_k1 s t u && (sq_k2 s t u 0 && (sq_k2 s t u 1 && sq_k3 s t u))
def sq_ckt (s : Nat) : Bool := [0, 1, 2, 3, 4, 5, 6, 7].all (fun t => [0, 1, 2, 3, 4, 5, 6, 7].all (fun u => sq_ck s t u))
theorem sq_c0 : sq_ckt 0 = true := by decide +kernel
theorem sq_c1 : sq_ckt 1 = true := by decide +kernel
theorem sq_c2 : sq_ckt 2 = true := by decide +kernel
theorem sq_c3 : sq_ckt 3 = true := by decide +kernel
theorem sq_c4 : sq_ckt 4 = true := by decide +kernel
theorem sq_c5 : sq_ckt 5 = true := by decide +kernel
theorem sq_c6 : sq_ckt 6 = true := by decide +kernel
theorem sq_c7 : sq_ckt 7 = true := by decide +kernel
theorem sq_in8 {P : Nat → Bool} (h : [0, 1, 2, 3, 4, 5, 6, 7].all P = true) : ∀ x, x < 8 → P x = true :=
  fun x hx => List.all_eq_true.mp h x ((by decide : ∀ x, x < 8 → x ∈ [0, 1, 2, 3, 4, 5, 6, 7]) x hx)
theorem sq_all : ∀ s, s < 8 → ∀ t, t < 8 → ∀ u, u < 8 → sq_ck s t u = true := by
  intro s hs t ht u hu
  have h : sq_ckt s = true := by
    rcases (show s = 0 ∨ s = 1 ∨ s = 2 ∨ s = 3 ∨ s = 4 ∨ s = 5 ∨ s = 6 ∨ s = 7 by omega) with e | e | e | e | e | e | e | e
    all_goals rw [e]
    · exact sq_c0
    · exact sq_c1
    · exact sq_c2
    · exact sq_c3
    · exact sq_c4
    · exact sq_c5
    · exact sq_c6
    · exact sq_c7
  exact sq_in8 (sq_in8 h t ht) u hu
end
section
/-! stores -/
theorem sq_up8 {a : Nat → Int32} {k v : Nat} (hk : k < 2 ^ 31) (hv : v < 128) : upd a (nI k).toNatClampNeg (nI v).toInt8.toInt32 = upd a k (nI v) := by rw [nI_clamp hk, sq_b8 v hv]
theorem sq_up16 {a : Nat → Int32} {k v : Nat} (hk : k < 2 ^ 31) (hv : v < 256) : upd a (nI k).toNatClampNeg (nI v).toInt16.toInt32 = upd a k (nI v) := by rw [nI_clamp hk, sq_b16 v hv]
/-- what is defined: by the three selectors -/
def sq_D (s t u : Nat) (a : Nat → Int32) : Prop := ∀ o x, o < 3 → x < 8 → a (o * 8 + x) = nI (sq_dv s t u o x)
theorem sq_w8 {s t u : Nat} (hs : s < 8) (ht : t < 8) (hu : u < 8) (c : Nat) : sq_w s t u c < 8 := by
  unfold sq_w
  cases Nat.beq c 0 <;> cases Nat.beq c 1 <;> simp [hs, ht, hu]
theorem sq_dvS (s t u o : Nat) : sq_dv s t u o (sq_w s t u o) = 11 * (o + 1) := by
  unfold sq_dv
  rw [Nat.beq_refl]; rfl
theorem sq_dvN {s t u o x : Nat} (h : x ≠ sq_w s t u o) : sq_dv s t u o x = 0 := by
  unfold sq_dv
  cases e : Nat.beq x (sq_w s t u o)
  · rfl
  · exact absurd (Nat.eq_of_beq_eq_true e) h
theorem sq_dv33 {s t u o x : Nat} (ho : o < 3) : sq_dv s t u o x ≤ 33 := by
  by_cases e : x = sq_w s t u o
  · rw [e, sq_dvS]; omega
  · rw [sq_dvN e]; omega
theorem sq_D0 {s t u : Nat} {a : Nat → Int32} (h : sq_D s t u a) {c : Nat} (hc : c < 3) : ∀ j, j < 8 → (a (c * 8 + j) = 0 ↔ j ≠ sq_w s t u c) := by
  intro j hj
  rw [h c j hc hj]
  by_cases e : j = sq_w s t u c
  · rw [e, sq_dvS]
    exact ⟨fun z => absurd z (nI_ne0 (by omega) (by omega)), fun z => absurd rfl z⟩
  · rw [sq_dvN e]
    exact ⟨fun _ => e, fun _ => rfl⟩
section
variable {f0 f1 f2 f3 : Int32} {a1 a2 a3 a4 a5 a6 a7 a8 a9 a10 a11 a12 a13 a14 : Nat → Int32}
/-! own -/
theorem sq_wOwnL {post : Int32 → Prop} {c w : Nat} (hc : c < 10) (hw : w < 8) (ha : ∀ j, j < 8 → (a2 (c * 8 + j) = 0 ↔ j ≠ w)) (hp : post (nI (2 ^ w))) : ∀ n i, i ≤ 8 → 8 < i + n → wX_own_4 post (nI c) f0 f1 f2 f3 a1 a2 a3 a4 a5 a6 a7 a8 a9 a10 a11 a12 a13 a14 n (nI (if w < i then 2 ^ w else 0)) (nI i) := by
  intro n
  induction n with
  | zero => intro i h1 h2; omega
  | succ n ih =>
    intro i h1 h2
    refine pk_le 8 i (fun z => ?_) (fun z => ?_)
    · rw [if_pos (by omega)]; exact hp
    · rw [sq_c8, nI_clamp (show c * 8 + i < 2 ^ 31 by omega)]
      refine ⟨vp_in_nI (by omega) (by omega), ?_⟩
      have t := ih (i + 1) (by omega) (by omega)
      by_cases e : i = w
      · rw [if_pos (by omega)] at t
        rw [if_neg (by omega)]
        refine br_f (fun z => (ha i (by omega)).mp z e) (nm_r ?_ (nm_r (nI_1 i) t))
        rw [sq_orB (show i < 31 by omega), Nat.zero_or, e]
      · rw [show (if w < i + 1 then 2 ^ w else 0) = (if w < i then 2 ^ w else 0) by
          by_cases q : w < i
          · rw [if_pos q, if_pos (by omega)]
          · rw [if_neg q, if_neg (by omega)]] at t
        exact br_t ((ha i (by omega)).mpr e) (nm_r (nI_1 i) t)
theorem sq_wOwn {post : Int32 → Prop} {c w : Nat} (hc : c < 10) (hw : w < 8) (ha : ∀ j, j < 8 → (a2 (c * 8 + j) = 0 ↔ j ≠ w)) (hp : post (nI (2 ^ w))) : wpX_own post (f0, f1, f2, f3, a1, a2, a3, a4, a5, a6, a7, a8, a9, a10, a11, a12, a13, a14) (nI c) := by
  have t := sq_wOwnL (f0 := f0) (f1 := f1) (f2 := f2) (f3 := f3) (a1 := a1) (a3 := a3) (a4 := a4) (a5 := a5) (a6 := a6) (a7 := a7) (a8 := a8) (a9 := a9) (a10 := a10) (a11 := a11) (a12 := a12) (a13 := a13) (a14 := a14) hc hw ha hp 9 0 (by omega) (by omega)
  rw [if_neg (by omega)] at t
  exact ⟨9, t⟩
/-! sortDown -/
theorem sq_wSdI {post : St2 → Prop} {J6 : Int32 → Int32 → Int32 → (Nat → Int32) → (Nat → Int32) → (Nat → Int32) → (Nat → Int32) → (Nat → Int32) → (Nat → Int32) → (Nat → Int32) → (Nat → Int32) → (Nat → Int32) → (Nat → Int32) → (Nat → Int32) → (Nat → Int32) → (Nat → Int32) → (Nat → Int32) → Prop} {A : List (Nat × Nat)} {x3 : Int32} (hA : sq_E a1 A) : ∀ (n l m c : Nat) (D : List (Nat × Nat)) (b : Nat → Int32) (l' m' : Nat) (D' : List (Nat × Nat)), c ≤ 3 → sq_sdI A n l m c D = some (l', m', D') → sq_R 10 b D → (∀ d, sq_R 10 d D' → J6 (nI l') (nI m') (x3 + 1) a1 a2 a3 a4 a5 a6 a7 a8 a9 a10 a11 a12 a13 d) → wX_sortDown_17 post J6 x3 (nI 3) f1 f2 f3 n (nI l) (nI m) (nI c) a1 a2 a3 a4 a5 a6 a7 a8 a9 a10 a11 a12 a13 b := by
  intro n
  induction n with
  | zero => intro l m c D b l' m' D' hc h; simp only [sq_sdI] at h; cases h
  | succ n ih =>
    intro l m c D b l' m' D' hc h hR hp
    unfold sq_sdI at h
    refine pk_le 3 c (fun z => ?_) (fun z => ?_)
    · rw [if_pos z] at h
      cases h
      exact nm_e (hp b hR)
    · rw [if_neg (by omega)] at h
      cases hv : sq_g A c with
      | none => rw [hv] at h; cases h
      | some v =>
        rw [hv] at h
        dsimp only at h
        obtain ⟨h16, ea⟩ := hA c v hv
        by_cases hg : l < 1024 ∧ m < 10
        · rw [if_pos hg] at h
          have put : sq_R 10 (upd b m (nI c)) ((m, c) :: D) := sq_Rc hR (by omega) rfl
          refine sq_if (by omega) (by omega) (fun hb => ?_) (fun hb => ?_)
          · rw [if_pos hb] at h
            unfold wX_sortDown_40
            rw [nI_clamp (show c < 2 ^ 31 by omega), ea]
            refine ⟨pk_in c 10 (by omega), ?_⟩
            cases v with
            | zero =>
              dsimp only at h
              refine br_t sq_eneg (br_f (by decide) (br_f (by decide) ⟨pk_in m 10 (by omega), nm_r (sq_up8 (by omega) (by omega)) (nm_r (nI_1 m) (nm_r (sq_orB (by omega)) (nm_r (nI_1 c) ?_)))⟩))
              exact ih _ _ _ _ _ _ _ _ (by omega) h put hp
            | succ p =>
              dsimp only at h
              refine br_f (sq_epos (by omega)) ⟨pk_in c 10 (by omega), ?_⟩
              rw [show sq_e (p + 1) = nI p from rfl]
              refine sq_if (by omega) (by omega) (fun hq => ?_) (fun hq => ?_)
              · rw [if_pos hq] at h
                exact br_f (by decide) (br_t rfl (nm_r (nI_1 c) (ih _ _ _ _ _ _ _ _ (by omega) h hR hp)))
              · rw [if_neg hq] at h
                refine br_f (by decide) (br_f (by decide) ⟨pk_in m 10 (by omega), nm_r (sq_up8 (by omega) (by omega)) (nm_r (nI_1 m) (nm_r (sq_orB (by omega)) (nm_r (nI_1 c) ?_)))⟩)
                exact ih _ _ _ _ _ _ _ _ (by omega) h put hp
          · rw [if_neg hb] at h
            have t := ih _ _ _ _ _ _ _ _ (by omega) h hR hp
            exact ⟨pk_in c 10 (by omega), br_c (fun _ => br_t rfl (nm_r (nI_1 c) t)) (fun _ => ⟨pk_in c 10 (by omega), br_c (fun _ => br_t rfl (nm_r (nI_1 c) t)) (fun _ => br_t rfl (nm_r (nI_1 c) t))⟩)⟩
        · rw [if_neg hg] at h; cases h
theorem sq_wSdO {post : St2 → Prop} {A : List (Nat × Nat)} (hA : sq_E a1 A) : ∀ (n l m r : Nat) (D : List (Nat × Nat)) (b : Nat → Int32) (D' : List (Nat × Nat)), r ≤ 3 → sq_sdO A n l m r D = some D' → sq_R 10 b D → (∀ d, sq_R 10 d D' → post (nI 3, f1, f2, f3, a1, a2, a3, a4, a5, a6, a7, a8, a9, a10, a11, a12, a13, d)) → wX_sortDown_6 post (nI 3) f1 f2 f3 n (nI l) (nI m) (nI r) a1 a2 a3 a4 a5 a6 a7 a8 a9 a10 a11 a12 a13 b := by
  intro n
  induction n with
  | zero => intro l m r D b D' hr h; simp only [sq_sdO] at h; cases h
  | succ n ih =>
    intro l m r D b D' hr h hR hp
    unfold sq_sdO at h
    refine pk_le 3 r (fun z => ?_) (fun z => ?_)
    · rw [if_pos z] at h
      cases h
      exact hp b hR
    · rw [if_neg (by omega)] at h
      cases hv : sq_sdI A 4 l m 0 D with
      | none => rw [hv] at h; cases h
      | some q =>
        obtain ⟨l', m', D1⟩ := q
        rw [hv] at h
        dsimp only at h
        refine ⟨4, sq_wSdI hA 4 l m 0 D b l' m' D1 (by omega) hv hR (fun d hd => ?_)⟩
        rw [nI_1]
        exact ih _ _ _ _ _ _ (by omega) h hd hp
theorem sq_wSd {post : St2 → Prop} {A D : List (Nat × Nat)} (hA : sq_E a1 A) (h : sq_sdO A 4 0 0 0 [] = some D) (hp : ∀ d, sq_R 10 d D → post (nI 3, f1, f2, f3, a1, a2, a3, a4, a5, a6, a7, a8, a9, a10, a11, a12, a13, d)) : wpX_sortDown post (nI 3, f1, f2, f3, a1, a2, a3, a4, a5, a6, a7, a8, a9, a10, a11, a12, a13, a14) :=
  ⟨4, sq_wSdO hA 4 0 0 0 [] a14 D (by omega) h (sq_R0 _ _) hp⟩
end
end
section
section
variable {f0 f1 f2 f3 : Int32} {a1 a2 a3 a4 a5 a6 a7 a8 a9 a10 a11 a12 a13 a14 : Nat → Int32}
/-! learn -/
theorem sq_wLn {post : St2 → Prop} {s t u : Nat} {A D : List (Nat × Nat)} (hs : s < 8) (ht : t < 8) (hu : u < 8) (hA : sq_E a1 A) (hd : sq_D s t u a2) (hD : sq_R 10 a14 D) : ∀ (n k : Nat) (K : List (Nat × Nat)) (b : Nat → Int32) (K' : List (Nat × Nat)), k ≤ 3 → sq_ln s t u A D n k K = some K' → sq_R 256 b K → (∀ d, sq_R 256 d K' → post (nI 3, f1, f2, f3, a1, a2, d, a4, a5, a6, a7, a8, a9, a10, a11, a12, a13, a14)) → wX_learn_2 post (nI 3) f1 f2 f3 n (nI k) a1 a2 b a4 a5 a6 a7 a8 a9 a10 a11 a12 a13 a14 := by
  intro n
  induction n with
  | zero => intro k K b K' hk h; simp only [sq_ln] at h; cases h
  | succ n ih =>
    intro k K b K' hk h hR hp
    unfold sq_ln at h
    refine pk_le 3 k (fun z => ?_) (fun z => ?_)
    · rw [if_pos z] at h
      cases h
      exact hp b hR
    · rw [if_neg (by omega)] at h
      cases hc : sq_g D k with
      | none => rw [hc] at h; cases h
      | some c =>
        rw [hc] at h
        dsimp only at h
        obtain ⟨_, ec⟩ := hD k c hc
        by_cases hg : c < 3
        · rw [if_pos hg] at h
          refine ⟨pk_in k 10 (by omega), nm_r (e' := nI c) (by rw [nI_clamp (show k < 2 ^ 31 by omega), ec]) ⟨pk_in c 10 (by omega), ?_⟩⟩
          have hw := sq_w8 hs ht hu c
          have hw2 : 2 ^ sq_w s t u c < 256 := sq_p8 _ hw
          have own := sq_D0 hd hg
          rw [nI_clamp (show c < 2 ^ 31 by omega)]
          cases hv : sq_g A c with
          | none => rw [hv] at h; cases h
          | some v =>
            rw [hv] at h
            obtain ⟨h16, ea⟩ := hA c v hv
            rw [ea]
            cases v with
            | zero =>
              dsimp only at h
              refine br_f sq_eneg' (sq_wOwn (show c < 10 by omega) hw own ⟨pk_in c 10 (by omega), nm_r ?_ (nm_r (nI_1 k) (ih _ _ _ _ (by omega) h (sq_Rc hR hw2 rfl) hp))⟩)
              rw [show (0 : Int32) = nI 0 from rfl, sq_or, Nat.zero_or]
              exact sq_up16 (by omega) hw2
            | succ p =>
              dsimp only at h
              by_cases hq : p < 10
              · rw [if_pos hq] at h
                rw [show sq_e (p + 1) = nI p from rfl, nI_clamp (show p < 2 ^ 31 by omega)]
                cases hi : sq_g K p with
                | none => rw [hi] at h; cases h
                | some i =>
                  rw [hi] at h
                  dsimp only at h
                  obtain ⟨hi8, ei⟩ := hR p i hi
                  have hor := sq_or8 hi8 hw2
                  rw [ei]
                  refine br_t (nI_pos' (by omega)) ⟨pk_in c 10 (by omega), pk_in p 10 hq, sq_wOwn (show c < 10 by omega) hw own ⟨pk_in c 10 (by omega), nm_r ?_ (nm_r (nI_1 k) (ih _ _ _ _ (by omega) h (sq_Rc hR hor rfl) hp))⟩⟩
                  rw [sq_or]
                  exact sq_up16 (by omega) hor
              · rw [if_neg hq] at h; cases h
        · rw [if_neg hg] at h; cases h
/-! meet -/
theorem sq_wMtI {post : St2 → Prop} {J2 : Int32 → (Nat → Int32) → (Nat → Int32) → (Nat → Int32) → (Nat → Int32) → (Nat → Int32) → (Nat → Int32) → (Nat → Int32) → (Nat → Int32) → (Nat → Int32) → (Nat → Int32) → (Nat → Int32) → (Nat → Int32) → (Nat → Int32) → (Nat → Int32) → Prop} {K : List (Nat × Nat)} {x : Nat} (hx : x < 8) (hK : sq_R 256 a3 K) : ∀ (n y c y' : Nat), c ≤ 3 → sq_mtI K x n y c = some y' → y < 256 → (y' < 256 → J2 (nI (x + 1)) a1 a2 a3 (upd a4 x (nI y')) a5 a6 a7 a8 a9 a10 a11 a12 a13 a14) → wX_meet_12 post J2 (nI x) (nI 3) f1 f2 f3 a1 a2 a3 a4 a5 a6 a7 a8 a9 a10 a11 a12 a13 a14 n (nI y) (nI c) := by
  intro n
  induction n with
  | zero => intro y c y' hc h; simp only [sq_mtI] at h; cases h
  | succ n ih =>
    intro y c y' hc h hy hp
    unfold sq_mtI at h
    refine pk_le 3 c (fun z => ?_) (fun z => ?_)
    · rw [if_pos z] at h
      cases h
      exact ⟨pk_in x 8 hx, nm_r (sq_up16 (by omega) hy) (nm_r (nI_1 x) (hp hy))⟩
    · rw [if_neg (by omega)] at h
      cases hv : sq_g K c with
      | none => rw [hv] at h; cases h
      | some v =>
        rw [hv] at h
        dsimp only at h
        obtain ⟨hv8, ev⟩ := hK c v hv
        rw [nI_clamp (show c < 2 ^ 31 by omega), ev]
        refine ⟨pk_in c 10 (by omega), sq_if (by omega) (by omega) (fun hb => ?_) (fun hb => ?_)⟩
        · rw [if_pos hb] at h
          exact nm_r (nI_1 c) (ih _ _ _ (by omega) h hy hp)
        · rw [if_neg hb] at h
          exact ⟨pk_in c 10 (by omega), nm_r (sq_or y v) (nm_r (nI_1 c) (ih _ _ _ (by omega) h (sq_or8 hy hv8) hp))⟩
theorem sq_wMt {post : St2 → Prop} {K : List (Nat × Nat)} (hK : sq_R 256 a3 K) : ∀ (n x : Nat) (M : List (Nat × Nat)) (b : Nat → Int32) (M' : List (Nat × Nat)), x ≤ 8 → sq_mt K n x M = some M' → sq_R 256 b M → (∀ d, sq_R 256 d M' → post (nI 3, f1, f2, f3, a1, a2, a3, d, a5, a6, a7, a8, a9, a10, a11, a12, a13, a14)) → wX_meet_2 post (nI 3) f1 f2 f3 n (nI x) a1 a2 a3 b a5 a6 a7 a8 a9 a10 a11 a12 a13 a14 := by
  intro n
  induction n with
  | zero => intro x M b M' hx h; simp only [sq_mt] at h; cases h
  | succ n ih =>
    intro x M b M' hx h hR hp
    unfold sq_mt at h
    refine pk_le 8 x (fun z => ?_) (fun z => ?_)
    · rw [if_pos z] at h
      cases h
      exact hp b hR
    · rw [if_neg (by omega)] at h
      cases hv : sq_mtI K x 4 0 0 with
      | none => rw [hv] at h; cases h
      | some y =>
        rw [hv] at h
        dsimp only at h
        exact ⟨4, sq_wMtI (a4 := b) (by omega) hK 4 0 0 y (by omega) hv (by omega) (fun hy => ih _ _ _ _ (by omega) h (sq_Rc hR hy rfl) hp)⟩
/-! sizeOf -/
def sq_zs (x : Nat) : Nat → Nat
  | 0 => 0
  | i + 1 => sq_zs x i + sq_b x i
theorem sq_zs8 (x : Nat) : sq_zs x 8 = sq_z x := by
  rw [sq_zE]
  show (((((((0 + sq_b x 0) + sq_b x 1) + sq_b x 2) + sq_b x 3) + sq_b x 4) + sq_b x 5) + sq_b x 6) + sq_b x 7 = ((sq_b x 0 + sq_b x 1) + (sq_b x 2 + sq_b x 3)) + ((sq_b x 4 + sq_b x 5) + (sq_b x 6 + sq_b x 7))
  omega
theorem sq_z8 (x : Nat) : sq_z x ≤ 8 := by
  have h0 := sq_b2 x 0
  have h1 := sq_b2 x 1
  have h2 := sq_b2 x 2
  have h3 := sq_b2 x 3
  have h4 := sq_b2 x 4
  have h5 := sq_b2 x 5
  have h6 := sq_b2 x 6
  have h7 := sq_b2 x 7
  rw [sq_zE]
  omega
theorem sq_wSzL {post : Int32 → Prop} {x : Nat} (hx : x < 2 ^ 31) (hp : post (nI (sq_z x))) : ∀ n i, i ≤ 8 → 8 < i + n → wX_sizeOf_4 post (nI x) n (nI (sq_zs x i)) (nI i) := by
  intro n
  induction n with
  | zero => intro i h1 h2; omega
  | succ n ih =>
    intro i h1 h2
    refine pk_le 8 i (fun z => ?_) (fun z => nm_r ?_ (nm_r (nI_1 i) (ih (i + 1) (by omega) (by omega))))
    · have e : i = 8 := by omega
      rw [e, sq_zs8]; exact hp
    · rw [sq_bit hx (by omega), nI_add]; rfl
theorem sq_wSz {post : Int32 → Prop} {x : Nat} (hx : x < 2 ^ 31) (hp : post (nI (sq_z x))) : wpX_sizeOf post () (nI x) :=
  ⟨9, sq_wSzL hx hp 9 0 (by omega) (by omega)⟩
/-! lineUp -/
theorem sq_wLuI {post : St2 → Prop} {J9 : Int32 → Int32 → Int32 → (Nat → Int32) → (Nat → Int32) → (Nat → Int32) → (Nat → Int32) → (Nat → Int32) → (Nat → Int32) → (Nat → Int32) → (Nat → Int32) → (Nat → Int32) → (Nat → Int32) → (Nat → Int32) → (Nat → Int32) → (Nat → Int32) → (Nat → Int32) → Prop} {M : List (Nat × Nat)} {tk r ln : Nat} (htk : tk < 256) (hln : ln < 2 ^ 31) (hM : sq_R 256 a4 M) : ∀ (n tp mo x tp' : Nat), x ≤ 8 → tp ≤ 8 → mo ≤ 8 → sq_luI M tk n tp mo x = some tp' → (tp' = 0 → J9 (nI tk) (nI (r + 1)) (nI ln) a1 a2 a3 a4 a5 a6 a7 a8 a9 a10 a11 a12 a13 a14) → (∀ y, tp' = y + 1 → ln < 8 ∧ y < 8 ∧ J9 (nI (tk ||| 2 ^ y)) (nI (r + 1)) (nI (ln + 1)) a1 a2 a3 a4 a5 a6 (upd a7 ln (nI y)) a8 a9 a10 a11 a12 a13 a14) → wX_lineUp_23 post J9 (nI tk) (nI r) f0 f1 (nI ln) f3 a1 a2 a3 a4 a5 a6 a7 a8 a9 a10 a11 a12 a13 a14 n (sq_e tp) (nI mo) (nI x) := by
  intro n
  induction n with
  | zero => intro tp mo x tp' h1 h2 h3 h; simp only [sq_luI] at h; cases h
  | succ n ih =>
    intro tp mo x tp' h1 h2 h3 h H0 H1
    unfold sq_luI at h
    refine pk_le 8 x (fun z => ?_) (fun z => ?_)
    · rw [if_pos z] at h
      cases h
      cases tp with
      | zero => exact br_t sq_eneg (nm_r (nI_1 r) (H0 rfl))
      | succ y =>
        obtain ⟨q1, q2, q3⟩ := H1 y rfl
        exact br_f (sq_epos (by omega)) (nm_r (sq_orB (by omega)) ⟨pk_in ln 8 q1, nm_r (sq_up8 (by omega) (by omega)) (nm_r (nI_1 ln) (nm_r (nI_1 r) q3))⟩)
    · rw [if_neg (by omega)] at h
      cases hv : sq_g M x with
      | none => rw [hv] at h; cases h
      | some v =>
        rw [hv] at h
        dsimp only at h
        obtain ⟨hv8, ev⟩ := hM x v hv
        have z8 := sq_z8 v
        rw [nI_clamp (show x < 2 ^ 31 by omega), ev]
        refine ⟨pk_in x 8 (by omega), sq_wSz (by omega) (sq_if (by omega) (by omega) (fun hb => ?_) (fun hb => ?_))⟩
        · rw [if_pos hb] at h
          refine pk_le (sq_z v) mo (fun q => ?_) (fun q => ?_)
          · rw [if_pos q] at h
            exact nm_r (nI_1 x) (ih _ _ _ _ (by omega) h2 h3 h H0 H1)
          · rw [if_neg (by omega)] at h
            exact nm_r (nI_1 x) (ih (x + 1) _ _ _ (by omega) (by omega) z8 h H0 H1)
        · rw [if_neg hb] at h
          exact nm_r (nI_1 x) (ih _ _ _ _ (by omega) h2 h3 h H0 H1)
theorem sq_wLu {post : St2 → Prop} {M : List (Nat × Nat)} (hM : sq_R 256 a4 M) : ∀ (n tk r ln : Nat) (L : List (Nat × Nat)) (b : Nat → Int32) (ln' : Nat) (L' : List (Nat × Nat)), r ≤ 8 → ln ≤ 8 → tk < 256 → sq_lu M n tk r ln L = some (ln', L') → sq_R 8 b L → (∀ d, sq_R 8 d L' → post (f0, f1, nI ln', f3, a1, a2, a3, a4, a5, a6, d, a8, a9, a10, a11, a12, a13, a14)) → wX_lineUp_9 post f0 f1 f3 n (nI tk) (nI r) (nI ln) a1 a2 a3 a4 a5 a6 b a8 a9 a10 a11 a12 a13 a14 := by
  intro n
  induction n with
  | zero => intro tk r ln L b ln' L' h1 h2 h3 h; simp only [sq_lu] at h; cases h
  | succ n ih =>
    intro tk r ln L b ln' L' h1 h2 h3 h hR hp
    unfold sq_lu at h
    refine pk_le 8 r (fun z => ?_) (fun z => ?_)
    · rw [if_pos z] at h
      cases h
      exact hp b hR
    · rw [if_neg (by omega)] at h
      cases hv : sq_luI M tk 9 0 0 0 with
      | none => rw [hv] at h; cases h
      | some tp =>
        rw [hv] at h
        refine ⟨9, sq_wLuI (a7 := b) h3 (by omega) hM 9 0 0 0 tp (by omega) (by omega) (by omega) hv (fun e => ?_) (fun y e => ?_)⟩
        · subst e
          dsimp only at h
          exact ih _ _ _ _ _ _ _ (by omega) h2 h3 h hR hp
        · subst e
          dsimp only at h
          by_cases hg : ln < 8 ∧ y < 8
          · rw [if_pos hg] at h
            exact ⟨hg.1, hg.2, ih _ _ _ _ _ _ _ (by omega) (by omega) (sq_or8 h3 (sq_p8 y hg.2)) h (sq_Rc hR hg.2 rfl) hp⟩
          · rw [if_neg hg] at h; cases h
end
end
section
theorem sq_elt : ∀ v, v < 17 → ∀ o, o < 17 → (sq_e v < nI o ↔ v ≤ o) := by decide +kernel
section
variable {f0 f1 f2 f3 : Int32} {a1 a2 a3 a4 a5 a6 a7 a8 a9 a10 a11 a12 a13 a14 : Nat → Int32}
/-! opened -/
theorem sq_wOp {post : Int32 → Prop} {L C : List (Nat × Nat)} {lv : Nat} (hlv : lv < 8) (hL : sq_R 8 a7 L) (hC : sq_E a5 C) : ∀ (n o k r : Nat), k ≤ lv → o ≤ 16 → sq_op L C lv n o k = some r → (r ≤ 16 → post (nI r)) → wX_opened_4 post (nI lv) f0 f1 f2 f3 a1 a2 a3 a4 a5 a6 a7 a8 a9 a10 a11 a12 a13 a14 n (nI o) (nI k) := by
  intro n
  induction n with
  | zero => intro o k r h1 h2 h; simp only [sq_op] at h; cases h
  | succ n ih =>
    intro o k r h1 h2 h hp
    unfold sq_op at h
    refine pk_le lv k (fun z => ?_) (fun z => ?_)
    · rw [if_pos z] at h
      cases h
      exact hp h2
    · rw [if_neg (by omega)] at h
      cases hx : sq_g L k with
      | none => rw [hx] at h; cases h
      | some x =>
        rw [hx] at h
        dsimp only at h
        obtain ⟨hx8, ex⟩ := hL k x hx
        rw [nI_clamp (show k < 2 ^ 31 by omega), ex, nI_clamp (show x < 2 ^ 31 by omega)]
        cases hv : sq_g C x with
        | none => rw [hv] at h; cases h
        | some v =>
          rw [hv] at h
          dsimp only at h
          obtain ⟨hv16, ev⟩ := hC x v hv
          rw [ev, sq_e1]
          refine ⟨pk_in k 8 (by omega), pk_in x 8 hx8, ek_if (sq_elt v (by omega) o (by omega)) (fun q => ?_) (fun q => ?_)⟩
          · rw [if_pos q] at h
            exact nm_r (nI_1 k) (ih _ _ _ (by omega) h2 h hp)
          · rw [if_neg q] at h
            exact ⟨pk_in k 8 (by omega), pk_in x 8 hx8, nm_e (nm_r (nI_1 k) (ih _ _ _ (by omega) hv16 h hp))⟩
/-! nextColour -/
theorem sq_wNcF {post : Int32 → Prop} {b o cc : Nat} (hb : b < 2 ^ 17) (ho : o ≤ 16) (hcc : cc ≤ 8) (h0 : 0 < cc) : ∀ (n d q : Nat), d ≤ 20 → sq_ncF b o cc n d = some q → (q ≤ 8 → post (sq_e q)) → wX_nextColour_74 post (nI o) (nI b) f0 f1 f2 (nI cc) a1 a2 a3 a4 a5 a6 a7 a8 a9 a10 a11 a12 a13 a14 n (nI d) := by
  intro n
  induction n with
  | zero => intro d q h1 h; simp only [sq_ncF] at h; cases h
  | succ n ih =>
    intro d q h1 h hp
    unfold sq_ncF at h
    refine pk_lt o d (fun z => ?_) (fun z => ?_)
    · rw [if_pos z] at h
      cases h
      exact hp (by omega)
    · rw [if_neg (by omega)] at h
      have e1 : nI cc - 1 = nI (cc - 1) := by
        obtain ⟨p, rfl⟩ : ∃ p, cc = p + 1 := ⟨cc - 1, by omega⟩
        exact nI_pred p
      refine pk_le (cc - 1) d (fun z2 => ?_) (fun z2 => ?_) e1
      · rw [if_pos (by omega)] at h
        cases h
        exact hp (by omega)
      · rw [if_neg (by omega)] at h
        refine sq_if (by omega) (by omega) (fun q => ?_) (fun q => ?_)
        · rw [if_pos q] at h
          cases h
          exact hp (by omega)
        · rw [if_neg q] at h
          exact nm_r (nI_1 d) (ih _ _ (by omega) h hp)
theorem sq_or17 {a b : Nat} (ha : a < 2 ^ 17) (hb : b < 2 ^ 17) : a ||| b < 2 ^ 17 := Nat.or_lt_two_pow (n := 17) ha hb
theorem sq_wNcB {post : Int32 → Prop} {M L C : List (Nat × Nat)} {lv y c o cc : Nat} (hlv : lv < 8) (hy8 : y < 8) (hM : sq_R 256 a4 M) (hL : sq_R 8 a7 L) (hC : sq_E a5 C) (hy : a7 lv = nI y) : ∀ (n b k b' : Nat), k ≤ lv → b < 2 ^ 17 → sq_ncB M L C lv y n b k = some b' → (b' < 2 ^ 17 → ∃ fu, wX_nextColour_74 post (nI o) (nI b') f0 f1 f2 (nI cc) a1 a2 a3 a4 a5 a6 a7 a8 a9 a10 a11 a12 a13 a14 fu (nI c)) → wX_nextColour_16 post (nI lv) (nI c) (nI o) f0 f1 f2 (nI cc) a1 a2 a3 a4 a5 a6 a7 a8 a9 a10 a11 a12 a13 a14 n (nI b) (nI k) := by
  intro n
  induction n with
  | zero => intro b k b' h1 h2 h; simp only [sq_ncB] at h; cases h
  | succ n ih =>
    intro b k b' h1 h2 h hp
    unfold sq_ncB at h
    refine pk_le lv k (fun z => ?_) (fun z => ?_)
    · rw [if_pos z] at h
      cases h
      exact hp h2
    · rw [if_neg (by omega)] at h
      cases hx : sq_g L k with
      | none => rw [hx] at h; cases h
      | some x =>
        rw [hx] at h
        dsimp only at h
        obtain ⟨hx8, ex⟩ := hL k x hx
        cases hm : sq_g M y with
        | none => rw [hm] at h; cases h
        | some m =>
          rw [hm] at h
          dsimp only at h
          obtain ⟨hm8, em⟩ := hM y m hm
          rw [nI_clamp (show k < 2 ^ 31 by omega), nI_clamp (show lv < 2 ^ 31 by omega), hy, ex, nI_clamp (show y < 2 ^ 31 by omega), nI_clamp (show x < 2 ^ 31 by omega), em]
          refine ⟨pk_in lv 8 hlv, pk_in y 8 hy8, pk_in k 8 (by omega), sq_if (by omega) (by omega) (fun q => ?_) (fun q => ?_)⟩
          · rw [if_pos q] at h
            exact nm_r (nI_1 k) (ih _ _ _ (by omega) h2 h hp)
          · rw [if_neg q] at h
            refine ⟨pk_in k 8 (by omega), pk_in x 8 hx8, ?_⟩
            cases hv : sq_g C x with
            | none => rw [hv] at h; cases h
            | some w =>
              rw [hv] at h
              obtain ⟨hv16, ev⟩ := hC x w hv
              rw [ev]
              cases w with
              | zero => cases h
              | succ v =>
                dsimp only at h
                have hpw : 2 ^ v < 2 ^ 17 := Nat.pow_lt_pow_right (by omega) (by omega)
                exact nm_r (sq_orB (show v < 31 by omega)) (nm_r (nI_1 k) (ih _ _ _ (by omega) (sq_or17 h2 hpw) h hp))
theorem sq_wNc {post : Int32 → Prop} {M L C : List (Nat × Nat)} {lv y c o cc q : Nat} (hlv : lv < 8) (hy8 : y < 8) (hc : c ≤ 16) (ho : o ≤ 16) (hcc : cc ≤ 8) (hM : sq_R 256 a4 M) (hL : sq_R 8 a7 L) (hC : sq_E a5 C) (hy : a7 lv = nI y) (h : sq_nc M L C lv y c o cc = some q) (hp : q ≤ 8 → post (sq_e q)) : wpX_nextColour post (f0, f1, f2, nI cc, a1, a2, a3, a4, a5, a6, a7, a8, a9, a10, a11, a12, a13, a14) (nI lv) (nI c) (nI o) := by
  unfold sq_nc at h
  refine pk_lt o cc (fun z => ?_) (fun z => ?_)
  · rw [if_pos z] at h
    cases hb : sq_ncB M L C lv y 9 0 0 with
    | none => rw [hb] at h; cases h
    | some b =>
      rw [hb] at h
      dsimp only at h
      exact ⟨9, sq_wNcB hlv hy8 hM hL hC hy 9 0 0 b (by omega) (by omega) hb (fun hb' => ⟨9, sq_wNcF hb' ho hcc (by omega) 9 c q (by omega) h hp⟩)⟩
  · rw [if_neg (by omega)] at h
    cases h
    exact hp (by omega)
/-! keep -/
theorem sq_wKpL {post : St2 → Prop} {L C : List (Nat × Nat)} {ln : Nat} (hln : ln ≤ 8) (hL : sq_R 8 a7 L) (hC : sq_E a5 C) : ∀ (n k : Nat) (B : List (Nat × Nat)) (b : Nat → Int32) (B' : List (Nat × Nat)), k ≤ ln → sq_kp L C ln n k B = some B' → sq_R 8 b B → (∀ d, sq_R 8 d B' → post (f0, f1, nI ln, f3, a1, a2, a3, a4, a5, d, a7, a8, a9, a10, a11, a12, a13, a14)) → wX_keep_7 post f0 f1 (nI ln) f3 n (nI k) a1 a2 a3 a4 a5 b a7 a8 a9 a10 a11 a12 a13 a14 := by
  intro n
  induction n with
  | zero => intro k B b B' h1 h; simp only [sq_kp] at h; cases h
  | succ n ih =>
    intro k B b B' h1 h hR hp
    unfold sq_kp at h
    refine pk_le ln k (fun z => ?_) (fun z => ?_)
    · rw [if_pos z] at h
      cases h
      exact hp b hR
    · rw [if_neg (by omega)] at h
      cases hx : sq_g L k with
      | none => rw [hx] at h; cases h
      | some x =>
        rw [hx] at h
        dsimp only at h
        obtain ⟨hx8, ex⟩ := hL k x hx
        cases hv : sq_g C x with
        | none => rw [hv] at h; cases h
        | some w =>
          rw [hv] at h
          obtain ⟨hv16, ev⟩ := hC x w hv
          cases w with
          | zero => cases h
          | succ v =>
            dsimp only at h
            by_cases hg : v < 8
            · rw [if_pos hg] at h
              rw [nI_clamp (show k < 2 ^ 31 by omega), ex, nI_clamp (show x < 2 ^ 31 by omega), ev]
              refine ⟨pk_in k 8 (by omega), pk_in k 8 (by omega), pk_in x 8 hx8, pk_in x 8 hx8, nm_r ?_ (nm_r (nI_1 k) (ih _ _ _ _ (by omega) h (sq_Rc hR hg rfl) hp))⟩
              rw [vp_nar_byte, show sq_e (v + 1) = nI v from rfl, sq_b8 v (by omega)]
            · rw [if_neg hg] at h; cases h
theorem sq_wKp {post : St2 → Prop} {L C B B' : List (Nat × Nat)} {ln m : Nat} (hln : ln ≤ 8) (hL : sq_R 8 a7 L) (hC : sq_E a5 C) (hB : sq_R 8 a6 B) (h : sq_kp L C ln 9 0 B = some B') (hp : ∀ d, sq_R 8 d B' → post (f0, f1, nI ln, nI m, a1, a2, a3, a4, a5, d, a7, a8, a9, a10, a11, a12, a13, a14)) : wpX_keep post (f0, f1, nI ln, f3, a1, a2, a3, a4, a5, a6, a7, a8, a9, a10, a11, a12, a13, a14) (nI m) :=
  ⟨9, sq_wKpL hln hL hC 9 0 B a6 B' (by omega) h hB hp⟩
/-! the search -/
theorem sq_wPt {post : St2 → Prop} {M L : List (Nat × Nat)} {ln : Nat} (hln : ln ≤ 8) (h0 : 0 < ln) (hM : sq_R 256 a4 M) (hL : sq_R 8 a7 L) : ∀ (n e : Nat) (C B : List (Nat × Nat)) (cc : Nat) (b5 b6 : Nat → Int32) (r cc' : Nat) (B' : List (Nat × Nat)), sq_pt M L ln n e C B cc = some (cc', B') → e ≤ ln → cc ≤ 8 → r + n ≤ 60000 → sq_E b5 C → sq_R 8 b6 B → (∀ d5 d6, cc' ≤ 8 → sq_R 8 d6 B' → post (f0, f1, nI ln, nI cc', a1, a2, a3, a4, d5, d6, a7, a8, a9, a10, a11, a12, a13, a14)) → wX_paint_64 post n (sq_e e) (nI r) f0 f1 (nI ln) (nI cc) a1 a2 a3 a4 b5 b6 a7 a8 a9 a10 a11 a12 a13 a14 := by
  intro n
  induction n with
  | zero => intro e C B cc b5 b6 r cc' B' h; simp only [sq_pt] at h; cases h
  | succ n ih =>
    intro e C B cc b5 b6 r cc' B' h he hcc hr hC hB hp
    unfold sq_pt at h
    refine pk_le 65536 r (fun z => absurd z (by omega)) (fun _ => ?_)
    cases e with
    | zero =>
      dsimp only at h
      cases h
      exact br_t sq_eneg (hp b5 b6 hcc hB)
    | succ lv =>
      dsimp only at h
      refine br_f (sq_epos (by omega)) (pk_le ln 0 (fun z => absurd z (by omega)) (fun _ => ?_))
      rw [show sq_e (lv + 1) = nI lv from rfl]
      by_cases hg : lv < 8
      · rw [if_pos hg] at h
        cases hx : sq_g L lv with
        | none => rw [hx] at h; cases h
        | some x =>
          rw [hx] at h
          dsimp only at h
          obtain ⟨hx8, ex⟩ := hL lv x hx
          refine ⟨pk_in lv 8 hg, nm_r (e' := nI x) (by rw [nI_clamp (show lv < 2 ^ 31 by omega), ex]) ?_⟩
          cases ho : sq_op L C lv 9 0 0 with
          | none => rw [ho] at h; cases h
          | some o =>
            rw [ho] at h
            dsimp only at h
            refine ⟨9, sq_wOp hg hL hC 9 0 0 o (by omega) (by omega) ho (fun ho16 => ?_)⟩
            cases hv : sq_g C x with
            | none => rw [hv] at h; cases h
            | some v =>
              rw [hv] at h
              dsimp only at h
              obtain ⟨hv16, ev⟩ := hC x v hv
              rw [nI_clamp (show x < 2 ^ 31 by omega), ev, sq_e1]
              cases hq : sq_nc M L C lv x v o cc with
              | none => rw [hq] at h; cases h
              | some q =>
                rw [hq] at h
                refine ⟨pk_in x 8 hx8, sq_wNc hg hx8 hv16 ho16 hcc hM hL hC ex hq (fun hq8 => ⟨pk_in x 8 hx8, nm_r (e' := upd b5 x (sq_e q)) (by rw [sq_be q (by omega)]) ?_⟩)⟩
                have hC' : sq_E (upd b5 x (sq_e q)) ((x, q) :: C) := sq_Ec hC (by omega) rfl
                cases q with
                | zero =>
                  dsimp only at h
                  refine br_f sq_eneg' (nm_r ?_ (nm_r (nI_1 r) (ih lv _ _ _ _ _ _ _ _ h (by omega) hcc (by omega) hC' hB hp)))
                  exact sq_em (by omega)
                | succ d =>
                  dsimp only at h
                  refine br_t (sq_epos' (by omega)) ?_
                  by_cases hd : d < 8 ∧ o < 8
                  · rw [if_pos hd] at h
                    have e1 : nI ln - 1 = nI (ln - 1) := by
                      obtain ⟨p, rfl⟩ : ∃ p, ln = p + 1 := ⟨ln - 1, by omega⟩
                      exact nI_pred p
                    refine pk_eq lv (ln - 1) (fun z => ?_) (fun z => ?_) rfl e1
                    · rw [if_pos (by omega)] at h
                      cases hk : sq_kp L ((x, d + 1) :: C) ln 9 0 B with
                      | none => rw [hk] at h; cases h
                      | some B1 =>
                        rw [hk] at h
                        dsimp only at h
                        refine pk_le o d (fun y => ?_) (fun y => ?_)
                        · rw [if_pos y] at h
                          unfold wX_paint_159
                          rw [nI_1 o]
                          refine sq_wKp hln hL hC' hB hk (fun d6 h6 => nm_r ?_ (nm_r (nI_1 r) (ih lv _ _ _ _ _ _ _ _ h (by omega) (by omega) (by omega) hC' h6 hp)))
                          exact sq_em (by omega)
                        · rw [if_neg (by omega)] at h
                          unfold wX_paint_159
                          refine sq_wKp hln hL hC' hB hk (fun d6 h6 => nm_r ?_ (nm_r (nI_1 r) (ih lv _ _ _ _ _ _ _ _ h (by omega) (by omega) (by omega) hC' h6 hp)))
                          exact sq_em (by omega)
                    · rw [if_neg (by omega)] at h
                      cases hy : sq_g L (lv + 1) with
                      | none => rw [hy] at h; cases h
                      | some y =>
                        rw [hy] at h
                        dsimp only at h
                        obtain ⟨hy8, ey⟩ := hL (lv + 1) y hy
                        refine nm_r (nI_1 lv) ⟨pk_in (lv + 1) 8 (by omega), ?_⟩
                        rw [nI_clamp (show lv + 1 < 2 ^ 31 by omega), ey]
                        refine ⟨pk_in y 8 hy8, nm_r (e' := upd (upd b5 x (sq_e (d + 1))) y (sq_e 0)) ?_ (nm_r (nI_1 r) (ih (lv + 2) _ _ _ _ _ _ _ _ h (by omega) hcc (by omega) (sq_Ec hC' (by omega) rfl) hB hp))⟩
                        rw [nI_clamp (show y < 2 ^ 31 by omega)]
                        rfl
                  · rw [if_neg hd] at h; cases h
      · rw [if_neg hg] at h; cases h
end
end
section
section
variable {f0 f1 f2 f3 : Int32} {a1 a2 a3 a4 a5 a6 a7 a8 a9 a10 a11 a12 a13 a14 : Nat → Int32}
/-! paint -/
theorem sq_wP14 {post : St2 → Prop} {L : List (Nat × Nat)} {ln x : Nat} (hln : ln ≤ 8) (h0 : 0 < ln) (hL : sq_R 8 a7 L) (hx : sq_g L 0 = some x) : ∀ (n k : Nat) (B : List (Nat × Nat)) (b : Nat → Int32) (B' : List (Nat × Nat)), k ≤ ln → sq_p14 L ln n k B = some B' → sq_R 8 b B → (∀ d, sq_R 8 d B' → ∃ fu, wX_paint_64 post fu 0 0 f0 f1 (nI ln) f3 a1 a2 a3 a4 (upd a5 x (-1)) d a7 a8 a9 a10 a11 a12 a13 a14) → wX_paint_14 post f0 f1 (nI ln) f3 n (nI k) a1 a2 a3 a4 a5 b a7 a8 a9 a10 a11 a12 a13 a14 := by
  intro n
  induction n with
  | zero => intro k B b B' h1 h; simp only [sq_p14] at h; cases h
  | succ n ih =>
    intro k B b B' h1 h hR hp
    unfold sq_p14 at h
    refine pk_le ln k (fun z => ?_) (fun z => ?_)
    · rw [if_pos z] at h
      cases h
      obtain ⟨hx8, ex⟩ := hL 0 x hx
      refine pk_le ln 0 (fun z => absurd z (by omega)) (fun _ => ?_)
      rw [ex]
      refine ⟨pk_in x 8 hx8, nm_r (e' := upd a5 x (-1)) (by rw [nI_clamp (show x < 2 ^ 31 by omega)]) (hp b hR)⟩
    · rw [if_neg (by omega)] at h
      cases hy : sq_g L k with
      | none => rw [hy] at h; cases h
      | some y =>
        rw [hy] at h
        dsimp only at h
        obtain ⟨hy8, ey⟩ := hL k y hy
        rw [nI_clamp (show k < 2 ^ 31 by omega), ey]
        exact ⟨pk_in k 8 (by omega), pk_in y 8 hy8, nm_r (sq_up8 (by omega) (by omega)) (nm_r (nI_1 k) (ih _ _ _ _ (by omega) h (sq_Rc hR (by omega) rfl) hp))⟩
theorem sq_wPaint {post : St2 → Prop} {M B : List (Nat × Nat)} {cc : Nat} (hM : sq_R 256 a4 M) (h : sq_pnt M = some (cc, B)) (hp : ∀ g2 d5 d6 d7, cc ≤ 8 → sq_R 8 d6 B → post (f0, f1, g2, nI cc, a1, a2, a3, a4, d5, d6, d7, a8, a9, a10, a11, a12, a13, a14)) : wpX_paint post (f0, f1, f2, f3, a1, a2, a3, a4, a5, a6, a7, a8, a9, a10, a11, a12, a13, a14) := by
  unfold sq_pnt at h
  cases hl : sq_lu M 9 0 0 0 [] with
  | none => rw [hl] at h; cases h
  | some q =>
    obtain ⟨ln, L⟩ := q
    rw [hl] at h
    dsimp only at h
    by_cases hg : 0 < ln ∧ ln ≤ 8
    · rw [if_pos hg] at h
      cases hb : sq_p14 L ln 9 0 [] with
      | none => rw [hb] at h; cases h
      | some B1 =>
        rw [hb] at h
        dsimp only at h
        cases hx : sq_g L 0 with
        | none => rw [hx] at h; cases h
        | some x =>
          rw [hx] at h
          dsimp only at h
          refine ⟨9, sq_wLu hM 9 0 0 0 [] a7 ln L (by omega) (by omega) (by omega) hl (sq_R0 _ _) (fun d7 h7 => ?_)⟩
          refine ⟨9, sq_wP14 hg.2 hg.1 h7 hx 9 0 [] a6 B1 (by omega) hb (sq_R0 _ _) (fun d6 h6 => ?_)⟩
          exact ⟨40, sq_wPt hg.2 hg.1 hM h7 40 1 [(x, 0)] B1 ln _ _ 0 cc B h (by omega) hg.2 (by omega) (sq_Ec (sq_E0 a5) (by omega) rfl) h6 (fun d5 d6 hc h6 => hp _ d5 d6 d7 hc h6)⟩
    · rw [if_neg hg] at h; cases h
/-! fillRow -/
theorem sq_wFrL {post : St2 → Prop} {A K B SH EO : List (Nat × Nat)} {c w : Nat} (hc : c < 3) (hw : w < 8) (hA : sq_E a1 A) (hK : sq_R 256 a3 K) (hB : sq_R 8 a6 B) (hS : sq_R 80 a8 SH) (hO : sq_R 3 a11 EO) : ∀ (n x : Nat) (RO : List (Nat × Nat)) (b : Nat → Int32) (RO' : List (Nat × Nat)), x ≤ 8 → sq_fr A K B SH EO c w n x RO = some RO' → sq_R 3 b RO → (∀ d, sq_R 3 d RO' → post (f0, f1, f2, f3, a1, a2, a3, a4, a5, a6, a7, a8, a9, a10, a11, a12, d, a14)) → wX_fillRow_8 post (nI c) (nI (2 ^ w)) f0 f1 f2 f3 n (nI x) a1 a2 a3 a4 a5 a6 a7 a8 a9 a10 a11 a12 b a14 := by
  intro n
  induction n with
  | zero => intro x RO b RO' h1 h; simp only [sq_fr] at h; cases h
  | succ n ih =>
    intro x RO b RO' h1 h hR hp
    have hw2 : 2 ^ w < 256 := sq_p8 w hw
    unfold sq_fr at h
    refine pk_le 8 x (fun z => ?_) (fun z => ?_)
    · rw [if_pos z] at h
      cases h
      exact hp b hR
    · rw [if_neg (by omega)] at h
      cases hk : sq_g K c with
      | none => rw [hk] at h; cases h
      | some kn =>
        rw [hk] at h
        dsimp only at h
        obtain ⟨hk8, ek⟩ := hK c kn hk
        rw [nI_clamp (show c < 2 ^ 31 by omega), ek]
        refine ⟨pk_in c 10 (by omega), sq_if (by omega) (by omega) (fun q => ?_) (fun q => ?_)⟩
        · rw [if_pos q] at h
          exact nm_r (nI_1 x) (ih _ _ _ _ (by omega) h hR hp)
        · rw [if_neg q] at h
          refine sq_if (by omega) (by omega) (fun q2 => ?_) (fun q2 => ?_)
          · rw [if_pos q2] at h
            cases ha : sq_g A c with
            | none => rw [ha] at h; cases h
            | some v =>
              rw [ha] at h
              obtain ⟨hv16, ev⟩ := hA c v ha
              cases v with
              | zero => cases h
              | succ p =>
                dsimp only at h
                cases hsh : sq_g SH p with
                | none => rw [hsh] at h; cases h
                | some sh =>
                  rw [hsh] at h
                  dsimp only at h
                  obtain ⟨hs80, es⟩ := hS p sh hsh
                  cases hb : sq_g B x with
                  | none => rw [hb] at h; cases h
                  | some bb =>
                    rw [hb] at h
                    dsimp only at h
                    obtain ⟨hb8, eb⟩ := hB x bb hb
                    cases ho : sq_g EO (sh + bb) with
                    | none => rw [ho] at h; cases h
                    | some o =>
                      rw [ho] at h
                      dsimp only at h
                      obtain ⟨ho3, eo⟩ := hO _ o ho
                      by_cases hg : p < 10
                      · rw [if_pos hg] at h
                        unfold wX_fillRow_40
                        rw [nI_clamp (show c < 2 ^ 31 by omega), ev, show sq_e (p + 1) = nI p from rfl, nI_clamp (show p < 2 ^ 31 by omega), nI_clamp (show x < 2 ^ 31 by omega), es, eb, nI_add, nI_clamp (show sh + bb < 2 ^ 31 by omega), eo]
                        refine br_t rfl ⟨pk_in c 10 (by omega), pk_in p 10 hg, pk_in x 8 (by omega), pk_in (sh + bb) 96 (by omega), pk_in x 8 (by omega), nm_r (e' := upd b x (nI o)) ?_ (nm_r (nI_1 x) (ih _ _ _ _ (by omega) h (sq_Rc hR ho3 rfl) hp))⟩
                        rw [vp_nar_byte, sq_b8 o (by omega)]
                      · rw [if_neg hg] at h; cases h
          · rw [if_neg q2] at h
            refine br_f (by decide) ⟨pk_in x 8 (by omega), nm_r (sq_up8 (by omega) (by omega)) (nm_r (nI_1 x) (ih _ _ _ _ (by omega) h (sq_Rc hR hc rfl) hp))⟩
theorem sq_wFr {post : St2 → Prop} {s t u : Nat} {A K B SH EO RO : List (Nat × Nat)} {c : Nat} (hs : s < 8) (ht : t < 8) (hu : u < 8) (hc : c < 3) (hd : sq_D s t u a2) (hA : sq_E a1 A) (hK : sq_R 256 a3 K) (hB : sq_R 8 a6 B) (hS : sq_R 80 a8 SH) (hO : sq_R 3 a11 EO) (h : sq_fr A K B SH EO c (sq_w s t u c) 9 0 [] = some RO) (hp : ∀ d, sq_R 3 d RO → post (f0, f1, f2, f3, a1, a2, a3, a4, a5, a6, a7, a8, a9, a10, a11, a12, d, a14)) : wpX_fillRow post (f0, f1, f2, f3, a1, a2, a3, a4, a5, a6, a7, a8, a9, a10, a11, a12, a13, a14) (nI c) :=
  sq_wOwn (show c < 10 by omega) (sq_w8 hs ht hu c) (sq_D0 hd hc) ⟨9, sq_wFrL hc (sq_w8 hs ht hu c) hA hK hB hS hO 9 0 [] a13 RO (by omega) h (sq_R0 _ _) hp⟩
/-! fits -/
def sq_C (a : Nat → Int32) (L : List (Nat × Nat)) : Prop := ∀ k, k < 96 → sq_gd L k ≤ 16 ∧ a k = sq_e (sq_gd L k)
theorem sq_wFtL {post : Int32 → Prop} {K B EC : List (Nat × Nat)} {c a : Nat} (hc : c < 3) (ha : a < 80) (hK : sq_R 256 a3 K) (hB : sq_R 8 a6 B) (hE : sq_C a9 EC) : ∀ (n x : Nat) (q : Bool), x ≤ 8 → sq_ft K B EC c a n x = some q → post (bif q then 1 else 0) → wX_fits_2 post (nI c) (nI a) f0 f1 f2 f3 a1 a2 a3 a4 a5 a6 a7 a8 a9 a10 a11 a12 a13 a14 n (nI x) := by
  intro n
  induction n with
  | zero => intro x q h1 h; simp only [sq_ft] at h; cases h
  | succ n ih =>
    intro x q h1 h hp
    unfold sq_ft at h
    refine pk_le 8 x (fun z => ?_) (fun z => ?_)
    · rw [if_pos z] at h
      cases h
      exact hp
    · rw [if_neg (by omega)] at h
      cases hk : sq_g K c with
      | none => rw [hk] at h; cases h
      | some kn =>
        rw [hk] at h
        dsimp only at h
        obtain ⟨hk8, ek⟩ := hK c kn hk
        rw [nI_clamp (show c < 2 ^ 31 by omega), ek]
        refine ⟨pk_in c 10 (by omega), sq_if (by omega) (by omega) (fun q => ?_) (fun q => ?_)⟩
        · rw [if_pos q] at h
          exact nm_r (nI_1 x) (ih _ _ (by omega) h hp)
        · rw [if_neg q] at h
          cases hb : sq_g B x with
          | none => rw [hb] at h; cases h
          | some bb =>
            rw [hb] at h
            dsimp only at h
            obtain ⟨hb8, eb⟩ := hB x bb hb
            obtain ⟨hv, ev⟩ := hE (a + bb) (by omega)
            rw [nI_clamp (show x < 2 ^ 31 by omega), eb, nI_add, nI_clamp (show a + bb < 2 ^ 31 by omega), ev]
            refine ⟨pk_in x 8 (by omega), pk_in (a + bb) 96 (by omega), ?_⟩
            cases hw : sq_gd EC (a + bb) with
            | zero =>
              rw [hw] at h
              dsimp only at h
              exact br_t sq_eneg (nm_r (nI_1 x) (ih _ _ (by omega) h hp))
            | succ w =>
              rw [hw] at h
              dsimp only at h
              cases h
              exact br_f (sq_epos (by omega)) hp
theorem sq_wAt {post : St2 → Prop} {K B EC : List (Nat × Nat)} {c : Nat} (hc : c < 3) (hK : sq_R 256 a3 K) (hB : sq_R 8 a6 B) (hE : sq_C a9 EC) : ∀ (n k a : Nat), sq_at K B EC c n k = some a → (a < 80 → wX_pack_33 post (nI c) (nI a) f0 f1 f2 f3 a1 a2 a3 a4 a5 a6 a7 a8 a9 a10 a11 a12 a13 a14) → wX_pack_9 post (nI c) f0 f1 f2 f3 a1 a2 a3 a4 a5 a6 a7 a8 a9 a10 a11 a12 a13 a14 n (nI k) (nI k) := by
  intro n
  induction n with
  | zero => intro k a h; simp only [sq_at] at h; cases h
  | succ n ih =>
    intro k a h hp
    unfold sq_at at h
    by_cases hg : k < 80
    · rw [if_pos hg] at h
      refine pk_le 88 k (fun z => absurd z (by omega)) (fun _ => ?_)
      cases hf : sq_ft K B EC c k 9 0 with
      | none => rw [hf] at h; cases h
      | some q =>
        rw [hf] at h
        refine ⟨9, sq_wFtL hc hg hK hB hE 9 0 q (by omega) hf ?_⟩
        cases q with
        | true =>
          dsimp only at h
          cases h
          exact br_f (by decide) (hp hg)
        | false =>
          dsimp only at h
          exact br_t rfl (nm_r (nI_1 k) (nm_r (nI_1 k) (ih _ _ h hp)))
    · rw [if_neg hg] at h; cases h
end
end
section
theorem sq_gdS (k v : Nat) (L : List (Nat × Nat)) : sq_gd ((k, v) :: L) k = v := by
  unfold sq_gd
  rw [sq_gS]
theorem sq_gdN {j k v : Nat} {L : List (Nat × Nat)} (h : k ≠ j) : sq_gd ((k, v) :: L) j = sq_gd L j := by
  unfold sq_gd
  rw [sq_gN h]
theorem sq_Cc {a : Nat → Int32} {L : List (Nat × Nat)} {k v : Nat} {x : Int32} (h : sq_C a L) (hv : v ≤ 16) (hx : x = sq_e v) : sq_C (upd a k x) ((k, v) :: L) := by
  intro j hj
  by_cases e : k = j
  · subst e
    rw [sq_gdS, pk_us]
    exact ⟨hv, hx⟩
  · rw [sq_gdN e, pk_un (fun z => e z.symm)]
    exact h j hj
theorem sq_C0 {a : Nat → Int32} (h : ∀ k, k < 96 → a k = -1) : sq_C a [] := fun k hk => ⟨Nat.zero_le _, h k hk⟩
section
variable {f0 f1 f2 f3 : Int32} {a1 a2 a3 a4 a5 a6 a7 a8 a9 a10 a11 a12 a13 a14 : Nat → Int32}
theorem sq_wPkL {post : St2 → Prop} {s t u : Nat} {K B RO : List (Nat × Nat)} {c a : Nat} (hc : c < 3) (ha : a < 80) (hd : sq_D s t u a2) (hK : sq_R 256 a3 K) (hB : sq_R 8 a6 B) (hO : sq_R 3 a13 RO) : ∀ (n x : Nat) (EC ES EO EM : List (Nat × Nat)) (b9 b10 b11 b12 : Nat → Int32) (EC' ES' EO' EM' : List (Nat × Nat)), x ≤ 8 → sq_pk s t u K B RO c a n x EC ES EO EM = some (EC', ES', EO', EM') → sq_C b9 EC → sq_R 8 b10 ES → sq_R 3 b11 EO → sq_R 34 b12 EM → (∀ d9 d10 d11 d12, sq_C d9 EC' → sq_R 8 d10 ES' → sq_R 3 d11 EO' → sq_R 34 d12 EM' → post (f0, f1, f2, f3, a1, a2, a3, a4, a5, a6, a7, a8, d9, d10, d11, d12, a13, a14)) → wX_pack_43 post (nI c) (nI a) f0 f1 f2 f3 n (nI x) a1 a2 a3 a4 a5 a6 a7 a8 b9 b10 b11 b12 a13 a14 := by
  intro n
  induction n with
  | zero => intro x EC ES EO EM b9 b10 b11 b12 EC' ES' EO' EM' h1 h; simp only [sq_pk] at h; cases h
  | succ n ih =>
    intro x EC ES EO EM b9 b10 b11 b12 EC' ES' EO' EM' h1 h q9 q10 q11 q12 hp
    unfold sq_pk at h
    refine pk_le 8 x (fun z => ?_) (fun z => ?_)
    · rw [if_pos z] at h
      cases h
      exact hp b9 b10 b11 b12 q9 q10 q11 q12
    · rw [if_neg (by omega)] at h
      cases hk : sq_g K c with
      | none => rw [hk] at h; cases h
      | some kn =>
        rw [hk] at h
        dsimp only at h
        obtain ⟨hk8, ek⟩ := hK c kn hk
        rw [nI_clamp (show c < 2 ^ 31 by omega), ek]
        refine ⟨pk_in c 10 (by omega), sq_if (by omega) (by omega) (fun q => ?_) (fun q => ?_)⟩
        · rw [if_pos q] at h
          exact nm_r (nI_1 x) (ih _ _ _ _ _ _ _ _ _ _ _ _ _ (by omega) h q9 q10 q11 q12 hp)
        · rw [if_neg q] at h
          cases hb : sq_g B x with
          | none => rw [hb] at h; cases h
          | some bb =>
            rw [hb] at h
            dsimp only at h
            obtain ⟨hb8, eb⟩ := hB x bb hb
            cases ho : sq_g RO x with
            | none => rw [ho] at h; cases h
            | some o =>
              rw [ho] at h
              dsimp only at h
              obtain ⟨ho3, eo⟩ := hO x o ho
              have d33 : sq_dv s t u o x ≤ 33 := sq_dv33 ho3
              rw [nI_clamp (show x < 2 ^ 31 by omega), eb, eo]
              refine ⟨pk_in x 8 (by omega), nm_r (nI_add a bb) ⟨pk_in x 8 (by omega), nm_e ⟨pk_in (a + bb) 96 (by omega), nm_r (sq_up8 (by omega) (by omega)) ⟨pk_in (a + bb) 96 (by omega), nm_r (sq_up8 (by omega) (by omega)) ⟨pk_in (a + bb) 96 (by omega), nm_r (sq_up8 (by omega) (by omega)) ?_⟩⟩⟩⟩⟩
              rw [sq_c8, nI_clamp (show o * 8 + x < 2 ^ 31 by omega), hd o x ho3 (by omega)]
              refine ⟨pk_in (o * 8 + x) 80 (by omega), pk_in (a + bb) 96 (by omega), nm_r (e' := upd b12 (a + bb) (nI (sq_dv s t u o x))) ?_ (nm_r (nI_1 x) (ih _ _ _ _ _ _ _ _ _ _ _ _ _ (by omega) h (sq_Cc q9 (by omega) rfl) (sq_Rc q10 (by omega) rfl) (sq_Rc q11 ho3 rfl) (sq_Rc q12 (by omega) rfl) hp))⟩
              rw [vp_nar_short]
              exact sq_up16 (by omega) (by omega)
theorem sq_wPack {post : St2 → Prop} {s t u : Nat} {A K B SH RO EC ES EO EM EC' ES' EO' EM' : List (Nat × Nat)} {c a : Nat} (hs : s < 8) (ht : t < 8) (hu : u < 8) (hc : c < 3) (hd : sq_D s t u a2) (hA : sq_E a1 A) (hK : sq_R 256 a3 K) (hB : sq_R 8 a6 B) (hS : sq_R 80 a8 SH) (q9 : sq_C a9 EC) (q10 : sq_R 8 a10 ES) (q11 : sq_R 3 a11 EO) (q12 : sq_R 34 a12 EM) (h1 : sq_fr A K B SH EO c (sq_w s t u c) 9 0 [] = some RO) (h2 : sq_at K B EC c 81 0 = some a) (h3 : sq_pk s t u K B RO c a 9 0 EC ES EO EM = some (EC', ES', EO', EM'))
    (hp : ∀ d8 d9 d10 d11 d12 d13, sq_R 80 d8 ((c, a) :: SH) → sq_C d9 EC' → sq_R 8 d10 ES' → sq_R 3 d11 EO' → sq_R 34 d12 EM' → post (f0, f1, f2, f3, a1, a2, a3, a4, a5, a6, a7, d8, d9, d10, d11, d12, d13, a14)) : wpX_pack post (f0, f1, f2, f3, a1, a2, a3, a4, a5, a6, a7, a8, a9, a10, a11, a12, a13, a14) (nI c) := by
  unfold wpX_pack
  refine sq_wFr hs ht hu hc hd hA hK hB hS q11 h1 (fun d13 q13 => ⟨81, sq_wAt hc hK hB q9 81 0 a h2 (fun ha => ⟨pk_in c 10 (by omega), nm_r (sq_up8 (by omega) (by omega)) ⟨9, ?_⟩⟩)⟩)
  exact sq_wPkL hc ha hd hK hB q13 9 0 EC ES EO EM a9 a10 a11 a12 EC' ES' EO' EM' (by omega) h3 q9 q10 q11 q12 (fun d9 d10 d11 d12 r9 r10 r11 r12 => hp _ d9 d10 d11 d12 d13 (sq_Rc hS ha rfl) r9 r10 r11 r12)
theorem sq_wPks {post : St2 → Prop} {s t u : Nat} {A D K B : List (Nat × Nat)} (hs : s < 8) (ht : t < 8) (hu : u < 8) (hd : sq_D s t u a2) (hA : sq_E a1 A) (hK : sq_R 256 a3 K) (hB : sq_R 8 a6 B) (hD : sq_R 10 a14 D) : ∀ (n k : Nat) (SH EC ES EO EM : List (Nat × Nat)) (b8 b9 b10 b11 b12 b13 : Nat → Int32) (SH' EC' ES' EM' : List (Nat × Nat)), k ≤ 3 → sq_pks s t u A D K B n k SH EC ES EO EM = some (SH', EC', ES', EM') → sq_R 80 b8 SH → sq_C b9 EC → sq_R 8 b10 ES → sq_R 3 b11 EO → sq_R 34 b12 EM → (∀ d8 d9 d10 d11 d12 d13, sq_R 80 d8 SH' → sq_C d9 EC' → sq_R 8 d10 ES' → sq_R 34 d12 EM' → post (nI 3, f1, f2, f3, a1, a2, a3, a4, a5, a6, a7, d8, d9, d10, d11, d12, d13, a14)) → wX_build_52 post n (nI k) (nI 3) f1 f2 f3 a1 a2 a3 a4 a5 a6 a7 b8 b9 b10 b11 b12 b13 a14 := by
  intro n
  induction n with
  | zero => intro k SH EC ES EO EM b8 b9 b10 b11 b12 b13 SH' EC' ES' EM' h1 h; simp only [sq_pks] at h; cases h
  | succ n ih =>
    intro k SH EC ES EO EM b8 b9 b10 b11 b12 b13 SH' EC' ES' EM' h1 h q8 q9 q10 q11 q12 hp
    unfold sq_pks at h
    refine pk_le 3 k (fun z => ?_) (fun z => ?_)
    · rw [if_pos z] at h
      cases h
      exact hp b8 b9 b10 b11 b12 b13 q8 q9 q10 q12
    · rw [if_neg (by omega)] at h
      cases hc : sq_g D k with
      | none => rw [hc] at h; cases h
      | some c =>
        rw [hc] at h
        dsimp only at h
        obtain ⟨_, ec⟩ := hD k c hc
        by_cases hg : c < 3
        · rw [if_pos hg] at h
          cases e1 : sq_fr A K B SH EO c (sq_w s t u c) 9 0 [] with
          | none => rw [e1] at h; cases h
          | some RO =>
            rw [e1] at h
            dsimp only at h
            cases e2 : sq_at K B EC c 81 0 with
            | none => rw [e2] at h; cases h
            | some a =>
              rw [e2] at h
              dsimp only at h
              cases e3 : sq_pk s t u K B RO c a 9 0 EC ES EO EM with
              | none => rw [e3] at h; cases h
              | some w =>
                obtain ⟨EC1, ES1, EO1, EM1⟩ := w
                rw [e3] at h
                dsimp only at h
                rw [nI_clamp (show k < 2 ^ 31 by omega), ec]
                refine ⟨pk_in k 10 (by omega), sq_wPack hs ht hu hg hd hA hK hB q8 q9 q10 q11 q12 e1 e2 e3 (fun d8 d9 d10 d11 d12 d13 r8 r9 r10 r11 r12 => nm_r (nI_1 k) ?_)⟩
                exact ih _ _ _ _ _ _ _ _ _ _ _ _ _ _ _ _ (by omega) h r8 r9 r10 r11 r12 hp
        · rw [if_neg hg] at h; cases h
theorem sq_wFill {post : St2 → Prop} (H : ∀ d, (∀ k, k < 96 → d k = -1) → ∃ fu, wX_build_52 post fu 0 f0 f1 f2 f3 a1 a2 a3 a4 a5 a6 a7 a8 d a10 a11 a12 a13 a14) : ∀ (n i : Nat) (b : Nat → Int32), i ≤ 96 → 96 < i + n → (∀ k, k < i → b k = -1) → wX_build_31 post f0 f1 f2 f3 n (nI i) a1 a2 a3 a4 a5 a6 a7 a8 b a10 a11 a12 a13 a14 := by
  intro n
  induction n with
  | zero => intro i b h1 h2; omega
  | succ n ih =>
    intro i b h1 h2 h3
    refine pk_le 96 i (fun z => H b (fun k hk => h3 k (by omega))) (fun z => ⟨pk_in i 96 (by omega), nm_r (e' := upd b i (-1)) (by rw [nI_clamp (show i < 2 ^ 31 by omega)]) (nm_r (nI_1 i) (ih _ _ (by omega) (by omega) ?_))⟩)
    intro k hk
    by_cases e : k = i
    · rw [e, pk_us]
    · rw [pk_un e]
      exact h3 k (by omega)
/-! build -/
theorem sq_wBuild {post : St2 → Prop} {s t u cc : Nat} {A K M B SH EC ES EM : List (Nat × Nat)} (hs : s < 8) (ht : t < 8) (hu : u < 8) (hd : sq_D s t u a2) (hA : sq_E a1 A) (h : sq_bld s t u A = some (K, M, cc, B, SH, EC, ES, EM))
    (hp : ∀ g2 d3 d4 d5 d6 d7 d8 d9 d10 d11 d12 d13 d14, cc ≤ 8 → sq_R 256 d3 K → sq_R 256 d4 M → sq_R 8 d6 B → sq_R 80 d8 SH → sq_C d9 EC → sq_R 8 d10 ES → sq_R 34 d12 EM → post (nI 3, 1, g2, nI cc, a1, a2, d3, d4, d5, d6, d7, d8, d9, d10, d11, d12, d13, d14)) : wpX_build post (nI 3, 0, f2, f3, a1, a2, a3, a4, a5, a6, a7, a8, a9, a10, a11, a12, a13, a14) := by
  unfold sq_bld at h
  cases e1 : sq_sdO A 4 0 0 0 [] with
  | none => rw [e1] at h; cases h
  | some D =>
    rw [e1] at h
    dsimp only at h
    cases e2 : sq_ln s t u A D 4 0 [] with
    | none => rw [e2] at h; cases h
    | some K1 =>
      rw [e2] at h
      dsimp only at h
      cases e3 : sq_mt K1 9 0 [] with
      | none => rw [e3] at h; cases h
      | some M1 =>
        rw [e3] at h
        dsimp only at h
        cases e4 : sq_pnt M1 with
        | none => rw [e4] at h; cases h
        | some w =>
          obtain ⟨cc1, B1⟩ := w
          rw [e4] at h
          dsimp only at h
          cases e5 : sq_pks s t u A D K1 B1 4 0 [] [] [] [] [] with
          | none => rw [e5] at h; cases h
          | some w =>
            obtain ⟨SH1, EC1, ES1, EM1⟩ := w
            rw [e5] at h
            dsimp only at h
            cases h
            unfold wpX_build
            refine br_t rfl (sq_wSd hA e1 (fun d14 r14 => ?_))
            refine ⟨4, sq_wLn hs ht hu hA hd r14 4 0 [] a3 K (by omega) e2 (sq_R0 _ _) (fun d3 r3 => ?_)⟩
            refine ⟨9, sq_wMt r3 9 0 [] a4 M (by omega) e3 (sq_R0 _ _) (fun d4 r4 => ?_)⟩
            refine sq_wPaint r4 e4 (fun g2 d5 d6 d7 hcc r6 => ?_)
            refine ⟨97, sq_wFill (fun d9 q9 => ?_) 97 0 a9 (by omega) (by omega) (fun k hk => absurd hk (by omega))⟩
            exact ⟨4, sq_wPks hs ht hu hd hA r3 r6 r14 4 0 [] [] [] [] [] a8 d9 a10 a11 a12 a13 SH EC ES EM (by omega) e5 (sq_R0 _ _) (sq_C0 q9) (sq_R0 _ _) (sq_R0 _ _) (sq_R0 _ _) (fun d8 d9 d10 d11 d12 d13 r8 r9 r10 r12 => hp g2 d3 d4 d5 d6 d7 d8 d9 d10 d11 d12 d13 d14 hcc r3 r4 r6 r8 r9 r10 r12)⟩
theorem sq_wBuilt {post : St2 → Prop} (hp : post (f0, 1, f2, f3, a1, a2, a3, a4, a5, a6, a7, a8, a9, a10, a11, a12, a13, a14)) : wpX_build post (f0, 1, f2, f3, a1, a2, a3, a4, a5, a6, a7, a8, a9, a10, a11, a12, a13, a14) := br_f (by decide) hp
end
end
section
theorem sq_bT {a b : Nat} (h : a = b) : Nat.beq a b = true := by rw [h]; exact Nat.beq_refl b
theorem sq_bF {a b : Nat} (h : a ≠ b) : Nat.beq a b = false := by
  cases e : Nat.beq a b
  · rfl
  · exact absurd (Nat.eq_of_beq_eq_true e) h
theorem sq_bvn {w : Nat} (Y M : BitVec w) : (Y &&& (M ^^^ BitVec.allOnes w)) = 0#w ↔ Y &&& M = Y := by
  constructor
  · intro h
    apply BitVec.eq_of_getLsbD_eq
    intro i hi
    have q := congrArg (fun b => BitVec.getLsbD b i) h
    rw [BitVec.getLsbD_and, BitVec.getLsbD_xor, BitVec.getLsbD_allOnes, BitVec.getLsbD_zero, decide_eq_true hi] at q
    rw [BitVec.getLsbD_and]
    revert q
    cases Y.getLsbD i <;> cases M.getLsbD i <;> decide
  · intro h
    apply BitVec.eq_of_getLsbD_eq
    intro i hi
    have q := congrArg (fun b => BitVec.getLsbD b i) h
    rw [BitVec.getLsbD_and] at q
    rw [BitVec.getLsbD_and, BitVec.getLsbD_xor, BitVec.getLsbD_allOnes, BitVec.getLsbD_zero, decide_eq_true hi]
    revert q
    cases Y.getLsbD i <;> cases M.getLsbD i <;> decide
theorem sq_and (a b : Nat) : nI a &&& nI b = nI (a &&& b) := by
  apply Int32.toBitVec_inj.1
  show BitVec.ofNat 32 a &&& BitVec.ofNat 32 b = BitVec.ofNat 32 (a &&& b)
  apply BitVec.eq_of_getLsbD_eq
  intro i hi
  simp [hi]
theorem sq_andn {y m : Nat} (hy : y < 256) : (nI y &&& (nI m ^^^ (-1)) = 0) ↔ Nat.land y m = y := by
  have e1 : (nI y &&& (nI m ^^^ (-1)) = 0) ↔ nI y &&& nI m = nI y := by
    rw [← Int32.toBitVec_inj, ← Int32.toBitVec_inj, Int32.toBitVec_and, Int32.toBitVec_xor, Int32.toBitVec_and]
    exact sq_bvn (nI y).toBitVec (nI m).toBitVec
  rw [e1, sq_and]
  exact nI_eq (Nat.lt_of_le_of_lt Nat.and_le_left (by omega)) (by omega)
section
variable {f0 f1 f2 f3 : Int32} {a1 a2 a3 a4 a5 a6 a7 a8 a9 a10 a11 a12 a13 a14 : Nat → Int32}
/-! crowd -/
theorem sq_wCdL {post : Int32 → Prop} {M : List (Nat × Nat)} {y : Nat} (hy : y < 256) (hM : sq_R 256 a4 M) : ∀ (n x : Nat) (q : Bool), x ≤ 8 → sq_cd M y n x = some q → post (bif q then 1 else 0) → wX_crowded_2 post (nI y) f0 f1 f2 f3 a1 a2 a3 a4 a5 a6 a7 a8 a9 a10 a11 a12 a13 a14 n (nI x) := by
  intro n
  induction n with
  | zero => intro x q h1 h; simp only [sq_cd] at h; cases h
  | succ n ih =>
    intro x q h1 h hp
    unfold sq_cd at h
    refine pk_le 8 x (fun z => ?_) (fun z => ?_)
    · rw [if_pos z] at h
      cases h
      exact hp
    · rw [if_neg (by omega)] at h
      refine sq_if (by omega) (by omega) (fun b => ?_) (fun b => ?_)
      · rw [if_pos b] at h
        exact nm_r (nI_1 x) (ih _ _ (by omega) h hp)
      · rw [if_neg b] at h
        cases hm : sq_g M x with
        | none => rw [hm] at h; cases h
        | some m =>
          rw [hm] at h
          dsimp only at h
          obtain ⟨hm8, em⟩ := hM x m hm
          rw [nI_clamp (show x < 2 ^ 31 by omega), em]
          refine ⟨pk_in x 8 (by omega), ek_if (sq_andn hy) (fun e => ?_) (fun e => ?_)⟩
          · rw [e, Nat.beq_refl] at h
            exact nm_r (nI_1 x) (ih _ _ (by omega) h hp)
          · have e2 : Nat.beq (Nat.land y m) y = false := by
              cases e2 : Nat.beq (Nat.land y m) y
              · rfl
              · exact absurd (Nat.eq_of_beq_eq_true e2) e
            rw [e2] at h
            cases h
            exact hp
/-- a set with a selector that meets nothing -/
theorem sq_wCdN {post : Int32 → Prop} {M : List (Nat × Nat)} {y x0 : Nat} (hy : y < 256) (hM : sq_R 256 a4 M) (ht : ∀ x, x < 8 → (sq_g M x).isSome = true) (h0 : x0 < 8) (hb : sq_b y x0 ≠ 0) (hm : sq_gd M x0 = 0) (hp : post 0) : ∀ (n x : Nat), x ≤ x0 → x0 < x + n → wX_crowded_2 post (nI y) f0 f1 f2 f3 a1 a2 a3 a4 a5 a6 a7 a8 a9 a10 a11 a12 a13 a14 n (nI x) := by
  intro n
  induction n with
  | zero => intro x h1 h2; omega
  | succ n ih =>
    intro x h1 h2
    refine pk_le 8 x (fun z => absurd z (by omega)) (fun z => sq_if (by omega) (by omega) (fun b => ?_) (fun b => ?_))
    · have ne : x ≠ x0 := fun e => hb (e ▸ b)
      exact nm_r (nI_1 x) (ih _ (by omega) (by omega))
    · cases hq : sq_g M x with
      | none => have q := ht x (by omega); rw [hq] at q; cases q
      | some m =>
        obtain ⟨hm8, em⟩ := hM x m hq
        rw [nI_clamp (show x < 2 ^ 31 by omega), em]
        refine ⟨pk_in x 8 (by omega), ek_if (sq_andn hy) (fun e => ?_) (fun _ => hp)⟩
        by_cases ne : x = x0
        · subst ne
          have m0 : m = 0 := by
            unfold sq_gd at hm
            rw [hq] at hm
            exact hm
          subst m0
          have y0 : y = 0 := by
            rw [← e]
            exact Nat.and_zero y
          rw [y0] at b
          exact absurd (Nat.zero_mod 2) (fun _ => b (show 0 / 2 ^ x % 2 = 0 by rw [Nat.zero_div]))
        · exact nm_r (nI_1 x) (ih _ (by omega) (by omega))
theorem sq_uT {M : List (Nat × Nat)} : ∀ (n x : Nat), x < n → sq_gd M x ≠ 0 → (sq_u M n).testBit x = true := by
  intro n
  induction n with
  | zero => intro x h; omega
  | succ n ih =>
    intro x h hx
    unfold sq_u
    by_cases e : x = n
    · subst e
      rw [sq_bF hx]
      show (sq_u M x ||| 2 ^ x).testBit x = true
      rw [Nat.testBit_or, Nat.testBit_two_pow_self, Bool.or_true]
    · have q := ih x (by omega) hx
      cases Nat.beq (sq_gd M n) 0
      · show (sq_u M n ||| 2 ^ n).testBit x = true
        rw [Nat.testBit_or, q, Bool.true_or]
      · exact q
theorem sq_uN {M : List (Nat × Nat)} {y : Nat} (hy : y < 256) (h : Nat.land y (sq_u M 8) ≠ y) : ∃ x, x < 8 ∧ sq_b y x ≠ 0 ∧ sq_gd M x = 0 := by
  apply Classical.byContradiction
  intro no
  apply h
  show y &&& sq_u M 8 = y
  apply Nat.eq_of_testBit_eq
  intro i
  rw [Nat.testBit_and]
  cases e : y.testBit i with
  | false => rfl
  | true =>
    have hi : i < 8 := by
      rcases Nat.lt_or_ge i 8 with q | q
      · exact q
      · have w := Nat.testBit_lt_two_pow (x := y) (i := i) (Nat.lt_of_lt_of_le hy (show 2 ^ 8 ≤ 2 ^ i from Nat.pow_le_pow_right (by omega) q))
        rw [w] at e
        cases e
    have hb : sq_b y i ≠ 0 := by
      rw [Nat.testBit_eq_decide_div_mod_eq] at e
      have e := of_decide_eq_true e
      intro z
      have z : y / 2 ^ i % 2 = 0 := z
      omega
    have hg : sq_gd M i ≠ 0 := fun z => no ⟨i, hi, hb, z⟩
    rw [sq_uT 8 i hi hg]
    rfl
theorem sq_wCrL {post : Int32 → St2 → Prop} {M : List (Nat × Nat)} (hM : sq_R 256 a4 M) (ht : ∀ x, x < 8 → (sq_g M x).isSome = true) : ∀ (n mo r : Nat), n ≤ 255 → mo ≤ 8 → sq_cr M (sq_u M 8) n mo = some r → post (nI r) (f0, f1, f2, f3, a1, a2, a3, a4, a5, a6, a7, a8, a9, a10, a11, a12, a13, a14) → wX_crowd_8 post f0 f1 f2 f3 a1 a2 a3 a4 a5 a6 a7 a8 a9 a10 a11 a12 a13 a14 (n + 1) (nI mo) (nI (256 - n)) := by
  intro n
  induction n with
  | zero =>
    intro mo r h1 h2 h hp
    simp only [sq_cr] at h
    cases h
    exact pk_le 256 256 (fun _ => hp) (fun z => absurd z (by omega))
  | succ n ih =>
    intro mo r h1 h2 h hp
    unfold sq_cr at h
    obtain ⟨y, ey⟩ : ∃ y, y = 255 - n := ⟨_, rfl⟩
    rw [show Nat.sub 255 n = y from ey.symm] at h
    rw [show 256 - (n + 1) = y by omega]
    have nx : ∀ mo' : Nat, mo' ≤ 8 → sq_cr M (sq_u M 8) n mo' = some r → wX_crowd_8 post f0 f1 f2 f3 a1 a2 a3 a4 a5 a6 a7 a8 a9 a10 a11 a12 a13 a14 (n + 1) (nI mo') (nI (y + 1)) := by
      intro mo' hm' h'
      have q := ih mo' r (by omega) hm' h' hp
      rw [show 256 - n = y + 1 by omega] at q
      exact q
    have z8 := sq_z8 y
    refine pk_le 256 y (fun z => absurd z (by omega)) (fun z => sq_wSz (by omega) (pk_le (sq_z y) mo (fun q => ?_) (fun q => ?_)))
    · have h' : sq_cr M (sq_u M 8) n mo = some r := by
        cases e : Nat.beq (Nat.land y (sq_u M 8)) y
        · rw [e] at h; exact h
        · rw [e] at h
          have h : (if sq_z y ≤ mo then sq_cr M (sq_u M 8) n mo else match sq_cd M y 9 0 with | none => none | some true => sq_cr M (sq_u M 8) n (sq_z y) | some false => sq_cr M (sq_u M 8) n mo) = some r := h
          rw [if_pos q] at h
          exact h
      exact nm_r (nI_1 y) (nx mo h2 h')
    · cases e : Nat.beq (Nat.land y (sq_u M 8)) y with
      | false =>
        rw [e] at h
        have h : sq_cr M (sq_u M 8) n mo = some r := h
        have ne : Nat.land y (sq_u M 8) ≠ y := fun w => by rw [sq_bT w] at e; cases e
        obtain ⟨x, hx, hb, hg⟩ := sq_uN (by omega) ne
        exact ⟨9, sq_wCdN (by omega) hM ht hx hb hg (br_t rfl (nm_r (nI_1 y) (nx mo h2 h))) 9 0 (by omega) (by omega)⟩
      | true =>
        rw [e] at h
        have h : (if sq_z y ≤ mo then sq_cr M (sq_u M 8) n mo else match sq_cd M y 9 0 with | none => none | some true => sq_cr M (sq_u M 8) n (sq_z y) | some false => sq_cr M (sq_u M 8) n mo) = some r := h
        rw [if_neg (by omega)] at h
        cases hc : sq_cd M y 9 0 with
        | none => rw [hc] at h; cases h
        | some q =>
          rw [hc] at h
          refine ⟨9, sq_wCdL (by omega) hM 9 0 q (by omega) hc ?_⟩
          cases q with
          | true =>
            dsimp only at h
            exact br_f (by decide) (nm_r (nI_1 y) (nx _ z8 h))
          | false =>
            dsimp only at h
            exact br_t rfl (nm_r (nI_1 y) (nx _ h2 h))
theorem sq_wCrW {post : Int32 → St2 → Prop} {M : List (Nat × Nat)} {r : Nat} (hM : sq_R 256 a4 M) (h : sq_crw M = some r) (hp : post (nI r) (f0, f1, f2, f3, a1, a2, a3, a4, a5, a6, a7, a8, a9, a10, a11, a12, a13, a14)) : ∃ fu, wX_crowd_8 post f0 f1 f2 f3 a1 a2 a3 a4 a5 a6 a7 a8 a9 a10 a11 a12 a13 a14 fu 0 1 := by
  unfold sq_crw at h
  cases e : sq_tot M with
  | false => rw [e] at h; cases h
  | true =>
    rw [e] at h
    exact ⟨256, sq_wCrL hM (sq_in8 e) 255 0 r (by omega) (by omega) h hp⟩
theorem sq_wCrowdB {post : Int32 → St2 → Prop} {M : List (Nat × Nat)} {r : Nat} (hM : sq_R 256 a4 M) (h : sq_crw M = some r) (hp : post (nI r) (f0, 1, f2, f3, a1, a2, a3, a4, a5, a6, a7, a8, a9, a10, a11, a12, a13, a14)) : wpX_crowd post (f0, 1, f2, f3, a1, a2, a3, a4, a5, a6, a7, a8, a9, a10, a11, a12, a13, a14) := by
  unfold wpX_crowd
  exact sq_wBuilt (sq_wCrW hM h hp)
theorem sq_wCrowdF {post : Int32 → St2 → Prop} {s t u cc r : Nat} {A K M B SH EC ES EM : List (Nat × Nat)} (hs : s < 8) (ht : t < 8) (hu : u < 8) (hd : sq_D s t u a2) (hA : sq_E a1 A) (h : sq_bld s t u A = some (K, M, cc, B, SH, EC, ES, EM)) (hr : sq_crw M = some r)
    (hp : ∀ g2 d3 d4 d5 d6 d7 d8 d9 d10 d11 d12 d13 d14, cc ≤ 8 → sq_R 256 d3 K → sq_R 256 d4 M → sq_R 8 d6 B → sq_R 80 d8 SH → sq_C d9 EC → sq_R 8 d10 ES → sq_R 34 d12 EM → post (nI r) (nI 3, 1, g2, nI cc, a1, a2, d3, d4, d5, d6, d7, d8, d9, d10, d11, d12, d13, d14)) : wpX_crowd post (nI 3, 0, f2, f3, a1, a2, a3, a4, a5, a6, a7, a8, a9, a10, a11, a12, a13, a14) := by
  unfold wpX_crowd
  exact sq_wBuild hs ht hu hd hA h (fun g2 d3 d4 d5 d6 d7 d8 d9 d10 d11 d12 d13 d14 hcc r3 r4 r6 r8 r9 r10 r12 => sq_wCrW r4 hr (hp g2 d3 d4 d5 d6 d7 d8 d9 d10 d11 d12 d13 d14 hcc r3 r4 r6 r8 r9 r10 r12))
theorem sq_isC {post : Int32 → Prop} {c : Nat} (hc : c < 3) (hp : post 1) : wpX_isClass post (nI 3, f1, f2, f3, a1, a2, a3, a4, a5, a6, a7, a8, a9, a10, a11, a12, a13, a14) (nI c) :=
  br_f (nI_pos (by omega)) (br_f (nI_ge hc (by omega)) hp)
theorem sq_isS {post : Int32 → Prop} {x : Nat} (hx : x < 8) (hp : post 1) : wpX_isSelector post () (nI x) :=
  br_f (nI_pos (by omega)) (br_f (nI_ge (b := 8) hx (by omega)) hp)
theorem sq_wColB {post : Int32 → St2 → Prop} (hp : post f3 (f0, 1, f2, f3, a1, a2, a3, a4, a5, a6, a7, a8, a9, a10, a11, a12, a13, a14)) : wpX_colours post (f0, 1, f2, f3, a1, a2, a3, a4, a5, a6, a7, a8, a9, a10, a11, a12, a13, a14) := by
  unfold wpX_colours
  exact sq_wBuilt hp
theorem sq_wAptB {post : Int32 → St2 → Prop} {M : List (Nat × Nat)} {s m : Nat} (hs : s < 8) (hM : sq_R 256 a4 M) (h : sq_g M s = some m) (hp : post ((255 &&& (nI m ^^^ (-1))) &&& (((1 : Int32) <<< (nI s &&& 31)) ^^^ (-1))) (f0, 1, f2, f3, a1, a2, a3, a4, a5, a6, a7, a8, a9, a10, a11, a12, a13, a14)) : wpX_apart post (f0, 1, f2, f3, a1, a2, a3, a4, a5, a6, a7, a8, a9, a10, a11, a12, a13, a14) (nI s) := by
  unfold wpX_apart
  refine sq_isS hs (br_f (by decide) (sq_wBuilt ⟨pk_in s 8 hs, ?_⟩))
  rw [nI_clamp (show s < 2 ^ 31 by omega), (hM s m h).2]
  exact hp
theorem sq_wUndF {post : Int32 → St2 → Prop} {s t u cc c k : Nat} {A K M B SH EC ES EM : List (Nat × Nat)} (hs : s < 8) (ht : t < 8) (hu : u < 8) (hc : c < 3) (hd : sq_D s t u a2) (hA : sq_E a1 A) (h : sq_bld s t u A = some (K, M, cc, B, SH, EC, ES, EM)) (hk : sq_g K c = some k)
    (hp : ∀ g2 d3 d4 d5 d6 d7 d8 d9 d10 d11 d12 d13 d14, cc ≤ 8 → sq_R 256 d3 K → sq_R 256 d4 M → sq_R 8 d6 B → sq_R 80 d8 SH → sq_C d9 EC → sq_R 8 d10 ES → sq_R 34 d12 EM → post (nI k) (nI 3, 1, g2, nI cc, a1, a2, d3, d4, d5, d6, d7, d8, d9, d10, d11, d12, d13, d14)) : wpX_understands post (nI 3, 0, f2, f3, a1, a2, a3, a4, a5, a6, a7, a8, a9, a10, a11, a12, a13, a14) (nI c) := by
  unfold wpX_understands
  refine sq_isC hc (br_f (by decide) (sq_wBuild hs ht hu hd hA h (fun g2 d3 d4 d5 d6 d7 d8 d9 d10 d11 d12 d13 d14 hcc r3 r4 r6 r8 r9 r10 r12 => ⟨pk_in c 10 (by omega), ?_⟩)))
  rw [nI_clamp (show c < 2 ^ 31 by omega), (r3 c k hk).2]
  exact hp g2 d3 d4 d5 d6 d7 d8 d9 d10 d11 d12 d13 d14 hcc r3 r4 r6 r8 r9 r10 r12
theorem sq_wPar {post : Int32 → Prop} {c : Nat} (hc : c < 3) (hp : post (a1 c)) : wpX_parent post (nI 3, f1, f2, f3, a1, a2, a3, a4, a5, a6, a7, a8, a9, a10, a11, a12, a13, a14) (nI c) := by
  unfold wpX_parent
  refine sq_isC hc (br_f (by decide) ⟨pk_in c 10 (by omega), ?_⟩)
  rw [nI_clamp (show c < 2 ^ 31 by omega)]
  exact hp
theorem sq_wSndB {post : Int32 → St2 → Prop} {B SH EC ES EM : List (Nat × Nat)} {c x v : Nat} (hc : c < 3) (hx : x < 8) (r6 : sq_R 8 a6 B) (r8 : sq_R 80 a8 SH) (r9 : sq_C a9 EC) (r10 : sq_R 8 a10 ES) (r12 : sq_R 34 a12 EM) (h : sq_sn B SH EC ES EM c x = some v) (hp : post (nI v) (nI 3, 1, f2, f3, a1, a2, a3, a4, a5, a6, a7, a8, a9, a10, a11, a12, a13, a14)) : wpX_send post (nI 3, 1, f2, f3, a1, a2, a3, a4, a5, a6, a7, a8, a9, a10, a11, a12, a13, a14) (nI c) (nI x) := by
  unfold sq_sn at h
  cases e1 : sq_g SH c with
  | none => rw [e1] at h; cases h
  | some sh =>
    rw [e1] at h
    dsimp only at h
    cases e2 : sq_g B x with
    | none => rw [e2] at h; cases h
    | some b =>
      rw [e2] at h
      dsimp only at h
      cases e3 : sq_g EC (sh + b) with
      | none => rw [e3] at h; cases h
      | some e =>
        rw [e3] at h
        dsimp only at h
        cases e4 : sq_g ES (sh + b) with
        | none => rw [e4] at h; cases h
        | some y =>
          rw [e4] at h
          dsimp only at h
          obtain ⟨q1, w1⟩ := r8 c sh e1
          obtain ⟨q2, w2⟩ := r6 x b e2
          obtain ⟨q4, w4⟩ := r10 _ y e4
          obtain ⟨q3, w3⟩ := r9 (sh + b) (by omega)
          have e3' : sq_gd EC (sh + b) = e := by unfold sq_gd; rw [e3]
          rw [e3'] at w3
          cases e5 : Nat.beq e (c + 1) with
          | false => rw [e5] at h; cases h
          | true =>
            cases e6 : Nat.beq y x with
            | false => rw [e5, e6] at h; cases h
            | true =>
              rw [e5, e6] at h
              have h' : sq_g EM (sh + b) = some v := h
              obtain ⟨q5, w5⟩ := r12 _ v h'
              rw [Nat.eq_of_beq_eq_true e5] at w3
              rw [Nat.eq_of_beq_eq_true e6] at w4
              unfold wpX_send wpX_entry
              refine sq_isC hc (br_f (by decide) (sq_isS hx (br_f (by decide) (sq_wBuilt ⟨pk_in c 10 (by omega), pk_in x 8 hx, nm_r (e' := nI (sh + b)) ?_ ⟨pk_in (sh + b) 96 (by omega), ?_⟩⟩))))
              · rw [nI_clamp (show c < 2 ^ 31 by omega), nI_clamp (show x < 2 ^ 31 by omega), w1, w2, nI_add]
              · rw [nI_clamp (show sh + b < 2 ^ 31 by omega), w3, w4]
                refine br_t rfl ⟨pk_in (sh + b) 96 (by omega), br_t rfl (br_t (nI_pos' (by omega)) ⟨pk_in (sh + b) 96 (by omega), ?_⟩)⟩
                rw [nI_clamp (show sh + b < 2 ^ 31 by omega), w5]
                exact hp
theorem sq_wSupB {post : Int32 → St2 → Prop} {B SH EC ES EM : List (Nat × Nat)} {c d x v : Nat} (hc : c < 3) (hd : d < 3) (hx : x < 8) (ha : a1 c = nI d) (r6 : sq_R 8 a6 B) (r8 : sq_R 80 a8 SH) (r9 : sq_C a9 EC) (r10 : sq_R 8 a10 ES) (r12 : sq_R 34 a12 EM) (h : sq_sn B SH EC ES EM d x = some v) (hp : post (nI v) (nI 3, 1, f2, f3, a1, a2, a3, a4, a5, a6, a7, a8, a9, a10, a11, a12, a13, a14)) : wpX_sendSuper post (nI 3, 1, f2, f3, a1, a2, a3, a4, a5, a6, a7, a8, a9, a10, a11, a12, a13, a14) (nI c) (nI x) := by
  unfold wpX_sendSuper
  refine sq_isC hc (br_f (by decide) ⟨pk_in c 10 (by omega), ?_⟩)
  rw [nI_clamp (show c < 2 ^ 31 by omega), ha]
  exact br_t (nI_pos' (by omega)) ⟨pk_in c 10 (by omega), sq_wSndB hd hx r6 r8 r9 r10 r12 h hp⟩
end
end
section
theorem sq_E3 {a : Nat → Int32} {v0 v1 v2 : Nat} (h0 : a 0 = sq_e v0) (h1 : a 1 = sq_e v1) (h2 : a 2 = sq_e v2) (q0 : v0 ≤ 16) (q1 : v1 ≤ 16) (q2 : v2 ≤ 16) : sq_E a [(0, v0), (1, v1), (2, v2)] := by
  intro k v h
  by_cases e0 : 0 = k
  · subst e0
    rw [sq_gS] at h
    cases h
    exact ⟨q0, h0⟩
  · rw [sq_gN e0] at h
    by_cases e1 : 1 = k
    · subst e1
      rw [sq_gS] at h
      cases h
      exact ⟨q1, h1⟩
    · rw [sq_gN e1] at h
      by_cases e2 : 2 = k
      · subst e2
        rw [sq_gS] at h
        cases h
        exact ⟨q2, h2⟩
      · rw [sq_gN e2] at h
        cases h
/-! what the checks say -/
theorem sq_a2 {a b : Bool} (h : (a && b) = true) : a = true ∧ b = true := by
  cases a
  · cases h
  · exact ⟨rfl, h⟩
theorem sq_k1x {s t u : Nat} (h : sq_k1 s t u = true) : ∃ K M B SH EC ES EM, sq_bld s t u [(0, 0), (1, 1), (2, 0)] = some (K, M, sq_one s t, B, SH, EC, ES, EM) ∧ sq_crw M = some (sq_one s t) ∧ sq_g M s = some (2 ^ s ||| 2 ^ t) := by
  unfold sq_k1 at h
  cases e1 : sq_bld s t u [(0, 0), (1, 1), (2, 0)] with
  | none => rw [e1] at h; cases h
  | some w =>
    obtain ⟨K, M, cc, B, SH, EC, ES, EM⟩ := w
    rw [e1] at h
    dsimp only at h
    cases e2 : sq_crw M with
    | none => rw [e2] at h; cases h
    | some r =>
      rw [e2] at h
      dsimp only at h
      cases e3 : sq_g M s with
      | none => rw [e3] at h; cases h
      | some m =>
        rw [e3] at h
        dsimp only at h
        obtain ⟨p1, h⟩ := sq_a2 h
        obtain ⟨p2, p3⟩ := sq_a2 h
        have p1 := Nat.eq_of_beq_eq_true p1
        have p2 := Nat.eq_of_beq_eq_true p2
        have p3 := Nat.eq_of_beq_eq_true p3
        subst p2
        subst p1
        subst p3
        exact ⟨K, M, B, SH, EC, ES, EM, rfl, e2, e3⟩
theorem sq_k2x {s t u o : Nat} (h : sq_k2 s t u o = true) : ∃ K M cc B SH EC ES EM, sq_bld s t u [(0, 0), (1, 1), (2, o + 1)] = some (K, M, cc, B, SH, EC, ES, EM) ∧ sq_crw M = some (sq_most s t u o) ∧ sq_g K 2 = some (sq_set s t u o) ∧ sq_sn B SH EC ES EM 2 u = some 33 ∧ sq_sn B SH EC ES EM o s = some (bif Nat.beq o 1 && Nat.beq s t then 22 else 11) := by
  unfold sq_k2 at h
  cases e1 : sq_bld s t u [(0, 0), (1, 1), (2, o + 1)] with
  | none => rw [e1] at h; cases h
  | some w =>
    obtain ⟨K, M, cc, B, SH, EC, ES, EM⟩ := w
    rw [e1] at h
    dsimp only at h
    cases e2 : sq_crw M with
    | none => rw [e2] at h; cases h
    | some r =>
      rw [e2] at h
      dsimp only at h
      cases e3 : sq_g K 2 with
      | none => rw [e3] at h; cases h
      | some k =>
        rw [e3] at h
        dsimp only at h
        cases e4 : sq_sn B SH EC ES EM 2 u with
        | none => rw [e4] at h; cases h
        | some x =>
          rw [e4] at h
          dsimp only at h
          cases e5 : sq_sn B SH EC ES EM o s with
          | none => rw [e5] at h; cases h
          | some y =>
            rw [e5] at h
            dsimp only at h
            obtain ⟨p1, h⟩ := sq_a2 h
            obtain ⟨p2, h⟩ := sq_a2 h
            obtain ⟨p3, p4⟩ := sq_a2 h
            rw [Nat.eq_of_beq_eq_true p1] at e2
            rw [Nat.eq_of_beq_eq_true p2] at e3
            rw [Nat.eq_of_beq_eq_true p3] at e4
            rw [Nat.eq_of_beq_eq_true p4] at e5
            exact ⟨K, M, cc, B, SH, EC, ES, EM, rfl, e2, e3, e4, e5⟩
theorem sq_k3x {s t u : Nat} (h : sq_k3 s t u = true) : ∃ K M B SH EC ES EM, sq_bld s t u [(0, 3), (1, 1), (2, 0)] = some (K, M, sq_n3 s t u, B, SH, EC, ES, EM) ∧ sq_crw M = some (sq_n3 s t u) ∧ sq_g K 1 = some ((2 ^ u ||| 2 ^ s) ||| 2 ^ t) ∧ sq_sn B SH EC ES EM 1 u = some (bif Nat.beq t u then 22 else bif Nat.beq s u then 11 else 33) := by
  unfold sq_k3 at h
  cases e1 : sq_bld s t u [(0, 3), (1, 1), (2, 0)] with
  | none => rw [e1] at h; cases h
  | some w =>
    obtain ⟨K, M, cc, B, SH, EC, ES, EM⟩ := w
    rw [e1] at h
    dsimp only at h
    cases e2 : sq_crw M with
    | none => rw [e2] at h; cases h
    | some r =>
      rw [e2] at h
      dsimp only at h
      cases e3 : sq_g K 1 with
      | none => rw [e3] at h; cases h
      | some k =>
        rw [e3] at h
        dsimp only at h
        cases e4 : sq_sn B SH EC ES EM 1 u with
        | none => rw [e4] at h; cases h
        | some x =>
          rw [e4] at h
          dsimp only at h
          obtain ⟨p1, h⟩ := sq_a2 h
          obtain ⟨p2, h⟩ := sq_a2 h
          obtain ⟨p3, p4⟩ := sq_a2 h
          have p1 := Nat.eq_of_beq_eq_true p1
          have p2 := Nat.eq_of_beq_eq_true p2
          subst p2
          subst p1
          rw [Nat.eq_of_beq_eq_true p3] at e3
          rw [Nat.eq_of_beq_eq_true p4] at e4
          exact ⟨K, M, B, SH, EC, ES, EM, rfl, e2, e3, e4⟩
section
variable {f0 f1 f2 f3 : Int32} {a1 a2 a3 a4 a5 a6 a7 a8 a9 a10 a11 a12 a13 a14 : Nat → Int32} {post : Int32 → St0 → Prop} {mc ms kc ks s t u : Nat}
/-! the end of the law, where the root went under the third -/
theorem sq_448 (hs : s < 8) (ht : t < 8) (hu : u < 8) (hp : post 1 ()) (hk : sq_k3 s t u = true) (hd : sq_D s t u a2) (hA : sq_E a1 [(0, 3), (1, 1), (2, 0)]) {z0 z1 : Nat} (hz : z1 + z0 = sq_n3 s t u) : wL_lawOf_448 post mc ms (nI s) (nI t) (nI u) 1 (nI ((2 ^ u ||| 2 ^ s) ||| 2 ^ t)) (nI z0) (nI z1) kc ks (nI 3) 0 f2 f3 a1 a2 a3 a4 a5 a6 a7 a8 a9 a10 a11 a12 a13 a14 := by
  obtain ⟨K, M, B, SH, EC, ES, EM, e1, e2, e3, e4⟩ := sq_k3x hk
  have ha0 : a1 0 = nI 2 := (hA 0 3 rfl).2
  unfold wL_lawOf_448
  refine nm_r (nI_add z1 z0) (br_f (by decide) ?_)
  rw [hz]
  refine sq_wUndF (c := 1) hs ht hu (by omega) hd hA e1 e3 (fun g2 d3 d4 d5 d6 d7 d8 d9 d10 d11 d12 d13 d14 hcc r3 r4 r6 r8 r9 r10 r12 => br_t rfl (sq_wCrowdB r4 e2 (br_t rfl (sq_wColB (br_t rfl (sq_wPar (c := 0) (by omega) (br_t ha0 (sq_wSndB (c := 1) (by omega) hu r6 r8 r9 r10 r12 e4 ?_))))))))
  refine pk_eq t u (fun e => ?_) (fun e => ?_)
  · rw [sq_bT e]
    exact br_t rfl hp
  · rw [sq_bF e]
    refine pk_eq s u (fun e => ?_) (fun e => ?_)
    · rw [sq_bT e]
      exact br_t rfl hp
    · rw [sq_bF e]
      exact br_t rfl hp
theorem sq_428 (hs : s < 8) (ht : t < 8) (hu : u < 8) (hp : post 1 ()) (hk : sq_k3 s t u = true) (hd : sq_D s t u a2) (hA : sq_E a1 [(0, 3), (1, 1), (2, 0)]) {z0 : Nat} (hz : z0 = bif Nat.beq s u then 0 else 1) : wL_lawOf_428 post mc ms (nI s) (nI t) (nI u) 1 (nI ((2 ^ u ||| 2 ^ s) ||| 2 ^ t)) (nI z0) (nI 1) kc ks (nI 3) 0 f2 f3 a1 a2 a3 a4 a5 a6 a7 a8 a9 a10 a11 a12 a13 a14 := by
  unfold wL_lawOf_428
  rw [nI_add]
  refine pk_eq t u (fun e => ?_) (fun e => ?_)
  · refine sq_448 (z0 := 0) hs ht hu hp hk hd hA ?_
    unfold sq_n3
    rw [sq_bT e, hz]; rfl
  · refine pk_eq t s (fun e' => ?_) (fun e' => ?_)
    · refine sq_448 (z0 := 0) hs ht hu hp hk hd hA ?_
      unfold sq_n3
      rw [sq_bF e, sq_bT e', hz]; rfl
    · refine sq_448 (z0 := 1) hs ht hu hp hk hd hA ?_
      unfold sq_n3
      rw [sq_bF e, sq_bF e', hz]; rfl
theorem sq_392r (hs : s < 8) (ht : t < 8) (hu : u < 8) (hp : post 1 ()) (hk : sq_k3 s t u = true) (hd : sq_D s t u a2) (hA : sq_E a1 [(0, 3), (1, 1), (2, 0)]) {x3 x19 x21 : Int32} : wL_lawOf_392 post mc ms x3 (nI s) (nI t) (nI u) x19 x21 0 1 kc ks (nI 3) 0 f2 f3 a1 a2 a3 a4 a5 a6 a7 a8 a9 a10 a11 a12 a13 a14 := by
  unfold wL_lawOf_392
  refine br_t rfl (nm_r (e' := nI ((2 ^ u ||| 2 ^ s) ||| 2 ^ t)) ?_ (pk_eq s u (fun e => ?_) (fun e => ?_)))
  · rw [sq_shl (show u < 31 by omega), sq_shl (show s < 31 by omega), sq_shl (show t < 31 by omega), sq_or, sq_or]
  · exact sq_428 (z0 := 0) hs ht hu hp hk hd hA (by rw [sq_bT e]; rfl)
  · exact sq_428 (z0 := 1) hs ht hu hp hk hd hA (by rw [sq_bF e]; rfl)
/-! move -/
theorem sq_und0 {post : Int32 → Prop} {x : Nat} (hx : x < 3) (hx0 : x ≠ 0) (h : a1 x = -1) (hp : post 0) : wpX_under post (f0, f1, f2, f3, a1, a2, a3, a4, a5, a6, a7, a8, a9, a10, a11, a12, a13, a14) (nI x) (nI 0) := by
  refine ⟨2, pk_le 10 0 (fun z => absurd z (by omega)) (fun _ => br_f (nI_pos (by omega)) (pk_eq x 0 (fun e => absurd e hx0) (fun _ => ⟨pk_in x 10 (by omega), nm_r (e' := -1) ?_ (nm_r (e' := nI 1) rfl ?_)⟩)))⟩
  · rw [nI_clamp (show x < 2 ^ 31 by omega), h]
  · exact pk_le 10 1 (fun z => absurd z (by omega)) (fun _ => br_t (by decide) hp)
/-- the root goes under the third, which is a root itself -/
theorem sq_ring {post : Int32 → St2 → Prop} (h : a1 2 = -1) (hp : post 1 (nI 3, 0, f2, f3, upd a1 0 (nI 2), a2, a3, a4, a5, a6, a7, a8, a9, a10, a11, a12, a13, a14)) : wpX_move post (nI 3, f1, f2, f3, a1, a2, a3, a4, a5, a6, a7, a8, a9, a10, a11, a12, a13, a14) 0 2 := by
  unfold wpX_move
  refine sq_isC (c := 0) (by omega) (br_f (by decide) (br_f (by decide) (sq_isC (c := 2) (by omega) (br_f (by decide) (br_f (by decide) (sq_und0 (x := 2) (by omega) (by omega) h (br_t rfl ⟨pk_in 0 10 (by omega), nm_r (e' := upd a1 0 (nI 2)) ?_ hp⟩)))))))
  exact sq_up8 (k := 0) (v := 2) (by omega) (by omega)
theorem sq_318r (hs : s < 8) (ht : t < 8) (hu : u < 8) (hp : post 1 ()) (hk : sq_k3 s t u = true) (hd : sq_D s t u a2) (h1 : a1 1 = 0) (h2 : a1 2 = -1) {x3 x12 x17 x19 z0 : Int32} (n0 : ¬ x3 = 0) (n1 : ¬ x3 = 1) : wL_lawOf_318 post mc ms x3 (nI s) (nI t) (nI u) x12 1 x17 x17 x19 z0 kc ks (nI 3) f1 f2 f3 a1 a2 a3 a4 a5 a6 a7 a8 a9 a10 a11 a12 a13 a14 := by
  have hA : sq_E (upd a1 0 (nI 2)) [(0, 3), (1, 1), (2, 0)] := by
    refine sq_E3 ?_ ?_ ?_ (by omega) (by omega) (by omega)
    · rw [pk_us]; rfl
    · rw [pk_un (by omega), h1]; rfl
    · rw [pk_un (by omega), h2]; rfl
  unfold wL_lawOf_318
  refine sq_ring h2 (br_f n0 (br_f n1 ?_))
  have key : ∀ x19 x21 : Int32, wL_lawOf_360 post mc ms x3 (nI s) (nI t) (nI u) 1 x17 x17 x19 x21 1 0 kc ks (nI 3) 0 f2 f3 (upd a1 0 (nI 2)) a2 a3 a4 a5 a6 a7 a8 a9 a10 a11 a12 a13 a14 := fun x19 x21 => br_f (by decide) (br_t rfl (br_t rfl (br_t rfl (sq_392r hs ht hu hp hk hd hA))))
  exact br_c (fun _ => nm_e (key _ _)) (fun _ => key _ _)
theorem sq_213r (hs : s < 8) (ht : t < 8) (hu : u < 8) (hp : post 1 ()) (hk : sq_k3 s t u = true) (hd : sq_D s t u a2) (h1 : a1 1 = 0) (h2 : a1 2 = -1) {x3 x12 x17 : Int32} (n0 : ¬ x3 = 0) (n1 : ¬ x3 = 1) : wL_lawOf_213 post mc ms x3 (nI s) (nI t) (nI u) x12 1 x17 x17 kc ks (nI 3) f1 f2 f3 a1 a2 a3 a4 a5 a6 a7 a8 a9 a10 a11 a12 a13 a14 := by
  unfold wL_lawOf_213
  refine br_f n1 (br_f n0 ?_)
  have k301 : ∀ x19 z0 z1 : Int32, wL_lawOf_301 post mc ms x3 (nI s) (nI t) (nI u) x12 1 x17 x17 x19 z0 z1 kc ks (nI 3) f1 f2 f3 a1 a2 a3 a4 a5 a6 a7 a8 a9 a10 a11 a12 a13 a14 := fun x19 z0 z1 => nm_e (br_c (fun _ => sq_318r hs ht hu hp hk hd h1 h2 n0 n1) (fun _ => sq_318r hs ht hu hp hk hd h1 h2 n0 n1))
  have k276 : ∀ x19 z0 z1 : Int32, wL_lawOf_276 post mc ms x3 (nI s) (nI t) (nI u) x12 1 x17 x17 x19 z0 z1 kc ks (nI 3) f1 f2 f3 a1 a2 a3 a4 a5 a6 a7 a8 a9 a10 a11 a12 a13 a14 := fun x19 z0 z1 => br_f n1 (k301 _ _ _)
  exact br_c (fun _ => k276 _ _ _) (fun _ => br_c (fun _ => k276 _ _ _) (fun _ => k276 _ _ _))
end
end
section
section
variable {f0 f1 f2 f3 : Int32} {a1 a2 a3 a4 a5 a6 a7 a8 a9 a10 a11 a12 a13 a14 : Nat → Int32}
/-! under, move -/
theorem sq_unS {post : Int32 → Prop} {x c k n : Nat} {y : Int32} (hk : k < 10) (hx : x < 10) (hc : c < 10) (hne : x ≠ c) (ha : a1 x = y) (h : wX_under_5 post (nI c) f0 f1 f2 f3 a1 a2 a3 a4 a5 a6 a7 a8 a9 a10 a11 a12 a13 a14 n y (nI (k + 1))) : wX_under_5 post (nI c) f0 f1 f2 f3 a1 a2 a3 a4 a5 a6 a7 a8 a9 a10 a11 a12 a13 a14 (n + 1) (nI x) (nI k) := by
  refine pk_le 10 k (fun z => absurd z (by omega)) (fun _ => br_f (nI_pos (by omega)) (pk_eq x c (fun e => absurd e hne) (fun _ => ⟨pk_in x 10 hx, nm_r (e' := y) ?_ (nm_r (nI_1 k) h)⟩)))
  rw [nI_clamp (show x < 2 ^ 31 by omega), ha]
theorem sq_unE {post : Int32 → Prop} {c : Int32} {k n : Nat} (hk : k < 10) (hp : post 0) : wX_under_5 post c f0 f1 f2 f3 a1 a2 a3 a4 a5 a6 a7 a8 a9 a10 a11 a12 a13 a14 (n + 1) (-1) (nI k) :=
  pk_le 10 k (fun z => absurd z (by omega)) (fun _ => br_t (by decide) hp)
theorem sq_unF {post : Int32 → Prop} {c k n : Nat} (hk : k < 10) (hc : c < 10) (hp : post 1) : wX_under_5 post (nI c) f0 f1 f2 f3 a1 a2 a3 a4 a5 a6 a7 a8 a9 a10 a11 a12 a13 a14 (n + 1) (nI c) (nI k) :=
  pk_le 10 k (fun z => absurd z (by omega)) (fun _ => br_f (nI_pos (by omega)) (br_t rfl hp))
theorem sq_mv2 {post : Int32 → St2 → Prop} {o : Nat} (ho : o < 2) (h0 : a1 0 = -1) (h1 : a1 1 = 0) (hp : post 1 (nI 3, 0, f2, f3, upd a1 2 (nI o), a2, a3, a4, a5, a6, a7, a8, a9, a10, a11, a12, a13, a14)) : wpX_move post (nI 3, f1, f2, f3, a1, a2, a3, a4, a5, a6, a7, a8, a9, a10, a11, a12, a13, a14) 2 (nI o) := by
  have hm : ¬ nI o = -1 := (by decide : ∀ o, o < 2 → ¬ nI o = -1) o ho
  have fin : wX_move_39 post (nI 2) (nI o) (nI 3) f1 f2 f3 a1 a2 a3 a4 a5 a6 a7 a8 a9 a10 a11 a12 a13 a14 := ⟨pk_in 2 10 (by omega), nm_r (sq_up8 (k := 2) (by omega) (by omega)) hp⟩
  have und : wpX_under (fun r => (r = 0 → wX_move_39 post (nI 2) (nI o) (nI 3) f1 f2 f3 a1 a2 a3 a4 a5 a6 a7 a8 a9 a10 a11 a12 a13 a14) ∧ (¬ r = 0 → post 0 (nI 3, f1, f2, f3, a1, a2, a3, a4, a5, a6, a7, a8, a9, a10, a11, a12, a13, a14))) (nI 3, f1, f2, f3, a1, a2, a3, a4, a5, a6, a7, a8, a9, a10, a11, a12, a13, a14) (nI o) (nI 2) := by
    rcases (show o = 0 ∨ o = 1 by omega) with e | e
    · rw [e] at fin ⊢
      exact ⟨2, sq_unS (k := 0) (by omega) (by omega) (by omega) (by omega) h0 (sq_unE (by omega) (br_t rfl fin))⟩
    · rw [e] at fin ⊢
      exact ⟨3, sq_unS (k := 0) (by omega) (by omega) (by omega) (by omega) h1 (sq_unS (x := 0) (k := 1) (by omega) (by omega) (by omega) (by omega) h0 (sq_unE (by omega) (br_t rfl fin)))⟩
  unfold wpX_move
  exact sq_isC (c := 2) (by omega) (br_f (by decide) (br_f hm (sq_isC (by omega) (br_f (by decide) (br_f hm und)))))
theorem sq_noring {post : Int32 → St2 → Prop} {o : Nat} (ho : o < 2) (h1 : a1 1 = 0) (h2 : a1 2 = nI o) (hp : post 0 (nI 3, f1, f2, f3, a1, a2, a3, a4, a5, a6, a7, a8, a9, a10, a11, a12, a13, a14)) : wpX_move post (nI 3, f1, f2, f3, a1, a2, a3, a4, a5, a6, a7, a8, a9, a10, a11, a12, a13, a14) 0 2 := by
  have und : wpX_under (fun r => (r = 0 → wX_move_39 post 0 2 (nI 3) f1 f2 f3 a1 a2 a3 a4 a5 a6 a7 a8 a9 a10 a11 a12 a13 a14) ∧ (¬ r = 0 → post 0 (nI 3, f1, f2, f3, a1, a2, a3, a4, a5, a6, a7, a8, a9, a10, a11, a12, a13, a14))) (nI 3, f1, f2, f3, a1, a2, a3, a4, a5, a6, a7, a8, a9, a10, a11, a12, a13, a14) (nI 2) (nI 0) := by
    rcases (show o = 0 ∨ o = 1 by omega) with e | e
    · rw [e] at h2
      exact ⟨2, sq_unS (k := 0) (by omega) (by omega) (by omega) (by omega) h2 (sq_unF (by omega) (by omega) (br_f (by decide) hp))⟩
    · rw [e] at h2
      exact ⟨3, sq_unS (k := 0) (by omega) (by omega) (by omega) (by omega) h2 (sq_unS (x := 1) (k := 1) (by omega) (by omega) (by omega) (by omega) h1 (sq_unF (c := 0) (by omega) (by omega) (br_f (by decide) hp)))⟩
  unfold wpX_move
  exact sq_isC (c := 0) (by omega) (br_f (by decide) (br_f (by decide) (sq_isC (c := 2) (by omega) (br_f (by decide) (br_f (by decide) und)))))
theorem sq_mvm {post : Int32 → St2 → Prop} (hp : post 1 (nI 3, 0, f2, f3, upd a1 2 (-1), a2, a3, a4, a5, a6, a7, a8, a9, a10, a11, a12, a13, a14)) : wpX_move post (nI 3, f1, f2, f3, a1, a2, a3, a4, a5, a6, a7, a8, a9, a10, a11, a12, a13, a14) 2 (-1) := by
  unfold wpX_move
  refine sq_isC (c := 2) (by omega) (br_f (by decide) (br_t rfl (br_t rfl ⟨pk_in 2 10 (by omega), nm_r (e' := upd a1 2 (-1)) ?_ hp⟩)))
  rw [show ((2 : Int32)).toNatClampNeg = 2 from rfl, show ((-1 : Int32)).toInt8.toInt32 = -1 by decide]
theorem sq_mvb {post : Int32 → St2 → Prop} {x : Int32} (n0 : ¬ x = 0) (n1 : ¬ x = 1) (nm : ¬ x = -1) (hp : post 0 (nI 3, f1, f2, f3, a1, a2, a3, a4, a5, a6, a7, a8, a9, a10, a11, a12, a13, a14)) : wpX_move post (nI 3, f1, f2, f3, a1, a2, a3, a4, a5, a6, a7, a8, a9, a10, a11, a12, a13, a14) 2 x := by
  unfold wpX_move
  refine sq_isC (c := 2) (by omega) (br_f (by decide) (br_f nm ?_))
  rcases pk_ix x (n := 3) (by omega) with h | h | ⟨j, hj, e⟩
  · exact br_t h (br_t rfl hp)
  · refine br_c (fun _ => br_t rfl hp) (fun _ => br_t h (br_t rfl hp))
  · rcases (show j = 0 ∨ j = 1 ∨ j = 2 by omega) with q | q | q
    · rw [q] at e; exact absurd e n0
    · rw [q] at e; exact absurd e n1
    · rw [q] at e
      subst e
      exact sq_isC (c := 2) (by omega) (br_f (by decide) (br_f nm ⟨1, sq_unF (c := 2) (k := 0) (by omega) (by omega) (br_f (by decide) hp)⟩))
/-! the end of the law, where the third went under the first or the second -/
variable {post : Int32 → St0 → Prop} {mc ms kc ks s t u o : Nat}
theorem sq_392u (hs : s < 8) (ht : t < 8) (hu : u < 8) (ho : o < 2) (hp : post 1 ()) (hk : sq_k2 s t u o = true) (hd : sq_D s t u a2) (hA : sq_E a1 [(0, 0), (1, 1), (2, o + 1)]) : wL_lawOf_392 post mc ms (nI o) (nI s) (nI t) (nI u) (nI (sq_set s t u o)) (nI (sq_most s t u o)) 1 1 kc ks (nI 3) 0 f2 f3 a1 a2 a3 a4 a5 a6 a7 a8 a9 a10 a11 a12 a13 a14 := by
  obtain ⟨K, M, cc, B, SH, EC, ES, EM, e1, e2, e3, e4, e5⟩ := sq_k2x hk
  have ha2 : a1 2 = nI o := (hA 2 (o + 1) rfl).2
  unfold wL_lawOf_392
  refine br_f (by decide) (br_f (by decide) (sq_wUndF (c := 2) hs ht hu (by omega) hd hA e1 e3 (fun g2 d3 d4 d5 d6 d7 d8 d9 d10 d11 d12 d13 d14 hcc r3 r4 r6 r8 r9 r10 r12 => br_t rfl (sq_wCrowdB r4 e2 (br_t rfl (sq_wPar (c := 2) (by omega) (br_t ha2 (sq_wSndB (c := 2) (by omega) hu r6 r8 r9 r10 r12 e4 (br_t rfl (sq_wSupB (c := 2) (d := o) (by omega) (by omega) hs ha2 r6 r8 r9 r10 r12 e5 ?_))))))))))
  refine pk_eq o 1 (fun e => ?_) (fun e => ?_)
  · rw [sq_bT e]
    refine pk_eq s t (fun e => ?_) (fun e => ?_)
    · rw [sq_bT e]
      exact br_t rfl hp
    · rw [sq_bF e]
      exact br_t rfl hp
  · rw [sq_bF e]
    exact br_t rfl hp
theorem sq_318u (hs : s < 8) (ht : t < 8) (hu : u < 8) (ho : o < 2) (hp : post 1 ()) (hk : sq_k2 s t u o = true) (hd : sq_D s t u a2) (hA : sq_E a1 [(0, 0), (1, 1), (2, o + 1)]) {x12 : Int32} : wL_lawOf_318 post mc ms (nI o) (nI s) (nI t) (nI u) x12 1 1 1 (nI (sq_set s t u o)) (nI (sq_most s t u o)) kc ks (nI 3) 0 f2 f3 a1 a2 a3 a4 a5 a6 a7 a8 a9 a10 a11 a12 a13 a14 := by
  have ha1 : a1 1 = 0 := (hA 1 1 rfl).2
  have ha2 : a1 2 = nI o := (hA 2 (o + 1) rfl).2
  have key : wL_lawOf_338 post mc ms (nI o) (nI s) (nI t) (nI u) x12 1 1 1 (nI (sq_set s t u o)) (nI (sq_most s t u o)) 0 kc ks (nI 3) 0 f2 f3 a1 a2 a3 a4 a5 a6 a7 a8 a9 a10 a11 a12 a13 a14 := br_f (by decide) (br_f (by decide) (br_t rfl (br_f (by decide) (br_t rfl (sq_392u hs ht hu ho hp hk hd hA)))))
  unfold wL_lawOf_318
  exact sq_noring ho ha1 ha2 (pk_eq o 0 (fun _ => key) (fun e => pk_eq o 1 (fun _ => key) (fun e' => absurd ho (by omega))))
theorem sq_301u (hs : s < 8) (ht : t < 8) (hu : u < 8) (ho : o < 2) (hp : post 1 ()) (hk : sq_k2 s t u o = true) (hd : sq_D s t u a2) (hA : sq_E a1 [(0, 0), (1, 1), (2, o + 1)]) {z0 z1 : Nat} (h8 : z1 + z0 < 8) (hz : z1 + z0 = sq_n s t u o) : wL_lawOf_301 post mc ms (nI o) (nI s) (nI t) (nI u) (nI (sq_one s t)) 1 1 1 (nI (sq_set s t u o)) (nI z0) (nI z1) kc ks (nI 3) 0 f2 f3 a1 a2 a3 a4 a5 a6 a7 a8 a9 a10 a11 a12 a13 a14 := by
  have h1 : sq_one s t ≤ 2 := by unfold sq_one; cases Nat.beq s t <;> decide
  have key := sq_318u (post := post) (mc := mc) (ms := ms) (kc := kc) (ks := ks) (f2 := f2) (f3 := f3) (a3 := a3) (a4 := a4) (a5 := a5) (a6 := a6) (a7 := a7) (a8 := a8) (a9 := a9) (a10 := a10) (a11 := a11) (a12 := a12) (a13 := a13) (a14 := a14) hs ht hu ho hp hk hd hA (x12 := nI (sq_one s t))
  refine nm_r (nI_add z1 z0) (pk_le (z1 + z0) (sq_one s t) (fun e => ?_) (fun e => ?_))
  · have q : sq_most s t u o = sq_one s t := by
      unfold sq_most
      rw [← hz, Nat.ble_eq_true_of_le e]; rfl
    rw [q] at key
    exact key
  · have q : sq_most s t u o = z1 + z0 := by
      unfold sq_most
      have w : Nat.ble (z1 + z0) (sq_one s t) = false := by
        cases w : Nat.ble (z1 + z0) (sq_one s t)
        · rfl
        · exact absurd (Nat.le_of_ble_eq_true w) (by omega)
      rw [← hz, w]; rfl
    rw [q] at key
    exact key
theorem sq_276u (hs : s < 8) (ht : t < 8) (hu : u < 8) (ho : o < 2) (hp : post 1 ()) (hk : sq_k2 s t u o = true) (hd : sq_D s t u a2) (hA : sq_E a1 [(0, 0), (1, 1), (2, o + 1)]) {z0 : Nat} (h2 : z0 < 2) (hz : z0 = bif Nat.beq u s then 0 else 1) : wL_lawOf_276 post mc ms (nI o) (nI s) (nI t) (nI u) (nI (sq_one s t)) 1 1 1 (nI (sq_set s t u o)) (nI z0) (nI 1) kc ks (nI 3) 0 f2 f3 a1 a2 a3 a4 a5 a6 a7 a8 a9 a10 a11 a12 a13 a14 := by
  unfold wL_lawOf_276
  rw [nI_add]
  refine pk_eq o 1 (fun e => pk_eq t s (fun e' => ?_) (fun e' => pk_eq t u (fun e'' => ?_) (fun e'' => ?_))) (fun e => ?_)
  · refine sq_301u (z0 := 0) hs ht hu ho hp hk hd hA (by omega) ?_
    unfold sq_n
    rw [sq_bT e, sq_bT e', hz]; rfl
  · refine sq_301u (z0 := 0) hs ht hu ho hp hk hd hA (by omega) ?_
    unfold sq_n
    rw [sq_bT e, sq_bF e', sq_bT e'', hz]; rfl
  · refine sq_301u (z0 := 1) hs ht hu ho hp hk hd hA (by omega) ?_
    unfold sq_n
    rw [sq_bT e, sq_bF e', sq_bF e'', hz]; rfl
  · refine sq_301u (z0 := 0) hs ht hu ho hp hk hd hA (by omega) ?_
    unfold sq_n
    rw [sq_bF e, hz]; rfl
theorem sq_257u (hs : s < 8) (ht : t < 8) (hu : u < 8) (ho : o < 2) (hp : post 1 ()) (hk : sq_k2 s t u o = true) (hd : sq_D s t u a2) (hA : sq_E a1 [(0, 0), (1, 1), (2, o + 1)]) : wL_lawOf_257 post mc ms (nI o) (nI s) (nI t) (nI u) (nI (sq_one s t)) 1 1 1 (nI (sq_set s t u o)) kc ks (nI 3) 0 f2 f3 a1 a2 a3 a4 a5 a6 a7 a8 a9 a10 a11 a12 a13 a14 := by
  unfold wL_lawOf_257
  refine pk_eq u s (fun e => ?_) (fun e => br_f (nI_pos (by omega)) ?_)
  · exact sq_276u (z0 := 0) hs ht hu ho hp hk hd hA (by omega) (by rw [sq_bT e]; rfl)
  · exact sq_276u (z0 := 1) hs ht hu ho hp hk hd hA (by omega) (by rw [sq_bF e]; rfl)
theorem sq_213u (hs : s < 8) (ht : t < 8) (hu : u < 8) (ho : o < 2) (hp : post 1 ()) (hk : sq_k2 s t u o = true) (hd : sq_D s t u a2) (hA : sq_E a1 [(0, 0), (1, 1), (2, o + 1)]) : wL_lawOf_213 post mc ms (nI o) (nI s) (nI t) (nI u) (nI (sq_one s t)) 1 1 1 kc ks (nI 3) 0 f2 f3 a1 a2 a3 a4 a5 a6 a7 a8 a9 a10 a11 a12 a13 a14 := by
  have key := sq_257u (post := post) (mc := mc) (ms := ms) (kc := kc) (ks := ks) (f2 := f2) (f3 := f3) (a3 := a3) (a4 := a4) (a5 := a5) (a6 := a6) (a7 := a7) (a8 := a8) (a9 := a9) (a10 := a10) (a11 := a11) (a12 := a12) (a13 := a13) (a14 := a14) hs ht hu ho hp hk hd hA
  unfold wL_lawOf_213
  rw [sq_shl (show u < 31 by omega), sq_shl (show s < 31 by omega), sq_shl (show t < 31 by omega), sq_or, sq_or, sq_or]
  refine pk_eq o 1 (fun e => ?_) (fun e => pk_eq o 0 (fun e' => ?_) (fun e' => absurd ho (by omega)))
  · have q : sq_set s t u o = (2 ^ s ||| 2 ^ t) ||| 2 ^ u := by unfold sq_set; rw [sq_bT e]; rfl
    rw [q] at key
    exact key
  · have q : sq_set s t u o = 2 ^ s ||| 2 ^ u := by unfold sq_set; rw [sq_bF e]; rfl
    rw [q] at key
    exact key
/-! the law behind its first half -/
theorem sq_big {x : Int32} (h : ¬ x < -1) (n0 : ¬ x = 0) (n1 : ¬ x = 1) (nm : ¬ x = -1) : 1 < x := by
  rw [Int32.lt_iff_toInt_lt] at h ⊢
  rw [← Int32.toInt_inj] at n0 n1 nm
  rw [show ((-1 : Int32)).toInt = -1 from rfl] at h nm
  rw [show ((0 : Int32)).toInt = 0 from rfl] at n0
  rw [show ((1 : Int32)).toInt = 1 from rfl] at n1 ⊢
  omega
theorem sq_187 (hs : s < 8) (ht : t < 8) (hu : u < 8) (hp : post 1 ()) (k0 : sq_k2 s t u 0 = true) (k1 : sq_k2 s t u 1 = true) (k3 : sq_k3 s t u = true) (hd : sq_D s t u a2) (h0 : a1 0 = -1) (h1 : a1 1 = 0) (h2 : a1 2 = -1) {x3 : Int32} : wL_lawOf_187 post mc ms x3 (nI s) (nI t) (nI u) (nI (sq_one s t)) 1 kc ks (nI 3) f1 f2 f3 a1 a2 a3 a4 a5 a6 a7 a8 a9 a10 a11 a12 a13 a14 := by
  have go : ∀ o, o < 2 → sq_k2 s t u o = true → wL_lawOf_187 post mc ms (nI o) (nI s) (nI t) (nI u) (nI (sq_one s t)) 1 kc ks (nI 3) f1 f2 f3 a1 a2 a3 a4 a5 a6 a7 a8 a9 a10 a11 a12 a13 a14 := by
    intro o ho hk
    have hA : sq_E (upd a1 2 (nI o)) [(0, 0), (1, 1), (2, o + 1)] := by
      refine sq_E3 ?_ ?_ ?_ (by omega) (by omega) (by omega)
      · rw [pk_un (by omega), h0]; rfl
      · rw [pk_un (by omega), h1]; rfl
      · rw [pk_us]; rfl
    have q1 : ¬ nI o < -1 := (by decide : ∀ o, o < 2 → ¬ nI o < -1) o ho
    have q2 : ¬ 1 < nI o := (by decide : ∀ o, o < 2 → ¬ 1 < nI o) o ho
    unfold wL_lawOf_187
    exact sq_mv2 ho h0 h1 (br_f q1 (br_f q2 (sq_213u hs ht hu ho hp hk hd hA)))
  by_cases n1 : x3 = 1
  · rw [n1]; exact go 1 (by omega) k1
  by_cases n0 : x3 = 0
  · rw [n0]; exact go 0 (by omega) k0
  unfold wL_lawOf_187
  by_cases nm : x3 = -1
  · subst nm
    refine sq_mvm (br_f (by decide) (br_f (by decide) (sq_213r hs ht hu hp k3 hd ?_ ?_ n0 n1)))
    · rw [pk_un (by omega), h1]
    · rw [pk_us]
  · refine sq_mvb n0 n1 nm ?_
    by_cases hl : x3 < -1
    · exact br_t hl (sq_213r hs ht hu hp k3 hd h1 h2 n0 n1)
    · exact br_f hl (br_t (sq_big hl n0 n1 nm) (sq_213r hs ht hu hp k3 hd h1 h2 n0 n1))
end
end
section
theorem sq_far : ∀ s, s < 8 → ∀ t, t < 8 → (255 &&& (nI (2 ^ s ||| 2 ^ t) ^^^ (-1))) &&& (((1 : Int32) <<< (nI s &&& 31)) ^^^ (-1)) = 255 - (((1 : Int32) <<< (nI s &&& 31)) ||| ((1 : Int32) <<< (nI t &&& 31))) := by decide +kernel
theorem sq_up0 (j : Nat) : upd (fun _ => 0) j 0 = fun _ => 0 := by
  funext k
  by_cases e : k = j
  · rw [e, pk_us]
  · rw [pk_un e]
theorem sq_D3 {s t u : Nat} (hs : s < 8) (ht : t < 8) (hu : u < 8) : sq_D s t u (upd (upd (upd (fun _ => 0) (0 * 8 + s) (nI 11)) (1 * 8 + t) (nI 22)) (2 * 8 + u) (nI 33)) := by
  intro o x ho hx
  rcases (show o = 0 ∨ o = 1 ∨ o = 2 by omega) with e | e | e
  · subst e
    rw [pk_un (by omega), pk_un (by omega)]
    by_cases q : x = s
    · rw [q, pk_us]
      exact (congrArg nI (sq_dvS s t u 0)).symm
    · rw [pk_un (by omega)]
      exact (congrArg nI (sq_dvN (o := 0) (s := s) (t := t) (u := u) (show x ≠ sq_w s t u 0 from q))).symm
  · subst e
    rw [pk_un (by omega)]
    by_cases q : x = t
    · rw [q, pk_us]
      exact (congrArg nI (sq_dvS s t u 1)).symm
    · rw [pk_un (by omega), pk_un (by omega)]
      exact (congrArg nI (sq_dvN (o := 1) (s := s) (t := t) (u := u) (show x ≠ sq_w s t u 1 from q))).symm
  · subst e
    by_cases q : x = u
    · rw [q, pk_us]
      exact (congrArg nI (sq_dvS s t u 2)).symm
    · rw [pk_un (by omega), pk_un (by omega), pk_un (by omega)]
      exact (congrArg nI (sq_dvN (o := 2) (s := s) (t := t) (u := u) (show x ≠ sq_w s t u 2 from q))).symm
section
variable {f0 f1 f2 f3 : Int32} {a1 a2 a3 a4 a5 a6 a7 a8 a9 a10 a11 a12 a13 a14 : Nat → Int32}
/-! addClass, define -/
theorem sq_add40 {post : Int32 → St2 → Prop} {k : Nat} (hk : k < 10) (hp : post (nI k) (nI (k + 1), 0, f2, f3, a1, (fun _ ↦ 0), a3, a4, a5, a6, a7, a8, a9, a10, a11, a12, a13, a14)) : ∀ n i, i ≤ 8 → 8 < i + n → wX_addClass_40 post (nI k) f1 f2 f3 n (nI i) a1 (fun _ ↦ 0) a3 a4 a5 a6 a7 a8 a9 a10 a11 a12 a13 a14 := by
  intro n
  induction n with
  | zero => intro i h1 h2; omega
  | succ n ih =>
    intro i h1 h2
    refine pk_le 8 i (fun _ => nm_r (nI_1 k) ?_) (fun z => ⟨?_, nm_r (sq_up0 _) (nm_r (nI_1 i) (ih _ (by omega) (by omega)))⟩)
    · rw [nI_pred]; exact hp
    · rw [sq_c8]; exact pk_in (k * 8 + i) 80 (by omega)
theorem sq_add15 {post : Int32 → St2 → Prop} {k : Nat} {p : Int32} (hk : k < 10) (hp : post (nI k) (nI (k + 1), 0, f2, f3, upd a1 k p.toInt8.toInt32, (fun _ ↦ 0), a3, a4, a5, a6, a7, a8, a9, a10, a11, a12, a13, a14)) : wX_addClass_15 post p (nI k) f1 f2 f3 a1 (fun _ ↦ 0) a3 a4 a5 a6 a7 a8 a9 a10 a11 a12 a13 a14 := by
  unfold wX_addClass_15
  refine br_t (nI_lt (b := 10) hk (by omega)) ⟨pk_in k 10 hk, nm_r (e' := upd a1 k p.toInt8.toInt32) ?_ ⟨9, sq_add40 hk hp 9 0 (by omega) (by omega)⟩⟩
  rw [nI_clamp (show k < 2 ^ 31 by omega)]
theorem sq_addR {post : Int32 → St2 → Prop} {k : Nat} (hk : k < 10) (hp : post (nI k) (nI (k + 1), 0, f2, f3, upd a1 k (-1), (fun _ ↦ 0), a3, a4, a5, a6, a7, a8, a9, a10, a11, a12, a13, a14)) : wpX_addClass post (nI k, f1, f2, f3, a1, (fun _ ↦ 0), a3, a4, a5, a6, a7, a8, a9, a10, a11, a12, a13, a14) (-1) := by
  unfold wpX_addClass
  refine br_t rfl (sq_add15 hk ?_)
  rw [show ((-1 : Int32)).toInt8.toInt32 = -1 by decide]
  exact hp
theorem sq_addU {post : Int32 → St2 → Prop} (hp : post (nI 1) (nI 2, 0, f2, f3, upd a1 1 0, (fun _ ↦ 0), a3, a4, a5, a6, a7, a8, a9, a10, a11, a12, a13, a14)) : wpX_addClass post (nI 1, f1, f2, f3, a1, (fun _ ↦ 0), a3, a4, a5, a6, a7, a8, a9, a10, a11, a12, a13, a14) 0 := by
  unfold wpX_addClass
  refine br_f (by decide) (br_f (by decide) (br_f (by decide) (br_f (by decide) (sq_add15 (by omega) ?_))))
  rw [show ((0 : Int32)).toInt8.toInt32 = 0 by decide]
  exact hp
theorem sq_def {post : Int32 → St2 → Prop} {c x m : Nat} (hc : c < 3) (hx : x < 8) (h0 : 0 < m) (hm : m < 256) (hp : post 1 (nI 3, 0, f2, f3, a1, upd a2 (c * 8 + x) (nI m), a3, a4, a5, a6, a7, a8, a9, a10, a11, a12, a13, a14)) : wpX_define post (nI 3, f1, f2, f3, a1, a2, a3, a4, a5, a6, a7, a8, a9, a10, a11, a12, a13, a14) (nI c) (nI x) (nI m) := by
  unfold wpX_define
  refine sq_isC hc (br_f (by decide) (sq_isS hx (br_f (by decide) (pk_lt m 1 (fun z => absurd z (by omega)) (fun _ => pk_le m 1000 (fun _ => ?_) (fun z => absurd z (by omega)))))))
  rw [sq_c8]
  exact ⟨pk_in (c * 8 + x) 80 (by omega), nm_r (sq_up16 (by omega) hm) hp⟩
theorem sq_init {post : St2 → Prop} (hp : post (0, 0, 0, 0, (fun _ => 0), (fun _ => 0), (fun _ => 0), (fun _ => 0), (fun _ => 0), (fun _ => 0), (fun _ => 0), (fun _ => 0), (fun _ => 0), (fun _ => 0), (fun _ => 0), (fun _ => 0), (fun _ => 0), (fun _ => 0))) : wpX_init post 14 544 (0, 0, 0, 0) :=
  ⟨by decide, by decide, by decide, by decide, by decide, by decide, by decide, by decide, by decide, by decide, by decide, by decide, by decide, by decide, by decide, by decide, by decide, by decide, by decide, by decide, by decide, by decide, by decide, by decide, by decide, by decide, by decide, by decide, hp⟩
variable {post : Int32 → St0 → Prop} {mc ms kc ks s t u : Nat}
theorem sq_96 (hs : s < 8) (ht : t < 8) (hu : u < 8) (hp : post 1 ()) (hk : sq_ck s t u = true) (hd : sq_D s t u a2) (h0 : a1 0 = -1) (h1 : a1 1 = 0) (h2 : a1 2 = -1) {x3 z0 : Int32} (hz : z0 = 0 ↔ s = t) : wL_lawOf_96 post mc ms x3 (nI s) (nI t) (nI u) 0 1 2 z0 kc ks (nI 3) 0 f2 f3 a1 a2 a3 a4 a5 a6 a7 a8 a9 a10 a11 a12 a13 a14 := by
  unfold sq_ck at hk
  obtain ⟨k1, hk⟩ := sq_a2 hk
  obtain ⟨k20, hk⟩ := sq_a2 hk
  obtain ⟨k21, k3⟩ := sq_a2 hk
  obtain ⟨K, M, B, SH, EC, ES, EM, e1, e2, e3⟩ := sq_k1x k1
  have hA : sq_E a1 [(0, 0), (1, 1), (2, 0)] := sq_E3 h0 h1 h2 (by omega) (by omega) (by omega)
  unfold wL_lawOf_96
  refine sq_wCrowdF hs ht hu hd hA e1 e2 (fun g2 d3 d4 d5 d6 d7 d8 d9 d10 d11 d12 d13 d14 hcc r3 r4 r6 r8 r9 r10 r12 => sq_wColB (sq_wAptB hs r4 e3 (nm_e (br_t rfl (br_t rfl (br_t rfl ?_))))))
  rw [sq_far s hs t ht]
  refine br_c (fun e => ?_) (fun e => ?_)
  · have q : sq_one s t = 1 := by unfold sq_one; rw [sq_bT (hz.mp e)]; rfl
    have key := sq_187 (post := post) (mc := mc) (ms := ms) (kc := kc) (ks := ks) (f1 := 1) (f2 := g2) (f3 := nI (sq_one s t)) (a1 := a1) (a2 := a2) (a3 := d3) (a4 := d4) (a5 := d5) (a6 := d6) (a7 := d7) (a8 := d8) (a9 := d9) (a10 := d10) (a11 := d11) (a12 := d12) (a13 := d13) (a14 := d14) hs ht hu hp k20 k21 k3 hd h0 h1 h2 (x3 := x3)
    rw [q] at key ⊢
    exact br_t rfl (br_t rfl (br_t rfl key))
  · have q : sq_one s t = 2 := by unfold sq_one; rw [sq_bF (fun w => e (hz.mpr w))]; rfl
    have key := sq_187 (post := post) (mc := mc) (ms := ms) (kc := kc) (ks := ks) (f1 := 1) (f2 := g2) (f3 := nI (sq_one s t)) (a1 := a1) (a2 := a2) (a3 := d3) (a4 := d4) (a5 := d5) (a6 := d6) (a7 := d7) (a8 := d8) (a9 := d9) (a10 := d10) (a11 := d11) (a12 := d12) (a13 := d13) (a14 := d14) hs ht hu hp k20 k21 k3 hd h0 h1 h2 (x3 := x3)
    rw [q] at key ⊢
    exact br_t rfl (br_t rfl (br_t rfl key))
end
theorem sq_lawOf {post : Int32 → St0 → Prop} (hp : post 1 ()) (p0 p1 p2 p3 : Int32) : wpL_lawOf post 134 2144 () p0 p1 p2 p3 := by
  obtain ⟨s, hs, es⟩ := pk_andE p0 (m := 7) 3 (by decide)
  obtain ⟨t, ht, et⟩ := pk_andE p1 (m := 7) 3 (by decide)
  obtain ⟨u, hu, eu⟩ := pk_andE p2 (m := 7) 3 (by decide)
  have hs : s < 8 := hs
  have ht : t < 8 := ht
  have hu : u < 8 := hu
  have hk := sq_all s hs t ht u hu
  have hd := sq_D3 hs ht hu
  have h0 : (upd (upd (upd (fun _ => 0) 0 (-1)) 1 0) 2 (-1)) 0 = (-1 : Int32) := by decide
  have h1 : (upd (upd (upd (fun _ => 0) 0 (-1)) 1 0) 2 (-1)) 1 = (0 : Int32) := by decide
  have h2 : (upd (upd (upd (fun _ => 0) 0 (-1)) 1 0) 2 (-1)) 2 = (-1 : Int32) := by decide
  unfold wpL_lawOf
  refine ⟨by decide, by decide, 14, 544, by decide, by decide, sq_init (nm_r es (nm_r et (nm_r eu ?_)))⟩
  refine sq_addR (k := 0) (by omega) (sq_addU (sq_addR (k := 2) (by omega) (sq_def (c := 0) (m := 11) (by omega) hs (by omega) (by omega) (sq_def (c := 1) (m := 22) (by omega) ht (by omega) (by omega) (sq_def (c := 2) (m := 33) (by omega) hu (by omega) (by omega) (pk_eq s t (fun e => ?_) (fun e => ?_)))))))
  · exact sq_96 hs ht hu hp hk hd h0 h1 h2 ⟨fun _ => e, fun _ => rfl⟩
  · exact sq_96 hs ht hu hp hk hd h0 h1 h2 ⟨fun z => absurd z (by decide), fun z => absurd z e⟩
theorem sq_cell {post : Int32 → Prop} {L : Nat} {xs : Nat → Int32} (hL : L ≤ 4) (k : Nat) (hk : k < 4) (h : ∀ r, post r) : wpL_cellAt post L xs () (nI k) :=
  pk_le L k (fun _ => h _) (fun z => ⟨pk_in k L z, h _⟩)
theorem i_vc (xs : Nat → Int32) (L : Nat) (hL : L ≤ 4) : wpL_law (fun r => r = 1) L xs :=
  sq_cell hL 0 (by omega) (fun r1 => sq_cell hL 1 (by omega) (fun r2 => sq_cell hL 2 (by omega) (fun r3 => sq_cell hL 3 (by omega) (fun r4 => ⟨134, 2144, by decide, by decide, sq_lawOf rfl r1 r2 r3 r4⟩))))
end
