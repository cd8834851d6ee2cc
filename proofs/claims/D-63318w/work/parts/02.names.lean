def fd_X : u_T := fun k => match k with
  | 0 => ("MovieBoxes", "file", "[B", true)
  | 1 => ("MovieBoxes", "made", "[B", true)
  | 2 => ("MovieBoxes", "length", "I", false)
  | 3 => ("MovieBoxes", "fresh", "Z", false)
  | 4 => ("MovieBoxes", "fault", "I", false)
  | 5 => ("MovieBoxes", "root", "LMovieBoxes$Holder;", true)
  | 6 => ("MovieBoxes", "movie", "LMovieBoxes$Holder;", false)
  | 7 => ("MovieBoxes", "order", "Ljava/util/ArrayList;", true)
  | 8 => ("MovieBoxes", "kept", "[LMovieBoxes$Box;", true)
  | 9 => ("MovieBoxes", "used", "[I", true)
  | 10 => ("MovieBoxes", "tracks", "[LMovieBoxes$Track;", true)
  | 11 => ("MovieBoxes", "trackCount", "I", false)
  | _ => ("MovieBoxes", "moved", "[I", true)
def ft_X : Nat → FieldType := fun k => match k with
  | 0 => .array .byte
  | 1 => .array .byte
  | 2 => .int
  | 3 => .boolean
  | 4 => .int
  | 5 => .object "MovieBoxes$Holder"
  | 6 => .object "MovieBoxes$Holder"
  | 7 => .object "java/util/ArrayList"
  | 8 => .array (.object "MovieBoxes$Box")
  | 9 => .array .int
  | 10 => .array (.object "MovieBoxes$Track")
  | 11 => .int
  | _ => .array .int
def fd_H : u_T := fun k => match k with
  | 0 => ("MovieBoxes$Box", "kind", "LMovieBoxes$Kind;", false)
  | 1 => ("MovieBoxes$Box", "type", "I", false)
  | 2 => ("MovieBoxes$Box", "from", "I", false)
  | 3 => ("MovieBoxes$Box", "header", "I", false)
  | 4 => ("MovieBoxes$Box", "size", "I", false)
  | 5 => ("MovieBoxes$Box", "level", "I", false)
  | 6 => ("MovieBoxes$Box", "number", "I", false)
  | 7 => ("MovieBoxes$Box", "holder", "I", false)
  | 8 => ("MovieBoxes$Box", "next", "LMovieBoxes$Box;", false)
  | 9 => ("MovieBoxes$Box", "newHeader", "I", false)
  | 10 => ("MovieBoxes$Box", "newSize", "I", false)
  | 11 => ("MovieBoxes$Holder", "first", "LMovieBoxes$Box;", false)
  | _ => ("MovieBoxes$Holder", "last", "LMovieBoxes$Box;", false)
def ft_H : Nat → FieldType := fun k => match k with
  | 0 => .object "MovieBoxes$Kind"
  | 1 => .int
  | 2 => .int
  | 3 => .int
  | 4 => .int
  | 5 => .int
  | 6 => .int
  | 7 => .int
  | 8 => .object "MovieBoxes$Box"
  | 9 => .int
  | 10 => .int
  | 11 => .object "MovieBoxes$Box"
  | _ => .object "MovieBoxes$Box"
def fd_L : u_T := fun k => match k with
  | 0 => ("MovieBoxes$Box", "kind", "LMovieBoxes$Kind;", false)
  | 1 => ("MovieBoxes$Box", "type", "I", false)
  | 2 => ("MovieBoxes$Box", "from", "I", false)
  | 3 => ("MovieBoxes$Box", "header", "I", false)
  | 4 => ("MovieBoxes$Box", "size", "I", false)
  | 5 => ("MovieBoxes$Box", "level", "I", false)
  | 6 => ("MovieBoxes$Box", "number", "I", false)
  | 7 => ("MovieBoxes$Box", "holder", "I", false)
  | 8 => ("MovieBoxes$Box", "next", "LMovieBoxes$Box;", false)
  | 9 => ("MovieBoxes$Box", "newHeader", "I", false)
  | _ => ("MovieBoxes$Box", "newSize", "I", false)
def ft_L : Nat → FieldType := fun k => match k with
  | 0 => .object "MovieBoxes$Kind"
  | 1 => .int
  | 2 => .int
  | 3 => .int
  | 4 => .int
  | 5 => .int
  | 6 => .int
  | 7 => .int
  | 8 => .object "MovieBoxes$Box"
  | 9 => .int
  | _ => .int
def fd_T : u_T := fun k => match k with
  | 0 => ("MovieBoxes$Box", "kind", "LMovieBoxes$Kind;", false)
  | 1 => ("MovieBoxes$Box", "type", "I", false)
  | 2 => ("MovieBoxes$Box", "from", "I", false)
  | 3 => ("MovieBoxes$Box", "header", "I", false)
  | 4 => ("MovieBoxes$Box", "size", "I", false)
  | 5 => ("MovieBoxes$Box", "level", "I", false)
  | 6 => ("MovieBoxes$Box", "number", "I", false)
  | 7 => ("MovieBoxes$Box", "holder", "I", false)
  | 8 => ("MovieBoxes$Box", "next", "LMovieBoxes$Box;", false)
  | 9 => ("MovieBoxes$Box", "newHeader", "I", false)
  | 10 => ("MovieBoxes$Box", "newSize", "I", false)
  | _ => ("MovieBoxes$Table", "rows", "I", false)
def ft_T : Nat → FieldType := fun k => match k with
  | 0 => .object "MovieBoxes$Kind"
  | 1 => .int
  | 2 => .int
  | 3 => .int
  | 4 => .int
  | 5 => .int
  | 6 => .int
  | 7 => .int
  | 8 => .object "MovieBoxes$Box"
  | 9 => .int
  | 10 => .int
  | _ => .int
def fd_P : u_T := fun k => match k with
  | 0 => ("MovieBoxes$Box", "kind", "LMovieBoxes$Kind;", false)
  | 1 => ("MovieBoxes$Box", "type", "I", false)
  | 2 => ("MovieBoxes$Box", "from", "I", false)
  | 3 => ("MovieBoxes$Box", "header", "I", false)
  | 4 => ("MovieBoxes$Box", "size", "I", false)
  | 5 => ("MovieBoxes$Box", "level", "I", false)
  | 6 => ("MovieBoxes$Box", "number", "I", false)
  | 7 => ("MovieBoxes$Box", "holder", "I", false)
  | 8 => ("MovieBoxes$Box", "next", "LMovieBoxes$Box;", false)
  | 9 => ("MovieBoxes$Box", "newHeader", "I", false)
  | 10 => ("MovieBoxes$Box", "newSize", "I", false)
  | 11 => ("MovieBoxes$Table", "rows", "I", false)
  | 12 => ("MovieBoxes$PlaceTable", "grown", "Z", false)
  | _ => ("MovieBoxes$PlaceTable", "base", "I", false)
def ft_P : Nat → FieldType := fun k => match k with
  | 0 => .object "MovieBoxes$Kind"
  | 1 => .int
  | 2 => .int
  | 3 => .int
  | 4 => .int
  | 5 => .int
  | 6 => .int
  | 7 => .int
  | 8 => .object "MovieBoxes$Box"
  | 9 => .int
  | 10 => .int
  | 11 => .int
  | 12 => .boolean
  | _ => .int
def fd_S : u_T := fun k => match k with
  | 0 => ("MovieBoxes$Box", "kind", "LMovieBoxes$Kind;", false)
  | 1 => ("MovieBoxes$Box", "type", "I", false)
  | 2 => ("MovieBoxes$Box", "from", "I", false)
  | 3 => ("MovieBoxes$Box", "header", "I", false)
  | 4 => ("MovieBoxes$Box", "size", "I", false)
  | 5 => ("MovieBoxes$Box", "level", "I", false)
  | 6 => ("MovieBoxes$Box", "number", "I", false)
  | 7 => ("MovieBoxes$Box", "holder", "I", false)
  | 8 => ("MovieBoxes$Box", "next", "LMovieBoxes$Box;", false)
  | 9 => ("MovieBoxes$Box", "newHeader", "I", false)
  | 10 => ("MovieBoxes$Box", "newSize", "I", false)
  | _ => ("MovieBoxes$Table", "rows", "I", false)
def ft_S : Nat → FieldType := fun k => match k with
  | 0 => .object "MovieBoxes$Kind"
  | 1 => .int
  | 2 => .int
  | 3 => .int
  | 4 => .int
  | 5 => .int
  | 6 => .int
  | 7 => .int
  | 8 => .object "MovieBoxes$Box"
  | 9 => .int
  | 10 => .int
  | _ => .int
def fd_K : u_T := fun k => match k with
  | _ => ("MovieBoxes$Track", "tables", "[LMovieBoxes$Table;", true)
def ft_K : Nat → FieldType := fun k => match k with
  | _ => .array (.object "MovieBoxes$Table")
def fd_M : u_T := fun k => match k with
  | 0 => ("MovieBoxesModel", "file", "[I", true)
  | 1 => ("MovieBoxesModel", "size", "I", false)
  | 2 => ("MovieBoxesModel", "count", "I", false)
  | 3 => ("MovieBoxesModel", "at", "[I", true)
  | 4 => ("MovieBoxesModel", "len", "[I", true)
  | 5 => ("MovieBoxesModel", "type", "[I", true)
  | 6 => ("MovieBoxesModel", "head", "[I", true)
  | 7 => ("MovieBoxesModel", "level", "[I", true)
  | 8 => ("MovieBoxesModel", "holder", "[I", true)
  | 9 => ("MovieBoxesModel", "end", "[I", true)
  | 10 => ("MovieBoxesModel", "open", "[I", true)
  | 11 => ("MovieBoxesModel", "movie", "I", false)
  | 12 => ("MovieBoxesModel", "trackCount", "I", false)
  | 13 => ("MovieBoxesModel", "trackBox", "[I", true)
  | 14 => ("MovieBoxesModel", "table", "[I", true)
  | 15 => ("MovieBoxesModel", "home", "[I", true)
  | 16 => ("MovieBoxesModel", "newHead", "[I", true)
  | 17 => ("MovieBoxesModel", "newLen", "[I", true)
  | 18 => ("MovieBoxesModel", "inner", "[I", true)
  | 19 => ("MovieBoxesModel", "out", "[I", true)
  | _ => ("MovieBoxesModel", "outSize", "I", false)
def ft_M : Nat → FieldType := fun k => match k with
  | 0 => .array .int
  | 1 => .int
  | 2 => .int
  | 3 => .array .int
  | 4 => .array .int
  | 5 => .array .int
  | 6 => .array .int
  | 7 => .array .int
  | 8 => .array .int
  | 9 => .array .int
  | 10 => .array .int
  | 11 => .int
  | 12 => .int
  | 13 => .array .int
  | 14 => .array .int
  | 15 => .array .int
  | 16 => .array .int
  | 17 => .array .int
  | 18 => .array .int
  | 19 => .array .int
  | _ => .int
def fd_A : u_T := fun k => match k with
  | 0 => ("java/util/AbstractList", "modCount", "I", false)
  | 1 => ("java/util/ArrayList", "elementData", "[Ljava/lang/Object;", false)
  | _ => ("java/util/ArrayList", "size", "I", false)
def ft_A : Nat → FieldType := fun k => match k with
  | 0 => .int
  | 1 => .array (.object "java/lang/Object")
  | _ => .int
def cls : List vw_C := [("MovieBoxes", fd_X, 13), ("MovieBoxes$Holder", fd_H, 13), ("MovieBoxes$Leaf", fd_L, 11), ("MovieBoxes$Table", fd_T, 12), ("MovieBoxes$PlaceTable", fd_P, 14), ("MovieBoxes$SizeTable", fd_S, 12), ("MovieBoxes$Track", fd_K, 1), ("MovieBoxesModel", fd_M, 21), ("java/util/ArrayList", fd_A, 3)]
def tyC : Nat → Nat → FieldType := fun c => match c with
  | 0 => ft_X
  | 1 => ft_H
  | 2 => ft_L
  | 3 => ft_T
  | 4 => ft_P
  | 5 => ft_S
  | 6 => ft_K
  | 7 => ft_M
  | _ => ft_A
/-- the words that every method's contract carries -/
def gt : List Cond := lw_tbl.filter goodWord
theorem gt_of {w : Cond} (h : w ∈ lw_tbl) (hg : goodWord w = true) : w ∈ gt := List.mem_filter.mpr ⟨h, hg⟩
theorem gt_tbl {w : Cond} (h : w ∈ gt) : w ∈ lw_tbl := (List.mem_filter.mp h).1
theorem gt_good {w : Cond} (h : w ∈ gt) : (w.onTables && w.keeps) = true ∨ ∃ ty, w = .arrayClass ty := good_of_word (List.mem_filter.mp h).2
theorem nm_X : ∀ a, a < 13 → ∀ b, b < 13 → a ≠ b → (fd_X a).2.1 ≠ (fd_X b).2.1 := by decide +kernel
theorem tk_X : ∀ k, k < 13 → parseFieldDescriptor (fd_X k).2.2.1 = some (ft_X k) := by decide +kernel
theorem iw_X : ∀ w ∈ u_ws "MovieBoxes" fd_X 13, w ∈ gt := by decide +kernel
theorem nm_H : ∀ a, a < 13 → ∀ b, b < 13 → a ≠ b → (fd_H a).2.1 ≠ (fd_H b).2.1 := by decide +kernel
theorem tk_H : ∀ k, k < 13 → parseFieldDescriptor (fd_H k).2.2.1 = some (ft_H k) := by decide +kernel
theorem iw_H : ∀ w ∈ u_ws "MovieBoxes$Holder" fd_H 13, w ∈ gt := by decide +kernel
theorem nm_L : ∀ a, a < 11 → ∀ b, b < 11 → a ≠ b → (fd_L a).2.1 ≠ (fd_L b).2.1 := by decide +kernel
theorem tk_L : ∀ k, k < 11 → parseFieldDescriptor (fd_L k).2.2.1 = some (ft_L k) := by decide +kernel
theorem iw_L : ∀ w ∈ u_ws "MovieBoxes$Leaf" fd_L 11, w ∈ gt := by decide +kernel
theorem nm_T : ∀ a, a < 12 → ∀ b, b < 12 → a ≠ b → (fd_T a).2.1 ≠ (fd_T b).2.1 := by decide +kernel
theorem tk_T : ∀ k, k < 12 → parseFieldDescriptor (fd_T k).2.2.1 = some (ft_T k) := by decide +kernel
theorem iw_T : ∀ w ∈ u_ws "MovieBoxes$Table" fd_T 12, w ∈ gt := by decide +kernel
theorem nm_P : ∀ a, a < 14 → ∀ b, b < 14 → a ≠ b → (fd_P a).2.1 ≠ (fd_P b).2.1 := by decide +kernel
theorem tk_P : ∀ k, k < 14 → parseFieldDescriptor (fd_P k).2.2.1 = some (ft_P k) := by decide +kernel
theorem iw_P : ∀ w ∈ u_ws "MovieBoxes$PlaceTable" fd_P 14, w ∈ gt := by decide +kernel
theorem nm_S : ∀ a, a < 12 → ∀ b, b < 12 → a ≠ b → (fd_S a).2.1 ≠ (fd_S b).2.1 := by decide +kernel
theorem tk_S : ∀ k, k < 12 → parseFieldDescriptor (fd_S k).2.2.1 = some (ft_S k) := by decide +kernel
theorem iw_S : ∀ w ∈ u_ws "MovieBoxes$SizeTable" fd_S 12, w ∈ gt := by decide +kernel
theorem nm_K : ∀ a, a < 1 → ∀ b, b < 1 → a ≠ b → (fd_K a).2.1 ≠ (fd_K b).2.1 := by decide +kernel
theorem tk_K : ∀ k, k < 1 → parseFieldDescriptor (fd_K k).2.2.1 = some (ft_K k) := by decide +kernel
theorem iw_K : ∀ w ∈ u_ws "MovieBoxes$Track" fd_K 1, w ∈ gt := by decide +kernel
theorem nm_M : ∀ a, a < 21 → ∀ b, b < 21 → a ≠ b → (fd_M a).2.1 ≠ (fd_M b).2.1 := by decide +kernel
theorem tk_M : ∀ k, k < 21 → parseFieldDescriptor (fd_M k).2.2.1 = some (ft_M k) := by decide +kernel
theorem iw_M : ∀ w ∈ u_ws "MovieBoxesModel" fd_M 21, w ∈ gt := by decide +kernel
theorem nm_A : ∀ a, a < 3 → ∀ b, b < 3 → a ≠ b → (fd_A a).2.1 ≠ (fd_A b).2.1 := by decide +kernel
theorem tk_A : ∀ k, k < 3 → parseFieldDescriptor (fd_A k).2.2.1 = some (ft_A k) := by decide +kernel
theorem iw_A : ∀ w ∈ u_ws "java/util/ArrayList" fd_A 3, w ∈ gt := by decide +kernel
/-- what holds of every class in the list -/
theorem cls_ok {ci : Nat} {C : String} {T : u_T} {N : Nat} (h : cls[ci]? = some (C, T, N)) : (∀ w ∈ u_ws C T N, w ∈ gt) ∧ (∀ k, k < N → parseFieldDescriptor (T k).2.2.1 = some (tyC ci k)) ∧ (∀ a, a < N → ∀ b, b < N → a ≠ b → (T a).2.1 ≠ (T b).2.1) := by
  match ci, h with
  | 0, h => cases h; exact ⟨iw_X, tk_X, nm_X⟩
  | 1, h => cases h; exact ⟨iw_H, tk_H, nm_H⟩
  | 2, h => cases h; exact ⟨iw_L, tk_L, nm_L⟩
  | 3, h => cases h; exact ⟨iw_T, tk_T, nm_T⟩
  | 4, h => cases h; exact ⟨iw_P, tk_P, nm_P⟩
  | 5, h => cases h; exact ⟨iw_S, tk_S, nm_S⟩
  | 6, h => cases h; exact ⟨iw_K, tk_K, nm_K⟩
  | 7, h => cases h; exact ⟨iw_M, tk_M, nm_M⟩
  | 8, h => cases h; exact ⟨iw_A, tk_A, nm_A⟩
  | k + 9, h => simp [cls] at h
